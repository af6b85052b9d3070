section
-- ===== PART A: goes FIRST, ahead of the names: the tables' words, and 'selects' of the private methods out of them =====
/-- a private method of a class that the tables say can be made, by its rows of tables_1 -/
def lw_okq (q : MethodName × Nat) : Prop := (q.1.cls ≠ "java/lang/invoke/MethodHandle" ∧ q.1.cls ≠ "java/lang/invoke/VarHandle") ∧ Cond.instantiable q.1.cls q.2 ∈ tables_1 ∧ Cond.privateMethod q.1 ∈ tables_1 ∧ Cond.instanceMethod q.1 ∈ tables_1
theorem lw_p0 : lw_okq (⟨"FloorQueue", "isItem", "(I)Z"⟩, 21) := ⟨⟨by decide +kernel, by decide +kernel⟩, List.mem_of_getElem? (i := 4) (by decide +kernel), List.mem_of_getElem? (i := 84) (by decide +kernel), List.mem_of_getElem? (i := 85) (by decide +kernel)⟩
theorem lw_p1 : lw_okq (⟨"FloorQueue", "bucketFor", "(I)I"⟩, 21) := ⟨⟨by decide +kernel, by decide +kernel⟩, List.mem_of_getElem? (i := 4) (by decide +kernel), List.mem_of_getElem? (i := 91) (by decide +kernel), List.mem_of_getElem? (i := 92) (by decide +kernel)⟩
theorem lw_p2 : lw_okq (⟨"FloorQueue", "link", "(II)V"⟩, 21) := ⟨⟨by decide +kernel, by decide +kernel⟩, List.mem_of_getElem? (i := 4) (by decide +kernel), List.mem_of_getElem? (i := 95) (by decide +kernel), List.mem_of_getElem? (i := 96) (by decide +kernel)⟩
theorem lw_p3 : lw_okq (⟨"FloorQueue", "isThere", "(I)Z"⟩, 21) := ⟨⟨by decide +kernel, by decide +kernel⟩, List.mem_of_getElem? (i := 4) (by decide +kernel), List.mem_of_getElem? (i := 103) (by decide +kernel), List.mem_of_getElem? (i := 104) (by decide +kernel)⟩
theorem lw_p4 : lw_okq (⟨"FloorQueue", "unlink", "(I)V"⟩, 21) := ⟨⟨by decide +kernel, by decide +kernel⟩, List.mem_of_getElem? (i := 4) (by decide +kernel), List.mem_of_getElem? (i := 107) (by decide +kernel), List.mem_of_getElem? (i := 108) (by decide +kernel)⟩
theorem lw_p5 : lw_okq (⟨"FloorQueue", "leastOf", "(I)I"⟩, 21) := ⟨⟨by decide +kernel, by decide +kernel⟩, List.mem_of_getElem? (i := 4) (by decide +kernel), List.mem_of_getElem? (i := 115) (by decide +kernel), List.mem_of_getElem? (i := 116) (by decide +kernel)⟩
theorem lw_p6 : lw_okq (⟨"FloorQueue", "layAnew", "(II)V"⟩, 21) := ⟨⟨by decide +kernel, by decide +kernel⟩, List.mem_of_getElem? (i := 4) (by decide +kernel), List.mem_of_getElem? (i := 119) (by decide +kernel), List.mem_of_getElem? (i := 120) (by decide +kernel)⟩
theorem lw_p7 : lw_okq (⟨"FloorQueue", "clear", "()V"⟩, 21) := ⟨⟨by decide +kernel, by decide +kernel⟩, List.mem_of_getElem? (i := 4) (by decide +kernel), List.mem_of_getElem? (i := 131) (by decide +kernel), List.mem_of_getElem? (i := 132) (by decide +kernel)⟩
theorem lw_p8 : lw_okq (⟨"FloorQueue", "follow", "(II)V"⟩, 21) := ⟨⟨by decide +kernel, by decide +kernel⟩, List.mem_of_getElem? (i := 4) (by decide +kernel), List.mem_of_getElem? (i := 137) (by decide +kernel), List.mem_of_getElem? (i := 138) (by decide +kernel)⟩
theorem lw_p9 : lw_okq (⟨"FloorQueue", "isOver", "()Z"⟩, 21) := ⟨⟨by decide +kernel, by decide +kernel⟩, List.mem_of_getElem? (i := 4) (by decide +kernel), List.mem_of_getElem? (i := 142) (by decide +kernel), List.mem_of_getElem? (i := 143) (by decide +kernel)⟩
theorem lw_p10 : lw_okq (⟨"FloorQueueModel", "clear", "()V"⟩, 16) := ⟨⟨by decide +kernel, by decide +kernel⟩, List.mem_of_getElem? (i := 190) (by decide +kernel), List.mem_of_getElem? (i := 196) (by decide +kernel), List.mem_of_getElem? (i := 197) (by decide +kernel)⟩
theorem lw_p11 : lw_okq (⟨"FloorQueueModel", "isItem", "(I)Z"⟩, 16) := ⟨⟨by decide +kernel, by decide +kernel⟩, List.mem_of_getElem? (i := 190) (by decide +kernel), List.mem_of_getElem? (i := 254) (by decide +kernel), List.mem_of_getElem? (i := 255) (by decide +kernel)⟩
theorem lw_p12 : lw_okq (⟨"FloorQueueModel", "isThere", "(I)Z"⟩, 16) := ⟨⟨by decide +kernel, by decide +kernel⟩, List.mem_of_getElem? (i := 190) (by decide +kernel), List.mem_of_getElem? (i := 262) (by decide +kernel), List.mem_of_getElem? (i := 263) (by decide +kernel)⟩
theorem lw_p13 : lw_okq (⟨"FloorQueueModel", "reach", "(III)V"⟩, 16) := ⟨⟨by decide +kernel, by decide +kernel⟩, List.mem_of_getElem? (i := 190) (by decide +kernel), List.mem_of_getElem? (i := 309) (by decide +kernel), List.mem_of_getElem? (i := 310) (by decide +kernel)⟩
theorem lw_p14 : lw_okq (⟨"FloorQueueModel", "spread", "(I)V"⟩, 16) := ⟨⟨by decide +kernel, by decide +kernel⟩, List.mem_of_getElem? (i := 190) (by decide +kernel), List.mem_of_getElem? (i := 315) (by decide +kernel), List.mem_of_getElem? (i := 316) (by decide +kernel)⟩
def lw_privs_1 : List (MethodName × Nat) := [(⟨"FloorQueue", "isItem", "(I)Z"⟩, 21), (⟨"FloorQueue", "bucketFor", "(I)I"⟩, 21), (⟨"FloorQueue", "link", "(II)V"⟩, 21), (⟨"FloorQueue", "isThere", "(I)Z"⟩, 21), (⟨"FloorQueue", "unlink", "(I)V"⟩, 21), (⟨"FloorQueue", "leastOf", "(I)I"⟩, 21), (⟨"FloorQueue", "layAnew", "(II)V"⟩, 21), (⟨"FloorQueue", "clear", "()V"⟩, 21), (⟨"FloorQueue", "follow", "(II)V"⟩, 21), (⟨"FloorQueue", "isOver", "()Z"⟩, 21), (⟨"FloorQueueModel", "clear", "()V"⟩, 16), (⟨"FloorQueueModel", "isItem", "(I)Z"⟩, 16), (⟨"FloorQueueModel", "isThere", "(I)Z"⟩, 16), (⟨"FloorQueueModel", "reach", "(III)V"⟩, 16), (⟨"FloorQueueModel", "spread", "(I)V"⟩, 16)]
theorem lw_r1 : ∀ q ∈ lw_privs_1, lw_okq q := List.forall_mem_cons.mpr ⟨lw_p0, List.forall_mem_cons.mpr ⟨lw_p1, List.forall_mem_cons.mpr ⟨lw_p2, List.forall_mem_cons.mpr ⟨lw_p3, List.forall_mem_cons.mpr ⟨lw_p4, List.forall_mem_cons.mpr ⟨lw_p5, List.forall_mem_cons.mpr ⟨lw_p6, List.forall_mem_cons.mpr ⟨lw_p7, List.forall_mem_cons.mpr ⟨lw_p8, List.forall_mem_cons.mpr ⟨lw_p9, List.forall_mem_cons.mpr ⟨lw_p10, List.forall_mem_cons.mpr ⟨lw_p11, List.forall_mem_cons.mpr ⟨lw_p12, List.forall_mem_cons.mpr ⟨lw_p13, List.forall_mem_cons.mpr ⟨lw_p14, fun _ h => absurd h List.not_mem_nil⟩⟩⟩⟩⟩⟩⟩⟩⟩⟩⟩⟩⟩⟩⟩
def lw_privs : List (MethodName × Nat) := lw_privs_1
def lw_tbl : List Cond := k2_sels lw_privs ++ tables_1
theorem lw_privs_ok : ∀ q ∈ lw_privs, lw_okq q := lw_r1
-- ===== names =====
def R_law : String := "FloorQueueLaw"
def R_Q : String := "FloorQueue"
def R_M : String := "FloorQueueModel"
def F_Q : u_T := fun k => match k with
  | 0 => ("FloorQueue", "n", "I", true)
  | 1 => ("FloorQueue", "most", "I", true)
  | 2 => ("FloorQueue", "longest", "I", true)
  | 3 => ("FloorQueue", "first", "[I", true)
  | 4 => ("FloorQueue", "counts", "[I", true)
  | 5 => ("FloorQueue", "next", "[I", true)
  | 6 => ("FloorQueue", "before", "[I", true)
  | 7 => ("FloorQueue", "keys", "[I", true)
  | 8 => ("FloorQueue", "where", "[I", true)
  | 9 => ("FloorQueue", "floor", "I", false)
  | 10 => ("FloorQueue", "size", "I", false)
  | 11 => ("FloorQueue", "placed", "I", false)
  | 12 => ("FloorQueue", "calls", "I", false)
  | 13 => ("FloorQueue", "heads", "[I", true)
  | 14 => ("FloorQueue", "arcNext", "[I", true)
  | 15 => ("FloorQueue", "arcTo", "[I", true)
  | 16 => ("FloorQueue", "lengths", "[I", true)
  | 17 => ("FloorQueue", "arcs", "I", false)
  | 18 => ("FloorQueue", "distances", "[I", true)
  | 19 => ("FloorQueue", "parents", "[I", true)
  | _ => ("FloorQueue", "has", "Z", false)
def t_Q : Nat → FieldType := fun k => match k with
  | 0 => .int
  | 1 => .int
  | 2 => .int
  | 3 => .array .int
  | 4 => .array .int
  | 5 => .array .int
  | 6 => .array .int
  | 7 => .array .int
  | 8 => .array .int
  | 9 => .int
  | 10 => .int
  | 11 => .int
  | 12 => .int
  | 13 => .array .int
  | 14 => .array .int
  | 15 => .array .int
  | 16 => .array .int
  | 17 => .int
  | 18 => .array .int
  | 19 => .array .int
  | _ => .boolean
abbrev w_Q : List Cond := u_ws R_Q F_Q 21
def F_M : u_T := fun k => match k with
  | 0 => ("FloorQueueModel", "items", "I", true)
  | 1 => ("FloorQueueModel", "mostArcs", "I", true)
  | 2 => ("FloorQueueModel", "mostLength", "I", true)
  | 3 => ("FloorQueueModel", "keys", "[I", true)
  | 4 => ("FloorQueueModel", "lowest", "I", false)
  | 5 => ("FloorQueueModel", "placings", "I", false)
  | 6 => ("FloorQueueModel", "calls", "I", false)
  | 7 => ("FloorQueueModel", "arcs", "I", false)
  | 8 => ("FloorQueueModel", "froms", "[I", true)
  | 9 => ("FloorQueueModel", "tos", "[I", true)
  | 10 => ("FloorQueueModel", "lengths", "[I", true)
  | 11 => ("FloorQueueModel", "hasWays", "Z", false)
  | 12 => ("FloorQueueModel", "ways", "[I", true)
  | 13 => ("FloorQueueModel", "formers", "[I", true)
  | 14 => ("FloorQueueModel", "taken", "[Z", true)
  | _ => ("FloorQueueModel", "near", "[Z", true)
def t_M : Nat → FieldType := fun k => match k with
  | 0 => .int
  | 1 => .int
  | 2 => .int
  | 3 => .array .int
  | 4 => .int
  | 5 => .int
  | 6 => .int
  | 7 => .int
  | 8 => .array .int
  | 9 => .array .int
  | 10 => .array .int
  | 11 => .boolean
  | 12 => .array .int
  | 13 => .array .int
  | 14 => .array .boolean
  | _ => .array .boolean
abbrev w_M : List Cond := u_ws R_M F_M 16
def fq_tb : List Cond := lw_tbl.filter goodWord
theorem fq_m {w : Cond} (h : w ∈ lw_tbl) (hg : goodWord w = true) : w ∈ fq_tb := List.mem_filter.mpr ⟨h, hg⟩
theorem fq_good : GoodIn fq_tb fq_tb := fun w hw => ⟨hw, good_of_word (List.mem_filter.mp hw).2⟩
theorem fq_sub {w : Cond} (h : w ∈ fq_tb) : w ∈ lw_tbl := (List.mem_filter.mp h).1
abbrev classes : List vw_C := [(R_Q, F_Q, 21), (R_M, F_M, 16)]
abbrev b_Q_bring : ByteArray := prog_1_method_1_code
def y_Q_bring : MethodName := ⟨R_Q, "bring", "(III)I"⟩
abbrev b_Q_within : ByteArray := prog_1_method_2_code
def y_Q_within : MethodName := ⟨R_Q, "within", "(III)Z"⟩
abbrev b_Q_init : ByteArray := prog_1_method_3_code
def y_Q_init : MethodName := ⟨R_Q, "<init>", "(III)V"⟩
abbrev b_Q_isItem : ByteArray := prog_1_method_4_code
def y_Q_isItem : MethodName := ⟨R_Q, "isItem", "(I)Z"⟩
abbrev b_Q_isThere : ByteArray := prog_1_method_5_code
def y_Q_isThere : MethodName := ⟨R_Q, "isThere", "(I)Z"⟩
abbrev b_Q_bucketFor : ByteArray := prog_1_method_6_code
def y_Q_bucketFor : MethodName := ⟨R_Q, "bucketFor", "(I)I"⟩
abbrev b_Q_link : ByteArray := prog_1_method_7_code
def y_Q_link : MethodName := ⟨R_Q, "link", "(II)V"⟩
abbrev b_Q_unlink : ByteArray := prog_1_method_8_code
def y_Q_unlink : MethodName := ⟨R_Q, "unlink", "(I)V"⟩
abbrev b_Q_push : ByteArray := prog_1_method_9_code
def y_Q_push : MethodName := ⟨R_Q, "push", "(II)I"⟩
abbrev b_Q_lower : ByteArray := prog_1_method_10_code
def y_Q_lower : MethodName := ⟨R_Q, "lower", "(II)I"⟩
abbrev b_Q_leastOf : ByteArray := prog_1_method_11_code
def y_Q_leastOf : MethodName := ⟨R_Q, "leastOf", "(I)I"⟩
abbrev b_Q_layAnew : ByteArray := prog_1_method_12_code
def y_Q_layAnew : MethodName := ⟨R_Q, "layAnew", "(II)V"⟩
abbrev b_Q_pop : ByteArray := prog_1_method_13_code
def y_Q_pop : MethodName := ⟨R_Q, "pop", "()I"⟩
abbrev b_Q_arc : ByteArray := prog_1_method_14_code
def y_Q_arc : MethodName := ⟨R_Q, "arc", "(III)I"⟩
abbrev b_Q_clear : ByteArray := prog_1_method_15_code
def y_Q_clear : MethodName := ⟨R_Q, "clear", "()V"⟩
abbrev b_Q_follow : ByteArray := prog_1_method_16_code
def y_Q_follow : MethodName := ⟨R_Q, "follow", "(II)V"⟩
abbrev b_Q_run : ByteArray := prog_1_method_17_code
def y_Q_run : MethodName := ⟨R_Q, "run", "(I)I"⟩
abbrev b_Q_isOver : ByteArray := prog_1_method_18_code
def y_Q_isOver : MethodName := ⟨R_Q, "isOver", "()Z"⟩
abbrev b_Q_distance : ByteArray := prog_1_method_19_code
def y_Q_distance : MethodName := ⟨R_Q, "distance", "(I)I"⟩
abbrev b_Q_before : ByteArray := prog_1_method_20_code
def y_Q_before : MethodName := ⟨R_Q, "before", "(I)I"⟩
abbrev b_Q_floor : ByteArray := prog_1_method_21_code
def y_Q_floor : MethodName := ⟨R_Q, "floor", "()I"⟩
abbrev b_Q_size : ByteArray := prog_1_method_22_code
def y_Q_size : MethodName := ⟨R_Q, "size", "()I"⟩
abbrev b_Q_key : ByteArray := prog_1_method_23_code
def y_Q_key : MethodName := ⟨R_Q, "key", "(I)I"⟩
abbrev b_Q_bucket : ByteArray := prog_1_method_24_code
def y_Q_bucket : MethodName := ⟨R_Q, "bucket", "(I)I"⟩
abbrev b_Q_many : ByteArray := prog_1_method_25_code
def y_Q_many : MethodName := ⟨R_Q, "many", "(I)I"⟩
abbrev b_Q_placed : ByteArray := prog_1_method_26_code
def y_Q_placed : MethodName := ⟨R_Q, "placed", "()I"⟩
abbrev b_Q_sound : ByteArray := prog_1_method_27_code
def y_Q_sound : MethodName := ⟨R_Q, "sound", "()Z"⟩
abbrev b_Q_count : ByteArray := prog_1_method_28_code
def y_Q_count : MethodName := ⟨R_Q, "count", "(I)I"⟩
abbrev b_M_init : ByteArray := prog_3_method_1_code
def y_M_init : MethodName := ⟨R_M, "<init>", "(III)V"⟩
abbrev b_M_clear : ByteArray := prog_3_method_3_code
def y_M_clear : MethodName := ⟨R_M, "clear", "()V"⟩
abbrev b_M_isItem : ByteArray := prog_3_method_4_code
def y_M_isItem : MethodName := ⟨R_M, "isItem", "(I)Z"⟩
abbrev b_M_isThere : ByteArray := prog_3_method_5_code
def y_M_isThere : MethodName := ⟨R_M, "isThere", "(I)Z"⟩
abbrev b_M_unlike : ByteArray := prog_3_method_6_code
def y_M_unlike : MethodName := ⟨R_M, "unlike", "(II)I"⟩
abbrev b_M_push : ByteArray := prog_3_method_7_code
def y_M_push : MethodName := ⟨R_M, "push", "(II)I"⟩
abbrev b_M_lower : ByteArray := prog_3_method_8_code
def y_M_lower : MethodName := ⟨R_M, "lower", "(II)I"⟩
abbrev b_M_pop : ByteArray := prog_3_method_9_code
def y_M_pop : MethodName := ⟨R_M, "pop", "()I"⟩
abbrev b_M_floor : ByteArray := prog_3_method_10_code
def y_M_floor : MethodName := ⟨R_M, "floor", "()I"⟩
abbrev b_M_size : ByteArray := prog_3_method_11_code
def y_M_size : MethodName := ⟨R_M, "size", "()I"⟩
abbrev b_M_key : ByteArray := prog_3_method_12_code
def y_M_key : MethodName := ⟨R_M, "key", "(I)I"⟩
abbrev b_M_bucket : ByteArray := prog_3_method_13_code
def y_M_bucket : MethodName := ⟨R_M, "bucket", "(I)I"⟩
abbrev b_M_many : ByteArray := prog_3_method_14_code
def y_M_many : MethodName := ⟨R_M, "many", "(I)I"⟩
abbrev b_M_placed : ByteArray := prog_3_method_15_code
def y_M_placed : MethodName := ⟨R_M, "placed", "()I"⟩
abbrev b_M_arc : ByteArray := prog_3_method_16_code
def y_M_arc : MethodName := ⟨R_M, "arc", "(III)I"⟩
abbrev b_M_reach : ByteArray := prog_3_method_17_code
def y_M_reach : MethodName := ⟨R_M, "reach", "(III)V"⟩
abbrev b_M_spread : ByteArray := prog_3_method_18_code
def y_M_spread : MethodName := ⟨R_M, "spread", "(I)V"⟩
abbrev b_M_run : ByteArray := prog_3_method_19_code
def y_M_run : MethodName := ⟨R_M, "run", "(I)I"⟩
abbrev b_M_distance : ByteArray := prog_3_method_20_code
def y_M_distance : MethodName := ⟨R_M, "distance", "(I)I"⟩
abbrev b_M_before : ByteArray := prog_3_method_21_code
def y_M_before : MethodName := ⟨R_M, "before", "(I)I"⟩
abbrev b_M_sound : ByteArray := prog_3_method_22_code
def y_M_sound : MethodName := ⟨R_M, "sound", "()Z"⟩
abbrev b_M_count : ByteArray := prog_3_method_23_code
def y_M_count : MethodName := ⟨R_M, "count", "(I)I"⟩
abbrev b_L_cell : ByteArray := method_2_code
def y_L_cell : MethodName := ⟨R_law, "cell", "([II)I"⟩
theorem n_Q : ∀ a, a < 21 → ∀ b, b < 21 → a ≠ b → (F_Q a).2.1 ≠ (F_Q b).2.1 := by decide +kernel
theorem t_Q_ok : ∀ k, k < 21 → parseFieldDescriptor (F_Q k).2.2.1 = some (t_Q k) := by decide +kernel
theorem i_Q : ∀ w ∈ w_Q, w ∈ fq_tb := by decide +kernel
theorem n_M : ∀ a, a < 16 → ∀ b, b < 16 → a ≠ b → (F_M a).2.1 ≠ (F_M b).2.1 := by decide +kernel
theorem t_M_ok : ∀ k, k < 16 → parseFieldDescriptor (F_M k).2.2.1 = some (t_M k) := by decide +kernel
theorem i_M : ∀ w ∈ w_M, w ∈ fq_tb := by decide +kernel
theorem fl_Q_n : Cond.fieldLink R_Q 41 "FloorQueue" "n" "I" ∈ fq_tb := fq_m (List.mem_append_right _ (List.mem_of_getElem? (i := 14) (by decide +kernel))) (by decide)
theorem fl_Q_most : Cond.fieldLink R_Q 45 "FloorQueue" "most" "I" ∈ fq_tb := fq_m (List.mem_append_right _ (List.mem_of_getElem? (i := 15) (by decide +kernel))) (by decide)
theorem fl_Q_longest : Cond.fieldLink R_Q 48 "FloorQueue" "longest" "I" ∈ fq_tb := fq_m (List.mem_append_right _ (List.mem_of_getElem? (i := 16) (by decide +kernel))) (by decide)
theorem fl_Q_first : Cond.fieldLink R_Q 7 "FloorQueue" "first" "[I" ∈ fq_tb := fq_m (List.mem_append_right _ (List.mem_of_getElem? (i := 17) (by decide +kernel))) (by decide)
theorem fl_Q_counts : Cond.fieldLink R_Q 13 "FloorQueue" "counts" "[I" ∈ fq_tb := fq_m (List.mem_append_right _ (List.mem_of_getElem? (i := 18) (by decide +kernel))) (by decide)
theorem fl_Q_next : Cond.fieldLink R_Q 16 "FloorQueue" "next" "[I" ∈ fq_tb := fq_m (List.mem_append_right _ (List.mem_of_getElem? (i := 19) (by decide +kernel))) (by decide)
theorem fl_Q_before : Cond.fieldLink R_Q 19 "FloorQueue" "before" "[I" ∈ fq_tb := fq_m (List.mem_append_right _ (List.mem_of_getElem? (i := 20) (by decide +kernel))) (by decide)
theorem fl_Q_keys : Cond.fieldLink R_Q 22 "FloorQueue" "keys" "[I" ∈ fq_tb := fq_m (List.mem_append_right _ (List.mem_of_getElem? (i := 21) (by decide +kernel))) (by decide)
theorem fl_Q_where : Cond.fieldLink R_Q 25 "FloorQueue" "where" "[I" ∈ fq_tb := fq_m (List.mem_append_right _ (List.mem_of_getElem? (i := 22) (by decide +kernel))) (by decide)
theorem fl_Q_floor : Cond.fieldLink R_Q 68 "FloorQueue" "floor" "I" ∈ fq_tb := fq_m (List.mem_append_right _ (List.mem_of_getElem? (i := 23) (by decide +kernel))) (by decide)
theorem fl_Q_size : Cond.fieldLink R_Q 82 "FloorQueue" "size" "I" ∈ fq_tb := fq_m (List.mem_append_right _ (List.mem_of_getElem? (i := 24) (by decide +kernel))) (by decide)
theorem fl_Q_placed : Cond.fieldLink R_Q 71 "FloorQueue" "placed" "I" ∈ fq_tb := fq_m (List.mem_append_right _ (List.mem_of_getElem? (i := 25) (by decide +kernel))) (by decide)
theorem fl_Q_calls : Cond.fieldLink R_Q 85 "FloorQueue" "calls" "I" ∈ fq_tb := fq_m (List.mem_append_right _ (List.mem_of_getElem? (i := 26) (by decide +kernel))) (by decide)
theorem fl_Q_heads : Cond.fieldLink R_Q 28 "FloorQueue" "heads" "[I" ∈ fq_tb := fq_m (List.mem_append_right _ (List.mem_of_getElem? (i := 27) (by decide +kernel))) (by decide)
theorem fl_Q_arcNext : Cond.fieldLink R_Q 51 "FloorQueue" "arcNext" "[I" ∈ fq_tb := fq_m (List.mem_append_right _ (List.mem_of_getElem? (i := 28) (by decide +kernel))) (by decide)
theorem fl_Q_arcTo : Cond.fieldLink R_Q 54 "FloorQueue" "arcTo" "[I" ∈ fq_tb := fq_m (List.mem_append_right _ (List.mem_of_getElem? (i := 29) (by decide +kernel))) (by decide)
theorem fl_Q_lengths : Cond.fieldLink R_Q 57 "FloorQueue" "lengths" "[I" ∈ fq_tb := fq_m (List.mem_append_right _ (List.mem_of_getElem? (i := 30) (by decide +kernel))) (by decide)
theorem fl_Q_arcs : Cond.fieldLink R_Q 101 "FloorQueue" "arcs" "I" ∈ fq_tb := fq_m (List.mem_append_right _ (List.mem_of_getElem? (i := 31) (by decide +kernel))) (by decide)
theorem fl_Q_distances : Cond.fieldLink R_Q 31 "FloorQueue" "distances" "[I" ∈ fq_tb := fq_m (List.mem_append_right _ (List.mem_of_getElem? (i := 32) (by decide +kernel))) (by decide)
theorem fl_Q_parents : Cond.fieldLink R_Q 34 "FloorQueue" "parents" "[I" ∈ fq_tb := fq_m (List.mem_append_right _ (List.mem_of_getElem? (i := 33) (by decide +kernel))) (by decide)
theorem fl_Q_has : Cond.fieldLink R_Q 104 "FloorQueue" "has" "Z" ∈ fq_tb := fq_m (List.mem_append_right _ (List.mem_of_getElem? (i := 34) (by decide +kernel))) (by decide)
theorem fl_M_items : Cond.fieldLink R_M 35 "FloorQueueModel" "items" "I" ∈ fq_tb := fq_m (List.mem_append_right _ (List.mem_of_getElem? (i := 199) (by decide +kernel))) (by decide)
theorem fl_M_mostArcs : Cond.fieldLink R_M 39 "FloorQueueModel" "mostArcs" "I" ∈ fq_tb := fq_m (List.mem_append_right _ (List.mem_of_getElem? (i := 200) (by decide +kernel))) (by decide)
theorem fl_M_mostLength : Cond.fieldLink R_M 42 "FloorQueueModel" "mostLength" "I" ∈ fq_tb := fq_m (List.mem_append_right _ (List.mem_of_getElem? (i := 201) (by decide +kernel))) (by decide)
theorem fl_M_keys : Cond.fieldLink R_M 7 "FloorQueueModel" "keys" "[I" ∈ fq_tb := fq_m (List.mem_append_right _ (List.mem_of_getElem? (i := 202) (by decide +kernel))) (by decide)
theorem fl_M_lowest : Cond.fieldLink R_M 48 "FloorQueueModel" "lowest" "I" ∈ fq_tb := fq_m (List.mem_append_right _ (List.mem_of_getElem? (i := 203) (by decide +kernel))) (by decide)
theorem fl_M_placings : Cond.fieldLink R_M 55 "FloorQueueModel" "placings" "I" ∈ fq_tb := fq_m (List.mem_append_right _ (List.mem_of_getElem? (i := 204) (by decide +kernel))) (by decide)
theorem fl_M_calls : Cond.fieldLink R_M 58 "FloorQueueModel" "calls" "I" ∈ fq_tb := fq_m (List.mem_append_right _ (List.mem_of_getElem? (i := 205) (by decide +kernel))) (by decide)
theorem fl_M_arcs : Cond.fieldLink R_M 68 "FloorQueueModel" "arcs" "I" ∈ fq_tb := fq_m (List.mem_append_right _ (List.mem_of_getElem? (i := 206) (by decide +kernel))) (by decide)
theorem fl_M_froms : Cond.fieldLink R_M 13 "FloorQueueModel" "froms" "[I" ∈ fq_tb := fq_m (List.mem_append_right _ (List.mem_of_getElem? (i := 207) (by decide +kernel))) (by decide)
theorem fl_M_tos : Cond.fieldLink R_M 16 "FloorQueueModel" "tos" "[I" ∈ fq_tb := fq_m (List.mem_append_right _ (List.mem_of_getElem? (i := 208) (by decide +kernel))) (by decide)
theorem fl_M_lengths : Cond.fieldLink R_M 19 "FloorQueueModel" "lengths" "[I" ∈ fq_tb := fq_m (List.mem_append_right _ (List.mem_of_getElem? (i := 209) (by decide +kernel))) (by decide)
theorem fl_M_hasWays : Cond.fieldLink R_M 71 "FloorQueueModel" "hasWays" "Z" ∈ fq_tb := fq_m (List.mem_append_right _ (List.mem_of_getElem? (i := 210) (by decide +kernel))) (by decide)
theorem fl_M_ways : Cond.fieldLink R_M 22 "FloorQueueModel" "ways" "[I" ∈ fq_tb := fq_m (List.mem_append_right _ (List.mem_of_getElem? (i := 211) (by decide +kernel))) (by decide)
theorem fl_M_formers : Cond.fieldLink R_M 25 "FloorQueueModel" "formers" "[I" ∈ fq_tb := fq_m (List.mem_append_right _ (List.mem_of_getElem? (i := 212) (by decide +kernel))) (by decide)
theorem fl_M_taken : Cond.fieldLink R_M 28 "FloorQueueModel" "taken" "[Z" ∈ fq_tb := fq_m (List.mem_append_right _ (List.mem_of_getElem? (i := 213) (by decide +kernel))) (by decide)
theorem fl_M_near : Cond.fieldLink R_M 32 "FloorQueueModel" "near" "[Z" ∈ fq_tb := fq_m (List.mem_append_right _ (List.mem_of_getElem? (i := 214) (by decide +kernel))) (by decide)
theorem fi_law : Cond.initialized R_law ∈ fq_tb := fq_m (List.mem_append_right _ (List.mem_of_getElem? (i := 0) (by decide +kernel))) (by decide)
theorem fi_Q : Cond.initialized R_Q ∈ fq_tb := fq_m (List.mem_append_right _ (List.mem_of_getElem? (i := 1) (by decide +kernel))) (by decide)
theorem fi_M : Cond.initialized R_M ∈ fq_tb := fq_m (List.mem_append_right _ (List.mem_of_getElem? (i := 2) (by decide +kernel))) (by decide)
theorem fa_int : Cond.arrayClass .int ∈ fq_tb := fq_m (List.mem_append_right _ (List.mem_of_getElem? (i := 78) (by decide +kernel))) (by decide)
theorem fa_boolean : Cond.arrayClass .boolean ∈ fq_tb := fq_m (List.mem_append_right _ (List.mem_of_getElem? (i := 248) (by decide +kernel))) (by decide)
theorem fk_Q : Cond.classLink R_law 7 R_Q ∈ fq_tb := fq_m (List.mem_append_right _ (List.mem_of_getElem? (i := 3) (by decide +kernel))) (by decide)
theorem fn_Q : Cond.instantiable R_Q 21 ∈ fq_tb := fq_m (List.mem_append_right _ (List.mem_of_getElem? (i := 4) (by decide +kernel))) (by decide)
theorem fk_M : Cond.classLink R_law 18 R_M ∈ fq_tb := fq_m (List.mem_append_right _ (List.mem_of_getElem? (i := 189) (by decide +kernel))) (by decide)
theorem fn_M : Cond.instantiable R_M 16 ∈ fq_tb := fq_m (List.mem_append_right _ (List.mem_of_getElem? (i := 190) (by decide +kernel))) (by decide)
theorem fo_Q : Cond.methodLink R_Q 1 objectInit ∈ fq_tb := fq_m (List.mem_append_right _ (List.mem_of_getElem? (i := 8) (by decide +kernel))) (by decide)
theorem fo_M : Cond.methodLink R_M 1 objectInit ∈ fq_tb := fq_m (List.mem_append_right _ (List.mem_of_getElem? (i := 194) (by decide +kernel))) (by decide)
theorem fo_i : Cond.instanceMethod objectInit ∈ fq_tb := fq_m (List.mem_append_right _ (List.mem_of_getElem? (i := 9) (by decide +kernel))) (by decide)
theorem fo_c : Cond.code objectInit ⟨#[0xb1]⟩ 1 none ∈ fq_tb := fq_m (List.mem_append_right _ (List.mem_of_getElem? (i := 10) (by decide +kernel))) (by decide)
end
section
theorem fd_Q_bring_0 : decode b_Q_bring 0 = .ok (.iload_n 0, 1) := by decide +kernel
theorem fd_Q_bring_1 : decode b_Q_bring 1 = .ok (.iload_n 1, 1) := by decide +kernel
theorem fd_Q_bring_2 : decode b_Q_bring 2 = .ok (.if_icmp .ge 7, 3) := by decide +kernel
theorem fd_Q_bring_5 : decode b_Q_bring 5 = .ok (.iload_n 1, 1) := by decide +kernel
theorem fd_Q_bring_6 : decode b_Q_bring 6 = .ok (.goto 13, 3) := by decide +kernel
theorem fd_Q_bring_9 : decode b_Q_bring 9 = .ok (.iload_n 0, 1) := by decide +kernel
theorem fd_Q_bring_10 : decode b_Q_bring 10 = .ok (.iload_n 2, 1) := by decide +kernel
theorem fd_Q_bring_11 : decode b_Q_bring 11 = .ok (.if_icmp .le 7, 3) := by decide +kernel
theorem fd_Q_bring_14 : decode b_Q_bring 14 = .ok (.iload_n 2, 1) := by decide +kernel
theorem fd_Q_bring_15 : decode b_Q_bring 15 = .ok (.goto 4, 3) := by decide +kernel
theorem fd_Q_bring_18 : decode b_Q_bring 18 = .ok (.iload_n 0, 1) := by decide +kernel
theorem fd_Q_bring_19 : decode b_Q_bring 19 = .ok (.ireturn, 1) := by decide +kernel
theorem fd_Q_within_0 : decode b_Q_within 0 = .ok (.iload_n 0, 1) := by decide +kernel
theorem fd_Q_within_1 : decode b_Q_within 1 = .ok (.iload_n 1, 1) := by decide +kernel
theorem fd_Q_within_2 : decode b_Q_within 2 = .ok (.if_icmp .lt 12, 3) := by decide +kernel
theorem fd_Q_within_5 : decode b_Q_within 5 = .ok (.iload_n 0, 1) := by decide +kernel
theorem fd_Q_within_6 : decode b_Q_within 6 = .ok (.iload_n 2, 1) := by decide +kernel
theorem fd_Q_within_7 : decode b_Q_within 7 = .ok (.if_icmp .gt 7, 3) := by decide +kernel
theorem fd_Q_within_10 : decode b_Q_within 10 = .ok (.iconst 1, 1) := by decide +kernel
theorem fd_Q_within_11 : decode b_Q_within 11 = .ok (.goto 4, 3) := by decide +kernel
theorem fd_Q_within_14 : decode b_Q_within 14 = .ok (.iconst 0, 1) := by decide +kernel
theorem fd_Q_within_15 : decode b_Q_within 15 = .ok (.ireturn, 1) := by decide +kernel
theorem fd_Q_init_0 : decode b_Q_init 0 = .ok (.aload_n 0, 1) := by decide +kernel
theorem fd_Q_init_1 : decode b_Q_init 1 = .ok (.invokespecial 1, 3) := by decide +kernel
theorem fd_Q_init_4 : decode b_Q_init 4 = .ok (.aload_n 0, 1) := by decide +kernel
theorem fd_Q_init_5 : decode b_Q_init 5 = .ok (.bipush 32, 2) := by decide +kernel
theorem fd_Q_init_7 : decode b_Q_init 7 = .ok (.newarray .int, 2) := by decide +kernel
theorem fd_Q_init_9 : decode b_Q_init 9 = .ok (.putfield 7, 3) := by decide +kernel
theorem fd_Q_init_12 : decode b_Q_init 12 = .ok (.aload_n 0, 1) := by decide +kernel
theorem fd_Q_init_13 : decode b_Q_init 13 = .ok (.bipush 32, 2) := by decide +kernel
theorem fd_Q_init_15 : decode b_Q_init 15 = .ok (.newarray .int, 2) := by decide +kernel
theorem fd_Q_init_17 : decode b_Q_init 17 = .ok (.putfield 13, 3) := by decide +kernel
theorem fd_Q_init_20 : decode b_Q_init 20 = .ok (.aload_n 0, 1) := by decide +kernel
theorem fd_Q_init_21 : decode b_Q_init 21 = .ok (.bipush 40, 2) := by decide +kernel
theorem fd_Q_init_23 : decode b_Q_init 23 = .ok (.newarray .int, 2) := by decide +kernel
theorem fd_Q_init_25 : decode b_Q_init 25 = .ok (.putfield 16, 3) := by decide +kernel
theorem fd_Q_init_28 : decode b_Q_init 28 = .ok (.aload_n 0, 1) := by decide +kernel
theorem fd_Q_init_29 : decode b_Q_init 29 = .ok (.bipush 40, 2) := by decide +kernel
theorem fd_Q_init_31 : decode b_Q_init 31 = .ok (.newarray .int, 2) := by decide +kernel
theorem fd_Q_init_33 : decode b_Q_init 33 = .ok (.putfield 19, 3) := by decide +kernel
theorem fd_Q_init_36 : decode b_Q_init 36 = .ok (.aload_n 0, 1) := by decide +kernel
theorem fd_Q_init_37 : decode b_Q_init 37 = .ok (.bipush 40, 2) := by decide +kernel
theorem fd_Q_init_39 : decode b_Q_init 39 = .ok (.newarray .int, 2) := by decide +kernel
theorem fd_Q_init_41 : decode b_Q_init 41 = .ok (.putfield 22, 3) := by decide +kernel
theorem fd_Q_init_44 : decode b_Q_init 44 = .ok (.aload_n 0, 1) := by decide +kernel
theorem fd_Q_init_45 : decode b_Q_init 45 = .ok (.bipush 40, 2) := by decide +kernel
theorem fd_Q_init_47 : decode b_Q_init 47 = .ok (.newarray .int, 2) := by decide +kernel
theorem fd_Q_init_49 : decode b_Q_init 49 = .ok (.putfield 25, 3) := by decide +kernel
theorem fd_Q_init_52 : decode b_Q_init 52 = .ok (.aload_n 0, 1) := by decide +kernel
theorem fd_Q_init_53 : decode b_Q_init 53 = .ok (.bipush 40, 2) := by decide +kernel
theorem fd_Q_init_55 : decode b_Q_init 55 = .ok (.newarray .int, 2) := by decide +kernel
theorem fd_Q_init_57 : decode b_Q_init 57 = .ok (.putfield 28, 3) := by decide +kernel
theorem fd_Q_init_60 : decode b_Q_init 60 = .ok (.aload_n 0, 1) := by decide +kernel
theorem fd_Q_init_61 : decode b_Q_init 61 = .ok (.bipush 40, 2) := by decide +kernel
theorem fd_Q_init_63 : decode b_Q_init 63 = .ok (.newarray .int, 2) := by decide +kernel
theorem fd_Q_init_65 : decode b_Q_init 65 = .ok (.putfield 31, 3) := by decide +kernel
theorem fd_Q_init_68 : decode b_Q_init 68 = .ok (.aload_n 0, 1) := by decide +kernel
theorem fd_Q_init_69 : decode b_Q_init 69 = .ok (.bipush 40, 2) := by decide +kernel
theorem fd_Q_init_71 : decode b_Q_init 71 = .ok (.newarray .int, 2) := by decide +kernel
theorem fd_Q_init_73 : decode b_Q_init 73 = .ok (.putfield 34, 3) := by decide +kernel
theorem fd_Q_init_76 : decode b_Q_init 76 = .ok (.aload_n 0, 1) := by decide +kernel
theorem fd_Q_init_77 : decode b_Q_init 77 = .ok (.iload_n 1, 1) := by decide +kernel
theorem fd_Q_init_78 : decode b_Q_init 78 = .ok (.iconst 1, 1) := by decide +kernel
theorem fd_Q_init_79 : decode b_Q_init 79 = .ok (.bipush 40, 2) := by decide +kernel
theorem fd_Q_init_81 : decode b_Q_init 81 = .ok (.invokestatic 37, 3) := by decide +kernel
theorem fd_Q_init_84 : decode b_Q_init 84 = .ok (.putfield 41, 3) := by decide +kernel
theorem fd_Q_init_87 : decode b_Q_init 87 = .ok (.aload_n 0, 1) := by decide +kernel
theorem fd_Q_init_88 : decode b_Q_init 88 = .ok (.iload_n 2, 1) := by decide +kernel
theorem fd_Q_init_89 : decode b_Q_init 89 = .ok (.iconst 1, 1) := by decide +kernel
theorem fd_Q_init_90 : decode b_Q_init 90 = .ok (.sipush 300, 3) := by decide +kernel
theorem fd_Q_init_93 : decode b_Q_init 93 = .ok (.invokestatic 37, 3) := by decide +kernel
theorem fd_Q_init_96 : decode b_Q_init 96 = .ok (.putfield 45, 3) := by decide +kernel
theorem fd_Q_init_99 : decode b_Q_init 99 = .ok (.aload_n 0, 1) := by decide +kernel
theorem fd_Q_init_100 : decode b_Q_init 100 = .ok (.iload_n 3, 1) := by decide +kernel
theorem fd_Q_init_101 : decode b_Q_init 101 = .ok (.ifCond .ge 7, 3) := by decide +kernel
theorem fd_Q_init_104 : decode b_Q_init 104 = .ok (.iconst 0, 1) := by decide +kernel
theorem fd_Q_init_105 : decode b_Q_init 105 = .ok (.goto 4, 3) := by decide +kernel
theorem fd_Q_init_108 : decode b_Q_init 108 = .ok (.iload_n 3, 1) := by decide +kernel
theorem fd_Q_init_109 : decode b_Q_init 109 = .ok (.putfield 48, 3) := by decide +kernel
theorem fd_Q_init_112 : decode b_Q_init 112 = .ok (.aload_n 0, 1) := by decide +kernel
theorem fd_Q_init_113 : decode b_Q_init 113 = .ok (.aload_n 0, 1) := by decide +kernel
theorem fd_Q_init_114 : decode b_Q_init 114 = .ok (.getfield 45, 3) := by decide +kernel
theorem fd_Q_init_117 : decode b_Q_init 117 = .ok (.newarray .int, 2) := by decide +kernel
theorem fd_Q_init_119 : decode b_Q_init 119 = .ok (.putfield 51, 3) := by decide +kernel
theorem fd_Q_init_122 : decode b_Q_init 122 = .ok (.aload_n 0, 1) := by decide +kernel
theorem fd_Q_init_123 : decode b_Q_init 123 = .ok (.aload_n 0, 1) := by decide +kernel
theorem fd_Q_init_124 : decode b_Q_init 124 = .ok (.getfield 45, 3) := by decide +kernel
theorem fd_Q_init_127 : decode b_Q_init 127 = .ok (.newarray .int, 2) := by decide +kernel
theorem fd_Q_init_129 : decode b_Q_init 129 = .ok (.putfield 54, 3) := by decide +kernel
theorem fd_Q_init_132 : decode b_Q_init 132 = .ok (.aload_n 0, 1) := by decide +kernel
theorem fd_Q_init_133 : decode b_Q_init 133 = .ok (.aload_n 0, 1) := by decide +kernel
theorem fd_Q_init_134 : decode b_Q_init 134 = .ok (.getfield 45, 3) := by decide +kernel
theorem fd_Q_init_137 : decode b_Q_init 137 = .ok (.newarray .int, 2) := by decide +kernel
theorem fd_Q_init_139 : decode b_Q_init 139 = .ok (.putfield 57, 3) := by decide +kernel
theorem fd_Q_init_142 : decode b_Q_init 142 = .ok (.iconst 0, 1) := by decide +kernel
theorem fd_Q_init_143 : decode b_Q_init 143 = .ok (.istore 4, 2) := by decide +kernel
theorem fd_Q_init_145 : decode b_Q_init 145 = .ok (.iload 4, 2) := by decide +kernel
theorem fd_Q_init_147 : decode b_Q_init 147 = .ok (.bipush 32, 2) := by decide +kernel
theorem fd_Q_init_149 : decode b_Q_init 149 = .ok (.if_icmp .ge 17, 3) := by decide +kernel
theorem fd_Q_init_152 : decode b_Q_init 152 = .ok (.aload_n 0, 1) := by decide +kernel
theorem fd_Q_init_153 : decode b_Q_init 153 = .ok (.getfield 7, 3) := by decide +kernel
theorem fd_Q_init_156 : decode b_Q_init 156 = .ok (.iload 4, 2) := by decide +kernel
theorem fd_Q_init_158 : decode b_Q_init 158 = .ok (.iconst (-1), 1) := by decide +kernel
theorem fd_Q_init_159 : decode b_Q_init 159 = .ok (.iastore, 1) := by decide +kernel
theorem fd_Q_init_160 : decode b_Q_init 160 = .ok (.iinc 4 1, 3) := by decide +kernel
theorem fd_Q_init_163 : decode b_Q_init 163 = .ok (.goto (-18), 3) := by decide +kernel
theorem fd_Q_init_166 : decode b_Q_init 166 = .ok (.iconst 0, 1) := by decide +kernel
theorem fd_Q_init_167 : decode b_Q_init 167 = .ok (.istore 4, 2) := by decide +kernel
theorem fd_Q_init_169 : decode b_Q_init 169 = .ok (.iload 4, 2) := by decide +kernel
theorem fd_Q_init_171 : decode b_Q_init 171 = .ok (.bipush 40, 2) := by decide +kernel
theorem fd_Q_init_173 : decode b_Q_init 173 = .ok (.if_icmp .ge 25, 3) := by decide +kernel
theorem fd_Q_init_176 : decode b_Q_init 176 = .ok (.aload_n 0, 1) := by decide +kernel
theorem fd_Q_init_177 : decode b_Q_init 177 = .ok (.getfield 25, 3) := by decide +kernel
theorem fd_Q_init_180 : decode b_Q_init 180 = .ok (.iload 4, 2) := by decide +kernel
theorem fd_Q_init_182 : decode b_Q_init 182 = .ok (.iconst (-1), 1) := by decide +kernel
theorem fd_Q_init_183 : decode b_Q_init 183 = .ok (.iastore, 1) := by decide +kernel
theorem fd_Q_init_184 : decode b_Q_init 184 = .ok (.aload_n 0, 1) := by decide +kernel
theorem fd_Q_init_185 : decode b_Q_init 185 = .ok (.getfield 28, 3) := by decide +kernel
theorem fd_Q_init_188 : decode b_Q_init 188 = .ok (.iload 4, 2) := by decide +kernel
theorem fd_Q_init_190 : decode b_Q_init 190 = .ok (.iconst (-1), 1) := by decide +kernel
theorem fd_Q_init_191 : decode b_Q_init 191 = .ok (.iastore, 1) := by decide +kernel
theorem fd_Q_init_192 : decode b_Q_init 192 = .ok (.iinc 4 1, 3) := by decide +kernel
theorem fd_Q_init_195 : decode b_Q_init 195 = .ok (.goto (-26), 3) := by decide +kernel
theorem fd_Q_init_198 : decode b_Q_init 198 = .ok (.return_, 1) := by decide +kernel
theorem fd_Q_isItem_0 : decode b_Q_isItem 0 = .ok (.iload_n 1, 1) := by decide +kernel
theorem fd_Q_isItem_1 : decode b_Q_isItem 1 = .ok (.iconst 0, 1) := by decide +kernel
theorem fd_Q_isItem_2 : decode b_Q_isItem 2 = .ok (.aload_n 0, 1) := by decide +kernel
theorem fd_Q_isItem_3 : decode b_Q_isItem 3 = .ok (.getfield 41, 3) := by decide +kernel
theorem fd_Q_isItem_6 : decode b_Q_isItem 6 = .ok (.iconst 1, 1) := by decide +kernel
theorem fd_Q_isItem_7 : decode b_Q_isItem 7 = .ok (.isub, 1) := by decide +kernel
theorem fd_Q_isItem_8 : decode b_Q_isItem 8 = .ok (.invokestatic 60, 3) := by decide +kernel
theorem fd_Q_isItem_11 : decode b_Q_isItem 11 = .ok (.ireturn, 1) := by decide +kernel
theorem fd_Q_isThere_0 : decode b_Q_isThere 0 = .ok (.aload_n 0, 1) := by decide +kernel
theorem fd_Q_isThere_1 : decode b_Q_isThere 1 = .ok (.iload_n 1, 1) := by decide +kernel
theorem fd_Q_isThere_2 : decode b_Q_isThere 2 = .ok (.invokevirtual 64, 3) := by decide +kernel
theorem fd_Q_isThere_5 : decode b_Q_isThere 5 = .ok (.ifCond .eq 17, 3) := by decide +kernel
theorem fd_Q_isThere_8 : decode b_Q_isThere 8 = .ok (.aload_n 0, 1) := by decide +kernel
theorem fd_Q_isThere_9 : decode b_Q_isThere 9 = .ok (.getfield 25, 3) := by decide +kernel
theorem fd_Q_isThere_12 : decode b_Q_isThere 12 = .ok (.iload_n 1, 1) := by decide +kernel
theorem fd_Q_isThere_13 : decode b_Q_isThere 13 = .ok (.iaload, 1) := by decide +kernel
theorem fd_Q_isThere_14 : decode b_Q_isThere 14 = .ok (.iconst (-1), 1) := by decide +kernel
theorem fd_Q_isThere_15 : decode b_Q_isThere 15 = .ok (.if_icmp .eq 7, 3) := by decide +kernel
theorem fd_Q_isThere_18 : decode b_Q_isThere 18 = .ok (.iconst 1, 1) := by decide +kernel
theorem fd_Q_isThere_19 : decode b_Q_isThere 19 = .ok (.goto 4, 3) := by decide +kernel
theorem fd_Q_isThere_22 : decode b_Q_isThere 22 = .ok (.iconst 0, 1) := by decide +kernel
theorem fd_Q_isThere_23 : decode b_Q_isThere 23 = .ok (.ireturn, 1) := by decide +kernel
theorem fd_Q_bucketFor_0 : decode b_Q_bucketFor 0 = .ok (.iconst 0, 1) := by decide +kernel
theorem fd_Q_bucketFor_1 : decode b_Q_bucketFor 1 = .ok (.istore_n 2, 1) := by decide +kernel
theorem fd_Q_bucketFor_2 : decode b_Q_bucketFor 2 = .ok (.iload_n 1, 1) := by decide +kernel
theorem fd_Q_bucketFor_3 : decode b_Q_bucketFor 3 = .ok (.aload_n 0, 1) := by decide +kernel
theorem fd_Q_bucketFor_4 : decode b_Q_bucketFor 4 = .ok (.getfield 68, 3) := by decide +kernel
theorem fd_Q_bucketFor_7 : decode b_Q_bucketFor 7 = .ok (.ixor, 1) := by decide +kernel
theorem fd_Q_bucketFor_8 : decode b_Q_bucketFor 8 = .ok (.istore_n 3, 1) := by decide +kernel
theorem fd_Q_bucketFor_9 : decode b_Q_bucketFor 9 = .ok (.iload_n 3, 1) := by decide +kernel
theorem fd_Q_bucketFor_10 : decode b_Q_bucketFor 10 = .ok (.ifCond .eq 13, 3) := by decide +kernel
theorem fd_Q_bucketFor_13 : decode b_Q_bucketFor 13 = .ok (.iinc 2 1, 3) := by decide +kernel
theorem fd_Q_bucketFor_16 : decode b_Q_bucketFor 16 = .ok (.iload_n 3, 1) := by decide +kernel
theorem fd_Q_bucketFor_17 : decode b_Q_bucketFor 17 = .ok (.iconst 1, 1) := by decide +kernel
theorem fd_Q_bucketFor_18 : decode b_Q_bucketFor 18 = .ok (.ishr, 1) := by decide +kernel
theorem fd_Q_bucketFor_19 : decode b_Q_bucketFor 19 = .ok (.istore_n 3, 1) := by decide +kernel
theorem fd_Q_bucketFor_20 : decode b_Q_bucketFor 20 = .ok (.goto (-11), 3) := by decide +kernel
theorem fd_Q_bucketFor_23 : decode b_Q_bucketFor 23 = .ok (.iload_n 2, 1) := by decide +kernel
theorem fd_Q_bucketFor_24 : decode b_Q_bucketFor 24 = .ok (.ireturn, 1) := by decide +kernel
theorem fd_Q_link_0 : decode b_Q_link 0 = .ok (.aload_n 0, 1) := by decide +kernel
theorem fd_Q_link_1 : decode b_Q_link 1 = .ok (.getfield 16, 3) := by decide +kernel
theorem fd_Q_link_4 : decode b_Q_link 4 = .ok (.iload_n 1, 1) := by decide +kernel
theorem fd_Q_link_5 : decode b_Q_link 5 = .ok (.aload_n 0, 1) := by decide +kernel
theorem fd_Q_link_6 : decode b_Q_link 6 = .ok (.getfield 7, 3) := by decide +kernel
theorem fd_Q_link_9 : decode b_Q_link 9 = .ok (.iload_n 2, 1) := by decide +kernel
theorem fd_Q_link_10 : decode b_Q_link 10 = .ok (.iaload, 1) := by decide +kernel
theorem fd_Q_link_11 : decode b_Q_link 11 = .ok (.iastore, 1) := by decide +kernel
theorem fd_Q_link_12 : decode b_Q_link 12 = .ok (.aload_n 0, 1) := by decide +kernel
theorem fd_Q_link_13 : decode b_Q_link 13 = .ok (.getfield 19, 3) := by decide +kernel
theorem fd_Q_link_16 : decode b_Q_link 16 = .ok (.iload_n 1, 1) := by decide +kernel
theorem fd_Q_link_17 : decode b_Q_link 17 = .ok (.iconst (-1), 1) := by decide +kernel
theorem fd_Q_link_18 : decode b_Q_link 18 = .ok (.iastore, 1) := by decide +kernel
theorem fd_Q_link_19 : decode b_Q_link 19 = .ok (.aload_n 0, 1) := by decide +kernel
theorem fd_Q_link_20 : decode b_Q_link 20 = .ok (.getfield 7, 3) := by decide +kernel
theorem fd_Q_link_23 : decode b_Q_link 23 = .ok (.iload_n 2, 1) := by decide +kernel
theorem fd_Q_link_24 : decode b_Q_link 24 = .ok (.iaload, 1) := by decide +kernel
theorem fd_Q_link_25 : decode b_Q_link 25 = .ok (.iconst (-1), 1) := by decide +kernel
theorem fd_Q_link_26 : decode b_Q_link 26 = .ok (.if_icmp .eq 15, 3) := by decide +kernel
theorem fd_Q_link_29 : decode b_Q_link 29 = .ok (.aload_n 0, 1) := by decide +kernel
theorem fd_Q_link_30 : decode b_Q_link 30 = .ok (.getfield 19, 3) := by decide +kernel
theorem fd_Q_link_33 : decode b_Q_link 33 = .ok (.aload_n 0, 1) := by decide +kernel
theorem fd_Q_link_34 : decode b_Q_link 34 = .ok (.getfield 7, 3) := by decide +kernel
theorem fd_Q_link_37 : decode b_Q_link 37 = .ok (.iload_n 2, 1) := by decide +kernel
theorem fd_Q_link_38 : decode b_Q_link 38 = .ok (.iaload, 1) := by decide +kernel
theorem fd_Q_link_39 : decode b_Q_link 39 = .ok (.iload_n 1, 1) := by decide +kernel
theorem fd_Q_link_40 : decode b_Q_link 40 = .ok (.iastore, 1) := by decide +kernel
theorem fd_Q_link_41 : decode b_Q_link 41 = .ok (.aload_n 0, 1) := by decide +kernel
theorem fd_Q_link_42 : decode b_Q_link 42 = .ok (.getfield 7, 3) := by decide +kernel
theorem fd_Q_link_45 : decode b_Q_link 45 = .ok (.iload_n 2, 1) := by decide +kernel
theorem fd_Q_link_46 : decode b_Q_link 46 = .ok (.iload_n 1, 1) := by decide +kernel
theorem fd_Q_link_47 : decode b_Q_link 47 = .ok (.iastore, 1) := by decide +kernel
theorem fd_Q_link_48 : decode b_Q_link 48 = .ok (.aload_n 0, 1) := by decide +kernel
theorem fd_Q_link_49 : decode b_Q_link 49 = .ok (.getfield 25, 3) := by decide +kernel
theorem fd_Q_link_52 : decode b_Q_link 52 = .ok (.iload_n 1, 1) := by decide +kernel
theorem fd_Q_link_53 : decode b_Q_link 53 = .ok (.iload_n 2, 1) := by decide +kernel
theorem fd_Q_link_54 : decode b_Q_link 54 = .ok (.iastore, 1) := by decide +kernel
theorem fd_Q_link_55 : decode b_Q_link 55 = .ok (.aload_n 0, 1) := by decide +kernel
theorem fd_Q_link_56 : decode b_Q_link 56 = .ok (.getfield 13, 3) := by decide +kernel
theorem fd_Q_link_59 : decode b_Q_link 59 = .ok (.iload_n 2, 1) := by decide +kernel
theorem fd_Q_link_60 : decode b_Q_link 60 = .ok (.dup2, 1) := by decide +kernel
theorem fd_Q_link_61 : decode b_Q_link 61 = .ok (.iaload, 1) := by decide +kernel
theorem fd_Q_link_62 : decode b_Q_link 62 = .ok (.iconst 1, 1) := by decide +kernel
theorem fd_Q_link_63 : decode b_Q_link 63 = .ok (.iadd, 1) := by decide +kernel
theorem fd_Q_link_64 : decode b_Q_link 64 = .ok (.iastore, 1) := by decide +kernel
theorem fd_Q_link_65 : decode b_Q_link 65 = .ok (.aload_n 0, 1) := by decide +kernel
theorem fd_Q_link_66 : decode b_Q_link 66 = .ok (.dup, 1) := by decide +kernel
theorem fd_Q_link_67 : decode b_Q_link 67 = .ok (.getfield 71, 3) := by decide +kernel
theorem fd_Q_link_70 : decode b_Q_link 70 = .ok (.iconst 1, 1) := by decide +kernel
theorem fd_Q_link_71 : decode b_Q_link 71 = .ok (.iadd, 1) := by decide +kernel
theorem fd_Q_link_72 : decode b_Q_link 72 = .ok (.putfield 71, 3) := by decide +kernel
theorem fd_Q_link_75 : decode b_Q_link 75 = .ok (.return_, 1) := by decide +kernel
theorem fd_Q_unlink_0 : decode b_Q_unlink 0 = .ok (.aload_n 0, 1) := by decide +kernel
theorem fd_Q_unlink_1 : decode b_Q_unlink 1 = .ok (.getfield 25, 3) := by decide +kernel
theorem fd_Q_unlink_4 : decode b_Q_unlink 4 = .ok (.iload_n 1, 1) := by decide +kernel
theorem fd_Q_unlink_5 : decode b_Q_unlink 5 = .ok (.iaload, 1) := by decide +kernel
theorem fd_Q_unlink_6 : decode b_Q_unlink 6 = .ok (.istore_n 2, 1) := by decide +kernel
theorem fd_Q_unlink_7 : decode b_Q_unlink 7 = .ok (.aload_n 0, 1) := by decide +kernel
theorem fd_Q_unlink_8 : decode b_Q_unlink 8 = .ok (.getfield 19, 3) := by decide +kernel
theorem fd_Q_unlink_11 : decode b_Q_unlink 11 = .ok (.iload_n 1, 1) := by decide +kernel
theorem fd_Q_unlink_12 : decode b_Q_unlink 12 = .ok (.iaload, 1) := by decide +kernel
theorem fd_Q_unlink_13 : decode b_Q_unlink 13 = .ok (.iconst (-1), 1) := by decide +kernel
theorem fd_Q_unlink_14 : decode b_Q_unlink 14 = .ok (.if_icmp .ne 18, 3) := by decide +kernel
theorem fd_Q_unlink_17 : decode b_Q_unlink 17 = .ok (.aload_n 0, 1) := by decide +kernel
theorem fd_Q_unlink_18 : decode b_Q_unlink 18 = .ok (.getfield 7, 3) := by decide +kernel
theorem fd_Q_unlink_21 : decode b_Q_unlink 21 = .ok (.iload_n 2, 1) := by decide +kernel
theorem fd_Q_unlink_22 : decode b_Q_unlink 22 = .ok (.aload_n 0, 1) := by decide +kernel
theorem fd_Q_unlink_23 : decode b_Q_unlink 23 = .ok (.getfield 16, 3) := by decide +kernel
theorem fd_Q_unlink_26 : decode b_Q_unlink 26 = .ok (.iload_n 1, 1) := by decide +kernel
theorem fd_Q_unlink_27 : decode b_Q_unlink 27 = .ok (.iaload, 1) := by decide +kernel
theorem fd_Q_unlink_28 : decode b_Q_unlink 28 = .ok (.iastore, 1) := by decide +kernel
theorem fd_Q_unlink_29 : decode b_Q_unlink 29 = .ok (.goto 20, 3) := by decide +kernel
theorem fd_Q_unlink_32 : decode b_Q_unlink 32 = .ok (.aload_n 0, 1) := by decide +kernel
theorem fd_Q_unlink_33 : decode b_Q_unlink 33 = .ok (.getfield 16, 3) := by decide +kernel
theorem fd_Q_unlink_36 : decode b_Q_unlink 36 = .ok (.aload_n 0, 1) := by decide +kernel
theorem fd_Q_unlink_37 : decode b_Q_unlink 37 = .ok (.getfield 19, 3) := by decide +kernel
theorem fd_Q_unlink_40 : decode b_Q_unlink 40 = .ok (.iload_n 1, 1) := by decide +kernel
theorem fd_Q_unlink_41 : decode b_Q_unlink 41 = .ok (.iaload, 1) := by decide +kernel
theorem fd_Q_unlink_42 : decode b_Q_unlink 42 = .ok (.aload_n 0, 1) := by decide +kernel
theorem fd_Q_unlink_43 : decode b_Q_unlink 43 = .ok (.getfield 16, 3) := by decide +kernel
theorem fd_Q_unlink_46 : decode b_Q_unlink 46 = .ok (.iload_n 1, 1) := by decide +kernel
theorem fd_Q_unlink_47 : decode b_Q_unlink 47 = .ok (.iaload, 1) := by decide +kernel
theorem fd_Q_unlink_48 : decode b_Q_unlink 48 = .ok (.iastore, 1) := by decide +kernel
theorem fd_Q_unlink_49 : decode b_Q_unlink 49 = .ok (.aload_n 0, 1) := by decide +kernel
theorem fd_Q_unlink_50 : decode b_Q_unlink 50 = .ok (.getfield 16, 3) := by decide +kernel
theorem fd_Q_unlink_53 : decode b_Q_unlink 53 = .ok (.iload_n 1, 1) := by decide +kernel
theorem fd_Q_unlink_54 : decode b_Q_unlink 54 = .ok (.iaload, 1) := by decide +kernel
theorem fd_Q_unlink_55 : decode b_Q_unlink 55 = .ok (.iconst (-1), 1) := by decide +kernel
theorem fd_Q_unlink_56 : decode b_Q_unlink 56 = .ok (.if_icmp .eq 20, 3) := by decide +kernel
theorem fd_Q_unlink_59 : decode b_Q_unlink 59 = .ok (.aload_n 0, 1) := by decide +kernel
theorem fd_Q_unlink_60 : decode b_Q_unlink 60 = .ok (.getfield 19, 3) := by decide +kernel
theorem fd_Q_unlink_63 : decode b_Q_unlink 63 = .ok (.aload_n 0, 1) := by decide +kernel
theorem fd_Q_unlink_64 : decode b_Q_unlink 64 = .ok (.getfield 16, 3) := by decide +kernel
theorem fd_Q_unlink_67 : decode b_Q_unlink 67 = .ok (.iload_n 1, 1) := by decide +kernel
theorem fd_Q_unlink_68 : decode b_Q_unlink 68 = .ok (.iaload, 1) := by decide +kernel
theorem fd_Q_unlink_69 : decode b_Q_unlink 69 = .ok (.aload_n 0, 1) := by decide +kernel
theorem fd_Q_unlink_70 : decode b_Q_unlink 70 = .ok (.getfield 19, 3) := by decide +kernel
theorem fd_Q_unlink_73 : decode b_Q_unlink 73 = .ok (.iload_n 1, 1) := by decide +kernel
theorem fd_Q_unlink_74 : decode b_Q_unlink 74 = .ok (.iaload, 1) := by decide +kernel
theorem fd_Q_unlink_75 : decode b_Q_unlink 75 = .ok (.iastore, 1) := by decide +kernel
theorem fd_Q_unlink_76 : decode b_Q_unlink 76 = .ok (.aload_n 0, 1) := by decide +kernel
theorem fd_Q_unlink_77 : decode b_Q_unlink 77 = .ok (.getfield 25, 3) := by decide +kernel
theorem fd_Q_unlink_80 : decode b_Q_unlink 80 = .ok (.iload_n 1, 1) := by decide +kernel
theorem fd_Q_unlink_81 : decode b_Q_unlink 81 = .ok (.iconst (-1), 1) := by decide +kernel
theorem fd_Q_unlink_82 : decode b_Q_unlink 82 = .ok (.iastore, 1) := by decide +kernel
theorem fd_Q_unlink_83 : decode b_Q_unlink 83 = .ok (.aload_n 0, 1) := by decide +kernel
theorem fd_Q_unlink_84 : decode b_Q_unlink 84 = .ok (.getfield 13, 3) := by decide +kernel
theorem fd_Q_unlink_87 : decode b_Q_unlink 87 = .ok (.iload_n 2, 1) := by decide +kernel
theorem fd_Q_unlink_88 : decode b_Q_unlink 88 = .ok (.dup2, 1) := by decide +kernel
theorem fd_Q_unlink_89 : decode b_Q_unlink 89 = .ok (.iaload, 1) := by decide +kernel
theorem fd_Q_unlink_90 : decode b_Q_unlink 90 = .ok (.iconst 1, 1) := by decide +kernel
theorem fd_Q_unlink_91 : decode b_Q_unlink 91 = .ok (.isub, 1) := by decide +kernel
theorem fd_Q_unlink_92 : decode b_Q_unlink 92 = .ok (.iastore, 1) := by decide +kernel
theorem fd_Q_unlink_93 : decode b_Q_unlink 93 = .ok (.return_, 1) := by decide +kernel
theorem fd_Q_push_0 : decode b_Q_push 0 = .ok (.aload_n 0, 1) := by decide +kernel
theorem fd_Q_push_1 : decode b_Q_push 1 = .ok (.iload_n 1, 1) := by decide +kernel
theorem fd_Q_push_2 : decode b_Q_push 2 = .ok (.invokevirtual 64, 3) := by decide +kernel
theorem fd_Q_push_5 : decode b_Q_push 5 = .ok (.ifCond .eq 13, 3) := by decide +kernel
theorem fd_Q_push_8 : decode b_Q_push 8 = .ok (.aload_n 0, 1) := by decide +kernel
theorem fd_Q_push_9 : decode b_Q_push 9 = .ok (.getfield 25, 3) := by decide +kernel
theorem fd_Q_push_12 : decode b_Q_push 12 = .ok (.iload_n 1, 1) := by decide +kernel
theorem fd_Q_push_13 : decode b_Q_push 13 = .ok (.iaload, 1) := by decide +kernel
theorem fd_Q_push_14 : decode b_Q_push 14 = .ok (.iconst (-1), 1) := by decide +kernel
theorem fd_Q_push_15 : decode b_Q_push 15 = .ok (.if_icmp .eq 5, 3) := by decide +kernel
theorem fd_Q_push_18 : decode b_Q_push 18 = .ok (.iconst (-1), 1) := by decide +kernel
theorem fd_Q_push_19 : decode b_Q_push 19 = .ok (.ireturn, 1) := by decide +kernel
theorem fd_Q_push_20 : decode b_Q_push 20 = .ok (.iload_n 2, 1) := by decide +kernel
theorem fd_Q_push_21 : decode b_Q_push 21 = .ok (.aload_n 0, 1) := by decide +kernel
theorem fd_Q_push_22 : decode b_Q_push 22 = .ok (.getfield 68, 3) := by decide +kernel
theorem fd_Q_push_25 : decode b_Q_push 25 = .ok (.if_icmp .ge 6, 3) := by decide +kernel
theorem fd_Q_push_28 : decode b_Q_push 28 = .ok (.bipush (-2), 2) := by decide +kernel
theorem fd_Q_push_30 : decode b_Q_push 30 = .ok (.ireturn, 1) := by decide +kernel
theorem fd_Q_push_31 : decode b_Q_push 31 = .ok (.aload_n 0, 1) := by decide +kernel
theorem fd_Q_push_32 : decode b_Q_push 32 = .ok (.getfield 22, 3) := by decide +kernel
theorem fd_Q_push_35 : decode b_Q_push 35 = .ok (.iload_n 1, 1) := by decide +kernel
theorem fd_Q_push_36 : decode b_Q_push 36 = .ok (.iload_n 2, 1) := by decide +kernel
theorem fd_Q_push_37 : decode b_Q_push 37 = .ok (.iastore, 1) := by decide +kernel
theorem fd_Q_push_38 : decode b_Q_push 38 = .ok (.aload_n 0, 1) := by decide +kernel
theorem fd_Q_push_39 : decode b_Q_push 39 = .ok (.iload_n 1, 1) := by decide +kernel
theorem fd_Q_push_40 : decode b_Q_push 40 = .ok (.aload_n 0, 1) := by decide +kernel
theorem fd_Q_push_41 : decode b_Q_push 41 = .ok (.iload_n 2, 1) := by decide +kernel
theorem fd_Q_push_42 : decode b_Q_push 42 = .ok (.invokevirtual 74, 3) := by decide +kernel
theorem fd_Q_push_45 : decode b_Q_push 45 = .ok (.invokevirtual 78, 3) := by decide +kernel
theorem fd_Q_push_48 : decode b_Q_push 48 = .ok (.aload_n 0, 1) := by decide +kernel
theorem fd_Q_push_49 : decode b_Q_push 49 = .ok (.dup, 1) := by decide +kernel
theorem fd_Q_push_50 : decode b_Q_push 50 = .ok (.getfield 82, 3) := by decide +kernel
theorem fd_Q_push_53 : decode b_Q_push 53 = .ok (.iconst 1, 1) := by decide +kernel
theorem fd_Q_push_54 : decode b_Q_push 54 = .ok (.iadd, 1) := by decide +kernel
theorem fd_Q_push_55 : decode b_Q_push 55 = .ok (.putfield 82, 3) := by decide +kernel
theorem fd_Q_push_58 : decode b_Q_push 58 = .ok (.aload_n 0, 1) := by decide +kernel
theorem fd_Q_push_59 : decode b_Q_push 59 = .ok (.dup, 1) := by decide +kernel
theorem fd_Q_push_60 : decode b_Q_push 60 = .ok (.getfield 85, 3) := by decide +kernel
theorem fd_Q_push_63 : decode b_Q_push 63 = .ok (.iconst 1, 1) := by decide +kernel
theorem fd_Q_push_64 : decode b_Q_push 64 = .ok (.iadd, 1) := by decide +kernel
theorem fd_Q_push_65 : decode b_Q_push 65 = .ok (.putfield 85, 3) := by decide +kernel
theorem fd_Q_push_68 : decode b_Q_push 68 = .ok (.iconst 0, 1) := by decide +kernel
theorem fd_Q_push_69 : decode b_Q_push 69 = .ok (.ireturn, 1) := by decide +kernel
theorem fd_Q_lower_0 : decode b_Q_lower 0 = .ok (.aload_n 0, 1) := by decide +kernel
theorem fd_Q_lower_1 : decode b_Q_lower 1 = .ok (.iload_n 1, 1) := by decide +kernel
theorem fd_Q_lower_2 : decode b_Q_lower 2 = .ok (.invokevirtual 88, 3) := by decide +kernel
theorem fd_Q_lower_5 : decode b_Q_lower 5 = .ok (.ifCond .ne 5, 3) := by decide +kernel
theorem fd_Q_lower_8 : decode b_Q_lower 8 = .ok (.iconst (-1), 1) := by decide +kernel
theorem fd_Q_lower_9 : decode b_Q_lower 9 = .ok (.ireturn, 1) := by decide +kernel
theorem fd_Q_lower_10 : decode b_Q_lower 10 = .ok (.iload_n 2, 1) := by decide +kernel
theorem fd_Q_lower_11 : decode b_Q_lower 11 = .ok (.aload_n 0, 1) := by decide +kernel
theorem fd_Q_lower_12 : decode b_Q_lower 12 = .ok (.getfield 68, 3) := by decide +kernel
theorem fd_Q_lower_15 : decode b_Q_lower 15 = .ok (.if_icmp .lt 13, 3) := by decide +kernel
theorem fd_Q_lower_18 : decode b_Q_lower 18 = .ok (.iload_n 2, 1) := by decide +kernel
theorem fd_Q_lower_19 : decode b_Q_lower 19 = .ok (.aload_n 0, 1) := by decide +kernel
theorem fd_Q_lower_20 : decode b_Q_lower 20 = .ok (.getfield 22, 3) := by decide +kernel
theorem fd_Q_lower_23 : decode b_Q_lower 23 = .ok (.iload_n 1, 1) := by decide +kernel
theorem fd_Q_lower_24 : decode b_Q_lower 24 = .ok (.iaload, 1) := by decide +kernel
theorem fd_Q_lower_25 : decode b_Q_lower 25 = .ok (.if_icmp .le 6, 3) := by decide +kernel
theorem fd_Q_lower_28 : decode b_Q_lower 28 = .ok (.bipush (-2), 2) := by decide +kernel
theorem fd_Q_lower_30 : decode b_Q_lower 30 = .ok (.ireturn, 1) := by decide +kernel
theorem fd_Q_lower_31 : decode b_Q_lower 31 = .ok (.aload_n 0, 1) := by decide +kernel
theorem fd_Q_lower_32 : decode b_Q_lower 32 = .ok (.getfield 22, 3) := by decide +kernel
theorem fd_Q_lower_35 : decode b_Q_lower 35 = .ok (.iload_n 1, 1) := by decide +kernel
theorem fd_Q_lower_36 : decode b_Q_lower 36 = .ok (.iload_n 2, 1) := by decide +kernel
theorem fd_Q_lower_37 : decode b_Q_lower 37 = .ok (.iastore, 1) := by decide +kernel
theorem fd_Q_lower_38 : decode b_Q_lower 38 = .ok (.aload_n 0, 1) := by decide +kernel
theorem fd_Q_lower_39 : decode b_Q_lower 39 = .ok (.iload_n 2, 1) := by decide +kernel
theorem fd_Q_lower_40 : decode b_Q_lower 40 = .ok (.invokevirtual 74, 3) := by decide +kernel
theorem fd_Q_lower_43 : decode b_Q_lower 43 = .ok (.istore_n 3, 1) := by decide +kernel
theorem fd_Q_lower_44 : decode b_Q_lower 44 = .ok (.iload_n 3, 1) := by decide +kernel
theorem fd_Q_lower_45 : decode b_Q_lower 45 = .ok (.aload_n 0, 1) := by decide +kernel
theorem fd_Q_lower_46 : decode b_Q_lower 46 = .ok (.getfield 25, 3) := by decide +kernel
theorem fd_Q_lower_49 : decode b_Q_lower 49 = .ok (.iload_n 1, 1) := by decide +kernel
theorem fd_Q_lower_50 : decode b_Q_lower 50 = .ok (.iaload, 1) := by decide +kernel
theorem fd_Q_lower_51 : decode b_Q_lower 51 = .ok (.if_icmp .eq 14, 3) := by decide +kernel
theorem fd_Q_lower_54 : decode b_Q_lower 54 = .ok (.aload_n 0, 1) := by decide +kernel
theorem fd_Q_lower_55 : decode b_Q_lower 55 = .ok (.iload_n 1, 1) := by decide +kernel
theorem fd_Q_lower_56 : decode b_Q_lower 56 = .ok (.invokevirtual 91, 3) := by decide +kernel
theorem fd_Q_lower_59 : decode b_Q_lower 59 = .ok (.aload_n 0, 1) := by decide +kernel
theorem fd_Q_lower_60 : decode b_Q_lower 60 = .ok (.iload_n 1, 1) := by decide +kernel
theorem fd_Q_lower_61 : decode b_Q_lower 61 = .ok (.iload_n 3, 1) := by decide +kernel
theorem fd_Q_lower_62 : decode b_Q_lower 62 = .ok (.invokevirtual 78, 3) := by decide +kernel
theorem fd_Q_lower_65 : decode b_Q_lower 65 = .ok (.aload_n 0, 1) := by decide +kernel
theorem fd_Q_lower_66 : decode b_Q_lower 66 = .ok (.dup, 1) := by decide +kernel
theorem fd_Q_lower_67 : decode b_Q_lower 67 = .ok (.getfield 85, 3) := by decide +kernel
theorem fd_Q_lower_70 : decode b_Q_lower 70 = .ok (.iconst 1, 1) := by decide +kernel
theorem fd_Q_lower_71 : decode b_Q_lower 71 = .ok (.iadd, 1) := by decide +kernel
theorem fd_Q_lower_72 : decode b_Q_lower 72 = .ok (.putfield 85, 3) := by decide +kernel
theorem fd_Q_lower_75 : decode b_Q_lower 75 = .ok (.iconst 0, 1) := by decide +kernel
theorem fd_Q_lower_76 : decode b_Q_lower 76 = .ok (.ireturn, 1) := by decide +kernel
theorem fd_Q_leastOf_0 : decode b_Q_leastOf 0 = .ok (.aload_n 0, 1) := by decide +kernel
theorem fd_Q_leastOf_1 : decode b_Q_leastOf 1 = .ok (.getfield 7, 3) := by decide +kernel
theorem fd_Q_leastOf_4 : decode b_Q_leastOf 4 = .ok (.iload_n 1, 1) := by decide +kernel
theorem fd_Q_leastOf_5 : decode b_Q_leastOf 5 = .ok (.iaload, 1) := by decide +kernel
theorem fd_Q_leastOf_6 : decode b_Q_leastOf 6 = .ok (.istore_n 2, 1) := by decide +kernel
theorem fd_Q_leastOf_7 : decode b_Q_leastOf 7 = .ok (.aload_n 0, 1) := by decide +kernel
theorem fd_Q_leastOf_8 : decode b_Q_leastOf 8 = .ok (.getfield 16, 3) := by decide +kernel
theorem fd_Q_leastOf_11 : decode b_Q_leastOf 11 = .ok (.iload_n 2, 1) := by decide +kernel
theorem fd_Q_leastOf_12 : decode b_Q_leastOf 12 = .ok (.iaload, 1) := by decide +kernel
theorem fd_Q_leastOf_13 : decode b_Q_leastOf 13 = .ok (.istore_n 3, 1) := by decide +kernel
theorem fd_Q_leastOf_14 : decode b_Q_leastOf 14 = .ok (.iload_n 3, 1) := by decide +kernel
theorem fd_Q_leastOf_15 : decode b_Q_leastOf 15 = .ok (.iconst (-1), 1) := by decide +kernel
theorem fd_Q_leastOf_16 : decode b_Q_leastOf 16 = .ok (.if_icmp .eq 54, 3) := by decide +kernel
theorem fd_Q_leastOf_19 : decode b_Q_leastOf 19 = .ok (.aload_n 0, 1) := by decide +kernel
theorem fd_Q_leastOf_20 : decode b_Q_leastOf 20 = .ok (.getfield 22, 3) := by decide +kernel
theorem fd_Q_leastOf_23 : decode b_Q_leastOf 23 = .ok (.iload_n 3, 1) := by decide +kernel
theorem fd_Q_leastOf_24 : decode b_Q_leastOf 24 = .ok (.iaload, 1) := by decide +kernel
theorem fd_Q_leastOf_25 : decode b_Q_leastOf 25 = .ok (.aload_n 0, 1) := by decide +kernel
theorem fd_Q_leastOf_26 : decode b_Q_leastOf 26 = .ok (.getfield 22, 3) := by decide +kernel
theorem fd_Q_leastOf_29 : decode b_Q_leastOf 29 = .ok (.iload_n 2, 1) := by decide +kernel
theorem fd_Q_leastOf_30 : decode b_Q_leastOf 30 = .ok (.iaload, 1) := by decide +kernel
theorem fd_Q_leastOf_31 : decode b_Q_leastOf 31 = .ok (.if_icmp .lt 23, 3) := by decide +kernel
theorem fd_Q_leastOf_34 : decode b_Q_leastOf 34 = .ok (.aload_n 0, 1) := by decide +kernel
theorem fd_Q_leastOf_35 : decode b_Q_leastOf 35 = .ok (.getfield 22, 3) := by decide +kernel
theorem fd_Q_leastOf_38 : decode b_Q_leastOf 38 = .ok (.iload_n 3, 1) := by decide +kernel
theorem fd_Q_leastOf_39 : decode b_Q_leastOf 39 = .ok (.iaload, 1) := by decide +kernel
theorem fd_Q_leastOf_40 : decode b_Q_leastOf 40 = .ok (.aload_n 0, 1) := by decide +kernel
theorem fd_Q_leastOf_41 : decode b_Q_leastOf 41 = .ok (.getfield 22, 3) := by decide +kernel
theorem fd_Q_leastOf_44 : decode b_Q_leastOf 44 = .ok (.iload_n 2, 1) := by decide +kernel
theorem fd_Q_leastOf_45 : decode b_Q_leastOf 45 = .ok (.iaload, 1) := by decide +kernel
theorem fd_Q_leastOf_46 : decode b_Q_leastOf 46 = .ok (.if_icmp .ne 12, 3) := by decide +kernel
theorem fd_Q_leastOf_49 : decode b_Q_leastOf 49 = .ok (.iload_n 3, 1) := by decide +kernel
theorem fd_Q_leastOf_50 : decode b_Q_leastOf 50 = .ok (.iload_n 2, 1) := by decide +kernel
theorem fd_Q_leastOf_51 : decode b_Q_leastOf 51 = .ok (.if_icmp .ge 7, 3) := by decide +kernel
theorem fd_Q_leastOf_54 : decode b_Q_leastOf 54 = .ok (.iload_n 3, 1) := by decide +kernel
theorem fd_Q_leastOf_55 : decode b_Q_leastOf 55 = .ok (.goto 4, 3) := by decide +kernel
theorem fd_Q_leastOf_58 : decode b_Q_leastOf 58 = .ok (.iload_n 2, 1) := by decide +kernel
theorem fd_Q_leastOf_59 : decode b_Q_leastOf 59 = .ok (.istore_n 2, 1) := by decide +kernel
theorem fd_Q_leastOf_60 : decode b_Q_leastOf 60 = .ok (.aload_n 0, 1) := by decide +kernel
theorem fd_Q_leastOf_61 : decode b_Q_leastOf 61 = .ok (.getfield 16, 3) := by decide +kernel
theorem fd_Q_leastOf_64 : decode b_Q_leastOf 64 = .ok (.iload_n 3, 1) := by decide +kernel
theorem fd_Q_leastOf_65 : decode b_Q_leastOf 65 = .ok (.iaload, 1) := by decide +kernel
theorem fd_Q_leastOf_66 : decode b_Q_leastOf 66 = .ok (.istore_n 3, 1) := by decide +kernel
theorem fd_Q_leastOf_67 : decode b_Q_leastOf 67 = .ok (.goto (-53), 3) := by decide +kernel
theorem fd_Q_leastOf_70 : decode b_Q_leastOf 70 = .ok (.iload_n 2, 1) := by decide +kernel
theorem fd_Q_leastOf_71 : decode b_Q_leastOf 71 = .ok (.ireturn, 1) := by decide +kernel
theorem fd_Q_layAnew_0 : decode b_Q_layAnew 0 = .ok (.aload_n 0, 1) := by decide +kernel
theorem fd_Q_layAnew_1 : decode b_Q_layAnew 1 = .ok (.iload_n 2, 1) := by decide +kernel
theorem fd_Q_layAnew_2 : decode b_Q_layAnew 2 = .ok (.putfield 68, 3) := by decide +kernel
theorem fd_Q_layAnew_5 : decode b_Q_layAnew 5 = .ok (.aload_n 0, 1) := by decide +kernel
theorem fd_Q_layAnew_6 : decode b_Q_layAnew 6 = .ok (.getfield 7, 3) := by decide +kernel
theorem fd_Q_layAnew_9 : decode b_Q_layAnew 9 = .ok (.iload_n 1, 1) := by decide +kernel
theorem fd_Q_layAnew_10 : decode b_Q_layAnew 10 = .ok (.iaload, 1) := by decide +kernel
theorem fd_Q_layAnew_11 : decode b_Q_layAnew 11 = .ok (.istore_n 3, 1) := by decide +kernel
theorem fd_Q_layAnew_12 : decode b_Q_layAnew 12 = .ok (.aload_n 0, 1) := by decide +kernel
theorem fd_Q_layAnew_13 : decode b_Q_layAnew 13 = .ok (.getfield 7, 3) := by decide +kernel
theorem fd_Q_layAnew_16 : decode b_Q_layAnew 16 = .ok (.iload_n 1, 1) := by decide +kernel
theorem fd_Q_layAnew_17 : decode b_Q_layAnew 17 = .ok (.iconst (-1), 1) := by decide +kernel
theorem fd_Q_layAnew_18 : decode b_Q_layAnew 18 = .ok (.iastore, 1) := by decide +kernel
theorem fd_Q_layAnew_19 : decode b_Q_layAnew 19 = .ok (.aload_n 0, 1) := by decide +kernel
theorem fd_Q_layAnew_20 : decode b_Q_layAnew 20 = .ok (.getfield 13, 3) := by decide +kernel
theorem fd_Q_layAnew_23 : decode b_Q_layAnew 23 = .ok (.iload_n 1, 1) := by decide +kernel
theorem fd_Q_layAnew_24 : decode b_Q_layAnew 24 = .ok (.iconst 0, 1) := by decide +kernel
theorem fd_Q_layAnew_25 : decode b_Q_layAnew 25 = .ok (.iastore, 1) := by decide +kernel
theorem fd_Q_layAnew_26 : decode b_Q_layAnew 26 = .ok (.iload_n 3, 1) := by decide +kernel
theorem fd_Q_layAnew_27 : decode b_Q_layAnew 27 = .ok (.iconst (-1), 1) := by decide +kernel
theorem fd_Q_layAnew_28 : decode b_Q_layAnew 28 = .ok (.if_icmp .eq 32, 3) := by decide +kernel
theorem fd_Q_layAnew_31 : decode b_Q_layAnew 31 = .ok (.aload_n 0, 1) := by decide +kernel
theorem fd_Q_layAnew_32 : decode b_Q_layAnew 32 = .ok (.getfield 16, 3) := by decide +kernel
theorem fd_Q_layAnew_35 : decode b_Q_layAnew 35 = .ok (.iload_n 3, 1) := by decide +kernel
theorem fd_Q_layAnew_36 : decode b_Q_layAnew 36 = .ok (.iaload, 1) := by decide +kernel
theorem fd_Q_layAnew_37 : decode b_Q_layAnew 37 = .ok (.istore 4, 2) := by decide +kernel
theorem fd_Q_layAnew_39 : decode b_Q_layAnew 39 = .ok (.aload_n 0, 1) := by decide +kernel
theorem fd_Q_layAnew_40 : decode b_Q_layAnew 40 = .ok (.iload_n 3, 1) := by decide +kernel
theorem fd_Q_layAnew_41 : decode b_Q_layAnew 41 = .ok (.aload_n 0, 1) := by decide +kernel
theorem fd_Q_layAnew_42 : decode b_Q_layAnew 42 = .ok (.aload_n 0, 1) := by decide +kernel
theorem fd_Q_layAnew_43 : decode b_Q_layAnew 43 = .ok (.getfield 22, 3) := by decide +kernel
theorem fd_Q_layAnew_46 : decode b_Q_layAnew 46 = .ok (.iload_n 3, 1) := by decide +kernel
theorem fd_Q_layAnew_47 : decode b_Q_layAnew 47 = .ok (.iaload, 1) := by decide +kernel
theorem fd_Q_layAnew_48 : decode b_Q_layAnew 48 = .ok (.invokevirtual 74, 3) := by decide +kernel
theorem fd_Q_layAnew_51 : decode b_Q_layAnew 51 = .ok (.invokevirtual 78, 3) := by decide +kernel
theorem fd_Q_layAnew_54 : decode b_Q_layAnew 54 = .ok (.iload 4, 2) := by decide +kernel
theorem fd_Q_layAnew_56 : decode b_Q_layAnew 56 = .ok (.istore_n 3, 1) := by decide +kernel
theorem fd_Q_layAnew_57 : decode b_Q_layAnew 57 = .ok (.goto (-31), 3) := by decide +kernel
theorem fd_Q_layAnew_60 : decode b_Q_layAnew 60 = .ok (.return_, 1) := by decide +kernel
end
section
theorem fd_Q_pop_0 : decode b_Q_pop 0 = .ok (.aload_n 0, 1) := by decide +kernel
theorem fd_Q_pop_1 : decode b_Q_pop 1 = .ok (.getfield 82, 3) := by decide +kernel
theorem fd_Q_pop_4 : decode b_Q_pop 4 = .ok (.ifCond .ne 5, 3) := by decide +kernel
theorem fd_Q_pop_7 : decode b_Q_pop 7 = .ok (.iconst (-1), 1) := by decide +kernel
theorem fd_Q_pop_8 : decode b_Q_pop 8 = .ok (.ireturn, 1) := by decide +kernel
theorem fd_Q_pop_9 : decode b_Q_pop 9 = .ok (.iconst 0, 1) := by decide +kernel
theorem fd_Q_pop_10 : decode b_Q_pop 10 = .ok (.istore_n 1, 1) := by decide +kernel
theorem fd_Q_pop_11 : decode b_Q_pop 11 = .ok (.aload_n 0, 1) := by decide +kernel
theorem fd_Q_pop_12 : decode b_Q_pop 12 = .ok (.getfield 7, 3) := by decide +kernel
theorem fd_Q_pop_15 : decode b_Q_pop 15 = .ok (.iload_n 1, 1) := by decide +kernel
theorem fd_Q_pop_16 : decode b_Q_pop 16 = .ok (.iaload, 1) := by decide +kernel
theorem fd_Q_pop_17 : decode b_Q_pop 17 = .ok (.iconst (-1), 1) := by decide +kernel
theorem fd_Q_pop_18 : decode b_Q_pop 18 = .ok (.if_icmp .ne 9, 3) := by decide +kernel
theorem fd_Q_pop_21 : decode b_Q_pop 21 = .ok (.iinc 1 1, 3) := by decide +kernel
theorem fd_Q_pop_24 : decode b_Q_pop 24 = .ok (.goto (-13), 3) := by decide +kernel
theorem fd_Q_pop_27 : decode b_Q_pop 27 = .ok (.aload_n 0, 1) := by decide +kernel
theorem fd_Q_pop_28 : decode b_Q_pop 28 = .ok (.iload_n 1, 1) := by decide +kernel
theorem fd_Q_pop_29 : decode b_Q_pop 29 = .ok (.invokevirtual 95, 3) := by decide +kernel
theorem fd_Q_pop_32 : decode b_Q_pop 32 = .ok (.istore_n 2, 1) := by decide +kernel
theorem fd_Q_pop_33 : decode b_Q_pop 33 = .ok (.iload_n 1, 1) := by decide +kernel
theorem fd_Q_pop_34 : decode b_Q_pop 34 = .ok (.ifCond .le 14, 3) := by decide +kernel
theorem fd_Q_pop_37 : decode b_Q_pop 37 = .ok (.aload_n 0, 1) := by decide +kernel
theorem fd_Q_pop_38 : decode b_Q_pop 38 = .ok (.iload_n 1, 1) := by decide +kernel
theorem fd_Q_pop_39 : decode b_Q_pop 39 = .ok (.aload_n 0, 1) := by decide +kernel
theorem fd_Q_pop_40 : decode b_Q_pop 40 = .ok (.getfield 22, 3) := by decide +kernel
theorem fd_Q_pop_43 : decode b_Q_pop 43 = .ok (.iload_n 2, 1) := by decide +kernel
theorem fd_Q_pop_44 : decode b_Q_pop 44 = .ok (.iaload, 1) := by decide +kernel
theorem fd_Q_pop_45 : decode b_Q_pop 45 = .ok (.invokevirtual 98, 3) := by decide +kernel
theorem fd_Q_pop_48 : decode b_Q_pop 48 = .ok (.aload_n 0, 1) := by decide +kernel
theorem fd_Q_pop_49 : decode b_Q_pop 49 = .ok (.iload_n 2, 1) := by decide +kernel
theorem fd_Q_pop_50 : decode b_Q_pop 50 = .ok (.invokevirtual 91, 3) := by decide +kernel
theorem fd_Q_pop_53 : decode b_Q_pop 53 = .ok (.aload_n 0, 1) := by decide +kernel
theorem fd_Q_pop_54 : decode b_Q_pop 54 = .ok (.dup, 1) := by decide +kernel
theorem fd_Q_pop_55 : decode b_Q_pop 55 = .ok (.getfield 82, 3) := by decide +kernel
theorem fd_Q_pop_58 : decode b_Q_pop 58 = .ok (.iconst 1, 1) := by decide +kernel
theorem fd_Q_pop_59 : decode b_Q_pop 59 = .ok (.isub, 1) := by decide +kernel
theorem fd_Q_pop_60 : decode b_Q_pop 60 = .ok (.putfield 82, 3) := by decide +kernel
theorem fd_Q_pop_63 : decode b_Q_pop 63 = .ok (.iload_n 2, 1) := by decide +kernel
theorem fd_Q_pop_64 : decode b_Q_pop 64 = .ok (.ireturn, 1) := by decide +kernel
theorem fd_Q_arc_0 : decode b_Q_arc 0 = .ok (.aload_n 0, 1) := by decide +kernel
theorem fd_Q_arc_1 : decode b_Q_arc 1 = .ok (.iload_n 1, 1) := by decide +kernel
theorem fd_Q_arc_2 : decode b_Q_arc 2 = .ok (.invokevirtual 64, 3) := by decide +kernel
theorem fd_Q_arc_5 : decode b_Q_arc 5 = .ok (.ifCond .eq 11, 3) := by decide +kernel
theorem fd_Q_arc_8 : decode b_Q_arc 8 = .ok (.aload_n 0, 1) := by decide +kernel
theorem fd_Q_arc_9 : decode b_Q_arc 9 = .ok (.iload_n 2, 1) := by decide +kernel
theorem fd_Q_arc_10 : decode b_Q_arc 10 = .ok (.invokevirtual 64, 3) := by decide +kernel
theorem fd_Q_arc_13 : decode b_Q_arc 13 = .ok (.ifCond .ne 5, 3) := by decide +kernel
theorem fd_Q_arc_16 : decode b_Q_arc 16 = .ok (.iconst (-1), 1) := by decide +kernel
theorem fd_Q_arc_17 : decode b_Q_arc 17 = .ok (.ireturn, 1) := by decide +kernel
theorem fd_Q_arc_18 : decode b_Q_arc 18 = .ok (.iload_n 3, 1) := by decide +kernel
theorem fd_Q_arc_19 : decode b_Q_arc 19 = .ok (.iconst 0, 1) := by decide +kernel
theorem fd_Q_arc_20 : decode b_Q_arc 20 = .ok (.aload_n 0, 1) := by decide +kernel
theorem fd_Q_arc_21 : decode b_Q_arc 21 = .ok (.getfield 48, 3) := by decide +kernel
theorem fd_Q_arc_24 : decode b_Q_arc 24 = .ok (.invokestatic 60, 3) := by decide +kernel
theorem fd_Q_arc_27 : decode b_Q_arc 27 = .ok (.ifCond .ne 6, 3) := by decide +kernel
theorem fd_Q_arc_30 : decode b_Q_arc 30 = .ok (.bipush (-2), 2) := by decide +kernel
theorem fd_Q_arc_32 : decode b_Q_arc 32 = .ok (.ireturn, 1) := by decide +kernel
theorem fd_Q_arc_33 : decode b_Q_arc 33 = .ok (.aload_n 0, 1) := by decide +kernel
theorem fd_Q_arc_34 : decode b_Q_arc 34 = .ok (.getfield 101, 3) := by decide +kernel
theorem fd_Q_arc_37 : decode b_Q_arc 37 = .ok (.aload_n 0, 1) := by decide +kernel
theorem fd_Q_arc_38 : decode b_Q_arc 38 = .ok (.getfield 45, 3) := by decide +kernel
theorem fd_Q_arc_41 : decode b_Q_arc 41 = .ok (.if_icmp .ne 6, 3) := by decide +kernel
theorem fd_Q_arc_44 : decode b_Q_arc 44 = .ok (.bipush (-3), 2) := by decide +kernel
theorem fd_Q_arc_46 : decode b_Q_arc 46 = .ok (.ireturn, 1) := by decide +kernel
theorem fd_Q_arc_47 : decode b_Q_arc 47 = .ok (.aload_n 0, 1) := by decide +kernel
theorem fd_Q_arc_48 : decode b_Q_arc 48 = .ok (.getfield 54, 3) := by decide +kernel
theorem fd_Q_arc_51 : decode b_Q_arc 51 = .ok (.aload_n 0, 1) := by decide +kernel
theorem fd_Q_arc_52 : decode b_Q_arc 52 = .ok (.getfield 101, 3) := by decide +kernel
theorem fd_Q_arc_55 : decode b_Q_arc 55 = .ok (.iload_n 2, 1) := by decide +kernel
theorem fd_Q_arc_56 : decode b_Q_arc 56 = .ok (.iastore, 1) := by decide +kernel
theorem fd_Q_arc_57 : decode b_Q_arc 57 = .ok (.aload_n 0, 1) := by decide +kernel
theorem fd_Q_arc_58 : decode b_Q_arc 58 = .ok (.getfield 57, 3) := by decide +kernel
theorem fd_Q_arc_61 : decode b_Q_arc 61 = .ok (.aload_n 0, 1) := by decide +kernel
theorem fd_Q_arc_62 : decode b_Q_arc 62 = .ok (.getfield 101, 3) := by decide +kernel
theorem fd_Q_arc_65 : decode b_Q_arc 65 = .ok (.iload_n 3, 1) := by decide +kernel
theorem fd_Q_arc_66 : decode b_Q_arc 66 = .ok (.iastore, 1) := by decide +kernel
theorem fd_Q_arc_67 : decode b_Q_arc 67 = .ok (.aload_n 0, 1) := by decide +kernel
theorem fd_Q_arc_68 : decode b_Q_arc 68 = .ok (.getfield 51, 3) := by decide +kernel
theorem fd_Q_arc_71 : decode b_Q_arc 71 = .ok (.aload_n 0, 1) := by decide +kernel
theorem fd_Q_arc_72 : decode b_Q_arc 72 = .ok (.getfield 101, 3) := by decide +kernel
theorem fd_Q_arc_75 : decode b_Q_arc 75 = .ok (.aload_n 0, 1) := by decide +kernel
theorem fd_Q_arc_76 : decode b_Q_arc 76 = .ok (.getfield 28, 3) := by decide +kernel
theorem fd_Q_arc_79 : decode b_Q_arc 79 = .ok (.iload_n 1, 1) := by decide +kernel
theorem fd_Q_arc_80 : decode b_Q_arc 80 = .ok (.iaload, 1) := by decide +kernel
theorem fd_Q_arc_81 : decode b_Q_arc 81 = .ok (.iastore, 1) := by decide +kernel
theorem fd_Q_arc_82 : decode b_Q_arc 82 = .ok (.aload_n 0, 1) := by decide +kernel
theorem fd_Q_arc_83 : decode b_Q_arc 83 = .ok (.getfield 28, 3) := by decide +kernel
theorem fd_Q_arc_86 : decode b_Q_arc 86 = .ok (.iload_n 1, 1) := by decide +kernel
theorem fd_Q_arc_87 : decode b_Q_arc 87 = .ok (.aload_n 0, 1) := by decide +kernel
theorem fd_Q_arc_88 : decode b_Q_arc 88 = .ok (.getfield 101, 3) := by decide +kernel
theorem fd_Q_arc_91 : decode b_Q_arc 91 = .ok (.iastore, 1) := by decide +kernel
theorem fd_Q_arc_92 : decode b_Q_arc 92 = .ok (.aload_n 0, 1) := by decide +kernel
theorem fd_Q_arc_93 : decode b_Q_arc 93 = .ok (.dup, 1) := by decide +kernel
theorem fd_Q_arc_94 : decode b_Q_arc 94 = .ok (.getfield 101, 3) := by decide +kernel
theorem fd_Q_arc_97 : decode b_Q_arc 97 = .ok (.iconst 1, 1) := by decide +kernel
theorem fd_Q_arc_98 : decode b_Q_arc 98 = .ok (.iadd, 1) := by decide +kernel
theorem fd_Q_arc_99 : decode b_Q_arc 99 = .ok (.putfield 101, 3) := by decide +kernel
theorem fd_Q_arc_102 : decode b_Q_arc 102 = .ok (.aload_n 0, 1) := by decide +kernel
theorem fd_Q_arc_103 : decode b_Q_arc 103 = .ok (.iconst 0, 1) := by decide +kernel
theorem fd_Q_arc_104 : decode b_Q_arc 104 = .ok (.putfield 104, 3) := by decide +kernel
theorem fd_Q_arc_107 : decode b_Q_arc 107 = .ok (.iconst 0, 1) := by decide +kernel
theorem fd_Q_arc_108 : decode b_Q_arc 108 = .ok (.ireturn, 1) := by decide +kernel
theorem fd_Q_clear_0 : decode b_Q_clear 0 = .ok (.iconst 0, 1) := by decide +kernel
theorem fd_Q_clear_1 : decode b_Q_clear 1 = .ok (.istore_n 1, 1) := by decide +kernel
theorem fd_Q_clear_2 : decode b_Q_clear 2 = .ok (.iload_n 1, 1) := by decide +kernel
theorem fd_Q_clear_3 : decode b_Q_clear 3 = .ok (.aload_n 0, 1) := by decide +kernel
theorem fd_Q_clear_4 : decode b_Q_clear 4 = .ok (.getfield 41, 3) := by decide +kernel
theorem fd_Q_clear_7 : decode b_Q_clear 7 = .ok (.if_icmp .ge 38, 3) := by decide +kernel
theorem fd_Q_clear_10 : decode b_Q_clear 10 = .ok (.aload_n 0, 1) := by decide +kernel
theorem fd_Q_clear_11 : decode b_Q_clear 11 = .ok (.getfield 25, 3) := by decide +kernel
theorem fd_Q_clear_14 : decode b_Q_clear 14 = .ok (.iload_n 1, 1) := by decide +kernel
theorem fd_Q_clear_15 : decode b_Q_clear 15 = .ok (.iaload, 1) := by decide +kernel
theorem fd_Q_clear_16 : decode b_Q_clear 16 = .ok (.iconst (-1), 1) := by decide +kernel
theorem fd_Q_clear_17 : decode b_Q_clear 17 = .ok (.if_icmp .eq 8, 3) := by decide +kernel
theorem fd_Q_clear_20 : decode b_Q_clear 20 = .ok (.aload_n 0, 1) := by decide +kernel
theorem fd_Q_clear_21 : decode b_Q_clear 21 = .ok (.iload_n 1, 1) := by decide +kernel
theorem fd_Q_clear_22 : decode b_Q_clear 22 = .ok (.invokevirtual 91, 3) := by decide +kernel
theorem fd_Q_clear_25 : decode b_Q_clear 25 = .ok (.aload_n 0, 1) := by decide +kernel
theorem fd_Q_clear_26 : decode b_Q_clear 26 = .ok (.getfield 31, 3) := by decide +kernel
theorem fd_Q_clear_29 : decode b_Q_clear 29 = .ok (.iload_n 1, 1) := by decide +kernel
theorem fd_Q_clear_30 : decode b_Q_clear 30 = .ok (.iconst (-1), 1) := by decide +kernel
theorem fd_Q_clear_31 : decode b_Q_clear 31 = .ok (.iastore, 1) := by decide +kernel
theorem fd_Q_clear_32 : decode b_Q_clear 32 = .ok (.aload_n 0, 1) := by decide +kernel
theorem fd_Q_clear_33 : decode b_Q_clear 33 = .ok (.getfield 34, 3) := by decide +kernel
theorem fd_Q_clear_36 : decode b_Q_clear 36 = .ok (.iload_n 1, 1) := by decide +kernel
theorem fd_Q_clear_37 : decode b_Q_clear 37 = .ok (.iconst (-1), 1) := by decide +kernel
theorem fd_Q_clear_38 : decode b_Q_clear 38 = .ok (.iastore, 1) := by decide +kernel
theorem fd_Q_clear_39 : decode b_Q_clear 39 = .ok (.iinc 1 1, 3) := by decide +kernel
theorem fd_Q_clear_42 : decode b_Q_clear 42 = .ok (.goto (-40), 3) := by decide +kernel
theorem fd_Q_clear_45 : decode b_Q_clear 45 = .ok (.aload_n 0, 1) := by decide +kernel
theorem fd_Q_clear_46 : decode b_Q_clear 46 = .ok (.iconst 0, 1) := by decide +kernel
theorem fd_Q_clear_47 : decode b_Q_clear 47 = .ok (.putfield 82, 3) := by decide +kernel
theorem fd_Q_clear_50 : decode b_Q_clear 50 = .ok (.aload_n 0, 1) := by decide +kernel
theorem fd_Q_clear_51 : decode b_Q_clear 51 = .ok (.iconst 0, 1) := by decide +kernel
theorem fd_Q_clear_52 : decode b_Q_clear 52 = .ok (.putfield 68, 3) := by decide +kernel
theorem fd_Q_clear_55 : decode b_Q_clear 55 = .ok (.return_, 1) := by decide +kernel
theorem fd_Q_follow_0 : decode b_Q_follow 0 = .ok (.aload_n 0, 1) := by decide +kernel
theorem fd_Q_follow_1 : decode b_Q_follow 1 = .ok (.getfield 54, 3) := by decide +kernel
theorem fd_Q_follow_4 : decode b_Q_follow 4 = .ok (.iload_n 2, 1) := by decide +kernel
theorem fd_Q_follow_5 : decode b_Q_follow 5 = .ok (.iaload, 1) := by decide +kernel
theorem fd_Q_follow_6 : decode b_Q_follow 6 = .ok (.istore_n 3, 1) := by decide +kernel
theorem fd_Q_follow_7 : decode b_Q_follow 7 = .ok (.aload_n 0, 1) := by decide +kernel
theorem fd_Q_follow_8 : decode b_Q_follow 8 = .ok (.getfield 31, 3) := by decide +kernel
theorem fd_Q_follow_11 : decode b_Q_follow 11 = .ok (.iload_n 1, 1) := by decide +kernel
theorem fd_Q_follow_12 : decode b_Q_follow 12 = .ok (.iaload, 1) := by decide +kernel
theorem fd_Q_follow_13 : decode b_Q_follow 13 = .ok (.aload_n 0, 1) := by decide +kernel
theorem fd_Q_follow_14 : decode b_Q_follow 14 = .ok (.getfield 57, 3) := by decide +kernel
theorem fd_Q_follow_17 : decode b_Q_follow 17 = .ok (.iload_n 2, 1) := by decide +kernel
theorem fd_Q_follow_18 : decode b_Q_follow 18 = .ok (.iaload, 1) := by decide +kernel
theorem fd_Q_follow_19 : decode b_Q_follow 19 = .ok (.iadd, 1) := by decide +kernel
theorem fd_Q_follow_20 : decode b_Q_follow 20 = .ok (.istore 4, 2) := by decide +kernel
theorem fd_Q_follow_22 : decode b_Q_follow 22 = .ok (.iload 4, 2) := by decide +kernel
theorem fd_Q_follow_24 : decode b_Q_follow 24 = .ok (.ifCond .lt 42, 3) := by decide +kernel
theorem fd_Q_follow_27 : decode b_Q_follow 27 = .ok (.aload_n 0, 1) := by decide +kernel
theorem fd_Q_follow_28 : decode b_Q_follow 28 = .ok (.getfield 31, 3) := by decide +kernel
theorem fd_Q_follow_31 : decode b_Q_follow 31 = .ok (.iload_n 3, 1) := by decide +kernel
theorem fd_Q_follow_32 : decode b_Q_follow 32 = .ok (.iaload, 1) := by decide +kernel
theorem fd_Q_follow_33 : decode b_Q_follow 33 = .ok (.iconst (-1), 1) := by decide +kernel
theorem fd_Q_follow_34 : decode b_Q_follow 34 = .ok (.if_icmp .ne 32, 3) := by decide +kernel
theorem fd_Q_follow_37 : decode b_Q_follow 37 = .ok (.aload_n 0, 1) := by decide +kernel
theorem fd_Q_follow_38 : decode b_Q_follow 38 = .ok (.getfield 25, 3) := by decide +kernel
theorem fd_Q_follow_41 : decode b_Q_follow 41 = .ok (.iload_n 3, 1) := by decide +kernel
theorem fd_Q_follow_42 : decode b_Q_follow 42 = .ok (.iaload, 1) := by decide +kernel
theorem fd_Q_follow_43 : decode b_Q_follow 43 = .ok (.iconst (-1), 1) := by decide +kernel
theorem fd_Q_follow_44 : decode b_Q_follow 44 = .ok (.if_icmp .ne 22, 3) := by decide +kernel
theorem fd_Q_follow_47 : decode b_Q_follow 47 = .ok (.aload_n 0, 1) := by decide +kernel
theorem fd_Q_follow_48 : decode b_Q_follow 48 = .ok (.iload_n 3, 1) := by decide +kernel
theorem fd_Q_follow_49 : decode b_Q_follow 49 = .ok (.iload 4, 2) := by decide +kernel
theorem fd_Q_follow_51 : decode b_Q_follow 51 = .ok (.invokevirtual 108, 3) := by decide +kernel
theorem fd_Q_follow_54 : decode b_Q_follow 54 = .ok (.istore 5, 2) := by decide +kernel
theorem fd_Q_follow_56 : decode b_Q_follow 56 = .ok (.aload_n 0, 1) := by decide +kernel
theorem fd_Q_follow_57 : decode b_Q_follow 57 = .ok (.getfield 34, 3) := by decide +kernel
theorem fd_Q_follow_60 : decode b_Q_follow 60 = .ok (.iload_n 3, 1) := by decide +kernel
theorem fd_Q_follow_61 : decode b_Q_follow 61 = .ok (.iload_n 1, 1) := by decide +kernel
theorem fd_Q_follow_62 : decode b_Q_follow 62 = .ok (.iastore, 1) := by decide +kernel
theorem fd_Q_follow_63 : decode b_Q_follow 63 = .ok (.goto 45, 3) := by decide +kernel
theorem fd_Q_follow_66 : decode b_Q_follow 66 = .ok (.iload 4, 2) := by decide +kernel
theorem fd_Q_follow_68 : decode b_Q_follow 68 = .ok (.ifCond .lt 40, 3) := by decide +kernel
theorem fd_Q_follow_71 : decode b_Q_follow 71 = .ok (.aload_n 0, 1) := by decide +kernel
theorem fd_Q_follow_72 : decode b_Q_follow 72 = .ok (.getfield 25, 3) := by decide +kernel
theorem fd_Q_follow_75 : decode b_Q_follow 75 = .ok (.iload_n 3, 1) := by decide +kernel
theorem fd_Q_follow_76 : decode b_Q_follow 76 = .ok (.iaload, 1) := by decide +kernel
theorem fd_Q_follow_77 : decode b_Q_follow 77 = .ok (.iconst (-1), 1) := by decide +kernel
theorem fd_Q_follow_78 : decode b_Q_follow 78 = .ok (.if_icmp .eq 30, 3) := by decide +kernel
theorem fd_Q_follow_81 : decode b_Q_follow 81 = .ok (.iload 4, 2) := by decide +kernel
theorem fd_Q_follow_83 : decode b_Q_follow 83 = .ok (.aload_n 0, 1) := by decide +kernel
theorem fd_Q_follow_84 : decode b_Q_follow 84 = .ok (.getfield 22, 3) := by decide +kernel
theorem fd_Q_follow_87 : decode b_Q_follow 87 = .ok (.iload_n 3, 1) := by decide +kernel
theorem fd_Q_follow_88 : decode b_Q_follow 88 = .ok (.iaload, 1) := by decide +kernel
theorem fd_Q_follow_89 : decode b_Q_follow 89 = .ok (.if_icmp .ge 19, 3) := by decide +kernel
theorem fd_Q_follow_92 : decode b_Q_follow 92 = .ok (.aload_n 0, 1) := by decide +kernel
theorem fd_Q_follow_93 : decode b_Q_follow 93 = .ok (.iload_n 3, 1) := by decide +kernel
theorem fd_Q_follow_94 : decode b_Q_follow 94 = .ok (.iload 4, 2) := by decide +kernel
theorem fd_Q_follow_96 : decode b_Q_follow 96 = .ok (.invokevirtual 112, 3) := by decide +kernel
theorem fd_Q_follow_99 : decode b_Q_follow 99 = .ok (.istore 5, 2) := by decide +kernel
theorem fd_Q_follow_101 : decode b_Q_follow 101 = .ok (.aload_n 0, 1) := by decide +kernel
theorem fd_Q_follow_102 : decode b_Q_follow 102 = .ok (.getfield 34, 3) := by decide +kernel
theorem fd_Q_follow_105 : decode b_Q_follow 105 = .ok (.iload_n 3, 1) := by decide +kernel
theorem fd_Q_follow_106 : decode b_Q_follow 106 = .ok (.iload_n 1, 1) := by decide +kernel
theorem fd_Q_follow_107 : decode b_Q_follow 107 = .ok (.iastore, 1) := by decide +kernel
theorem fd_Q_follow_108 : decode b_Q_follow 108 = .ok (.return_, 1) := by decide +kernel
theorem fd_Q_run_0 : decode b_Q_run 0 = .ok (.aload_n 0, 1) := by decide +kernel
theorem fd_Q_run_1 : decode b_Q_run 1 = .ok (.iload_n 1, 1) := by decide +kernel
theorem fd_Q_run_2 : decode b_Q_run 2 = .ok (.invokevirtual 64, 3) := by decide +kernel
theorem fd_Q_run_5 : decode b_Q_run 5 = .ok (.ifCond .ne 5, 3) := by decide +kernel
theorem fd_Q_run_8 : decode b_Q_run 8 = .ok (.iconst (-1), 1) := by decide +kernel
theorem fd_Q_run_9 : decode b_Q_run 9 = .ok (.ireturn, 1) := by decide +kernel
theorem fd_Q_run_10 : decode b_Q_run 10 = .ok (.aload_n 0, 1) := by decide +kernel
theorem fd_Q_run_11 : decode b_Q_run 11 = .ok (.invokevirtual 115, 3) := by decide +kernel
theorem fd_Q_run_14 : decode b_Q_run 14 = .ok (.aload_n 0, 1) := by decide +kernel
theorem fd_Q_run_15 : decode b_Q_run 15 = .ok (.iload_n 1, 1) := by decide +kernel
theorem fd_Q_run_16 : decode b_Q_run 16 = .ok (.iconst 0, 1) := by decide +kernel
theorem fd_Q_run_17 : decode b_Q_run 17 = .ok (.invokevirtual 108, 3) := by decide +kernel
theorem fd_Q_run_20 : decode b_Q_run 20 = .ok (.istore_n 2, 1) := by decide +kernel
theorem fd_Q_run_21 : decode b_Q_run 21 = .ok (.aload_n 0, 1) := by decide +kernel
theorem fd_Q_run_22 : decode b_Q_run 22 = .ok (.getfield 82, 3) := by decide +kernel
theorem fd_Q_run_25 : decode b_Q_run 25 = .ok (.ifCond .le 54, 3) := by decide +kernel
theorem fd_Q_run_28 : decode b_Q_run 28 = .ok (.aload_n 0, 1) := by decide +kernel
theorem fd_Q_run_29 : decode b_Q_run 29 = .ok (.invokevirtual 118, 3) := by decide +kernel
theorem fd_Q_run_32 : decode b_Q_run 32 = .ok (.istore_n 3, 1) := by decide +kernel
theorem fd_Q_run_33 : decode b_Q_run 33 = .ok (.aload_n 0, 1) := by decide +kernel
theorem fd_Q_run_34 : decode b_Q_run 34 = .ok (.getfield 31, 3) := by decide +kernel
theorem fd_Q_run_37 : decode b_Q_run 37 = .ok (.iload_n 3, 1) := by decide +kernel
theorem fd_Q_run_38 : decode b_Q_run 38 = .ok (.aload_n 0, 1) := by decide +kernel
theorem fd_Q_run_39 : decode b_Q_run 39 = .ok (.getfield 68, 3) := by decide +kernel
theorem fd_Q_run_42 : decode b_Q_run 42 = .ok (.iastore, 1) := by decide +kernel
theorem fd_Q_run_43 : decode b_Q_run 43 = .ok (.aload_n 0, 1) := by decide +kernel
theorem fd_Q_run_44 : decode b_Q_run 44 = .ok (.getfield 28, 3) := by decide +kernel
theorem fd_Q_run_47 : decode b_Q_run 47 = .ok (.iload_n 3, 1) := by decide +kernel
theorem fd_Q_run_48 : decode b_Q_run 48 = .ok (.iaload, 1) := by decide +kernel
theorem fd_Q_run_49 : decode b_Q_run 49 = .ok (.istore 4, 2) := by decide +kernel
theorem fd_Q_run_51 : decode b_Q_run 51 = .ok (.iload 4, 2) := by decide +kernel
theorem fd_Q_run_53 : decode b_Q_run 53 = .ok (.iconst (-1), 1) := by decide +kernel
theorem fd_Q_run_54 : decode b_Q_run 54 = .ok (.if_icmp .eq 22, 3) := by decide +kernel
theorem fd_Q_run_57 : decode b_Q_run 57 = .ok (.aload_n 0, 1) := by decide +kernel
theorem fd_Q_run_58 : decode b_Q_run 58 = .ok (.iload_n 3, 1) := by decide +kernel
theorem fd_Q_run_59 : decode b_Q_run 59 = .ok (.iload 4, 2) := by decide +kernel
theorem fd_Q_run_61 : decode b_Q_run 61 = .ok (.invokevirtual 122, 3) := by decide +kernel
theorem fd_Q_run_64 : decode b_Q_run 64 = .ok (.aload_n 0, 1) := by decide +kernel
theorem fd_Q_run_65 : decode b_Q_run 65 = .ok (.getfield 51, 3) := by decide +kernel
theorem fd_Q_run_68 : decode b_Q_run 68 = .ok (.iload 4, 2) := by decide +kernel
theorem fd_Q_run_70 : decode b_Q_run 70 = .ok (.iaload, 1) := by decide +kernel
theorem fd_Q_run_71 : decode b_Q_run 71 = .ok (.istore 4, 2) := by decide +kernel
theorem fd_Q_run_73 : decode b_Q_run 73 = .ok (.goto (-22), 3) := by decide +kernel
theorem fd_Q_run_76 : decode b_Q_run 76 = .ok (.goto (-55), 3) := by decide +kernel
theorem fd_Q_run_79 : decode b_Q_run 79 = .ok (.aload_n 0, 1) := by decide +kernel
theorem fd_Q_run_80 : decode b_Q_run 80 = .ok (.aload_n 0, 1) := by decide +kernel
theorem fd_Q_run_81 : decode b_Q_run 81 = .ok (.invokevirtual 125, 3) := by decide +kernel
theorem fd_Q_run_84 : decode b_Q_run 84 = .ok (.ifCond .ne 7, 3) := by decide +kernel
theorem fd_Q_run_87 : decode b_Q_run 87 = .ok (.iconst 1, 1) := by decide +kernel
theorem fd_Q_run_88 : decode b_Q_run 88 = .ok (.goto 4, 3) := by decide +kernel
theorem fd_Q_run_91 : decode b_Q_run 91 = .ok (.iconst 0, 1) := by decide +kernel
theorem fd_Q_run_92 : decode b_Q_run 92 = .ok (.putfield 104, 3) := by decide +kernel
theorem fd_Q_run_95 : decode b_Q_run 95 = .ok (.aload_n 0, 1) := by decide +kernel
theorem fd_Q_run_96 : decode b_Q_run 96 = .ok (.getfield 104, 3) := by decide +kernel
theorem fd_Q_run_99 : decode b_Q_run 99 = .ok (.ifCond .eq 7, 3) := by decide +kernel
theorem fd_Q_run_102 : decode b_Q_run 102 = .ok (.iconst 0, 1) := by decide +kernel
theorem fd_Q_run_103 : decode b_Q_run 103 = .ok (.goto 5, 3) := by decide +kernel
theorem fd_Q_run_106 : decode b_Q_run 106 = .ok (.bipush (-2), 2) := by decide +kernel
theorem fd_Q_run_108 : decode b_Q_run 108 = .ok (.ireturn, 1) := by decide +kernel
theorem fd_Q_isOver_0 : decode b_Q_isOver 0 = .ok (.iconst 0, 1) := by decide +kernel
theorem fd_Q_isOver_1 : decode b_Q_isOver 1 = .ok (.istore_n 1, 1) := by decide +kernel
theorem fd_Q_isOver_2 : decode b_Q_isOver 2 = .ok (.iconst 0, 1) := by decide +kernel
theorem fd_Q_isOver_3 : decode b_Q_isOver 3 = .ok (.istore_n 2, 1) := by decide +kernel
theorem fd_Q_isOver_4 : decode b_Q_isOver 4 = .ok (.iload_n 2, 1) := by decide +kernel
theorem fd_Q_isOver_5 : decode b_Q_isOver 5 = .ok (.aload_n 0, 1) := by decide +kernel
theorem fd_Q_isOver_6 : decode b_Q_isOver 6 = .ok (.getfield 41, 3) := by decide +kernel
theorem fd_Q_isOver_9 : decode b_Q_isOver 9 = .ok (.if_icmp .ge 64, 3) := by decide +kernel
theorem fd_Q_isOver_12 : decode b_Q_isOver 12 = .ok (.aload_n 0, 1) := by decide +kernel
theorem fd_Q_isOver_13 : decode b_Q_isOver 13 = .ok (.getfield 28, 3) := by decide +kernel
theorem fd_Q_isOver_16 : decode b_Q_isOver 16 = .ok (.iload_n 2, 1) := by decide +kernel
theorem fd_Q_isOver_17 : decode b_Q_isOver 17 = .ok (.iaload, 1) := by decide +kernel
theorem fd_Q_isOver_18 : decode b_Q_isOver 18 = .ok (.istore_n 3, 1) := by decide +kernel
theorem fd_Q_isOver_19 : decode b_Q_isOver 19 = .ok (.iload_n 3, 1) := by decide +kernel
theorem fd_Q_isOver_20 : decode b_Q_isOver 20 = .ok (.iconst (-1), 1) := by decide +kernel
theorem fd_Q_isOver_21 : decode b_Q_isOver 21 = .ok (.if_icmp .eq 46, 3) := by decide +kernel
theorem fd_Q_isOver_24 : decode b_Q_isOver 24 = .ok (.iload_n 1, 1) := by decide +kernel
theorem fd_Q_isOver_25 : decode b_Q_isOver 25 = .ok (.aload_n 0, 1) := by decide +kernel
theorem fd_Q_isOver_26 : decode b_Q_isOver 26 = .ok (.getfield 31, 3) := by decide +kernel
theorem fd_Q_isOver_29 : decode b_Q_isOver 29 = .ok (.iload_n 2, 1) := by decide +kernel
theorem fd_Q_isOver_30 : decode b_Q_isOver 30 = .ok (.iaload, 1) := by decide +kernel
theorem fd_Q_isOver_31 : decode b_Q_isOver 31 = .ok (.iconst (-1), 1) := by decide +kernel
theorem fd_Q_isOver_32 : decode b_Q_isOver 32 = .ok (.if_icmp .eq 22, 3) := by decide +kernel
theorem fd_Q_isOver_35 : decode b_Q_isOver 35 = .ok (.aload_n 0, 1) := by decide +kernel
theorem fd_Q_isOver_36 : decode b_Q_isOver 36 = .ok (.getfield 31, 3) := by decide +kernel
theorem fd_Q_isOver_39 : decode b_Q_isOver 39 = .ok (.aload_n 0, 1) := by decide +kernel
theorem fd_Q_isOver_40 : decode b_Q_isOver 40 = .ok (.getfield 54, 3) := by decide +kernel
theorem fd_Q_isOver_43 : decode b_Q_isOver 43 = .ok (.iload_n 3, 1) := by decide +kernel
theorem fd_Q_isOver_44 : decode b_Q_isOver 44 = .ok (.iaload, 1) := by decide +kernel
theorem fd_Q_isOver_45 : decode b_Q_isOver 45 = .ok (.iaload, 1) := by decide +kernel
theorem fd_Q_isOver_46 : decode b_Q_isOver 46 = .ok (.iconst (-1), 1) := by decide +kernel
theorem fd_Q_isOver_47 : decode b_Q_isOver 47 = .ok (.if_icmp .ne 7, 3) := by decide +kernel
theorem fd_Q_isOver_50 : decode b_Q_isOver 50 = .ok (.iconst 1, 1) := by decide +kernel
theorem fd_Q_isOver_51 : decode b_Q_isOver 51 = .ok (.goto 4, 3) := by decide +kernel
theorem fd_Q_isOver_54 : decode b_Q_isOver 54 = .ok (.iconst 0, 1) := by decide +kernel
theorem fd_Q_isOver_55 : decode b_Q_isOver 55 = .ok (.ior, 1) := by decide +kernel
theorem fd_Q_isOver_56 : decode b_Q_isOver 56 = .ok (.istore_n 1, 1) := by decide +kernel
theorem fd_Q_isOver_57 : decode b_Q_isOver 57 = .ok (.aload_n 0, 1) := by decide +kernel
theorem fd_Q_isOver_58 : decode b_Q_isOver 58 = .ok (.getfield 51, 3) := by decide +kernel
theorem fd_Q_isOver_61 : decode b_Q_isOver 61 = .ok (.iload_n 3, 1) := by decide +kernel
theorem fd_Q_isOver_62 : decode b_Q_isOver 62 = .ok (.iaload, 1) := by decide +kernel
theorem fd_Q_isOver_63 : decode b_Q_isOver 63 = .ok (.istore_n 3, 1) := by decide +kernel
theorem fd_Q_isOver_64 : decode b_Q_isOver 64 = .ok (.goto (-45), 3) := by decide +kernel
theorem fd_Q_isOver_67 : decode b_Q_isOver 67 = .ok (.iinc 2 1, 3) := by decide +kernel
theorem fd_Q_isOver_70 : decode b_Q_isOver 70 = .ok (.goto (-66), 3) := by decide +kernel
theorem fd_Q_isOver_73 : decode b_Q_isOver 73 = .ok (.iload_n 1, 1) := by decide +kernel
theorem fd_Q_isOver_74 : decode b_Q_isOver 74 = .ok (.ireturn, 1) := by decide +kernel
theorem fd_Q_distance_0 : decode b_Q_distance 0 = .ok (.aload_n 0, 1) := by decide +kernel
theorem fd_Q_distance_1 : decode b_Q_distance 1 = .ok (.getfield 104, 3) := by decide +kernel
theorem fd_Q_distance_4 : decode b_Q_distance 4 = .ok (.ifCond .eq 20, 3) := by decide +kernel
theorem fd_Q_distance_7 : decode b_Q_distance 7 = .ok (.aload_n 0, 1) := by decide +kernel
theorem fd_Q_distance_8 : decode b_Q_distance 8 = .ok (.iload_n 1, 1) := by decide +kernel
theorem fd_Q_distance_9 : decode b_Q_distance 9 = .ok (.invokevirtual 64, 3) := by decide +kernel
theorem fd_Q_distance_12 : decode b_Q_distance 12 = .ok (.ifCond .eq 12, 3) := by decide +kernel
theorem fd_Q_distance_15 : decode b_Q_distance 15 = .ok (.aload_n 0, 1) := by decide +kernel
theorem fd_Q_distance_16 : decode b_Q_distance 16 = .ok (.getfield 31, 3) := by decide +kernel
theorem fd_Q_distance_19 : decode b_Q_distance 19 = .ok (.iload_n 1, 1) := by decide +kernel
theorem fd_Q_distance_20 : decode b_Q_distance 20 = .ok (.iaload, 1) := by decide +kernel
theorem fd_Q_distance_21 : decode b_Q_distance 21 = .ok (.goto 4, 3) := by decide +kernel
theorem fd_Q_distance_24 : decode b_Q_distance 24 = .ok (.iconst (-1), 1) := by decide +kernel
theorem fd_Q_distance_25 : decode b_Q_distance 25 = .ok (.ireturn, 1) := by decide +kernel
theorem fd_Q_before_0 : decode b_Q_before 0 = .ok (.aload_n 0, 1) := by decide +kernel
theorem fd_Q_before_1 : decode b_Q_before 1 = .ok (.getfield 104, 3) := by decide +kernel
theorem fd_Q_before_4 : decode b_Q_before 4 = .ok (.ifCond .eq 20, 3) := by decide +kernel
theorem fd_Q_before_7 : decode b_Q_before 7 = .ok (.aload_n 0, 1) := by decide +kernel
theorem fd_Q_before_8 : decode b_Q_before 8 = .ok (.iload_n 1, 1) := by decide +kernel
theorem fd_Q_before_9 : decode b_Q_before 9 = .ok (.invokevirtual 64, 3) := by decide +kernel
theorem fd_Q_before_12 : decode b_Q_before 12 = .ok (.ifCond .eq 12, 3) := by decide +kernel
theorem fd_Q_before_15 : decode b_Q_before 15 = .ok (.aload_n 0, 1) := by decide +kernel
theorem fd_Q_before_16 : decode b_Q_before 16 = .ok (.getfield 34, 3) := by decide +kernel
theorem fd_Q_before_19 : decode b_Q_before 19 = .ok (.iload_n 1, 1) := by decide +kernel
theorem fd_Q_before_20 : decode b_Q_before 20 = .ok (.iaload, 1) := by decide +kernel
theorem fd_Q_before_21 : decode b_Q_before 21 = .ok (.goto 4, 3) := by decide +kernel
theorem fd_Q_before_24 : decode b_Q_before 24 = .ok (.iconst (-1), 1) := by decide +kernel
theorem fd_Q_before_25 : decode b_Q_before 25 = .ok (.ireturn, 1) := by decide +kernel
theorem fd_Q_floor_0 : decode b_Q_floor 0 = .ok (.aload_n 0, 1) := by decide +kernel
theorem fd_Q_floor_1 : decode b_Q_floor 1 = .ok (.getfield 68, 3) := by decide +kernel
theorem fd_Q_floor_4 : decode b_Q_floor 4 = .ok (.ireturn, 1) := by decide +kernel
theorem fd_Q_size_0 : decode b_Q_size 0 = .ok (.aload_n 0, 1) := by decide +kernel
theorem fd_Q_size_1 : decode b_Q_size 1 = .ok (.getfield 82, 3) := by decide +kernel
theorem fd_Q_size_4 : decode b_Q_size 4 = .ok (.ireturn, 1) := by decide +kernel
theorem fd_Q_key_0 : decode b_Q_key 0 = .ok (.aload_n 0, 1) := by decide +kernel
theorem fd_Q_key_1 : decode b_Q_key 1 = .ok (.iload_n 1, 1) := by decide +kernel
theorem fd_Q_key_2 : decode b_Q_key 2 = .ok (.invokevirtual 88, 3) := by decide +kernel
theorem fd_Q_key_5 : decode b_Q_key 5 = .ok (.ifCond .eq 12, 3) := by decide +kernel
theorem fd_Q_key_8 : decode b_Q_key 8 = .ok (.aload_n 0, 1) := by decide +kernel
theorem fd_Q_key_9 : decode b_Q_key 9 = .ok (.getfield 22, 3) := by decide +kernel
theorem fd_Q_key_12 : decode b_Q_key 12 = .ok (.iload_n 1, 1) := by decide +kernel
theorem fd_Q_key_13 : decode b_Q_key 13 = .ok (.iaload, 1) := by decide +kernel
theorem fd_Q_key_14 : decode b_Q_key 14 = .ok (.goto 4, 3) := by decide +kernel
theorem fd_Q_key_17 : decode b_Q_key 17 = .ok (.iconst (-1), 1) := by decide +kernel
theorem fd_Q_key_18 : decode b_Q_key 18 = .ok (.ireturn, 1) := by decide +kernel
theorem fd_Q_bucket_0 : decode b_Q_bucket 0 = .ok (.aload_n 0, 1) := by decide +kernel
theorem fd_Q_bucket_1 : decode b_Q_bucket 1 = .ok (.iload_n 1, 1) := by decide +kernel
theorem fd_Q_bucket_2 : decode b_Q_bucket 2 = .ok (.invokevirtual 88, 3) := by decide +kernel
theorem fd_Q_bucket_5 : decode b_Q_bucket 5 = .ok (.ifCond .eq 12, 3) := by decide +kernel
theorem fd_Q_bucket_8 : decode b_Q_bucket 8 = .ok (.aload_n 0, 1) := by decide +kernel
theorem fd_Q_bucket_9 : decode b_Q_bucket 9 = .ok (.getfield 25, 3) := by decide +kernel
theorem fd_Q_bucket_12 : decode b_Q_bucket 12 = .ok (.iload_n 1, 1) := by decide +kernel
theorem fd_Q_bucket_13 : decode b_Q_bucket 13 = .ok (.iaload, 1) := by decide +kernel
theorem fd_Q_bucket_14 : decode b_Q_bucket 14 = .ok (.goto 4, 3) := by decide +kernel
theorem fd_Q_bucket_17 : decode b_Q_bucket 17 = .ok (.iconst (-1), 1) := by decide +kernel
theorem fd_Q_bucket_18 : decode b_Q_bucket 18 = .ok (.ireturn, 1) := by decide +kernel
theorem fd_Q_many_0 : decode b_Q_many 0 = .ok (.iload_n 1, 1) := by decide +kernel
theorem fd_Q_many_1 : decode b_Q_many 1 = .ok (.iconst 0, 1) := by decide +kernel
theorem fd_Q_many_2 : decode b_Q_many 2 = .ok (.bipush 31, 2) := by decide +kernel
theorem fd_Q_many_4 : decode b_Q_many 4 = .ok (.invokestatic 60, 3) := by decide +kernel
theorem fd_Q_many_7 : decode b_Q_many 7 = .ok (.ifCond .eq 12, 3) := by decide +kernel
theorem fd_Q_many_10 : decode b_Q_many 10 = .ok (.aload_n 0, 1) := by decide +kernel
theorem fd_Q_many_11 : decode b_Q_many 11 = .ok (.getfield 13, 3) := by decide +kernel
theorem fd_Q_many_14 : decode b_Q_many 14 = .ok (.iload_n 1, 1) := by decide +kernel
theorem fd_Q_many_15 : decode b_Q_many 15 = .ok (.iaload, 1) := by decide +kernel
theorem fd_Q_many_16 : decode b_Q_many 16 = .ok (.goto 4, 3) := by decide +kernel
theorem fd_Q_many_19 : decode b_Q_many 19 = .ok (.iconst (-1), 1) := by decide +kernel
theorem fd_Q_many_20 : decode b_Q_many 20 = .ok (.ireturn, 1) := by decide +kernel
theorem fd_Q_placed_0 : decode b_Q_placed 0 = .ok (.aload_n 0, 1) := by decide +kernel
theorem fd_Q_placed_1 : decode b_Q_placed 1 = .ok (.getfield 71, 3) := by decide +kernel
theorem fd_Q_placed_4 : decode b_Q_placed 4 = .ok (.ireturn, 1) := by decide +kernel
theorem fd_Q_sound_0 : decode b_Q_sound 0 = .ok (.aload_n 0, 1) := by decide +kernel
theorem fd_Q_sound_1 : decode b_Q_sound 1 = .ok (.getfield 71, 3) := by decide +kernel
theorem fd_Q_sound_4 : decode b_Q_sound 4 = .ok (.i2l, 1) := by decide +kernel
theorem fd_Q_sound_5 : decode b_Q_sound 5 = .ok (.ldc2_w 129, 3) := by decide +kernel
theorem fd_Q_sound_8 : decode b_Q_sound 8 = .ok (.aload_n 0, 1) := by decide +kernel
theorem fd_Q_sound_9 : decode b_Q_sound 9 = .ok (.getfield 85, 3) := by decide +kernel
theorem fd_Q_sound_12 : decode b_Q_sound 12 = .ok (.i2l, 1) := by decide +kernel
theorem fd_Q_sound_13 : decode b_Q_sound 13 = .ok (.lmul, 1) := by decide +kernel
theorem fd_Q_sound_14 : decode b_Q_sound 14 = .ok (.lcmp, 1) := by decide +kernel
theorem fd_Q_sound_15 : decode b_Q_sound 15 = .ok (.ifCond .gt 7, 3) := by decide +kernel
theorem fd_Q_sound_18 : decode b_Q_sound 18 = .ok (.iconst 1, 1) := by decide +kernel
theorem fd_Q_sound_19 : decode b_Q_sound 19 = .ok (.goto 4, 3) := by decide +kernel
theorem fd_Q_sound_22 : decode b_Q_sound 22 = .ok (.iconst 0, 1) := by decide +kernel
theorem fd_Q_sound_23 : decode b_Q_sound 23 = .ok (.istore_n 1, 1) := by decide +kernel
theorem fd_Q_sound_24 : decode b_Q_sound 24 = .ok (.iconst 0, 1) := by decide +kernel
theorem fd_Q_sound_25 : decode b_Q_sound 25 = .ok (.istore_n 2, 1) := by decide +kernel
theorem fd_Q_sound_26 : decode b_Q_sound 26 = .ok (.iload_n 2, 1) := by decide +kernel
theorem fd_Q_sound_27 : decode b_Q_sound 27 = .ok (.aload_n 0, 1) := by decide +kernel
theorem fd_Q_sound_28 : decode b_Q_sound 28 = .ok (.getfield 41, 3) := by decide +kernel
theorem fd_Q_sound_31 : decode b_Q_sound 31 = .ok (.if_icmp .ge 59, 3) := by decide +kernel
theorem fd_Q_sound_34 : decode b_Q_sound 34 = .ok (.iload_n 1, 1) := by decide +kernel
theorem fd_Q_sound_35 : decode b_Q_sound 35 = .ok (.aload_n 0, 1) := by decide +kernel
theorem fd_Q_sound_36 : decode b_Q_sound 36 = .ok (.getfield 25, 3) := by decide +kernel
theorem fd_Q_sound_39 : decode b_Q_sound 39 = .ok (.iload_n 2, 1) := by decide +kernel
theorem fd_Q_sound_40 : decode b_Q_sound 40 = .ok (.iaload, 1) := by decide +kernel
theorem fd_Q_sound_41 : decode b_Q_sound 41 = .ok (.iconst (-1), 1) := by decide +kernel
theorem fd_Q_sound_42 : decode b_Q_sound 42 = .ok (.if_icmp .eq 35, 3) := by decide +kernel
theorem fd_Q_sound_45 : decode b_Q_sound 45 = .ok (.aload_n 0, 1) := by decide +kernel
theorem fd_Q_sound_46 : decode b_Q_sound 46 = .ok (.getfield 25, 3) := by decide +kernel
theorem fd_Q_sound_49 : decode b_Q_sound 49 = .ok (.iload_n 2, 1) := by decide +kernel
theorem fd_Q_sound_50 : decode b_Q_sound 50 = .ok (.iaload, 1) := by decide +kernel
theorem fd_Q_sound_51 : decode b_Q_sound 51 = .ok (.aload_n 0, 1) := by decide +kernel
theorem fd_Q_sound_52 : decode b_Q_sound 52 = .ok (.aload_n 0, 1) := by decide +kernel
theorem fd_Q_sound_53 : decode b_Q_sound 53 = .ok (.getfield 22, 3) := by decide +kernel
theorem fd_Q_sound_56 : decode b_Q_sound 56 = .ok (.iload_n 2, 1) := by decide +kernel
theorem fd_Q_sound_57 : decode b_Q_sound 57 = .ok (.iaload, 1) := by decide +kernel
theorem fd_Q_sound_58 : decode b_Q_sound 58 = .ok (.invokevirtual 74, 3) := by decide +kernel
theorem fd_Q_sound_61 : decode b_Q_sound 61 = .ok (.if_icmp .ne 20, 3) := by decide +kernel
theorem fd_Q_sound_64 : decode b_Q_sound 64 = .ok (.aload_n 0, 1) := by decide +kernel
theorem fd_Q_sound_65 : decode b_Q_sound 65 = .ok (.getfield 22, 3) := by decide +kernel
theorem fd_Q_sound_68 : decode b_Q_sound 68 = .ok (.iload_n 2, 1) := by decide +kernel
theorem fd_Q_sound_69 : decode b_Q_sound 69 = .ok (.iaload, 1) := by decide +kernel
theorem fd_Q_sound_70 : decode b_Q_sound 70 = .ok (.aload_n 0, 1) := by decide +kernel
theorem fd_Q_sound_71 : decode b_Q_sound 71 = .ok (.getfield 68, 3) := by decide +kernel
theorem fd_Q_sound_74 : decode b_Q_sound 74 = .ok (.if_icmp .lt 7, 3) := by decide +kernel
theorem fd_Q_sound_77 : decode b_Q_sound 77 = .ok (.iconst 1, 1) := by decide +kernel
theorem fd_Q_sound_78 : decode b_Q_sound 78 = .ok (.goto 4, 3) := by decide +kernel
theorem fd_Q_sound_81 : decode b_Q_sound 81 = .ok (.iconst 0, 1) := by decide +kernel
theorem fd_Q_sound_82 : decode b_Q_sound 82 = .ok (.iand, 1) := by decide +kernel
theorem fd_Q_sound_83 : decode b_Q_sound 83 = .ok (.istore_n 1, 1) := by decide +kernel
theorem fd_Q_sound_84 : decode b_Q_sound 84 = .ok (.iinc 2 1, 3) := by decide +kernel
theorem fd_Q_sound_87 : decode b_Q_sound 87 = .ok (.goto (-61), 3) := by decide +kernel
theorem fd_Q_sound_90 : decode b_Q_sound 90 = .ok (.iload_n 1, 1) := by decide +kernel
theorem fd_Q_sound_91 : decode b_Q_sound 91 = .ok (.ireturn, 1) := by decide +kernel
theorem fd_Q_count_0 : decode b_Q_count 0 = .ok (.iload_n 1, 1) := by decide +kernel
theorem fd_Q_count_1 : decode b_Q_count 1 = .ok (.tableswitch 42 0 2 #[27, 32, 37], 27) := by decide +kernel
theorem fd_Q_count_28 : decode b_Q_count 28 = .ok (.aload_n 0, 1) := by decide +kernel
theorem fd_Q_count_29 : decode b_Q_count 29 = .ok (.getfield 41, 3) := by decide +kernel
theorem fd_Q_count_32 : decode b_Q_count 32 = .ok (.ireturn, 1) := by decide +kernel
theorem fd_Q_count_33 : decode b_Q_count 33 = .ok (.aload_n 0, 1) := by decide +kernel
theorem fd_Q_count_34 : decode b_Q_count 34 = .ok (.getfield 101, 3) := by decide +kernel
theorem fd_Q_count_37 : decode b_Q_count 37 = .ok (.ireturn, 1) := by decide +kernel
theorem fd_Q_count_38 : decode b_Q_count 38 = .ok (.aload_n 0, 1) := by decide +kernel
theorem fd_Q_count_39 : decode b_Q_count 39 = .ok (.getfield 85, 3) := by decide +kernel
theorem fd_Q_count_42 : decode b_Q_count 42 = .ok (.ireturn, 1) := by decide +kernel
theorem fd_Q_count_43 : decode b_Q_count 43 = .ok (.iconst (-1), 1) := by decide +kernel
theorem fd_Q_count_44 : decode b_Q_count 44 = .ok (.ireturn, 1) := by decide +kernel
theorem fd_M_init_0 : decode b_M_init 0 = .ok (.aload_n 0, 1) := by decide +kernel
theorem fd_M_init_1 : decode b_M_init 1 = .ok (.invokespecial 1, 3) := by decide +kernel
theorem fd_M_init_4 : decode b_M_init 4 = .ok (.aload_n 0, 1) := by decide +kernel
theorem fd_M_init_5 : decode b_M_init 5 = .ok (.bipush 40, 2) := by decide +kernel
theorem fd_M_init_7 : decode b_M_init 7 = .ok (.newarray .int, 2) := by decide +kernel
theorem fd_M_init_9 : decode b_M_init 9 = .ok (.putfield 7, 3) := by decide +kernel
theorem fd_M_init_12 : decode b_M_init 12 = .ok (.aload_n 0, 1) := by decide +kernel
theorem fd_M_init_13 : decode b_M_init 13 = .ok (.sipush 300, 3) := by decide +kernel
theorem fd_M_init_16 : decode b_M_init 16 = .ok (.newarray .int, 2) := by decide +kernel
theorem fd_M_init_18 : decode b_M_init 18 = .ok (.putfield 13, 3) := by decide +kernel
theorem fd_M_init_21 : decode b_M_init 21 = .ok (.aload_n 0, 1) := by decide +kernel
theorem fd_M_init_22 : decode b_M_init 22 = .ok (.sipush 300, 3) := by decide +kernel
theorem fd_M_init_25 : decode b_M_init 25 = .ok (.newarray .int, 2) := by decide +kernel
theorem fd_M_init_27 : decode b_M_init 27 = .ok (.putfield 16, 3) := by decide +kernel
theorem fd_M_init_30 : decode b_M_init 30 = .ok (.aload_n 0, 1) := by decide +kernel
theorem fd_M_init_31 : decode b_M_init 31 = .ok (.sipush 300, 3) := by decide +kernel
theorem fd_M_init_34 : decode b_M_init 34 = .ok (.newarray .int, 2) := by decide +kernel
theorem fd_M_init_36 : decode b_M_init 36 = .ok (.putfield 19, 3) := by decide +kernel
theorem fd_M_init_39 : decode b_M_init 39 = .ok (.aload_n 0, 1) := by decide +kernel
theorem fd_M_init_40 : decode b_M_init 40 = .ok (.bipush 40, 2) := by decide +kernel
theorem fd_M_init_42 : decode b_M_init 42 = .ok (.newarray .int, 2) := by decide +kernel
theorem fd_M_init_44 : decode b_M_init 44 = .ok (.putfield 22, 3) := by decide +kernel
theorem fd_M_init_47 : decode b_M_init 47 = .ok (.aload_n 0, 1) := by decide +kernel
theorem fd_M_init_48 : decode b_M_init 48 = .ok (.bipush 40, 2) := by decide +kernel
theorem fd_M_init_50 : decode b_M_init 50 = .ok (.newarray .int, 2) := by decide +kernel
theorem fd_M_init_52 : decode b_M_init 52 = .ok (.putfield 25, 3) := by decide +kernel
theorem fd_M_init_55 : decode b_M_init 55 = .ok (.aload_n 0, 1) := by decide +kernel
theorem fd_M_init_56 : decode b_M_init 56 = .ok (.bipush 40, 2) := by decide +kernel
theorem fd_M_init_58 : decode b_M_init 58 = .ok (.newarray .boolean, 2) := by decide +kernel
theorem fd_M_init_60 : decode b_M_init 60 = .ok (.putfield 28, 3) := by decide +kernel
theorem fd_M_init_63 : decode b_M_init 63 = .ok (.aload_n 0, 1) := by decide +kernel
theorem fd_M_init_64 : decode b_M_init 64 = .ok (.bipush 40, 2) := by decide +kernel
theorem fd_M_init_66 : decode b_M_init 66 = .ok (.newarray .boolean, 2) := by decide +kernel
theorem fd_M_init_68 : decode b_M_init 68 = .ok (.putfield 32, 3) := by decide +kernel
theorem fd_M_init_71 : decode b_M_init 71 = .ok (.aload_n 0, 1) := by decide +kernel
theorem fd_M_init_72 : decode b_M_init 72 = .ok (.iload_n 1, 1) := by decide +kernel
theorem fd_M_init_73 : decode b_M_init 73 = .ok (.iconst 1, 1) := by decide +kernel
theorem fd_M_init_74 : decode b_M_init 74 = .ok (.if_icmp .ge 7, 3) := by decide +kernel
theorem fd_M_init_77 : decode b_M_init 77 = .ok (.iconst 1, 1) := by decide +kernel
theorem fd_M_init_78 : decode b_M_init 78 = .ok (.goto 15, 3) := by decide +kernel
theorem fd_M_init_81 : decode b_M_init 81 = .ok (.iload_n 1, 1) := by decide +kernel
theorem fd_M_init_82 : decode b_M_init 82 = .ok (.bipush 40, 2) := by decide +kernel
theorem fd_M_init_84 : decode b_M_init 84 = .ok (.if_icmp .le 8, 3) := by decide +kernel
theorem fd_M_init_87 : decode b_M_init 87 = .ok (.bipush 40, 2) := by decide +kernel
theorem fd_M_init_89 : decode b_M_init 89 = .ok (.goto 4, 3) := by decide +kernel
theorem fd_M_init_92 : decode b_M_init 92 = .ok (.iload_n 1, 1) := by decide +kernel
theorem fd_M_init_93 : decode b_M_init 93 = .ok (.putfield 35, 3) := by decide +kernel
theorem fd_M_init_96 : decode b_M_init 96 = .ok (.aload_n 0, 1) := by decide +kernel
theorem fd_M_init_97 : decode b_M_init 97 = .ok (.iload_n 2, 1) := by decide +kernel
theorem fd_M_init_98 : decode b_M_init 98 = .ok (.iconst 1, 1) := by decide +kernel
theorem fd_M_init_99 : decode b_M_init 99 = .ok (.if_icmp .ge 7, 3) := by decide +kernel
theorem fd_M_init_102 : decode b_M_init 102 = .ok (.iconst 1, 1) := by decide +kernel
theorem fd_M_init_103 : decode b_M_init 103 = .ok (.goto 17, 3) := by decide +kernel
theorem fd_M_init_106 : decode b_M_init 106 = .ok (.iload_n 2, 1) := by decide +kernel
theorem fd_M_init_107 : decode b_M_init 107 = .ok (.sipush 300, 3) := by decide +kernel
theorem fd_M_init_110 : decode b_M_init 110 = .ok (.if_icmp .le 9, 3) := by decide +kernel
theorem fd_M_init_113 : decode b_M_init 113 = .ok (.sipush 300, 3) := by decide +kernel
theorem fd_M_init_116 : decode b_M_init 116 = .ok (.goto 4, 3) := by decide +kernel
theorem fd_M_init_119 : decode b_M_init 119 = .ok (.iload_n 2, 1) := by decide +kernel
theorem fd_M_init_120 : decode b_M_init 120 = .ok (.putfield 39, 3) := by decide +kernel
theorem fd_M_init_123 : decode b_M_init 123 = .ok (.aload_n 0, 1) := by decide +kernel
theorem fd_M_init_124 : decode b_M_init 124 = .ok (.iload_n 3, 1) := by decide +kernel
theorem fd_M_init_125 : decode b_M_init 125 = .ok (.ifCond .ge 7, 3) := by decide +kernel
theorem fd_M_init_128 : decode b_M_init 128 = .ok (.iconst 0, 1) := by decide +kernel
theorem fd_M_init_129 : decode b_M_init 129 = .ok (.goto 4, 3) := by decide +kernel
theorem fd_M_init_132 : decode b_M_init 132 = .ok (.iload_n 3, 1) := by decide +kernel
theorem fd_M_init_133 : decode b_M_init 133 = .ok (.putfield 42, 3) := by decide +kernel
theorem fd_M_init_136 : decode b_M_init 136 = .ok (.aload_n 0, 1) := by decide +kernel
theorem fd_M_init_137 : decode b_M_init 137 = .ok (.invokevirtual 45, 3) := by decide +kernel
theorem fd_M_init_140 : decode b_M_init 140 = .ok (.return_, 1) := by decide +kernel
end
section
theorem fd_M_clear_0 : decode b_M_clear 0 = .ok (.iconst 0, 1) := by decide +kernel
theorem fd_M_clear_1 : decode b_M_clear 1 = .ok (.istore_n 1, 1) := by decide +kernel
theorem fd_M_clear_2 : decode b_M_clear 2 = .ok (.iload_n 1, 1) := by decide +kernel
theorem fd_M_clear_3 : decode b_M_clear 3 = .ok (.bipush 40, 2) := by decide +kernel
theorem fd_M_clear_5 : decode b_M_clear 5 = .ok (.if_icmp .ge 16, 3) := by decide +kernel
theorem fd_M_clear_8 : decode b_M_clear 8 = .ok (.aload_n 0, 1) := by decide +kernel
theorem fd_M_clear_9 : decode b_M_clear 9 = .ok (.getfield 7, 3) := by decide +kernel
theorem fd_M_clear_12 : decode b_M_clear 12 = .ok (.iload_n 1, 1) := by decide +kernel
theorem fd_M_clear_13 : decode b_M_clear 13 = .ok (.iconst (-1), 1) := by decide +kernel
theorem fd_M_clear_14 : decode b_M_clear 14 = .ok (.iastore, 1) := by decide +kernel
theorem fd_M_clear_15 : decode b_M_clear 15 = .ok (.iinc 1 1, 3) := by decide +kernel
theorem fd_M_clear_18 : decode b_M_clear 18 = .ok (.goto (-16), 3) := by decide +kernel
theorem fd_M_clear_21 : decode b_M_clear 21 = .ok (.aload_n 0, 1) := by decide +kernel
theorem fd_M_clear_22 : decode b_M_clear 22 = .ok (.iconst 0, 1) := by decide +kernel
theorem fd_M_clear_23 : decode b_M_clear 23 = .ok (.putfield 48, 3) := by decide +kernel
theorem fd_M_clear_26 : decode b_M_clear 26 = .ok (.return_, 1) := by decide +kernel
theorem fd_M_isItem_0 : decode b_M_isItem 0 = .ok (.iload_n 1, 1) := by decide +kernel
theorem fd_M_isItem_1 : decode b_M_isItem 1 = .ok (.ifCond .lt 15, 3) := by decide +kernel
theorem fd_M_isItem_4 : decode b_M_isItem 4 = .ok (.iload_n 1, 1) := by decide +kernel
theorem fd_M_isItem_5 : decode b_M_isItem 5 = .ok (.aload_n 0, 1) := by decide +kernel
theorem fd_M_isItem_6 : decode b_M_isItem 6 = .ok (.getfield 35, 3) := by decide +kernel
theorem fd_M_isItem_9 : decode b_M_isItem 9 = .ok (.if_icmp .ge 7, 3) := by decide +kernel
theorem fd_M_isItem_12 : decode b_M_isItem 12 = .ok (.iconst 1, 1) := by decide +kernel
theorem fd_M_isItem_13 : decode b_M_isItem 13 = .ok (.goto 4, 3) := by decide +kernel
theorem fd_M_isItem_16 : decode b_M_isItem 16 = .ok (.iconst 0, 1) := by decide +kernel
theorem fd_M_isItem_17 : decode b_M_isItem 17 = .ok (.ireturn, 1) := by decide +kernel
theorem fd_M_isThere_0 : decode b_M_isThere 0 = .ok (.aload_n 0, 1) := by decide +kernel
theorem fd_M_isThere_1 : decode b_M_isThere 1 = .ok (.iload_n 1, 1) := by decide +kernel
theorem fd_M_isThere_2 : decode b_M_isThere 2 = .ok (.invokevirtual 51, 3) := by decide +kernel
theorem fd_M_isThere_5 : decode b_M_isThere 5 = .ok (.ifCond .eq 17, 3) := by decide +kernel
theorem fd_M_isThere_8 : decode b_M_isThere 8 = .ok (.aload_n 0, 1) := by decide +kernel
theorem fd_M_isThere_9 : decode b_M_isThere 9 = .ok (.getfield 7, 3) := by decide +kernel
theorem fd_M_isThere_12 : decode b_M_isThere 12 = .ok (.iload_n 1, 1) := by decide +kernel
theorem fd_M_isThere_13 : decode b_M_isThere 13 = .ok (.iaload, 1) := by decide +kernel
theorem fd_M_isThere_14 : decode b_M_isThere 14 = .ok (.iconst (-1), 1) := by decide +kernel
theorem fd_M_isThere_15 : decode b_M_isThere 15 = .ok (.if_icmp .eq 7, 3) := by decide +kernel
theorem fd_M_isThere_18 : decode b_M_isThere 18 = .ok (.iconst 1, 1) := by decide +kernel
theorem fd_M_isThere_19 : decode b_M_isThere 19 = .ok (.goto 4, 3) := by decide +kernel
theorem fd_M_isThere_22 : decode b_M_isThere 22 = .ok (.iconst 0, 1) := by decide +kernel
theorem fd_M_isThere_23 : decode b_M_isThere 23 = .ok (.ireturn, 1) := by decide +kernel
theorem fd_M_unlike_0 : decode b_M_unlike 0 = .ok (.iconst 0, 1) := by decide +kernel
theorem fd_M_unlike_1 : decode b_M_unlike 1 = .ok (.istore_n 2, 1) := by decide +kernel
theorem fd_M_unlike_2 : decode b_M_unlike 2 = .ok (.iconst 0, 1) := by decide +kernel
theorem fd_M_unlike_3 : decode b_M_unlike 3 = .ok (.istore_n 3, 1) := by decide +kernel
theorem fd_M_unlike_4 : decode b_M_unlike 4 = .ok (.iload_n 3, 1) := by decide +kernel
theorem fd_M_unlike_5 : decode b_M_unlike 5 = .ok (.bipush 31, 2) := by decide +kernel
theorem fd_M_unlike_7 : decode b_M_unlike 7 = .ok (.if_icmp .ge 30, 3) := by decide +kernel
theorem fd_M_unlike_10 : decode b_M_unlike 10 = .ok (.iload_n 0, 1) := by decide +kernel
theorem fd_M_unlike_11 : decode b_M_unlike 11 = .ok (.iload_n 3, 1) := by decide +kernel
theorem fd_M_unlike_12 : decode b_M_unlike 12 = .ok (.ishr, 1) := by decide +kernel
theorem fd_M_unlike_13 : decode b_M_unlike 13 = .ok (.iconst 1, 1) := by decide +kernel
theorem fd_M_unlike_14 : decode b_M_unlike 14 = .ok (.iand, 1) := by decide +kernel
theorem fd_M_unlike_15 : decode b_M_unlike 15 = .ok (.iload_n 1, 1) := by decide +kernel
theorem fd_M_unlike_16 : decode b_M_unlike 16 = .ok (.iload_n 3, 1) := by decide +kernel
theorem fd_M_unlike_17 : decode b_M_unlike 17 = .ok (.ishr, 1) := by decide +kernel
theorem fd_M_unlike_18 : decode b_M_unlike 18 = .ok (.iconst 1, 1) := by decide +kernel
theorem fd_M_unlike_19 : decode b_M_unlike 19 = .ok (.iand, 1) := by decide +kernel
theorem fd_M_unlike_20 : decode b_M_unlike 20 = .ok (.if_icmp .eq 9, 3) := by decide +kernel
theorem fd_M_unlike_23 : decode b_M_unlike 23 = .ok (.iload_n 3, 1) := by decide +kernel
theorem fd_M_unlike_24 : decode b_M_unlike 24 = .ok (.iconst 1, 1) := by decide +kernel
theorem fd_M_unlike_25 : decode b_M_unlike 25 = .ok (.iadd, 1) := by decide +kernel
theorem fd_M_unlike_26 : decode b_M_unlike 26 = .ok (.goto 4, 3) := by decide +kernel
theorem fd_M_unlike_29 : decode b_M_unlike 29 = .ok (.iload_n 2, 1) := by decide +kernel
theorem fd_M_unlike_30 : decode b_M_unlike 30 = .ok (.istore_n 2, 1) := by decide +kernel
theorem fd_M_unlike_31 : decode b_M_unlike 31 = .ok (.iinc 3 1, 3) := by decide +kernel
theorem fd_M_unlike_34 : decode b_M_unlike 34 = .ok (.goto (-30), 3) := by decide +kernel
theorem fd_M_unlike_37 : decode b_M_unlike 37 = .ok (.iload_n 2, 1) := by decide +kernel
theorem fd_M_unlike_38 : decode b_M_unlike 38 = .ok (.ireturn, 1) := by decide +kernel
theorem fd_M_push_0 : decode b_M_push 0 = .ok (.aload_n 0, 1) := by decide +kernel
theorem fd_M_push_1 : decode b_M_push 1 = .ok (.iload_n 1, 1) := by decide +kernel
theorem fd_M_push_2 : decode b_M_push 2 = .ok (.invokevirtual 51, 3) := by decide +kernel
theorem fd_M_push_5 : decode b_M_push 5 = .ok (.ifCond .eq 13, 3) := by decide +kernel
theorem fd_M_push_8 : decode b_M_push 8 = .ok (.aload_n 0, 1) := by decide +kernel
theorem fd_M_push_9 : decode b_M_push 9 = .ok (.getfield 7, 3) := by decide +kernel
theorem fd_M_push_12 : decode b_M_push 12 = .ok (.iload_n 1, 1) := by decide +kernel
theorem fd_M_push_13 : decode b_M_push 13 = .ok (.iaload, 1) := by decide +kernel
theorem fd_M_push_14 : decode b_M_push 14 = .ok (.iconst (-1), 1) := by decide +kernel
theorem fd_M_push_15 : decode b_M_push 15 = .ok (.if_icmp .eq 5, 3) := by decide +kernel
theorem fd_M_push_18 : decode b_M_push 18 = .ok (.iconst (-1), 1) := by decide +kernel
theorem fd_M_push_19 : decode b_M_push 19 = .ok (.ireturn, 1) := by decide +kernel
theorem fd_M_push_20 : decode b_M_push 20 = .ok (.iload_n 2, 1) := by decide +kernel
theorem fd_M_push_21 : decode b_M_push 21 = .ok (.aload_n 0, 1) := by decide +kernel
theorem fd_M_push_22 : decode b_M_push 22 = .ok (.getfield 48, 3) := by decide +kernel
theorem fd_M_push_25 : decode b_M_push 25 = .ok (.if_icmp .ge 6, 3) := by decide +kernel
theorem fd_M_push_28 : decode b_M_push 28 = .ok (.bipush (-2), 2) := by decide +kernel
theorem fd_M_push_30 : decode b_M_push 30 = .ok (.ireturn, 1) := by decide +kernel
theorem fd_M_push_31 : decode b_M_push 31 = .ok (.aload_n 0, 1) := by decide +kernel
theorem fd_M_push_32 : decode b_M_push 32 = .ok (.getfield 7, 3) := by decide +kernel
theorem fd_M_push_35 : decode b_M_push 35 = .ok (.iload_n 1, 1) := by decide +kernel
theorem fd_M_push_36 : decode b_M_push 36 = .ok (.iload_n 2, 1) := by decide +kernel
theorem fd_M_push_37 : decode b_M_push 37 = .ok (.iastore, 1) := by decide +kernel
theorem fd_M_push_38 : decode b_M_push 38 = .ok (.aload_n 0, 1) := by decide +kernel
theorem fd_M_push_39 : decode b_M_push 39 = .ok (.dup, 1) := by decide +kernel
theorem fd_M_push_40 : decode b_M_push 40 = .ok (.getfield 55, 3) := by decide +kernel
theorem fd_M_push_43 : decode b_M_push 43 = .ok (.iconst 1, 1) := by decide +kernel
theorem fd_M_push_44 : decode b_M_push 44 = .ok (.iadd, 1) := by decide +kernel
theorem fd_M_push_45 : decode b_M_push 45 = .ok (.putfield 55, 3) := by decide +kernel
theorem fd_M_push_48 : decode b_M_push 48 = .ok (.aload_n 0, 1) := by decide +kernel
theorem fd_M_push_49 : decode b_M_push 49 = .ok (.dup, 1) := by decide +kernel
theorem fd_M_push_50 : decode b_M_push 50 = .ok (.getfield 58, 3) := by decide +kernel
theorem fd_M_push_53 : decode b_M_push 53 = .ok (.iconst 1, 1) := by decide +kernel
theorem fd_M_push_54 : decode b_M_push 54 = .ok (.iadd, 1) := by decide +kernel
theorem fd_M_push_55 : decode b_M_push 55 = .ok (.putfield 58, 3) := by decide +kernel
theorem fd_M_push_58 : decode b_M_push 58 = .ok (.iconst 0, 1) := by decide +kernel
theorem fd_M_push_59 : decode b_M_push 59 = .ok (.ireturn, 1) := by decide +kernel
theorem fd_M_lower_0 : decode b_M_lower 0 = .ok (.aload_n 0, 1) := by decide +kernel
theorem fd_M_lower_1 : decode b_M_lower 1 = .ok (.iload_n 1, 1) := by decide +kernel
theorem fd_M_lower_2 : decode b_M_lower 2 = .ok (.invokevirtual 61, 3) := by decide +kernel
theorem fd_M_lower_5 : decode b_M_lower 5 = .ok (.ifCond .ne 5, 3) := by decide +kernel
theorem fd_M_lower_8 : decode b_M_lower 8 = .ok (.iconst (-1), 1) := by decide +kernel
theorem fd_M_lower_9 : decode b_M_lower 9 = .ok (.ireturn, 1) := by decide +kernel
theorem fd_M_lower_10 : decode b_M_lower 10 = .ok (.iload_n 2, 1) := by decide +kernel
theorem fd_M_lower_11 : decode b_M_lower 11 = .ok (.aload_n 0, 1) := by decide +kernel
theorem fd_M_lower_12 : decode b_M_lower 12 = .ok (.getfield 48, 3) := by decide +kernel
theorem fd_M_lower_15 : decode b_M_lower 15 = .ok (.if_icmp .lt 13, 3) := by decide +kernel
theorem fd_M_lower_18 : decode b_M_lower 18 = .ok (.iload_n 2, 1) := by decide +kernel
theorem fd_M_lower_19 : decode b_M_lower 19 = .ok (.aload_n 0, 1) := by decide +kernel
theorem fd_M_lower_20 : decode b_M_lower 20 = .ok (.getfield 7, 3) := by decide +kernel
theorem fd_M_lower_23 : decode b_M_lower 23 = .ok (.iload_n 1, 1) := by decide +kernel
theorem fd_M_lower_24 : decode b_M_lower 24 = .ok (.iaload, 1) := by decide +kernel
theorem fd_M_lower_25 : decode b_M_lower 25 = .ok (.if_icmp .le 6, 3) := by decide +kernel
theorem fd_M_lower_28 : decode b_M_lower 28 = .ok (.bipush (-2), 2) := by decide +kernel
theorem fd_M_lower_30 : decode b_M_lower 30 = .ok (.ireturn, 1) := by decide +kernel
theorem fd_M_lower_31 : decode b_M_lower 31 = .ok (.aload_n 0, 1) := by decide +kernel
theorem fd_M_lower_32 : decode b_M_lower 32 = .ok (.dup, 1) := by decide +kernel
theorem fd_M_lower_33 : decode b_M_lower 33 = .ok (.getfield 55, 3) := by decide +kernel
theorem fd_M_lower_36 : decode b_M_lower 36 = .ok (.iload_n 2, 1) := by decide +kernel
theorem fd_M_lower_37 : decode b_M_lower 37 = .ok (.aload_n 0, 1) := by decide +kernel
theorem fd_M_lower_38 : decode b_M_lower 38 = .ok (.getfield 48, 3) := by decide +kernel
theorem fd_M_lower_41 : decode b_M_lower 41 = .ok (.invokestatic 64, 3) := by decide +kernel
theorem fd_M_lower_44 : decode b_M_lower 44 = .ok (.aload_n 0, 1) := by decide +kernel
theorem fd_M_lower_45 : decode b_M_lower 45 = .ok (.getfield 7, 3) := by decide +kernel
theorem fd_M_lower_48 : decode b_M_lower 48 = .ok (.iload_n 1, 1) := by decide +kernel
theorem fd_M_lower_49 : decode b_M_lower 49 = .ok (.iaload, 1) := by decide +kernel
theorem fd_M_lower_50 : decode b_M_lower 50 = .ok (.aload_n 0, 1) := by decide +kernel
theorem fd_M_lower_51 : decode b_M_lower 51 = .ok (.getfield 48, 3) := by decide +kernel
theorem fd_M_lower_54 : decode b_M_lower 54 = .ok (.invokestatic 64, 3) := by decide +kernel
theorem fd_M_lower_57 : decode b_M_lower 57 = .ok (.if_icmp .eq 7, 3) := by decide +kernel
theorem fd_M_lower_60 : decode b_M_lower 60 = .ok (.iconst 1, 1) := by decide +kernel
theorem fd_M_lower_61 : decode b_M_lower 61 = .ok (.goto 4, 3) := by decide +kernel
theorem fd_M_lower_64 : decode b_M_lower 64 = .ok (.iconst 0, 1) := by decide +kernel
theorem fd_M_lower_65 : decode b_M_lower 65 = .ok (.iadd, 1) := by decide +kernel
theorem fd_M_lower_66 : decode b_M_lower 66 = .ok (.putfield 55, 3) := by decide +kernel
theorem fd_M_lower_69 : decode b_M_lower 69 = .ok (.aload_n 0, 1) := by decide +kernel
theorem fd_M_lower_70 : decode b_M_lower 70 = .ok (.getfield 7, 3) := by decide +kernel
theorem fd_M_lower_73 : decode b_M_lower 73 = .ok (.iload_n 1, 1) := by decide +kernel
theorem fd_M_lower_74 : decode b_M_lower 74 = .ok (.iload_n 2, 1) := by decide +kernel
theorem fd_M_lower_75 : decode b_M_lower 75 = .ok (.iastore, 1) := by decide +kernel
theorem fd_M_lower_76 : decode b_M_lower 76 = .ok (.aload_n 0, 1) := by decide +kernel
theorem fd_M_lower_77 : decode b_M_lower 77 = .ok (.dup, 1) := by decide +kernel
theorem fd_M_lower_78 : decode b_M_lower 78 = .ok (.getfield 58, 3) := by decide +kernel
theorem fd_M_lower_81 : decode b_M_lower 81 = .ok (.iconst 1, 1) := by decide +kernel
theorem fd_M_lower_82 : decode b_M_lower 82 = .ok (.iadd, 1) := by decide +kernel
theorem fd_M_lower_83 : decode b_M_lower 83 = .ok (.putfield 58, 3) := by decide +kernel
theorem fd_M_lower_86 : decode b_M_lower 86 = .ok (.iconst 0, 1) := by decide +kernel
theorem fd_M_lower_87 : decode b_M_lower 87 = .ok (.ireturn, 1) := by decide +kernel
theorem fd_M_pop_0 : decode b_M_pop 0 = .ok (.iconst (-1), 1) := by decide +kernel
theorem fd_M_pop_1 : decode b_M_pop 1 = .ok (.istore_n 1, 1) := by decide +kernel
theorem fd_M_pop_2 : decode b_M_pop 2 = .ok (.aload_n 0, 1) := by decide +kernel
theorem fd_M_pop_3 : decode b_M_pop 3 = .ok (.getfield 35, 3) := by decide +kernel
theorem fd_M_pop_6 : decode b_M_pop 6 = .ok (.iconst 1, 1) := by decide +kernel
theorem fd_M_pop_7 : decode b_M_pop 7 = .ok (.isub, 1) := by decide +kernel
theorem fd_M_pop_8 : decode b_M_pop 8 = .ok (.istore_n 2, 1) := by decide +kernel
theorem fd_M_pop_9 : decode b_M_pop 9 = .ok (.iload_n 2, 1) := by decide +kernel
theorem fd_M_pop_10 : decode b_M_pop 10 = .ok (.ifCond .lt 41, 3) := by decide +kernel
theorem fd_M_pop_13 : decode b_M_pop 13 = .ok (.aload_n 0, 1) := by decide +kernel
theorem fd_M_pop_14 : decode b_M_pop 14 = .ok (.getfield 7, 3) := by decide +kernel
theorem fd_M_pop_17 : decode b_M_pop 17 = .ok (.iload_n 2, 1) := by decide +kernel
theorem fd_M_pop_18 : decode b_M_pop 18 = .ok (.iaload, 1) := by decide +kernel
theorem fd_M_pop_19 : decode b_M_pop 19 = .ok (.iconst (-1), 1) := by decide +kernel
theorem fd_M_pop_20 : decode b_M_pop 20 = .ok (.if_icmp .eq 25, 3) := by decide +kernel
theorem fd_M_pop_23 : decode b_M_pop 23 = .ok (.iload_n 1, 1) := by decide +kernel
theorem fd_M_pop_24 : decode b_M_pop 24 = .ok (.iconst (-1), 1) := by decide +kernel
theorem fd_M_pop_25 : decode b_M_pop 25 = .ok (.if_icmp .eq 18, 3) := by decide +kernel
theorem fd_M_pop_28 : decode b_M_pop 28 = .ok (.aload_n 0, 1) := by decide +kernel
theorem fd_M_pop_29 : decode b_M_pop 29 = .ok (.getfield 7, 3) := by decide +kernel
theorem fd_M_pop_32 : decode b_M_pop 32 = .ok (.iload_n 2, 1) := by decide +kernel
theorem fd_M_pop_33 : decode b_M_pop 33 = .ok (.iaload, 1) := by decide +kernel
theorem fd_M_pop_34 : decode b_M_pop 34 = .ok (.aload_n 0, 1) := by decide +kernel
theorem fd_M_pop_35 : decode b_M_pop 35 = .ok (.getfield 7, 3) := by decide +kernel
theorem fd_M_pop_38 : decode b_M_pop 38 = .ok (.iload_n 1, 1) := by decide +kernel
theorem fd_M_pop_39 : decode b_M_pop 39 = .ok (.iaload, 1) := by decide +kernel
theorem fd_M_pop_40 : decode b_M_pop 40 = .ok (.if_icmp .gt 5, 3) := by decide +kernel
theorem fd_M_pop_43 : decode b_M_pop 43 = .ok (.iload_n 2, 1) := by decide +kernel
theorem fd_M_pop_44 : decode b_M_pop 44 = .ok (.istore_n 1, 1) := by decide +kernel
theorem fd_M_pop_45 : decode b_M_pop 45 = .ok (.iinc 2 (-1), 3) := by decide +kernel
theorem fd_M_pop_48 : decode b_M_pop 48 = .ok (.goto (-39), 3) := by decide +kernel
theorem fd_M_pop_51 : decode b_M_pop 51 = .ok (.iload_n 1, 1) := by decide +kernel
theorem fd_M_pop_52 : decode b_M_pop 52 = .ok (.iconst (-1), 1) := by decide +kernel
theorem fd_M_pop_53 : decode b_M_pop 53 = .ok (.if_icmp .ne 5, 3) := by decide +kernel
theorem fd_M_pop_56 : decode b_M_pop 56 = .ok (.iconst (-1), 1) := by decide +kernel
theorem fd_M_pop_57 : decode b_M_pop 57 = .ok (.ireturn, 1) := by decide +kernel
theorem fd_M_pop_58 : decode b_M_pop 58 = .ok (.aload_n 0, 1) := by decide +kernel
theorem fd_M_pop_59 : decode b_M_pop 59 = .ok (.getfield 7, 3) := by decide +kernel
theorem fd_M_pop_62 : decode b_M_pop 62 = .ok (.iload_n 1, 1) := by decide +kernel
theorem fd_M_pop_63 : decode b_M_pop 63 = .ok (.iaload, 1) := by decide +kernel
theorem fd_M_pop_64 : decode b_M_pop 64 = .ok (.aload_n 0, 1) := by decide +kernel
theorem fd_M_pop_65 : decode b_M_pop 65 = .ok (.getfield 48, 3) := by decide +kernel
theorem fd_M_pop_68 : decode b_M_pop 68 = .ok (.invokestatic 64, 3) := by decide +kernel
theorem fd_M_pop_71 : decode b_M_pop 71 = .ok (.istore_n 2, 1) := by decide +kernel
theorem fd_M_pop_72 : decode b_M_pop 72 = .ok (.iload_n 2, 1) := by decide +kernel
theorem fd_M_pop_73 : decode b_M_pop 73 = .ok (.ifCond .le 70, 3) := by decide +kernel
theorem fd_M_pop_76 : decode b_M_pop 76 = .ok (.iconst 0, 1) := by decide +kernel
theorem fd_M_pop_77 : decode b_M_pop 77 = .ok (.istore_n 3, 1) := by decide +kernel
theorem fd_M_pop_78 : decode b_M_pop 78 = .ok (.iload_n 3, 1) := by decide +kernel
theorem fd_M_pop_79 : decode b_M_pop 79 = .ok (.aload_n 0, 1) := by decide +kernel
theorem fd_M_pop_80 : decode b_M_pop 80 = .ok (.getfield 35, 3) := by decide +kernel
theorem fd_M_pop_83 : decode b_M_pop 83 = .ok (.if_icmp .ge 50, 3) := by decide +kernel
theorem fd_M_pop_86 : decode b_M_pop 86 = .ok (.aload_n 0, 1) := by decide +kernel
theorem fd_M_pop_87 : decode b_M_pop 87 = .ok (.dup, 1) := by decide +kernel
theorem fd_M_pop_88 : decode b_M_pop 88 = .ok (.getfield 55, 3) := by decide +kernel
theorem fd_M_pop_91 : decode b_M_pop 91 = .ok (.aload_n 0, 1) := by decide +kernel
theorem fd_M_pop_92 : decode b_M_pop 92 = .ok (.getfield 7, 3) := by decide +kernel
theorem fd_M_pop_95 : decode b_M_pop 95 = .ok (.iload_n 3, 1) := by decide +kernel
theorem fd_M_pop_96 : decode b_M_pop 96 = .ok (.iaload, 1) := by decide +kernel
theorem fd_M_pop_97 : decode b_M_pop 97 = .ok (.iconst (-1), 1) := by decide +kernel
theorem fd_M_pop_98 : decode b_M_pop 98 = .ok (.if_icmp .eq 24, 3) := by decide +kernel
theorem fd_M_pop_101 : decode b_M_pop 101 = .ok (.aload_n 0, 1) := by decide +kernel
theorem fd_M_pop_102 : decode b_M_pop 102 = .ok (.getfield 7, 3) := by decide +kernel
theorem fd_M_pop_105 : decode b_M_pop 105 = .ok (.iload_n 3, 1) := by decide +kernel
theorem fd_M_pop_106 : decode b_M_pop 106 = .ok (.iaload, 1) := by decide +kernel
theorem fd_M_pop_107 : decode b_M_pop 107 = .ok (.aload_n 0, 1) := by decide +kernel
theorem fd_M_pop_108 : decode b_M_pop 108 = .ok (.getfield 48, 3) := by decide +kernel
theorem fd_M_pop_111 : decode b_M_pop 111 = .ok (.invokestatic 64, 3) := by decide +kernel
theorem fd_M_pop_114 : decode b_M_pop 114 = .ok (.iload_n 2, 1) := by decide +kernel
theorem fd_M_pop_115 : decode b_M_pop 115 = .ok (.if_icmp .ne 7, 3) := by decide +kernel
theorem fd_M_pop_118 : decode b_M_pop 118 = .ok (.iconst 1, 1) := by decide +kernel
theorem fd_M_pop_119 : decode b_M_pop 119 = .ok (.goto 4, 3) := by decide +kernel
theorem fd_M_pop_122 : decode b_M_pop 122 = .ok (.iconst 0, 1) := by decide +kernel
theorem fd_M_pop_123 : decode b_M_pop 123 = .ok (.iadd, 1) := by decide +kernel
theorem fd_M_pop_124 : decode b_M_pop 124 = .ok (.putfield 55, 3) := by decide +kernel
theorem fd_M_pop_127 : decode b_M_pop 127 = .ok (.iinc 3 1, 3) := by decide +kernel
theorem fd_M_pop_130 : decode b_M_pop 130 = .ok (.goto (-52), 3) := by decide +kernel
theorem fd_M_pop_133 : decode b_M_pop 133 = .ok (.aload_n 0, 1) := by decide +kernel
theorem fd_M_pop_134 : decode b_M_pop 134 = .ok (.aload_n 0, 1) := by decide +kernel
theorem fd_M_pop_135 : decode b_M_pop 135 = .ok (.getfield 7, 3) := by decide +kernel
theorem fd_M_pop_138 : decode b_M_pop 138 = .ok (.iload_n 1, 1) := by decide +kernel
theorem fd_M_pop_139 : decode b_M_pop 139 = .ok (.iaload, 1) := by decide +kernel
theorem fd_M_pop_140 : decode b_M_pop 140 = .ok (.putfield 48, 3) := by decide +kernel
theorem fd_M_pop_143 : decode b_M_pop 143 = .ok (.aload_n 0, 1) := by decide +kernel
theorem fd_M_pop_144 : decode b_M_pop 144 = .ok (.getfield 7, 3) := by decide +kernel
theorem fd_M_pop_147 : decode b_M_pop 147 = .ok (.iload_n 1, 1) := by decide +kernel
theorem fd_M_pop_148 : decode b_M_pop 148 = .ok (.iconst (-1), 1) := by decide +kernel
theorem fd_M_pop_149 : decode b_M_pop 149 = .ok (.iastore, 1) := by decide +kernel
theorem fd_M_pop_150 : decode b_M_pop 150 = .ok (.iload_n 1, 1) := by decide +kernel
theorem fd_M_pop_151 : decode b_M_pop 151 = .ok (.ireturn, 1) := by decide +kernel
theorem fd_M_floor_0 : decode b_M_floor 0 = .ok (.aload_n 0, 1) := by decide +kernel
theorem fd_M_floor_1 : decode b_M_floor 1 = .ok (.getfield 48, 3) := by decide +kernel
theorem fd_M_floor_4 : decode b_M_floor 4 = .ok (.ireturn, 1) := by decide +kernel
theorem fd_M_size_0 : decode b_M_size 0 = .ok (.iconst 0, 1) := by decide +kernel
theorem fd_M_size_1 : decode b_M_size 1 = .ok (.istore_n 1, 1) := by decide +kernel
theorem fd_M_size_2 : decode b_M_size 2 = .ok (.iconst 0, 1) := by decide +kernel
theorem fd_M_size_3 : decode b_M_size 3 = .ok (.istore_n 2, 1) := by decide +kernel
theorem fd_M_size_4 : decode b_M_size 4 = .ok (.iload_n 2, 1) := by decide +kernel
theorem fd_M_size_5 : decode b_M_size 5 = .ok (.aload_n 0, 1) := by decide +kernel
theorem fd_M_size_6 : decode b_M_size 6 = .ok (.getfield 35, 3) := by decide +kernel
theorem fd_M_size_9 : decode b_M_size 9 = .ok (.if_icmp .ge 27, 3) := by decide +kernel
theorem fd_M_size_12 : decode b_M_size 12 = .ok (.iload_n 1, 1) := by decide +kernel
theorem fd_M_size_13 : decode b_M_size 13 = .ok (.aload_n 0, 1) := by decide +kernel
theorem fd_M_size_14 : decode b_M_size 14 = .ok (.getfield 7, 3) := by decide +kernel
theorem fd_M_size_17 : decode b_M_size 17 = .ok (.iload_n 2, 1) := by decide +kernel
theorem fd_M_size_18 : decode b_M_size 18 = .ok (.iaload, 1) := by decide +kernel
theorem fd_M_size_19 : decode b_M_size 19 = .ok (.iconst (-1), 1) := by decide +kernel
theorem fd_M_size_20 : decode b_M_size 20 = .ok (.if_icmp .eq 7, 3) := by decide +kernel
theorem fd_M_size_23 : decode b_M_size 23 = .ok (.iconst 1, 1) := by decide +kernel
theorem fd_M_size_24 : decode b_M_size 24 = .ok (.goto 4, 3) := by decide +kernel
theorem fd_M_size_27 : decode b_M_size 27 = .ok (.iconst 0, 1) := by decide +kernel
theorem fd_M_size_28 : decode b_M_size 28 = .ok (.iadd, 1) := by decide +kernel
theorem fd_M_size_29 : decode b_M_size 29 = .ok (.istore_n 1, 1) := by decide +kernel
theorem fd_M_size_30 : decode b_M_size 30 = .ok (.iinc 2 1, 3) := by decide +kernel
theorem fd_M_size_33 : decode b_M_size 33 = .ok (.goto (-29), 3) := by decide +kernel
theorem fd_M_size_36 : decode b_M_size 36 = .ok (.iload_n 1, 1) := by decide +kernel
theorem fd_M_size_37 : decode b_M_size 37 = .ok (.ireturn, 1) := by decide +kernel
theorem fd_M_key_0 : decode b_M_key 0 = .ok (.aload_n 0, 1) := by decide +kernel
theorem fd_M_key_1 : decode b_M_key 1 = .ok (.iload_n 1, 1) := by decide +kernel
theorem fd_M_key_2 : decode b_M_key 2 = .ok (.invokevirtual 61, 3) := by decide +kernel
theorem fd_M_key_5 : decode b_M_key 5 = .ok (.ifCond .eq 12, 3) := by decide +kernel
theorem fd_M_key_8 : decode b_M_key 8 = .ok (.aload_n 0, 1) := by decide +kernel
theorem fd_M_key_9 : decode b_M_key 9 = .ok (.getfield 7, 3) := by decide +kernel
theorem fd_M_key_12 : decode b_M_key 12 = .ok (.iload_n 1, 1) := by decide +kernel
theorem fd_M_key_13 : decode b_M_key 13 = .ok (.iaload, 1) := by decide +kernel
theorem fd_M_key_14 : decode b_M_key 14 = .ok (.goto 4, 3) := by decide +kernel
theorem fd_M_key_17 : decode b_M_key 17 = .ok (.iconst (-1), 1) := by decide +kernel
theorem fd_M_key_18 : decode b_M_key 18 = .ok (.ireturn, 1) := by decide +kernel
theorem fd_M_bucket_0 : decode b_M_bucket 0 = .ok (.aload_n 0, 1) := by decide +kernel
theorem fd_M_bucket_1 : decode b_M_bucket 1 = .ok (.iload_n 1, 1) := by decide +kernel
theorem fd_M_bucket_2 : decode b_M_bucket 2 = .ok (.invokevirtual 61, 3) := by decide +kernel
theorem fd_M_bucket_5 : decode b_M_bucket 5 = .ok (.ifCond .eq 19, 3) := by decide +kernel
theorem fd_M_bucket_8 : decode b_M_bucket 8 = .ok (.aload_n 0, 1) := by decide +kernel
theorem fd_M_bucket_9 : decode b_M_bucket 9 = .ok (.getfield 7, 3) := by decide +kernel
theorem fd_M_bucket_12 : decode b_M_bucket 12 = .ok (.iload_n 1, 1) := by decide +kernel
theorem fd_M_bucket_13 : decode b_M_bucket 13 = .ok (.iaload, 1) := by decide +kernel
theorem fd_M_bucket_14 : decode b_M_bucket 14 = .ok (.aload_n 0, 1) := by decide +kernel
theorem fd_M_bucket_15 : decode b_M_bucket 15 = .ok (.getfield 48, 3) := by decide +kernel
theorem fd_M_bucket_18 : decode b_M_bucket 18 = .ok (.invokestatic 64, 3) := by decide +kernel
theorem fd_M_bucket_21 : decode b_M_bucket 21 = .ok (.goto 4, 3) := by decide +kernel
theorem fd_M_bucket_24 : decode b_M_bucket 24 = .ok (.iconst (-1), 1) := by decide +kernel
theorem fd_M_bucket_25 : decode b_M_bucket 25 = .ok (.ireturn, 1) := by decide +kernel
theorem fd_M_many_0 : decode b_M_many 0 = .ok (.iload_n 1, 1) := by decide +kernel
theorem fd_M_many_1 : decode b_M_many 1 = .ok (.ifCond .lt 9, 3) := by decide +kernel
theorem fd_M_many_4 : decode b_M_many 4 = .ok (.iload_n 1, 1) := by decide +kernel
theorem fd_M_many_5 : decode b_M_many 5 = .ok (.bipush 31, 2) := by decide +kernel
theorem fd_M_many_7 : decode b_M_many 7 = .ok (.if_icmp .le 5, 3) := by decide +kernel
theorem fd_M_many_10 : decode b_M_many 10 = .ok (.iconst (-1), 1) := by decide +kernel
theorem fd_M_many_11 : decode b_M_many 11 = .ok (.ireturn, 1) := by decide +kernel
theorem fd_M_many_12 : decode b_M_many 12 = .ok (.iconst 0, 1) := by decide +kernel
theorem fd_M_many_13 : decode b_M_many 13 = .ok (.istore_n 2, 1) := by decide +kernel
theorem fd_M_many_14 : decode b_M_many 14 = .ok (.iconst 0, 1) := by decide +kernel
theorem fd_M_many_15 : decode b_M_many 15 = .ok (.istore_n 3, 1) := by decide +kernel
theorem fd_M_many_16 : decode b_M_many 16 = .ok (.iload_n 3, 1) := by decide +kernel
theorem fd_M_many_17 : decode b_M_many 17 = .ok (.aload_n 0, 1) := by decide +kernel
theorem fd_M_many_18 : decode b_M_many 18 = .ok (.getfield 35, 3) := by decide +kernel
theorem fd_M_many_21 : decode b_M_many 21 = .ok (.if_icmp .ge 44, 3) := by decide +kernel
theorem fd_M_many_24 : decode b_M_many 24 = .ok (.iload_n 2, 1) := by decide +kernel
theorem fd_M_many_25 : decode b_M_many 25 = .ok (.aload_n 0, 1) := by decide +kernel
theorem fd_M_many_26 : decode b_M_many 26 = .ok (.getfield 7, 3) := by decide +kernel
theorem fd_M_many_29 : decode b_M_many 29 = .ok (.iload_n 3, 1) := by decide +kernel
theorem fd_M_many_30 : decode b_M_many 30 = .ok (.iaload, 1) := by decide +kernel
theorem fd_M_many_31 : decode b_M_many 31 = .ok (.iconst (-1), 1) := by decide +kernel
theorem fd_M_many_32 : decode b_M_many 32 = .ok (.if_icmp .eq 24, 3) := by decide +kernel
theorem fd_M_many_35 : decode b_M_many 35 = .ok (.aload_n 0, 1) := by decide +kernel
theorem fd_M_many_36 : decode b_M_many 36 = .ok (.getfield 7, 3) := by decide +kernel
theorem fd_M_many_39 : decode b_M_many 39 = .ok (.iload_n 3, 1) := by decide +kernel
theorem fd_M_many_40 : decode b_M_many 40 = .ok (.iaload, 1) := by decide +kernel
theorem fd_M_many_41 : decode b_M_many 41 = .ok (.aload_n 0, 1) := by decide +kernel
theorem fd_M_many_42 : decode b_M_many 42 = .ok (.getfield 48, 3) := by decide +kernel
theorem fd_M_many_45 : decode b_M_many 45 = .ok (.invokestatic 64, 3) := by decide +kernel
theorem fd_M_many_48 : decode b_M_many 48 = .ok (.iload_n 1, 1) := by decide +kernel
theorem fd_M_many_49 : decode b_M_many 49 = .ok (.if_icmp .ne 7, 3) := by decide +kernel
theorem fd_M_many_52 : decode b_M_many 52 = .ok (.iconst 1, 1) := by decide +kernel
theorem fd_M_many_53 : decode b_M_many 53 = .ok (.goto 4, 3) := by decide +kernel
theorem fd_M_many_56 : decode b_M_many 56 = .ok (.iconst 0, 1) := by decide +kernel
theorem fd_M_many_57 : decode b_M_many 57 = .ok (.iadd, 1) := by decide +kernel
theorem fd_M_many_58 : decode b_M_many 58 = .ok (.istore_n 2, 1) := by decide +kernel
theorem fd_M_many_59 : decode b_M_many 59 = .ok (.iinc 3 1, 3) := by decide +kernel
theorem fd_M_many_62 : decode b_M_many 62 = .ok (.goto (-46), 3) := by decide +kernel
theorem fd_M_many_65 : decode b_M_many 65 = .ok (.iload_n 2, 1) := by decide +kernel
theorem fd_M_many_66 : decode b_M_many 66 = .ok (.ireturn, 1) := by decide +kernel
theorem fd_M_placed_0 : decode b_M_placed 0 = .ok (.aload_n 0, 1) := by decide +kernel
theorem fd_M_placed_1 : decode b_M_placed 1 = .ok (.getfield 55, 3) := by decide +kernel
theorem fd_M_placed_4 : decode b_M_placed 4 = .ok (.ireturn, 1) := by decide +kernel
theorem fd_M_arc_0 : decode b_M_arc 0 = .ok (.aload_n 0, 1) := by decide +kernel
theorem fd_M_arc_1 : decode b_M_arc 1 = .ok (.iload_n 1, 1) := by decide +kernel
theorem fd_M_arc_2 : decode b_M_arc 2 = .ok (.invokevirtual 51, 3) := by decide +kernel
theorem fd_M_arc_5 : decode b_M_arc 5 = .ok (.ifCond .eq 11, 3) := by decide +kernel
theorem fd_M_arc_8 : decode b_M_arc 8 = .ok (.aload_n 0, 1) := by decide +kernel
theorem fd_M_arc_9 : decode b_M_arc 9 = .ok (.iload_n 2, 1) := by decide +kernel
theorem fd_M_arc_10 : decode b_M_arc 10 = .ok (.invokevirtual 51, 3) := by decide +kernel
theorem fd_M_arc_13 : decode b_M_arc 13 = .ok (.ifCond .ne 5, 3) := by decide +kernel
theorem fd_M_arc_16 : decode b_M_arc 16 = .ok (.iconst (-1), 1) := by decide +kernel
theorem fd_M_arc_17 : decode b_M_arc 17 = .ok (.ireturn, 1) := by decide +kernel
theorem fd_M_arc_18 : decode b_M_arc 18 = .ok (.iload_n 3, 1) := by decide +kernel
theorem fd_M_arc_19 : decode b_M_arc 19 = .ok (.ifCond .lt 11, 3) := by decide +kernel
theorem fd_M_arc_22 : decode b_M_arc 22 = .ok (.iload_n 3, 1) := by decide +kernel
theorem fd_M_arc_23 : decode b_M_arc 23 = .ok (.aload_n 0, 1) := by decide +kernel
theorem fd_M_arc_24 : decode b_M_arc 24 = .ok (.getfield 42, 3) := by decide +kernel
theorem fd_M_arc_27 : decode b_M_arc 27 = .ok (.if_icmp .le 6, 3) := by decide +kernel
theorem fd_M_arc_30 : decode b_M_arc 30 = .ok (.bipush (-2), 2) := by decide +kernel
theorem fd_M_arc_32 : decode b_M_arc 32 = .ok (.ireturn, 1) := by decide +kernel
theorem fd_M_arc_33 : decode b_M_arc 33 = .ok (.aload_n 0, 1) := by decide +kernel
theorem fd_M_arc_34 : decode b_M_arc 34 = .ok (.getfield 68, 3) := by decide +kernel
theorem fd_M_arc_37 : decode b_M_arc 37 = .ok (.aload_n 0, 1) := by decide +kernel
theorem fd_M_arc_38 : decode b_M_arc 38 = .ok (.getfield 39, 3) := by decide +kernel
theorem fd_M_arc_41 : decode b_M_arc 41 = .ok (.if_icmp .ne 6, 3) := by decide +kernel
theorem fd_M_arc_44 : decode b_M_arc 44 = .ok (.bipush (-3), 2) := by decide +kernel
theorem fd_M_arc_46 : decode b_M_arc 46 = .ok (.ireturn, 1) := by decide +kernel
theorem fd_M_arc_47 : decode b_M_arc 47 = .ok (.aload_n 0, 1) := by decide +kernel
theorem fd_M_arc_48 : decode b_M_arc 48 = .ok (.getfield 13, 3) := by decide +kernel
theorem fd_M_arc_51 : decode b_M_arc 51 = .ok (.aload_n 0, 1) := by decide +kernel
theorem fd_M_arc_52 : decode b_M_arc 52 = .ok (.getfield 68, 3) := by decide +kernel
theorem fd_M_arc_55 : decode b_M_arc 55 = .ok (.iload_n 1, 1) := by decide +kernel
theorem fd_M_arc_56 : decode b_M_arc 56 = .ok (.iastore, 1) := by decide +kernel
theorem fd_M_arc_57 : decode b_M_arc 57 = .ok (.aload_n 0, 1) := by decide +kernel
theorem fd_M_arc_58 : decode b_M_arc 58 = .ok (.getfield 16, 3) := by decide +kernel
theorem fd_M_arc_61 : decode b_M_arc 61 = .ok (.aload_n 0, 1) := by decide +kernel
theorem fd_M_arc_62 : decode b_M_arc 62 = .ok (.getfield 68, 3) := by decide +kernel
theorem fd_M_arc_65 : decode b_M_arc 65 = .ok (.iload_n 2, 1) := by decide +kernel
theorem fd_M_arc_66 : decode b_M_arc 66 = .ok (.iastore, 1) := by decide +kernel
theorem fd_M_arc_67 : decode b_M_arc 67 = .ok (.aload_n 0, 1) := by decide +kernel
theorem fd_M_arc_68 : decode b_M_arc 68 = .ok (.getfield 19, 3) := by decide +kernel
theorem fd_M_arc_71 : decode b_M_arc 71 = .ok (.aload_n 0, 1) := by decide +kernel
theorem fd_M_arc_72 : decode b_M_arc 72 = .ok (.getfield 68, 3) := by decide +kernel
theorem fd_M_arc_75 : decode b_M_arc 75 = .ok (.iload_n 3, 1) := by decide +kernel
theorem fd_M_arc_76 : decode b_M_arc 76 = .ok (.iastore, 1) := by decide +kernel
theorem fd_M_arc_77 : decode b_M_arc 77 = .ok (.aload_n 0, 1) := by decide +kernel
theorem fd_M_arc_78 : decode b_M_arc 78 = .ok (.dup, 1) := by decide +kernel
theorem fd_M_arc_79 : decode b_M_arc 79 = .ok (.getfield 68, 3) := by decide +kernel
theorem fd_M_arc_82 : decode b_M_arc 82 = .ok (.iconst 1, 1) := by decide +kernel
theorem fd_M_arc_83 : decode b_M_arc 83 = .ok (.iadd, 1) := by decide +kernel
theorem fd_M_arc_84 : decode b_M_arc 84 = .ok (.putfield 68, 3) := by decide +kernel
theorem fd_M_arc_87 : decode b_M_arc 87 = .ok (.aload_n 0, 1) := by decide +kernel
theorem fd_M_arc_88 : decode b_M_arc 88 = .ok (.iconst 0, 1) := by decide +kernel
theorem fd_M_arc_89 : decode b_M_arc 89 = .ok (.putfield 71, 3) := by decide +kernel
theorem fd_M_arc_92 : decode b_M_arc 92 = .ok (.iconst 0, 1) := by decide +kernel
theorem fd_M_arc_93 : decode b_M_arc 93 = .ok (.ireturn, 1) := by decide +kernel
theorem fd_M_reach_0 : decode b_M_reach 0 = .ok (.aload_n 0, 1) := by decide +kernel
theorem fd_M_reach_1 : decode b_M_reach 1 = .ok (.getfield 22, 3) := by decide +kernel
theorem fd_M_reach_4 : decode b_M_reach 4 = .ok (.iload_n 1, 1) := by decide +kernel
theorem fd_M_reach_5 : decode b_M_reach 5 = .ok (.iaload, 1) := by decide +kernel
theorem fd_M_reach_6 : decode b_M_reach 6 = .ok (.i2l, 1) := by decide +kernel
theorem fd_M_reach_7 : decode b_M_reach 7 = .ok (.iload_n 3, 1) := by decide +kernel
theorem fd_M_reach_8 : decode b_M_reach 8 = .ok (.i2l, 1) := by decide +kernel
theorem fd_M_reach_9 : decode b_M_reach 9 = .ok (.ladd, 1) := by decide +kernel
theorem fd_M_reach_10 : decode b_M_reach 10 = .ok (.lstore 4, 2) := by decide +kernel
theorem fd_M_reach_12 : decode b_M_reach 12 = .ok (.aload_n 0, 1) := by decide +kernel
theorem fd_M_reach_13 : decode b_M_reach 13 = .ok (.getfield 28, 3) := by decide +kernel
theorem fd_M_reach_16 : decode b_M_reach 16 = .ok (.iload_n 2, 1) := by decide +kernel
theorem fd_M_reach_17 : decode b_M_reach 17 = .ok (.baload, 1) := by decide +kernel
theorem fd_M_reach_18 : decode b_M_reach 18 = .ok (.ifCond .ne 12, 3) := by decide +kernel
theorem fd_M_reach_21 : decode b_M_reach 21 = .ok (.lload 4, 2) := by decide +kernel
theorem fd_M_reach_23 : decode b_M_reach 23 = .ok (.ldc2_w 75, 3) := by decide +kernel
theorem fd_M_reach_26 : decode b_M_reach 26 = .ok (.lcmp, 1) := by decide +kernel
theorem fd_M_reach_27 : decode b_M_reach 27 = .ok (.ifCond .le 4, 3) := by decide +kernel
theorem fd_M_reach_30 : decode b_M_reach 30 = .ok (.return_, 1) := by decide +kernel
theorem fd_M_reach_31 : decode b_M_reach 31 = .ok (.aload_n 0, 1) := by decide +kernel
theorem fd_M_reach_32 : decode b_M_reach 32 = .ok (.getfield 7, 3) := by decide +kernel
theorem fd_M_reach_35 : decode b_M_reach 35 = .ok (.iload_n 2, 1) := by decide +kernel
theorem fd_M_reach_36 : decode b_M_reach 36 = .ok (.iaload, 1) := by decide +kernel
theorem fd_M_reach_37 : decode b_M_reach 37 = .ok (.iconst (-1), 1) := by decide +kernel
theorem fd_M_reach_38 : decode b_M_reach 38 = .ok (.if_icmp .ne 22, 3) := by decide +kernel
theorem fd_M_reach_41 : decode b_M_reach 41 = .ok (.aload_n 0, 1) := by decide +kernel
theorem fd_M_reach_42 : decode b_M_reach 42 = .ok (.iload_n 2, 1) := by decide +kernel
theorem fd_M_reach_43 : decode b_M_reach 43 = .ok (.lload 4, 2) := by decide +kernel
theorem fd_M_reach_45 : decode b_M_reach 45 = .ok (.l2i, 1) := by decide +kernel
theorem fd_M_reach_46 : decode b_M_reach 46 = .ok (.invokevirtual 77, 3) := by decide +kernel
theorem fd_M_reach_49 : decode b_M_reach 49 = .ok (.pop, 1) := by decide +kernel
theorem fd_M_reach_50 : decode b_M_reach 50 = .ok (.aload_n 0, 1) := by decide +kernel
theorem fd_M_reach_51 : decode b_M_reach 51 = .ok (.getfield 25, 3) := by decide +kernel
theorem fd_M_reach_54 : decode b_M_reach 54 = .ok (.iload_n 2, 1) := by decide +kernel
theorem fd_M_reach_55 : decode b_M_reach 55 = .ok (.iload_n 1, 1) := by decide +kernel
theorem fd_M_reach_56 : decode b_M_reach 56 = .ok (.iastore, 1) := by decide +kernel
theorem fd_M_reach_57 : decode b_M_reach 57 = .ok (.goto 32, 3) := by decide +kernel
theorem fd_M_reach_60 : decode b_M_reach 60 = .ok (.lload 4, 2) := by decide +kernel
theorem fd_M_reach_62 : decode b_M_reach 62 = .ok (.aload_n 0, 1) := by decide +kernel
theorem fd_M_reach_63 : decode b_M_reach 63 = .ok (.getfield 7, 3) := by decide +kernel
theorem fd_M_reach_66 : decode b_M_reach 66 = .ok (.iload_n 2, 1) := by decide +kernel
theorem fd_M_reach_67 : decode b_M_reach 67 = .ok (.iaload, 1) := by decide +kernel
theorem fd_M_reach_68 : decode b_M_reach 68 = .ok (.i2l, 1) := by decide +kernel
theorem fd_M_reach_69 : decode b_M_reach 69 = .ok (.lcmp, 1) := by decide +kernel
theorem fd_M_reach_70 : decode b_M_reach 70 = .ok (.ifCond .ge 19, 3) := by decide +kernel
theorem fd_M_reach_73 : decode b_M_reach 73 = .ok (.aload_n 0, 1) := by decide +kernel
theorem fd_M_reach_74 : decode b_M_reach 74 = .ok (.iload_n 2, 1) := by decide +kernel
theorem fd_M_reach_75 : decode b_M_reach 75 = .ok (.lload 4, 2) := by decide +kernel
theorem fd_M_reach_77 : decode b_M_reach 77 = .ok (.l2i, 1) := by decide +kernel
theorem fd_M_reach_78 : decode b_M_reach 78 = .ok (.invokevirtual 80, 3) := by decide +kernel
theorem fd_M_reach_81 : decode b_M_reach 81 = .ok (.pop, 1) := by decide +kernel
theorem fd_M_reach_82 : decode b_M_reach 82 = .ok (.aload_n 0, 1) := by decide +kernel
theorem fd_M_reach_83 : decode b_M_reach 83 = .ok (.getfield 25, 3) := by decide +kernel
theorem fd_M_reach_86 : decode b_M_reach 86 = .ok (.iload_n 2, 1) := by decide +kernel
theorem fd_M_reach_87 : decode b_M_reach 87 = .ok (.iload_n 1, 1) := by decide +kernel
theorem fd_M_reach_88 : decode b_M_reach 88 = .ok (.iastore, 1) := by decide +kernel
theorem fd_M_reach_89 : decode b_M_reach 89 = .ok (.return_, 1) := by decide +kernel
end
section
theorem fd_M_spread_0 : decode b_M_spread 0 = .ok (.iconst 0, 1) := by decide +kernel
theorem fd_M_spread_1 : decode b_M_spread 1 = .ok (.istore_n 2, 1) := by decide +kernel
theorem fd_M_spread_2 : decode b_M_spread 2 = .ok (.iload_n 2, 1) := by decide +kernel
theorem fd_M_spread_3 : decode b_M_spread 3 = .ok (.bipush 40, 2) := by decide +kernel
theorem fd_M_spread_5 : decode b_M_spread 5 = .ok (.if_icmp .ge 25, 3) := by decide +kernel
theorem fd_M_spread_8 : decode b_M_spread 8 = .ok (.aload_n 0, 1) := by decide +kernel
theorem fd_M_spread_9 : decode b_M_spread 9 = .ok (.getfield 32, 3) := by decide +kernel
theorem fd_M_spread_12 : decode b_M_spread 12 = .ok (.iload_n 2, 1) := by decide +kernel
theorem fd_M_spread_13 : decode b_M_spread 13 = .ok (.iload_n 2, 1) := by decide +kernel
theorem fd_M_spread_14 : decode b_M_spread 14 = .ok (.iload_n 1, 1) := by decide +kernel
theorem fd_M_spread_15 : decode b_M_spread 15 = .ok (.if_icmp .ne 7, 3) := by decide +kernel
theorem fd_M_spread_18 : decode b_M_spread 18 = .ok (.iconst 1, 1) := by decide +kernel
theorem fd_M_spread_19 : decode b_M_spread 19 = .ok (.goto 4, 3) := by decide +kernel
theorem fd_M_spread_22 : decode b_M_spread 22 = .ok (.iconst 0, 1) := by decide +kernel
theorem fd_M_spread_23 : decode b_M_spread 23 = .ok (.bastore, 1) := by decide +kernel
theorem fd_M_spread_24 : decode b_M_spread 24 = .ok (.iinc 2 1, 3) := by decide +kernel
theorem fd_M_spread_27 : decode b_M_spread 27 = .ok (.goto (-25), 3) := by decide +kernel
theorem fd_M_spread_30 : decode b_M_spread 30 = .ok (.iconst 0, 1) := by decide +kernel
theorem fd_M_spread_31 : decode b_M_spread 31 = .ok (.istore_n 2, 1) := by decide +kernel
theorem fd_M_spread_32 : decode b_M_spread 32 = .ok (.iload_n 2, 1) := by decide +kernel
theorem fd_M_spread_33 : decode b_M_spread 33 = .ok (.aload_n 0, 1) := by decide +kernel
theorem fd_M_spread_34 : decode b_M_spread 34 = .ok (.getfield 35, 3) := by decide +kernel
theorem fd_M_spread_37 : decode b_M_spread 37 = .ok (.if_icmp .ge 69, 3) := by decide +kernel
theorem fd_M_spread_40 : decode b_M_spread 40 = .ok (.iconst 0, 1) := by decide +kernel
theorem fd_M_spread_41 : decode b_M_spread 41 = .ok (.istore_n 3, 1) := by decide +kernel
theorem fd_M_spread_42 : decode b_M_spread 42 = .ok (.iload_n 3, 1) := by decide +kernel
theorem fd_M_spread_43 : decode b_M_spread 43 = .ok (.aload_n 0, 1) := by decide +kernel
theorem fd_M_spread_44 : decode b_M_spread 44 = .ok (.getfield 68, 3) := by decide +kernel
theorem fd_M_spread_47 : decode b_M_spread 47 = .ok (.if_icmp .ge 53, 3) := by decide +kernel
theorem fd_M_spread_50 : decode b_M_spread 50 = .ok (.aload_n 0, 1) := by decide +kernel
theorem fd_M_spread_51 : decode b_M_spread 51 = .ok (.getfield 32, 3) := by decide +kernel
theorem fd_M_spread_54 : decode b_M_spread 54 = .ok (.aload_n 0, 1) := by decide +kernel
theorem fd_M_spread_55 : decode b_M_spread 55 = .ok (.getfield 16, 3) := by decide +kernel
theorem fd_M_spread_58 : decode b_M_spread 58 = .ok (.iload_n 3, 1) := by decide +kernel
theorem fd_M_spread_59 : decode b_M_spread 59 = .ok (.iaload, 1) := by decide +kernel
theorem fd_M_spread_60 : decode b_M_spread 60 = .ok (.aload_n 0, 1) := by decide +kernel
theorem fd_M_spread_61 : decode b_M_spread 61 = .ok (.getfield 32, 3) := by decide +kernel
theorem fd_M_spread_64 : decode b_M_spread 64 = .ok (.aload_n 0, 1) := by decide +kernel
theorem fd_M_spread_65 : decode b_M_spread 65 = .ok (.getfield 16, 3) := by decide +kernel
theorem fd_M_spread_68 : decode b_M_spread 68 = .ok (.iload_n 3, 1) := by decide +kernel
theorem fd_M_spread_69 : decode b_M_spread 69 = .ok (.iaload, 1) := by decide +kernel
theorem fd_M_spread_70 : decode b_M_spread 70 = .ok (.baload, 1) := by decide +kernel
theorem fd_M_spread_71 : decode b_M_spread 71 = .ok (.ifCond .ne 17, 3) := by decide +kernel
theorem fd_M_spread_74 : decode b_M_spread 74 = .ok (.aload_n 0, 1) := by decide +kernel
theorem fd_M_spread_75 : decode b_M_spread 75 = .ok (.getfield 32, 3) := by decide +kernel
theorem fd_M_spread_78 : decode b_M_spread 78 = .ok (.aload_n 0, 1) := by decide +kernel
theorem fd_M_spread_79 : decode b_M_spread 79 = .ok (.getfield 13, 3) := by decide +kernel
theorem fd_M_spread_82 : decode b_M_spread 82 = .ok (.iload_n 3, 1) := by decide +kernel
theorem fd_M_spread_83 : decode b_M_spread 83 = .ok (.iaload, 1) := by decide +kernel
theorem fd_M_spread_84 : decode b_M_spread 84 = .ok (.baload, 1) := by decide +kernel
theorem fd_M_spread_85 : decode b_M_spread 85 = .ok (.ifCond .eq 7, 3) := by decide +kernel
theorem fd_M_spread_88 : decode b_M_spread 88 = .ok (.iconst 1, 1) := by decide +kernel
theorem fd_M_spread_89 : decode b_M_spread 89 = .ok (.goto 4, 3) := by decide +kernel
theorem fd_M_spread_92 : decode b_M_spread 92 = .ok (.iconst 0, 1) := by decide +kernel
theorem fd_M_spread_93 : decode b_M_spread 93 = .ok (.bastore, 1) := by decide +kernel
theorem fd_M_spread_94 : decode b_M_spread 94 = .ok (.iinc 3 1, 3) := by decide +kernel
theorem fd_M_spread_97 : decode b_M_spread 97 = .ok (.goto (-55), 3) := by decide +kernel
theorem fd_M_spread_100 : decode b_M_spread 100 = .ok (.iinc 2 1, 3) := by decide +kernel
theorem fd_M_spread_103 : decode b_M_spread 103 = .ok (.goto (-71), 3) := by decide +kernel
theorem fd_M_spread_106 : decode b_M_spread 106 = .ok (.return_, 1) := by decide +kernel
theorem fd_M_run_0 : decode b_M_run 0 = .ok (.aload_n 0, 1) := by decide +kernel
theorem fd_M_run_1 : decode b_M_run 1 = .ok (.iload_n 1, 1) := by decide +kernel
theorem fd_M_run_2 : decode b_M_run 2 = .ok (.invokevirtual 51, 3) := by decide +kernel
theorem fd_M_run_5 : decode b_M_run 5 = .ok (.ifCond .ne 5, 3) := by decide +kernel
theorem fd_M_run_8 : decode b_M_run 8 = .ok (.iconst (-1), 1) := by decide +kernel
theorem fd_M_run_9 : decode b_M_run 9 = .ok (.ireturn, 1) := by decide +kernel
theorem fd_M_run_10 : decode b_M_run 10 = .ok (.aload_n 0, 1) := by decide +kernel
theorem fd_M_run_11 : decode b_M_run 11 = .ok (.invokevirtual 45, 3) := by decide +kernel
theorem fd_M_run_14 : decode b_M_run 14 = .ok (.iconst 0, 1) := by decide +kernel
theorem fd_M_run_15 : decode b_M_run 15 = .ok (.istore_n 2, 1) := by decide +kernel
theorem fd_M_run_16 : decode b_M_run 16 = .ok (.iload_n 2, 1) := by decide +kernel
theorem fd_M_run_17 : decode b_M_run 17 = .ok (.bipush 40, 2) := by decide +kernel
theorem fd_M_run_19 : decode b_M_run 19 = .ok (.if_icmp .ge 23, 3) := by decide +kernel
theorem fd_M_run_22 : decode b_M_run 22 = .ok (.aload_n 0, 1) := by decide +kernel
theorem fd_M_run_23 : decode b_M_run 23 = .ok (.getfield 28, 3) := by decide +kernel
theorem fd_M_run_26 : decode b_M_run 26 = .ok (.iload_n 2, 1) := by decide +kernel
theorem fd_M_run_27 : decode b_M_run 27 = .ok (.iconst 0, 1) := by decide +kernel
theorem fd_M_run_28 : decode b_M_run 28 = .ok (.bastore, 1) := by decide +kernel
theorem fd_M_run_29 : decode b_M_run 29 = .ok (.aload_n 0, 1) := by decide +kernel
theorem fd_M_run_30 : decode b_M_run 30 = .ok (.getfield 25, 3) := by decide +kernel
theorem fd_M_run_33 : decode b_M_run 33 = .ok (.iload_n 2, 1) := by decide +kernel
theorem fd_M_run_34 : decode b_M_run 34 = .ok (.iconst (-1), 1) := by decide +kernel
theorem fd_M_run_35 : decode b_M_run 35 = .ok (.iastore, 1) := by decide +kernel
theorem fd_M_run_36 : decode b_M_run 36 = .ok (.iinc 2 1, 3) := by decide +kernel
theorem fd_M_run_39 : decode b_M_run 39 = .ok (.goto (-23), 3) := by decide +kernel
theorem fd_M_run_42 : decode b_M_run 42 = .ok (.aload_n 0, 1) := by decide +kernel
theorem fd_M_run_43 : decode b_M_run 43 = .ok (.iload_n 1, 1) := by decide +kernel
theorem fd_M_run_44 : decode b_M_run 44 = .ok (.iconst 0, 1) := by decide +kernel
theorem fd_M_run_45 : decode b_M_run 45 = .ok (.invokevirtual 77, 3) := by decide +kernel
theorem fd_M_run_48 : decode b_M_run 48 = .ok (.pop, 1) := by decide +kernel
theorem fd_M_run_49 : decode b_M_run 49 = .ok (.aload_n 0, 1) := by decide +kernel
theorem fd_M_run_50 : decode b_M_run 50 = .ok (.invokevirtual 83, 3) := by decide +kernel
theorem fd_M_run_53 : decode b_M_run 53 = .ok (.ifCond .le 124, 3) := by decide +kernel
theorem fd_M_run_56 : decode b_M_run 56 = .ok (.ldc 87, 2) := by decide +kernel
theorem fd_M_run_58 : decode b_M_run 58 = .ok (.istore_n 2, 1) := by decide +kernel
theorem fd_M_run_59 : decode b_M_run 59 = .ok (.iconst 0, 1) := by decide +kernel
theorem fd_M_run_60 : decode b_M_run 60 = .ok (.istore_n 3, 1) := by decide +kernel
theorem fd_M_run_61 : decode b_M_run 61 = .ok (.iload_n 3, 1) := by decide +kernel
theorem fd_M_run_62 : decode b_M_run 62 = .ok (.aload_n 0, 1) := by decide +kernel
theorem fd_M_run_63 : decode b_M_run 63 = .ok (.getfield 35, 3) := by decide +kernel
theorem fd_M_run_66 : decode b_M_run 66 = .ok (.if_icmp .ge 40, 3) := by decide +kernel
theorem fd_M_run_69 : decode b_M_run 69 = .ok (.aload_n 0, 1) := by decide +kernel
theorem fd_M_run_70 : decode b_M_run 70 = .ok (.getfield 7, 3) := by decide +kernel
theorem fd_M_run_73 : decode b_M_run 73 = .ok (.iload_n 3, 1) := by decide +kernel
theorem fd_M_run_74 : decode b_M_run 74 = .ok (.iaload, 1) := by decide +kernel
theorem fd_M_run_75 : decode b_M_run 75 = .ok (.iconst (-1), 1) := by decide +kernel
theorem fd_M_run_76 : decode b_M_run 76 = .ok (.if_icmp .eq 22, 3) := by decide +kernel
theorem fd_M_run_79 : decode b_M_run 79 = .ok (.aload_n 0, 1) := by decide +kernel
theorem fd_M_run_80 : decode b_M_run 80 = .ok (.getfield 7, 3) := by decide +kernel
theorem fd_M_run_83 : decode b_M_run 83 = .ok (.iload_n 3, 1) := by decide +kernel
theorem fd_M_run_84 : decode b_M_run 84 = .ok (.iaload, 1) := by decide +kernel
theorem fd_M_run_85 : decode b_M_run 85 = .ok (.iload_n 2, 1) := by decide +kernel
theorem fd_M_run_86 : decode b_M_run 86 = .ok (.if_icmp .ge 12, 3) := by decide +kernel
theorem fd_M_run_89 : decode b_M_run 89 = .ok (.aload_n 0, 1) := by decide +kernel
theorem fd_M_run_90 : decode b_M_run 90 = .ok (.getfield 7, 3) := by decide +kernel
theorem fd_M_run_93 : decode b_M_run 93 = .ok (.iload_n 3, 1) := by decide +kernel
theorem fd_M_run_94 : decode b_M_run 94 = .ok (.iaload, 1) := by decide +kernel
theorem fd_M_run_95 : decode b_M_run 95 = .ok (.goto 4, 3) := by decide +kernel
theorem fd_M_run_98 : decode b_M_run 98 = .ok (.iload_n 2, 1) := by decide +kernel
theorem fd_M_run_99 : decode b_M_run 99 = .ok (.istore_n 2, 1) := by decide +kernel
theorem fd_M_run_100 : decode b_M_run 100 = .ok (.iinc 3 1, 3) := by decide +kernel
theorem fd_M_run_103 : decode b_M_run 103 = .ok (.goto (-42), 3) := by decide +kernel
theorem fd_M_run_106 : decode b_M_run 106 = .ok (.aload_n 0, 1) := by decide +kernel
theorem fd_M_run_107 : decode b_M_run 107 = .ok (.invokevirtual 88, 3) := by decide +kernel
theorem fd_M_run_110 : decode b_M_run 110 = .ok (.istore_n 3, 1) := by decide +kernel
theorem fd_M_run_111 : decode b_M_run 111 = .ok (.aload_n 0, 1) := by decide +kernel
theorem fd_M_run_112 : decode b_M_run 112 = .ok (.getfield 22, 3) := by decide +kernel
theorem fd_M_run_115 : decode b_M_run 115 = .ok (.iload_n 3, 1) := by decide +kernel
theorem fd_M_run_116 : decode b_M_run 116 = .ok (.iload_n 2, 1) := by decide +kernel
theorem fd_M_run_117 : decode b_M_run 117 = .ok (.iastore, 1) := by decide +kernel
theorem fd_M_run_118 : decode b_M_run 118 = .ok (.aload_n 0, 1) := by decide +kernel
theorem fd_M_run_119 : decode b_M_run 119 = .ok (.getfield 28, 3) := by decide +kernel
theorem fd_M_run_122 : decode b_M_run 122 = .ok (.iload_n 3, 1) := by decide +kernel
theorem fd_M_run_123 : decode b_M_run 123 = .ok (.iconst 1, 1) := by decide +kernel
theorem fd_M_run_124 : decode b_M_run 124 = .ok (.bastore, 1) := by decide +kernel
theorem fd_M_run_125 : decode b_M_run 125 = .ok (.aload_n 0, 1) := by decide +kernel
theorem fd_M_run_126 : decode b_M_run 126 = .ok (.getfield 68, 3) := by decide +kernel
theorem fd_M_run_129 : decode b_M_run 129 = .ok (.iconst 1, 1) := by decide +kernel
theorem fd_M_run_130 : decode b_M_run 130 = .ok (.isub, 1) := by decide +kernel
theorem fd_M_run_131 : decode b_M_run 131 = .ok (.istore 4, 2) := by decide +kernel
theorem fd_M_run_133 : decode b_M_run 133 = .ok (.iload 4, 2) := by decide +kernel
theorem fd_M_run_135 : decode b_M_run 135 = .ok (.ifCond .lt 39, 3) := by decide +kernel
theorem fd_M_run_138 : decode b_M_run 138 = .ok (.aload_n 0, 1) := by decide +kernel
theorem fd_M_run_139 : decode b_M_run 139 = .ok (.getfield 13, 3) := by decide +kernel
theorem fd_M_run_142 : decode b_M_run 142 = .ok (.iload 4, 2) := by decide +kernel
theorem fd_M_run_144 : decode b_M_run 144 = .ok (.iaload, 1) := by decide +kernel
theorem fd_M_run_145 : decode b_M_run 145 = .ok (.iload_n 3, 1) := by decide +kernel
theorem fd_M_run_146 : decode b_M_run 146 = .ok (.if_icmp .ne 22, 3) := by decide +kernel
theorem fd_M_run_149 : decode b_M_run 149 = .ok (.aload_n 0, 1) := by decide +kernel
theorem fd_M_run_150 : decode b_M_run 150 = .ok (.iload_n 3, 1) := by decide +kernel
theorem fd_M_run_151 : decode b_M_run 151 = .ok (.aload_n 0, 1) := by decide +kernel
theorem fd_M_run_152 : decode b_M_run 152 = .ok (.getfield 16, 3) := by decide +kernel
theorem fd_M_run_155 : decode b_M_run 155 = .ok (.iload 4, 2) := by decide +kernel
theorem fd_M_run_157 : decode b_M_run 157 = .ok (.iaload, 1) := by decide +kernel
theorem fd_M_run_158 : decode b_M_run 158 = .ok (.aload_n 0, 1) := by decide +kernel
theorem fd_M_run_159 : decode b_M_run 159 = .ok (.getfield 19, 3) := by decide +kernel
theorem fd_M_run_162 : decode b_M_run 162 = .ok (.iload 4, 2) := by decide +kernel
theorem fd_M_run_164 : decode b_M_run 164 = .ok (.iaload, 1) := by decide +kernel
theorem fd_M_run_165 : decode b_M_run 165 = .ok (.invokevirtual 91, 3) := by decide +kernel
theorem fd_M_run_168 : decode b_M_run 168 = .ok (.iinc 4 (-1), 3) := by decide +kernel
theorem fd_M_run_171 : decode b_M_run 171 = .ok (.goto (-38), 3) := by decide +kernel
theorem fd_M_run_174 : decode b_M_run 174 = .ok (.goto (-125), 3) := by decide +kernel
theorem fd_M_run_177 : decode b_M_run 177 = .ok (.aload_n 0, 1) := by decide +kernel
theorem fd_M_run_178 : decode b_M_run 178 = .ok (.iload_n 1, 1) := by decide +kernel
theorem fd_M_run_179 : decode b_M_run 179 = .ok (.invokevirtual 95, 3) := by decide +kernel
theorem fd_M_run_182 : decode b_M_run 182 = .ok (.aload_n 0, 1) := by decide +kernel
theorem fd_M_run_183 : decode b_M_run 183 = .ok (.iconst 1, 1) := by decide +kernel
theorem fd_M_run_184 : decode b_M_run 184 = .ok (.putfield 71, 3) := by decide +kernel
theorem fd_M_run_187 : decode b_M_run 187 = .ok (.iconst 0, 1) := by decide +kernel
theorem fd_M_run_188 : decode b_M_run 188 = .ok (.istore_n 2, 1) := by decide +kernel
theorem fd_M_run_189 : decode b_M_run 189 = .ok (.iload_n 2, 1) := by decide +kernel
theorem fd_M_run_190 : decode b_M_run 190 = .ok (.aload_n 0, 1) := by decide +kernel
theorem fd_M_run_191 : decode b_M_run 191 = .ok (.getfield 35, 3) := by decide +kernel
theorem fd_M_run_194 : decode b_M_run 194 = .ok (.if_icmp .ge 43, 3) := by decide +kernel
theorem fd_M_run_197 : decode b_M_run 197 = .ok (.aload_n 0, 1) := by decide +kernel
theorem fd_M_run_198 : decode b_M_run 198 = .ok (.aload_n 0, 1) := by decide +kernel
theorem fd_M_run_199 : decode b_M_run 199 = .ok (.getfield 71, 3) := by decide +kernel
theorem fd_M_run_202 : decode b_M_run 202 = .ok (.ifCond .eq 25, 3) := by decide +kernel
theorem fd_M_run_205 : decode b_M_run 205 = .ok (.aload_n 0, 1) := by decide +kernel
theorem fd_M_run_206 : decode b_M_run 206 = .ok (.getfield 28, 3) := by decide +kernel
theorem fd_M_run_209 : decode b_M_run 209 = .ok (.iload_n 2, 1) := by decide +kernel
theorem fd_M_run_210 : decode b_M_run 210 = .ok (.baload, 1) := by decide +kernel
theorem fd_M_run_211 : decode b_M_run 211 = .ok (.ifCond .ne 12, 3) := by decide +kernel
theorem fd_M_run_214 : decode b_M_run 214 = .ok (.aload_n 0, 1) := by decide +kernel
theorem fd_M_run_215 : decode b_M_run 215 = .ok (.getfield 32, 3) := by decide +kernel
theorem fd_M_run_218 : decode b_M_run 218 = .ok (.iload_n 2, 1) := by decide +kernel
theorem fd_M_run_219 : decode b_M_run 219 = .ok (.baload, 1) := by decide +kernel
theorem fd_M_run_220 : decode b_M_run 220 = .ok (.ifCond .ne 7, 3) := by decide +kernel
theorem fd_M_run_223 : decode b_M_run 223 = .ok (.iconst 1, 1) := by decide +kernel
theorem fd_M_run_224 : decode b_M_run 224 = .ok (.goto 4, 3) := by decide +kernel
theorem fd_M_run_227 : decode b_M_run 227 = .ok (.iconst 0, 1) := by decide +kernel
theorem fd_M_run_228 : decode b_M_run 228 = .ok (.putfield 71, 3) := by decide +kernel
theorem fd_M_run_231 : decode b_M_run 231 = .ok (.iinc 2 1, 3) := by decide +kernel
theorem fd_M_run_234 : decode b_M_run 234 = .ok (.goto (-45), 3) := by decide +kernel
theorem fd_M_run_237 : decode b_M_run 237 = .ok (.aload_n 0, 1) := by decide +kernel
theorem fd_M_run_238 : decode b_M_run 238 = .ok (.getfield 71, 3) := by decide +kernel
theorem fd_M_run_241 : decode b_M_run 241 = .ok (.ifCond .eq 7, 3) := by decide +kernel
theorem fd_M_run_244 : decode b_M_run 244 = .ok (.iconst 0, 1) := by decide +kernel
theorem fd_M_run_245 : decode b_M_run 245 = .ok (.goto 5, 3) := by decide +kernel
theorem fd_M_run_248 : decode b_M_run 248 = .ok (.bipush (-2), 2) := by decide +kernel
theorem fd_M_run_250 : decode b_M_run 250 = .ok (.ireturn, 1) := by decide +kernel
theorem fd_M_distance_0 : decode b_M_distance 0 = .ok (.aload_n 0, 1) := by decide +kernel
theorem fd_M_distance_1 : decode b_M_distance 1 = .ok (.getfield 71, 3) := by decide +kernel
theorem fd_M_distance_4 : decode b_M_distance 4 = .ok (.ifCond .eq 29, 3) := by decide +kernel
theorem fd_M_distance_7 : decode b_M_distance 7 = .ok (.aload_n 0, 1) := by decide +kernel
theorem fd_M_distance_8 : decode b_M_distance 8 = .ok (.iload_n 1, 1) := by decide +kernel
theorem fd_M_distance_9 : decode b_M_distance 9 = .ok (.invokevirtual 51, 3) := by decide +kernel
theorem fd_M_distance_12 : decode b_M_distance 12 = .ok (.ifCond .eq 21, 3) := by decide +kernel
theorem fd_M_distance_15 : decode b_M_distance 15 = .ok (.aload_n 0, 1) := by decide +kernel
theorem fd_M_distance_16 : decode b_M_distance 16 = .ok (.getfield 28, 3) := by decide +kernel
theorem fd_M_distance_19 : decode b_M_distance 19 = .ok (.iload_n 1, 1) := by decide +kernel
theorem fd_M_distance_20 : decode b_M_distance 20 = .ok (.baload, 1) := by decide +kernel
theorem fd_M_distance_21 : decode b_M_distance 21 = .ok (.ifCond .eq 12, 3) := by decide +kernel
theorem fd_M_distance_24 : decode b_M_distance 24 = .ok (.aload_n 0, 1) := by decide +kernel
theorem fd_M_distance_25 : decode b_M_distance 25 = .ok (.getfield 22, 3) := by decide +kernel
theorem fd_M_distance_28 : decode b_M_distance 28 = .ok (.iload_n 1, 1) := by decide +kernel
theorem fd_M_distance_29 : decode b_M_distance 29 = .ok (.iaload, 1) := by decide +kernel
theorem fd_M_distance_30 : decode b_M_distance 30 = .ok (.goto 4, 3) := by decide +kernel
theorem fd_M_distance_33 : decode b_M_distance 33 = .ok (.iconst (-1), 1) := by decide +kernel
theorem fd_M_distance_34 : decode b_M_distance 34 = .ok (.ireturn, 1) := by decide +kernel
theorem fd_M_before_0 : decode b_M_before 0 = .ok (.aload_n 0, 1) := by decide +kernel
theorem fd_M_before_1 : decode b_M_before 1 = .ok (.getfield 71, 3) := by decide +kernel
theorem fd_M_before_4 : decode b_M_before 4 = .ok (.ifCond .eq 29, 3) := by decide +kernel
theorem fd_M_before_7 : decode b_M_before 7 = .ok (.aload_n 0, 1) := by decide +kernel
theorem fd_M_before_8 : decode b_M_before 8 = .ok (.iload_n 1, 1) := by decide +kernel
theorem fd_M_before_9 : decode b_M_before 9 = .ok (.invokevirtual 51, 3) := by decide +kernel
theorem fd_M_before_12 : decode b_M_before 12 = .ok (.ifCond .eq 21, 3) := by decide +kernel
theorem fd_M_before_15 : decode b_M_before 15 = .ok (.aload_n 0, 1) := by decide +kernel
theorem fd_M_before_16 : decode b_M_before 16 = .ok (.getfield 28, 3) := by decide +kernel
theorem fd_M_before_19 : decode b_M_before 19 = .ok (.iload_n 1, 1) := by decide +kernel
theorem fd_M_before_20 : decode b_M_before 20 = .ok (.baload, 1) := by decide +kernel
theorem fd_M_before_21 : decode b_M_before 21 = .ok (.ifCond .eq 12, 3) := by decide +kernel
theorem fd_M_before_24 : decode b_M_before 24 = .ok (.aload_n 0, 1) := by decide +kernel
theorem fd_M_before_25 : decode b_M_before 25 = .ok (.getfield 25, 3) := by decide +kernel
theorem fd_M_before_28 : decode b_M_before 28 = .ok (.iload_n 1, 1) := by decide +kernel
theorem fd_M_before_29 : decode b_M_before 29 = .ok (.iaload, 1) := by decide +kernel
theorem fd_M_before_30 : decode b_M_before 30 = .ok (.goto 4, 3) := by decide +kernel
theorem fd_M_before_33 : decode b_M_before 33 = .ok (.iconst (-1), 1) := by decide +kernel
theorem fd_M_before_34 : decode b_M_before 34 = .ok (.ireturn, 1) := by decide +kernel
theorem fd_M_sound_0 : decode b_M_sound 0 = .ok (.iconst 1, 1) := by decide +kernel
theorem fd_M_sound_1 : decode b_M_sound 1 = .ok (.ireturn, 1) := by decide +kernel
theorem fd_M_count_0 : decode b_M_count 0 = .ok (.iload_n 1, 1) := by decide +kernel
theorem fd_M_count_1 : decode b_M_count 1 = .ok (.ifCond .ne 10, 3) := by decide +kernel
theorem fd_M_count_4 : decode b_M_count 4 = .ok (.aload_n 0, 1) := by decide +kernel
theorem fd_M_count_5 : decode b_M_count 5 = .ok (.getfield 35, 3) := by decide +kernel
theorem fd_M_count_8 : decode b_M_count 8 = .ok (.goto 28, 3) := by decide +kernel
theorem fd_M_count_11 : decode b_M_count 11 = .ok (.iload_n 1, 1) := by decide +kernel
theorem fd_M_count_12 : decode b_M_count 12 = .ok (.iconst 1, 1) := by decide +kernel
theorem fd_M_count_13 : decode b_M_count 13 = .ok (.if_icmp .ne 10, 3) := by decide +kernel
theorem fd_M_count_16 : decode b_M_count 16 = .ok (.aload_n 0, 1) := by decide +kernel
theorem fd_M_count_17 : decode b_M_count 17 = .ok (.getfield 68, 3) := by decide +kernel
theorem fd_M_count_20 : decode b_M_count 20 = .ok (.goto 16, 3) := by decide +kernel
theorem fd_M_count_23 : decode b_M_count 23 = .ok (.iload_n 1, 1) := by decide +kernel
theorem fd_M_count_24 : decode b_M_count 24 = .ok (.iconst 2, 1) := by decide +kernel
theorem fd_M_count_25 : decode b_M_count 25 = .ok (.if_icmp .ne 10, 3) := by decide +kernel
theorem fd_M_count_28 : decode b_M_count 28 = .ok (.aload_n 0, 1) := by decide +kernel
theorem fd_M_count_29 : decode b_M_count 29 = .ok (.getfield 58, 3) := by decide +kernel
theorem fd_M_count_32 : decode b_M_count 32 = .ok (.goto 4, 3) := by decide +kernel
theorem fd_M_count_35 : decode b_M_count 35 = .ok (.iconst (-1), 1) := by decide +kernel
theorem fd_M_count_36 : decode b_M_count 36 = .ok (.ireturn, 1) := by decide +kernel
theorem fd_L_cell_0 : decode b_L_cell 0 = .ok (.iload_n 1, 1) := by decide +kernel
theorem fd_L_cell_1 : decode b_L_cell 1 = .ok (.aload_n 0, 1) := by decide +kernel
theorem fd_L_cell_2 : decode b_L_cell 2 = .ok (.arraylength, 1) := by decide +kernel
theorem fd_L_cell_3 : decode b_L_cell 3 = .ok (.if_icmp .ge 9, 3) := by decide +kernel
theorem fd_L_cell_6 : decode b_L_cell 6 = .ok (.aload_n 0, 1) := by decide +kernel
theorem fd_L_cell_7 : decode b_L_cell 7 = .ok (.iload_n 1, 1) := by decide +kernel
theorem fd_L_cell_8 : decode b_L_cell 8 = .ok (.iaload, 1) := by decide +kernel
theorem fd_L_cell_9 : decode b_L_cell 9 = .ok (.goto 4, 3) := by decide +kernel
theorem fd_L_cell_12 : decode b_L_cell 12 = .ok (.iconst 0, 1) := by decide +kernel
theorem fd_L_cell_13 : decode b_L_cell 13 = .ok (.ireturn, 1) := by decide +kernel
theorem fd_L_law_0 : decode code 0 = .ok (.new 7, 3) := by decide +kernel
theorem fd_L_law_3 : decode code 3 = .ok (.dup, 1) := by decide +kernel
theorem fd_L_law_4 : decode code 4 = .ok (.aload_n 0, 1) := by decide +kernel
theorem fd_L_law_5 : decode code 5 = .ok (.iconst 0, 1) := by decide +kernel
theorem fd_L_law_6 : decode code 6 = .ok (.invokestatic 9, 3) := by decide +kernel
theorem fd_L_law_9 : decode code 9 = .ok (.aload_n 0, 1) := by decide +kernel
theorem fd_L_law_10 : decode code 10 = .ok (.iconst 1, 1) := by decide +kernel
theorem fd_L_law_11 : decode code 11 = .ok (.invokestatic 9, 3) := by decide +kernel
theorem fd_L_law_14 : decode code 14 = .ok (.aload_n 0, 1) := by decide +kernel
theorem fd_L_law_15 : decode code 15 = .ok (.iconst 2, 1) := by decide +kernel
theorem fd_L_law_16 : decode code 16 = .ok (.invokestatic 9, 3) := by decide +kernel
theorem fd_L_law_19 : decode code 19 = .ok (.invokespecial 15, 3) := by decide +kernel
theorem fd_L_law_22 : decode code 22 = .ok (.astore_n 1, 1) := by decide +kernel
theorem fd_L_law_23 : decode code 23 = .ok (.new 18, 3) := by decide +kernel
theorem fd_L_law_26 : decode code 26 = .ok (.dup, 1) := by decide +kernel
theorem fd_L_law_27 : decode code 27 = .ok (.aload_n 0, 1) := by decide +kernel
theorem fd_L_law_28 : decode code 28 = .ok (.iconst 0, 1) := by decide +kernel
theorem fd_L_law_29 : decode code 29 = .ok (.invokestatic 9, 3) := by decide +kernel
theorem fd_L_law_32 : decode code 32 = .ok (.aload_n 0, 1) := by decide +kernel
theorem fd_L_law_33 : decode code 33 = .ok (.iconst 1, 1) := by decide +kernel
theorem fd_L_law_34 : decode code 34 = .ok (.invokestatic 9, 3) := by decide +kernel
theorem fd_L_law_37 : decode code 37 = .ok (.aload_n 0, 1) := by decide +kernel
theorem fd_L_law_38 : decode code 38 = .ok (.iconst 2, 1) := by decide +kernel
theorem fd_L_law_39 : decode code 39 = .ok (.invokestatic 9, 3) := by decide +kernel
theorem fd_L_law_42 : decode code 42 = .ok (.invokespecial 20, 3) := by decide +kernel
theorem fd_L_law_45 : decode code 45 = .ok (.astore_n 2, 1) := by decide +kernel
theorem fd_L_law_46 : decode code 46 = .ok (.iconst 3, 1) := by decide +kernel
theorem fd_L_law_47 : decode code 47 = .ok (.istore_n 3, 1) := by decide +kernel
theorem fd_L_law_48 : decode code 48 = .ok (.iload_n 3, 1) := by decide +kernel
theorem fd_L_law_49 : decode code 49 = .ok (.aload_n 0, 1) := by decide +kernel
theorem fd_L_law_50 : decode code 50 = .ok (.arraylength, 1) := by decide +kernel
theorem fd_L_law_51 : decode code 51 = .ok (.iconst 4, 1) := by decide +kernel
theorem fd_L_law_52 : decode code 52 = .ok (.isub, 1) := by decide +kernel
theorem fd_L_law_53 : decode code 53 = .ok (.if_icmp .gt 424, 3) := by decide +kernel
theorem fd_L_law_56 : decode code 56 = .ok (.aload_n 0, 1) := by decide +kernel
theorem fd_L_law_57 : decode code 57 = .ok (.iload_n 3, 1) := by decide +kernel
theorem fd_L_law_58 : decode code 58 = .ok (.iaload, 1) := by decide +kernel
theorem fd_L_law_59 : decode code 59 = .ok (.bipush 15, 2) := by decide +kernel
theorem fd_L_law_61 : decode code 61 = .ok (.iand, 1) := by decide +kernel
theorem fd_L_law_62 : decode code 62 = .ok (.tableswitch 409 0 14 #[74, 107, 140, 153, 166, 179, 202, 225, 248, 261, 304, 327, 350, 373, 386], 74) := by decide +kernel
theorem fd_L_law_136 : decode code 136 = .ok (.aload_n 1, 1) := by decide +kernel
theorem fd_L_law_137 : decode code 137 = .ok (.aload_n 0, 1) := by decide +kernel
theorem fd_L_law_138 : decode code 138 = .ok (.iload_n 3, 1) := by decide +kernel
theorem fd_L_law_139 : decode code 139 = .ok (.iconst 1, 1) := by decide +kernel
theorem fd_L_law_140 : decode code 140 = .ok (.iadd, 1) := by decide +kernel
theorem fd_L_law_141 : decode code 141 = .ok (.iaload, 1) := by decide +kernel
theorem fd_L_law_142 : decode code 142 = .ok (.aload_n 0, 1) := by decide +kernel
theorem fd_L_law_143 : decode code 143 = .ok (.iload_n 3, 1) := by decide +kernel
theorem fd_L_law_144 : decode code 144 = .ok (.iconst 2, 1) := by decide +kernel
theorem fd_L_law_145 : decode code 145 = .ok (.iadd, 1) := by decide +kernel
theorem fd_L_law_146 : decode code 146 = .ok (.iaload, 1) := by decide +kernel
theorem fd_L_law_147 : decode code 147 = .ok (.invokevirtual 21, 3) := by decide +kernel
theorem fd_L_law_150 : decode code 150 = .ok (.aload_n 2, 1) := by decide +kernel
theorem fd_L_law_151 : decode code 151 = .ok (.aload_n 0, 1) := by decide +kernel
theorem fd_L_law_152 : decode code 152 = .ok (.iload_n 3, 1) := by decide +kernel
theorem fd_L_law_153 : decode code 153 = .ok (.iconst 1, 1) := by decide +kernel
theorem fd_L_law_154 : decode code 154 = .ok (.iadd, 1) := by decide +kernel
theorem fd_L_law_155 : decode code 155 = .ok (.iaload, 1) := by decide +kernel
theorem fd_L_law_156 : decode code 156 = .ok (.aload_n 0, 1) := by decide +kernel
theorem fd_L_law_157 : decode code 157 = .ok (.iload_n 3, 1) := by decide +kernel
theorem fd_L_law_158 : decode code 158 = .ok (.iconst 2, 1) := by decide +kernel
theorem fd_L_law_159 : decode code 159 = .ok (.iadd, 1) := by decide +kernel
theorem fd_L_law_160 : decode code 160 = .ok (.iaload, 1) := by decide +kernel
theorem fd_L_law_161 : decode code 161 = .ok (.invokevirtual 25, 3) := by decide +kernel
theorem fd_L_law_164 : decode code 164 = .ok (.if_icmp .eq 307, 3) := by decide +kernel
theorem fd_L_law_167 : decode code 167 = .ok (.iconst 0, 1) := by decide +kernel
theorem fd_L_law_168 : decode code 168 = .ok (.ireturn, 1) := by decide +kernel
theorem fd_L_law_169 : decode code 169 = .ok (.aload_n 1, 1) := by decide +kernel
theorem fd_L_law_170 : decode code 170 = .ok (.aload_n 0, 1) := by decide +kernel
theorem fd_L_law_171 : decode code 171 = .ok (.iload_n 3, 1) := by decide +kernel
theorem fd_L_law_172 : decode code 172 = .ok (.iconst 1, 1) := by decide +kernel
theorem fd_L_law_173 : decode code 173 = .ok (.iadd, 1) := by decide +kernel
theorem fd_L_law_174 : decode code 174 = .ok (.iaload, 1) := by decide +kernel
theorem fd_L_law_175 : decode code 175 = .ok (.aload_n 0, 1) := by decide +kernel
theorem fd_L_law_176 : decode code 176 = .ok (.iload_n 3, 1) := by decide +kernel
theorem fd_L_law_177 : decode code 177 = .ok (.iconst 2, 1) := by decide +kernel
theorem fd_L_law_178 : decode code 178 = .ok (.iadd, 1) := by decide +kernel
theorem fd_L_law_179 : decode code 179 = .ok (.iaload, 1) := by decide +kernel
theorem fd_L_law_180 : decode code 180 = .ok (.invokevirtual 26, 3) := by decide +kernel
theorem fd_L_law_183 : decode code 183 = .ok (.aload_n 2, 1) := by decide +kernel
theorem fd_L_law_184 : decode code 184 = .ok (.aload_n 0, 1) := by decide +kernel
theorem fd_L_law_185 : decode code 185 = .ok (.iload_n 3, 1) := by decide +kernel
theorem fd_L_law_186 : decode code 186 = .ok (.iconst 1, 1) := by decide +kernel
theorem fd_L_law_187 : decode code 187 = .ok (.iadd, 1) := by decide +kernel
theorem fd_L_law_188 : decode code 188 = .ok (.iaload, 1) := by decide +kernel
theorem fd_L_law_189 : decode code 189 = .ok (.aload_n 0, 1) := by decide +kernel
theorem fd_L_law_190 : decode code 190 = .ok (.iload_n 3, 1) := by decide +kernel
theorem fd_L_law_191 : decode code 191 = .ok (.iconst 2, 1) := by decide +kernel
theorem fd_L_law_192 : decode code 192 = .ok (.iadd, 1) := by decide +kernel
theorem fd_L_law_193 : decode code 193 = .ok (.iaload, 1) := by decide +kernel
theorem fd_L_law_194 : decode code 194 = .ok (.invokevirtual 29, 3) := by decide +kernel
theorem fd_L_law_197 : decode code 197 = .ok (.if_icmp .eq 274, 3) := by decide +kernel
theorem fd_L_law_200 : decode code 200 = .ok (.iconst 0, 1) := by decide +kernel
theorem fd_L_law_201 : decode code 201 = .ok (.ireturn, 1) := by decide +kernel
theorem fd_L_law_202 : decode code 202 = .ok (.aload_n 1, 1) := by decide +kernel
theorem fd_L_law_203 : decode code 203 = .ok (.invokevirtual 30, 3) := by decide +kernel
theorem fd_L_law_206 : decode code 206 = .ok (.aload_n 2, 1) := by decide +kernel
theorem fd_L_law_207 : decode code 207 = .ok (.invokevirtual 34, 3) := by decide +kernel
theorem fd_L_law_210 : decode code 210 = .ok (.if_icmp .eq 261, 3) := by decide +kernel
theorem fd_L_law_213 : decode code 213 = .ok (.iconst 0, 1) := by decide +kernel
theorem fd_L_law_214 : decode code 214 = .ok (.ireturn, 1) := by decide +kernel
theorem fd_L_law_215 : decode code 215 = .ok (.aload_n 1, 1) := by decide +kernel
theorem fd_L_law_216 : decode code 216 = .ok (.invokevirtual 35, 3) := by decide +kernel
theorem fd_L_law_219 : decode code 219 = .ok (.aload_n 2, 1) := by decide +kernel
theorem fd_L_law_220 : decode code 220 = .ok (.invokevirtual 38, 3) := by decide +kernel
theorem fd_L_law_223 : decode code 223 = .ok (.if_icmp .eq 248, 3) := by decide +kernel
theorem fd_L_law_226 : decode code 226 = .ok (.iconst 0, 1) := by decide +kernel
theorem fd_L_law_227 : decode code 227 = .ok (.ireturn, 1) := by decide +kernel
theorem fd_L_law_228 : decode code 228 = .ok (.aload_n 1, 1) := by decide +kernel
theorem fd_L_law_229 : decode code 229 = .ok (.invokevirtual 39, 3) := by decide +kernel
theorem fd_L_law_232 : decode code 232 = .ok (.aload_n 2, 1) := by decide +kernel
theorem fd_L_law_233 : decode code 233 = .ok (.invokevirtual 42, 3) := by decide +kernel
theorem fd_L_law_236 : decode code 236 = .ok (.if_icmp .eq 235, 3) := by decide +kernel
theorem fd_L_law_239 : decode code 239 = .ok (.iconst 0, 1) := by decide +kernel
theorem fd_L_law_240 : decode code 240 = .ok (.ireturn, 1) := by decide +kernel
theorem fd_L_law_241 : decode code 241 = .ok (.aload_n 1, 1) := by decide +kernel
theorem fd_L_law_242 : decode code 242 = .ok (.aload_n 0, 1) := by decide +kernel
theorem fd_L_law_243 : decode code 243 = .ok (.iload_n 3, 1) := by decide +kernel
theorem fd_L_law_244 : decode code 244 = .ok (.iconst 1, 1) := by decide +kernel
theorem fd_L_law_245 : decode code 245 = .ok (.iadd, 1) := by decide +kernel
theorem fd_L_law_246 : decode code 246 = .ok (.iaload, 1) := by decide +kernel
theorem fd_L_law_247 : decode code 247 = .ok (.invokevirtual 43, 3) := by decide +kernel
theorem fd_L_law_250 : decode code 250 = .ok (.aload_n 2, 1) := by decide +kernel
theorem fd_L_law_251 : decode code 251 = .ok (.aload_n 0, 1) := by decide +kernel
theorem fd_L_law_252 : decode code 252 = .ok (.iload_n 3, 1) := by decide +kernel
theorem fd_L_law_253 : decode code 253 = .ok (.iconst 1, 1) := by decide +kernel
theorem fd_L_law_254 : decode code 254 = .ok (.iadd, 1) := by decide +kernel
theorem fd_L_law_255 : decode code 255 = .ok (.iaload, 1) := by decide +kernel
theorem fd_L_law_256 : decode code 256 = .ok (.invokevirtual 47, 3) := by decide +kernel
theorem fd_L_law_259 : decode code 259 = .ok (.if_icmp .eq 212, 3) := by decide +kernel
theorem fd_L_law_262 : decode code 262 = .ok (.iconst 0, 1) := by decide +kernel
theorem fd_L_law_263 : decode code 263 = .ok (.ireturn, 1) := by decide +kernel
theorem fd_L_law_264 : decode code 264 = .ok (.aload_n 1, 1) := by decide +kernel
theorem fd_L_law_265 : decode code 265 = .ok (.aload_n 0, 1) := by decide +kernel
theorem fd_L_law_266 : decode code 266 = .ok (.iload_n 3, 1) := by decide +kernel
theorem fd_L_law_267 : decode code 267 = .ok (.iconst 1, 1) := by decide +kernel
theorem fd_L_law_268 : decode code 268 = .ok (.iadd, 1) := by decide +kernel
theorem fd_L_law_269 : decode code 269 = .ok (.iaload, 1) := by decide +kernel
theorem fd_L_law_270 : decode code 270 = .ok (.invokevirtual 48, 3) := by decide +kernel
theorem fd_L_law_273 : decode code 273 = .ok (.aload_n 2, 1) := by decide +kernel
theorem fd_L_law_274 : decode code 274 = .ok (.aload_n 0, 1) := by decide +kernel
theorem fd_L_law_275 : decode code 275 = .ok (.iload_n 3, 1) := by decide +kernel
theorem fd_L_law_276 : decode code 276 = .ok (.iconst 1, 1) := by decide +kernel
theorem fd_L_law_277 : decode code 277 = .ok (.iadd, 1) := by decide +kernel
theorem fd_L_law_278 : decode code 278 = .ok (.iaload, 1) := by decide +kernel
theorem fd_L_law_279 : decode code 279 = .ok (.invokevirtual 51, 3) := by decide +kernel
theorem fd_L_law_282 : decode code 282 = .ok (.if_icmp .eq 189, 3) := by decide +kernel
theorem fd_L_law_285 : decode code 285 = .ok (.iconst 0, 1) := by decide +kernel
theorem fd_L_law_286 : decode code 286 = .ok (.ireturn, 1) := by decide +kernel
theorem fd_L_law_287 : decode code 287 = .ok (.aload_n 1, 1) := by decide +kernel
theorem fd_L_law_288 : decode code 288 = .ok (.aload_n 0, 1) := by decide +kernel
theorem fd_L_law_289 : decode code 289 = .ok (.iload_n 3, 1) := by decide +kernel
theorem fd_L_law_290 : decode code 290 = .ok (.iconst 1, 1) := by decide +kernel
theorem fd_L_law_291 : decode code 291 = .ok (.iadd, 1) := by decide +kernel
theorem fd_L_law_292 : decode code 292 = .ok (.iaload, 1) := by decide +kernel
theorem fd_L_law_293 : decode code 293 = .ok (.invokevirtual 52, 3) := by decide +kernel
theorem fd_L_law_296 : decode code 296 = .ok (.aload_n 2, 1) := by decide +kernel
theorem fd_L_law_297 : decode code 297 = .ok (.aload_n 0, 1) := by decide +kernel
theorem fd_L_law_298 : decode code 298 = .ok (.iload_n 3, 1) := by decide +kernel
theorem fd_L_law_299 : decode code 299 = .ok (.iconst 1, 1) := by decide +kernel
theorem fd_L_law_300 : decode code 300 = .ok (.iadd, 1) := by decide +kernel
theorem fd_L_law_301 : decode code 301 = .ok (.iaload, 1) := by decide +kernel
theorem fd_L_law_302 : decode code 302 = .ok (.invokevirtual 55, 3) := by decide +kernel
theorem fd_L_law_305 : decode code 305 = .ok (.if_icmp .eq 166, 3) := by decide +kernel
theorem fd_L_law_308 : decode code 308 = .ok (.iconst 0, 1) := by decide +kernel
theorem fd_L_law_309 : decode code 309 = .ok (.ireturn, 1) := by decide +kernel
theorem fd_L_law_310 : decode code 310 = .ok (.aload_n 1, 1) := by decide +kernel
theorem fd_L_law_311 : decode code 311 = .ok (.invokevirtual 56, 3) := by decide +kernel
theorem fd_L_law_314 : decode code 314 = .ok (.aload_n 2, 1) := by decide +kernel
theorem fd_L_law_315 : decode code 315 = .ok (.invokevirtual 59, 3) := by decide +kernel
theorem fd_L_law_318 : decode code 318 = .ok (.if_icmp .eq 153, 3) := by decide +kernel
theorem fd_L_law_321 : decode code 321 = .ok (.iconst 0, 1) := by decide +kernel
theorem fd_L_law_322 : decode code 322 = .ok (.ireturn, 1) := by decide +kernel
theorem fd_L_law_323 : decode code 323 = .ok (.aload_n 1, 1) := by decide +kernel
theorem fd_L_law_324 : decode code 324 = .ok (.aload_n 0, 1) := by decide +kernel
theorem fd_L_law_325 : decode code 325 = .ok (.iload_n 3, 1) := by decide +kernel
theorem fd_L_law_326 : decode code 326 = .ok (.iconst 1, 1) := by decide +kernel
theorem fd_L_law_327 : decode code 327 = .ok (.iadd, 1) := by decide +kernel
theorem fd_L_law_328 : decode code 328 = .ok (.iaload, 1) := by decide +kernel
theorem fd_L_law_329 : decode code 329 = .ok (.aload_n 0, 1) := by decide +kernel
theorem fd_L_law_330 : decode code 330 = .ok (.iload_n 3, 1) := by decide +kernel
theorem fd_L_law_331 : decode code 331 = .ok (.iconst 2, 1) := by decide +kernel
theorem fd_L_law_332 : decode code 332 = .ok (.iadd, 1) := by decide +kernel
theorem fd_L_law_333 : decode code 333 = .ok (.iaload, 1) := by decide +kernel
theorem fd_L_law_334 : decode code 334 = .ok (.aload_n 0, 1) := by decide +kernel
theorem fd_L_law_335 : decode code 335 = .ok (.iload_n 3, 1) := by decide +kernel
theorem fd_L_law_336 : decode code 336 = .ok (.iconst 3, 1) := by decide +kernel
theorem fd_L_law_337 : decode code 337 = .ok (.iadd, 1) := by decide +kernel
theorem fd_L_law_338 : decode code 338 = .ok (.iaload, 1) := by decide +kernel
theorem fd_L_law_339 : decode code 339 = .ok (.invokevirtual 60, 3) := by decide +kernel
theorem fd_L_law_342 : decode code 342 = .ok (.aload_n 2, 1) := by decide +kernel
theorem fd_L_law_343 : decode code 343 = .ok (.aload_n 0, 1) := by decide +kernel
theorem fd_L_law_344 : decode code 344 = .ok (.iload_n 3, 1) := by decide +kernel
theorem fd_L_law_345 : decode code 345 = .ok (.iconst 1, 1) := by decide +kernel
theorem fd_L_law_346 : decode code 346 = .ok (.iadd, 1) := by decide +kernel
theorem fd_L_law_347 : decode code 347 = .ok (.iaload, 1) := by decide +kernel
theorem fd_L_law_348 : decode code 348 = .ok (.aload_n 0, 1) := by decide +kernel
theorem fd_L_law_349 : decode code 349 = .ok (.iload_n 3, 1) := by decide +kernel
theorem fd_L_law_350 : decode code 350 = .ok (.iconst 2, 1) := by decide +kernel
theorem fd_L_law_351 : decode code 351 = .ok (.iadd, 1) := by decide +kernel
theorem fd_L_law_352 : decode code 352 = .ok (.iaload, 1) := by decide +kernel
theorem fd_L_law_353 : decode code 353 = .ok (.aload_n 0, 1) := by decide +kernel
theorem fd_L_law_354 : decode code 354 = .ok (.iload_n 3, 1) := by decide +kernel
theorem fd_L_law_355 : decode code 355 = .ok (.iconst 3, 1) := by decide +kernel
theorem fd_L_law_356 : decode code 356 = .ok (.iadd, 1) := by decide +kernel
theorem fd_L_law_357 : decode code 357 = .ok (.iaload, 1) := by decide +kernel
theorem fd_L_law_358 : decode code 358 = .ok (.invokevirtual 64, 3) := by decide +kernel
theorem fd_L_law_361 : decode code 361 = .ok (.if_icmp .eq 110, 3) := by decide +kernel
theorem fd_L_law_364 : decode code 364 = .ok (.iconst 0, 1) := by decide +kernel
theorem fd_L_law_365 : decode code 365 = .ok (.ireturn, 1) := by decide +kernel
theorem fd_L_law_366 : decode code 366 = .ok (.aload_n 1, 1) := by decide +kernel
theorem fd_L_law_367 : decode code 367 = .ok (.aload_n 0, 1) := by decide +kernel
theorem fd_L_law_368 : decode code 368 = .ok (.iload_n 3, 1) := by decide +kernel
theorem fd_L_law_369 : decode code 369 = .ok (.iconst 1, 1) := by decide +kernel
theorem fd_L_law_370 : decode code 370 = .ok (.iadd, 1) := by decide +kernel
theorem fd_L_law_371 : decode code 371 = .ok (.iaload, 1) := by decide +kernel
theorem fd_L_law_372 : decode code 372 = .ok (.invokevirtual 65, 3) := by decide +kernel
theorem fd_L_law_375 : decode code 375 = .ok (.aload_n 2, 1) := by decide +kernel
theorem fd_L_law_376 : decode code 376 = .ok (.aload_n 0, 1) := by decide +kernel
theorem fd_L_law_377 : decode code 377 = .ok (.iload_n 3, 1) := by decide +kernel
theorem fd_L_law_378 : decode code 378 = .ok (.iconst 1, 1) := by decide +kernel
theorem fd_L_law_379 : decode code 379 = .ok (.iadd, 1) := by decide +kernel
theorem fd_L_law_380 : decode code 380 = .ok (.iaload, 1) := by decide +kernel
theorem fd_L_law_381 : decode code 381 = .ok (.invokevirtual 68, 3) := by decide +kernel
theorem fd_L_law_384 : decode code 384 = .ok (.if_icmp .eq 87, 3) := by decide +kernel
theorem fd_L_law_387 : decode code 387 = .ok (.iconst 0, 1) := by decide +kernel
theorem fd_L_law_388 : decode code 388 = .ok (.ireturn, 1) := by decide +kernel
theorem fd_L_law_389 : decode code 389 = .ok (.aload_n 1, 1) := by decide +kernel
theorem fd_L_law_390 : decode code 390 = .ok (.aload_n 0, 1) := by decide +kernel
theorem fd_L_law_391 : decode code 391 = .ok (.iload_n 3, 1) := by decide +kernel
theorem fd_L_law_392 : decode code 392 = .ok (.iconst 1, 1) := by decide +kernel
theorem fd_L_law_393 : decode code 393 = .ok (.iadd, 1) := by decide +kernel
theorem fd_L_law_394 : decode code 394 = .ok (.iaload, 1) := by decide +kernel
theorem fd_L_law_395 : decode code 395 = .ok (.invokevirtual 69, 3) := by decide +kernel
theorem fd_L_law_398 : decode code 398 = .ok (.aload_n 2, 1) := by decide +kernel
theorem fd_L_law_399 : decode code 399 = .ok (.aload_n 0, 1) := by decide +kernel
theorem fd_L_law_400 : decode code 400 = .ok (.iload_n 3, 1) := by decide +kernel
theorem fd_L_law_401 : decode code 401 = .ok (.iconst 1, 1) := by decide +kernel
theorem fd_L_law_402 : decode code 402 = .ok (.iadd, 1) := by decide +kernel
theorem fd_L_law_403 : decode code 403 = .ok (.iaload, 1) := by decide +kernel
theorem fd_L_law_404 : decode code 404 = .ok (.invokevirtual 72, 3) := by decide +kernel
theorem fd_L_law_407 : decode code 407 = .ok (.if_icmp .eq 64, 3) := by decide +kernel
theorem fd_L_law_410 : decode code 410 = .ok (.iconst 0, 1) := by decide +kernel
theorem fd_L_law_411 : decode code 411 = .ok (.ireturn, 1) := by decide +kernel
theorem fd_L_law_412 : decode code 412 = .ok (.aload_n 1, 1) := by decide +kernel
theorem fd_L_law_413 : decode code 413 = .ok (.aload_n 0, 1) := by decide +kernel
theorem fd_L_law_414 : decode code 414 = .ok (.iload_n 3, 1) := by decide +kernel
theorem fd_L_law_415 : decode code 415 = .ok (.iconst 1, 1) := by decide +kernel
theorem fd_L_law_416 : decode code 416 = .ok (.iadd, 1) := by decide +kernel
theorem fd_L_law_417 : decode code 417 = .ok (.iaload, 1) := by decide +kernel
theorem fd_L_law_418 : decode code 418 = .ok (.invokevirtual 73, 3) := by decide +kernel
theorem fd_L_law_421 : decode code 421 = .ok (.aload_n 2, 1) := by decide +kernel
theorem fd_L_law_422 : decode code 422 = .ok (.aload_n 0, 1) := by decide +kernel
theorem fd_L_law_423 : decode code 423 = .ok (.iload_n 3, 1) := by decide +kernel
theorem fd_L_law_424 : decode code 424 = .ok (.iconst 1, 1) := by decide +kernel
theorem fd_L_law_425 : decode code 425 = .ok (.iadd, 1) := by decide +kernel
theorem fd_L_law_426 : decode code 426 = .ok (.iaload, 1) := by decide +kernel
theorem fd_L_law_427 : decode code 427 = .ok (.invokevirtual 76, 3) := by decide +kernel
theorem fd_L_law_430 : decode code 430 = .ok (.if_icmp .eq 41, 3) := by decide +kernel
theorem fd_L_law_433 : decode code 433 = .ok (.iconst 0, 1) := by decide +kernel
theorem fd_L_law_434 : decode code 434 = .ok (.ireturn, 1) := by decide +kernel
theorem fd_L_law_435 : decode code 435 = .ok (.aload_n 1, 1) := by decide +kernel
theorem fd_L_law_436 : decode code 436 = .ok (.invokevirtual 77, 3) := by decide +kernel
theorem fd_L_law_439 : decode code 439 = .ok (.aload_n 2, 1) := by decide +kernel
theorem fd_L_law_440 : decode code 440 = .ok (.invokevirtual 81, 3) := by decide +kernel
theorem fd_L_law_443 : decode code 443 = .ok (.if_icmp .eq 28, 3) := by decide +kernel
theorem fd_L_law_446 : decode code 446 = .ok (.iconst 0, 1) := by decide +kernel
theorem fd_L_law_447 : decode code 447 = .ok (.ireturn, 1) := by decide +kernel
theorem fd_L_law_448 : decode code 448 = .ok (.aload_n 1, 1) := by decide +kernel
theorem fd_L_law_449 : decode code 449 = .ok (.aload_n 0, 1) := by decide +kernel
theorem fd_L_law_450 : decode code 450 = .ok (.iload_n 3, 1) := by decide +kernel
theorem fd_L_law_451 : decode code 451 = .ok (.iconst 1, 1) := by decide +kernel
theorem fd_L_law_452 : decode code 452 = .ok (.iadd, 1) := by decide +kernel
theorem fd_L_law_453 : decode code 453 = .ok (.iaload, 1) := by decide +kernel
theorem fd_L_law_454 : decode code 454 = .ok (.invokevirtual 82, 3) := by decide +kernel
theorem fd_L_law_457 : decode code 457 = .ok (.aload_n 2, 1) := by decide +kernel
theorem fd_L_law_458 : decode code 458 = .ok (.aload_n 0, 1) := by decide +kernel
theorem fd_L_law_459 : decode code 459 = .ok (.iload_n 3, 1) := by decide +kernel
theorem fd_L_law_460 : decode code 460 = .ok (.iconst 1, 1) := by decide +kernel
theorem fd_L_law_461 : decode code 461 = .ok (.iadd, 1) := by decide +kernel
theorem fd_L_law_462 : decode code 462 = .ok (.iaload, 1) := by decide +kernel
theorem fd_L_law_463 : decode code 463 = .ok (.invokevirtual 85, 3) := by decide +kernel
theorem fd_L_law_466 : decode code 466 = .ok (.if_icmp .eq 5, 3) := by decide +kernel
theorem fd_L_law_469 : decode code 469 = .ok (.iconst 0, 1) := by decide +kernel
theorem fd_L_law_470 : decode code 470 = .ok (.ireturn, 1) := by decide +kernel
theorem fd_L_law_471 : decode code 471 = .ok (.iinc 3 4, 3) := by decide +kernel
theorem fd_L_law_474 : decode code 474 = .ok (.goto (-426), 3) := by decide +kernel
theorem fd_L_law_477 : decode code 477 = .ok (.iconst 1, 1) := by decide +kernel
theorem fd_L_law_478 : decode code 478 = .ok (.ireturn, 1) := by decide +kernel
end
section
abbrev fq_G : Type := Nat → Nat → Int32
abbrev fq_V : Type := va_G × ClassId × ClassId
def fq_us (g : fq_G) (k i : Nat) (x : Int32) : fq_G := fun r => if r = k then upd (g r) i x else g r
abbrev fq_tys (V : fq_V) : List (ClassId × FieldType) := [(V.2.1, .int), (V.2.2, .boolean)]
def fq_Hp (V : fq_V) (A : Nat → Prop) (H0 : Heap) (w : va_W) (H : Heap) (locs : List Loc) : Prop := va_P V.1 classes w H ∧ va_D A w ∧ va_S A H0 H locs ∧ ∀ q, H0.size ≤ q → A q
def fq_Cx (V : fq_V) (p : Program) (s : State) (m : MethodId) (args : Array Value) (meth : Method) (c : Code) (own : String) (cc : ByteArray) (nL : Nat) (ret : Option FieldType) : Prop :=
  p.tables.exec = Jvm.exec ∧ c.code = cc ∧ meth.sig.returnType = ret ∧ c.maxLocals = nL ∧ s.vm.findClass own = some m.cls ∧ (∀ w ∈ fq_tb, w.before args s = true) ∧ meth.locks = false ∧ va_K V.1 classes (fq_tys V) s
def fq_Rm (d : Nat) : Room := { frames := d, cells := 0, slots := 0, locals := 32 * d }
def fq_In (V : fq_V) (Wd : fq_G → va_W) (g : fq_G) (sz : Nat) (U : State) : Prop := U.heap.size = sz ∧ va_P V.1 classes (Wd g) U.heap ∧ va_K V.1 classes (fq_tys V) U ∧ va_D (fun _ => True) (Wd g)
def fq_Out (V : fq_V) (Wd : fq_G → va_W) (A : Nat → Prop) (u : fq_G) (t : State) : Prop := va_P V.1 classes (Wd u) t.heap ∧ va_K V.1 classes (fq_tys V) t ∧ va_D A (Wd u)
/-- a contract of a method that answers an int (or a boolean): from the world Wd g; post: its answer and the new pure state -/
def fq_MI (l : Launch) (V : fq_V) (y : MethodName) (cc : ByteArray) (nL : Nat) (ty : FieldType) (d : Nat) (av : List Value) (Wd : fq_G → va_W) (g : fq_G) (post : Int32 → fq_G → Prop) : Prop :=
  ∀ sz : Nat, Met l y (.code y cc nL (some ty) :: fq_tb) (fq_Rm d) (va_Pc av (fq_In V Wd g sz)) (va_Qi post (fq_Out V Wd (va_A (Wd g) sz)) (va_A (Wd g) sz)) 0 0 (va_A (Wd g) sz)
def fq_MV (l : Launch) (V : fq_V) (y : MethodName) (cc : ByteArray) (nL : Nat) (d : Nat) (av : List Value) (Wd : fq_G → va_W) (g : fq_G) (post : fq_G → Prop) : Prop :=
  ∀ sz : Nat, Met l y (.code y cc nL none :: fq_tb) (fq_Rm d) (va_Pc av (fq_In V Wd g sz)) (va_Qv post (fq_Out V Wd (va_A (Wd g) sz)) (va_A (Wd g) sz)) 0 0 (va_A (Wd g) sz)
def fq_RetI (V : fq_V) (p : Program) (l : Launch) (e : Env) (R : Room) (s : State) (m : MethodId) (args : Array Value) (below : List Frame) (meth : Method) (c : Code) (cc : ByteArray) (ty : FieldType) (Wd : fq_G → va_W) (A : Nat → Prop) (post : Int32 → fq_G → Prop) (Q : State → Prop) : Prop :=
  ∀ (r : Int32) (u : fq_G) (H : Heap) (locs : List Loc) (ls : Array Slot) (pc : Nat), decode cc pc = .ok (.ireturn, 1) → fq_Hp V A s.heap (Wd u) H locs → post r u → narrow ty (.int r) = .int r → W p l e R s m args below meth c H locs 0 0 Q (F0 m pc ls [.int r])
def fq_RetV (V : fq_V) (p : Program) (l : Launch) (e : Env) (R : Room) (s : State) (m : MethodId) (args : Array Value) (below : List Frame) (meth : Method) (c : Code) (cc : ByteArray) (Wd : fq_G → va_W) (A : Nat → Prop) (post : fq_G → Prop) (Q : State → Prop) : Prop :=
  ∀ (u : fq_G) (H : Heap) (locs : List Loc) (ls : Array Slot) (pc : Nat), decode cc pc = .ok (.return_, 1) → fq_Hp V A s.heap (Wd u) H locs → post u → W p l e R s m args below meth c H locs 0 0 Q (F0 m pc ls [])
theorem fq_MI_of {l : Launch} {V : fq_V} {y : MethodName} {cc : ByteArray} {nL : Nat} {ty : FieldType} {d : Nat} {av : List Value} {lv : List (Nat × Value)} {Wd : fq_G → va_W} {g : fq_G} {post : Int32 → fq_G → Prop} (hy : plainName y.cls = true) (hfit : (lg_sl av).length ≤ nL) (hlv : lv_args 0 av = lv)
    (h : ∀ (p : Program) (e : Env) (s : State) (m : MethodId) (args : Array Value) (below : List Frame) (meth : Method) (c : Code) (A : Nat → Prop) (Q : State → Prop), fq_Cx V p s m args meth c y.cls cc nL (some ty) → fq_RetI V p l e (fq_Rm d) s m args below meth c cc ty Wd A post Q → ∀ ls : Array Slot, lv_has ls nL lv → fq_Hp V A s.heap (Wd g) s.heap [] → W p l e (fq_Rm d) s m args below meth c s.heap [] 0 0 Q (F0 m 0 ls [])) :
    fq_MI l V y cc nL ty d av Wd g post := by
  intro sz
  refine Met.ofW (cc := cc) (maxL := nL) (ret := some ty) hy rfl ?_
  intro p e s m args below meth c s₁ B hml hv
  obtain ⟨rfl, hsz, hP, hK, hD0⟩ := hv
  have hts := atoms_spec (ws := .code y cc nL (some ty) :: fq_tb) B.pre
  have hown : s.vm.findClass y.cls = some m.cls := findClass_of_methodNamed B.named
  subst hsz
  have hl := lv_entry av (n := nL) hfit
  rw [hlv] at hl
  rw [lg_entry_eq]
  refine h p e s m _ below meth c (va_A (Wd g) s.heap.size) _ ⟨B.exec, B.bytes, B.returns, hml, hown, fun w hw => hts w (List.mem_cons_of_mem _ hw), B.notSynchronized, hK⟩ ?_ _ hl ⟨hP, hD0.self, va_S.rf, fun q hq => Or.inr hq⟩
  intro r u H locs ls pc hdg hQ hp hn
  exact W.zret B.exec B.bytes B.returns hn (fun t ht hW => ⟨⟨r, u, rfl, hp, by rw [ht]; exact hQ.1, va_K.moved hW.alike hK, hQ.2.1⟩, hQ.2.2.1.F ht⟩) hQ.2.2.1.2.2 hdg B.notSynchronized
theorem fq_MV_of {l : Launch} {V : fq_V} {y : MethodName} {cc : ByteArray} {nL : Nat} {d : Nat} {av : List Value} {lv : List (Nat × Value)} {Wd : fq_G → va_W} {g : fq_G} {post : fq_G → Prop} (hy : plainName y.cls = true) (hfit : (lg_sl av).length ≤ nL) (hlv : lv_args 0 av = lv)
    (h : ∀ (p : Program) (e : Env) (s : State) (m : MethodId) (args : Array Value) (below : List Frame) (meth : Method) (c : Code) (A : Nat → Prop) (Q : State → Prop), fq_Cx V p s m args meth c y.cls cc nL none → fq_RetV V p l e (fq_Rm d) s m args below meth c cc Wd A post Q → ∀ ls : Array Slot, lv_has ls nL lv → fq_Hp V A s.heap (Wd g) s.heap [] → W p l e (fq_Rm d) s m args below meth c s.heap [] 0 0 Q (F0 m 0 ls [])) :
    fq_MV l V y cc nL d av Wd g post := by
  intro sz
  refine Met.ofW (cc := cc) (maxL := nL) (ret := none) hy rfl ?_
  intro p e s m args below meth c s₁ B hml hv
  obtain ⟨rfl, hsz, hP, hK, hD0⟩ := hv
  have hts := atoms_spec (ws := .code y cc nL none :: fq_tb) B.pre
  have hown : s.vm.findClass y.cls = some m.cls := findClass_of_methodNamed B.named
  subst hsz
  have hl := lv_entry av (n := nL) hfit
  rw [hlv] at hl
  rw [lg_entry_eq]
  refine h p e s m _ below meth c (va_A (Wd g) s.heap.size) _ ⟨B.exec, B.bytes, B.returns, hml, hown, fun w hw => hts w (List.mem_cons_of_mem _ hw), B.notSynchronized, hK⟩ ?_ _ hl ⟨hP, hD0.self, va_S.rf, fun q hq => Or.inr hq⟩
  intro u H locs ls pc hdg hQ hp
  exact W.vret B.exec B.bytes B.returns (fun t ht hW => ⟨⟨u, rfl, hp, by rw [ht]; exact hQ.1, va_K.moved hW.alike hK, hQ.2.1⟩, hQ.2.2.1.F ht⟩) hQ.2.2.1.2.2 hdg B.notSynchronized
def fq_CW (own : String) (idx : Nat) (C : String) (y : MethodName) (cc : ByteArray) (nL : Nat) (ret : Option FieldType) (n : Nat) : Prop :=
  (Cond.methodLink own idx y ∈ fq_tb ∧ Cond.instanceMethod y ∈ fq_tb ∧ Cond.selects C y y ∈ fq_tb ∧ Cond.initialized C ∈ fq_tb ∧ Cond.code y cc nL ret ∈ fq_tb) ∧ (y.cls = C ∧ y.cls ≠ "java/lang/invoke/MethodHandle" ∧ y.cls ≠ "java/lang/invoke/VarHandle" ∧ (parseMethodDescriptor y.desc).map (fun d => d.parameters.length) = some n)
def fq_CS (own : String) (idx : Nat) (y : MethodName) (cc : ByteArray) (nL : Nat) (ret : Option FieldType) (n : Nat) : Prop :=
  (Cond.methodLink own idx y ∈ fq_tb ∧ Cond.static y ∈ fq_tb ∧ Cond.initialized own ∈ fq_tb ∧ Cond.code y cc nL ret ∈ fq_tb) ∧ (y.cls = own ∧ y.cls ≠ "java/lang/invoke/MethodHandle" ∧ y.cls ≠ "java/lang/invoke/VarHandle" ∧ (parseMethodDescriptor y.desc).map (fun d => d.parameters.length) = some n)
theorem fq_goodV {own C : String} {idx nL n : Nat} {y : MethodName} {cc : ByteArray} {ret : Option FieldType} (h : fq_CW own idx C y cc nL ret n) : GoodIn fq_tb (wsV own idx C y (.code y cc nL ret :: fq_tb)) := by
  intro w hw
  obtain ⟨⟨h1, h2, h3, h4, h5⟩, -⟩ := h
  refine fq_good w ?_
  simp only [wsV, List.cons_append, List.nil_append, List.mem_cons] at hw
  rcases hw with rfl | rfl | rfl | rfl | rfl | hw <;> assumption
theorem fq_goodS {own : String} {idx nL n : Nat} {y : MethodName} {cc : ByteArray} {ret : Option FieldType} (h : fq_CS own idx y cc nL ret n) : GoodIn fq_tb (wsS own idx y (.code y cc nL ret :: fq_tb)) := by
  intro w hw
  obtain ⟨⟨h1, h2, h3, h4⟩, -⟩ := h
  refine fq_good w ?_
  simp only [wsS, List.cons_append, List.nil_append, List.mem_cons] at hw
  rcases hw with rfl | rfl | rfl | rfl | hw <;> assumption
theorem fq_freeA {V : fq_V} {A : Nat → Prop} {H0 H : Heap} {w : va_W} {locs : List Loc} (hQ : fq_Hp V A H0 w H locs) : ∀ q, va_A w H.size q → A q := by
  obtain ⟨hP, hD, hS, hA⟩ := hQ
  intro q h
  rcases h with ⟨k, e, h⟩ | h
  · exact hD.2 k _ h
  · exact hA q (Nat.le_trans hS.1 h)
theorem fq_blind {V : fq_V} {Wd : fq_G → va_W} {g : fq_G} {sz : Nat} {av : List Value} : FrameBlind (va_Pc av (fq_In V Wd g sz)) := by
  intro a U g mk q
  obtain ⟨q0, q1, qP, qK, qD⟩ := q
  exact ⟨q0, q1, qP, va_K.moved (u := U) (U := U.calling g mk a) (Vm.Alike.refl U.vm) qK, qD⟩
section FQR
variable {V : fq_V} {p : Program} {l : Launch} {e : Env} {R : Room} {s : State} {m : MethodId} {args : Array Value} {below : List Frame} {meth : Method} {c : Code} {H : Heap} {locs : List Loc} {cells slots : Nat} {Q : State → Prop}
variable {cc : ByteArray} {pc nL : Nat} {ret : Option FieldType} {ls : Array Slot} {rest st : List Value} {A : Nat → Prop} {H0 : Heap} {own : String}
theorem fq_top {x y : Int32} (h : x = y) (k : W p l e R s m args below meth c H locs cells slots Q (F0 m pc ls (.int y :: rest))) : W p l e R s m args below meth c H locs cells slots Q (F0 m pc ls (.int x :: rest)) := by
  subst h; exact k
theorem fq_callI (hC : fq_Cx V p s m args meth c own cc nL ret) {C : String} {y : MethodName} {cc' : ByteArray} {nL' d' n idx : Nat} {ty : FieldType} {b : Nat} {As : List Value} {Wd : fq_G → va_W} {g : fq_G} {post : Int32 → fq_G → Prop} (hM : fq_MI l V y cc' nL' ty d' (.ref b :: As) Wd g post) (hw : fq_CW own idx C y cc' nL' (some ty) n) (hR : (fq_Rm d').frames + 1 ≤ R.frames ∧ 8 + (nL' + 11) + (fq_Rm d').locals ≤ R.locals)
    {ci : Nat} {fs : List Value} {q : vw_C} (he : (Wd g)[0]? = some (b, .inr (ci, fs))) (hcl : classes[ci]? = some q) (hq1 : q.1 = C) (hQ : fq_Hp V A H0 (Wd g) H locs) (hn : As.length = n) (hsz : ls.size = nL) (hst : st = As.reverse ++ .ref b :: rest) (hroom : (rest.map fun v => v.category).sum ≤ 8) (hdg : decode cc pc = .ok (.invokevirtual idx, 3)) (hf : cells + 0 ≤ R.cells ∧ slots + 0 ≤ R.slots)
    (kk : ∀ (r : Int32) (u : fq_G) (H1 : Heap) (locs1 : List Loc), post r u → fq_Hp V A H0 (Wd u) H1 locs1 → W p l e R s m args below meth c H1 locs1 cells slots Q (F0 m (pc + 3) ls (.int r :: rest))) : W p l e R s m args below meth c H locs cells slots Q (F0 m pc ls st) := by
  have hF := fq_freeA hQ
  obtain ⟨hx, hb, hr, hml, hown, hts, hlk, hK⟩ := hC
  obtain ⟨hP, hD, hS, hA⟩ := hQ
  subst hst
  subst hq1
  refine va_calli (va_runV (As := As) (rest := rest) ⟨hx, hb, hml, hown, hts⟩ (hM H.size) (cwV n hts (fq_goodV hw) rfl rfl rfl hw.2 hR) ⟨fq_blind, va_recv hK hP hcl he, fun U hU hW => ⟨rfl, by rw [hU], by rw [hU]; exact hP, va_K.moved hW.alike hK, hD.weaken (fun _ _ _ _ => trivial)⟩⟩ rfl hn hsz rfl (lv_room hroom) hdg hf) hS (fun q _ h => hF q h) hF (fun r u t H1 locs1 ht hvm hp hB hz hk hS1 => ?_)
  exact kk r u H1 locs1 hp ⟨by rw [← ht]; exact hB.1, hB.2.2.weaken (fun k q _ h => hF q.1 h), hS1, hA⟩
theorem fq_callV (hC : fq_Cx V p s m args meth c own cc nL ret) {C : String} {y : MethodName} {cc' : ByteArray} {nL' d' n idx : Nat} {b : Nat} {As : List Value} {Wd : fq_G → va_W} {g : fq_G} {post : fq_G → Prop} (hM : fq_MV l V y cc' nL' d' (.ref b :: As) Wd g post) (hw : fq_CW own idx C y cc' nL' none n) (hR : (fq_Rm d').frames + 1 ≤ R.frames ∧ 8 + (nL' + 11) + (fq_Rm d').locals ≤ R.locals)
    {ci : Nat} {fs : List Value} {q : vw_C} (he : (Wd g)[0]? = some (b, .inr (ci, fs))) (hcl : classes[ci]? = some q) (hq1 : q.1 = C) (hQ : fq_Hp V A H0 (Wd g) H locs) (hn : As.length = n) (hsz : ls.size = nL) (hst : st = As.reverse ++ .ref b :: rest) (hroom : (rest.map fun v => v.category).sum ≤ 8) (hdg : decode cc pc = .ok (.invokevirtual idx, 3)) (hf : cells + 0 ≤ R.cells ∧ slots + 0 ≤ R.slots)
    (kk : ∀ (u : fq_G) (H1 : Heap) (locs1 : List Loc), post u → fq_Hp V A H0 (Wd u) H1 locs1 → W p l e R s m args below meth c H1 locs1 cells slots Q (F0 m (pc + 3) ls rest)) : W p l e R s m args below meth c H locs cells slots Q (F0 m pc ls st) := by
  have hF := fq_freeA hQ
  obtain ⟨hx, hb, hr, hml, hown, hts, hlk, hK⟩ := hC
  obtain ⟨hP, hD, hS, hA⟩ := hQ
  subst hst
  subst hq1
  refine va_callv (va_runV (As := As) (rest := rest) ⟨hx, hb, hml, hown, hts⟩ (hM H.size) (cwV n hts (fq_goodV hw) rfl rfl rfl hw.2 hR) ⟨fq_blind, va_recv hK hP hcl he, fun U hU hW => ⟨rfl, by rw [hU], by rw [hU]; exact hP, va_K.moved hW.alike hK, hD.weaken (fun _ _ _ _ => trivial)⟩⟩ rfl hn hsz rfl (lv_room hroom) hdg hf) hS (fun q _ h => hF q h) hF (fun u t H1 locs1 ht hvm hp hB hz hk hS1 => ?_)
  exact kk u H1 locs1 hp ⟨by rw [← ht]; exact hB.1, hB.2.2.weaken (fun k q _ h => hF q.1 h), hS1, hA⟩
theorem fq_callS (hC : fq_Cx V p s m args meth c own cc nL ret) {y : MethodName} {cc' : ByteArray} {nL' d' n idx : Nat} {ty : FieldType} {As : List Value} {Wd : fq_G → va_W} {g : fq_G} {post : Int32 → fq_G → Prop} (hM : fq_MI l V y cc' nL' ty d' As Wd g post) (hw : fq_CS own idx y cc' nL' (some ty) n) (hR : (fq_Rm d').frames + 1 ≤ R.frames ∧ 8 + (nL' + 11) + (fq_Rm d').locals ≤ R.locals)
    (hQ : fq_Hp V A H0 (Wd g) H locs) (hn : As.length = n) (hsz : ls.size = nL) (hst : st = As.reverse ++ rest) (hroom : (rest.map fun v => v.category).sum ≤ 8) (hdg : decode cc pc = .ok (.invokestatic idx, 3)) (hf : cells + 0 ≤ R.cells ∧ slots + 0 ≤ R.slots)
    (kk : ∀ (r : Int32) (u : fq_G) (H1 : Heap) (locs1 : List Loc), post r u → fq_Hp V A H0 (Wd u) H1 locs1 → W p l e R s m args below meth c H1 locs1 cells slots Q (F0 m (pc + 3) ls (.int r :: rest))) : W p l e R s m args below meth c H locs cells slots Q (F0 m pc ls st) := by
  have hF := fq_freeA hQ
  obtain ⟨hx, hb, hr, hml, hown, hts, hlk, hK⟩ := hC
  obtain ⟨hP, hD, hS, hA⟩ := hQ
  subst hst
  refine va_calli (va_runS (As := As) (rest := rest) ⟨hx, hb, hml, hown, hts⟩ (hM H.size) (cwS n hts (fq_goodS hw) rfl rfl rfl hw.2 hR) ⟨fq_blind, fun U hU hW => ⟨rfl, by rw [hU], by rw [hU]; exact hP, va_K.moved hW.alike hK, hD.weaken (fun _ _ _ _ => trivial)⟩⟩ rfl hn hsz rfl (lv_room hroom) hdg hf) hS (fun q _ h => hF q h) hF (fun r u t H1 locs1 ht hvm hp hB hz hk hS1 => ?_)
  exact kk r u H1 locs1 hp ⟨by rw [← ht]; exact hB.1, hB.2.2.weaken (fun k q _ h => hF q.1 h), hS1, hA⟩
end FQR
def fq_WQ (V : fq_V) (o : Nat → Nat) (mo : Nat) (g : fq_G) : va_W := [(o 0, .inr (0, [.int (g 12 0), .int (g 12 1), .int (g 12 2), .ref (o 1), .ref (o 2), .ref (o 3), .ref (o 4), .ref (o 5), .ref (o 6), .int (g 12 3), .int (g 12 4), .int (g 12 5), .int (g 12 6), .ref (o 7), .ref (o 8), .ref (o 9), .ref (o 10), .int (g 12 7), .ref (o 11), .ref (o 12), .int (g 12 8)])), (o 1, .inl (V.2.1, 32, .inl (g 0))), (o 2, .inl (V.2.1, 32, .inl (g 1))), (o 3, .inl (V.2.1, 40, .inl (g 2))), (o 4, .inl (V.2.1, 40, .inl (g 3))), (o 5, .inl (V.2.1, 40, .inl (g 4))), (o 6, .inl (V.2.1, 40, .inl (g 5))), (o 7, .inl (V.2.1, 40, .inl (g 6))), (o 8, .inl (V.2.1, mo, .inl (g 7))), (o 9, .inl (V.2.1, mo, .inl (g 8))), (o 10, .inl (V.2.1, mo, .inl (g 9))), (o 11, .inl (V.2.1, 40, .inl (g 10))), (o 12, .inl (V.2.1, 40, .inl (g 11)))]
def fq_WM (V : fq_V) (o : Nat → Nat) (mo : Nat) (g : fq_G) : va_W := [(o 0, .inr (1, [.int (g 8 0), .int (g 8 1), .int (g 8 2), .ref (o 1), .int (g 8 3), .int (g 8 4), .int (g 8 5), .int (g 8 6), .ref (o 2), .ref (o 3), .ref (o 4), .int (g 8 7), .ref (o 5), .ref (o 6), .ref (o 7), .ref (o 8)])), (o 1, .inl (V.2.1, 40, .inl (g 0))), (o 2, .inl (V.2.1, 300, .inl (g 1))), (o 3, .inl (V.2.1, 300, .inl (g 2))), (o 4, .inl (V.2.1, 300, .inl (g 3))), (o 5, .inl (V.2.1, 40, .inl (g 4))), (o 6, .inl (V.2.1, 40, .inl (g 5))), (o 7, .inl (V.2.2, 40, .inl (g 6))), (o 8, .inl (V.2.2, 40, .inl (g 7)))]
section FQF
variable {V : fq_V} {p : Program} {l : Launch} {e : Env} {R : Room} {s : State} {m : MethodId} {args : Array Value} {below : List Frame} {meth : Method} {c : Code} {H : Heap} {locs : List Loc} {cells slots : Nat} {Q : State → Prop}
variable {cc : ByteArray} {pc nL : Nat} {ret : Option FieldType} {ls : Array Slot} {rest : List Value} {A : Nat → Prop} {H0 : Heap} {o : Nat → Nat} {mo : Nat} {g : fq_G}
theorem fg_Q_n (hC : fq_Cx V p s m args meth c R_Q cc nL ret) (hQ : fq_Hp V A H0 (fq_WQ V o mo g) H locs) (hdg : decode cc pc = .ok (.getfield 41, 3)) {v : Int32} (hv : g 12 0 = v) (kk : W p l e R s m args below meth c H locs cells slots Q (F0 m (pc + 3) ls (.int v :: rest))) : W p l e R s m args below meth c H locs cells slots Q (F0 m pc ls (.ref (o 0) :: rest)) := by
  subst hv
  exact va_get (D := V.1) (cl := classes) (ci := 0) (C := R_Q) (T := F_Q) (N := 21) (own := R_Q) (ref := "FloorQueue") (index := 41) hC.1 hC.2.1 hC.2.2.2.2.2.1 i_Q hC.2.2.2.2.1 hC.2.2.2.2.2.2.2 hQ.1 0 rfl rfl 0 (by decide) (hC.2.2.2.2.2.1 _ fl_Q_n) (fun _ h9 => h9) rfl hdg kk
theorem fg_Q_most (hC : fq_Cx V p s m args meth c R_Q cc nL ret) (hQ : fq_Hp V A H0 (fq_WQ V o mo g) H locs) (hdg : decode cc pc = .ok (.getfield 45, 3)) {v : Int32} (hv : g 12 1 = v) (kk : W p l e R s m args below meth c H locs cells slots Q (F0 m (pc + 3) ls (.int v :: rest))) : W p l e R s m args below meth c H locs cells slots Q (F0 m pc ls (.ref (o 0) :: rest)) := by
  subst hv
  exact va_get (D := V.1) (cl := classes) (ci := 0) (C := R_Q) (T := F_Q) (N := 21) (own := R_Q) (ref := "FloorQueue") (index := 45) hC.1 hC.2.1 hC.2.2.2.2.2.1 i_Q hC.2.2.2.2.1 hC.2.2.2.2.2.2.2 hQ.1 0 rfl rfl 1 (by decide) (hC.2.2.2.2.2.1 _ fl_Q_most) (fun _ h9 => h9) rfl hdg kk
theorem fg_Q_longest (hC : fq_Cx V p s m args meth c R_Q cc nL ret) (hQ : fq_Hp V A H0 (fq_WQ V o mo g) H locs) (hdg : decode cc pc = .ok (.getfield 48, 3)) {v : Int32} (hv : g 12 2 = v) (kk : W p l e R s m args below meth c H locs cells slots Q (F0 m (pc + 3) ls (.int v :: rest))) : W p l e R s m args below meth c H locs cells slots Q (F0 m pc ls (.ref (o 0) :: rest)) := by
  subst hv
  exact va_get (D := V.1) (cl := classes) (ci := 0) (C := R_Q) (T := F_Q) (N := 21) (own := R_Q) (ref := "FloorQueue") (index := 48) hC.1 hC.2.1 hC.2.2.2.2.2.1 i_Q hC.2.2.2.2.1 hC.2.2.2.2.2.2.2 hQ.1 0 rfl rfl 2 (by decide) (hC.2.2.2.2.2.1 _ fl_Q_longest) (fun _ h9 => h9) rfl hdg kk
theorem fg_Q_first (hC : fq_Cx V p s m args meth c R_Q cc nL ret) (hQ : fq_Hp V A H0 (fq_WQ V o mo g) H locs) (hdg : decode cc pc = .ok (.getfield 7, 3)) (kk : W p l e R s m args below meth c H locs cells slots Q (F0 m (pc + 3) ls (.ref (o 1) :: rest))) : W p l e R s m args below meth c H locs cells slots Q (F0 m pc ls (.ref (o 0) :: rest)) :=
  va_get (D := V.1) (cl := classes) (ci := 0) (C := R_Q) (T := F_Q) (N := 21) (own := R_Q) (ref := "FloorQueue") (index := 7) hC.1 hC.2.1 hC.2.2.2.2.2.1 i_Q hC.2.2.2.2.1 hC.2.2.2.2.2.2.2 hQ.1 0 rfl rfl 3 (by decide) (hC.2.2.2.2.2.1 _ fl_Q_first) (fun _ h9 => h9) rfl hdg kk
theorem fg_Q_counts (hC : fq_Cx V p s m args meth c R_Q cc nL ret) (hQ : fq_Hp V A H0 (fq_WQ V o mo g) H locs) (hdg : decode cc pc = .ok (.getfield 13, 3)) (kk : W p l e R s m args below meth c H locs cells slots Q (F0 m (pc + 3) ls (.ref (o 2) :: rest))) : W p l e R s m args below meth c H locs cells slots Q (F0 m pc ls (.ref (o 0) :: rest)) :=
  va_get (D := V.1) (cl := classes) (ci := 0) (C := R_Q) (T := F_Q) (N := 21) (own := R_Q) (ref := "FloorQueue") (index := 13) hC.1 hC.2.1 hC.2.2.2.2.2.1 i_Q hC.2.2.2.2.1 hC.2.2.2.2.2.2.2 hQ.1 0 rfl rfl 4 (by decide) (hC.2.2.2.2.2.1 _ fl_Q_counts) (fun _ h9 => h9) rfl hdg kk
theorem fg_Q_next (hC : fq_Cx V p s m args meth c R_Q cc nL ret) (hQ : fq_Hp V A H0 (fq_WQ V o mo g) H locs) (hdg : decode cc pc = .ok (.getfield 16, 3)) (kk : W p l e R s m args below meth c H locs cells slots Q (F0 m (pc + 3) ls (.ref (o 3) :: rest))) : W p l e R s m args below meth c H locs cells slots Q (F0 m pc ls (.ref (o 0) :: rest)) :=
  va_get (D := V.1) (cl := classes) (ci := 0) (C := R_Q) (T := F_Q) (N := 21) (own := R_Q) (ref := "FloorQueue") (index := 16) hC.1 hC.2.1 hC.2.2.2.2.2.1 i_Q hC.2.2.2.2.1 hC.2.2.2.2.2.2.2 hQ.1 0 rfl rfl 5 (by decide) (hC.2.2.2.2.2.1 _ fl_Q_next) (fun _ h9 => h9) rfl hdg kk
theorem fg_Q_before (hC : fq_Cx V p s m args meth c R_Q cc nL ret) (hQ : fq_Hp V A H0 (fq_WQ V o mo g) H locs) (hdg : decode cc pc = .ok (.getfield 19, 3)) (kk : W p l e R s m args below meth c H locs cells slots Q (F0 m (pc + 3) ls (.ref (o 4) :: rest))) : W p l e R s m args below meth c H locs cells slots Q (F0 m pc ls (.ref (o 0) :: rest)) :=
  va_get (D := V.1) (cl := classes) (ci := 0) (C := R_Q) (T := F_Q) (N := 21) (own := R_Q) (ref := "FloorQueue") (index := 19) hC.1 hC.2.1 hC.2.2.2.2.2.1 i_Q hC.2.2.2.2.1 hC.2.2.2.2.2.2.2 hQ.1 0 rfl rfl 6 (by decide) (hC.2.2.2.2.2.1 _ fl_Q_before) (fun _ h9 => h9) rfl hdg kk
theorem fg_Q_keys (hC : fq_Cx V p s m args meth c R_Q cc nL ret) (hQ : fq_Hp V A H0 (fq_WQ V o mo g) H locs) (hdg : decode cc pc = .ok (.getfield 22, 3)) (kk : W p l e R s m args below meth c H locs cells slots Q (F0 m (pc + 3) ls (.ref (o 5) :: rest))) : W p l e R s m args below meth c H locs cells slots Q (F0 m pc ls (.ref (o 0) :: rest)) :=
  va_get (D := V.1) (cl := classes) (ci := 0) (C := R_Q) (T := F_Q) (N := 21) (own := R_Q) (ref := "FloorQueue") (index := 22) hC.1 hC.2.1 hC.2.2.2.2.2.1 i_Q hC.2.2.2.2.1 hC.2.2.2.2.2.2.2 hQ.1 0 rfl rfl 7 (by decide) (hC.2.2.2.2.2.1 _ fl_Q_keys) (fun _ h9 => h9) rfl hdg kk
theorem fg_Q_where (hC : fq_Cx V p s m args meth c R_Q cc nL ret) (hQ : fq_Hp V A H0 (fq_WQ V o mo g) H locs) (hdg : decode cc pc = .ok (.getfield 25, 3)) (kk : W p l e R s m args below meth c H locs cells slots Q (F0 m (pc + 3) ls (.ref (o 6) :: rest))) : W p l e R s m args below meth c H locs cells slots Q (F0 m pc ls (.ref (o 0) :: rest)) :=
  va_get (D := V.1) (cl := classes) (ci := 0) (C := R_Q) (T := F_Q) (N := 21) (own := R_Q) (ref := "FloorQueue") (index := 25) hC.1 hC.2.1 hC.2.2.2.2.2.1 i_Q hC.2.2.2.2.1 hC.2.2.2.2.2.2.2 hQ.1 0 rfl rfl 8 (by decide) (hC.2.2.2.2.2.1 _ fl_Q_where) (fun _ h9 => h9) rfl hdg kk
theorem fg_Q_floor (hC : fq_Cx V p s m args meth c R_Q cc nL ret) (hQ : fq_Hp V A H0 (fq_WQ V o mo g) H locs) (hdg : decode cc pc = .ok (.getfield 68, 3)) {v : Int32} (hv : g 12 3 = v) (kk : W p l e R s m args below meth c H locs cells slots Q (F0 m (pc + 3) ls (.int v :: rest))) : W p l e R s m args below meth c H locs cells slots Q (F0 m pc ls (.ref (o 0) :: rest)) := by
  subst hv
  exact va_get (D := V.1) (cl := classes) (ci := 0) (C := R_Q) (T := F_Q) (N := 21) (own := R_Q) (ref := "FloorQueue") (index := 68) hC.1 hC.2.1 hC.2.2.2.2.2.1 i_Q hC.2.2.2.2.1 hC.2.2.2.2.2.2.2 hQ.1 0 rfl rfl 9 (by decide) (hC.2.2.2.2.2.1 _ fl_Q_floor) (fun _ h9 => h9) rfl hdg kk
theorem fp_Q_floor (hC : fq_Cx V p s m args meth c R_Q cc nL ret) (hQ : fq_Hp V A H0 (fq_WQ V o mo g) H locs) {x : Int32} (hdg : decode cc pc = .ok (.putfield 68, 3)) (kk : ∀ (H1 : Heap) (locs1 : List Loc), fq_Hp V A H0 (fq_WQ V o mo (fq_us g 12 3 x)) H1 locs1 → W p l e R s m args below meth c H1 locs1 cells slots Q (F0 m (pc + 3) ls rest)) : W p l e R s m args below meth c H locs cells slots Q (F0 m pc ls (.int x :: .ref (o 0) :: rest)) :=
  va_put (D := V.1) (cl := classes) (ci := 0) (C := R_Q) (T := F_Q) (N := 21) (own := R_Q) (ref := "FloorQueue") (index := 68) (v := .int x) (ty := .int) hC.1 hC.2.1 hC.2.2.2.2.2.1 i_Q t_Q t_Q_ok n_Q hC.2.2.2.2.1 hC.2.2.2.2.2.2.2 hQ.1 hQ.2.1 hQ.2.2.1 0 rfl rfl 9 (by decide) (hC.2.2.2.2.2.1 _ fl_Q_floor) (fun _ h9 => h9) rfl (by decide +kernel) rfl rfl (Nat.le_of_ble_eq_true rfl) hdg (fun H1 locs1 hP hD hS => kk H1 locs1 ⟨hP, hD, hS, hQ.2.2.2⟩)
theorem fg_Q_size (hC : fq_Cx V p s m args meth c R_Q cc nL ret) (hQ : fq_Hp V A H0 (fq_WQ V o mo g) H locs) (hdg : decode cc pc = .ok (.getfield 82, 3)) {v : Int32} (hv : g 12 4 = v) (kk : W p l e R s m args below meth c H locs cells slots Q (F0 m (pc + 3) ls (.int v :: rest))) : W p l e R s m args below meth c H locs cells slots Q (F0 m pc ls (.ref (o 0) :: rest)) := by
  subst hv
  exact va_get (D := V.1) (cl := classes) (ci := 0) (C := R_Q) (T := F_Q) (N := 21) (own := R_Q) (ref := "FloorQueue") (index := 82) hC.1 hC.2.1 hC.2.2.2.2.2.1 i_Q hC.2.2.2.2.1 hC.2.2.2.2.2.2.2 hQ.1 0 rfl rfl 10 (by decide) (hC.2.2.2.2.2.1 _ fl_Q_size) (fun _ h9 => h9) rfl hdg kk
theorem fp_Q_size (hC : fq_Cx V p s m args meth c R_Q cc nL ret) (hQ : fq_Hp V A H0 (fq_WQ V o mo g) H locs) {x : Int32} (hdg : decode cc pc = .ok (.putfield 82, 3)) (kk : ∀ (H1 : Heap) (locs1 : List Loc), fq_Hp V A H0 (fq_WQ V o mo (fq_us g 12 4 x)) H1 locs1 → W p l e R s m args below meth c H1 locs1 cells slots Q (F0 m (pc + 3) ls rest)) : W p l e R s m args below meth c H locs cells slots Q (F0 m pc ls (.int x :: .ref (o 0) :: rest)) :=
  va_put (D := V.1) (cl := classes) (ci := 0) (C := R_Q) (T := F_Q) (N := 21) (own := R_Q) (ref := "FloorQueue") (index := 82) (v := .int x) (ty := .int) hC.1 hC.2.1 hC.2.2.2.2.2.1 i_Q t_Q t_Q_ok n_Q hC.2.2.2.2.1 hC.2.2.2.2.2.2.2 hQ.1 hQ.2.1 hQ.2.2.1 0 rfl rfl 10 (by decide) (hC.2.2.2.2.2.1 _ fl_Q_size) (fun _ h9 => h9) rfl (by decide +kernel) rfl rfl (Nat.le_of_ble_eq_true rfl) hdg (fun H1 locs1 hP hD hS => kk H1 locs1 ⟨hP, hD, hS, hQ.2.2.2⟩)
theorem fg_Q_placed (hC : fq_Cx V p s m args meth c R_Q cc nL ret) (hQ : fq_Hp V A H0 (fq_WQ V o mo g) H locs) (hdg : decode cc pc = .ok (.getfield 71, 3)) {v : Int32} (hv : g 12 5 = v) (kk : W p l e R s m args below meth c H locs cells slots Q (F0 m (pc + 3) ls (.int v :: rest))) : W p l e R s m args below meth c H locs cells slots Q (F0 m pc ls (.ref (o 0) :: rest)) := by
  subst hv
  exact va_get (D := V.1) (cl := classes) (ci := 0) (C := R_Q) (T := F_Q) (N := 21) (own := R_Q) (ref := "FloorQueue") (index := 71) hC.1 hC.2.1 hC.2.2.2.2.2.1 i_Q hC.2.2.2.2.1 hC.2.2.2.2.2.2.2 hQ.1 0 rfl rfl 11 (by decide) (hC.2.2.2.2.2.1 _ fl_Q_placed) (fun _ h9 => h9) rfl hdg kk
theorem fp_Q_placed (hC : fq_Cx V p s m args meth c R_Q cc nL ret) (hQ : fq_Hp V A H0 (fq_WQ V o mo g) H locs) {x : Int32} (hdg : decode cc pc = .ok (.putfield 71, 3)) (kk : ∀ (H1 : Heap) (locs1 : List Loc), fq_Hp V A H0 (fq_WQ V o mo (fq_us g 12 5 x)) H1 locs1 → W p l e R s m args below meth c H1 locs1 cells slots Q (F0 m (pc + 3) ls rest)) : W p l e R s m args below meth c H locs cells slots Q (F0 m pc ls (.int x :: .ref (o 0) :: rest)) :=
  va_put (D := V.1) (cl := classes) (ci := 0) (C := R_Q) (T := F_Q) (N := 21) (own := R_Q) (ref := "FloorQueue") (index := 71) (v := .int x) (ty := .int) hC.1 hC.2.1 hC.2.2.2.2.2.1 i_Q t_Q t_Q_ok n_Q hC.2.2.2.2.1 hC.2.2.2.2.2.2.2 hQ.1 hQ.2.1 hQ.2.2.1 0 rfl rfl 11 (by decide) (hC.2.2.2.2.2.1 _ fl_Q_placed) (fun _ h9 => h9) rfl (by decide +kernel) rfl rfl (Nat.le_of_ble_eq_true rfl) hdg (fun H1 locs1 hP hD hS => kk H1 locs1 ⟨hP, hD, hS, hQ.2.2.2⟩)
theorem fg_Q_calls (hC : fq_Cx V p s m args meth c R_Q cc nL ret) (hQ : fq_Hp V A H0 (fq_WQ V o mo g) H locs) (hdg : decode cc pc = .ok (.getfield 85, 3)) {v : Int32} (hv : g 12 6 = v) (kk : W p l e R s m args below meth c H locs cells slots Q (F0 m (pc + 3) ls (.int v :: rest))) : W p l e R s m args below meth c H locs cells slots Q (F0 m pc ls (.ref (o 0) :: rest)) := by
  subst hv
  exact va_get (D := V.1) (cl := classes) (ci := 0) (C := R_Q) (T := F_Q) (N := 21) (own := R_Q) (ref := "FloorQueue") (index := 85) hC.1 hC.2.1 hC.2.2.2.2.2.1 i_Q hC.2.2.2.2.1 hC.2.2.2.2.2.2.2 hQ.1 0 rfl rfl 12 (by decide) (hC.2.2.2.2.2.1 _ fl_Q_calls) (fun _ h9 => h9) rfl hdg kk
theorem fp_Q_calls (hC : fq_Cx V p s m args meth c R_Q cc nL ret) (hQ : fq_Hp V A H0 (fq_WQ V o mo g) H locs) {x : Int32} (hdg : decode cc pc = .ok (.putfield 85, 3)) (kk : ∀ (H1 : Heap) (locs1 : List Loc), fq_Hp V A H0 (fq_WQ V o mo (fq_us g 12 6 x)) H1 locs1 → W p l e R s m args below meth c H1 locs1 cells slots Q (F0 m (pc + 3) ls rest)) : W p l e R s m args below meth c H locs cells slots Q (F0 m pc ls (.int x :: .ref (o 0) :: rest)) :=
  va_put (D := V.1) (cl := classes) (ci := 0) (C := R_Q) (T := F_Q) (N := 21) (own := R_Q) (ref := "FloorQueue") (index := 85) (v := .int x) (ty := .int) hC.1 hC.2.1 hC.2.2.2.2.2.1 i_Q t_Q t_Q_ok n_Q hC.2.2.2.2.1 hC.2.2.2.2.2.2.2 hQ.1 hQ.2.1 hQ.2.2.1 0 rfl rfl 12 (by decide) (hC.2.2.2.2.2.1 _ fl_Q_calls) (fun _ h9 => h9) rfl (by decide +kernel) rfl rfl (Nat.le_of_ble_eq_true rfl) hdg (fun H1 locs1 hP hD hS => kk H1 locs1 ⟨hP, hD, hS, hQ.2.2.2⟩)
theorem fg_Q_heads (hC : fq_Cx V p s m args meth c R_Q cc nL ret) (hQ : fq_Hp V A H0 (fq_WQ V o mo g) H locs) (hdg : decode cc pc = .ok (.getfield 28, 3)) (kk : W p l e R s m args below meth c H locs cells slots Q (F0 m (pc + 3) ls (.ref (o 7) :: rest))) : W p l e R s m args below meth c H locs cells slots Q (F0 m pc ls (.ref (o 0) :: rest)) :=
  va_get (D := V.1) (cl := classes) (ci := 0) (C := R_Q) (T := F_Q) (N := 21) (own := R_Q) (ref := "FloorQueue") (index := 28) hC.1 hC.2.1 hC.2.2.2.2.2.1 i_Q hC.2.2.2.2.1 hC.2.2.2.2.2.2.2 hQ.1 0 rfl rfl 13 (by decide) (hC.2.2.2.2.2.1 _ fl_Q_heads) (fun _ h9 => h9) rfl hdg kk
theorem fg_Q_arcNext (hC : fq_Cx V p s m args meth c R_Q cc nL ret) (hQ : fq_Hp V A H0 (fq_WQ V o mo g) H locs) (hdg : decode cc pc = .ok (.getfield 51, 3)) (kk : W p l e R s m args below meth c H locs cells slots Q (F0 m (pc + 3) ls (.ref (o 8) :: rest))) : W p l e R s m args below meth c H locs cells slots Q (F0 m pc ls (.ref (o 0) :: rest)) :=
  va_get (D := V.1) (cl := classes) (ci := 0) (C := R_Q) (T := F_Q) (N := 21) (own := R_Q) (ref := "FloorQueue") (index := 51) hC.1 hC.2.1 hC.2.2.2.2.2.1 i_Q hC.2.2.2.2.1 hC.2.2.2.2.2.2.2 hQ.1 0 rfl rfl 14 (by decide) (hC.2.2.2.2.2.1 _ fl_Q_arcNext) (fun _ h9 => h9) rfl hdg kk
theorem fg_Q_arcTo (hC : fq_Cx V p s m args meth c R_Q cc nL ret) (hQ : fq_Hp V A H0 (fq_WQ V o mo g) H locs) (hdg : decode cc pc = .ok (.getfield 54, 3)) (kk : W p l e R s m args below meth c H locs cells slots Q (F0 m (pc + 3) ls (.ref (o 9) :: rest))) : W p l e R s m args below meth c H locs cells slots Q (F0 m pc ls (.ref (o 0) :: rest)) :=
  va_get (D := V.1) (cl := classes) (ci := 0) (C := R_Q) (T := F_Q) (N := 21) (own := R_Q) (ref := "FloorQueue") (index := 54) hC.1 hC.2.1 hC.2.2.2.2.2.1 i_Q hC.2.2.2.2.1 hC.2.2.2.2.2.2.2 hQ.1 0 rfl rfl 15 (by decide) (hC.2.2.2.2.2.1 _ fl_Q_arcTo) (fun _ h9 => h9) rfl hdg kk
theorem fg_Q_lengths (hC : fq_Cx V p s m args meth c R_Q cc nL ret) (hQ : fq_Hp V A H0 (fq_WQ V o mo g) H locs) (hdg : decode cc pc = .ok (.getfield 57, 3)) (kk : W p l e R s m args below meth c H locs cells slots Q (F0 m (pc + 3) ls (.ref (o 10) :: rest))) : W p l e R s m args below meth c H locs cells slots Q (F0 m pc ls (.ref (o 0) :: rest)) :=
  va_get (D := V.1) (cl := classes) (ci := 0) (C := R_Q) (T := F_Q) (N := 21) (own := R_Q) (ref := "FloorQueue") (index := 57) hC.1 hC.2.1 hC.2.2.2.2.2.1 i_Q hC.2.2.2.2.1 hC.2.2.2.2.2.2.2 hQ.1 0 rfl rfl 16 (by decide) (hC.2.2.2.2.2.1 _ fl_Q_lengths) (fun _ h9 => h9) rfl hdg kk
theorem fg_Q_arcs (hC : fq_Cx V p s m args meth c R_Q cc nL ret) (hQ : fq_Hp V A H0 (fq_WQ V o mo g) H locs) (hdg : decode cc pc = .ok (.getfield 101, 3)) {v : Int32} (hv : g 12 7 = v) (kk : W p l e R s m args below meth c H locs cells slots Q (F0 m (pc + 3) ls (.int v :: rest))) : W p l e R s m args below meth c H locs cells slots Q (F0 m pc ls (.ref (o 0) :: rest)) := by
  subst hv
  exact va_get (D := V.1) (cl := classes) (ci := 0) (C := R_Q) (T := F_Q) (N := 21) (own := R_Q) (ref := "FloorQueue") (index := 101) hC.1 hC.2.1 hC.2.2.2.2.2.1 i_Q hC.2.2.2.2.1 hC.2.2.2.2.2.2.2 hQ.1 0 rfl rfl 17 (by decide) (hC.2.2.2.2.2.1 _ fl_Q_arcs) (fun _ h9 => h9) rfl hdg kk
theorem fp_Q_arcs (hC : fq_Cx V p s m args meth c R_Q cc nL ret) (hQ : fq_Hp V A H0 (fq_WQ V o mo g) H locs) {x : Int32} (hdg : decode cc pc = .ok (.putfield 101, 3)) (kk : ∀ (H1 : Heap) (locs1 : List Loc), fq_Hp V A H0 (fq_WQ V o mo (fq_us g 12 7 x)) H1 locs1 → W p l e R s m args below meth c H1 locs1 cells slots Q (F0 m (pc + 3) ls rest)) : W p l e R s m args below meth c H locs cells slots Q (F0 m pc ls (.int x :: .ref (o 0) :: rest)) :=
  va_put (D := V.1) (cl := classes) (ci := 0) (C := R_Q) (T := F_Q) (N := 21) (own := R_Q) (ref := "FloorQueue") (index := 101) (v := .int x) (ty := .int) hC.1 hC.2.1 hC.2.2.2.2.2.1 i_Q t_Q t_Q_ok n_Q hC.2.2.2.2.1 hC.2.2.2.2.2.2.2 hQ.1 hQ.2.1 hQ.2.2.1 0 rfl rfl 17 (by decide) (hC.2.2.2.2.2.1 _ fl_Q_arcs) (fun _ h9 => h9) rfl (by decide +kernel) rfl rfl (Nat.le_of_ble_eq_true rfl) hdg (fun H1 locs1 hP hD hS => kk H1 locs1 ⟨hP, hD, hS, hQ.2.2.2⟩)
theorem fg_Q_distances (hC : fq_Cx V p s m args meth c R_Q cc nL ret) (hQ : fq_Hp V A H0 (fq_WQ V o mo g) H locs) (hdg : decode cc pc = .ok (.getfield 31, 3)) (kk : W p l e R s m args below meth c H locs cells slots Q (F0 m (pc + 3) ls (.ref (o 11) :: rest))) : W p l e R s m args below meth c H locs cells slots Q (F0 m pc ls (.ref (o 0) :: rest)) :=
  va_get (D := V.1) (cl := classes) (ci := 0) (C := R_Q) (T := F_Q) (N := 21) (own := R_Q) (ref := "FloorQueue") (index := 31) hC.1 hC.2.1 hC.2.2.2.2.2.1 i_Q hC.2.2.2.2.1 hC.2.2.2.2.2.2.2 hQ.1 0 rfl rfl 18 (by decide) (hC.2.2.2.2.2.1 _ fl_Q_distances) (fun _ h9 => h9) rfl hdg kk
theorem fg_Q_parents (hC : fq_Cx V p s m args meth c R_Q cc nL ret) (hQ : fq_Hp V A H0 (fq_WQ V o mo g) H locs) (hdg : decode cc pc = .ok (.getfield 34, 3)) (kk : W p l e R s m args below meth c H locs cells slots Q (F0 m (pc + 3) ls (.ref (o 12) :: rest))) : W p l e R s m args below meth c H locs cells slots Q (F0 m pc ls (.ref (o 0) :: rest)) :=
  va_get (D := V.1) (cl := classes) (ci := 0) (C := R_Q) (T := F_Q) (N := 21) (own := R_Q) (ref := "FloorQueue") (index := 34) hC.1 hC.2.1 hC.2.2.2.2.2.1 i_Q hC.2.2.2.2.1 hC.2.2.2.2.2.2.2 hQ.1 0 rfl rfl 19 (by decide) (hC.2.2.2.2.2.1 _ fl_Q_parents) (fun _ h9 => h9) rfl hdg kk
theorem fg_Q_has (hC : fq_Cx V p s m args meth c R_Q cc nL ret) (hQ : fq_Hp V A H0 (fq_WQ V o mo g) H locs) (hdg : decode cc pc = .ok (.getfield 104, 3)) {v : Int32} (hv : g 12 8 = v) (kk : W p l e R s m args below meth c H locs cells slots Q (F0 m (pc + 3) ls (.int v :: rest))) : W p l e R s m args below meth c H locs cells slots Q (F0 m pc ls (.ref (o 0) :: rest)) := by
  subst hv
  exact va_get (D := V.1) (cl := classes) (ci := 0) (C := R_Q) (T := F_Q) (N := 21) (own := R_Q) (ref := "FloorQueue") (index := 104) hC.1 hC.2.1 hC.2.2.2.2.2.1 i_Q hC.2.2.2.2.1 hC.2.2.2.2.2.2.2 hQ.1 0 rfl rfl 20 (by decide) (hC.2.2.2.2.2.1 _ fl_Q_has) (fun _ h9 => h9) rfl hdg kk
theorem fp_Q_has (hC : fq_Cx V p s m args meth c R_Q cc nL ret) (hQ : fq_Hp V A H0 (fq_WQ V o mo g) H locs) {x : Int32} (hn : narrow .boolean (.int x) = .int x) (hfit : fits .boolean (.int x) = true) (hdg : decode cc pc = .ok (.putfield 104, 3)) (kk : ∀ (H1 : Heap) (locs1 : List Loc), fq_Hp V A H0 (fq_WQ V o mo (fq_us g 12 8 x)) H1 locs1 → W p l e R s m args below meth c H1 locs1 cells slots Q (F0 m (pc + 3) ls rest)) : W p l e R s m args below meth c H locs cells slots Q (F0 m pc ls (.int x :: .ref (o 0) :: rest)) :=
  va_put (D := V.1) (cl := classes) (ci := 0) (C := R_Q) (T := F_Q) (N := 21) (own := R_Q) (ref := "FloorQueue") (index := 104) (v := .int x) (ty := .boolean) hC.1 hC.2.1 hC.2.2.2.2.2.1 i_Q t_Q t_Q_ok n_Q hC.2.2.2.2.1 hC.2.2.2.2.2.2.2 hQ.1 hQ.2.1 hQ.2.2.1 0 rfl rfl 20 (by decide) (hC.2.2.2.2.2.1 _ fl_Q_has) (fun _ h9 => h9) rfl (by decide +kernel) hn hfit (Nat.le_of_ble_eq_true rfl) hdg (fun H1 locs1 hP hD hS => kk H1 locs1 ⟨hP, hD, hS, hQ.2.2.2⟩)
theorem fr_Q_first (hC : fq_Cx V p s m args meth c R_Q cc nL ret) (hQ : fq_Hp V A H0 (fq_WQ V o mo g) H locs) (j : Nat) {i : Int32} (hj : i = nI j) (hlt : j < 32) (hdg : decode cc pc = .ok (.iaload, 1)) {v : Int32} (hv : g 0 j = v) (kk : W p l e R s m args below meth c H locs cells slots Q (F0 m (pc + 1) ls (.int v :: rest))) : W p l e R s m args below meth c H locs cells slots Q (F0 m pc ls (.int i :: .ref (o 1) :: rest)) := by
  subst hj
  subst hv
  refine va_iald (D := V.1) (cl := classes) (tys := fq_tys V) (ws := fq_WQ V o mo g) hC.1 hC.2.1 hC.2.2.2.2.2.2.2 hQ.1 1 0 (f := g 0) (n := 32) rfl rfl (vp_in_nI hlt (by omega)) hdg ?_
  rw [nI_clamp (by omega)]
  exact kk
theorem fs_Q_first (hC : fq_Cx V p s m args meth c R_Q cc nL ret) (hQ : fq_Hp V A H0 (fq_WQ V o mo g) H locs) (j : Nat) {i x : Int32} (hj : i = nI j) (hlt : j < 32) (hdg : decode cc pc = .ok (.iastore, 1)) (kk : ∀ (H1 : Heap) (locs1 : List Loc), fq_Hp V A H0 (fq_WQ V o mo (fq_us g 0 j x)) H1 locs1 → W p l e R s m args below meth c H1 locs1 cells slots Q (F0 m (pc + 1) ls rest)) : W p l e R s m args below meth c H locs cells slots Q (F0 m pc ls (.int x :: .int i :: .ref (o 1) :: rest)) := by
  subst hj
  refine va_iast (D := V.1) (cl := classes) (tys := fq_tys V) (ws := fq_WQ V o mo g) hC.1 hC.2.1 hC.2.2.2.2.2.2.2 hQ.1 hQ.2.1 hQ.2.2.1 1 0 (f := g 0) (n := 32) rfl rfl (vp_in_nI hlt (by omega)) hdg (fun H1 locs1 hP hD hS => ?_)
  rw [nI_clamp (by omega)] at hP hD
  exact kk H1 locs1 ⟨hP, hD, hS, hQ.2.2.2⟩
theorem fr_Q_counts (hC : fq_Cx V p s m args meth c R_Q cc nL ret) (hQ : fq_Hp V A H0 (fq_WQ V o mo g) H locs) (j : Nat) {i : Int32} (hj : i = nI j) (hlt : j < 32) (hdg : decode cc pc = .ok (.iaload, 1)) {v : Int32} (hv : g 1 j = v) (kk : W p l e R s m args below meth c H locs cells slots Q (F0 m (pc + 1) ls (.int v :: rest))) : W p l e R s m args below meth c H locs cells slots Q (F0 m pc ls (.int i :: .ref (o 2) :: rest)) := by
  subst hj
  subst hv
  refine va_iald (D := V.1) (cl := classes) (tys := fq_tys V) (ws := fq_WQ V o mo g) hC.1 hC.2.1 hC.2.2.2.2.2.2.2 hQ.1 2 0 (f := g 1) (n := 32) rfl rfl (vp_in_nI hlt (by omega)) hdg ?_
  rw [nI_clamp (by omega)]
  exact kk
theorem fs_Q_counts (hC : fq_Cx V p s m args meth c R_Q cc nL ret) (hQ : fq_Hp V A H0 (fq_WQ V o mo g) H locs) (j : Nat) {i x : Int32} (hj : i = nI j) (hlt : j < 32) (hdg : decode cc pc = .ok (.iastore, 1)) (kk : ∀ (H1 : Heap) (locs1 : List Loc), fq_Hp V A H0 (fq_WQ V o mo (fq_us g 1 j x)) H1 locs1 → W p l e R s m args below meth c H1 locs1 cells slots Q (F0 m (pc + 1) ls rest)) : W p l e R s m args below meth c H locs cells slots Q (F0 m pc ls (.int x :: .int i :: .ref (o 2) :: rest)) := by
  subst hj
  refine va_iast (D := V.1) (cl := classes) (tys := fq_tys V) (ws := fq_WQ V o mo g) hC.1 hC.2.1 hC.2.2.2.2.2.2.2 hQ.1 hQ.2.1 hQ.2.2.1 2 0 (f := g 1) (n := 32) rfl rfl (vp_in_nI hlt (by omega)) hdg (fun H1 locs1 hP hD hS => ?_)
  rw [nI_clamp (by omega)] at hP hD
  exact kk H1 locs1 ⟨hP, hD, hS, hQ.2.2.2⟩
theorem fr_Q_next (hC : fq_Cx V p s m args meth c R_Q cc nL ret) (hQ : fq_Hp V A H0 (fq_WQ V o mo g) H locs) (j : Nat) {i : Int32} (hj : i = nI j) (hlt : j < 40) (hdg : decode cc pc = .ok (.iaload, 1)) {v : Int32} (hv : g 2 j = v) (kk : W p l e R s m args below meth c H locs cells slots Q (F0 m (pc + 1) ls (.int v :: rest))) : W p l e R s m args below meth c H locs cells slots Q (F0 m pc ls (.int i :: .ref (o 3) :: rest)) := by
  subst hj
  subst hv
  refine va_iald (D := V.1) (cl := classes) (tys := fq_tys V) (ws := fq_WQ V o mo g) hC.1 hC.2.1 hC.2.2.2.2.2.2.2 hQ.1 3 0 (f := g 2) (n := 40) rfl rfl (vp_in_nI hlt (by omega)) hdg ?_
  rw [nI_clamp (by omega)]
  exact kk
theorem fs_Q_next (hC : fq_Cx V p s m args meth c R_Q cc nL ret) (hQ : fq_Hp V A H0 (fq_WQ V o mo g) H locs) (j : Nat) {i x : Int32} (hj : i = nI j) (hlt : j < 40) (hdg : decode cc pc = .ok (.iastore, 1)) (kk : ∀ (H1 : Heap) (locs1 : List Loc), fq_Hp V A H0 (fq_WQ V o mo (fq_us g 2 j x)) H1 locs1 → W p l e R s m args below meth c H1 locs1 cells slots Q (F0 m (pc + 1) ls rest)) : W p l e R s m args below meth c H locs cells slots Q (F0 m pc ls (.int x :: .int i :: .ref (o 3) :: rest)) := by
  subst hj
  refine va_iast (D := V.1) (cl := classes) (tys := fq_tys V) (ws := fq_WQ V o mo g) hC.1 hC.2.1 hC.2.2.2.2.2.2.2 hQ.1 hQ.2.1 hQ.2.2.1 3 0 (f := g 2) (n := 40) rfl rfl (vp_in_nI hlt (by omega)) hdg (fun H1 locs1 hP hD hS => ?_)
  rw [nI_clamp (by omega)] at hP hD
  exact kk H1 locs1 ⟨hP, hD, hS, hQ.2.2.2⟩
theorem fr_Q_before (hC : fq_Cx V p s m args meth c R_Q cc nL ret) (hQ : fq_Hp V A H0 (fq_WQ V o mo g) H locs) (j : Nat) {i : Int32} (hj : i = nI j) (hlt : j < 40) (hdg : decode cc pc = .ok (.iaload, 1)) {v : Int32} (hv : g 3 j = v) (kk : W p l e R s m args below meth c H locs cells slots Q (F0 m (pc + 1) ls (.int v :: rest))) : W p l e R s m args below meth c H locs cells slots Q (F0 m pc ls (.int i :: .ref (o 4) :: rest)) := by
  subst hj
  subst hv
  refine va_iald (D := V.1) (cl := classes) (tys := fq_tys V) (ws := fq_WQ V o mo g) hC.1 hC.2.1 hC.2.2.2.2.2.2.2 hQ.1 4 0 (f := g 3) (n := 40) rfl rfl (vp_in_nI hlt (by omega)) hdg ?_
  rw [nI_clamp (by omega)]
  exact kk
theorem fs_Q_before (hC : fq_Cx V p s m args meth c R_Q cc nL ret) (hQ : fq_Hp V A H0 (fq_WQ V o mo g) H locs) (j : Nat) {i x : Int32} (hj : i = nI j) (hlt : j < 40) (hdg : decode cc pc = .ok (.iastore, 1)) (kk : ∀ (H1 : Heap) (locs1 : List Loc), fq_Hp V A H0 (fq_WQ V o mo (fq_us g 3 j x)) H1 locs1 → W p l e R s m args below meth c H1 locs1 cells slots Q (F0 m (pc + 1) ls rest)) : W p l e R s m args below meth c H locs cells slots Q (F0 m pc ls (.int x :: .int i :: .ref (o 4) :: rest)) := by
  subst hj
  refine va_iast (D := V.1) (cl := classes) (tys := fq_tys V) (ws := fq_WQ V o mo g) hC.1 hC.2.1 hC.2.2.2.2.2.2.2 hQ.1 hQ.2.1 hQ.2.2.1 4 0 (f := g 3) (n := 40) rfl rfl (vp_in_nI hlt (by omega)) hdg (fun H1 locs1 hP hD hS => ?_)
  rw [nI_clamp (by omega)] at hP hD
  exact kk H1 locs1 ⟨hP, hD, hS, hQ.2.2.2⟩
theorem fr_Q_keys (hC : fq_Cx V p s m args meth c R_Q cc nL ret) (hQ : fq_Hp V A H0 (fq_WQ V o mo g) H locs) (j : Nat) {i : Int32} (hj : i = nI j) (hlt : j < 40) (hdg : decode cc pc = .ok (.iaload, 1)) {v : Int32} (hv : g 4 j = v) (kk : W p l e R s m args below meth c H locs cells slots Q (F0 m (pc + 1) ls (.int v :: rest))) : W p l e R s m args below meth c H locs cells slots Q (F0 m pc ls (.int i :: .ref (o 5) :: rest)) := by
  subst hj
  subst hv
  refine va_iald (D := V.1) (cl := classes) (tys := fq_tys V) (ws := fq_WQ V o mo g) hC.1 hC.2.1 hC.2.2.2.2.2.2.2 hQ.1 5 0 (f := g 4) (n := 40) rfl rfl (vp_in_nI hlt (by omega)) hdg ?_
  rw [nI_clamp (by omega)]
  exact kk
theorem fs_Q_keys (hC : fq_Cx V p s m args meth c R_Q cc nL ret) (hQ : fq_Hp V A H0 (fq_WQ V o mo g) H locs) (j : Nat) {i x : Int32} (hj : i = nI j) (hlt : j < 40) (hdg : decode cc pc = .ok (.iastore, 1)) (kk : ∀ (H1 : Heap) (locs1 : List Loc), fq_Hp V A H0 (fq_WQ V o mo (fq_us g 4 j x)) H1 locs1 → W p l e R s m args below meth c H1 locs1 cells slots Q (F0 m (pc + 1) ls rest)) : W p l e R s m args below meth c H locs cells slots Q (F0 m pc ls (.int x :: .int i :: .ref (o 5) :: rest)) := by
  subst hj
  refine va_iast (D := V.1) (cl := classes) (tys := fq_tys V) (ws := fq_WQ V o mo g) hC.1 hC.2.1 hC.2.2.2.2.2.2.2 hQ.1 hQ.2.1 hQ.2.2.1 5 0 (f := g 4) (n := 40) rfl rfl (vp_in_nI hlt (by omega)) hdg (fun H1 locs1 hP hD hS => ?_)
  rw [nI_clamp (by omega)] at hP hD
  exact kk H1 locs1 ⟨hP, hD, hS, hQ.2.2.2⟩
theorem fr_Q_where (hC : fq_Cx V p s m args meth c R_Q cc nL ret) (hQ : fq_Hp V A H0 (fq_WQ V o mo g) H locs) (j : Nat) {i : Int32} (hj : i = nI j) (hlt : j < 40) (hdg : decode cc pc = .ok (.iaload, 1)) {v : Int32} (hv : g 5 j = v) (kk : W p l e R s m args below meth c H locs cells slots Q (F0 m (pc + 1) ls (.int v :: rest))) : W p l e R s m args below meth c H locs cells slots Q (F0 m pc ls (.int i :: .ref (o 6) :: rest)) := by
  subst hj
  subst hv
  refine va_iald (D := V.1) (cl := classes) (tys := fq_tys V) (ws := fq_WQ V o mo g) hC.1 hC.2.1 hC.2.2.2.2.2.2.2 hQ.1 6 0 (f := g 5) (n := 40) rfl rfl (vp_in_nI hlt (by omega)) hdg ?_
  rw [nI_clamp (by omega)]
  exact kk
theorem fs_Q_where (hC : fq_Cx V p s m args meth c R_Q cc nL ret) (hQ : fq_Hp V A H0 (fq_WQ V o mo g) H locs) (j : Nat) {i x : Int32} (hj : i = nI j) (hlt : j < 40) (hdg : decode cc pc = .ok (.iastore, 1)) (kk : ∀ (H1 : Heap) (locs1 : List Loc), fq_Hp V A H0 (fq_WQ V o mo (fq_us g 5 j x)) H1 locs1 → W p l e R s m args below meth c H1 locs1 cells slots Q (F0 m (pc + 1) ls rest)) : W p l e R s m args below meth c H locs cells slots Q (F0 m pc ls (.int x :: .int i :: .ref (o 6) :: rest)) := by
  subst hj
  refine va_iast (D := V.1) (cl := classes) (tys := fq_tys V) (ws := fq_WQ V o mo g) hC.1 hC.2.1 hC.2.2.2.2.2.2.2 hQ.1 hQ.2.1 hQ.2.2.1 6 0 (f := g 5) (n := 40) rfl rfl (vp_in_nI hlt (by omega)) hdg (fun H1 locs1 hP hD hS => ?_)
  rw [nI_clamp (by omega)] at hP hD
  exact kk H1 locs1 ⟨hP, hD, hS, hQ.2.2.2⟩
theorem fr_Q_heads (hC : fq_Cx V p s m args meth c R_Q cc nL ret) (hQ : fq_Hp V A H0 (fq_WQ V o mo g) H locs) (j : Nat) {i : Int32} (hj : i = nI j) (hlt : j < 40) (hdg : decode cc pc = .ok (.iaload, 1)) {v : Int32} (hv : g 6 j = v) (kk : W p l e R s m args below meth c H locs cells slots Q (F0 m (pc + 1) ls (.int v :: rest))) : W p l e R s m args below meth c H locs cells slots Q (F0 m pc ls (.int i :: .ref (o 7) :: rest)) := by
  subst hj
  subst hv
  refine va_iald (D := V.1) (cl := classes) (tys := fq_tys V) (ws := fq_WQ V o mo g) hC.1 hC.2.1 hC.2.2.2.2.2.2.2 hQ.1 7 0 (f := g 6) (n := 40) rfl rfl (vp_in_nI hlt (by omega)) hdg ?_
  rw [nI_clamp (by omega)]
  exact kk
theorem fs_Q_heads (hC : fq_Cx V p s m args meth c R_Q cc nL ret) (hQ : fq_Hp V A H0 (fq_WQ V o mo g) H locs) (j : Nat) {i x : Int32} (hj : i = nI j) (hlt : j < 40) (hdg : decode cc pc = .ok (.iastore, 1)) (kk : ∀ (H1 : Heap) (locs1 : List Loc), fq_Hp V A H0 (fq_WQ V o mo (fq_us g 6 j x)) H1 locs1 → W p l e R s m args below meth c H1 locs1 cells slots Q (F0 m (pc + 1) ls rest)) : W p l e R s m args below meth c H locs cells slots Q (F0 m pc ls (.int x :: .int i :: .ref (o 7) :: rest)) := by
  subst hj
  refine va_iast (D := V.1) (cl := classes) (tys := fq_tys V) (ws := fq_WQ V o mo g) hC.1 hC.2.1 hC.2.2.2.2.2.2.2 hQ.1 hQ.2.1 hQ.2.2.1 7 0 (f := g 6) (n := 40) rfl rfl (vp_in_nI hlt (by omega)) hdg (fun H1 locs1 hP hD hS => ?_)
  rw [nI_clamp (by omega)] at hP hD
  exact kk H1 locs1 ⟨hP, hD, hS, hQ.2.2.2⟩
theorem fr_Q_arcNext (hC : fq_Cx V p s m args meth c R_Q cc nL ret) (hQ : fq_Hp V A H0 (fq_WQ V o mo g) H locs) (hmo : mo ≤ 300) (j : Nat) {i : Int32} (hj : i = nI j) (hlt : j < mo) (hdg : decode cc pc = .ok (.iaload, 1)) {v : Int32} (hv : g 7 j = v) (kk : W p l e R s m args below meth c H locs cells slots Q (F0 m (pc + 1) ls (.int v :: rest))) : W p l e R s m args below meth c H locs cells slots Q (F0 m pc ls (.int i :: .ref (o 8) :: rest)) := by
  subst hj
  subst hv
  refine va_iald (D := V.1) (cl := classes) (tys := fq_tys V) (ws := fq_WQ V o mo g) hC.1 hC.2.1 hC.2.2.2.2.2.2.2 hQ.1 8 0 (f := g 7) (n := mo) rfl rfl (vp_in_nI hlt (by omega)) hdg ?_
  rw [nI_clamp (by omega)]
  exact kk
theorem fs_Q_arcNext (hC : fq_Cx V p s m args meth c R_Q cc nL ret) (hQ : fq_Hp V A H0 (fq_WQ V o mo g) H locs) (hmo : mo ≤ 300) (j : Nat) {i x : Int32} (hj : i = nI j) (hlt : j < mo) (hdg : decode cc pc = .ok (.iastore, 1)) (kk : ∀ (H1 : Heap) (locs1 : List Loc), fq_Hp V A H0 (fq_WQ V o mo (fq_us g 7 j x)) H1 locs1 → W p l e R s m args below meth c H1 locs1 cells slots Q (F0 m (pc + 1) ls rest)) : W p l e R s m args below meth c H locs cells slots Q (F0 m pc ls (.int x :: .int i :: .ref (o 8) :: rest)) := by
  subst hj
  refine va_iast (D := V.1) (cl := classes) (tys := fq_tys V) (ws := fq_WQ V o mo g) hC.1 hC.2.1 hC.2.2.2.2.2.2.2 hQ.1 hQ.2.1 hQ.2.2.1 8 0 (f := g 7) (n := mo) rfl rfl (vp_in_nI hlt (by omega)) hdg (fun H1 locs1 hP hD hS => ?_)
  rw [nI_clamp (by omega)] at hP hD
  exact kk H1 locs1 ⟨hP, hD, hS, hQ.2.2.2⟩
theorem fr_Q_arcTo (hC : fq_Cx V p s m args meth c R_Q cc nL ret) (hQ : fq_Hp V A H0 (fq_WQ V o mo g) H locs) (hmo : mo ≤ 300) (j : Nat) {i : Int32} (hj : i = nI j) (hlt : j < mo) (hdg : decode cc pc = .ok (.iaload, 1)) {v : Int32} (hv : g 8 j = v) (kk : W p l e R s m args below meth c H locs cells slots Q (F0 m (pc + 1) ls (.int v :: rest))) : W p l e R s m args below meth c H locs cells slots Q (F0 m pc ls (.int i :: .ref (o 9) :: rest)) := by
  subst hj
  subst hv
  refine va_iald (D := V.1) (cl := classes) (tys := fq_tys V) (ws := fq_WQ V o mo g) hC.1 hC.2.1 hC.2.2.2.2.2.2.2 hQ.1 9 0 (f := g 8) (n := mo) rfl rfl (vp_in_nI hlt (by omega)) hdg ?_
  rw [nI_clamp (by omega)]
  exact kk
theorem fs_Q_arcTo (hC : fq_Cx V p s m args meth c R_Q cc nL ret) (hQ : fq_Hp V A H0 (fq_WQ V o mo g) H locs) (hmo : mo ≤ 300) (j : Nat) {i x : Int32} (hj : i = nI j) (hlt : j < mo) (hdg : decode cc pc = .ok (.iastore, 1)) (kk : ∀ (H1 : Heap) (locs1 : List Loc), fq_Hp V A H0 (fq_WQ V o mo (fq_us g 8 j x)) H1 locs1 → W p l e R s m args below meth c H1 locs1 cells slots Q (F0 m (pc + 1) ls rest)) : W p l e R s m args below meth c H locs cells slots Q (F0 m pc ls (.int x :: .int i :: .ref (o 9) :: rest)) := by
  subst hj
  refine va_iast (D := V.1) (cl := classes) (tys := fq_tys V) (ws := fq_WQ V o mo g) hC.1 hC.2.1 hC.2.2.2.2.2.2.2 hQ.1 hQ.2.1 hQ.2.2.1 9 0 (f := g 8) (n := mo) rfl rfl (vp_in_nI hlt (by omega)) hdg (fun H1 locs1 hP hD hS => ?_)
  rw [nI_clamp (by omega)] at hP hD
  exact kk H1 locs1 ⟨hP, hD, hS, hQ.2.2.2⟩
theorem fr_Q_lengths (hC : fq_Cx V p s m args meth c R_Q cc nL ret) (hQ : fq_Hp V A H0 (fq_WQ V o mo g) H locs) (hmo : mo ≤ 300) (j : Nat) {i : Int32} (hj : i = nI j) (hlt : j < mo) (hdg : decode cc pc = .ok (.iaload, 1)) {v : Int32} (hv : g 9 j = v) (kk : W p l e R s m args below meth c H locs cells slots Q (F0 m (pc + 1) ls (.int v :: rest))) : W p l e R s m args below meth c H locs cells slots Q (F0 m pc ls (.int i :: .ref (o 10) :: rest)) := by
  subst hj
  subst hv
  refine va_iald (D := V.1) (cl := classes) (tys := fq_tys V) (ws := fq_WQ V o mo g) hC.1 hC.2.1 hC.2.2.2.2.2.2.2 hQ.1 10 0 (f := g 9) (n := mo) rfl rfl (vp_in_nI hlt (by omega)) hdg ?_
  rw [nI_clamp (by omega)]
  exact kk
theorem fs_Q_lengths (hC : fq_Cx V p s m args meth c R_Q cc nL ret) (hQ : fq_Hp V A H0 (fq_WQ V o mo g) H locs) (hmo : mo ≤ 300) (j : Nat) {i x : Int32} (hj : i = nI j) (hlt : j < mo) (hdg : decode cc pc = .ok (.iastore, 1)) (kk : ∀ (H1 : Heap) (locs1 : List Loc), fq_Hp V A H0 (fq_WQ V o mo (fq_us g 9 j x)) H1 locs1 → W p l e R s m args below meth c H1 locs1 cells slots Q (F0 m (pc + 1) ls rest)) : W p l e R s m args below meth c H locs cells slots Q (F0 m pc ls (.int x :: .int i :: .ref (o 10) :: rest)) := by
  subst hj
  refine va_iast (D := V.1) (cl := classes) (tys := fq_tys V) (ws := fq_WQ V o mo g) hC.1 hC.2.1 hC.2.2.2.2.2.2.2 hQ.1 hQ.2.1 hQ.2.2.1 10 0 (f := g 9) (n := mo) rfl rfl (vp_in_nI hlt (by omega)) hdg (fun H1 locs1 hP hD hS => ?_)
  rw [nI_clamp (by omega)] at hP hD
  exact kk H1 locs1 ⟨hP, hD, hS, hQ.2.2.2⟩
theorem fr_Q_distances (hC : fq_Cx V p s m args meth c R_Q cc nL ret) (hQ : fq_Hp V A H0 (fq_WQ V o mo g) H locs) (j : Nat) {i : Int32} (hj : i = nI j) (hlt : j < 40) (hdg : decode cc pc = .ok (.iaload, 1)) {v : Int32} (hv : g 10 j = v) (kk : W p l e R s m args below meth c H locs cells slots Q (F0 m (pc + 1) ls (.int v :: rest))) : W p l e R s m args below meth c H locs cells slots Q (F0 m pc ls (.int i :: .ref (o 11) :: rest)) := by
  subst hj
  subst hv
  refine va_iald (D := V.1) (cl := classes) (tys := fq_tys V) (ws := fq_WQ V o mo g) hC.1 hC.2.1 hC.2.2.2.2.2.2.2 hQ.1 11 0 (f := g 10) (n := 40) rfl rfl (vp_in_nI hlt (by omega)) hdg ?_
  rw [nI_clamp (by omega)]
  exact kk
theorem fs_Q_distances (hC : fq_Cx V p s m args meth c R_Q cc nL ret) (hQ : fq_Hp V A H0 (fq_WQ V o mo g) H locs) (j : Nat) {i x : Int32} (hj : i = nI j) (hlt : j < 40) (hdg : decode cc pc = .ok (.iastore, 1)) (kk : ∀ (H1 : Heap) (locs1 : List Loc), fq_Hp V A H0 (fq_WQ V o mo (fq_us g 10 j x)) H1 locs1 → W p l e R s m args below meth c H1 locs1 cells slots Q (F0 m (pc + 1) ls rest)) : W p l e R s m args below meth c H locs cells slots Q (F0 m pc ls (.int x :: .int i :: .ref (o 11) :: rest)) := by
  subst hj
  refine va_iast (D := V.1) (cl := classes) (tys := fq_tys V) (ws := fq_WQ V o mo g) hC.1 hC.2.1 hC.2.2.2.2.2.2.2 hQ.1 hQ.2.1 hQ.2.2.1 11 0 (f := g 10) (n := 40) rfl rfl (vp_in_nI hlt (by omega)) hdg (fun H1 locs1 hP hD hS => ?_)
  rw [nI_clamp (by omega)] at hP hD
  exact kk H1 locs1 ⟨hP, hD, hS, hQ.2.2.2⟩
theorem fr_Q_parents (hC : fq_Cx V p s m args meth c R_Q cc nL ret) (hQ : fq_Hp V A H0 (fq_WQ V o mo g) H locs) (j : Nat) {i : Int32} (hj : i = nI j) (hlt : j < 40) (hdg : decode cc pc = .ok (.iaload, 1)) {v : Int32} (hv : g 11 j = v) (kk : W p l e R s m args below meth c H locs cells slots Q (F0 m (pc + 1) ls (.int v :: rest))) : W p l e R s m args below meth c H locs cells slots Q (F0 m pc ls (.int i :: .ref (o 12) :: rest)) := by
  subst hj
  subst hv
  refine va_iald (D := V.1) (cl := classes) (tys := fq_tys V) (ws := fq_WQ V o mo g) hC.1 hC.2.1 hC.2.2.2.2.2.2.2 hQ.1 12 0 (f := g 11) (n := 40) rfl rfl (vp_in_nI hlt (by omega)) hdg ?_
  rw [nI_clamp (by omega)]
  exact kk
theorem fs_Q_parents (hC : fq_Cx V p s m args meth c R_Q cc nL ret) (hQ : fq_Hp V A H0 (fq_WQ V o mo g) H locs) (j : Nat) {i x : Int32} (hj : i = nI j) (hlt : j < 40) (hdg : decode cc pc = .ok (.iastore, 1)) (kk : ∀ (H1 : Heap) (locs1 : List Loc), fq_Hp V A H0 (fq_WQ V o mo (fq_us g 11 j x)) H1 locs1 → W p l e R s m args below meth c H1 locs1 cells slots Q (F0 m (pc + 1) ls rest)) : W p l e R s m args below meth c H locs cells slots Q (F0 m pc ls (.int x :: .int i :: .ref (o 12) :: rest)) := by
  subst hj
  refine va_iast (D := V.1) (cl := classes) (tys := fq_tys V) (ws := fq_WQ V o mo g) hC.1 hC.2.1 hC.2.2.2.2.2.2.2 hQ.1 hQ.2.1 hQ.2.2.1 12 0 (f := g 11) (n := 40) rfl rfl (vp_in_nI hlt (by omega)) hdg (fun H1 locs1 hP hD hS => ?_)
  rw [nI_clamp (by omega)] at hP hD
  exact kk H1 locs1 ⟨hP, hD, hS, hQ.2.2.2⟩
theorem fg_M_items (hC : fq_Cx V p s m args meth c R_M cc nL ret) (hQ : fq_Hp V A H0 (fq_WM V o mo g) H locs) (hdg : decode cc pc = .ok (.getfield 35, 3)) {v : Int32} (hv : g 8 0 = v) (kk : W p l e R s m args below meth c H locs cells slots Q (F0 m (pc + 3) ls (.int v :: rest))) : W p l e R s m args below meth c H locs cells slots Q (F0 m pc ls (.ref (o 0) :: rest)) := by
  subst hv
  exact va_get (D := V.1) (cl := classes) (ci := 1) (C := R_M) (T := F_M) (N := 16) (own := R_M) (ref := "FloorQueueModel") (index := 35) hC.1 hC.2.1 hC.2.2.2.2.2.1 i_M hC.2.2.2.2.1 hC.2.2.2.2.2.2.2 hQ.1 0 rfl rfl 0 (by decide) (hC.2.2.2.2.2.1 _ fl_M_items) (fun _ h9 => h9) rfl hdg kk
theorem fg_M_mostArcs (hC : fq_Cx V p s m args meth c R_M cc nL ret) (hQ : fq_Hp V A H0 (fq_WM V o mo g) H locs) (hdg : decode cc pc = .ok (.getfield 39, 3)) {v : Int32} (hv : g 8 1 = v) (kk : W p l e R s m args below meth c H locs cells slots Q (F0 m (pc + 3) ls (.int v :: rest))) : W p l e R s m args below meth c H locs cells slots Q (F0 m pc ls (.ref (o 0) :: rest)) := by
  subst hv
  exact va_get (D := V.1) (cl := classes) (ci := 1) (C := R_M) (T := F_M) (N := 16) (own := R_M) (ref := "FloorQueueModel") (index := 39) hC.1 hC.2.1 hC.2.2.2.2.2.1 i_M hC.2.2.2.2.1 hC.2.2.2.2.2.2.2 hQ.1 0 rfl rfl 1 (by decide) (hC.2.2.2.2.2.1 _ fl_M_mostArcs) (fun _ h9 => h9) rfl hdg kk
theorem fg_M_mostLength (hC : fq_Cx V p s m args meth c R_M cc nL ret) (hQ : fq_Hp V A H0 (fq_WM V o mo g) H locs) (hdg : decode cc pc = .ok (.getfield 42, 3)) {v : Int32} (hv : g 8 2 = v) (kk : W p l e R s m args below meth c H locs cells slots Q (F0 m (pc + 3) ls (.int v :: rest))) : W p l e R s m args below meth c H locs cells slots Q (F0 m pc ls (.ref (o 0) :: rest)) := by
  subst hv
  exact va_get (D := V.1) (cl := classes) (ci := 1) (C := R_M) (T := F_M) (N := 16) (own := R_M) (ref := "FloorQueueModel") (index := 42) hC.1 hC.2.1 hC.2.2.2.2.2.1 i_M hC.2.2.2.2.1 hC.2.2.2.2.2.2.2 hQ.1 0 rfl rfl 2 (by decide) (hC.2.2.2.2.2.1 _ fl_M_mostLength) (fun _ h9 => h9) rfl hdg kk
theorem fg_M_keys (hC : fq_Cx V p s m args meth c R_M cc nL ret) (hQ : fq_Hp V A H0 (fq_WM V o mo g) H locs) (hdg : decode cc pc = .ok (.getfield 7, 3)) (kk : W p l e R s m args below meth c H locs cells slots Q (F0 m (pc + 3) ls (.ref (o 1) :: rest))) : W p l e R s m args below meth c H locs cells slots Q (F0 m pc ls (.ref (o 0) :: rest)) :=
  va_get (D := V.1) (cl := classes) (ci := 1) (C := R_M) (T := F_M) (N := 16) (own := R_M) (ref := "FloorQueueModel") (index := 7) hC.1 hC.2.1 hC.2.2.2.2.2.1 i_M hC.2.2.2.2.1 hC.2.2.2.2.2.2.2 hQ.1 0 rfl rfl 3 (by decide) (hC.2.2.2.2.2.1 _ fl_M_keys) (fun _ h9 => h9) rfl hdg kk
theorem fg_M_lowest (hC : fq_Cx V p s m args meth c R_M cc nL ret) (hQ : fq_Hp V A H0 (fq_WM V o mo g) H locs) (hdg : decode cc pc = .ok (.getfield 48, 3)) {v : Int32} (hv : g 8 3 = v) (kk : W p l e R s m args below meth c H locs cells slots Q (F0 m (pc + 3) ls (.int v :: rest))) : W p l e R s m args below meth c H locs cells slots Q (F0 m pc ls (.ref (o 0) :: rest)) := by
  subst hv
  exact va_get (D := V.1) (cl := classes) (ci := 1) (C := R_M) (T := F_M) (N := 16) (own := R_M) (ref := "FloorQueueModel") (index := 48) hC.1 hC.2.1 hC.2.2.2.2.2.1 i_M hC.2.2.2.2.1 hC.2.2.2.2.2.2.2 hQ.1 0 rfl rfl 4 (by decide) (hC.2.2.2.2.2.1 _ fl_M_lowest) (fun _ h9 => h9) rfl hdg kk
theorem fp_M_lowest (hC : fq_Cx V p s m args meth c R_M cc nL ret) (hQ : fq_Hp V A H0 (fq_WM V o mo g) H locs) {x : Int32} (hdg : decode cc pc = .ok (.putfield 48, 3)) (kk : ∀ (H1 : Heap) (locs1 : List Loc), fq_Hp V A H0 (fq_WM V o mo (fq_us g 8 3 x)) H1 locs1 → W p l e R s m args below meth c H1 locs1 cells slots Q (F0 m (pc + 3) ls rest)) : W p l e R s m args below meth c H locs cells slots Q (F0 m pc ls (.int x :: .ref (o 0) :: rest)) :=
  va_put (D := V.1) (cl := classes) (ci := 1) (C := R_M) (T := F_M) (N := 16) (own := R_M) (ref := "FloorQueueModel") (index := 48) (v := .int x) (ty := .int) hC.1 hC.2.1 hC.2.2.2.2.2.1 i_M t_M t_M_ok n_M hC.2.2.2.2.1 hC.2.2.2.2.2.2.2 hQ.1 hQ.2.1 hQ.2.2.1 0 rfl rfl 4 (by decide) (hC.2.2.2.2.2.1 _ fl_M_lowest) (fun _ h9 => h9) rfl (by decide +kernel) rfl rfl (Nat.le_of_ble_eq_true rfl) hdg (fun H1 locs1 hP hD hS => kk H1 locs1 ⟨hP, hD, hS, hQ.2.2.2⟩)
theorem fg_M_placings (hC : fq_Cx V p s m args meth c R_M cc nL ret) (hQ : fq_Hp V A H0 (fq_WM V o mo g) H locs) (hdg : decode cc pc = .ok (.getfield 55, 3)) {v : Int32} (hv : g 8 4 = v) (kk : W p l e R s m args below meth c H locs cells slots Q (F0 m (pc + 3) ls (.int v :: rest))) : W p l e R s m args below meth c H locs cells slots Q (F0 m pc ls (.ref (o 0) :: rest)) := by
  subst hv
  exact va_get (D := V.1) (cl := classes) (ci := 1) (C := R_M) (T := F_M) (N := 16) (own := R_M) (ref := "FloorQueueModel") (index := 55) hC.1 hC.2.1 hC.2.2.2.2.2.1 i_M hC.2.2.2.2.1 hC.2.2.2.2.2.2.2 hQ.1 0 rfl rfl 5 (by decide) (hC.2.2.2.2.2.1 _ fl_M_placings) (fun _ h9 => h9) rfl hdg kk
theorem fp_M_placings (hC : fq_Cx V p s m args meth c R_M cc nL ret) (hQ : fq_Hp V A H0 (fq_WM V o mo g) H locs) {x : Int32} (hdg : decode cc pc = .ok (.putfield 55, 3)) (kk : ∀ (H1 : Heap) (locs1 : List Loc), fq_Hp V A H0 (fq_WM V o mo (fq_us g 8 4 x)) H1 locs1 → W p l e R s m args below meth c H1 locs1 cells slots Q (F0 m (pc + 3) ls rest)) : W p l e R s m args below meth c H locs cells slots Q (F0 m pc ls (.int x :: .ref (o 0) :: rest)) :=
  va_put (D := V.1) (cl := classes) (ci := 1) (C := R_M) (T := F_M) (N := 16) (own := R_M) (ref := "FloorQueueModel") (index := 55) (v := .int x) (ty := .int) hC.1 hC.2.1 hC.2.2.2.2.2.1 i_M t_M t_M_ok n_M hC.2.2.2.2.1 hC.2.2.2.2.2.2.2 hQ.1 hQ.2.1 hQ.2.2.1 0 rfl rfl 5 (by decide) (hC.2.2.2.2.2.1 _ fl_M_placings) (fun _ h9 => h9) rfl (by decide +kernel) rfl rfl (Nat.le_of_ble_eq_true rfl) hdg (fun H1 locs1 hP hD hS => kk H1 locs1 ⟨hP, hD, hS, hQ.2.2.2⟩)
theorem fg_M_calls (hC : fq_Cx V p s m args meth c R_M cc nL ret) (hQ : fq_Hp V A H0 (fq_WM V o mo g) H locs) (hdg : decode cc pc = .ok (.getfield 58, 3)) {v : Int32} (hv : g 8 5 = v) (kk : W p l e R s m args below meth c H locs cells slots Q (F0 m (pc + 3) ls (.int v :: rest))) : W p l e R s m args below meth c H locs cells slots Q (F0 m pc ls (.ref (o 0) :: rest)) := by
  subst hv
  exact va_get (D := V.1) (cl := classes) (ci := 1) (C := R_M) (T := F_M) (N := 16) (own := R_M) (ref := "FloorQueueModel") (index := 58) hC.1 hC.2.1 hC.2.2.2.2.2.1 i_M hC.2.2.2.2.1 hC.2.2.2.2.2.2.2 hQ.1 0 rfl rfl 6 (by decide) (hC.2.2.2.2.2.1 _ fl_M_calls) (fun _ h9 => h9) rfl hdg kk
theorem fp_M_calls (hC : fq_Cx V p s m args meth c R_M cc nL ret) (hQ : fq_Hp V A H0 (fq_WM V o mo g) H locs) {x : Int32} (hdg : decode cc pc = .ok (.putfield 58, 3)) (kk : ∀ (H1 : Heap) (locs1 : List Loc), fq_Hp V A H0 (fq_WM V o mo (fq_us g 8 5 x)) H1 locs1 → W p l e R s m args below meth c H1 locs1 cells slots Q (F0 m (pc + 3) ls rest)) : W p l e R s m args below meth c H locs cells slots Q (F0 m pc ls (.int x :: .ref (o 0) :: rest)) :=
  va_put (D := V.1) (cl := classes) (ci := 1) (C := R_M) (T := F_M) (N := 16) (own := R_M) (ref := "FloorQueueModel") (index := 58) (v := .int x) (ty := .int) hC.1 hC.2.1 hC.2.2.2.2.2.1 i_M t_M t_M_ok n_M hC.2.2.2.2.1 hC.2.2.2.2.2.2.2 hQ.1 hQ.2.1 hQ.2.2.1 0 rfl rfl 6 (by decide) (hC.2.2.2.2.2.1 _ fl_M_calls) (fun _ h9 => h9) rfl (by decide +kernel) rfl rfl (Nat.le_of_ble_eq_true rfl) hdg (fun H1 locs1 hP hD hS => kk H1 locs1 ⟨hP, hD, hS, hQ.2.2.2⟩)
theorem fg_M_arcs (hC : fq_Cx V p s m args meth c R_M cc nL ret) (hQ : fq_Hp V A H0 (fq_WM V o mo g) H locs) (hdg : decode cc pc = .ok (.getfield 68, 3)) {v : Int32} (hv : g 8 6 = v) (kk : W p l e R s m args below meth c H locs cells slots Q (F0 m (pc + 3) ls (.int v :: rest))) : W p l e R s m args below meth c H locs cells slots Q (F0 m pc ls (.ref (o 0) :: rest)) := by
  subst hv
  exact va_get (D := V.1) (cl := classes) (ci := 1) (C := R_M) (T := F_M) (N := 16) (own := R_M) (ref := "FloorQueueModel") (index := 68) hC.1 hC.2.1 hC.2.2.2.2.2.1 i_M hC.2.2.2.2.1 hC.2.2.2.2.2.2.2 hQ.1 0 rfl rfl 7 (by decide) (hC.2.2.2.2.2.1 _ fl_M_arcs) (fun _ h9 => h9) rfl hdg kk
theorem fp_M_arcs (hC : fq_Cx V p s m args meth c R_M cc nL ret) (hQ : fq_Hp V A H0 (fq_WM V o mo g) H locs) {x : Int32} (hdg : decode cc pc = .ok (.putfield 68, 3)) (kk : ∀ (H1 : Heap) (locs1 : List Loc), fq_Hp V A H0 (fq_WM V o mo (fq_us g 8 6 x)) H1 locs1 → W p l e R s m args below meth c H1 locs1 cells slots Q (F0 m (pc + 3) ls rest)) : W p l e R s m args below meth c H locs cells slots Q (F0 m pc ls (.int x :: .ref (o 0) :: rest)) :=
  va_put (D := V.1) (cl := classes) (ci := 1) (C := R_M) (T := F_M) (N := 16) (own := R_M) (ref := "FloorQueueModel") (index := 68) (v := .int x) (ty := .int) hC.1 hC.2.1 hC.2.2.2.2.2.1 i_M t_M t_M_ok n_M hC.2.2.2.2.1 hC.2.2.2.2.2.2.2 hQ.1 hQ.2.1 hQ.2.2.1 0 rfl rfl 7 (by decide) (hC.2.2.2.2.2.1 _ fl_M_arcs) (fun _ h9 => h9) rfl (by decide +kernel) rfl rfl (Nat.le_of_ble_eq_true rfl) hdg (fun H1 locs1 hP hD hS => kk H1 locs1 ⟨hP, hD, hS, hQ.2.2.2⟩)
theorem fg_M_froms (hC : fq_Cx V p s m args meth c R_M cc nL ret) (hQ : fq_Hp V A H0 (fq_WM V o mo g) H locs) (hdg : decode cc pc = .ok (.getfield 13, 3)) (kk : W p l e R s m args below meth c H locs cells slots Q (F0 m (pc + 3) ls (.ref (o 2) :: rest))) : W p l e R s m args below meth c H locs cells slots Q (F0 m pc ls (.ref (o 0) :: rest)) :=
  va_get (D := V.1) (cl := classes) (ci := 1) (C := R_M) (T := F_M) (N := 16) (own := R_M) (ref := "FloorQueueModel") (index := 13) hC.1 hC.2.1 hC.2.2.2.2.2.1 i_M hC.2.2.2.2.1 hC.2.2.2.2.2.2.2 hQ.1 0 rfl rfl 8 (by decide) (hC.2.2.2.2.2.1 _ fl_M_froms) (fun _ h9 => h9) rfl hdg kk
theorem fg_M_tos (hC : fq_Cx V p s m args meth c R_M cc nL ret) (hQ : fq_Hp V A H0 (fq_WM V o mo g) H locs) (hdg : decode cc pc = .ok (.getfield 16, 3)) (kk : W p l e R s m args below meth c H locs cells slots Q (F0 m (pc + 3) ls (.ref (o 3) :: rest))) : W p l e R s m args below meth c H locs cells slots Q (F0 m pc ls (.ref (o 0) :: rest)) :=
  va_get (D := V.1) (cl := classes) (ci := 1) (C := R_M) (T := F_M) (N := 16) (own := R_M) (ref := "FloorQueueModel") (index := 16) hC.1 hC.2.1 hC.2.2.2.2.2.1 i_M hC.2.2.2.2.1 hC.2.2.2.2.2.2.2 hQ.1 0 rfl rfl 9 (by decide) (hC.2.2.2.2.2.1 _ fl_M_tos) (fun _ h9 => h9) rfl hdg kk
theorem fg_M_lengths (hC : fq_Cx V p s m args meth c R_M cc nL ret) (hQ : fq_Hp V A H0 (fq_WM V o mo g) H locs) (hdg : decode cc pc = .ok (.getfield 19, 3)) (kk : W p l e R s m args below meth c H locs cells slots Q (F0 m (pc + 3) ls (.ref (o 4) :: rest))) : W p l e R s m args below meth c H locs cells slots Q (F0 m pc ls (.ref (o 0) :: rest)) :=
  va_get (D := V.1) (cl := classes) (ci := 1) (C := R_M) (T := F_M) (N := 16) (own := R_M) (ref := "FloorQueueModel") (index := 19) hC.1 hC.2.1 hC.2.2.2.2.2.1 i_M hC.2.2.2.2.1 hC.2.2.2.2.2.2.2 hQ.1 0 rfl rfl 10 (by decide) (hC.2.2.2.2.2.1 _ fl_M_lengths) (fun _ h9 => h9) rfl hdg kk
theorem fg_M_hasWays (hC : fq_Cx V p s m args meth c R_M cc nL ret) (hQ : fq_Hp V A H0 (fq_WM V o mo g) H locs) (hdg : decode cc pc = .ok (.getfield 71, 3)) {v : Int32} (hv : g 8 7 = v) (kk : W p l e R s m args below meth c H locs cells slots Q (F0 m (pc + 3) ls (.int v :: rest))) : W p l e R s m args below meth c H locs cells slots Q (F0 m pc ls (.ref (o 0) :: rest)) := by
  subst hv
  exact va_get (D := V.1) (cl := classes) (ci := 1) (C := R_M) (T := F_M) (N := 16) (own := R_M) (ref := "FloorQueueModel") (index := 71) hC.1 hC.2.1 hC.2.2.2.2.2.1 i_M hC.2.2.2.2.1 hC.2.2.2.2.2.2.2 hQ.1 0 rfl rfl 11 (by decide) (hC.2.2.2.2.2.1 _ fl_M_hasWays) (fun _ h9 => h9) rfl hdg kk
theorem fp_M_hasWays (hC : fq_Cx V p s m args meth c R_M cc nL ret) (hQ : fq_Hp V A H0 (fq_WM V o mo g) H locs) {x : Int32} (hn : narrow .boolean (.int x) = .int x) (hfit : fits .boolean (.int x) = true) (hdg : decode cc pc = .ok (.putfield 71, 3)) (kk : ∀ (H1 : Heap) (locs1 : List Loc), fq_Hp V A H0 (fq_WM V o mo (fq_us g 8 7 x)) H1 locs1 → W p l e R s m args below meth c H1 locs1 cells slots Q (F0 m (pc + 3) ls rest)) : W p l e R s m args below meth c H locs cells slots Q (F0 m pc ls (.int x :: .ref (o 0) :: rest)) :=
  va_put (D := V.1) (cl := classes) (ci := 1) (C := R_M) (T := F_M) (N := 16) (own := R_M) (ref := "FloorQueueModel") (index := 71) (v := .int x) (ty := .boolean) hC.1 hC.2.1 hC.2.2.2.2.2.1 i_M t_M t_M_ok n_M hC.2.2.2.2.1 hC.2.2.2.2.2.2.2 hQ.1 hQ.2.1 hQ.2.2.1 0 rfl rfl 11 (by decide) (hC.2.2.2.2.2.1 _ fl_M_hasWays) (fun _ h9 => h9) rfl (by decide +kernel) hn hfit (Nat.le_of_ble_eq_true rfl) hdg (fun H1 locs1 hP hD hS => kk H1 locs1 ⟨hP, hD, hS, hQ.2.2.2⟩)
theorem fg_M_ways (hC : fq_Cx V p s m args meth c R_M cc nL ret) (hQ : fq_Hp V A H0 (fq_WM V o mo g) H locs) (hdg : decode cc pc = .ok (.getfield 22, 3)) (kk : W p l e R s m args below meth c H locs cells slots Q (F0 m (pc + 3) ls (.ref (o 5) :: rest))) : W p l e R s m args below meth c H locs cells slots Q (F0 m pc ls (.ref (o 0) :: rest)) :=
  va_get (D := V.1) (cl := classes) (ci := 1) (C := R_M) (T := F_M) (N := 16) (own := R_M) (ref := "FloorQueueModel") (index := 22) hC.1 hC.2.1 hC.2.2.2.2.2.1 i_M hC.2.2.2.2.1 hC.2.2.2.2.2.2.2 hQ.1 0 rfl rfl 12 (by decide) (hC.2.2.2.2.2.1 _ fl_M_ways) (fun _ h9 => h9) rfl hdg kk
theorem fg_M_formers (hC : fq_Cx V p s m args meth c R_M cc nL ret) (hQ : fq_Hp V A H0 (fq_WM V o mo g) H locs) (hdg : decode cc pc = .ok (.getfield 25, 3)) (kk : W p l e R s m args below meth c H locs cells slots Q (F0 m (pc + 3) ls (.ref (o 6) :: rest))) : W p l e R s m args below meth c H locs cells slots Q (F0 m pc ls (.ref (o 0) :: rest)) :=
  va_get (D := V.1) (cl := classes) (ci := 1) (C := R_M) (T := F_M) (N := 16) (own := R_M) (ref := "FloorQueueModel") (index := 25) hC.1 hC.2.1 hC.2.2.2.2.2.1 i_M hC.2.2.2.2.1 hC.2.2.2.2.2.2.2 hQ.1 0 rfl rfl 13 (by decide) (hC.2.2.2.2.2.1 _ fl_M_formers) (fun _ h9 => h9) rfl hdg kk
theorem fg_M_taken (hC : fq_Cx V p s m args meth c R_M cc nL ret) (hQ : fq_Hp V A H0 (fq_WM V o mo g) H locs) (hdg : decode cc pc = .ok (.getfield 28, 3)) (kk : W p l e R s m args below meth c H locs cells slots Q (F0 m (pc + 3) ls (.ref (o 7) :: rest))) : W p l e R s m args below meth c H locs cells slots Q (F0 m pc ls (.ref (o 0) :: rest)) :=
  va_get (D := V.1) (cl := classes) (ci := 1) (C := R_M) (T := F_M) (N := 16) (own := R_M) (ref := "FloorQueueModel") (index := 28) hC.1 hC.2.1 hC.2.2.2.2.2.1 i_M hC.2.2.2.2.1 hC.2.2.2.2.2.2.2 hQ.1 0 rfl rfl 14 (by decide) (hC.2.2.2.2.2.1 _ fl_M_taken) (fun _ h9 => h9) rfl hdg kk
theorem fg_M_near (hC : fq_Cx V p s m args meth c R_M cc nL ret) (hQ : fq_Hp V A H0 (fq_WM V o mo g) H locs) (hdg : decode cc pc = .ok (.getfield 32, 3)) (kk : W p l e R s m args below meth c H locs cells slots Q (F0 m (pc + 3) ls (.ref (o 8) :: rest))) : W p l e R s m args below meth c H locs cells slots Q (F0 m pc ls (.ref (o 0) :: rest)) :=
  va_get (D := V.1) (cl := classes) (ci := 1) (C := R_M) (T := F_M) (N := 16) (own := R_M) (ref := "FloorQueueModel") (index := 32) hC.1 hC.2.1 hC.2.2.2.2.2.1 i_M hC.2.2.2.2.1 hC.2.2.2.2.2.2.2 hQ.1 0 rfl rfl 15 (by decide) (hC.2.2.2.2.2.1 _ fl_M_near) (fun _ h9 => h9) rfl hdg kk
theorem fr_M_keys (hC : fq_Cx V p s m args meth c R_M cc nL ret) (hQ : fq_Hp V A H0 (fq_WM V o mo g) H locs) (j : Nat) {i : Int32} (hj : i = nI j) (hlt : j < 40) (hdg : decode cc pc = .ok (.iaload, 1)) {v : Int32} (hv : g 0 j = v) (kk : W p l e R s m args below meth c H locs cells slots Q (F0 m (pc + 1) ls (.int v :: rest))) : W p l e R s m args below meth c H locs cells slots Q (F0 m pc ls (.int i :: .ref (o 1) :: rest)) := by
  subst hj
  subst hv
  refine va_iald (D := V.1) (cl := classes) (tys := fq_tys V) (ws := fq_WM V o mo g) hC.1 hC.2.1 hC.2.2.2.2.2.2.2 hQ.1 1 0 (f := g 0) (n := 40) rfl rfl (vp_in_nI hlt (by omega)) hdg ?_
  rw [nI_clamp (by omega)]
  exact kk
theorem fs_M_keys (hC : fq_Cx V p s m args meth c R_M cc nL ret) (hQ : fq_Hp V A H0 (fq_WM V o mo g) H locs) (j : Nat) {i x : Int32} (hj : i = nI j) (hlt : j < 40) (hdg : decode cc pc = .ok (.iastore, 1)) (kk : ∀ (H1 : Heap) (locs1 : List Loc), fq_Hp V A H0 (fq_WM V o mo (fq_us g 0 j x)) H1 locs1 → W p l e R s m args below meth c H1 locs1 cells slots Q (F0 m (pc + 1) ls rest)) : W p l e R s m args below meth c H locs cells slots Q (F0 m pc ls (.int x :: .int i :: .ref (o 1) :: rest)) := by
  subst hj
  refine va_iast (D := V.1) (cl := classes) (tys := fq_tys V) (ws := fq_WM V o mo g) hC.1 hC.2.1 hC.2.2.2.2.2.2.2 hQ.1 hQ.2.1 hQ.2.2.1 1 0 (f := g 0) (n := 40) rfl rfl (vp_in_nI hlt (by omega)) hdg (fun H1 locs1 hP hD hS => ?_)
  rw [nI_clamp (by omega)] at hP hD
  exact kk H1 locs1 ⟨hP, hD, hS, hQ.2.2.2⟩
theorem fr_M_froms (hC : fq_Cx V p s m args meth c R_M cc nL ret) (hQ : fq_Hp V A H0 (fq_WM V o mo g) H locs) (j : Nat) {i : Int32} (hj : i = nI j) (hlt : j < 300) (hdg : decode cc pc = .ok (.iaload, 1)) {v : Int32} (hv : g 1 j = v) (kk : W p l e R s m args below meth c H locs cells slots Q (F0 m (pc + 1) ls (.int v :: rest))) : W p l e R s m args below meth c H locs cells slots Q (F0 m pc ls (.int i :: .ref (o 2) :: rest)) := by
  subst hj
  subst hv
  refine va_iald (D := V.1) (cl := classes) (tys := fq_tys V) (ws := fq_WM V o mo g) hC.1 hC.2.1 hC.2.2.2.2.2.2.2 hQ.1 2 0 (f := g 1) (n := 300) rfl rfl (vp_in_nI hlt (by omega)) hdg ?_
  rw [nI_clamp (by omega)]
  exact kk
theorem fs_M_froms (hC : fq_Cx V p s m args meth c R_M cc nL ret) (hQ : fq_Hp V A H0 (fq_WM V o mo g) H locs) (j : Nat) {i x : Int32} (hj : i = nI j) (hlt : j < 300) (hdg : decode cc pc = .ok (.iastore, 1)) (kk : ∀ (H1 : Heap) (locs1 : List Loc), fq_Hp V A H0 (fq_WM V o mo (fq_us g 1 j x)) H1 locs1 → W p l e R s m args below meth c H1 locs1 cells slots Q (F0 m (pc + 1) ls rest)) : W p l e R s m args below meth c H locs cells slots Q (F0 m pc ls (.int x :: .int i :: .ref (o 2) :: rest)) := by
  subst hj
  refine va_iast (D := V.1) (cl := classes) (tys := fq_tys V) (ws := fq_WM V o mo g) hC.1 hC.2.1 hC.2.2.2.2.2.2.2 hQ.1 hQ.2.1 hQ.2.2.1 2 0 (f := g 1) (n := 300) rfl rfl (vp_in_nI hlt (by omega)) hdg (fun H1 locs1 hP hD hS => ?_)
  rw [nI_clamp (by omega)] at hP hD
  exact kk H1 locs1 ⟨hP, hD, hS, hQ.2.2.2⟩
theorem fr_M_tos (hC : fq_Cx V p s m args meth c R_M cc nL ret) (hQ : fq_Hp V A H0 (fq_WM V o mo g) H locs) (j : Nat) {i : Int32} (hj : i = nI j) (hlt : j < 300) (hdg : decode cc pc = .ok (.iaload, 1)) {v : Int32} (hv : g 2 j = v) (kk : W p l e R s m args below meth c H locs cells slots Q (F0 m (pc + 1) ls (.int v :: rest))) : W p l e R s m args below meth c H locs cells slots Q (F0 m pc ls (.int i :: .ref (o 3) :: rest)) := by
  subst hj
  subst hv
  refine va_iald (D := V.1) (cl := classes) (tys := fq_tys V) (ws := fq_WM V o mo g) hC.1 hC.2.1 hC.2.2.2.2.2.2.2 hQ.1 3 0 (f := g 2) (n := 300) rfl rfl (vp_in_nI hlt (by omega)) hdg ?_
  rw [nI_clamp (by omega)]
  exact kk
theorem fs_M_tos (hC : fq_Cx V p s m args meth c R_M cc nL ret) (hQ : fq_Hp V A H0 (fq_WM V o mo g) H locs) (j : Nat) {i x : Int32} (hj : i = nI j) (hlt : j < 300) (hdg : decode cc pc = .ok (.iastore, 1)) (kk : ∀ (H1 : Heap) (locs1 : List Loc), fq_Hp V A H0 (fq_WM V o mo (fq_us g 2 j x)) H1 locs1 → W p l e R s m args below meth c H1 locs1 cells slots Q (F0 m (pc + 1) ls rest)) : W p l e R s m args below meth c H locs cells slots Q (F0 m pc ls (.int x :: .int i :: .ref (o 3) :: rest)) := by
  subst hj
  refine va_iast (D := V.1) (cl := classes) (tys := fq_tys V) (ws := fq_WM V o mo g) hC.1 hC.2.1 hC.2.2.2.2.2.2.2 hQ.1 hQ.2.1 hQ.2.2.1 3 0 (f := g 2) (n := 300) rfl rfl (vp_in_nI hlt (by omega)) hdg (fun H1 locs1 hP hD hS => ?_)
  rw [nI_clamp (by omega)] at hP hD
  exact kk H1 locs1 ⟨hP, hD, hS, hQ.2.2.2⟩
theorem fr_M_lengths (hC : fq_Cx V p s m args meth c R_M cc nL ret) (hQ : fq_Hp V A H0 (fq_WM V o mo g) H locs) (j : Nat) {i : Int32} (hj : i = nI j) (hlt : j < 300) (hdg : decode cc pc = .ok (.iaload, 1)) {v : Int32} (hv : g 3 j = v) (kk : W p l e R s m args below meth c H locs cells slots Q (F0 m (pc + 1) ls (.int v :: rest))) : W p l e R s m args below meth c H locs cells slots Q (F0 m pc ls (.int i :: .ref (o 4) :: rest)) := by
  subst hj
  subst hv
  refine va_iald (D := V.1) (cl := classes) (tys := fq_tys V) (ws := fq_WM V o mo g) hC.1 hC.2.1 hC.2.2.2.2.2.2.2 hQ.1 4 0 (f := g 3) (n := 300) rfl rfl (vp_in_nI hlt (by omega)) hdg ?_
  rw [nI_clamp (by omega)]
  exact kk
theorem fs_M_lengths (hC : fq_Cx V p s m args meth c R_M cc nL ret) (hQ : fq_Hp V A H0 (fq_WM V o mo g) H locs) (j : Nat) {i x : Int32} (hj : i = nI j) (hlt : j < 300) (hdg : decode cc pc = .ok (.iastore, 1)) (kk : ∀ (H1 : Heap) (locs1 : List Loc), fq_Hp V A H0 (fq_WM V o mo (fq_us g 3 j x)) H1 locs1 → W p l e R s m args below meth c H1 locs1 cells slots Q (F0 m (pc + 1) ls rest)) : W p l e R s m args below meth c H locs cells slots Q (F0 m pc ls (.int x :: .int i :: .ref (o 4) :: rest)) := by
  subst hj
  refine va_iast (D := V.1) (cl := classes) (tys := fq_tys V) (ws := fq_WM V o mo g) hC.1 hC.2.1 hC.2.2.2.2.2.2.2 hQ.1 hQ.2.1 hQ.2.2.1 4 0 (f := g 3) (n := 300) rfl rfl (vp_in_nI hlt (by omega)) hdg (fun H1 locs1 hP hD hS => ?_)
  rw [nI_clamp (by omega)] at hP hD
  exact kk H1 locs1 ⟨hP, hD, hS, hQ.2.2.2⟩
theorem fr_M_ways (hC : fq_Cx V p s m args meth c R_M cc nL ret) (hQ : fq_Hp V A H0 (fq_WM V o mo g) H locs) (j : Nat) {i : Int32} (hj : i = nI j) (hlt : j < 40) (hdg : decode cc pc = .ok (.iaload, 1)) {v : Int32} (hv : g 4 j = v) (kk : W p l e R s m args below meth c H locs cells slots Q (F0 m (pc + 1) ls (.int v :: rest))) : W p l e R s m args below meth c H locs cells slots Q (F0 m pc ls (.int i :: .ref (o 5) :: rest)) := by
  subst hj
  subst hv
  refine va_iald (D := V.1) (cl := classes) (tys := fq_tys V) (ws := fq_WM V o mo g) hC.1 hC.2.1 hC.2.2.2.2.2.2.2 hQ.1 5 0 (f := g 4) (n := 40) rfl rfl (vp_in_nI hlt (by omega)) hdg ?_
  rw [nI_clamp (by omega)]
  exact kk
theorem fs_M_ways (hC : fq_Cx V p s m args meth c R_M cc nL ret) (hQ : fq_Hp V A H0 (fq_WM V o mo g) H locs) (j : Nat) {i x : Int32} (hj : i = nI j) (hlt : j < 40) (hdg : decode cc pc = .ok (.iastore, 1)) (kk : ∀ (H1 : Heap) (locs1 : List Loc), fq_Hp V A H0 (fq_WM V o mo (fq_us g 4 j x)) H1 locs1 → W p l e R s m args below meth c H1 locs1 cells slots Q (F0 m (pc + 1) ls rest)) : W p l e R s m args below meth c H locs cells slots Q (F0 m pc ls (.int x :: .int i :: .ref (o 5) :: rest)) := by
  subst hj
  refine va_iast (D := V.1) (cl := classes) (tys := fq_tys V) (ws := fq_WM V o mo g) hC.1 hC.2.1 hC.2.2.2.2.2.2.2 hQ.1 hQ.2.1 hQ.2.2.1 5 0 (f := g 4) (n := 40) rfl rfl (vp_in_nI hlt (by omega)) hdg (fun H1 locs1 hP hD hS => ?_)
  rw [nI_clamp (by omega)] at hP hD
  exact kk H1 locs1 ⟨hP, hD, hS, hQ.2.2.2⟩
theorem fr_M_formers (hC : fq_Cx V p s m args meth c R_M cc nL ret) (hQ : fq_Hp V A H0 (fq_WM V o mo g) H locs) (j : Nat) {i : Int32} (hj : i = nI j) (hlt : j < 40) (hdg : decode cc pc = .ok (.iaload, 1)) {v : Int32} (hv : g 5 j = v) (kk : W p l e R s m args below meth c H locs cells slots Q (F0 m (pc + 1) ls (.int v :: rest))) : W p l e R s m args below meth c H locs cells slots Q (F0 m pc ls (.int i :: .ref (o 6) :: rest)) := by
  subst hj
  subst hv
  refine va_iald (D := V.1) (cl := classes) (tys := fq_tys V) (ws := fq_WM V o mo g) hC.1 hC.2.1 hC.2.2.2.2.2.2.2 hQ.1 6 0 (f := g 5) (n := 40) rfl rfl (vp_in_nI hlt (by omega)) hdg ?_
  rw [nI_clamp (by omega)]
  exact kk
theorem fs_M_formers (hC : fq_Cx V p s m args meth c R_M cc nL ret) (hQ : fq_Hp V A H0 (fq_WM V o mo g) H locs) (j : Nat) {i x : Int32} (hj : i = nI j) (hlt : j < 40) (hdg : decode cc pc = .ok (.iastore, 1)) (kk : ∀ (H1 : Heap) (locs1 : List Loc), fq_Hp V A H0 (fq_WM V o mo (fq_us g 5 j x)) H1 locs1 → W p l e R s m args below meth c H1 locs1 cells slots Q (F0 m (pc + 1) ls rest)) : W p l e R s m args below meth c H locs cells slots Q (F0 m pc ls (.int x :: .int i :: .ref (o 6) :: rest)) := by
  subst hj
  refine va_iast (D := V.1) (cl := classes) (tys := fq_tys V) (ws := fq_WM V o mo g) hC.1 hC.2.1 hC.2.2.2.2.2.2.2 hQ.1 hQ.2.1 hQ.2.2.1 6 0 (f := g 5) (n := 40) rfl rfl (vp_in_nI hlt (by omega)) hdg (fun H1 locs1 hP hD hS => ?_)
  rw [nI_clamp (by omega)] at hP hD
  exact kk H1 locs1 ⟨hP, hD, hS, hQ.2.2.2⟩
theorem fr_M_taken (hC : fq_Cx V p s m args meth c R_M cc nL ret) (hQ : fq_Hp V A H0 (fq_WM V o mo g) H locs) (j : Nat) {i : Int32} (hj : i = nI j) (hlt : j < 40) (hdg : decode cc pc = .ok (.baload, 1)) {v : Int32} (hv : g 6 j = v) (kk : W p l e R s m args below meth c H locs cells slots Q (F0 m (pc + 1) ls (.int v :: rest))) : W p l e R s m args below meth c H locs cells slots Q (F0 m pc ls (.int i :: .ref (o 7) :: rest)) := by
  subst hj
  subst hv
  refine va_zald (D := V.1) (cl := classes) (tys := fq_tys V) (ws := fq_WM V o mo g) hC.1 hC.2.1 hC.2.2.2.2.2.2.2 hQ.1 7 1 (f := g 6) (n := 40) rfl rfl (vp_in_nI hlt (by omega)) hdg ?_
  rw [nI_clamp (by omega)]
  exact kk
theorem fs_M_taken (hC : fq_Cx V p s m args meth c R_M cc nL ret) (hQ : fq_Hp V A H0 (fq_WM V o mo g) H locs) (j : Nat) {i x : Int32} (hj : i = nI j) (hlt : j < 40) (hn : vp_nar .boolean x = x) (hdg : decode cc pc = .ok (.bastore, 1)) (kk : ∀ (H1 : Heap) (locs1 : List Loc), fq_Hp V A H0 (fq_WM V o mo (fq_us g 6 j x)) H1 locs1 → W p l e R s m args below meth c H1 locs1 cells slots Q (F0 m (pc + 1) ls rest)) : W p l e R s m args below meth c H locs cells slots Q (F0 m pc ls (.int x :: .int i :: .ref (o 7) :: rest)) := by
  subst hj
  refine va_zast (D := V.1) (cl := classes) (tys := fq_tys V) (ws := fq_WM V o mo g) hC.1 hC.2.1 hC.2.2.2.2.2.2.2 hQ.1 hQ.2.1 hQ.2.2.1 7 1 (f := g 6) (n := 40) rfl rfl (vp_in_nI hlt (by omega)) hdg (fun H1 locs1 hP hD hS => ?_)
  rw [nI_clamp (by omega), hn] at hP hD
  exact kk H1 locs1 ⟨hP, hD, hS, hQ.2.2.2⟩
theorem fr_M_near (hC : fq_Cx V p s m args meth c R_M cc nL ret) (hQ : fq_Hp V A H0 (fq_WM V o mo g) H locs) (j : Nat) {i : Int32} (hj : i = nI j) (hlt : j < 40) (hdg : decode cc pc = .ok (.baload, 1)) {v : Int32} (hv : g 7 j = v) (kk : W p l e R s m args below meth c H locs cells slots Q (F0 m (pc + 1) ls (.int v :: rest))) : W p l e R s m args below meth c H locs cells slots Q (F0 m pc ls (.int i :: .ref (o 8) :: rest)) := by
  subst hj
  subst hv
  refine va_zald (D := V.1) (cl := classes) (tys := fq_tys V) (ws := fq_WM V o mo g) hC.1 hC.2.1 hC.2.2.2.2.2.2.2 hQ.1 8 1 (f := g 7) (n := 40) rfl rfl (vp_in_nI hlt (by omega)) hdg ?_
  rw [nI_clamp (by omega)]
  exact kk
theorem fs_M_near (hC : fq_Cx V p s m args meth c R_M cc nL ret) (hQ : fq_Hp V A H0 (fq_WM V o mo g) H locs) (j : Nat) {i x : Int32} (hj : i = nI j) (hlt : j < 40) (hn : vp_nar .boolean x = x) (hdg : decode cc pc = .ok (.bastore, 1)) (kk : ∀ (H1 : Heap) (locs1 : List Loc), fq_Hp V A H0 (fq_WM V o mo (fq_us g 7 j x)) H1 locs1 → W p l e R s m args below meth c H1 locs1 cells slots Q (F0 m (pc + 1) ls rest)) : W p l e R s m args below meth c H locs cells slots Q (F0 m pc ls (.int x :: .int i :: .ref (o 8) :: rest)) := by
  subst hj
  refine va_zast (D := V.1) (cl := classes) (tys := fq_tys V) (ws := fq_WM V o mo g) hC.1 hC.2.1 hC.2.2.2.2.2.2.2 hQ.1 hQ.2.1 hQ.2.2.1 8 1 (f := g 7) (n := 40) rfl rfl (vp_in_nI hlt (by omega)) hdg (fun H1 locs1 hP hD hS => ?_)
  rw [nI_clamp (by omega), hn] at hP hD
  exact kk H1 locs1 ⟨hP, hD, hS, hQ.2.2.2⟩
end FQF
theorem fw_Q_37 : fq_CS R_Q 37 y_Q_bring b_Q_bring 3 (some .int) 3 := ⟨⟨fq_m (List.mem_append_right _ (List.mem_of_getElem? (i := 11) (by decide +kernel))) (by decide), fq_m (List.mem_append_right _ (List.mem_of_getElem? (i := 12) (by decide +kernel))) (by decide), fi_Q, fq_m (List.mem_append_right _ (List.mem_of_getElem? (i := 13) (by decide +kernel))) (by decide)⟩, ⟨rfl, by decide +kernel, by decide +kernel, by decide +kernel⟩⟩
theorem fw_Q_60 : fq_CS R_Q 60 y_Q_within b_Q_within 3 (some .boolean) 3 := ⟨⟨fq_m (List.mem_append_right _ (List.mem_of_getElem? (i := 87) (by decide +kernel))) (by decide), fq_m (List.mem_append_right _ (List.mem_of_getElem? (i := 88) (by decide +kernel))) (by decide), fi_Q, fq_m (List.mem_append_right _ (List.mem_of_getElem? (i := 89) (by decide +kernel))) (by decide)⟩, ⟨rfl, by decide +kernel, by decide +kernel, by decide +kernel⟩⟩
theorem fw_Q_64 : fq_CW R_Q 64 R_Q y_Q_isItem b_Q_isItem 2 (some .boolean) 1 := ⟨⟨fq_m (List.mem_append_right _ (List.mem_of_getElem? (i := 83) (by decide +kernel))) (by decide), fq_m (List.mem_append_right _ (List.mem_of_getElem? (i := 85) (by decide +kernel))) (by decide), fq_m (List.mem_append_left _ (List.mem_of_getElem? (i := 0) (by decide +kernel))) (by decide), fi_Q, fq_m (List.mem_append_right _ (List.mem_of_getElem? (i := 86) (by decide +kernel))) (by decide)⟩, ⟨rfl, by decide +kernel, by decide +kernel, by decide +kernel⟩⟩
theorem fw_Q_74 : fq_CW R_Q 74 R_Q y_Q_bucketFor b_Q_bucketFor 4 (some .int) 1 := ⟨⟨fq_m (List.mem_append_right _ (List.mem_of_getElem? (i := 90) (by decide +kernel))) (by decide), fq_m (List.mem_append_right _ (List.mem_of_getElem? (i := 92) (by decide +kernel))) (by decide), fq_m (List.mem_append_left _ (List.mem_of_getElem? (i := 1) (by decide +kernel))) (by decide), fi_Q, fq_m (List.mem_append_right _ (List.mem_of_getElem? (i := 93) (by decide +kernel))) (by decide)⟩, ⟨rfl, by decide +kernel, by decide +kernel, by decide +kernel⟩⟩
theorem fw_Q_78 : fq_CW R_Q 78 R_Q y_Q_link b_Q_link 3 none 2 := ⟨⟨fq_m (List.mem_append_right _ (List.mem_of_getElem? (i := 94) (by decide +kernel))) (by decide), fq_m (List.mem_append_right _ (List.mem_of_getElem? (i := 96) (by decide +kernel))) (by decide), fq_m (List.mem_append_left _ (List.mem_of_getElem? (i := 2) (by decide +kernel))) (by decide), fi_Q, fq_m (List.mem_append_right _ (List.mem_of_getElem? (i := 97) (by decide +kernel))) (by decide)⟩, ⟨rfl, by decide +kernel, by decide +kernel, by decide +kernel⟩⟩
theorem fw_Q_88 : fq_CW R_Q 88 R_Q y_Q_isThere b_Q_isThere 2 (some .boolean) 1 := ⟨⟨fq_m (List.mem_append_right _ (List.mem_of_getElem? (i := 102) (by decide +kernel))) (by decide), fq_m (List.mem_append_right _ (List.mem_of_getElem? (i := 104) (by decide +kernel))) (by decide), fq_m (List.mem_append_left _ (List.mem_of_getElem? (i := 3) (by decide +kernel))) (by decide), fi_Q, fq_m (List.mem_append_right _ (List.mem_of_getElem? (i := 105) (by decide +kernel))) (by decide)⟩, ⟨rfl, by decide +kernel, by decide +kernel, by decide +kernel⟩⟩
theorem fw_Q_91 : fq_CW R_Q 91 R_Q y_Q_unlink b_Q_unlink 3 none 1 := ⟨⟨fq_m (List.mem_append_right _ (List.mem_of_getElem? (i := 106) (by decide +kernel))) (by decide), fq_m (List.mem_append_right _ (List.mem_of_getElem? (i := 108) (by decide +kernel))) (by decide), fq_m (List.mem_append_left _ (List.mem_of_getElem? (i := 4) (by decide +kernel))) (by decide), fi_Q, fq_m (List.mem_append_right _ (List.mem_of_getElem? (i := 109) (by decide +kernel))) (by decide)⟩, ⟨rfl, by decide +kernel, by decide +kernel, by decide +kernel⟩⟩
theorem fw_Q_95 : fq_CW R_Q 95 R_Q y_Q_leastOf b_Q_leastOf 4 (some .int) 1 := ⟨⟨fq_m (List.mem_append_right _ (List.mem_of_getElem? (i := 114) (by decide +kernel))) (by decide), fq_m (List.mem_append_right _ (List.mem_of_getElem? (i := 116) (by decide +kernel))) (by decide), fq_m (List.mem_append_left _ (List.mem_of_getElem? (i := 5) (by decide +kernel))) (by decide), fi_Q, fq_m (List.mem_append_right _ (List.mem_of_getElem? (i := 117) (by decide +kernel))) (by decide)⟩, ⟨rfl, by decide +kernel, by decide +kernel, by decide +kernel⟩⟩
theorem fw_Q_98 : fq_CW R_Q 98 R_Q y_Q_layAnew b_Q_layAnew 5 none 2 := ⟨⟨fq_m (List.mem_append_right _ (List.mem_of_getElem? (i := 118) (by decide +kernel))) (by decide), fq_m (List.mem_append_right _ (List.mem_of_getElem? (i := 120) (by decide +kernel))) (by decide), fq_m (List.mem_append_left _ (List.mem_of_getElem? (i := 6) (by decide +kernel))) (by decide), fi_Q, fq_m (List.mem_append_right _ (List.mem_of_getElem? (i := 121) (by decide +kernel))) (by decide)⟩, ⟨rfl, by decide +kernel, by decide +kernel, by decide +kernel⟩⟩
theorem fw_Q_108 : fq_CW R_Q 108 R_Q y_Q_push b_Q_push 3 (some .int) 2 := ⟨⟨fq_m (List.mem_append_right _ (List.mem_of_getElem? (i := 134) (by decide +kernel))) (by decide), fq_m (List.mem_append_right _ (List.mem_of_getElem? (i := 80) (by decide +kernel))) (by decide), fq_m (List.mem_append_right _ (List.mem_of_getElem? (i := 81) (by decide +kernel))) (by decide), fi_Q, fq_m (List.mem_append_right _ (List.mem_of_getElem? (i := 82) (by decide +kernel))) (by decide)⟩, ⟨rfl, by decide +kernel, by decide +kernel, by decide +kernel⟩⟩
theorem fw_Q_112 : fq_CW R_Q 112 R_Q y_Q_lower b_Q_lower 4 (some .int) 2 := ⟨⟨fq_m (List.mem_append_right _ (List.mem_of_getElem? (i := 140) (by decide +kernel))) (by decide), fq_m (List.mem_append_right _ (List.mem_of_getElem? (i := 99) (by decide +kernel))) (by decide), fq_m (List.mem_append_right _ (List.mem_of_getElem? (i := 100) (by decide +kernel))) (by decide), fi_Q, fq_m (List.mem_append_right _ (List.mem_of_getElem? (i := 101) (by decide +kernel))) (by decide)⟩, ⟨rfl, by decide +kernel, by decide +kernel, by decide +kernel⟩⟩
theorem fw_Q_115 : fq_CW R_Q 115 R_Q y_Q_clear b_Q_clear 2 none 0 := ⟨⟨fq_m (List.mem_append_right _ (List.mem_of_getElem? (i := 130) (by decide +kernel))) (by decide), fq_m (List.mem_append_right _ (List.mem_of_getElem? (i := 132) (by decide +kernel))) (by decide), fq_m (List.mem_append_left _ (List.mem_of_getElem? (i := 7) (by decide +kernel))) (by decide), fi_Q, fq_m (List.mem_append_right _ (List.mem_of_getElem? (i := 133) (by decide +kernel))) (by decide)⟩, ⟨rfl, by decide +kernel, by decide +kernel, by decide +kernel⟩⟩
theorem fw_Q_118 : fq_CW R_Q 118 R_Q y_Q_pop b_Q_pop 3 (some .int) 0 := ⟨⟨fq_m (List.mem_append_right _ (List.mem_of_getElem? (i := 135) (by decide +kernel))) (by decide), fq_m (List.mem_append_right _ (List.mem_of_getElem? (i := 111) (by decide +kernel))) (by decide), fq_m (List.mem_append_right _ (List.mem_of_getElem? (i := 112) (by decide +kernel))) (by decide), fi_Q, fq_m (List.mem_append_right _ (List.mem_of_getElem? (i := 113) (by decide +kernel))) (by decide)⟩, ⟨rfl, by decide +kernel, by decide +kernel, by decide +kernel⟩⟩
theorem fw_Q_122 : fq_CW R_Q 122 R_Q y_Q_follow b_Q_follow 6 none 2 := ⟨⟨fq_m (List.mem_append_right _ (List.mem_of_getElem? (i := 136) (by decide +kernel))) (by decide), fq_m (List.mem_append_right _ (List.mem_of_getElem? (i := 138) (by decide +kernel))) (by decide), fq_m (List.mem_append_left _ (List.mem_of_getElem? (i := 8) (by decide +kernel))) (by decide), fi_Q, fq_m (List.mem_append_right _ (List.mem_of_getElem? (i := 139) (by decide +kernel))) (by decide)⟩, ⟨rfl, by decide +kernel, by decide +kernel, by decide +kernel⟩⟩
theorem fw_Q_125 : fq_CW R_Q 125 R_Q y_Q_isOver b_Q_isOver 4 (some .boolean) 0 := ⟨⟨fq_m (List.mem_append_right _ (List.mem_of_getElem? (i := 141) (by decide +kernel))) (by decide), fq_m (List.mem_append_right _ (List.mem_of_getElem? (i := 143) (by decide +kernel))) (by decide), fq_m (List.mem_append_left _ (List.mem_of_getElem? (i := 9) (by decide +kernel))) (by decide), fi_Q, fq_m (List.mem_append_right _ (List.mem_of_getElem? (i := 144) (by decide +kernel))) (by decide)⟩, ⟨rfl, by decide +kernel, by decide +kernel, by decide +kernel⟩⟩
theorem fw_M_45 : fq_CW R_M 45 R_M y_M_clear b_M_clear 2 none 0 := ⟨⟨fq_m (List.mem_append_right _ (List.mem_of_getElem? (i := 195) (by decide +kernel))) (by decide), fq_m (List.mem_append_right _ (List.mem_of_getElem? (i := 197) (by decide +kernel))) (by decide), fq_m (List.mem_append_left _ (List.mem_of_getElem? (i := 10) (by decide +kernel))) (by decide), fi_M, fq_m (List.mem_append_right _ (List.mem_of_getElem? (i := 198) (by decide +kernel))) (by decide)⟩, ⟨rfl, by decide +kernel, by decide +kernel, by decide +kernel⟩⟩
theorem fw_M_51 : fq_CW R_M 51 R_M y_M_isItem b_M_isItem 2 (some .boolean) 1 := ⟨⟨fq_m (List.mem_append_right _ (List.mem_of_getElem? (i := 253) (by decide +kernel))) (by decide), fq_m (List.mem_append_right _ (List.mem_of_getElem? (i := 255) (by decide +kernel))) (by decide), fq_m (List.mem_append_left _ (List.mem_of_getElem? (i := 11) (by decide +kernel))) (by decide), fi_M, fq_m (List.mem_append_right _ (List.mem_of_getElem? (i := 256) (by decide +kernel))) (by decide)⟩, ⟨rfl, by decide +kernel, by decide +kernel, by decide +kernel⟩⟩
theorem fw_M_61 : fq_CW R_M 61 R_M y_M_isThere b_M_isThere 2 (some .boolean) 1 := ⟨⟨fq_m (List.mem_append_right _ (List.mem_of_getElem? (i := 261) (by decide +kernel))) (by decide), fq_m (List.mem_append_right _ (List.mem_of_getElem? (i := 263) (by decide +kernel))) (by decide), fq_m (List.mem_append_left _ (List.mem_of_getElem? (i := 12) (by decide +kernel))) (by decide), fi_M, fq_m (List.mem_append_right _ (List.mem_of_getElem? (i := 264) (by decide +kernel))) (by decide)⟩, ⟨rfl, by decide +kernel, by decide +kernel, by decide +kernel⟩⟩
theorem fw_M_64 : fq_CS R_M 64 y_M_unlike b_M_unlike 4 (some .int) 2 := ⟨⟨fq_m (List.mem_append_right _ (List.mem_of_getElem? (i := 265) (by decide +kernel))) (by decide), fq_m (List.mem_append_right _ (List.mem_of_getElem? (i := 266) (by decide +kernel))) (by decide), fi_M, fq_m (List.mem_append_right _ (List.mem_of_getElem? (i := 267) (by decide +kernel))) (by decide)⟩, ⟨rfl, by decide +kernel, by decide +kernel, by decide +kernel⟩⟩
theorem fw_M_77 : fq_CW R_M 77 R_M y_M_push b_M_push 3 (some .int) 2 := ⟨⟨fq_m (List.mem_append_right _ (List.mem_of_getElem? (i := 304) (by decide +kernel))) (by decide), fq_m (List.mem_append_right _ (List.mem_of_getElem? (i := 250) (by decide +kernel))) (by decide), fq_m (List.mem_append_right _ (List.mem_of_getElem? (i := 251) (by decide +kernel))) (by decide), fi_M, fq_m (List.mem_append_right _ (List.mem_of_getElem? (i := 252) (by decide +kernel))) (by decide)⟩, ⟨rfl, by decide +kernel, by decide +kernel, by decide +kernel⟩⟩
theorem fw_M_80 : fq_CW R_M 80 R_M y_M_lower b_M_lower 3 (some .int) 2 := ⟨⟨fq_m (List.mem_append_right _ (List.mem_of_getElem? (i := 313) (by decide +kernel))) (by decide), fq_m (List.mem_append_right _ (List.mem_of_getElem? (i := 258) (by decide +kernel))) (by decide), fq_m (List.mem_append_right _ (List.mem_of_getElem? (i := 259) (by decide +kernel))) (by decide), fi_M, fq_m (List.mem_append_right _ (List.mem_of_getElem? (i := 260) (by decide +kernel))) (by decide)⟩, ⟨rfl, by decide +kernel, by decide +kernel, by decide +kernel⟩⟩
theorem fw_M_83 : fq_CW R_M 83 R_M y_M_size b_M_size 3 (some .int) 0 := ⟨⟨fq_m (List.mem_append_right _ (List.mem_of_getElem? (i := 305) (by decide +kernel))) (by decide), fq_m (List.mem_append_right _ (List.mem_of_getElem? (i := 277) (by decide +kernel))) (by decide), fq_m (List.mem_append_right _ (List.mem_of_getElem? (i := 278) (by decide +kernel))) (by decide), fi_M, fq_m (List.mem_append_right _ (List.mem_of_getElem? (i := 279) (by decide +kernel))) (by decide)⟩, ⟨rfl, by decide +kernel, by decide +kernel, by decide +kernel⟩⟩
theorem fw_M_88 : fq_CW R_M 88 R_M y_M_pop b_M_pop 4 (some .int) 0 := ⟨⟨fq_m (List.mem_append_right _ (List.mem_of_getElem? (i := 307) (by decide +kernel))) (by decide), fq_m (List.mem_append_right _ (List.mem_of_getElem? (i := 269) (by decide +kernel))) (by decide), fq_m (List.mem_append_right _ (List.mem_of_getElem? (i := 270) (by decide +kernel))) (by decide), fi_M, fq_m (List.mem_append_right _ (List.mem_of_getElem? (i := 271) (by decide +kernel))) (by decide)⟩, ⟨rfl, by decide +kernel, by decide +kernel, by decide +kernel⟩⟩
theorem fw_M_91 : fq_CW R_M 91 R_M y_M_reach b_M_reach 6 none 3 := ⟨⟨fq_m (List.mem_append_right _ (List.mem_of_getElem? (i := 308) (by decide +kernel))) (by decide), fq_m (List.mem_append_right _ (List.mem_of_getElem? (i := 310) (by decide +kernel))) (by decide), fq_m (List.mem_append_left _ (List.mem_of_getElem? (i := 13) (by decide +kernel))) (by decide), fi_M, fq_m (List.mem_append_right _ (List.mem_of_getElem? (i := 311) (by decide +kernel))) (by decide)⟩, ⟨rfl, by decide +kernel, by decide +kernel, by decide +kernel⟩⟩
theorem fw_M_95 : fq_CW R_M 95 R_M y_M_spread b_M_spread 4 none 1 := ⟨⟨fq_m (List.mem_append_right _ (List.mem_of_getElem? (i := 314) (by decide +kernel))) (by decide), fq_m (List.mem_append_right _ (List.mem_of_getElem? (i := 316) (by decide +kernel))) (by decide), fq_m (List.mem_append_left _ (List.mem_of_getElem? (i := 14) (by decide +kernel))) (by decide), fi_M, fq_m (List.mem_append_right _ (List.mem_of_getElem? (i := 317) (by decide +kernel))) (by decide)⟩, ⟨rfl, by decide +kernel, by decide +kernel, by decide +kernel⟩⟩
theorem fw_L_9 : fq_CS R_law 9 y_L_cell b_L_cell 2 (some .int) 2 := ⟨⟨fq_m (List.mem_append_right _ (List.mem_of_getElem? (i := 186) (by decide +kernel))) (by decide), fq_m (List.mem_append_right _ (List.mem_of_getElem? (i := 187) (by decide +kernel))) (by decide), fi_law, fq_m (List.mem_append_right _ (List.mem_of_getElem? (i := 188) (by decide +kernel))) (by decide)⟩, ⟨rfl, by decide +kernel, by decide +kernel, by decide +kernel⟩⟩
theorem fw_L_21 : fq_CW R_law 21 R_Q y_Q_push b_Q_push 3 (some .int) 2 := ⟨⟨fq_m (List.mem_append_right _ (List.mem_of_getElem? (i := 79) (by decide +kernel))) (by decide), fq_m (List.mem_append_right _ (List.mem_of_getElem? (i := 80) (by decide +kernel))) (by decide), fq_m (List.mem_append_right _ (List.mem_of_getElem? (i := 81) (by decide +kernel))) (by decide), fi_Q, fq_m (List.mem_append_right _ (List.mem_of_getElem? (i := 82) (by decide +kernel))) (by decide)⟩, ⟨rfl, by decide +kernel, by decide +kernel, by decide +kernel⟩⟩
theorem fw_L_25 : fq_CW R_law 25 R_M y_M_push b_M_push 3 (some .int) 2 := ⟨⟨fq_m (List.mem_append_right _ (List.mem_of_getElem? (i := 249) (by decide +kernel))) (by decide), fq_m (List.mem_append_right _ (List.mem_of_getElem? (i := 250) (by decide +kernel))) (by decide), fq_m (List.mem_append_right _ (List.mem_of_getElem? (i := 251) (by decide +kernel))) (by decide), fi_M, fq_m (List.mem_append_right _ (List.mem_of_getElem? (i := 252) (by decide +kernel))) (by decide)⟩, ⟨rfl, by decide +kernel, by decide +kernel, by decide +kernel⟩⟩
theorem fw_L_26 : fq_CW R_law 26 R_Q y_Q_lower b_Q_lower 4 (some .int) 2 := ⟨⟨fq_m (List.mem_append_right _ (List.mem_of_getElem? (i := 98) (by decide +kernel))) (by decide), fq_m (List.mem_append_right _ (List.mem_of_getElem? (i := 99) (by decide +kernel))) (by decide), fq_m (List.mem_append_right _ (List.mem_of_getElem? (i := 100) (by decide +kernel))) (by decide), fi_Q, fq_m (List.mem_append_right _ (List.mem_of_getElem? (i := 101) (by decide +kernel))) (by decide)⟩, ⟨rfl, by decide +kernel, by decide +kernel, by decide +kernel⟩⟩
theorem fw_L_29 : fq_CW R_law 29 R_M y_M_lower b_M_lower 3 (some .int) 2 := ⟨⟨fq_m (List.mem_append_right _ (List.mem_of_getElem? (i := 257) (by decide +kernel))) (by decide), fq_m (List.mem_append_right _ (List.mem_of_getElem? (i := 258) (by decide +kernel))) (by decide), fq_m (List.mem_append_right _ (List.mem_of_getElem? (i := 259) (by decide +kernel))) (by decide), fi_M, fq_m (List.mem_append_right _ (List.mem_of_getElem? (i := 260) (by decide +kernel))) (by decide)⟩, ⟨rfl, by decide +kernel, by decide +kernel, by decide +kernel⟩⟩
theorem fw_L_30 : fq_CW R_law 30 R_Q y_Q_pop b_Q_pop 3 (some .int) 0 := ⟨⟨fq_m (List.mem_append_right _ (List.mem_of_getElem? (i := 110) (by decide +kernel))) (by decide), fq_m (List.mem_append_right _ (List.mem_of_getElem? (i := 111) (by decide +kernel))) (by decide), fq_m (List.mem_append_right _ (List.mem_of_getElem? (i := 112) (by decide +kernel))) (by decide), fi_Q, fq_m (List.mem_append_right _ (List.mem_of_getElem? (i := 113) (by decide +kernel))) (by decide)⟩, ⟨rfl, by decide +kernel, by decide +kernel, by decide +kernel⟩⟩
theorem fw_L_34 : fq_CW R_law 34 R_M y_M_pop b_M_pop 4 (some .int) 0 := ⟨⟨fq_m (List.mem_append_right _ (List.mem_of_getElem? (i := 268) (by decide +kernel))) (by decide), fq_m (List.mem_append_right _ (List.mem_of_getElem? (i := 269) (by decide +kernel))) (by decide), fq_m (List.mem_append_right _ (List.mem_of_getElem? (i := 270) (by decide +kernel))) (by decide), fi_M, fq_m (List.mem_append_right _ (List.mem_of_getElem? (i := 271) (by decide +kernel))) (by decide)⟩, ⟨rfl, by decide +kernel, by decide +kernel, by decide +kernel⟩⟩
theorem fw_L_35 : fq_CW R_law 35 R_Q y_Q_floor b_Q_floor 1 (some .int) 0 := ⟨⟨fq_m (List.mem_append_right _ (List.mem_of_getElem? (i := 153) (by decide +kernel))) (by decide), fq_m (List.mem_append_right _ (List.mem_of_getElem? (i := 154) (by decide +kernel))) (by decide), fq_m (List.mem_append_right _ (List.mem_of_getElem? (i := 155) (by decide +kernel))) (by decide), fi_Q, fq_m (List.mem_append_right _ (List.mem_of_getElem? (i := 156) (by decide +kernel))) (by decide)⟩, ⟨rfl, by decide +kernel, by decide +kernel, by decide +kernel⟩⟩
theorem fw_L_38 : fq_CW R_law 38 R_M y_M_floor b_M_floor 1 (some .int) 0 := ⟨⟨fq_m (List.mem_append_right _ (List.mem_of_getElem? (i := 272) (by decide +kernel))) (by decide), fq_m (List.mem_append_right _ (List.mem_of_getElem? (i := 273) (by decide +kernel))) (by decide), fq_m (List.mem_append_right _ (List.mem_of_getElem? (i := 274) (by decide +kernel))) (by decide), fi_M, fq_m (List.mem_append_right _ (List.mem_of_getElem? (i := 275) (by decide +kernel))) (by decide)⟩, ⟨rfl, by decide +kernel, by decide +kernel, by decide +kernel⟩⟩
theorem fw_L_39 : fq_CW R_law 39 R_Q y_Q_size b_Q_size 1 (some .int) 0 := ⟨⟨fq_m (List.mem_append_right _ (List.mem_of_getElem? (i := 157) (by decide +kernel))) (by decide), fq_m (List.mem_append_right _ (List.mem_of_getElem? (i := 158) (by decide +kernel))) (by decide), fq_m (List.mem_append_right _ (List.mem_of_getElem? (i := 159) (by decide +kernel))) (by decide), fi_Q, fq_m (List.mem_append_right _ (List.mem_of_getElem? (i := 160) (by decide +kernel))) (by decide)⟩, ⟨rfl, by decide +kernel, by decide +kernel, by decide +kernel⟩⟩
theorem fw_L_42 : fq_CW R_law 42 R_M y_M_size b_M_size 3 (some .int) 0 := ⟨⟨fq_m (List.mem_append_right _ (List.mem_of_getElem? (i := 276) (by decide +kernel))) (by decide), fq_m (List.mem_append_right _ (List.mem_of_getElem? (i := 277) (by decide +kernel))) (by decide), fq_m (List.mem_append_right _ (List.mem_of_getElem? (i := 278) (by decide +kernel))) (by decide), fi_M, fq_m (List.mem_append_right _ (List.mem_of_getElem? (i := 279) (by decide +kernel))) (by decide)⟩, ⟨rfl, by decide +kernel, by decide +kernel, by decide +kernel⟩⟩
theorem fw_L_43 : fq_CW R_law 43 R_Q y_Q_key b_Q_key 2 (some .int) 1 := ⟨⟨fq_m (List.mem_append_right _ (List.mem_of_getElem? (i := 161) (by decide +kernel))) (by decide), fq_m (List.mem_append_right _ (List.mem_of_getElem? (i := 162) (by decide +kernel))) (by decide), fq_m (List.mem_append_right _ (List.mem_of_getElem? (i := 163) (by decide +kernel))) (by decide), fi_Q, fq_m (List.mem_append_right _ (List.mem_of_getElem? (i := 164) (by decide +kernel))) (by decide)⟩, ⟨rfl, by decide +kernel, by decide +kernel, by decide +kernel⟩⟩
theorem fw_L_47 : fq_CW R_law 47 R_M y_M_key b_M_key 2 (some .int) 1 := ⟨⟨fq_m (List.mem_append_right _ (List.mem_of_getElem? (i := 280) (by decide +kernel))) (by decide), fq_m (List.mem_append_right _ (List.mem_of_getElem? (i := 281) (by decide +kernel))) (by decide), fq_m (List.mem_append_right _ (List.mem_of_getElem? (i := 282) (by decide +kernel))) (by decide), fi_M, fq_m (List.mem_append_right _ (List.mem_of_getElem? (i := 283) (by decide +kernel))) (by decide)⟩, ⟨rfl, by decide +kernel, by decide +kernel, by decide +kernel⟩⟩
theorem fw_L_48 : fq_CW R_law 48 R_Q y_Q_bucket b_Q_bucket 2 (some .int) 1 := ⟨⟨fq_m (List.mem_append_right _ (List.mem_of_getElem? (i := 165) (by decide +kernel))) (by decide), fq_m (List.mem_append_right _ (List.mem_of_getElem? (i := 166) (by decide +kernel))) (by decide), fq_m (List.mem_append_right _ (List.mem_of_getElem? (i := 167) (by decide +kernel))) (by decide), fi_Q, fq_m (List.mem_append_right _ (List.mem_of_getElem? (i := 168) (by decide +kernel))) (by decide)⟩, ⟨rfl, by decide +kernel, by decide +kernel, by decide +kernel⟩⟩
theorem fw_L_51 : fq_CW R_law 51 R_M y_M_bucket b_M_bucket 2 (some .int) 1 := ⟨⟨fq_m (List.mem_append_right _ (List.mem_of_getElem? (i := 284) (by decide +kernel))) (by decide), fq_m (List.mem_append_right _ (List.mem_of_getElem? (i := 285) (by decide +kernel))) (by decide), fq_m (List.mem_append_right _ (List.mem_of_getElem? (i := 286) (by decide +kernel))) (by decide), fi_M, fq_m (List.mem_append_right _ (List.mem_of_getElem? (i := 287) (by decide +kernel))) (by decide)⟩, ⟨rfl, by decide +kernel, by decide +kernel, by decide +kernel⟩⟩
theorem fw_L_52 : fq_CW R_law 52 R_Q y_Q_many b_Q_many 2 (some .int) 1 := ⟨⟨fq_m (List.mem_append_right _ (List.mem_of_getElem? (i := 169) (by decide +kernel))) (by decide), fq_m (List.mem_append_right _ (List.mem_of_getElem? (i := 170) (by decide +kernel))) (by decide), fq_m (List.mem_append_right _ (List.mem_of_getElem? (i := 171) (by decide +kernel))) (by decide), fi_Q, fq_m (List.mem_append_right _ (List.mem_of_getElem? (i := 172) (by decide +kernel))) (by decide)⟩, ⟨rfl, by decide +kernel, by decide +kernel, by decide +kernel⟩⟩
theorem fw_L_55 : fq_CW R_law 55 R_M y_M_many b_M_many 4 (some .int) 1 := ⟨⟨fq_m (List.mem_append_right _ (List.mem_of_getElem? (i := 288) (by decide +kernel))) (by decide), fq_m (List.mem_append_right _ (List.mem_of_getElem? (i := 289) (by decide +kernel))) (by decide), fq_m (List.mem_append_right _ (List.mem_of_getElem? (i := 290) (by decide +kernel))) (by decide), fi_M, fq_m (List.mem_append_right _ (List.mem_of_getElem? (i := 291) (by decide +kernel))) (by decide)⟩, ⟨rfl, by decide +kernel, by decide +kernel, by decide +kernel⟩⟩
theorem fw_L_56 : fq_CW R_law 56 R_Q y_Q_placed b_Q_placed 1 (some .int) 0 := ⟨⟨fq_m (List.mem_append_right _ (List.mem_of_getElem? (i := 173) (by decide +kernel))) (by decide), fq_m (List.mem_append_right _ (List.mem_of_getElem? (i := 174) (by decide +kernel))) (by decide), fq_m (List.mem_append_right _ (List.mem_of_getElem? (i := 175) (by decide +kernel))) (by decide), fi_Q, fq_m (List.mem_append_right _ (List.mem_of_getElem? (i := 176) (by decide +kernel))) (by decide)⟩, ⟨rfl, by decide +kernel, by decide +kernel, by decide +kernel⟩⟩
theorem fw_L_59 : fq_CW R_law 59 R_M y_M_placed b_M_placed 1 (some .int) 0 := ⟨⟨fq_m (List.mem_append_right _ (List.mem_of_getElem? (i := 292) (by decide +kernel))) (by decide), fq_m (List.mem_append_right _ (List.mem_of_getElem? (i := 293) (by decide +kernel))) (by decide), fq_m (List.mem_append_right _ (List.mem_of_getElem? (i := 294) (by decide +kernel))) (by decide), fi_M, fq_m (List.mem_append_right _ (List.mem_of_getElem? (i := 295) (by decide +kernel))) (by decide)⟩, ⟨rfl, by decide +kernel, by decide +kernel, by decide +kernel⟩⟩
theorem fw_L_60 : fq_CW R_law 60 R_Q y_Q_arc b_Q_arc 4 (some .int) 3 := ⟨⟨fq_m (List.mem_append_right _ (List.mem_of_getElem? (i := 122) (by decide +kernel))) (by decide), fq_m (List.mem_append_right _ (List.mem_of_getElem? (i := 123) (by decide +kernel))) (by decide), fq_m (List.mem_append_right _ (List.mem_of_getElem? (i := 124) (by decide +kernel))) (by decide), fi_Q, fq_m (List.mem_append_right _ (List.mem_of_getElem? (i := 125) (by decide +kernel))) (by decide)⟩, ⟨rfl, by decide +kernel, by decide +kernel, by decide +kernel⟩⟩
theorem fw_L_64 : fq_CW R_law 64 R_M y_M_arc b_M_arc 4 (some .int) 3 := ⟨⟨fq_m (List.mem_append_right _ (List.mem_of_getElem? (i := 296) (by decide +kernel))) (by decide), fq_m (List.mem_append_right _ (List.mem_of_getElem? (i := 297) (by decide +kernel))) (by decide), fq_m (List.mem_append_right _ (List.mem_of_getElem? (i := 298) (by decide +kernel))) (by decide), fi_M, fq_m (List.mem_append_right _ (List.mem_of_getElem? (i := 299) (by decide +kernel))) (by decide)⟩, ⟨rfl, by decide +kernel, by decide +kernel, by decide +kernel⟩⟩
theorem fw_L_65 : fq_CW R_law 65 R_Q y_Q_run b_Q_run 5 (some .int) 1 := ⟨⟨fq_m (List.mem_append_right _ (List.mem_of_getElem? (i := 126) (by decide +kernel))) (by decide), fq_m (List.mem_append_right _ (List.mem_of_getElem? (i := 127) (by decide +kernel))) (by decide), fq_m (List.mem_append_right _ (List.mem_of_getElem? (i := 128) (by decide +kernel))) (by decide), fi_Q, fq_m (List.mem_append_right _ (List.mem_of_getElem? (i := 129) (by decide +kernel))) (by decide)⟩, ⟨rfl, by decide +kernel, by decide +kernel, by decide +kernel⟩⟩
theorem fw_L_68 : fq_CW R_law 68 R_M y_M_run b_M_run 5 (some .int) 1 := ⟨⟨fq_m (List.mem_append_right _ (List.mem_of_getElem? (i := 300) (by decide +kernel))) (by decide), fq_m (List.mem_append_right _ (List.mem_of_getElem? (i := 301) (by decide +kernel))) (by decide), fq_m (List.mem_append_right _ (List.mem_of_getElem? (i := 302) (by decide +kernel))) (by decide), fi_M, fq_m (List.mem_append_right _ (List.mem_of_getElem? (i := 303) (by decide +kernel))) (by decide)⟩, ⟨rfl, by decide +kernel, by decide +kernel, by decide +kernel⟩⟩
theorem fw_L_69 : fq_CW R_law 69 R_Q y_Q_distance b_Q_distance 2 (some .int) 1 := ⟨⟨fq_m (List.mem_append_right _ (List.mem_of_getElem? (i := 145) (by decide +kernel))) (by decide), fq_m (List.mem_append_right _ (List.mem_of_getElem? (i := 146) (by decide +kernel))) (by decide), fq_m (List.mem_append_right _ (List.mem_of_getElem? (i := 147) (by decide +kernel))) (by decide), fi_Q, fq_m (List.mem_append_right _ (List.mem_of_getElem? (i := 148) (by decide +kernel))) (by decide)⟩, ⟨rfl, by decide +kernel, by decide +kernel, by decide +kernel⟩⟩
theorem fw_L_72 : fq_CW R_law 72 R_M y_M_distance b_M_distance 2 (some .int) 1 := ⟨⟨fq_m (List.mem_append_right _ (List.mem_of_getElem? (i := 318) (by decide +kernel))) (by decide), fq_m (List.mem_append_right _ (List.mem_of_getElem? (i := 319) (by decide +kernel))) (by decide), fq_m (List.mem_append_right _ (List.mem_of_getElem? (i := 320) (by decide +kernel))) (by decide), fi_M, fq_m (List.mem_append_right _ (List.mem_of_getElem? (i := 321) (by decide +kernel))) (by decide)⟩, ⟨rfl, by decide +kernel, by decide +kernel, by decide +kernel⟩⟩
theorem fw_L_73 : fq_CW R_law 73 R_Q y_Q_before b_Q_before 2 (some .int) 1 := ⟨⟨fq_m (List.mem_append_right _ (List.mem_of_getElem? (i := 149) (by decide +kernel))) (by decide), fq_m (List.mem_append_right _ (List.mem_of_getElem? (i := 150) (by decide +kernel))) (by decide), fq_m (List.mem_append_right _ (List.mem_of_getElem? (i := 151) (by decide +kernel))) (by decide), fi_Q, fq_m (List.mem_append_right _ (List.mem_of_getElem? (i := 152) (by decide +kernel))) (by decide)⟩, ⟨rfl, by decide +kernel, by decide +kernel, by decide +kernel⟩⟩
theorem fw_L_76 : fq_CW R_law 76 R_M y_M_before b_M_before 2 (some .int) 1 := ⟨⟨fq_m (List.mem_append_right _ (List.mem_of_getElem? (i := 322) (by decide +kernel))) (by decide), fq_m (List.mem_append_right _ (List.mem_of_getElem? (i := 323) (by decide +kernel))) (by decide), fq_m (List.mem_append_right _ (List.mem_of_getElem? (i := 324) (by decide +kernel))) (by decide), fi_M, fq_m (List.mem_append_right _ (List.mem_of_getElem? (i := 325) (by decide +kernel))) (by decide)⟩, ⟨rfl, by decide +kernel, by decide +kernel, by decide +kernel⟩⟩
theorem fw_L_77 : fq_CW R_law 77 R_Q y_Q_sound b_Q_sound 3 (some .boolean) 0 := ⟨⟨fq_m (List.mem_append_right _ (List.mem_of_getElem? (i := 177) (by decide +kernel))) (by decide), fq_m (List.mem_append_right _ (List.mem_of_getElem? (i := 178) (by decide +kernel))) (by decide), fq_m (List.mem_append_right _ (List.mem_of_getElem? (i := 179) (by decide +kernel))) (by decide), fi_Q, fq_m (List.mem_append_right _ (List.mem_of_getElem? (i := 180) (by decide +kernel))) (by decide)⟩, ⟨rfl, by decide +kernel, by decide +kernel, by decide +kernel⟩⟩
theorem fw_L_81 : fq_CW R_law 81 R_M y_M_sound b_M_sound 1 (some .boolean) 0 := ⟨⟨fq_m (List.mem_append_right _ (List.mem_of_getElem? (i := 326) (by decide +kernel))) (by decide), fq_m (List.mem_append_right _ (List.mem_of_getElem? (i := 327) (by decide +kernel))) (by decide), fq_m (List.mem_append_right _ (List.mem_of_getElem? (i := 328) (by decide +kernel))) (by decide), fi_M, fq_m (List.mem_append_right _ (List.mem_of_getElem? (i := 329) (by decide +kernel))) (by decide)⟩, ⟨rfl, by decide +kernel, by decide +kernel, by decide +kernel⟩⟩
theorem fw_L_82 : fq_CW R_law 82 R_Q y_Q_count b_Q_count 2 (some .int) 1 := ⟨⟨fq_m (List.mem_append_right _ (List.mem_of_getElem? (i := 182) (by decide +kernel))) (by decide), fq_m (List.mem_append_right _ (List.mem_of_getElem? (i := 183) (by decide +kernel))) (by decide), fq_m (List.mem_append_right _ (List.mem_of_getElem? (i := 184) (by decide +kernel))) (by decide), fi_Q, fq_m (List.mem_append_right _ (List.mem_of_getElem? (i := 185) (by decide +kernel))) (by decide)⟩, ⟨rfl, by decide +kernel, by decide +kernel, by decide +kernel⟩⟩
theorem fw_L_85 : fq_CW R_law 85 R_M y_M_count b_M_count 2 (some .int) 1 := ⟨⟨fq_m (List.mem_append_right _ (List.mem_of_getElem? (i := 330) (by decide +kernel))) (by decide), fq_m (List.mem_append_right _ (List.mem_of_getElem? (i := 331) (by decide +kernel))) (by decide), fq_m (List.mem_append_right _ (List.mem_of_getElem? (i := 332) (by decide +kernel))) (by decide), fi_M, fq_m (List.mem_append_right _ (List.mem_of_getElem? (i := 333) (by decide +kernel))) (by decide)⟩, ⟨rfl, by decide +kernel, by decide +kernel, by decide +kernel⟩⟩
end
section
/-! pure rows: numbers, counts, sums, the bucket number -/
theorem fq_m1 : (-1 : Int32).toInt = -1 := by decide
theorem fq_nI_ne {n : Nat} (h : n < 2 ^ 31) : nI n ≠ -1 := by
  intro q
  have a := nI_toInt h
  rw [q, fq_m1] at a
  omega
theorem fq_inc (n : Nat) : nI n + Int32.ofInt 1 = nI (n + 1) := nI_1 n
theorem fq_nI_n {x : Int32} (h : 0 ≤ x.toInt) : nI x.toNatClampNeg = x := by
  apply Int32.toInt_inj.mp
  have hlt := x.toInt_lt
  have e : x.toInt.toNat = x.toNatClampNeg := rfl
  rw [nI_toInt (by rw [← e]; omega), ← e]
  omega
theorem fq_n_toInt {x : Int32} (h : 0 ≤ x.toInt) : (x.toNatClampNeg : Int) = x.toInt := by
  have e : x.toInt.toNat = x.toNatClampNeg := rfl
  rw [← e]
  omega
theorem fq_n_lt (x : Int32) : x.toNatClampNeg < 2 ^ 31 := x.toNatClampNeg_lt
theorem fq_us_s (g : fq_G) (k i : Nat) (x : Int32) : fq_us g k i x k i = x := by simp [fq_us, upd]
def fq_cnt (P : Nat → Bool) : Nat → Nat
  | 0 => 0
  | n + 1 => fq_cnt P n + (if P n = true then 1 else 0)
theorem fq_cnt_congr {P P' : Nat → Bool} {n : Nat} (h : ∀ k, k < n → P k = P' k) : fq_cnt P n = fq_cnt P' n := by
  induction n with
  | zero => rfl
  | succ n ih =>
    simp only [fq_cnt]
    rw [ih (fun k hk => h k (by omega)), h n (by omega)]
theorem fq_cnt_le (P : Nat → Bool) (n : Nat) : fq_cnt P n ≤ n := by
  induction n with
  | zero => exact Nat.le_refl _
  | succ n ih =>
    simp only [fq_cnt]
    split <;> omega
theorem fq_cnt_flip {P P' : Nat → Bool} {i n : Nat} (h : i < n) (h0 : P i = false) (h1 : P' i = true) (he : ∀ k, k < n → k ≠ i → P' k = P k) : fq_cnt P' n = fq_cnt P n + 1 := by
  induction n with
  | zero => exact absurd h (Nat.not_lt_zero _)
  | succ n ih =>
    simp only [fq_cnt]
    by_cases hi : i = n
    · subst hi
      rw [fq_cnt_congr (P := P') (P' := P) (fun k hk => he k (by omega) (by omega)), h0, h1]
      simp
    · rw [ih (by omega) (fun k hk hne => he k (by omega) hne), he n (by omega) (fun q => hi q.symm)]
      omega
theorem fq_cnt_zero {P : Nat → Bool} {n : Nat} : fq_cnt P n = 0 ↔ ∀ k, k < n → P k = false := by
  induction n with
  | zero => exact ⟨fun _ k hk => absurd hk (Nat.not_lt_zero _), fun _ => rfl⟩
  | succ n ih =>
    simp only [fq_cnt]
    constructor
    · intro h k hk
      by_cases hn : P n = true
      · rw [if_pos hn] at h
        omega
      · by_cases hkn : k = n
        · subst hkn
          simpa using hn
        · exact ih.mp (by omega) k (by omega)
    · intro h
      rw [ih.mpr (fun k hk => h k (by omega)), h n (by omega)]
      simp
theorem fq_cnt_mono {P P' : Nat → Bool} {n : Nat} (h : ∀ k, k < n → P k = true → P' k = true) : fq_cnt P n ≤ fq_cnt P' n := by
  induction n with
  | zero => exact Nat.le_refl _
  | succ n ih =>
    simp only [fq_cnt]
    have a := ih (fun k hk => h k (by omega))
    by_cases hn : P n = true
    · rw [if_pos hn, if_pos (h n (by omega) hn)]
      omega
    · rw [if_neg hn]
      omega
theorem fq_cnt_strict {P P' : Nat → Bool} {n i : Nat} (h : ∀ k, k < n → P k = true → P' k = true) (hi : i < n) (h0 : P i = false) (h1 : P' i = true) : fq_cnt P n + 1 ≤ fq_cnt P' n := by
  have a := fq_cnt_flip (P := P) (P' := fun k => if k = i then true else P k) hi h0 (by simp) (fun k _ hne => by simp [hne])
  rw [← a]
  refine fq_cnt_mono (fun k hk hp => ?_)
  by_cases hki : k = i
  · subst hki
    exact h1
  · simp [hki] at hp
    exact h k hk hp
def fq_sum (f : Nat → Nat) : Nat → Nat
  | 0 => 0
  | n + 1 => fq_sum f n + f n
theorem fq_sum_congr {f f' : Nat → Nat} {n : Nat} (h : ∀ k, k < n → f k = f' k) : fq_sum f n = fq_sum f' n := by
  induction n with
  | zero => rfl
  | succ n ih =>
    simp only [fq_sum]
    rw [ih (fun k hk => h k (by omega)), h n (by omega)]
theorem fq_sum_upd {f f' : Nat → Nat} {n i : Nat} (hi : i < n) (h : ∀ k, k < n → k ≠ i → f' k = f k) : fq_sum f' n + f i = fq_sum f n + f' i := by
  induction n with
  | zero => exact absurd hi (Nat.not_lt_zero _)
  | succ n ih =>
    simp only [fq_sum]
    by_cases hin : i = n
    · subst hin
      rw [fq_sum_congr (f := f') (f' := f) (fun k hk => h k (by omega) (by omega))]
      omega
    · have a := ih (by omega) (fun k hk hne => h k (by omega) hne)
      rw [h n (by omega) (fun q => hin q.symm)]
      omega
theorem fq_sum_cnt {P : Nat → Bool} {f f' : Nat → Nat} {n : Nat} (h : ∀ k, k < n → (if P k = true then 1 else 0) + f' k ≤ f k) : fq_cnt P n + fq_sum f' n ≤ fq_sum f n := by
  induction n with
  | zero => exact Nat.le_refl _
  | succ n ih =>
    simp only [fq_sum, fq_cnt]
    have a := ih (fun k hk => h k (by omega))
    have b := h n (by omega)
    omega
theorem fq_xor0 {a b : Nat} : a ^^^ b = 0 ↔ a = b := by
  constructor
  · intro h
    apply Nat.eq_of_testBit_eq
    intro i
    have q := congrArg (fun z => z.testBit i) h
    simp only [Nat.testBit_xor, Nat.zero_testBit] at q
    cases ha : a.testBit i <;> cases hb : b.testBit i <;> simp_all
  · intro h
    subst h
    exact Nat.xor_self a
/-- the number of the highest bit in which two numbers are unlike (from 1 on), 0 when they are alike -/
def fq_d (x y : Nat) : Nat := if x = y then 0 else (x ^^^ y).log2 + 1
theorem fq_d_le {x y k : Nat} : fq_d x y ≤ k ↔ x / 2 ^ k = y / 2 ^ k := by
  unfold fq_d
  by_cases h : x = y
  · subst h
    simp
  · rw [if_neg h]
    have hx : x ^^^ y ≠ 0 := fun q => h (fq_xor0.mp q)
    rw [Nat.add_one_le_iff, Nat.log2_lt hx, ← fq_xor0 (a := x / 2 ^ k), ← Nat.xor_div_two_pow, Nat.div_eq_zero_iff_lt (Nat.two_pow_pos k)]
theorem fq_d_31 {x y : Nat} (hx : x < 2 ^ 31) (hy : y < 2 ^ 31) : fq_d x y ≤ 31 := fq_d_le.mpr (by rw [Nat.div_eq_of_lt hx, Nat.div_eq_of_lt hy])
theorem fq_d_self (x : Nat) : fq_d x x = 0 := by simp [fq_d]
theorem fq_d_zero {x y : Nat} (h : fq_d x y = 0) : x = y := by
  have a := fq_d_le.mp (Nat.le_of_eq h)
  simpa using a
theorem fq_d_mono {f x y : Nat} (h1 : f ≤ x) (h2 : x ≤ y) : fq_d x f ≤ fq_d y f := by
  rw [fq_d_le]
  have h := fq_d_le.mp (Nat.le_refl (fq_d y f))
  have a := Nat.div_le_div_right (c := 2 ^ (fq_d y f)) h1
  have b := Nat.div_le_div_right (c := 2 ^ (fq_d y f)) h2
  omega
theorem fq_d_is {x y k : Nat} (h : x / 2 ^ k = y / 2 ^ k) (h2 : k = 0 ∨ x / 2 ^ (k - 1) ≠ y / 2 ^ (k - 1)) : fq_d x y = k := by
  have a := fq_d_le.mpr h
  rcases h2 with h2 | h2
  · omega
  · have b : ¬ fq_d x y ≤ k - 1 := fun q => h2 (fq_d_le.mp q)
    omega
theorem fq_d_new {x m f : Nat} (h : fq_d x f = fq_d m f) (h0 : 0 < fq_d m f) : fq_d x m < fq_d m f := by
  obtain ⟨b, hb⟩ : ∃ b, fq_d m f = b + 1 := ⟨fq_d m f - 1, by omega⟩
  have h1 : x / 2 ^ (b + 1) = f / 2 ^ (b + 1) := fq_d_le.mp (by omega)
  have h2 : m / 2 ^ (b + 1) = f / 2 ^ (b + 1) := fq_d_le.mp (by omega)
  have h3 : x / 2 ^ b ≠ f / 2 ^ b := fun q => by
    have := fq_d_le.mpr q
    omega
  have h4 : m / 2 ^ b ≠ f / 2 ^ b := fun q => by
    have := fq_d_le.mpr q
    omega
  have e : ∀ z : Nat, z / 2 ^ (b + 1) = z / 2 ^ b / 2 := fun z => by rw [Nat.pow_succ, Nat.div_div_eq_div_mul]
  rw [e x, e f] at h1
  rw [e m, e f] at h2
  have h5 : x / 2 ^ b = m / 2 ^ b := by omega
  have h6 := fq_d_le.mpr h5
  omega
theorem fq_d_keep {y m f : Nat} (h : fq_d m f < fq_d y f) : fq_d y m = fq_d y f := by
  have key : ∀ k, fq_d m f ≤ k → m / 2 ^ k = f / 2 ^ k := fun k hk => fq_d_le.mp hk
  apply fq_d_is
  · rw [key _ (by omega)]
    exact fq_d_le.mp (Nat.le_refl _)
  · right
    rw [key _ (by omega)]
    intro q
    have := fq_d_le.mpr q
    omega
/-- the bucket of a key by a floor -/
def fq_dk (x f : Int32) : Nat := fq_d x.toNatClampNeg f.toNatClampNeg
theorem fq_dk_31 (x f : Int32) : fq_dk x f < 32 := Nat.lt_succ_of_le (fq_d_31 (fq_n_lt x) (fq_n_lt f))
/-! chains: rows of items linked both ways -/
def fq_Ch (nx bf : Nat → Int32) : Int32 → List Nat → Int32 → Prop
  | _, [], hd => hd = -1
  | pv, k :: t, hd => hd = nI k ∧ bf k = pv ∧ fq_Ch nx bf (nI k) t (nx k)
theorem fq_Ch_congr {nx bf nx' bf' : Nat → Int32} {l : List Nat} : ∀ {pv hd : Int32}, (∀ k ∈ l, nx' k = nx k ∧ bf' k = bf k) → fq_Ch nx bf pv l hd → fq_Ch nx' bf' pv l hd := by
  induction l with
  | nil => intro pv hd _ h; exact h
  | cons x t ih =>
    intro pv hd he h
    obtain ⟨h1, h2, h3⟩ := h
    have hx := he x List.mem_cons_self
    refine ⟨h1, hx.2.trans h2, ?_⟩
    rw [hx.1]
    exact ih (fun k hk => he k (List.mem_cons_of_mem _ hk)) h3
theorem fq_Ch_hd {nx bf : Nat → Int32} {l : List Nat} {pv hd : Int32} (h : fq_Ch nx bf pv l hd) : hd = -1 ∧ l = [] ∨ ∃ j t, l = j :: t ∧ hd = nI j := by
  cases l with
  | nil => exact Or.inl ⟨h, rfl⟩
  | cons x t => exact Or.inr ⟨x, t, rfl, h.1⟩
theorem fq_Ch_cons {nx bf : Nat → Int32} {l : List Nat} {hd : Int32} {it : Nat} (h : fq_Ch nx bf (-1) l hd) (hn : it ∉ l) (hd1 : l.Nodup) (hs : ∀ k ∈ l, k < 2 ^ 31) :
    fq_Ch (upd nx it hd) (if hd = -1 then upd bf it (-1) else upd (upd bf it (-1)) hd.toNatClampNeg (nI it)) (-1) (it :: l) (nI it) := by
  cases l with
  | nil =>
    have h0 : hd = -1 := h
    subst h0
    refine ⟨rfl, by simp [upd], ?_⟩
    show upd nx it (-1) it = -1
    simp [upd]
  | cons x t =>
    obtain ⟨h1, h2, h3⟩ := h
    subst h1
    have hx := hs x List.mem_cons_self
    have hxi : it ≠ x := fun q => hn (by rw [q]; exact List.mem_cons_self)
    rw [if_neg (fq_nI_ne hx), nI_clamp hx]
    have hxt : x ∉ t := (List.nodup_cons.mp hd1).1
    refine ⟨rfl, by simp [upd, hxi], ?_⟩
    have e : upd nx it (nI x) it = nI x := by simp [upd]
    rw [e]
    refine ⟨rfl, by simp [upd], ?_⟩
    have e2 : upd nx it (nI x) x = nx x := by simp [upd, Ne.symm hxi]
    rw [e2]
    refine fq_Ch_congr (fun k hk => ?_) h3
    have hki : k ≠ it := fun q => hn (by rw [← q]; exact List.mem_cons_of_mem _ hk)
    have hkx : k ≠ x := fun q => hxt (by rw [← q]; exact hk)
    simp [upd, hki, hkx]
theorem fq_Ch_del0 {nx bf : Nat → Int32} {t : List Nat} {pv hd : Int32} {it : Nat} (h : fq_Ch nx bf pv (it :: t) hd) (hd1 : (it :: t).Nodup) (hs : ∀ k ∈ it :: t, k < 2 ^ 31) :
    fq_Ch nx (if nx it = -1 then bf else upd bf (nx it).toNatClampNeg (bf it)) pv t (nx it) := by
  obtain ⟨h1, h2, h3⟩ := h
  cases t with
  | nil => exact h3
  | cons x t =>
    obtain ⟨g1, g2, g3⟩ := h3
    have hx := hs x (List.mem_cons_of_mem _ List.mem_cons_self)
    have hxt : x ∉ t := (List.nodup_cons.mp (List.nodup_cons.mp hd1).2).1
    rw [g1, if_neg (fq_nI_ne hx), nI_clamp hx]
    refine ⟨rfl, by simp [upd, h2], ?_⟩
    refine fq_Ch_congr (fun k hk => ?_) g3
    have hkx : k ≠ x := fun q => hxt (by rw [← q]; exact hk)
    simp [upd, hkx]
theorem fq_Ch_del1 {nx bf : Nat → Int32} {t : List Nat} {p it : Nat} (l0 : List Nat) : ∀ {pv hd : Int32}, fq_Ch nx bf pv (l0 ++ p :: it :: t) hd → (l0 ++ p :: it :: t).Nodup → (∀ k ∈ l0 ++ p :: it :: t, k < 2 ^ 31) →
    bf it = nI p ∧ fq_Ch (upd nx p (nx it)) (if nx it = -1 then bf else upd bf (nx it).toNatClampNeg (bf it)) pv (l0 ++ p :: t) hd := by
  induction l0 with
  | nil =>
    intro pv hd h hd1 hs
    obtain ⟨h1, h2, h3, h4, h5⟩ := h
    have hn1 := List.nodup_cons.mp hd1
    have hn2 := List.nodup_cons.mp hn1.2
    have hpi : p ≠ it := fun q => hn1.1 (by rw [q]; exact List.mem_cons_self)
    refine ⟨h4, h1, ?_, ?_⟩
    · cases t with
      | nil =>
        have h6 : nx it = -1 := h5
        rw [if_pos h6]
        exact h2
      | cons x t =>
        have hx := hs x (by simp)
        have hxp : p ≠ x := fun q => hn1.1 (by rw [q]; simp)
        rw [h5.1, if_neg (fq_nI_ne hx), nI_clamp hx]
        simp [upd, hxp, h2]
    · have e : upd nx p (nx it) p = nx it := by simp [upd]
      rw [e]
      cases t with
      | nil => exact h5
      | cons x t =>
        obtain ⟨g1, g2, g3⟩ := h5
        have hx := hs x (by simp)
        have hxp : x ≠ p := fun q => hn1.1 (by rw [← q]; simp)
        have hn3 := List.nodup_cons.mp hn2.2
        rw [g1, if_neg (fq_nI_ne hx), nI_clamp hx]
        refine ⟨rfl, by simp [upd, h4], ?_⟩
        have e2 : upd nx p (nI x) x = nx x := by simp [upd, hxp]
        rw [e2]
        refine fq_Ch_congr (fun k hk => ?_) g3
        have hkx : k ≠ x := fun q => hn3.1 (by rw [← q]; exact hk)
        have hkp : k ≠ p := fun q => hn1.1 (by rw [← q]; simp [hk])
        simp [upd, hkx, hkp]
  | cons y l0 ih =>
    intro pv hd h hd1 hs
    obtain ⟨h1, h2, h3⟩ := h
    have hn1 := List.nodup_cons.mp hd1
    obtain ⟨a1, a2⟩ := ih h3 hn1.2 (fun k hk => hs k (List.mem_cons_of_mem _ hk))
    have hyp : y ≠ p := fun q => hn1.1 (by rw [q]; simp)
    refine ⟨a1, h1, ?_, ?_⟩
    · by_cases hz : nx it = -1
      · rw [if_pos hz]
        exact h2
      · rw [if_neg hz]
        have hyq : y ≠ (nx it).toNatClampNeg := by
          intro q
          -- the head of t is not y
          have key : ∀ (l0 : List Nat) (pv hd : Int32), fq_Ch nx bf pv (l0 ++ p :: it :: t) hd → fq_Ch nx bf (nI it) t (nx it) := by
            intro l0
            induction l0 with
            | nil => intro pv hd h; exact h.2.2.2.2
            | cons z l0 ih2 => intro pv hd h; exact ih2 _ _ h.2.2
          rcases fq_Ch_hd (key l0 _ _ h3) with ⟨e1, -⟩ | ⟨j, t', e1, e2⟩
          · exact hz e1
          · have hj : j < 2 ^ 31 := hs j (by rw [e1]; simp)
            rw [e2, nI_clamp hj] at q
            exact hn1.1 (by rw [q, e1]; simp)
        simp [upd, hyq, h2]
    · have e : upd nx p (nx it) y = nx y := by simp [upd, hyp]
      rw [e]
      exact a2
theorem fq_Ch_del {nx bf : Nat → Int32} {l : List Nat} {hd : Int32} {it : Nat} (h : fq_Ch nx bf (-1) l hd) (hd1 : l.Nodup) (hs : ∀ k ∈ l, k < 2 ^ 31) (hm : it ∈ l) :
    fq_Ch (if bf it = -1 then nx else upd nx (bf it).toNatClampNeg (nx it)) (if nx it = -1 then bf else upd bf (nx it).toNatClampNeg (bf it)) (-1) (l.erase it) (if bf it = -1 then nx it else hd) := by
  obtain ⟨l1, l2, rfl⟩ := List.append_of_mem hm
  have hni : it ∉ l1 := fun q => (List.nodup_append.mp hd1).2.2 it q it List.mem_cons_self rfl
  rw [List.erase_append_right _ hni, List.erase_cons_head]
  rcases List.eq_nil_or_concat l1 with rfl | ⟨l0, p, rfl⟩
  · have hb : bf it = -1 := h.2.1
    rw [if_pos hb, if_pos hb]
    exact fq_Ch_del0 h hd1 hs
  · simp only [List.concat_eq_append, List.append_assoc, List.singleton_append] at h hd1 hs ⊢
    obtain ⟨a1, a2⟩ := fq_Ch_del1 l0 h hd1 hs
    have hp : p < 2 ^ 31 := hs p (by simp)
    rw [a1, if_neg (fq_nI_ne hp), if_neg (fq_nI_ne hp), nI_clamp hp]
    rw [a1] at a2
    exact a2
/-- the neighbours of an item of a chain -/
theorem fq_Ch_nb {nx bf : Nat → Int32} {l : List Nat} {it : Nat} : ∀ {pv hd : Int32}, fq_Ch nx bf pv l hd → l.Nodup → it ∈ l →
    (bf it = pv ∨ ∃ j ∈ l, j ≠ it ∧ bf it = nI j) ∧ (nx it = -1 ∨ ∃ j ∈ l, j ≠ it ∧ nx it = nI j) := by
  induction l with
  | nil => intro pv hd _ _ hm; cases hm
  | cons x t ih =>
    intro pv hd h hd1 hm
    obtain ⟨h1, h2, h3⟩ := h
    have hn1 := List.nodup_cons.mp hd1
    rcases List.mem_cons.mp hm with rfl | hm
    · refine ⟨Or.inl h2, ?_⟩
      rcases fq_Ch_hd h3 with ⟨e1, -⟩ | ⟨j, t', e1, e2⟩
      · exact Or.inl e1
      · refine Or.inr ⟨j, by rw [e1]; simp, fun q => hn1.1 (by rw [e1, ← q]; simp), e2⟩
    · obtain ⟨a, b⟩ := ih h3 hn1.2 hm
      refine ⟨?_, ?_⟩
      · rcases a with a | ⟨j, hj, hne, e⟩
        · exact Or.inr ⟨x, List.mem_cons_self, fun q => hn1.1 (by rw [q]; exact hm), a⟩
        · exact Or.inr ⟨j, List.mem_cons_of_mem _ hj, hne, e⟩
      · rcases b with b | ⟨j, hj, hne, e⟩
        · exact Or.inl b
        · exact Or.inr ⟨j, List.mem_cons_of_mem _ hj, hne, e⟩
end
section
/-! pure rows: helpers of the walks; what link and unlink do -/
theorem fq_eqI {a b : Nat} (ha : a < 2 ^ 31) (hb : b < 2 ^ 31) (h : nI a = nI b) : a = b := (nI_eq ha hb).mp h
theorem fq_dec {n : Nat} (h : 1 ≤ n) : nI n - 1 = nI (n - 1) := by
  obtain ⟨k, rfl⟩ : ∃ k, n = k + 1 := ⟨n - 1, by omega⟩
  exact nI_pred k
theorem fq_or {A B : Prop} (h : A ∨ B) (c : ¬ A) : B := h.resolve_left c
theorem fq_yes {r : Int32} {A B : Prop} (h : (r = 1 ∧ A) ∨ (r = 0 ∧ B)) (c : ¬ r = 0) : A := by
  rcases h with h | h
  · exact h.2
  · exact absurd h.1 c
theorem fq_no {r : Int32} {A B : Prop} (h : (r = 1 ∧ A) ∨ (r = 0 ∧ B)) (c : r = 0) : B := by
  rcases h with h | h
  · rw [c] at h
    exact absurd h.1 (by decide)
  · exact h.2
theorem fq_isItem_of {x : Int32} {N : Nat} {r : Int32} (h1 : 1 ≤ N) (h40 : N ≤ 40) (h : r = if (¬ x < 0 ∧ ¬ nI (N - 1) < x) then 1 else 0) : (r = 1 ∧ ∃ j, j < N ∧ x = nI j) ∨ (r = 0 ∧ ∀ j, j < N → x ≠ nI j) := by
  by_cases c : (¬ x < 0 ∧ ¬ nI (N - 1) < x)
  · rw [if_pos c] at h
    refine Or.inl ⟨h, ?_⟩
    obtain ⟨j, hj, e⟩ := nI_of c.1
    refine ⟨j, ?_, e⟩
    have c2 := c.2
    rw [e, nI_ltI (by omega) hj] at c2
    omega
  · rw [if_neg c] at h
    refine Or.inr ⟨h, fun j hj e => c ?_⟩
    rw [e]
    refine ⟨nI_pos (by omega), ?_⟩
    rw [nI_ltI (by omega) (by omega)]
    omega
theorem nx_xor (a b : Nat) : nI a ^^^ nI b = nI (a ^^^ b) := by
  apply Int32.toBitVec_inj.1
  show BitVec.ofNat 32 a ^^^ BitVec.ofNat 32 b = BitVec.ofNat 32 (a ^^^ b)
  apply BitVec.eq_of_getLsbD_eq
  intro i hi
  simp [hi]
abbrev fq_z (x f : Int32) : Nat := x.toNatClampNeg ^^^ f.toNatClampNeg
theorem fq_z_lt (x f : Int32) : fq_z x f < 2 ^ 31 := Nat.xor_lt_two_pow (fq_n_lt x) (fq_n_lt f)
theorem fq_z0 {x f : Int32} (hx : 0 ≤ x.toInt) (hf : 0 ≤ f.toInt) : x ^^^ f = nI (fq_z x f / 2 ^ 0) := by
  rw [Nat.pow_zero, Nat.div_one, ← nx_xor, fq_nI_n hx, fq_nI_n hf]
theorem fq_z_lt2 (x f : Int32) (j : Nat) : fq_z x f / 2 ^ j < 2 ^ 31 := Nat.lt_of_le_of_lt (Nat.div_le_self _ _) (fq_z_lt x f)
theorem fq_z_iff {x f : Int32} {j : Nat} : fq_z x f / 2 ^ j = 0 ↔ fq_dk x f ≤ j := by
  unfold fq_dk fq_z
  rw [Nat.xor_div_two_pow, fq_xor0, fq_d_le]
theorem fq_z_end {x f : Int32} {j : Nat} (c : nI (fq_z x f / 2 ^ j) = 0) : fq_dk x f ≤ j := by
  have h := fq_z_lt2 x f j
  rw [← nI_0] at c
  exact fq_z_iff.mp (fq_eqI h (by decide) c)
theorem fq_z_go {x f : Int32} {j : Nat} (c : ¬ nI (fq_z x f / 2 ^ j) = 0) : j < fq_dk x f := by
  rcases Nat.lt_or_ge j (fq_dk x f) with h | h
  · exact h
  · exact absurd (by rw [fq_z_iff.mpr h]; exact nI_0) c
theorem fq_z_next {x f : Int32} {j : Nat} : nI (fq_z x f / 2 ^ j) >>> ((1 : Int32) &&& 31) = nI (fq_z x f / 2 ^ (j + 1)) := by
  rw [pk_shrN (fq_z_lt2 x f j) _ 1 (by decide), Nat.div_div_eq_div_mul, ← Nat.pow_add]
def fq_linkF (g : fq_G) (it b : Nat) : fq_G :=
  fq_us (fq_us (fq_us (fq_us (if g 0 b = -1 then fq_us (fq_us g 2 it (g 0 b)) 3 it (-1) else fq_us (fq_us (fq_us g 2 it (g 0 b)) 3 it (-1)) 3 (g 0 b).toNatClampNeg (nI it)) 0 b (nI it)) 5 it (nI b)) 1 b (g 1 b + 1)) 12 5 (g 12 5 + 1)
def fq_unlinkF (g : fq_G) (it b : Nat) : fq_G :=
  fq_us (fq_us (if g 2 it = -1 then (if g 3 it = -1 then fq_us g 0 b (g 2 it) else fq_us g 2 (g 3 it).toNatClampNeg (g 2 it)) else fq_us (if g 3 it = -1 then fq_us g 0 b (g 2 it) else fq_us g 2 (g 3 it).toNatClampNeg (g 2 it)) 3 (g 2 it).toNatClampNeg (g 3 it)) 5 it (-1)) 1 b (g 1 b - 1)
end
section
set_option maxHeartbeats 4000000 in
set_option maxRecDepth 100000 in
theorem fc_Q_bring (l : Launch) (V : fq_V) (Wd : fq_G → va_W) (g : fq_G) (v lo hi : Int32) : fq_MI l V y_Q_bring b_Q_bring 3 .int 0 [.int v, .int lo, .int hi] Wd g (fun r u => u = g ∧ r = if v < lo then lo else if hi < v then hi else v) := by
  refine fq_MI_of (lv := [(0, .int v), (1, .int lo), (2, .int hi)]) (by decide) (Nat.le_of_ble_eq_true rfl) rfl ?_
  intro p e s m args below meth c A Q hC hret ls hl hQ
  have hxx := hC.1
  have hbb := hC.2.1
  refine lv_iload_n hxx hbb fd_Q_bring_0 rfl (lv_at hl 0 rfl) ?_
  refine lv_iload_n hxx hbb fd_Q_bring_1 rfl (lv_at hl 1 rfl) ?_
  refine lv_icmp_ge (tgt := 9) hxx hbb fd_Q_bring_2 (by decide) (fun c2 => ?_) (fun c2 => ?_)
  · refine lv_iload_n hxx hbb fd_Q_bring_9 rfl (lv_at hl 0 rfl) ?_
    refine lv_iload_n hxx hbb fd_Q_bring_10 rfl (lv_at hl 2 rfl) ?_
    refine lv_icmp_le (tgt := 18) hxx hbb fd_Q_bring_11 (by decide) (fun c11 => ?_) (fun c11 => ?_)
    · refine lv_iload_n hxx hbb fd_Q_bring_18 rfl (lv_at hl 0 rfl) ?_
      exact hret _ _ _ _ _ _ fd_Q_bring_19 hQ ⟨rfl, by rw [if_neg (Int32.not_lt.mpr c2), if_neg (Int32.not_lt.mpr c11)]⟩ rfl
    · refine lv_iload_n hxx hbb fd_Q_bring_14 rfl (lv_at hl 2 rfl) ?_
      refine lv_goto (tgt := 19) hxx hbb fd_Q_bring_15 (by decide) ?_
      exact hret _ _ _ _ _ _ fd_Q_bring_19 hQ ⟨rfl, by rw [if_neg (Int32.not_lt.mpr c2), if_pos (Int32.not_le.mp c11)]⟩ rfl
  · refine lv_iload_n hxx hbb fd_Q_bring_5 rfl (lv_at hl 1 rfl) ?_
    refine lv_goto (tgt := 19) hxx hbb fd_Q_bring_6 (by decide) ?_
    exact hret _ _ _ _ _ _ fd_Q_bring_19 hQ ⟨rfl, by rw [if_pos (Int32.not_le.mp c2)]⟩ rfl
set_option maxHeartbeats 4000000 in
set_option maxRecDepth 100000 in
theorem fc_Q_within (l : Launch) (V : fq_V) (Wd : fq_G → va_W) (g : fq_G) (v lo hi : Int32) : fq_MI l V y_Q_within b_Q_within 3 .boolean 0 [.int v, .int lo, .int hi] Wd g (fun r u => u = g ∧ r = if (¬ v < lo ∧ ¬ hi < v) then 1 else 0) := by
  refine fq_MI_of (lv := [(0, .int v), (1, .int lo), (2, .int hi)]) (by decide) (Nat.le_of_ble_eq_true rfl) rfl ?_
  intro p e s m args below meth c A Q hC hret ls hl hQ
  have hxx := hC.1
  have hbb := hC.2.1
  refine lv_iload_n hxx hbb fd_Q_within_0 rfl (lv_at hl 0 rfl) ?_
  refine lv_iload_n hxx hbb fd_Q_within_1 rfl (lv_at hl 1 rfl) ?_
  refine lv_icmp_lt (tgt := 14) hxx hbb fd_Q_within_2 (by decide) (fun c2 => ?_) (fun c2 => ?_)
  · refine lv_iconst (v := 0) hxx hbb fd_Q_within_14 (by decide) ?_
    exact hret _ _ _ _ _ _ fd_Q_within_15 hQ ⟨rfl, by rw [if_neg (fun h => h.1 c2)]⟩ rfl
  · refine lv_iload_n hxx hbb fd_Q_within_5 rfl (lv_at hl 0 rfl) ?_
    refine lv_iload_n hxx hbb fd_Q_within_6 rfl (lv_at hl 2 rfl) ?_
    refine lv_icmp_gt (tgt := 14) hxx hbb fd_Q_within_7 (by decide) (fun c7 => ?_) (fun c7 => ?_)
    · refine lv_iconst (v := 0) hxx hbb fd_Q_within_14 (by decide) ?_
      exact hret _ _ _ _ _ _ fd_Q_within_15 hQ ⟨rfl, by rw [if_neg (fun h => h.2 c7)]⟩ rfl
    · refine lv_iconst (v := 1) hxx hbb fd_Q_within_10 (by decide) ?_
      refine lv_goto (tgt := 15) hxx hbb fd_Q_within_11 (by decide) ?_
      exact hret _ _ _ _ _ _ fd_Q_within_15 hQ ⟨rfl, by rw [if_pos ⟨c2, c7⟩]⟩ rfl
set_option maxHeartbeats 4000000 in
set_option maxRecDepth 100000 in
theorem fc_Q_isItem (l : Launch) (V : fq_V) (o : Nat → Nat) (mo : Nat) (g : fq_G) (x : Int32) (N : Nat) (h1 : 1 ≤ N) (h40 : N ≤ 40) (hN : g 12 0 = nI N) : fq_MI l V y_Q_isItem b_Q_isItem 2 .boolean 1 [.ref (o 0), .int x] (fq_WQ V o mo) g (fun r u => u = g ∧ ((r = 1 ∧ ∃ j, j < N ∧ x = nI j) ∨ (r = 0 ∧ ∀ j, j < N → x ≠ nI j))) := by
  refine fq_MI_of (lv := [(0, .ref (o 0)), (1, .int x)]) (by decide) (Nat.le_of_ble_eq_true rfl) rfl ?_
  intro p e s m args below meth c A Q hC hret ls hl hQ
  have hxx := hC.1
  have hbb := hC.2.1
  refine lv_iload_n hxx hbb fd_Q_isItem_0 rfl (lv_at hl 1 rfl) ?_
  refine lv_iconst (v := 0) hxx hbb fd_Q_isItem_1 (by decide) ?_
  refine lv_aload_n hxx hbb fd_Q_isItem_2 rfl (lv_at hl 0 rfl) ?_
  refine fg_Q_n hC hQ fd_Q_isItem_3 (v := nI N) hN ?_
  refine lv_iconst (v := 1) hxx hbb fd_Q_isItem_6 (by decide) ?_
  refine lv_isub hxx hbb fd_Q_isItem_7 ?_
  refine fq_top (y := nI (N - 1)) (fq_dec h1) ?_
  refine fq_callS hC (fc_Q_within l V (fq_WQ V o mo) g x 0 (nI (N - 1))) fw_Q_60 ⟨Nat.le_of_ble_eq_true rfl, Nat.le_of_ble_eq_true rfl⟩ hQ rfl hl.1 (rest := []) rfl (Nat.le_of_ble_eq_true rfl) fd_Q_isItem_8 ⟨Nat.le_refl _, Nat.le_refl _⟩ (fun r8 u8 H locs hp8 hQ => ?_)
  rw [hp8.1] at hQ
  rcases fq_isItem_of h1 h40 hp8.2 with ⟨hr, hj⟩ | ⟨hr, hj⟩
  · refine fq_top hr ?_
    exact hret _ _ _ _ _ _ fd_Q_isItem_11 hQ ⟨rfl, Or.inl ⟨rfl, hj⟩⟩ rfl
  · refine fq_top hr ?_
    exact hret _ _ _ _ _ _ fd_Q_isItem_11 hQ ⟨rfl, Or.inr ⟨rfl, hj⟩⟩ rfl
set_option maxHeartbeats 4000000 in
set_option maxRecDepth 100000 in
theorem fc_Q_isThere (l : Launch) (V : fq_V) (o : Nat → Nat) (mo : Nat) (g : fq_G) (x : Int32) (N : Nat) (h1 : 1 ≤ N) (h40 : N ≤ 40) (hN : g 12 0 = nI N) : fq_MI l V y_Q_isThere b_Q_isThere 2 .boolean 2 [.ref (o 0), .int x] (fq_WQ V o mo) g (fun r u => u = g ∧ ((r = 1 ∧ ∃ j, j < N ∧ x = nI j ∧ g 5 j ≠ -1) ∨ (r = 0 ∧ ∀ j, j < N → x = nI j → g 5 j = -1))) := by
  refine fq_MI_of (lv := [(0, .ref (o 0)), (1, .int x)]) (by decide) (Nat.le_of_ble_eq_true rfl) rfl ?_
  intro p e s m args below meth c A Q hC hret ls hl hQ
  have hxx := hC.1
  have hbb := hC.2.1
  refine lv_aload_n hxx hbb fd_Q_isThere_0 rfl (lv_at hl 0 rfl) ?_
  refine lv_iload_n hxx hbb fd_Q_isThere_1 rfl (lv_at hl 1 rfl) ?_
  refine fq_callI hC (fc_Q_isItem l V o mo g x N h1 h40 hN) fw_Q_64 ⟨Nat.le_of_ble_eq_true rfl, Nat.le_of_ble_eq_true rfl⟩ rfl rfl rfl hQ rfl hl.1 (rest := []) rfl (Nat.le_of_ble_eq_true rfl) fd_Q_isThere_2 ⟨Nat.le_refl _, Nat.le_refl _⟩ (fun r2 u2 H locs hp2 hQ => ?_)
  rw [hp2.1] at hQ
  refine lv_if_eq (tgt := 22) hxx hbb fd_Q_isThere_5 (by decide) (fun c5 => ?_) (fun c5 => ?_)
  · refine lv_iconst (v := 0) hxx hbb fd_Q_isThere_22 (by decide) ?_
    exact hret _ _ _ _ _ _ fd_Q_isThere_23 hQ ⟨rfl, Or.inr ⟨rfl, fun j hj e => absurd e (fq_no hp2.2 c5 j hj)⟩⟩ rfl
  · obtain ⟨j, hj, ej⟩ := fq_yes hp2.2 c5
    subst ej
    refine lv_aload_n hxx hbb fd_Q_isThere_8 rfl (lv_at hl 0 rfl) ?_
    refine fg_Q_where hC hQ fd_Q_isThere_9 ?_
    refine lv_iload_n hxx hbb fd_Q_isThere_12 rfl (lv_at hl 1 rfl) ?_
    refine fr_Q_where hC hQ j rfl (by omega) fd_Q_isThere_13 (v := g 5 j) rfl ?_
    refine lv_iconst (v := (-1)) hxx hbb fd_Q_isThere_14 (by decide) ?_
    refine lv_icmp_eq (tgt := 22) hxx hbb fd_Q_isThere_15 (by decide) (fun c15 => ?_) (fun c15 => ?_)
    · refine lv_iconst (v := 0) hxx hbb fd_Q_isThere_22 (by decide) ?_
      exact hret _ _ _ _ _ _ fd_Q_isThere_23 hQ ⟨rfl, Or.inr ⟨rfl, fun j2 hj2 e => by rw [← fq_eqI (by omega) (by omega) e]; exact c15⟩⟩ rfl
    · refine lv_iconst (v := 1) hxx hbb fd_Q_isThere_18 (by decide) ?_
      refine lv_goto (tgt := 23) hxx hbb fd_Q_isThere_19 (by decide) ?_
      exact hret _ _ _ _ _ _ fd_Q_isThere_23 hQ ⟨rfl, Or.inl ⟨rfl, j, hj, rfl, c15⟩⟩ rfl
set_option maxHeartbeats 4000000 in
set_option maxRecDepth 100000 in
theorem fc_Q_bucketFor (l : Launch) (V : fq_V) (o : Nat → Nat) (mo : Nat) (g : fq_G) (x : Int32) (hx : 0 ≤ x.toInt) (hf : 0 ≤ (g 12 3).toInt) : fq_MI l V y_Q_bucketFor b_Q_bucketFor 4 .int 0 [.ref (o 0), .int x] (fq_WQ V o mo) g (fun r u => u = g ∧ r = nI (fq_dk x (g 12 3))) := by
  refine fq_MI_of (lv := [(0, .ref (o 0)), (1, .int x)]) (by decide) (Nat.le_of_ble_eq_true rfl) rfl ?_
  intro p e s m args below meth c A Q hC hret ls hl hQ
  have hxx := hC.1
  have hbb := hC.2.1
  refine lv_iconst (v := (nI 0)) hxx hbb fd_Q_bucketFor_0 (by decide) ?_
  refine lv_istore_n (lv' := [(2, .int (nI 0)), (0, .ref (o 0)), (1, .int x)]) hxx hbb fd_Q_bucketFor_1 rfl hl (by decide) rfl (fun ls hl => ?_)
  refine lv_iload_n hxx hbb fd_Q_bucketFor_2 rfl (lv_at hl 2 rfl) ?_
  refine lv_aload_n hxx hbb fd_Q_bucketFor_3 rfl (lv_at hl 1 rfl) ?_
  refine fg_Q_floor hC hQ fd_Q_bucketFor_4 (v := g 12 3) rfl ?_
  refine lv_ixor hxx hbb fd_Q_bucketFor_7 ?_
  refine fq_top (y := nI (fq_z x (g 12 3) / 2 ^ 0)) (fq_z0 hx hf) ?_
  refine lv_istore_n (lv' := [(3, .int (nI (fq_z x (g 12 3) / 2 ^ 0))), (2, .int (nI 0)), (0, .ref (o 0)), (1, .int x)]) hxx hbb fd_Q_bucketFor_8 rfl hl (by decide) rfl (fun ls hl => ?_)
  have loop9 : ∀ (n : Nat) (j : Nat), j ≤ fq_dk x (g 12 3) → fq_dk x (g 12 3) < j + n → ∀ (H : Heap) (locs : List Loc) (ls : Array Slot), fq_Hp V A s.heap (fq_WQ V o mo g) H locs → lv_has ls 4 [(0, .ref (o 0)), (1, .int x), (2, .int (nI j)), (3, .int (nI (fq_z x (g 12 3) / 2 ^ j)))] → W p l e (fq_Rm 0) s m args below meth c H locs 0 0 Q (F0 m 9 ls []) := by
    intro n
    induction n with
    | zero =>
      intro j hj hn
      omega
    | succ n ih9 =>
      intro j hj hn H locs ls hQ hl
      refine lv_iload_n hxx hbb fd_Q_bucketFor_9 rfl (lv_at hl 3 rfl) ?_
      refine lv_if_eq (tgt := 23) hxx hbb fd_Q_bucketFor_10 (by decide) (fun c10 => ?_) (fun c10 => ?_)
      · refine lv_iload_n hxx hbb fd_Q_bucketFor_23 rfl (lv_at hl 2 rfl) ?_
        exact hret _ _ _ _ _ _ fd_Q_bucketFor_24 hQ ⟨rfl, by rw [Nat.le_antisymm hj (fq_z_end c10)]⟩ rfl
      · refine lv_iinc (v := nI (j + 1)) (lv' := [(2, .int (nI (j + 1))), (0, .ref (o 0)), (1, .int x), (3, .int (nI (fq_z x (g 12 3) / 2 ^ j)))]) hxx hbb fd_Q_bucketFor_13 hl (k := 2) rfl (fq_inc j) (by decide) rfl (fun ls hl => ?_)
        refine lv_iload_n hxx hbb fd_Q_bucketFor_16 rfl (lv_at hl 3 rfl) ?_
        refine lv_iconst (v := 1) hxx hbb fd_Q_bucketFor_17 (by decide) ?_
        refine lv_ishr hxx hbb fd_Q_bucketFor_18 ?_
        refine fq_top (y := nI (fq_z x (g 12 3) / 2 ^ (j + 1))) fq_z_next ?_
        refine lv_istore_n (lv' := [(3, .int (nI (fq_z x (g 12 3) / 2 ^ (j + 1)))), (2, .int (nI (j + 1))), (0, .ref (o 0)), (1, .int x)]) hxx hbb fd_Q_bucketFor_19 rfl hl (by decide) rfl (fun ls hl => ?_)
        refine lv_goto (tgt := 9) hxx hbb fd_Q_bucketFor_20 (by decide) ?_
        exact ih9 (j + 1) (fq_z_go c10) (by omega) _ _ _ hQ (lv_sub hl [2, 3, 1, 0] rfl)
  exact loop9 (fq_dk x (g 12 3) + 1) 0 (Nat.zero_le _) (by omega) _ _ _ hQ (lv_sub hl [2, 3, 1, 0] rfl)
set_option maxHeartbeats 4000000 in
set_option maxRecDepth 100000 in
theorem fc_Q_link (l : Launch) (V : fq_V) (o : Nat → Nat) (mo : Nat) (g : fq_G) (it b : Nat) (hit : it < 40) (hb : b < 32) (hfb : g 0 b = -1 ∨ ∃ f, f < 40 ∧ g 0 b = nI f) : fq_MV l V y_Q_link b_Q_link 3 0 [.ref (o 0), .int (nI it), .int (nI b)] (fq_WQ V o mo) g (fun u => u = fq_linkF g it b) := by
  refine fq_MV_of (lv := [(0, .ref (o 0)), (1, .int (nI it)), (2, .int (nI b))]) (by decide) (Nat.le_of_ble_eq_true rfl) rfl ?_
  intro p e s m args below meth c A Q hC hret ls hl hQ
  have hxx := hC.1
  have hbb := hC.2.1
  refine lv_aload_n hxx hbb fd_Q_link_0 rfl (lv_at hl 0 rfl) ?_
  refine fg_Q_next hC hQ fd_Q_link_1 ?_
  refine lv_iload_n hxx hbb fd_Q_link_4 rfl (lv_at hl 1 rfl) ?_
  refine lv_aload_n hxx hbb fd_Q_link_5 rfl (lv_at hl 0 rfl) ?_
  refine fg_Q_first hC hQ fd_Q_link_6 ?_
  refine lv_iload_n hxx hbb fd_Q_link_9 rfl (lv_at hl 2 rfl) ?_
  refine fr_Q_first hC hQ b rfl (by omega) fd_Q_link_10 (v := g 0 b) rfl ?_
  refine fs_Q_next hC hQ it rfl (by omega) fd_Q_link_11 (fun H locs hQ => ?_)
  refine lv_aload_n hxx hbb fd_Q_link_12 rfl (lv_at hl 0 rfl) ?_
  refine fg_Q_before hC hQ fd_Q_link_13 ?_
  refine lv_iload_n hxx hbb fd_Q_link_16 rfl (lv_at hl 1 rfl) ?_
  refine lv_iconst (v := (-1)) hxx hbb fd_Q_link_17 (by decide) ?_
  refine fs_Q_before hC hQ it rfl (by omega) fd_Q_link_18 (fun H locs hQ => ?_)
  refine lv_aload_n hxx hbb fd_Q_link_19 rfl (lv_at hl 0 rfl) ?_
  refine fg_Q_first hC hQ fd_Q_link_20 ?_
  refine lv_iload_n hxx hbb fd_Q_link_23 rfl (lv_at hl 2 rfl) ?_
  refine fr_Q_first hC hQ b rfl (by omega) fd_Q_link_24 (v := g 0 b) rfl ?_
  refine lv_iconst (v := (-1)) hxx hbb fd_Q_link_25 (by decide) ?_
  refine lv_icmp_eq (tgt := 41) hxx hbb fd_Q_link_26 (by decide) (fun c26 => ?_) (fun c26 => ?_)
  · refine lv_aload_n hxx hbb fd_Q_link_41 rfl (lv_at hl 0 rfl) ?_
    refine fg_Q_first hC hQ fd_Q_link_42 ?_
    refine lv_iload_n hxx hbb fd_Q_link_45 rfl (lv_at hl 2 rfl) ?_
    refine lv_iload_n hxx hbb fd_Q_link_46 rfl (lv_at hl 1 rfl) ?_
    refine fs_Q_first hC hQ b rfl (by omega) fd_Q_link_47 (fun H locs hQ => ?_)
    refine lv_aload_n hxx hbb fd_Q_link_48 rfl (lv_at hl 0 rfl) ?_
    refine fg_Q_where hC hQ fd_Q_link_49 ?_
    refine lv_iload_n hxx hbb fd_Q_link_52 rfl (lv_at hl 1 rfl) ?_
    refine lv_iload_n hxx hbb fd_Q_link_53 rfl (lv_at hl 2 rfl) ?_
    refine fs_Q_where hC hQ it rfl (by omega) fd_Q_link_54 (fun H locs hQ => ?_)
    refine lv_aload_n hxx hbb fd_Q_link_55 rfl (lv_at hl 0 rfl) ?_
    refine fg_Q_counts hC hQ fd_Q_link_56 ?_
    refine lv_iload_n hxx hbb fd_Q_link_59 rfl (lv_at hl 2 rfl) ?_
    refine lv_dup2_11 hxx hbb fd_Q_link_60 rfl rfl ?_
    refine fr_Q_counts hC hQ b rfl (by omega) fd_Q_link_61 (v := g 1 b) rfl ?_
    refine lv_iconst (v := 1) hxx hbb fd_Q_link_62 (by decide) ?_
    refine lv_iadd hxx hbb fd_Q_link_63 ?_
    refine fs_Q_counts hC hQ b rfl (by omega) fd_Q_link_64 (fun H locs hQ => ?_)
    refine lv_aload_n hxx hbb fd_Q_link_65 rfl (lv_at hl 0 rfl) ?_
    refine lv_dup hxx hbb fd_Q_link_66 rfl ?_
    refine fg_Q_placed hC hQ fd_Q_link_67 (v := g 12 5) rfl ?_
    refine lv_iconst (v := 1) hxx hbb fd_Q_link_70 (by decide) ?_
    refine lv_iadd hxx hbb fd_Q_link_71 ?_
    refine fp_Q_placed hC hQ fd_Q_link_72 (fun H locs hQ => ?_)
    exact hret _ _ _ _ _ fd_Q_link_75 hQ (by unfold fq_linkF; rw [if_pos c26])
  · obtain ⟨f, hf, ef⟩ := fq_or hfb c26
    refine lv_aload_n hxx hbb fd_Q_link_29 rfl (lv_at hl 0 rfl) ?_
    refine fg_Q_before hC hQ fd_Q_link_30 ?_
    refine lv_aload_n hxx hbb fd_Q_link_33 rfl (lv_at hl 0 rfl) ?_
    refine fg_Q_first hC hQ fd_Q_link_34 ?_
    refine lv_iload_n hxx hbb fd_Q_link_37 rfl (lv_at hl 2 rfl) ?_
    refine fr_Q_first hC hQ b rfl (by omega) fd_Q_link_38 (v := g 0 b) rfl ?_
    refine lv_iload_n hxx hbb fd_Q_link_39 rfl (lv_at hl 1 rfl) ?_
    refine fs_Q_before hC hQ f ef (by omega) fd_Q_link_40 (fun H locs hQ => ?_)
    refine lv_aload_n hxx hbb fd_Q_link_41 rfl (lv_at hl 0 rfl) ?_
    refine fg_Q_first hC hQ fd_Q_link_42 ?_
    refine lv_iload_n hxx hbb fd_Q_link_45 rfl (lv_at hl 2 rfl) ?_
    refine lv_iload_n hxx hbb fd_Q_link_46 rfl (lv_at hl 1 rfl) ?_
    refine fs_Q_first hC hQ b rfl (by omega) fd_Q_link_47 (fun H locs hQ => ?_)
    refine lv_aload_n hxx hbb fd_Q_link_48 rfl (lv_at hl 0 rfl) ?_
    refine fg_Q_where hC hQ fd_Q_link_49 ?_
    refine lv_iload_n hxx hbb fd_Q_link_52 rfl (lv_at hl 1 rfl) ?_
    refine lv_iload_n hxx hbb fd_Q_link_53 rfl (lv_at hl 2 rfl) ?_
    refine fs_Q_where hC hQ it rfl (by omega) fd_Q_link_54 (fun H locs hQ => ?_)
    refine lv_aload_n hxx hbb fd_Q_link_55 rfl (lv_at hl 0 rfl) ?_
    refine fg_Q_counts hC hQ fd_Q_link_56 ?_
    refine lv_iload_n hxx hbb fd_Q_link_59 rfl (lv_at hl 2 rfl) ?_
    refine lv_dup2_11 hxx hbb fd_Q_link_60 rfl rfl ?_
    refine fr_Q_counts hC hQ b rfl (by omega) fd_Q_link_61 (v := g 1 b) rfl ?_
    refine lv_iconst (v := 1) hxx hbb fd_Q_link_62 (by decide) ?_
    refine lv_iadd hxx hbb fd_Q_link_63 ?_
    refine fs_Q_counts hC hQ b rfl (by omega) fd_Q_link_64 (fun H locs hQ => ?_)
    refine lv_aload_n hxx hbb fd_Q_link_65 rfl (lv_at hl 0 rfl) ?_
    refine lv_dup hxx hbb fd_Q_link_66 rfl ?_
    refine fg_Q_placed hC hQ fd_Q_link_67 (v := g 12 5) rfl ?_
    refine lv_iconst (v := 1) hxx hbb fd_Q_link_70 (by decide) ?_
    refine lv_iadd hxx hbb fd_Q_link_71 ?_
    refine fp_Q_placed hC hQ fd_Q_link_72 (fun H locs hQ => ?_)
    exact hret _ _ _ _ _ fd_Q_link_75 hQ (by unfold fq_linkF; rw [if_neg c26, ef, nI_clamp (by omega)])
set_option maxHeartbeats 4000000 in
set_option maxRecDepth 100000 in
theorem fc_Q_unlink (l : Launch) (V : fq_V) (o : Nat → Nat) (mo : Nat) (g : fq_G) (it b : Nat) (hit : it < 40) (hb : b < 32) (hwh : g 5 it = nI b) (hbf : g 3 it = -1 ∨ ∃ p, p < 40 ∧ p ≠ it ∧ g 3 it = nI p) (hnx : g 2 it = -1 ∨ ∃ q, q < 40 ∧ q ≠ it ∧ g 2 it = nI q) : fq_MV l V y_Q_unlink b_Q_unlink 3 0 [.ref (o 0), .int (nI it)] (fq_WQ V o mo) g (fun u => u = fq_unlinkF g it b) := by
  refine fq_MV_of (lv := [(0, .ref (o 0)), (1, .int (nI it))]) (by decide) (Nat.le_of_ble_eq_true rfl) rfl ?_
  intro p e s m args below meth c A Q hC hret ls hl hQ
  have hxx := hC.1
  have hbb := hC.2.1
  refine lv_aload_n hxx hbb fd_Q_unlink_0 rfl (lv_at hl 0 rfl) ?_
  refine fg_Q_where hC hQ fd_Q_unlink_1 ?_
  refine lv_iload_n hxx hbb fd_Q_unlink_4 rfl (lv_at hl 1 rfl) ?_
  refine fr_Q_where hC hQ it rfl (by omega) fd_Q_unlink_5 (v := nI b) hwh ?_
  refine lv_istore_n (lv' := [(2, .int (nI b)), (0, .ref (o 0)), (1, .int (nI it))]) hxx hbb fd_Q_unlink_6 rfl hl (by decide) rfl (fun ls hl => ?_)
  refine lv_aload_n hxx hbb fd_Q_unlink_7 rfl (lv_at hl 1 rfl) ?_
  refine fg_Q_before hC hQ fd_Q_unlink_8 ?_
  refine lv_iload_n hxx hbb fd_Q_unlink_11 rfl (lv_at hl 2 rfl) ?_
  refine fr_Q_before hC hQ it rfl (by omega) fd_Q_unlink_12 (v := g 3 it) rfl ?_
  refine lv_iconst (v := (-1)) hxx hbb fd_Q_unlink_13 (by decide) ?_
  refine lv_icmp_ne (tgt := 32) hxx hbb fd_Q_unlink_14 (by decide) (fun c14 => ?_) (fun c14 => ?_)
  · obtain ⟨p1, hp1, hpi, ep⟩ := fq_or hbf c14
    refine lv_aload_n hxx hbb fd_Q_unlink_32 rfl (lv_at hl 1 rfl) ?_
    refine fg_Q_next hC hQ fd_Q_unlink_33 ?_
    refine lv_aload_n hxx hbb fd_Q_unlink_36 rfl (lv_at hl 1 rfl) ?_
    refine fg_Q_before hC hQ fd_Q_unlink_37 ?_
    refine lv_iload_n hxx hbb fd_Q_unlink_40 rfl (lv_at hl 2 rfl) ?_
    refine fr_Q_before hC hQ it rfl (by omega) fd_Q_unlink_41 (v := g 3 it) rfl ?_
    refine lv_aload_n hxx hbb fd_Q_unlink_42 rfl (lv_at hl 1 rfl) ?_
    refine fg_Q_next hC hQ fd_Q_unlink_43 ?_
    refine lv_iload_n hxx hbb fd_Q_unlink_46 rfl (lv_at hl 2 rfl) ?_
    refine fr_Q_next hC hQ it rfl (by omega) fd_Q_unlink_47 (v := g 2 it) rfl ?_
    refine fs_Q_next hC hQ p1 ep (by omega) fd_Q_unlink_48 (fun H locs hQ => ?_)
    refine lv_aload_n hxx hbb fd_Q_unlink_49 rfl (lv_at hl 1 rfl) ?_
    refine fg_Q_next hC hQ fd_Q_unlink_50 ?_
    refine lv_iload_n hxx hbb fd_Q_unlink_53 rfl (lv_at hl 2 rfl) ?_
    refine fr_Q_next hC hQ it rfl (by omega) fd_Q_unlink_54 (v := g 2 it) (by simp [fq_us, upd, Ne.symm hpi]) ?_
    refine lv_iconst (v := (-1)) hxx hbb fd_Q_unlink_55 (by decide) ?_
    refine lv_icmp_eq (tgt := 76) hxx hbb fd_Q_unlink_56 (by decide) (fun c56 => ?_) (fun c56 => ?_)
    · refine lv_aload_n hxx hbb fd_Q_unlink_76 rfl (lv_at hl 1 rfl) ?_
      refine fg_Q_where hC hQ fd_Q_unlink_77 ?_
      refine lv_iload_n hxx hbb fd_Q_unlink_80 rfl (lv_at hl 2 rfl) ?_
      refine lv_iconst (v := (-1)) hxx hbb fd_Q_unlink_81 (by decide) ?_
      refine fs_Q_where hC hQ it rfl (by omega) fd_Q_unlink_82 (fun H locs hQ => ?_)
      refine lv_aload_n hxx hbb fd_Q_unlink_83 rfl (lv_at hl 1 rfl) ?_
      refine fg_Q_counts hC hQ fd_Q_unlink_84 ?_
      refine lv_iload_n hxx hbb fd_Q_unlink_87 rfl (lv_at hl 0 rfl) ?_
      refine lv_dup2_11 hxx hbb fd_Q_unlink_88 rfl rfl ?_
      refine fr_Q_counts hC hQ b rfl (by omega) fd_Q_unlink_89 (v := g 1 b) rfl ?_
      refine lv_iconst (v := 1) hxx hbb fd_Q_unlink_90 (by decide) ?_
      refine lv_isub hxx hbb fd_Q_unlink_91 ?_
      refine fs_Q_counts hC hQ b rfl (by omega) fd_Q_unlink_92 (fun H locs hQ => ?_)
      exact hret _ _ _ _ _ fd_Q_unlink_93 hQ (by unfold fq_unlinkF; rw [if_pos c56, if_neg c14, ep, nI_clamp (by omega)])
    · obtain ⟨q1, hq1, hqi, eq1⟩ := fq_or hnx c56
      refine lv_aload_n hxx hbb fd_Q_unlink_59 rfl (lv_at hl 1 rfl) ?_
      refine fg_Q_before hC hQ fd_Q_unlink_60 ?_
      refine lv_aload_n hxx hbb fd_Q_unlink_63 rfl (lv_at hl 1 rfl) ?_
      refine fg_Q_next hC hQ fd_Q_unlink_64 ?_
      refine lv_iload_n hxx hbb fd_Q_unlink_67 rfl (lv_at hl 2 rfl) ?_
      refine fr_Q_next hC hQ it rfl (by omega) fd_Q_unlink_68 (v := g 2 it) (by simp [fq_us, upd, Ne.symm hpi]) ?_
      refine lv_aload_n hxx hbb fd_Q_unlink_69 rfl (lv_at hl 1 rfl) ?_
      refine fg_Q_before hC hQ fd_Q_unlink_70 ?_
      refine lv_iload_n hxx hbb fd_Q_unlink_73 rfl (lv_at hl 2 rfl) ?_
      refine fr_Q_before hC hQ it rfl (by omega) fd_Q_unlink_74 (v := g 3 it) rfl ?_
      refine fs_Q_before hC hQ q1 eq1 (by omega) fd_Q_unlink_75 (fun H locs hQ => ?_)
      refine lv_aload_n hxx hbb fd_Q_unlink_76 rfl (lv_at hl 1 rfl) ?_
      refine fg_Q_where hC hQ fd_Q_unlink_77 ?_
      refine lv_iload_n hxx hbb fd_Q_unlink_80 rfl (lv_at hl 2 rfl) ?_
      refine lv_iconst (v := (-1)) hxx hbb fd_Q_unlink_81 (by decide) ?_
      refine fs_Q_where hC hQ it rfl (by omega) fd_Q_unlink_82 (fun H locs hQ => ?_)
      refine lv_aload_n hxx hbb fd_Q_unlink_83 rfl (lv_at hl 1 rfl) ?_
      refine fg_Q_counts hC hQ fd_Q_unlink_84 ?_
      refine lv_iload_n hxx hbb fd_Q_unlink_87 rfl (lv_at hl 0 rfl) ?_
      refine lv_dup2_11 hxx hbb fd_Q_unlink_88 rfl rfl ?_
      refine fr_Q_counts hC hQ b rfl (by omega) fd_Q_unlink_89 (v := g 1 b) rfl ?_
      refine lv_iconst (v := 1) hxx hbb fd_Q_unlink_90 (by decide) ?_
      refine lv_isub hxx hbb fd_Q_unlink_91 ?_
      refine fs_Q_counts hC hQ b rfl (by omega) fd_Q_unlink_92 (fun H locs hQ => ?_)
      exact hret _ _ _ _ _ fd_Q_unlink_93 hQ (by unfold fq_unlinkF; rw [if_neg c56, if_neg c14, ep, nI_clamp (by omega), eq1, nI_clamp (by omega)])
  · refine lv_aload_n hxx hbb fd_Q_unlink_17 rfl (lv_at hl 1 rfl) ?_
    refine fg_Q_first hC hQ fd_Q_unlink_18 ?_
    refine lv_iload_n hxx hbb fd_Q_unlink_21 rfl (lv_at hl 0 rfl) ?_
    refine lv_aload_n hxx hbb fd_Q_unlink_22 rfl (lv_at hl 1 rfl) ?_
    refine fg_Q_next hC hQ fd_Q_unlink_23 ?_
    refine lv_iload_n hxx hbb fd_Q_unlink_26 rfl (lv_at hl 2 rfl) ?_
    refine fr_Q_next hC hQ it rfl (by omega) fd_Q_unlink_27 (v := g 2 it) rfl ?_
    refine fs_Q_first hC hQ b rfl (by omega) fd_Q_unlink_28 (fun H locs hQ => ?_)
    refine lv_goto (tgt := 49) hxx hbb fd_Q_unlink_29 (by decide) ?_
    refine lv_aload_n hxx hbb fd_Q_unlink_49 rfl (lv_at hl 1 rfl) ?_
    refine fg_Q_next hC hQ fd_Q_unlink_50 ?_
    refine lv_iload_n hxx hbb fd_Q_unlink_53 rfl (lv_at hl 2 rfl) ?_
    refine fr_Q_next hC hQ it rfl (by omega) fd_Q_unlink_54 (v := g 2 it) rfl ?_
    refine lv_iconst (v := (-1)) hxx hbb fd_Q_unlink_55 (by decide) ?_
    refine lv_icmp_eq (tgt := 76) hxx hbb fd_Q_unlink_56 (by decide) (fun c56 => ?_) (fun c56 => ?_)
    · refine lv_aload_n hxx hbb fd_Q_unlink_76 rfl (lv_at hl 1 rfl) ?_
      refine fg_Q_where hC hQ fd_Q_unlink_77 ?_
      refine lv_iload_n hxx hbb fd_Q_unlink_80 rfl (lv_at hl 2 rfl) ?_
      refine lv_iconst (v := (-1)) hxx hbb fd_Q_unlink_81 (by decide) ?_
      refine fs_Q_where hC hQ it rfl (by omega) fd_Q_unlink_82 (fun H locs hQ => ?_)
      refine lv_aload_n hxx hbb fd_Q_unlink_83 rfl (lv_at hl 1 rfl) ?_
      refine fg_Q_counts hC hQ fd_Q_unlink_84 ?_
      refine lv_iload_n hxx hbb fd_Q_unlink_87 rfl (lv_at hl 0 rfl) ?_
      refine lv_dup2_11 hxx hbb fd_Q_unlink_88 rfl rfl ?_
      refine fr_Q_counts hC hQ b rfl (by omega) fd_Q_unlink_89 (v := g 1 b) rfl ?_
      refine lv_iconst (v := 1) hxx hbb fd_Q_unlink_90 (by decide) ?_
      refine lv_isub hxx hbb fd_Q_unlink_91 ?_
      refine fs_Q_counts hC hQ b rfl (by omega) fd_Q_unlink_92 (fun H locs hQ => ?_)
      exact hret _ _ _ _ _ fd_Q_unlink_93 hQ (by unfold fq_unlinkF; rw [if_pos c56, if_pos c14])
    · obtain ⟨q1, hq1, hqi, eq1⟩ := fq_or hnx c56
      refine lv_aload_n hxx hbb fd_Q_unlink_59 rfl (lv_at hl 1 rfl) ?_
      refine fg_Q_before hC hQ fd_Q_unlink_60 ?_
      refine lv_aload_n hxx hbb fd_Q_unlink_63 rfl (lv_at hl 1 rfl) ?_
      refine fg_Q_next hC hQ fd_Q_unlink_64 ?_
      refine lv_iload_n hxx hbb fd_Q_unlink_67 rfl (lv_at hl 2 rfl) ?_
      refine fr_Q_next hC hQ it rfl (by omega) fd_Q_unlink_68 (v := g 2 it) rfl ?_
      refine lv_aload_n hxx hbb fd_Q_unlink_69 rfl (lv_at hl 1 rfl) ?_
      refine fg_Q_before hC hQ fd_Q_unlink_70 ?_
      refine lv_iload_n hxx hbb fd_Q_unlink_73 rfl (lv_at hl 2 rfl) ?_
      refine fr_Q_before hC hQ it rfl (by omega) fd_Q_unlink_74 (v := g 3 it) rfl ?_
      refine fs_Q_before hC hQ q1 eq1 (by omega) fd_Q_unlink_75 (fun H locs hQ => ?_)
      refine lv_aload_n hxx hbb fd_Q_unlink_76 rfl (lv_at hl 1 rfl) ?_
      refine fg_Q_where hC hQ fd_Q_unlink_77 ?_
      refine lv_iload_n hxx hbb fd_Q_unlink_80 rfl (lv_at hl 2 rfl) ?_
      refine lv_iconst (v := (-1)) hxx hbb fd_Q_unlink_81 (by decide) ?_
      refine fs_Q_where hC hQ it rfl (by omega) fd_Q_unlink_82 (fun H locs hQ => ?_)
      refine lv_aload_n hxx hbb fd_Q_unlink_83 rfl (lv_at hl 1 rfl) ?_
      refine fg_Q_counts hC hQ fd_Q_unlink_84 ?_
      refine lv_iload_n hxx hbb fd_Q_unlink_87 rfl (lv_at hl 0 rfl) ?_
      refine lv_dup2_11 hxx hbb fd_Q_unlink_88 rfl rfl ?_
      refine fr_Q_counts hC hQ b rfl (by omega) fd_Q_unlink_89 (v := g 1 b) rfl ?_
      refine lv_iconst (v := 1) hxx hbb fd_Q_unlink_90 (by decide) ?_
      refine lv_isub hxx hbb fd_Q_unlink_91 ?_
      refine fs_Q_counts hC hQ b rfl (by omega) fd_Q_unlink_92 (fun H locs hQ => ?_)
      exact hret _ _ _ _ _ fd_Q_unlink_93 hQ (by unfold fq_unlinkF; rw [if_neg c56, if_pos c14, eq1, nI_clamp (by omega)])
end
section
/-! pure rows: the rows of items in their buckets -/
theorem fq_link_0 (g : fq_G) (it b : Nat) : fq_linkF g it b 0 = upd (g 0) b (nI it) := by
  unfold fq_linkF
  split <;> simp [fq_us]
theorem fq_link_1 (g : fq_G) (it b : Nat) : fq_linkF g it b 1 = upd (g 1) b (g 1 b + 1) := by
  unfold fq_linkF
  split <;> simp [fq_us]
theorem fq_link_2 (g : fq_G) (it b : Nat) : fq_linkF g it b 2 = upd (g 2) it (g 0 b) := by
  unfold fq_linkF
  split <;> simp [fq_us]
theorem fq_link_3 (g : fq_G) (it b : Nat) : fq_linkF g it b 3 = if g 0 b = -1 then upd (g 3) it (-1) else upd (upd (g 3) it (-1)) (g 0 b).toNatClampNeg (nI it) := by
  unfold fq_linkF
  split <;> simp [fq_us]
theorem fq_link_5 (g : fq_G) (it b : Nat) : fq_linkF g it b 5 = upd (g 5) it (nI b) := by
  unfold fq_linkF
  split <;> simp [fq_us]
theorem fq_link_12 (g : fq_G) (it b : Nat) : fq_linkF g it b 12 = upd (g 12) 5 (g 12 5 + 1) := by
  unfold fq_linkF
  split <;> simp [fq_us]
theorem fq_link_4 (g : fq_G) (it b : Nat) : fq_linkF g it b 4 = g 4 := by
  unfold fq_linkF
  split <;> simp [fq_us]
theorem fq_link_o (g : fq_G) (it b : Nat) {r : Nat} (h : 6 ≤ r) (h2 : r ≠ 12) : fq_linkF g it b r = g r := by
  have e0 : r ≠ 0 := by omega
  have e1 : r ≠ 1 := by omega
  have e2 : r ≠ 2 := by omega
  have e3 : r ≠ 3 := by omega
  have e5 : r ≠ 5 := by omega
  unfold fq_linkF
  split <;> simp [fq_us, e0, e1, e2, e3, e5, h2]
theorem fq_unlink_0 (g : fq_G) (it b : Nat) : fq_unlinkF g it b 0 = if g 3 it = -1 then upd (g 0) b (g 2 it) else g 0 := by
  unfold fq_unlinkF
  by_cases h1 : g 2 it = -1 <;> by_cases h2 : g 3 it = -1 <;> simp [fq_us, h1, h2]
theorem fq_unlink_1 (g : fq_G) (it b : Nat) : fq_unlinkF g it b 1 = upd (g 1) b (g 1 b - 1) := by
  unfold fq_unlinkF
  by_cases h1 : g 2 it = -1 <;> by_cases h2 : g 3 it = -1 <;> simp [fq_us, h1, h2]
theorem fq_unlink_2 (g : fq_G) (it b : Nat) : fq_unlinkF g it b 2 = if g 3 it = -1 then g 2 else upd (g 2) (g 3 it).toNatClampNeg (g 2 it) := by
  unfold fq_unlinkF
  by_cases h1 : g 2 it = -1 <;> by_cases h2 : g 3 it = -1 <;> simp [fq_us, h1, h2]
theorem fq_unlink_3 (g : fq_G) (it b : Nat) : fq_unlinkF g it b 3 = if g 2 it = -1 then g 3 else upd (g 3) (g 2 it).toNatClampNeg (g 3 it) := by
  unfold fq_unlinkF
  by_cases h1 : g 2 it = -1 <;> by_cases h2 : g 3 it = -1 <;> simp [fq_us, h1, h2]
theorem fq_unlink_5 (g : fq_G) (it b : Nat) : fq_unlinkF g it b 5 = upd (g 5) it (-1) := by
  unfold fq_unlinkF
  by_cases h1 : g 2 it = -1 <;> by_cases h2 : g 3 it = -1 <;> simp [fq_us, h1, h2]
theorem fq_unlink_4 (g : fq_G) (it b : Nat) : fq_unlinkF g it b 4 = g 4 := by
  unfold fq_unlinkF
  by_cases h1 : g 2 it = -1 <;> by_cases h2 : g 3 it = -1 <;> simp [fq_us, h1, h2]
theorem fq_unlink_o (g : fq_G) (it b : Nat) {r : Nat} (h : 6 ≤ r) : fq_unlinkF g it b r = g r := by
  have e0 : r ≠ 0 := by omega
  have e1 : r ≠ 1 := by omega
  have e2 : r ≠ 2 := by omega
  have e3 : r ≠ 3 := by omega
  have e5 : r ≠ 5 := by omega
  unfold fq_unlinkF
  by_cases h1 : g 2 it = -1 <;> by_cases h2 : g 3 it = -1 <;> simp [fq_us, h1, h2, e0, e1, e2, e3, e5]
/-- the buckets' rows are chains of L -/
def fq_LS (N : Nat) (g : fq_G) (L : Nat → List Nat) : Prop := ∀ b, b < 32 → fq_Ch (g 2) (g 3) (-1) (L b) (g 0 b) ∧ (L b).Nodup ∧ ∀ k ∈ L b, k < N ∧ g 5 k = nI b
def fq_upL (L : Nat → List Nat) (b : Nat) (l : List Nat) : Nat → List Nat := fun b' => if b' = b then l else L b'
theorem fq_LS_congr {N : Nat} {g g' : fq_G} {L : Nat → List Nat} (h0 : g' 0 = g 0) (h2 : g' 2 = g 2) (h3 : g' 3 = g 3) (h5 : g' 5 = g 5) (h : fq_LS N g L) : fq_LS N g' L := by
  intro b hb
  rw [h0, h2, h3, h5]
  exact h b hb
theorem fq_LS_first {N : Nat} {g : fq_G} {L : Nat → List Nat} (hN : N ≤ 40) (h : fq_LS N g L) {b : Nat} (hb : b < 32) : g 0 b = -1 ∨ ∃ f, f < 40 ∧ g 0 b = nI f := by
  obtain ⟨h1, h2, h3⟩ := h b hb
  rcases fq_Ch_hd h1 with ⟨e, -⟩ | ⟨j, t, e1, e2⟩
  · exact Or.inl e
  · exact Or.inr ⟨j, by have := (h3 j (by rw [e1]; simp)).1; omega, e2⟩
theorem fq_LS_nb {N : Nat} {g : fq_G} {L : Nat → List Nat} (hN : N ≤ 40) (h : fq_LS N g L) {b it : Nat} (hb : b < 32) (hm : it ∈ L b) :
    (g 3 it = -1 ∨ ∃ p, p < 40 ∧ p ≠ it ∧ g 3 it = nI p) ∧ (g 2 it = -1 ∨ ∃ q, q < 40 ∧ q ≠ it ∧ g 2 it = nI q) := by
  obtain ⟨h1, h2, h3⟩ := h b hb
  obtain ⟨a, c⟩ := fq_Ch_nb h1 h2 hm
  constructor
  · rcases a with a | ⟨j, hj, hne, e⟩
    · exact Or.inl a
    · exact Or.inr ⟨j, by have := (h3 j hj).1; omega, hne, e⟩
  · rcases c with a | ⟨j, hj, hne, e⟩
    · exact Or.inl a
    · exact Or.inr ⟨j, by have := (h3 j hj).1; omega, hne, e⟩
theorem fq_LS_apart {N : Nat} {g : fq_G} {L : Nat → List Nat} (h : fq_LS N g L) {b b' k : Nat} (hb : b < 32) (hb' : b' < 32) (h1 : k ∈ L b) (h2 : k ∈ L b') : b = b' := by
  have e1 := ((h b hb).2.2 k h1).2
  have e2 := ((h b' hb').2.2 k h2).2
  exact fq_eqI (by omega) (by omega) (e1.symm.trans e2)
theorem fq_LS_link {N : Nat} {g : fq_G} {L : Nat → List Nat} {it b : Nat} (h : fq_LS N g L) (hN : N ≤ 40) (hit : it < N) (hb : b < 32) (hn : ∀ b', b' < 32 → it ∉ L b') : fq_LS N (fq_linkF g it b) (fq_upL L b (it :: L b)) := by
  intro b' hb'
  obtain ⟨h1, h2, h3⟩ := h b' hb'
  rw [fq_link_0, fq_link_2, fq_link_3, fq_link_5]
  by_cases e : b' = b
  · subst e
    have eu : fq_upL L b' (it :: L b') b' = it :: L b' := by simp [fq_upL]
    rw [eu]
    refine ⟨?_, List.nodup_cons.mpr ⟨hn b' hb, h2⟩, fun k hk => ?_⟩
    · have e0 : upd (g 0) b' (nI it) b' = nI it := by simp [upd]
      rw [e0]
      exact fq_Ch_cons h1 (hn b' hb) h2 (fun k hk => by have := (h3 k hk).1; omega)
    · rcases List.mem_cons.mp hk with rfl | hk
      · exact ⟨hit, by simp [upd]⟩
      · have hki : k ≠ it := fun q => hn b' hb (by rw [← q]; exact hk)
        exact ⟨(h3 k hk).1, by simp [upd, hki, (h3 k hk).2]⟩
  · have eu : fq_upL L b (it :: L b) b' = L b' := by simp [fq_upL, e]
    rw [eu]
    have e0 : upd (g 0) b (nI it) b' = g 0 b' := by simp [upd, e]
    rw [e0]
    refine ⟨fq_Ch_congr (fun k hk => ?_) h1, h2, fun k hk => ?_⟩
    · have hki : k ≠ it := fun q => hn b' hb' (by rw [← q]; exact hk)
      refine ⟨by simp [upd, hki], ?_⟩
      by_cases hf : g 0 b = -1
      · rw [if_pos hf]
        simp [upd, hki]
      · rw [if_neg hf]
        obtain ⟨g1, g2, g3⟩ := h b hb
        rcases fq_Ch_hd g1 with ⟨e1, -⟩ | ⟨j, t, e1, e2⟩
        · exact absurd e1 hf
        · have hj : j ∈ L b := by rw [e1]; simp
          have hj2 := (g3 j hj).1
          rw [e2, nI_clamp (by omega)]
          have hkj : k ≠ j := fun q => e (fq_LS_apart h hb' hb hk (by rw [q]; exact hj))
          simp [upd, hki, hkj]
    · have hki : k ≠ it := fun q => hn b' hb' (by rw [← q]; exact hk)
      exact ⟨(h3 k hk).1, by simp [upd, hki, (h3 k hk).2]⟩
theorem fq_LS_unlink {N : Nat} {g : fq_G} {L : Nat → List Nat} {it b : Nat} (h : fq_LS N g L) (hN : N ≤ 40) (hb : b < 32) (hm : it ∈ L b) : fq_LS N (fq_unlinkF g it b) (fq_upL L b ((L b).erase it)) := by
  intro b' hb'
  obtain ⟨h1, h2, h3⟩ := h b' hb'
  obtain ⟨n1, n2⟩ := fq_LS_nb hN h hb hm
  rw [fq_unlink_0, fq_unlink_2, fq_unlink_3, fq_unlink_5]
  by_cases e : b' = b
  · subst e
    have eu : fq_upL L b' ((L b').erase it) b' = (L b').erase it := by simp [fq_upL]
    rw [eu]
    refine ⟨?_, h2.erase it, fun k hk => ?_⟩
    · have a := fq_Ch_del h1 h2 (fun k hk => by have := (h3 k hk).1; omega) hm
      have e0 : (if g 3 it = -1 then upd (g 0) b' (g 2 it) else g 0) b' = if g 3 it = -1 then g 2 it else g 0 b' := by
        split <;> simp [upd]
      rw [e0]
      exact a
    · have hk2 := (List.Nodup.mem_erase_iff h2).mp hk
      exact ⟨(h3 k hk2.2).1, by simp [upd, hk2.1, (h3 k hk2.2).2]⟩
  · have eu : fq_upL L b ((L b).erase it) b' = L b' := by simp [fq_upL, e]
    rw [eu]
    have e0 : (if g 3 it = -1 then upd (g 0) b (g 2 it) else g 0) b' = g 0 b' := by
      split <;> simp [upd, e]
    rw [e0]
    obtain ⟨g1, g2, g3⟩ := h b hb
    obtain ⟨m1, m2⟩ := fq_Ch_nb g1 g2 hm
    have hit : ∀ k ∈ L b', k ≠ it := fun k hk q => e (fq_LS_apart h hb' hb hk (by rw [q]; exact hm))
    have hst : ∀ k ∈ L b', ∀ j ∈ L b, k ≠ j := fun k hk j hj q => e (fq_LS_apart h hb' hb hk (by rw [q]; exact hj))
    refine ⟨fq_Ch_congr (fun k hk => ⟨?_, ?_⟩) h1, h2, fun k hk => ?_⟩
    · rcases m1 with m1 | ⟨j, hj, hne, ej⟩
      · rw [if_pos m1]
      · have hj2 := (g3 j hj).1
        rw [ej, if_neg (fq_nI_ne (by omega)), nI_clamp (by omega)]
        simp [upd, hst k hk j hj]
    · rcases m2 with m2 | ⟨j, hj, hne, ej⟩
      · rw [if_pos m2]
      · have hj2 := (g3 j hj).1
        rw [ej, if_neg (fq_nI_ne (by omega)), nI_clamp (by omega)]
        simp [upd, hst k hk j hj]
    · exact ⟨(h3 k hk).1, by simp [upd, hit k hk, (h3 k hk).2]⟩
/-- counts: how many items are said to be in a bucket -/
def fq_CT (g : fq_G) (N b : Nat) : Prop := g 1 b = nI (fq_cnt (fun k => decide (g 5 k = nI b)) N)
theorem fq_CT_link {g : fq_G} {N it b b' : Nat} (hit : it < N) (hb : b < 32) (hb' : b' < 32) (hne : g 5 it ≠ nI b') (h : fq_CT g N b') : fq_CT (fq_linkF g it b) N b' := by
  unfold fq_CT at h ⊢
  rw [fq_link_1, fq_link_5]
  by_cases e : b' = b
  · subst e
    have e1 : upd (g 1) b' (g 1 b' + 1) b' = g 1 b' + 1 := by simp [upd]
    rw [e1, h, nI_1]
    congr 1
    exact (fq_cnt_flip hit (by simp [hne]) (by simp [upd]) (fun k _ hk => by simp [upd, hk])).symm
  · have e1 : upd (g 1) b (g 1 b + 1) b' = g 1 b' := by simp [upd, e]
    rw [e1, h]
    congr 1
    refine fq_cnt_congr (fun k _ => ?_)
    by_cases hk : k = it
    · subst hk
      have e2 : ¬ nI b = nI b' := fun q => e (fq_eqI (by omega) (by omega) q).symm
      simp [upd, hne, e2]
    · simp [upd, hk]
theorem fq_CT_unlink {g : fq_G} {N it b b' : Nat} (hit : it < N) (hb : b < 32) (hb' : b' < 32) (hw : g 5 it = nI b) (h : fq_CT g N b') : fq_CT (fq_unlinkF g it b) N b' := by
  unfold fq_CT at h ⊢
  rw [fq_unlink_1, fq_unlink_5]
  by_cases e : b' = b
  · subst e
    have e1 : upd (g 1) b' (g 1 b' - 1) b' = g 1 b' - 1 := by simp [upd]
    have hm : ¬ (-1 : Int32) = nI b' := fun q => fq_nI_ne (by omega) q.symm
    rw [e1, h]
    rw [fq_cnt_flip (P := fun k => decide (upd (g 5) it (-1) k = nI b')) hit (by simp [upd, hm]) (by simp [hw]) (fun k _ hk => by simp [upd, hk]), nI_pred]
  · have e1 : upd (g 1) b (g 1 b - 1) b' = g 1 b' := by simp [upd, e]
    rw [e1, h]
    congr 1
    refine fq_cnt_congr (fun k _ => ?_)
    by_cases hk : k = it
    · subst hk
      have hm : ¬ (-1 : Int32) = nI b' := fun q => fq_nI_ne (by omega) q.symm
      have e2 : ¬ nI b = nI b' := fun q => e (fq_eqI (by omega) (by omega) q).symm
      simp [upd, hw, hm, e2]
    · simp [upd, hk]
end
section
/-! pure rows: the plain state (rows of FloorQueueModel), what push and lower do to it, and the buckets' picture of it -/
abbrev fq_th (a : fq_G) (k : Nat) : Bool := decide (a 0 k ≠ -1)
def fq_ph (a : fq_G) (k : Nat) : Nat := if a 0 k = -1 then 0 else fq_dk (a 0 k) (a 8 3)
def fq_phi (a : fq_G) (N : Nat) : Nat := fq_sum (fq_ph a) N
/-- the plain queue: N items, C calls, P placings; the bound on placings -/
def fq_AB (a : fq_G) (N C P : Nat) : Prop :=
  1 ≤ N ∧ N ≤ 40 ∧ a 8 0 = nI N ∧ 0 ≤ (a 8 3).toInt ∧ (∀ k, k < N → a 0 k = -1 ∨ (a 8 3).toInt ≤ (a 0 k).toInt) ∧ a 8 4 = nI P ∧ a 8 5 = nI C ∧ P + fq_phi a N ≤ 32 * C
/-- the buckets g hold the plain queue a -/
def fq_QB (g a : fq_G) (N : Nat) (L : Nat → List Nat) : Prop :=
  (g 12 0 = nI N ∧ g 12 3 = a 8 3 ∧ g 12 4 = nI (fq_cnt (fq_th a) N) ∧ g 12 5 = a 8 4 ∧ g 12 6 = a 8 5) ∧ fq_LS N g L ∧
  (∀ k, k < N → g 5 k = if a 0 k = -1 then -1 else nI (fq_dk (a 0 k) (a 8 3))) ∧
  (∀ k, k < N → a 0 k ≠ -1 → g 4 k = a 0 k ∧ k ∈ L (fq_dk (a 0 k) (a 8 3))) ∧ ∀ b, b < 32 → fq_CT g N b
/-- what the queue's own calls leave alone -/
def fq_FR (g u : fq_G) : Prop := (∀ r, 6 ≤ r → r ≠ 12 → u r = g r) ∧ ∀ j, (j < 3 ∨ 7 ≤ j) → u 12 j = g 12 j
theorem fq_FR.rf (g : fq_G) : fq_FR g g := ⟨fun _ _ _ => rfl, fun _ _ => rfl⟩
theorem fq_FR.trans {g u v : fq_G} (h1 : fq_FR g u) (h2 : fq_FR u v) : fq_FR g v := ⟨fun r a b => (h2.1 r a b).trans (h1.1 r a b), fun j a => (h2.2 j a).trans (h1.2 j a)⟩
theorem fq_FR.link (g : fq_G) (it b : Nat) : fq_FR g (fq_linkF g it b) := by
  refine ⟨fun r a c => fq_link_o g it b a c, fun j h => ?_⟩
  rw [fq_link_12]
  have h5 : j ≠ 5 := by omega
  simp [upd, h5]
theorem fq_FR.unlink (g : fq_G) (it b : Nat) : fq_FR g (fq_unlinkF g it b) := ⟨fun r a _ => fq_unlink_o g it b a, fun j _ => by rw [fq_unlink_o g it b (by omega)]⟩
theorem fq_FR.s4 (g : fq_G) (i : Nat) (x : Int32) : fq_FR g (fq_us g 4 i x) := by
  refine ⟨fun r a _ => ?_, fun j _ => by simp [fq_us]⟩
  have h4 : r ≠ 4 := by omega
  simp [fq_us, h4]
theorem fq_FR.s12 (g : fq_G) (i : Nat) (x : Int32) (h : 3 ≤ i) (h2 : i < 7) : fq_FR g (fq_us g 12 i x) := by
  refine ⟨fun r _ c => by simp [fq_us, c], fun j hj => ?_⟩
  have h4 : j ≠ i := by omega
  simp [fq_us, upd, h4]
theorem fq_key_ne {f x : Int32} (hf : 0 ≤ f.toInt) (h : f.toInt ≤ x.toInt) : x ≠ -1 := by
  intro q
  rw [q, fq_m1] at h
  omega
theorem fq_where_no {g a : fq_G} {N : Nat} {L : Nat → List Nat} (hQ : fq_QB g a N L) {it : Nat} (hit : it < N) (h0 : a 0 it = -1) : ∀ b, b < 32 → it ∉ L b := by
  intro b hb hm
  have h1 := ((hQ.2.1 b hb).2.2 it hm).2
  have h2 := hQ.2.2.1 it hit
  rw [if_pos h0] at h2
  rw [h2] at h1
  exact fq_nI_ne (by omega) h1.symm
def fq_pushA (a : fq_G) (it : Nat) (key : Int32) : fq_G := fq_us (fq_us (fq_us a 0 it key) 8 4 (a 8 4 + 1)) 8 5 (a 8 5 + 1)
theorem fq_pushA_0 (a : fq_G) (it : Nat) (key : Int32) : fq_pushA a it key 0 = upd (a 0) it key := by simp [fq_pushA, fq_us]
theorem fq_pushA_83 (a : fq_G) (it : Nat) (key : Int32) : fq_pushA a it key 8 3 = a 8 3 := by simp [fq_pushA, fq_us, upd]
theorem fq_cnt_th {a : fq_G} {N it : Nat} {a' : fq_G} {key : Int32} (hit : it < N) (h0 : a 0 it = -1) (hk : key ≠ -1) (e : a' 0 = upd (a 0) it key) : fq_cnt (fq_th a') N = fq_cnt (fq_th a) N + 1 := by
  refine fq_cnt_flip hit (by simp [fq_th, h0]) (by simp [fq_th, e, upd, hk]) (fun k _ hne => by simp [fq_th, e, upd, hne])
theorem fq_push_ok {g a : fq_G} {N C P : Nat} {L : Nat → List Nat} (hQ : fq_QB g a N L) (hA : fq_AB a N C P) {it : Nat} {key : Int32} (hit : it < N) (h0 : a 0 it = -1) (hk : (a 8 3).toInt ≤ key.toInt) :
    fq_QB (fq_us (fq_us (fq_linkF (fq_us g 4 it key) it (fq_dk key (a 8 3))) 12 4 (g 12 4 + 1)) 12 6 (g 12 6 + 1)) (fq_pushA a it key) N (fq_upL L (fq_dk key (a 8 3)) (it :: L (fq_dk key (a 8 3)))) := by
  have hno := fq_where_no hQ hit h0
  obtain ⟨⟨q0, q3, q4, q5, q6⟩, hL, hw, hkk, hct⟩ := hQ
  obtain ⟨n1, n40, a0, hf, hkeys, hP, hC, hb⟩ := hA
  have hkn : key ≠ -1 := fq_key_ne hf hk
  have hwi := hw it hit
  rw [if_pos h0] at hwi
  obtain ⟨b, eb⟩ : ∃ b, b = fq_dk key (a 8 3) := ⟨_, rfl⟩
  have hb32 : b < 32 := by rw [eb]; exact fq_dk_31 _ _
  rw [← eb]
  have hL1 : fq_LS N (fq_us g 4 it key) L := fq_LS_congr (by simp [fq_us]) (by simp [fq_us]) (by simp [fq_us]) (by simp [fq_us]) hL
  have hL2 := fq_LS_link hL1 n40 hit hb32 hno
  have e12 : fq_us g 4 it key 12 = g 12 := by simp [fq_us]
  have e5 : fq_us g 4 it key 5 = g 5 := by simp [fq_us]
  have e4 : fq_us g 4 it key 4 = upd (g 4) it key := by simp [fq_us]
  refine ⟨⟨?_, ?_, ?_, ?_, ?_⟩, ?_, ?_, ?_, ?_⟩
  · simp [fq_us, upd, fq_link_12, q0]
  · rw [fq_pushA_83]
    simp [fq_us, upd, fq_link_12, q3]
  · rw [fq_cnt_th hit h0 hkn (fq_pushA_0 a it key), ← nI_1, ← q4]
    simp [fq_us, upd]
  · simp [fq_us, upd, fq_link_12, fq_pushA, q5]
  · simp [fq_us, upd, fq_pushA, q6]
  · exact fq_LS_congr (by simp [fq_us]) (by simp [fq_us]) (by simp [fq_us]) (by simp [fq_us]) hL2
  · intro k hkN
    rw [fq_pushA_0, fq_pushA_83]
    have e : fq_us (fq_us (fq_linkF (fq_us g 4 it key) it b) 12 4 (g 12 4 + 1)) 12 6 (g 12 6 + 1) 5 = upd (g 5) it (nI b) := by
      simp only [fq_us, fq_link_5]
      simp
    rw [e]
    by_cases hki : k = it
    · subst hki
      simp [upd, hkn, eb]
    · simp [upd, hki, hw k hkN]
  · intro k hkN hka
    rw [fq_pushA_0, fq_pushA_83] at *
    have e : fq_us (fq_us (fq_linkF (fq_us g 4 it key) it b) 12 4 (g 12 4 + 1)) 12 6 (g 12 6 + 1) 4 = upd (g 4) it key := by
      simp only [fq_us, fq_link_4]
      simp
    rw [e]
    by_cases hki : k = it
    · subst hki
      simp [upd, fq_upL, eb]
    · have e2 : upd (a 0) it key k = a 0 k := by simp [upd, hki]
      rw [e2] at hka ⊢
      obtain ⟨h1, h2⟩ := hkk k hkN hka
      refine ⟨by simp [upd, hki, h1], ?_⟩
      unfold fq_upL
      split
      · rename_i q
        rw [← q]
        exact List.mem_cons_of_mem _ h2
      · exact h2
  · intro b' hb'
    have hc : fq_CT (fq_us g 4 it key) N b' := by
      have := hct b' hb'
      unfold fq_CT at this ⊢
      rw [e5]
      have e1 : fq_us g 4 it key 1 = g 1 := by simp [fq_us]
      rw [e1]
      exact this
    have h2 := fq_CT_link (b := b) hit hb32 hb' (by rw [e5, hwi]; exact fun q => fq_nI_ne (by omega) q.symm) hc
    unfold fq_CT at h2 ⊢
    have e1 : fq_us (fq_us (fq_linkF (fq_us g 4 it key) it b) 12 4 (g 12 4 + 1)) 12 6 (g 12 6 + 1) 1 = fq_linkF (fq_us g 4 it key) it b 1 := by simp [fq_us]
    have e6 : fq_us (fq_us (fq_linkF (fq_us g 4 it key) it b) 12 4 (g 12 4 + 1)) 12 6 (g 12 6 + 1) 5 = fq_linkF (fq_us g 4 it key) it b 5 := by simp [fq_us]
    rw [e1, e6]
    exact h2
theorem fq_pushA_ok {a : fq_G} {N C P : Nat} (hA : fq_AB a N C P) {it : Nat} {key : Int32} (hit : it < N) (h0 : a 0 it = -1) (hk : (a 8 3).toInt ≤ key.toInt) : fq_AB (fq_pushA a it key) N (C + 1) (P + 1) := by
  obtain ⟨n1, n40, a0, hf, hkeys, hP, hC, hb⟩ := hA
  have hkn : key ≠ -1 := fq_key_ne hf hk
  refine ⟨n1, n40, by simp [fq_pushA, fq_us, upd, a0], by rw [fq_pushA_83]; exact hf, ?_, by simp [fq_pushA, fq_us, upd, hP, nI_1], by simp [fq_pushA, fq_us, upd, hC, nI_1], ?_⟩
  · intro k hkN
    rw [fq_pushA_0, fq_pushA_83]
    by_cases hki : k = it
    · subst hki
      right
      simpa [upd] using hk
    · simp only [upd, if_neg hki]
      exact hkeys k hkN
  · have h1 := fq_sum_upd (f := fq_ph a) (f' := fq_ph (fq_pushA a it key)) hit (fun k _ hne => by simp [fq_ph, fq_pushA_0, fq_pushA_83, upd, hne])
    have h2 : fq_ph a it = 0 := by simp [fq_ph, h0]
    have h3 : fq_ph (fq_pushA a it key) it ≤ 31 := by
      unfold fq_ph
      split
      · omega
      · have := fq_dk_31 (fq_pushA a it key 0 it) (fq_pushA a it key 8 3)
        omega
    unfold fq_phi at hb ⊢
    omega
def fq_lowerA (a : fq_G) (it : Nat) (key : Int32) : fq_G := fq_us (fq_us (fq_us a 8 4 (a 8 4 + if fq_dk key (a 8 3) = fq_dk (a 0 it) (a 8 3) then 0 else 1)) 0 it key) 8 5 (a 8 5 + 1)
theorem fq_lowerA_0 (a : fq_G) (it : Nat) (key : Int32) : fq_lowerA a it key 0 = upd (a 0) it key := by simp [fq_lowerA, fq_us]
theorem fq_lowerA_83 (a : fq_G) (it : Nat) (key : Int32) : fq_lowerA a it key 8 3 = a 8 3 := by simp [fq_lowerA, fq_us, upd]
theorem fq_dk_mono {f x y : Int32} (hf : 0 ≤ f.toInt) (h1 : f.toInt ≤ x.toInt) (h2 : x.toInt ≤ y.toInt) : fq_dk x f ≤ fq_dk y f := by
  have a := fq_n_toInt hf
  have b := fq_n_toInt (x := x) (by omega)
  have c := fq_n_toInt (x := y) (by omega)
  exact fq_d_mono (by omega) (by omega)
theorem fq_lowerA_ok {a : fq_G} {N C P : Nat} (hA : fq_AB a N C P) {it : Nat} {key : Int32} (hit : it < N) (h0 : a 0 it ≠ -1) (hk : (a 8 3).toInt ≤ key.toInt) (hk2 : key.toInt ≤ (a 0 it).toInt) :
    fq_AB (fq_lowerA a it key) N (C + 1) (P + if fq_dk key (a 8 3) = fq_dk (a 0 it) (a 8 3) then 0 else 1) := by
  obtain ⟨n1, n40, a0, hf, hkeys, hP, hC, hb⟩ := hA
  have hkn : key ≠ -1 := fq_key_ne hf hk
  refine ⟨n1, n40, by simp [fq_lowerA, fq_us, upd, a0], by rw [fq_lowerA_83]; exact hf, ?_, ?_, by simp [fq_lowerA, fq_us, upd, hC, nI_1], ?_⟩
  · intro k hkN
    rw [fq_lowerA_0, fq_lowerA_83]
    by_cases hki : k = it
    · subst hki
      right
      simpa [upd] using hk
    · simp only [upd, if_neg hki]
      exact hkeys k hkN
  · have e : fq_lowerA a it key 8 4 = a 8 4 + if fq_dk key (a 8 3) = fq_dk (a 0 it) (a 8 3) then 0 else 1 := by simp [fq_lowerA, fq_us, upd]
    rw [e, hP]
    split
    · exact Int32.add_zero _
    · exact nI_1 P
  · have h1 := fq_sum_upd (f := fq_ph a) (f' := fq_ph (fq_lowerA a it key)) hit (fun k _ hne => by simp [fq_ph, fq_lowerA_0, fq_lowerA_83, upd, hne])
    have h2 : fq_ph a it = fq_dk (a 0 it) (a 8 3) := by simp [fq_ph, h0]
    have h3 : fq_ph (fq_lowerA a it key) it = fq_dk key (a 8 3) := by simp [fq_ph, fq_lowerA_0, fq_lowerA_83, upd, hkn]
    have h4 := fq_dk_mono hf hk hk2
    unfold fq_phi at hb ⊢
    split <;> omega
end
section
/-! pure rows: lower, the least item, laying anew, pop -/
theorem fq_mem_upL {L : Nat → List Nat} {b b' k it : Nat} (h : k ∈ L b') : k ∈ fq_upL L b (it :: L b) b' := by
  unfold fq_upL
  split
  · rename_i q
    rw [← q]
    exact List.mem_cons_of_mem _ h
  · exact h
theorem fq_mem_erL {L : Nat → List Nat} {b b' k it : Nat} (h : k ∈ L b') (hne : k ≠ it) : k ∈ fq_upL L b ((L b).erase it) b' := by
  unfold fq_upL
  split
  · rename_i q
    rw [← q]
    exact (List.mem_erase_of_ne hne).mpr h
  · exact h
theorem fq_QB_there {g a : fq_G} {N : Nat} {L : Nat → List Nat} (hQ : fq_QB g a N L) {it : Nat} (hit : it < N) : g 5 it = -1 ↔ a 0 it = -1 := by
  have h := hQ.2.2.1 it hit
  constructor
  · intro e
    by_cases c : a 0 it = -1
    · exact c
    · rw [if_neg c] at h
      have := fq_dk_31 (a 0 it) (a 8 3)
      exact absurd (h.symm.trans e) (fq_nI_ne (by omega))
  · intro e
    rw [if_pos e] at h
    exact h
theorem fq_lower_same {g a : fq_G} {N C P : Nat} {L : Nat → List Nat} (hQ : fq_QB g a N L) (hA : fq_AB a N C P) {it : Nat} {key : Int32} (hit : it < N) (h0 : a 0 it ≠ -1) (hk : (a 8 3).toInt ≤ key.toInt) (hd : fq_dk key (a 8 3) = fq_dk (a 0 it) (a 8 3)) :
    fq_QB (fq_us (fq_us g 4 it key) 12 6 (g 12 6 + 1)) (fq_lowerA a it key) N L := by
  obtain ⟨⟨q0, q3, q4, q5, q6⟩, hL, hw, hkk, hct⟩ := hQ
  obtain ⟨n1, n40, a0, hf, hkeys, hP, hC, hb⟩ := hA
  have hkn : key ≠ -1 := fq_key_ne hf hk
  have e5 : fq_us (fq_us g 4 it key) 12 6 (g 12 6 + 1) 5 = g 5 := by simp [fq_us]
  have e1 : fq_us (fq_us g 4 it key) 12 6 (g 12 6 + 1) 1 = g 1 := by simp [fq_us]
  have e4 : fq_us (fq_us g 4 it key) 12 6 (g 12 6 + 1) 4 = upd (g 4) it key := by simp [fq_us]
  refine ⟨⟨?_, ?_, ?_, ?_, ?_⟩, ?_, ?_, ?_, ?_⟩
  · simp [fq_us, upd, q0]
  · rw [fq_lowerA_83]
    simp [fq_us, upd, q3]
  · rw [fq_cnt_congr (P' := fq_th a) (fun k _ => ?_), ← q4]
    · simp [fq_us, upd]
    · by_cases hki : k = it
      · subst hki
        simp [fq_th, fq_lowerA_0, upd, hkn, h0]
      · simp [fq_th, fq_lowerA_0, upd, hki]
  · have e : fq_lowerA a it key 8 4 = a 8 4 := by
      simp only [fq_lowerA, fq_us, hd]
      simp [upd]
    rw [e]
    simp [fq_us, upd, q5]
  · simp [fq_us, upd, fq_lowerA, q6]
  · exact fq_LS_congr (by simp [fq_us]) (by simp [fq_us]) (by simp [fq_us]) (by simp [fq_us]) hL
  · intro k hkN
    rw [e5, fq_lowerA_0, fq_lowerA_83]
    by_cases hki : k = it
    · subst hki
      have := hw k hkN
      rw [if_neg h0] at this
      simp [upd, hkn, this, hd]
    · simp [upd, hki, hw k hkN]
  · intro k hkN hka
    rw [fq_lowerA_0] at hka
    rw [e4, fq_lowerA_0, fq_lowerA_83]
    by_cases hki : k = it
    · subst hki
      have := (hkk k hkN h0).2
      rw [← hd] at this
      simp [upd, this]
    · simp only [upd, if_neg hki] at hka ⊢
      exact hkk k hkN hka
  · intro b' hb'
    have h2 := hct b' hb'
    unfold fq_CT at h2 ⊢
    rw [e1, e5]
    exact h2
theorem fq_lower_move {g a : fq_G} {N C P : Nat} {L : Nat → List Nat} (hQ : fq_QB g a N L) (hA : fq_AB a N C P) {it : Nat} {key : Int32} (hit : it < N) (h0 : a 0 it ≠ -1) (hk : (a 8 3).toInt ≤ key.toInt) (hd : fq_dk key (a 8 3) ≠ fq_dk (a 0 it) (a 8 3)) :
    ∃ L', fq_QB (fq_us (fq_linkF (fq_unlinkF (fq_us g 4 it key) it (fq_dk (a 0 it) (a 8 3))) it (fq_dk key (a 8 3))) 12 6 (g 12 6 + 1)) (fq_lowerA a it key) N L' := by
  obtain ⟨⟨q0, q3, q4, q5, q6⟩, hL, hw, hkk, hct⟩ := hQ
  obtain ⟨n1, n40, a0, hf, hkeys, hP, hC, hb⟩ := hA
  have hkn : key ≠ -1 := fq_key_ne hf hk
  obtain ⟨b, eb⟩ : ∃ b, b = fq_dk key (a 8 3) := ⟨_, rfl⟩
  obtain ⟨b0, eb0⟩ : ∃ b, b = fq_dk (a 0 it) (a 8 3) := ⟨_, rfl⟩
  have hb32 : b < 32 := by rw [eb]; exact fq_dk_31 _ _
  have hb032 : b0 < 32 := by rw [eb0]; exact fq_dk_31 _ _
  rw [← eb, ← eb0]
  rw [← eb, ← eb0] at hd
  have hm : it ∈ L b0 := by rw [eb0]; exact (hkk it hit h0).2
  have hwi : g 5 it = nI b0 := by
    have := hw it hit
    rw [if_neg h0] at this
    rw [this, eb0]
  obtain ⟨g1, eg1⟩ : ∃ g1, g1 = fq_us g 4 it key := ⟨_, rfl⟩
  have k5 : g1 5 = g 5 := by rw [eg1]; simp [fq_us]
  have k4 : g1 4 = upd (g 4) it key := by rw [eg1]; simp [fq_us]
  have k1 : g1 1 = g 1 := by rw [eg1]; simp [fq_us]
  have k12 : g1 12 = g 12 := by rw [eg1]; simp [fq_us]
  have hL1 : fq_LS N g1 L := fq_LS_congr (by rw [eg1]; simp [fq_us]) (by rw [eg1]; simp [fq_us]) (by rw [eg1]; simp [fq_us]) k5 hL
  rw [← eg1]
  have hL2 := fq_LS_unlink hL1 n40 hb032 hm
  have hno : ∀ b', b' < 32 → it ∉ fq_upL L b0 ((L b0).erase it) b' := by
    intro b' hb' q
    have h5 := ((hL2 b' hb').2.2 it q).2
    rw [fq_unlink_5] at h5
    simp only [upd, if_true] at h5
    exact fq_nI_ne (by omega) h5.symm
  have hL3 := fq_LS_link hL2 n40 hit hb32 hno
  obtain ⟨u, eu⟩ : ∃ u, u = fq_us (fq_linkF (fq_unlinkF g1 it b0) it b) 12 6 (g 12 6 + 1) := ⟨_, rfl⟩
  rw [← eu]
  have u5 : u 5 = upd (upd (g 5) it (-1)) it (nI b) := by
    rw [eu]
    simp only [fq_us, fq_link_5, fq_unlink_5, k5]
    simp
  have u4 : u 4 = upd (g 4) it key := by
    rw [eu]
    simp only [fq_us, fq_link_4, fq_unlink_4, k4]
    simp
  have u12 : u 12 = upd (upd (g 12) 5 (g 12 5 + 1)) 6 (g 12 6 + 1) := by
    rw [eu]
    simp only [fq_us, fq_link_12, fq_unlink_o (r := 12) g1 it b0 (by omega), k12]
    simp
  refine ⟨_, ⟨?_, ?_, ?_, ?_, ?_⟩, fq_LS_congr (by rw [eu]; simp [fq_us]) (by rw [eu]; simp [fq_us]) (by rw [eu]; simp [fq_us]) (by rw [eu]; simp [fq_us]) hL3, ?_, ?_, ?_⟩
  · rw [u12]
    simp [upd, q0]
  · rw [u12, fq_lowerA_83]
    simp [upd, q3]
  · rw [fq_cnt_congr (P' := fq_th a) (fun k _ => ?_), ← q4, u12]
    · simp [upd]
    · by_cases hki : k = it
      · subst hki
        simp [fq_th, fq_lowerA_0, upd, hkn, h0]
      · simp [fq_th, fq_lowerA_0, upd, hki]
  · have e : fq_lowerA a it key 8 4 = a 8 4 + 1 := by
      simp only [fq_lowerA, fq_us, ← eb, ← eb0, if_neg hd]
      simp [upd]
    rw [e, u12]
    simp [upd, q5]
  · rw [u12]
    simp [fq_us, upd, fq_lowerA, q6]
  · intro k hkN
    rw [u5, fq_lowerA_0, fq_lowerA_83]
    by_cases hki : k = it
    · subst hki
      simp [upd, hkn, eb]
    · simp [upd, hki, hw k hkN]
  · intro k hkN hka
    rw [fq_lowerA_0] at hka
    rw [u4, fq_lowerA_0, fq_lowerA_83]
    by_cases hki : k = it
    · subst hki
      simp [upd, fq_upL, eb]
    · simp only [upd, if_neg hki] at hka ⊢
      obtain ⟨z1, z2⟩ := hkk k hkN hka
      exact ⟨z1, fq_mem_upL (fq_mem_erL z2 hki)⟩
  · intro b' hb'
    have h1 : fq_CT g1 N b' := by
      have := hct b' hb'
      unfold fq_CT at this ⊢
      rw [k1, k5]
      exact this
    have h2 := fq_CT_unlink hit hb032 hb' (by rw [k5]; exact hwi) h1
    have h3 := fq_CT_link (b := b) hit hb32 hb' (by rw [fq_unlink_5]; simp only [upd, if_true]; exact fun q => fq_nI_ne (by omega) q.symm) h2
    unfold fq_CT at h3 ⊢
    rw [eu]
    have e1 : ∀ (z : fq_G) (x : Int32), fq_us z 12 6 x 1 = z 1 := fun z x => by simp [fq_us]
    have e5 : ∀ (z : fq_G) (x : Int32), fq_us z 12 6 x 5 = z 5 := fun z x => by simp [fq_us]
    rw [e1, e5]
    exact h3
/-- f goes ahead of k -/
def fq_bt (K : Nat → Int32) (f k : Nat) : Prop := K f < K k ∨ (K f = K k ∧ f ≤ k)
theorem fq_bt_rf (K : Nat → Int32) (f : Nat) : fq_bt K f f := Or.inr ⟨rfl, Nat.le_refl _⟩
theorem fq_bt_tr {K : Nat → Int32} {f k j : Nat} (h1 : fq_bt K f k) (h2 : fq_bt K k j) : fq_bt K f j := by
  unfold fq_bt at *
  simp only [Int32.lt_iff_toInt_lt, ← Int32.toInt_inj] at *
  omega
theorem fq_bt_lt {K : Nat → Int32} {f j : Nat} (h : K j < K f) : fq_bt K j f := Or.inl h
theorem fq_bt_no {K : Nat → Int32} {f j : Nat} (c1 : ¬ K j < K f) (c2 : ¬ K j = K f) : fq_bt K f j := by
  unfold fq_bt
  simp only [Int32.lt_iff_toInt_lt, ← Int32.toInt_inj] at *
  omega
theorem fq_bt_eq {K : Nat → Int32} {f j : Nat} (c1 : K j = K f) (c2 : f ≤ j) : fq_bt K f j := Or.inr ⟨c1.symm, c2⟩
theorem fq_bt_le {K : Nat → Int32} {f k : Nat} (h : fq_bt K f k) : (K f).toInt ≤ (K k).toInt := by
  unfold fq_bt at h
  simp only [Int32.lt_iff_toInt_lt, ← Int32.toInt_inj] at h
  omega
/-- f is the least item -/
def fq_isL (K : Nat → Int32) (N f : Nat) : Prop := f < N ∧ K f ≠ -1 ∧ ∀ k, k < N → K k ≠ -1 → fq_bt K f k
theorem fq_isL_uniq {K : Nat → Int32} {N f f' : Nat} (h : fq_isL K N f) (h' : fq_isL K N f') : f = f' := by
  have a := h.2.2 f' h'.1 h'.2.1
  have b := h'.2.2 f h.1 h.2.1
  unfold fq_bt at a b
  simp only [Int32.lt_iff_toInt_lt, ← Int32.toInt_inj] at a b
  omega
def fq_Nx (nx : Nat → Int32) : List Nat → Int32 → Prop
  | [], x => x = -1
  | k :: t, x => x = nI k ∧ fq_Nx nx t (nx k)
theorem fq_Nx_of {nx bf : Nat → Int32} {l : List Nat} : ∀ {pv hd : Int32}, fq_Ch nx bf pv l hd → fq_Nx nx l hd := by
  induction l with
  | nil => intro pv hd h; exact h
  | cons x t ih => intro pv hd h; exact ⟨h.1, ih h.2.2⟩
theorem fq_Nx_congr {nx nx' : Nat → Int32} {l : List Nat} : ∀ {x : Int32}, (∀ k ∈ l, nx' k = nx k) → fq_Nx nx l x → fq_Nx nx' l x := by
  induction l with
  | nil => intro x _ h; exact h
  | cons y t ih =>
    intro x he h
    refine ⟨h.1, ?_⟩
    rw [he y List.mem_cons_self]
    exact ih (fun k hk => he k (List.mem_cons_of_mem _ hk)) h.2
theorem fq_Nx_nil {nx : Nat → Int32} {l : List Nat} {x : Int32} (h : fq_Nx nx l x) (hs : ∀ k ∈ l, k < 40) (c : x = -1) : l = [] := by
  cases l with
  | nil => rfl
  | cons y t =>
    have := hs y List.mem_cons_self
    exact absurd (h.1.symm.trans c) (fq_nI_ne (by omega))
theorem fq_Nx_cons {nx : Nat → Int32} {l : List Nat} {x : Int32} (h : fq_Nx nx l x) (c : ¬ x = -1) : ∃ j t, l = j :: t ∧ x = nI j ∧ fq_Nx nx t (nx j) := by
  cases l with
  | nil => exact absurd h c
  | cons y t => exact ⟨y, t, rfl, h.1, h.2⟩
/-- laying anew: R is what is still to be laid -/
def fq_LA (g g1 : fq_G) (N b : Nat) (nf : Int32) (L L1 : Nat → List Nat) (R : List Nat) : Prop :=
  (fq_LS N g1 L1 ∧ L1 b = [] ∧ R.Nodup) ∧ ((∀ k ∈ R, k ∈ L b ∧ g1 5 k = nI b) ∧ (∀ k, k < N → g1 5 k = nI b → k ∈ R)) ∧ (g1 4 = g 4 ∧ g1 12 3 = nf) ∧
  (∀ k ∈ L b, k ∉ R → g1 5 k = nI (fq_dk (g 4 k) nf) ∧ k ∈ L1 (fq_dk (g 4 k) nf)) ∧
  (∀ k, k < N → k ∉ L b → g1 5 k = g 5 k ∧ ∀ b', b' < 32 → b' ≠ b → k ∈ L b' → k ∈ L1 b') ∧
  (g1 12 5 + nI (fq_cnt (fun k => decide (g1 5 k = nI b)) N) = g 12 5 + nI (fq_cnt (fun k => decide (g 5 k = nI b)) N)) ∧
  ((∀ b', b' < 32 → b' ≠ b → fq_CT g1 N b') ∧ g1 1 b = 0) ∧ (∀ r, 6 ≤ r → r ≠ 12 → g1 r = g r) ∧ ∀ j, j ≠ 3 → j ≠ 5 → g1 12 j = g 12 j
theorem fq_LA_init {g : fq_G} {N b : Nat} {nf : Int32} {L : Nat → List Nat} (hL : fq_LS N g L) (hN : N ≤ 40) (hb : b < 32) (h2 : ∀ k, k < N → g 5 k = nI b → k ∈ L b) (hct : ∀ b', b' < 32 → fq_CT g N b') :
    fq_LA g (fq_us (fq_us (fq_us g 12 3 nf) 0 b (-1)) 1 b 0) N b nf L (fq_upL L b []) (L b) := by
  obtain ⟨u, eu⟩ : ∃ u, u = fq_us (fq_us (fq_us g 12 3 nf) 0 b (-1)) 1 b 0 := ⟨_, rfl⟩
  rw [← eu]
  have u0 : u 0 = upd (g 0) b (-1) := by rw [eu]; simp [fq_us]
  have u1 : u 1 = upd (g 1) b 0 := by rw [eu]; simp [fq_us]
  have u2 : u 2 = g 2 := by rw [eu]; simp [fq_us]
  have u3 : u 3 = g 3 := by rw [eu]; simp [fq_us]
  have u4 : u 4 = g 4 := by rw [eu]; simp [fq_us]
  have u5 : u 5 = g 5 := by rw [eu]; simp [fq_us]
  have u12 : u 12 = upd (g 12) 3 nf := by rw [eu]; simp [fq_us]
  refine ⟨⟨?_, by simp [fq_upL], (hL b hb).2.1⟩, ⟨fun k hk => ⟨hk, by rw [u5]; exact ((hL b hb).2.2 k hk).2⟩, fun k hk e => h2 k hk (by rw [← u5]; exact e)⟩, ⟨u4, by rw [u12]; simp [upd]⟩, fun k hk hn => absurd hk hn, fun k hk hn => ⟨by rw [u5], fun b' hb' hne hm => by simp [fq_upL, hne, hm]⟩, ?_, ⟨fun b' hb' hne => ?_, by rw [u1]; simp [upd]⟩, fun r h6 h12 => ?_, fun j h3 h5 => by rw [u12]; simp [upd, h3]⟩
  · intro b' hb'
    rw [u0, u2, u3, u5]
    by_cases e : b' = b
    · subst e
      have e1 : fq_upL L b' [] b' = [] := by simp [fq_upL]
      rw [e1]
      refine ⟨?_, List.nodup_nil, fun k hk => by cases hk⟩
      show upd (g 0) b' (-1) b' = -1
      simp [upd]
    · have e1 : fq_upL L b [] b' = L b' := by simp [fq_upL, e]
      have e2 : upd (g 0) b (-1) b' = g 0 b' := by simp [upd, e]
      rw [e1, e2]
      exact hL b' hb'
  · rw [u5, u12]
    simp [upd]
  · have := hct b' hb'
    unfold fq_CT at this ⊢
    rw [u5, u1]
    simp only [upd, if_neg hne]
    exact this
  · rw [eu]
    have z0 : r ≠ 0 := by omega
    have z1 : r ≠ 1 := by omega
    simp [fq_us, z0, z1, h12]
theorem fq_LA_step {g g1 : fq_G} {N b : Nat} {nf : Int32} {L L1 : Nat → List Nat} {k : Nat} {t : List Nat} (hN : N ≤ 40) (hb : b < 32) (hLb : ∀ k ∈ L b, k < N) (hd : ∀ k ∈ L b, fq_dk (g 4 k) nf < b) (h : fq_LA g g1 N b nf L L1 (k :: t)) :
    fq_LA g (fq_linkF g1 k (fq_dk (g 4 k) nf)) N b nf L (fq_upL L1 (fq_dk (g 4 k) nf) (k :: L1 (fq_dk (g 4 k) nf))) t := by
  obtain ⟨⟨hL1, hb0, hnd⟩, ⟨hR, hR2⟩, ⟨h4, h123⟩, hpr, hot, hpl, ⟨hct, h1b⟩, hfr, hfr2⟩ := h
  have hk := hR k List.mem_cons_self
  have hkN := hLb k hk.1
  have hdk := hd k hk.1
  obtain ⟨c, ec⟩ : ∃ c, c = fq_dk (g 4 k) nf := ⟨_, rfl⟩
  rw [← ec] at hdk ⊢
  have hc32 : c < 32 := by omega
  have hcb : c ≠ b := by omega
  have hn1 := List.nodup_cons.mp hnd
  have hno : ∀ b', b' < 32 → k ∉ L1 b' := by
    intro b' hb' q
    have e := ((hL1 b' hb').2.2 k q).2
    have e2 : b' = b := fq_eqI (by omega) (by omega) (e.symm.trans hk.2)
    rw [e2, hb0] at q
    cases q
  have htk : ∀ j ∈ t, j ≠ k := fun j hj q => hn1.1 (by rw [← q]; exact hj)
  have hnb : nI c ≠ nI b := fun q => hcb (fq_eqI (by omega) (by omega) q)
  refine ⟨⟨fq_LS_link hL1 hN hkN hc32 hno, by simp [fq_upL, Ne.symm hcb, hb0], hn1.2⟩, ⟨fun j hj => ⟨(hR j (List.mem_cons_of_mem _ hj)).1, ?_⟩, fun j hj e => ?_⟩, ⟨by rw [fq_link_4, h4], by rw [fq_link_12]; simp [upd, h123]⟩, fun j hj hjt => ?_, fun j hj hjb => ?_, ?_, ⟨fun b' hb' hne => ?_, ?_⟩, fun r h6 h12 => by rw [fq_link_o g1 k c h6 h12]; exact hfr r h6 h12, fun j h3 h5 => ?_⟩
  · rw [fq_link_5]
    simp only [upd, if_neg (htk j hj)]
    exact (hR j (List.mem_cons_of_mem _ hj)).2
  · rw [fq_link_5] at e
    by_cases hjk : j = k
    · subst hjk
      simp only [upd, if_true] at e
      exact absurd e hnb
    · simp only [upd, if_neg hjk] at e
      rcases List.mem_cons.mp (hR2 j hj e) with q | q
      · exact absurd q hjk
      · exact q
  · rw [fq_link_5]
    by_cases hjk : j = k
    · subst hjk
      rw [← ec]
      exact ⟨by simp [upd], by simp [fq_upL]⟩
    · obtain ⟨z1, z2⟩ := hpr j hj (fun q => by rcases List.mem_cons.mp q with q | q; exact hjk q; exact hjt q)
      exact ⟨by simp only [upd, if_neg hjk]; exact z1, fq_mem_upL z2⟩
  · have hjk : j ≠ k := fun q => hjb (by rw [q]; exact hk.1)
    obtain ⟨z1, z2⟩ := hot j hj hjb
    rw [fq_link_5]
    exact ⟨by simp only [upd, if_neg hjk]; exact z1, fun b' hb' hne hm => fq_mem_upL (z2 b' hb' hne hm)⟩
  · rw [fq_link_5, fq_link_12, ← hpl]
    have e := fq_cnt_flip (P := fun j => decide (upd (g1 5) k (nI c) j = nI b)) (P' := fun j => decide (g1 5 j = nI b)) hkN (by simp [upd, hnb]) (by simp [hk.2]) (fun j _ hne => by simp [upd, hne])
    rw [e]
    have e2 : upd (g1 12) 5 (g1 12 5 + 1) 5 = g1 12 5 + 1 := by simp [upd]
    rw [e2, ← nI_1, Int32.add_assoc, Int32.add_comm 1]
  · exact fq_CT_link hkN hc32 hb' (by rw [hk.2]; exact fun q => hne (fq_eqI (by omega) (by omega) q).symm) (hct b' hb' hne)
  · rw [fq_link_1]
    simp only [upd, if_neg (Ne.symm hcb)]
    exact h1b
  · rw [fq_link_12]
    simp only [upd, if_neg h5]
    exact hfr2 j h3 h5
end
section
/-! pure rows: pop -/
def fq_inb (a : fq_G) (b k : Nat) : Bool := decide (a 0 k ≠ -1 ∧ fq_dk (a 0 k) (a 8 3) = b)
/-- the floor comes to f's key: f's bucket is laid anew -/
def fq_popM (a : fq_G) (N f : Nat) : fq_G := fq_us (fq_us a 8 4 (a 8 4 + nI (fq_cnt (fq_inb a (fq_dk (a 0 f) (a 8 3))) N))) 8 3 (a 0 f)
def fq_popG (a : fq_G) (N f : Nat) : fq_G := fq_us (if fq_dk (a 0 f) (a 8 3) = 0 then a else fq_popM a N f) 0 f (-1)
theorem fq_popM_0 (a : fq_G) (N f : Nat) : fq_popM a N f 0 = a 0 := by simp [fq_popM, fq_us]
theorem fq_popM_83 (a : fq_G) (N f : Nat) : fq_popM a N f 8 3 = a 0 f := by simp [fq_popM, fq_us, upd]
theorem fq_QB_unlink {g a : fq_G} {N : Nat} {L : Nat → List Nat} (hQ : fq_QB g a N L) (hN : N ≤ 40) {it b : Nat} (hit : it < N) (h0 : a 0 it ≠ -1) (hb : b = fq_dk (a 0 it) (a 8 3)) :
    fq_QB (fq_us (fq_unlinkF g it b) 12 4 (g 12 4 - 1)) (fq_us a 0 it (-1)) N (fq_upL L b ((L b).erase it)) := by
  obtain ⟨⟨q0, q3, q4, q5, q6⟩, hL, hw, hkk, hct⟩ := hQ
  have hb32 : b < 32 := by rw [hb]; exact fq_dk_31 _ _
  have hm : it ∈ L b := by rw [hb]; exact (hkk it hit h0).2
  have hwi : g 5 it = nI b := by
    have := hw it hit
    rw [if_neg h0] at this
    rw [this, hb]
  obtain ⟨u, eu⟩ : ∃ u, u = fq_us (fq_unlinkF g it b) 12 4 (g 12 4 - 1) := ⟨_, rfl⟩
  rw [← eu]
  have u5 : u 5 = upd (g 5) it (-1) := by
    rw [eu]
    simp only [fq_us, fq_unlink_5]
    simp
  have u4 : u 4 = g 4 := by
    rw [eu]
    simp only [fq_us, fq_unlink_4]
    simp
  have u12 : u 12 = upd (g 12) 4 (g 12 4 - 1) := by
    rw [eu]
    simp only [fq_us, fq_unlink_o (r := 12) g it b (by omega)]
    simp
  have z0 : fq_us a 0 it (-1) 0 = upd (a 0) it (-1) := by simp [fq_us]
  have z8 : fq_us a 0 it (-1) 8 = a 8 := by simp [fq_us]
  refine ⟨⟨?_, ?_, ?_, ?_, ?_⟩, fq_LS_congr (by rw [eu]; simp [fq_us]) (by rw [eu]; simp [fq_us]) (by rw [eu]; simp [fq_us]) (by rw [eu]; simp [fq_us]) (fq_LS_unlink hL hN hb32 hm), ?_, ?_, ?_⟩
  · rw [u12]
    simp [upd, q0]
  · rw [u12, z8]
    simp [upd, q3]
  · rw [u12]
    have e := fq_cnt_flip (P := fq_th (fq_us a 0 it (-1))) (P' := fq_th a) hit (by simp [fq_th, z0, upd]) (by simp [fq_th, h0]) (fun k _ hne => by simp [fq_th, z0, upd, hne])
    have e2 : upd (g 12) 4 (g 12 4 - 1) 4 = g 12 4 - 1 := by simp [upd]
    rw [e2, q4, e, nI_pred]
  · rw [u12, z8]
    simp [upd, q5]
  · rw [u12, z8]
    simp [upd, q6]
  · intro k hkN
    rw [u5, z0, z8]
    by_cases hki : k = it
    · subst hki
      simp [upd]
    · simp [upd, hki, hw k hkN]
  · intro k hkN hka
    rw [z0] at hka
    rw [u4, z0, z8]
    by_cases hki : k = it
    · subst hki
      simp [upd] at hka
    · simp only [upd, if_neg hki] at hka ⊢
      obtain ⟨y1, y2⟩ := hkk k hkN hka
      exact ⟨y1, fq_mem_erL y2 hki⟩
  · intro b' hb'
    have h2 := fq_CT_unlink hit hb32 hb' hwi (hct b' hb')
    unfold fq_CT at h2 ⊢
    rw [eu]
    have e1 : ∀ (z : fq_G) (x : Int32), fq_us z 12 4 x 1 = z 1 := fun z x => by simp [fq_us]
    have e5 : ∀ (z : fq_G) (x : Int32), fq_us z 12 4 x 5 = z 5 := fun z x => by simp [fq_us]
    rw [e1, e5]
    exact h2
theorem fq_isL_ge {a : fq_G} {N C P f k : Nat} (hA : fq_AB a N C P) (hf : fq_isL (a 0) N f) (hk : k < N) (hk0 : a 0 k ≠ -1) : fq_dk (a 0 f) (a 8 3) ≤ fq_dk (a 0 k) (a 8 3) := by
  obtain ⟨n1, n40, a0, hfl, hkeys, hP, hC, hb⟩ := hA
  have h1 := (hkeys f hf.1).resolve_left hf.2.1
  exact fq_dk_mono hfl h1 (fq_bt_le (hf.2.2 k hk hk0))
/-- the keys of f's bucket come to lower ones -/
theorem fq_laid_lt {a : fq_G} {N C P f k : Nat} (hA : fq_AB a N C P) (hf : fq_isL (a 0) N f) (hb : 0 < fq_dk (a 0 f) (a 8 3)) (hd : fq_dk (a 0 k) (a 8 3) = fq_dk (a 0 f) (a 8 3)) : fq_dk (a 0 k) (a 0 f) < fq_dk (a 0 f) (a 8 3) := fq_d_new hd hb
theorem fq_laid_keep {a : fq_G} {f k : Nat} (h : fq_dk (a 0 f) (a 8 3) < fq_dk (a 0 k) (a 8 3)) : fq_dk (a 0 k) (a 0 f) = fq_dk (a 0 k) (a 8 3) := fq_d_keep h
theorem fq_QB_mem {g a : fq_G} {N : Nat} {L : Nat → List Nat} (hQ : fq_QB g a N L) {b k : Nat} (hb : b < 32) (hm : k ∈ L b) : k < N ∧ a 0 k ≠ -1 ∧ fq_dk (a 0 k) (a 8 3) = b ∧ g 4 k = a 0 k := by
  obtain ⟨h1, h2⟩ := (hQ.2.1 b hb).2.2 k hm
  have h3 := hQ.2.2.1 k h1
  have h4 : a 0 k ≠ -1 := by
    intro c
    rw [if_pos c] at h3
    exact fq_nI_ne (by omega) (h2.symm.trans h3)
  rw [if_neg h4] at h3
  have := fq_dk_31 (a 0 k) (a 8 3)
  exact ⟨h1, h4, fq_eqI (by omega) (by omega) (h3.symm.trans h2), (hQ.2.2.2.1 k h1 h4).1⟩
theorem fq_QB_all {g a : fq_G} {N : Nat} {L : Nat → List Nat} (hQ : fq_QB g a N L) {b k : Nat} (hb : b < 32) (hk : k < N) (h : g 5 k = nI b) : k ∈ L b := by
  have h3 := hQ.2.2.1 k hk
  have h4 : a 0 k ≠ -1 := by
    intro c
    rw [if_pos c] at h3
    exact fq_nI_ne (by omega) (h.symm.trans h3)
  rw [if_neg h4] at h3
  have := fq_dk_31 (a 0 k) (a 8 3)
  rw [← fq_eqI (by omega) (by omega) (h3.symm.trans h)]
  exact (hQ.2.2.2.1 k hk h4).2
theorem fq_QB_laid {g a u : fq_G} {N C P f b : Nat} {L L1 : Nat → List Nat} (hQ : fq_QB g a N L) (hA : fq_AB a N C P) (hf : fq_isL (a 0) N f) (hb : b = fq_dk (a 0 f) (a 8 3)) (hb0 : 0 < b) (h : fq_LA g u N b (a 0 f) L L1 []) : fq_QB u (fq_popM a N f) N L1 := by
  have hb32 : b < 32 := by rw [hb]; exact fq_dk_31 _ _
  have hQ2 := hQ
  obtain ⟨⟨q0, q3, q4, q5, q6⟩, hL, hw, hkk, hct⟩ := hQ
  obtain ⟨⟨hL1, hbn, hnd⟩, ⟨hR, hR2⟩, ⟨h4, h123⟩, hpr, hot, hpl, ⟨hct1, h1b⟩, hfr, hfr2⟩ := h
  have hz : fq_cnt (fun k => decide (u 5 k = nI b)) N = 0 := fq_cnt_zero.mpr (fun k hk => by
    by_cases c : u 5 k = nI b
    · have q := hR2 k hk c
      cases q
    · simp [c])
  have hcase : ∀ k, k < N → a 0 k ≠ -1 → (k ∈ L b ∧ fq_dk (a 0 k) (a 8 3) = b) ∨ (k ∉ L b ∧ b < fq_dk (a 0 k) (a 8 3)) := by
    intro k hk hk0
    have h1 := fq_isL_ge hA hf hk hk0
    rw [← hb] at h1
    by_cases c : fq_dk (a 0 k) (a 8 3) = b
    · left
      have := (hkk k hk hk0).2
      rw [c] at this
      exact ⟨this, c⟩
    · right
      refine ⟨fun q => c (fq_QB_mem hQ2 hb32 q).2.2.1, by omega⟩
  refine ⟨⟨?_, ?_, ?_, ?_, ?_⟩, hL1, ?_, ?_, ?_⟩
  · rw [hfr2 0 (by decide) (by decide)]
    exact q0
  · rw [h123, fq_popM_83]
  · rw [hfr2 4 (by decide) (by decide), q4]
    exact congrArg nI (fq_cnt_congr (fun k _ => by simp [fq_th, fq_popM_0]))
  · rw [hz, nI_0, Int32.add_zero, q5] at hpl
    rw [hpl]
    have e : fq_popM a N f 8 4 = a 8 4 + nI (fq_cnt (fq_inb a (fq_dk (a 0 f) (a 8 3))) N) := by simp [fq_popM, fq_us, upd]
    rw [e]
    congr 2
    refine fq_cnt_congr (fun k hk => ?_)
    rw [← hb]
    by_cases c : a 0 k = -1
    · have e1 := hw k hk
      rw [if_pos c] at e1
      have e2 : ¬ (-1 : Int32) = nI b := fun q => fq_nI_ne (by omega) q.symm
      simp [fq_inb, e1, c, e2]
    · have e1 := hw k hk
      rw [if_neg c] at e1
      have e3 := fq_dk_31 (a 0 k) (a 8 3)
      by_cases c2 : fq_dk (a 0 k) (a 8 3) = b
      · simp [fq_inb, e1, c, c2]
      · have e2 : ¬ nI (fq_dk (a 0 k) (a 8 3)) = nI b := fun q => c2 (fq_eqI (by omega) (by omega) q)
        simp [fq_inb, e1, c, c2, e2]
  · rw [hfr2 6 (by decide) (by decide), q6]
    simp [fq_popM, fq_us, upd]
  · intro k hk
    rw [fq_popM_0, fq_popM_83]
    by_cases c : a 0 k = -1
    · rw [if_pos c]
      have hn : k ∉ L b := fun q => (fq_QB_mem hQ2 hb32 q).2.1 c
      rw [(hot k hk hn).1, hw k hk, if_pos c]
    · rw [if_neg c]
      rcases hcase k hk c with ⟨h1, h2⟩ | ⟨h1, h2⟩
      · have := (hpr k h1 (fun q => by cases q)).1
        rw [(hkk k hk c).1] at this
        exact this
      · rw [(hot k hk h1).1, hw k hk, if_neg c, fq_laid_keep (by rw [← hb]; exact h2)]
  · intro k hk c
    rw [fq_popM_0] at c
    rw [fq_popM_0, fq_popM_83, h4]
    refine ⟨(hkk k hk c).1, ?_⟩
    rcases hcase k hk c with ⟨h1, h2⟩ | ⟨h1, h2⟩
    · have := (hpr k h1 (fun q => by cases q)).2
      rw [(hkk k hk c).1] at this
      exact this
    · rw [fq_laid_keep (by rw [← hb]; exact h2)]
      exact (hot k hk h1).2 _ (fq_dk_31 _ _) (by omega) (hkk k hk c).2
  · intro b' hb'
    by_cases c : b' = b
    · subst c
      unfold fq_CT
      rw [h1b, hz, nI_0]
    · exact hct1 b' hb' c
theorem fq_popG_ok {a : fq_G} {N C P f : Nat} (hA : fq_AB a N C P) (hf : fq_isL (a 0) N f) : ∃ P', fq_AB (fq_popG a N f) N C P' := by
  have hge := fun k hk hk0 => fq_isL_ge (k := k) hA hf hk hk0
  have hA2 := hA
  obtain ⟨n1, n40, a0, hfl, hkeys, hP, hC, hb⟩ := hA
  have hfk := (hkeys f hf.1).resolve_left hf.2.1
  by_cases c : fq_dk (a 0 f) (a 8 3) = 0
  · have e : fq_popG a N f = fq_us a 0 f (-1) := by simp [fq_popG, c]
    rw [e]
    have z0 : fq_us a 0 f (-1) 0 = upd (a 0) f (-1) := by simp [fq_us]
    have z8 : fq_us a 0 f (-1) 8 = a 8 := by simp [fq_us]
    refine ⟨P, n1, n40, by rw [z8]; exact a0, by rw [z8]; exact hfl, fun k hk => ?_, by rw [z8]; exact hP, by rw [z8]; exact hC, ?_⟩
    · rw [z0, z8]
      by_cases hkf : k = f
      · left
        simp [upd, hkf]
      · simp only [upd, if_neg hkf]
        exact hkeys k hk
    · have h1 := fq_sum_upd (f := fq_ph a) (f' := fq_ph (fq_us a 0 f (-1))) hf.1 (fun k _ hne => by simp [fq_ph, z0, z8, upd, hne])
      have h3 : fq_ph (fq_us a 0 f (-1)) f = 0 := by simp [fq_ph, z0, upd]
      unfold fq_phi at hb ⊢
      omega
  · have e : fq_popG a N f = fq_us (fq_popM a N f) 0 f (-1) := by simp [fq_popG, c]
    rw [e]
    have z0 : fq_us (fq_popM a N f) 0 f (-1) 0 = upd (a 0) f (-1) := by simp [fq_us, fq_popM]
    have z8 : fq_us (fq_popM a N f) 0 f (-1) 8 = fq_popM a N f 8 := by simp [fq_us]
    have y3 : fq_us (fq_popM a N f) 0 f (-1) 8 3 = a 0 f := by rw [z8]; exact fq_popM_83 a N f
    refine ⟨P + fq_cnt (fq_inb a (fq_dk (a 0 f) (a 8 3))) N, n1, n40, by rw [z8]; simp [fq_popM, fq_us, upd, a0], by rw [y3]; omega, fun k hk => ?_, by rw [z8, ← nI_add, ← hP]; simp [fq_popM, fq_us, upd], by rw [z8, ← hC]; simp [fq_popM, fq_us, upd], ?_⟩
    · rw [z0, y3]
      by_cases hkf : k = f
      · left
        simp [upd, hkf]
      · simp only [upd, if_neg hkf]
        by_cases hk0 : a 0 k = -1
        · exact Or.inl hk0
        · exact Or.inr (fq_bt_le (hf.2.2 k hk hk0))
    · have h1 := fq_sum_cnt (P := fq_inb a (fq_dk (a 0 f) (a 8 3))) (f := fq_ph a) (f' := fq_ph (fq_us (fq_popM a N f) 0 f (-1))) (n := N) (fun k hk => by
        by_cases hk0 : a 0 k = -1
        · by_cases hkf : k = f
          · exact absurd (by rw [← hkf]; exact hk0) hf.2.1
          · simp [fq_ph, fq_inb, z0, upd, hkf, hk0]
        · have e1 : fq_ph a k = fq_dk (a 0 k) (a 8 3) := by simp [fq_ph, hk0]
          have h2 := hge k hk hk0
          by_cases hkf : k = f
          · subst hkf
            have e2 : fq_ph (fq_us (fq_popM a N k) 0 k (-1)) k = 0 := by simp [fq_ph, z0, upd]
            rw [e1, e2]
            split <;> omega
          · have e2 : fq_ph (fq_us (fq_popM a N f) 0 f (-1)) k = fq_dk (a 0 k) (a 0 f) := by
              unfold fq_ph
              rw [z0, y3]
              simp only [upd, if_neg hkf, if_neg hk0]
            rw [e1, e2]
            by_cases c2 : fq_dk (a 0 k) (a 8 3) = fq_dk (a 0 f) (a 8 3)
            · have := fq_laid_lt hA2 hf (by omega) c2
              split <;> omega
            · have h3 := fq_laid_keep (a := a) (f := f) (k := k) (by omega)
              have e3 : fq_inb a (fq_dk (a 0 f) (a 8 3)) k = false := by simp [fq_inb, c2]
              rw [e3, h3]
              simp)
      unfold fq_phi at hb ⊢
      omega
end
section
/-! pure rows: answers of push, lower; helpers of the walks of the queue -/
def fq_itm (N : Nat) (x : Int32) : Bool := decide (0 ≤ x.toInt ∧ x.toInt < (N : Int))
theorem fq_itm_t {N j : Nat} (h40 : N ≤ 40) (hj : j < N) : fq_itm N (nI j) = true := by
  unfold fq_itm
  rw [nI_toInt (by omega)]
  simp
  omega
theorem fq_itm_f {N : Nat} {x : Int32} (h : ∀ j, j < N → x ≠ nI j) : fq_itm N x = false := by
  unfold fq_itm
  rw [decide_eq_false_iff_not]
  intro c
  have e := fq_n_toInt c.1
  exact h x.toNatClampNeg (by omega) (fq_nI_n c.1).symm
def fq_pushR (a : fq_G) (N : Nat) (x key : Int32) : Int32 := if fq_itm N x = false ∨ a 0 x.toNatClampNeg ≠ -1 then -1 else if key < a 8 3 then -2 else 0
def fq_pushF (a : fq_G) (N : Nat) (x key : Int32) : fq_G := if fq_pushR a N x key = 0 then fq_pushA a x.toNatClampNeg key else a
theorem fq_push_1 {a : fq_G} {N : Nat} {x key : Int32} (h : ∀ j, j < N → x ≠ nI j) : fq_pushR a N x key = -1 ∧ fq_pushF a N x key = a := by
  have e : fq_pushR a N x key = -1 := by simp [fq_pushR, fq_itm_f h]
  exact ⟨e, by unfold fq_pushF; rw [e]; rfl⟩
theorem fq_push_2 {a : fq_G} {N j : Nat} {key : Int32} (h40 : N ≤ 40) (hj : j < N) (h : a 0 j ≠ -1) : fq_pushR a N (nI j) key = -1 ∧ fq_pushF a N (nI j) key = a := by
  have e : fq_pushR a N (nI j) key = -1 := by
    unfold fq_pushR
    rw [nI_clamp (by omega)]
    simp [h]
  exact ⟨e, by unfold fq_pushF; rw [e]; rfl⟩
theorem fq_push_3 {a : fq_G} {N j : Nat} {key : Int32} (h40 : N ≤ 40) (hj : j < N) (h : a 0 j = -1) (hk : key < a 8 3) : fq_pushR a N (nI j) key = -2 ∧ fq_pushF a N (nI j) key = a := by
  have e : fq_pushR a N (nI j) key = -2 := by
    unfold fq_pushR
    rw [nI_clamp (by omega), fq_itm_t h40 hj]
    simp [h, hk]
  exact ⟨e, by unfold fq_pushF; rw [e]; rfl⟩
theorem fq_push_4 {a : fq_G} {N j : Nat} {key : Int32} (h40 : N ≤ 40) (hj : j < N) (h : a 0 j = -1) (hk : ¬ key < a 8 3) : fq_pushR a N (nI j) key = 0 ∧ fq_pushF a N (nI j) key = fq_pushA a j key := by
  have e : fq_pushR a N (nI j) key = 0 := by
    unfold fq_pushR
    rw [nI_clamp (by omega), fq_itm_t h40 hj, if_neg (by simp [h]), if_neg hk]
  exact ⟨e, by unfold fq_pushF; rw [e, nI_clamp (by omega)]; rfl⟩
def fq_lowerR (a : fq_G) (N : Nat) (x key : Int32) : Int32 := if fq_itm N x = false ∨ a 0 x.toNatClampNeg = -1 then -1 else if key < a 8 3 ∨ a 0 x.toNatClampNeg < key then -2 else 0
def fq_lowerF (a : fq_G) (N : Nat) (x key : Int32) : fq_G := if fq_lowerR a N x key = 0 then fq_lowerA a x.toNatClampNeg key else a
theorem fq_lower_1 {a : fq_G} {N : Nat} {x key : Int32} (h40 : N ≤ 40) (h : ∀ j, j < N → x = nI j → a 0 j = -1) : fq_lowerR a N x key = -1 ∧ fq_lowerF a N x key = a := by
  have e : fq_lowerR a N x key = -1 := by
    unfold fq_lowerR
    by_cases c : fq_itm N x = false
    · simp [c]
    · have c2 : 0 ≤ x.toInt ∧ x.toInt < (N : Int) := by simpa [fq_itm] using c
      have e := fq_n_toInt c2.1
      have := h x.toNatClampNeg (by omega) (fq_nI_n c2.1).symm
      simp [this]
  exact ⟨e, by unfold fq_lowerF; rw [e]; rfl⟩
theorem fq_lower_2 {a : fq_G} {N j : Nat} {key : Int32} (h40 : N ≤ 40) (hj : j < N) (h : a 0 j ≠ -1) (hk : key < a 8 3 ∨ a 0 j < key) : fq_lowerR a N (nI j) key = -2 ∧ fq_lowerF a N (nI j) key = a := by
  have e : fq_lowerR a N (nI j) key = -2 := by
    unfold fq_lowerR
    rw [nI_clamp (by omega), fq_itm_t h40 hj, if_neg (by simp [h]), if_pos hk]
  exact ⟨e, by unfold fq_lowerF; rw [e]; rfl⟩
theorem fq_lower_3 {a : fq_G} {N j : Nat} {key : Int32} (h40 : N ≤ 40) (hj : j < N) (h : a 0 j ≠ -1) (hk : ¬ (key < a 8 3 ∨ a 0 j < key)) : fq_lowerR a N (nI j) key = 0 ∧ fq_lowerF a N (nI j) key = fq_lowerA a j key := by
  have e : fq_lowerR a N (nI j) key = 0 := by
    unfold fq_lowerR
    rw [nI_clamp (by omega), fq_itm_t h40 hj, if_neg (by simp [h]), if_neg hk]
  exact ⟨e, by unfold fq_lowerF; rw [e, nI_clamp (by omega)]; rfl⟩
theorem fq_ls_take {K : Nat → Int32} {l t : List Nat} {f j : Nat} (h : ∀ k ∈ l, k ∈ j :: t ∨ fq_bt K f k) (hb : fq_bt K j f) : ∀ k ∈ l, k ∈ t ∨ fq_bt K j k := by
  intro k hk
  rcases h k hk with q | q
  · rcases List.mem_cons.mp q with q | q
    · rw [q]
      exact Or.inr (fq_bt_rf K j)
    · exact Or.inl q
  · exact Or.inr (fq_bt_tr hb q)
theorem fq_ls_keep {K : Nat → Int32} {l t : List Nat} {f j : Nat} (h : ∀ k ∈ l, k ∈ j :: t ∨ fq_bt K f k) (hb : fq_bt K f j) : ∀ k ∈ l, k ∈ t ∨ fq_bt K f k := by
  intro k hk
  rcases h k hk with q | q
  · rcases List.mem_cons.mp q with q | q
    · rw [q]
      exact Or.inr hb
    · exact Or.inl q
  · exact Or.inr q
theorem fq_isL_of {g a : fq_G} {N C P b f : Nat} {L : Nat → List Nat} (hQ : fq_QB g a N L) (hA : fq_AB a N C P) (hb : b < 32) (hlow : ∀ b', b' < b → L b' = []) (hf : f ∈ L b) (hmin : ∀ k ∈ L b, fq_bt (g 4) f k) : fq_isL (a 0) N f ∧ fq_dk (a 0 f) (a 8 3) = b := by
  obtain ⟨f1, f2, f3, f4⟩ := fq_QB_mem hQ hb hf
  refine ⟨⟨f1, f2, fun k hk hk0 => ?_⟩, f3⟩
  obtain ⟨k1, k2⟩ := hQ.2.2.2.1 k hk hk0
  by_cases c : fq_dk (a 0 k) (a 8 3) = b
  · rw [c] at k2
    have := hmin k k2
    unfold fq_bt at this ⊢
    rw [f4, k1] at this
    exact this
  · have hge : b ≤ fq_dk (a 0 k) (a 8 3) := by
      rcases Nat.lt_or_ge (fq_dk (a 0 k) (a 8 3)) b with q | q
      · rw [hlow _ q] at k2
        cases k2
      · exact q
    left
    rw [Int32.lt_iff_toInt_lt]
    rcases Int.lt_or_le (a 0 f).toInt (a 0 k).toInt with q | q
    · exact q
    · have := fq_dk_mono hA.2.2.2.1 ((hA.2.2.2.2.1 k hk).resolve_left hk0) q
      omega
theorem fq_LA_FR {g u : fq_G} {N b : Nat} {nf : Int32} {L L1 : Nat → List Nat} {R : List Nat} (h : fq_LA g u N b nf L L1 R) : fq_FR g u := ⟨h.2.2.2.2.2.2.2.1, fun j hj => h.2.2.2.2.2.2.2.2 j (by omega) (by omega)⟩
theorem fq_some_there {a : fq_G} {N : Nat} (h : ¬ nI (fq_cnt (fq_th a) N) = 0) : ∃ k, k < N ∧ a 0 k ≠ -1 := by
  apply Classical.byContradiction
  intro c
  apply h
  rw [fq_cnt_zero.mpr (fun k hk => ?_), nI_0]
  by_cases q : a 0 k = -1
  · simp [fq_th, q]
  · exact absurd ⟨k, hk, q⟩ c
theorem fq_cnt_none {a : fq_G} {N : Nat} (hN : N ≤ 40) (h : nI (fq_cnt (fq_th a) N) = 0) : fq_cnt (fq_th a) N = 0 := by
  have := fq_cnt_le (fq_th a) N
  rw [← nI_0] at h
  exact fq_eqI (by omega) (by decide) h
theorem fq_LA_Nx {g1 : fq_G} {k c : Nat} {t : List Nat} (hn : (k :: t).Nodup) (h : fq_Nx (g1 2) t (g1 2 k)) : fq_Nx (fq_linkF g1 k c 2) t (g1 2 k) := by
  refine fq_Nx_congr (fun j hj => ?_) h
  have : j ≠ k := fun q => (List.nodup_cons.mp hn).1 (by rw [← q]; exact hj)
  rw [fq_link_2]
  simp [upd, this]
end
section
set_option maxHeartbeats 4000000 in
set_option maxRecDepth 100000 in
theorem fc_Q_push (l : Launch) (V : fq_V) (o : Nat → Nat) (mo : Nat) (g : fq_G) (a : fq_G) (N C P : Nat) (L : Nat → List Nat) (hB : fq_QB g a N L) (hA : fq_AB a N C P) (x key : Int32) : fq_MI l V y_Q_push b_Q_push 3 .int 2 [.ref (o 0), .int x, .int key] (fq_WQ V o mo) g (fun r u => (∃ L', fq_QB u (fq_pushF a N x key) N L') ∧ fq_FR g u ∧ r = fq_pushR a N x key) := by
  refine fq_MI_of (lv := [(0, .ref (o 0)), (1, .int x), (2, .int key)]) (by decide) (Nat.le_of_ble_eq_true rfl) rfl ?_
  intro p e s m args below meth c A Q hC hret ls hl hQ
  have hxx := hC.1
  have hbb := hC.2.1
  refine lv_aload_n hxx hbb fd_Q_push_0 rfl (lv_at hl 0 rfl) ?_
  refine lv_iload_n hxx hbb fd_Q_push_1 rfl (lv_at hl 1 rfl) ?_
  refine fq_callI hC (fc_Q_isItem l V o mo g x N hA.1 hA.2.1 hB.1.1) fw_Q_64 ⟨Nat.le_of_ble_eq_true rfl, Nat.le_of_ble_eq_true rfl⟩ rfl rfl rfl hQ rfl hl.1 (rest := []) rfl (Nat.le_of_ble_eq_true rfl) fd_Q_push_2 ⟨Nat.le_refl _, Nat.le_refl _⟩ (fun r2 u2 H locs hp2 hQ => ?_)
  rw [hp2.1] at hQ
  refine lv_if_eq (tgt := 18) hxx hbb fd_Q_push_5 (by decide) (fun c5 => ?_) (fun c5 => ?_)
  · refine lv_iconst (v := (-1)) hxx hbb fd_Q_push_18 (by decide) ?_
    exact hret _ _ _ _ _ _ fd_Q_push_19 hQ ⟨⟨L, by rw [(fq_push_1 (fq_no hp2.2 c5)).2]; exact hB⟩, fq_FR.rf g, (fq_push_1 (fq_no hp2.2 c5)).1.symm⟩ rfl
  · obtain ⟨j, hj, ej⟩ := fq_yes hp2.2 c5
    subst ej
    have h40 := hA.2.1
    refine lv_aload_n hxx hbb fd_Q_push_8 rfl (lv_at hl 0 rfl) ?_
    refine fg_Q_where hC hQ fd_Q_push_9 ?_
    refine lv_iload_n hxx hbb fd_Q_push_12 rfl (lv_at hl 1 rfl) ?_
    refine fr_Q_where hC hQ j rfl (by omega) fd_Q_push_13 (v := g 5 j) rfl ?_
    refine lv_iconst (v := (-1)) hxx hbb fd_Q_push_14 (by decide) ?_
    refine lv_icmp_eq (tgt := 20) hxx hbb fd_Q_push_15 (by decide) (fun c15 => ?_) (fun c15 => ?_)
    · refine lv_iload_n hxx hbb fd_Q_push_20 rfl (lv_at hl 2 rfl) ?_
      refine lv_aload_n hxx hbb fd_Q_push_21 rfl (lv_at hl 0 rfl) ?_
      refine fg_Q_floor hC hQ fd_Q_push_22 (v := a 8 3) hB.1.2.1 ?_
      refine lv_icmp_ge (tgt := 31) hxx hbb fd_Q_push_25 (by decide) (fun c25 => ?_) (fun c25 => ?_)
      · have h0 := (fq_QB_there hB hj).mp c15
        have hk : (a 8 3).toInt ≤ key.toInt := Int32.le_iff_toInt_le.mp c25
        have hf0 : 0 ≤ (g 12 3).toInt := by rw [hB.1.2.1]; exact hA.2.2.2.1
        have hk0 : 0 ≤ key.toInt := by have := hA.2.2.2.1; omega
        refine lv_aload_n hxx hbb fd_Q_push_31 rfl (lv_at hl 0 rfl) ?_
        refine fg_Q_keys hC hQ fd_Q_push_32 ?_
        refine lv_iload_n hxx hbb fd_Q_push_35 rfl (lv_at hl 1 rfl) ?_
        refine lv_iload_n hxx hbb fd_Q_push_36 rfl (lv_at hl 2 rfl) ?_
        refine fs_Q_keys hC hQ j rfl (by omega) fd_Q_push_37 (fun H locs hQ => ?_)
        refine lv_aload_n hxx hbb fd_Q_push_38 rfl (lv_at hl 0 rfl) ?_
        refine lv_iload_n hxx hbb fd_Q_push_39 rfl (lv_at hl 1 rfl) ?_
        refine lv_aload_n hxx hbb fd_Q_push_40 rfl (lv_at hl 0 rfl) ?_
        refine lv_iload_n hxx hbb fd_Q_push_41 rfl (lv_at hl 2 rfl) ?_
        refine fq_callI hC (fc_Q_bucketFor l V o mo (fq_us g 4 j key) key hk0 hf0) fw_Q_74 ⟨Nat.le_of_ble_eq_true rfl, Nat.le_of_ble_eq_true rfl⟩ rfl rfl rfl hQ rfl hl.1 (rest := [.int (nI j), .ref (o 0)]) rfl (Nat.le_of_ble_eq_true rfl) fd_Q_push_42 ⟨Nat.le_refl _, Nat.le_refl _⟩ (fun r42 u42 H locs hp42 hQ => ?_)
        rw [hp42.1] at hQ
        refine fq_top (y := nI (fq_dk key (a 8 3))) (hp42.2.trans (by rw [← hB.1.2.1]; rfl)) ?_
        refine fq_callV hC (fc_Q_link l V o mo (fq_us g 4 j key) j (fq_dk key (a 8 3)) (by omega) (fq_dk_31 _ _) (fq_LS_first hA.2.1 hB.2.1 (fq_dk_31 _ _))) fw_Q_78 ⟨Nat.le_of_ble_eq_true rfl, Nat.le_of_ble_eq_true rfl⟩ rfl rfl rfl hQ rfl hl.1 (rest := []) rfl (Nat.le_of_ble_eq_true rfl) fd_Q_push_45 ⟨Nat.le_refl _, Nat.le_refl _⟩ (fun u45 H locs hp45 hQ => ?_)
        subst hp45
        refine lv_aload_n hxx hbb fd_Q_push_48 rfl (lv_at hl 0 rfl) ?_
        refine lv_dup hxx hbb fd_Q_push_49 rfl ?_
        refine fg_Q_size hC hQ fd_Q_push_50 (v := g 12 4) (by rw [fq_link_12]; rfl) ?_
        refine lv_iconst (v := 1) hxx hbb fd_Q_push_53 (by decide) ?_
        refine lv_iadd hxx hbb fd_Q_push_54 ?_
        refine fp_Q_size hC hQ fd_Q_push_55 (fun H locs hQ => ?_)
        refine lv_aload_n hxx hbb fd_Q_push_58 rfl (lv_at hl 0 rfl) ?_
        refine lv_dup hxx hbb fd_Q_push_59 rfl ?_
        refine fg_Q_calls hC hQ fd_Q_push_60 (v := g 12 6) (by show (fq_linkF (fq_us g 4 j key) j (fq_dk key (a 8 3))) 12 6 = _; rw [fq_link_12]; rfl) ?_
        refine lv_iconst (v := 1) hxx hbb fd_Q_push_63 (by decide) ?_
        refine lv_iadd hxx hbb fd_Q_push_64 ?_
        refine fp_Q_calls hC hQ fd_Q_push_65 (fun H locs hQ => ?_)
        refine lv_iconst (v := 0) hxx hbb fd_Q_push_68 (by decide) ?_
        exact hret _ _ _ _ _ _ fd_Q_push_69 hQ ⟨⟨_, by rw [(fq_push_4 h40 hj h0 (Int32.not_lt.mpr c25)).2]; exact fq_push_ok hB hA hj h0 hk⟩, (((fq_FR.s4 g j key).trans (fq_FR.link _ _ _)).trans (fq_FR.s12 _ 4 _ (by omega) (by omega))).trans (fq_FR.s12 _ 6 _ (by omega) (by omega)), (fq_push_4 h40 hj h0 (Int32.not_lt.mpr c25)).1.symm⟩ rfl
      · refine lv_bipush (v := (-2)) hxx hbb fd_Q_push_28 (by decide) ?_
        exact hret _ _ _ _ _ _ fd_Q_push_30 hQ ⟨⟨L, by rw [(fq_push_3 h40 hj ((fq_QB_there hB hj).mp c15) (Int32.not_le.mp c25)).2]; exact hB⟩, fq_FR.rf g, (fq_push_3 h40 hj ((fq_QB_there hB hj).mp c15) (Int32.not_le.mp c25)).1.symm⟩ rfl
    · refine lv_iconst (v := (-1)) hxx hbb fd_Q_push_18 (by decide) ?_
      exact hret _ _ _ _ _ _ fd_Q_push_19 hQ ⟨⟨L, by rw [(fq_push_2 h40 hj (fun q => c15 ((fq_QB_there hB hj).mpr q))).2]; exact hB⟩, fq_FR.rf g, (fq_push_2 h40 hj (fun q => c15 ((fq_QB_there hB hj).mpr q))).1.symm⟩ rfl
set_option maxHeartbeats 4000000 in
set_option maxRecDepth 100000 in
theorem fc_Q_lower (l : Launch) (V : fq_V) (o : Nat → Nat) (mo : Nat) (g : fq_G) (a : fq_G) (N C P : Nat) (L : Nat → List Nat) (hB : fq_QB g a N L) (hA : fq_AB a N C P) (x key : Int32) : fq_MI l V y_Q_lower b_Q_lower 4 .int 3 [.ref (o 0), .int x, .int key] (fq_WQ V o mo) g (fun r u => (∃ L', fq_QB u (fq_lowerF a N x key) N L') ∧ fq_FR g u ∧ r = fq_lowerR a N x key) := by
  refine fq_MI_of (lv := [(0, .ref (o 0)), (1, .int x), (2, .int key)]) (by decide) (Nat.le_of_ble_eq_true rfl) rfl ?_
  intro p e s m args below meth c A Q hC hret ls hl hQ
  have hxx := hC.1
  have hbb := hC.2.1
  refine lv_aload_n hxx hbb fd_Q_lower_0 rfl (lv_at hl 0 rfl) ?_
  refine lv_iload_n hxx hbb fd_Q_lower_1 rfl (lv_at hl 1 rfl) ?_
  refine fq_callI hC (fc_Q_isThere l V o mo g x N hA.1 hA.2.1 hB.1.1) fw_Q_88 ⟨Nat.le_of_ble_eq_true rfl, Nat.le_of_ble_eq_true rfl⟩ rfl rfl rfl hQ rfl hl.1 (rest := []) rfl (Nat.le_of_ble_eq_true rfl) fd_Q_lower_2 ⟨Nat.le_refl _, Nat.le_refl _⟩ (fun r2 u2 H locs hp2 hQ => ?_)
  rw [hp2.1] at hQ
  refine lv_if_ne (tgt := 10) hxx hbb fd_Q_lower_5 (by decide) (fun c5 => ?_) (fun c5 => ?_)
  · obtain ⟨j, hj, ej, hw⟩ := fq_yes hp2.2 c5
    subst ej
    have h40 := hA.2.1
    have h0 : a 0 j ≠ -1 := fun q => hw ((fq_QB_there hB hj).mpr q)
    have hm := (hB.2.2.2.1 j hj h0).2
    have hwj : g 5 j = nI (fq_dk (a 0 j) (a 8 3)) := by rw [hB.2.2.1 j hj, if_neg h0]
    have hf0 : 0 ≤ (g 12 3).toInt := by rw [hB.1.2.1]; exact hA.2.2.2.1
    refine lv_iload_n hxx hbb fd_Q_lower_10 rfl (lv_at hl 2 rfl) ?_
    refine lv_aload_n hxx hbb fd_Q_lower_11 rfl (lv_at hl 0 rfl) ?_
    refine fg_Q_floor hC hQ fd_Q_lower_12 (v := a 8 3) hB.1.2.1 ?_
    refine lv_icmp_lt (tgt := 28) hxx hbb fd_Q_lower_15 (by decide) (fun c15 => ?_) (fun c15 => ?_)
    · refine lv_bipush (v := (-2)) hxx hbb fd_Q_lower_28 (by decide) ?_
      exact hret _ _ _ _ _ _ fd_Q_lower_30 hQ ⟨⟨L, by rw [(fq_lower_2 h40 hj h0 (Or.inl c15)).2]; exact hB⟩, fq_FR.rf g, (fq_lower_2 h40 hj h0 (Or.inl c15)).1.symm⟩ rfl
    · refine lv_iload_n hxx hbb fd_Q_lower_18 rfl (lv_at hl 2 rfl) ?_
      refine lv_aload_n hxx hbb fd_Q_lower_19 rfl (lv_at hl 0 rfl) ?_
      refine fg_Q_keys hC hQ fd_Q_lower_20 ?_
      refine lv_iload_n hxx hbb fd_Q_lower_23 rfl (lv_at hl 1 rfl) ?_
      refine fr_Q_keys hC hQ j rfl (by omega) fd_Q_lower_24 (v := a 0 j) (hB.2.2.2.1 j hj h0).1 ?_
      refine lv_icmp_le (tgt := 31) hxx hbb fd_Q_lower_25 (by decide) (fun c25 => ?_) (fun c25 => ?_)
      · have hk : (a 8 3).toInt ≤ key.toInt := Int32.le_iff_toInt_le.mp (Int32.not_lt.mp c15)
        have hk2 : key.toInt ≤ (a 0 j).toInt := Int32.le_iff_toInt_le.mp c25
        have hk0 : 0 ≤ key.toInt := by have := hA.2.2.2.1; omega
        have hz := fq_lower_3 (key := key) h40 hj h0 (fun q => q.elim c15 (fun q => Int32.not_lt.mpr c25 q))
        refine lv_aload_n hxx hbb fd_Q_lower_31 rfl (lv_at hl 0 rfl) ?_
        refine fg_Q_keys hC hQ fd_Q_lower_32 ?_
        refine lv_iload_n hxx hbb fd_Q_lower_35 rfl (lv_at hl 1 rfl) ?_
        refine lv_iload_n hxx hbb fd_Q_lower_36 rfl (lv_at hl 2 rfl) ?_
        refine fs_Q_keys hC hQ j rfl (by omega) fd_Q_lower_37 (fun H locs hQ => ?_)
        refine lv_aload_n hxx hbb fd_Q_lower_38 rfl (lv_at hl 0 rfl) ?_
        refine lv_iload_n hxx hbb fd_Q_lower_39 rfl (lv_at hl 2 rfl) ?_
        refine fq_callI hC (fc_Q_bucketFor l V o mo (fq_us g 4 j key) key hk0 hf0) fw_Q_74 ⟨Nat.le_of_ble_eq_true rfl, Nat.le_of_ble_eq_true rfl⟩ rfl rfl rfl hQ rfl hl.1 (rest := []) rfl (Nat.le_of_ble_eq_true rfl) fd_Q_lower_40 ⟨Nat.le_refl _, Nat.le_refl _⟩ (fun r40 u40 H locs hp40 hQ => ?_)
        rw [hp40.1] at hQ
        refine fq_top (y := nI (fq_dk key (a 8 3))) (hp40.2.trans (by rw [← hB.1.2.1]; rfl)) ?_
        refine lv_istore_n (lv' := [(3, .int (nI (fq_dk key (a 8 3)))), (0, .ref (o 0)), (1, .int (nI j)), (2, .int key)]) hxx hbb fd_Q_lower_43 rfl hl (by decide) rfl (fun ls hl => ?_)
        refine lv_iload_n hxx hbb fd_Q_lower_44 rfl (lv_at hl 0 rfl) ?_
        refine lv_aload_n hxx hbb fd_Q_lower_45 rfl (lv_at hl 1 rfl) ?_
        refine fg_Q_where hC hQ fd_Q_lower_46 ?_
        refine lv_iload_n hxx hbb fd_Q_lower_49 rfl (lv_at hl 2 rfl) ?_
        refine fr_Q_where hC hQ j rfl (by omega) fd_Q_lower_50 (v := nI (fq_dk (a 0 j) (a 8 3))) hwj ?_
        refine lv_icmp_eq (tgt := 65) hxx hbb fd_Q_lower_51 (by decide) (fun c51 => ?_) (fun c51 => ?_)
        · have hd : fq_dk key (a 8 3) = fq_dk (a 0 j) (a 8 3) := fq_eqI (by have := fq_dk_31 key (a 8 3); omega) (by have := fq_dk_31 (a 0 j) (a 8 3); omega) c51
          refine lv_aload_n hxx hbb fd_Q_lower_65 rfl (lv_at hl 1 rfl) ?_
          refine lv_dup hxx hbb fd_Q_lower_66 rfl ?_
          refine fg_Q_calls hC hQ fd_Q_lower_67 (v := g 12 6) rfl ?_
          refine lv_iconst (v := 1) hxx hbb fd_Q_lower_70 (by decide) ?_
          refine lv_iadd hxx hbb fd_Q_lower_71 ?_
          refine fp_Q_calls hC hQ fd_Q_lower_72 (fun H locs hQ => ?_)
          refine lv_iconst (v := 0) hxx hbb fd_Q_lower_75 (by decide) ?_
          exact hret _ _ _ _ _ _ fd_Q_lower_76 hQ ⟨⟨L, by rw [hz.2]; exact fq_lower_same hB hA hj h0 hk hd⟩, (fq_FR.s4 g j key).trans (fq_FR.s12 _ 6 _ (by omega) (by omega)), hz.1.symm⟩ rfl
        · have hd : fq_dk key (a 8 3) ≠ fq_dk (a 0 j) (a 8 3) := fun q => c51 (by rw [q])
          refine lv_aload_n hxx hbb fd_Q_lower_54 rfl (lv_at hl 1 rfl) ?_
          refine lv_iload_n hxx hbb fd_Q_lower_55 rfl (lv_at hl 2 rfl) ?_
          refine fq_callV hC (fc_Q_unlink l V o mo (fq_us g 4 j key) j (fq_dk (a 0 j) (a 8 3)) (by omega) (fq_dk_31 _ _) hwj (fq_LS_nb h40 hB.2.1 (fq_dk_31 _ _) hm).1 (fq_LS_nb h40 hB.2.1 (fq_dk_31 _ _) hm).2) fw_Q_91 ⟨Nat.le_of_ble_eq_true rfl, Nat.le_of_ble_eq_true rfl⟩ rfl rfl rfl hQ rfl hl.1 (rest := []) rfl (Nat.le_of_ble_eq_true rfl) fd_Q_lower_56 ⟨Nat.le_refl _, Nat.le_refl _⟩ (fun u56 H locs hp56 hQ => ?_)
          subst hp56
          refine lv_aload_n hxx hbb fd_Q_lower_59 rfl (lv_at hl 1 rfl) ?_
          refine lv_iload_n hxx hbb fd_Q_lower_60 rfl (lv_at hl 2 rfl) ?_
          refine lv_iload_n hxx hbb fd_Q_lower_61 rfl (lv_at hl 0 rfl) ?_
          refine fq_callV hC (fc_Q_link l V o mo (fq_unlinkF (fq_us g 4 j key) j (fq_dk (a 0 j) (a 8 3))) j (fq_dk key (a 8 3)) (by omega) (fq_dk_31 _ _) (fq_LS_first h40 (fq_LS_unlink (g := fq_us g 4 j key) (fq_LS_congr rfl rfl rfl rfl hB.2.1) h40 (fq_dk_31 _ _) hm) (fq_dk_31 _ _))) fw_Q_78 ⟨Nat.le_of_ble_eq_true rfl, Nat.le_of_ble_eq_true rfl⟩ rfl rfl rfl hQ rfl hl.1 (rest := []) rfl (Nat.le_of_ble_eq_true rfl) fd_Q_lower_62 ⟨Nat.le_refl _, Nat.le_refl _⟩ (fun u62 H locs hp62 hQ => ?_)
          subst hp62
          refine lv_aload_n hxx hbb fd_Q_lower_65 rfl (lv_at hl 1 rfl) ?_
          refine lv_dup hxx hbb fd_Q_lower_66 rfl ?_
          refine fg_Q_calls hC hQ fd_Q_lower_67 (v := g 12 6) (by rw [fq_link_12, fq_unlink_o _ _ _ (by omega)]; rfl) ?_
          refine lv_iconst (v := 1) hxx hbb fd_Q_lower_70 (by decide) ?_
          refine lv_iadd hxx hbb fd_Q_lower_71 ?_
          refine fp_Q_calls hC hQ fd_Q_lower_72 (fun H locs hQ => ?_)
          refine lv_iconst (v := 0) hxx hbb fd_Q_lower_75 (by decide) ?_
          exact hret _ _ _ _ _ _ fd_Q_lower_76 hQ ⟨by rw [hz.2]; exact fq_lower_move hB hA hj h0 hk hd, (((fq_FR.s4 g j key).trans (fq_FR.unlink _ _ _)).trans (fq_FR.link _ _ _)).trans (fq_FR.s12 _ 6 _ (by omega) (by omega)), hz.1.symm⟩ rfl
      · refine lv_bipush (v := (-2)) hxx hbb fd_Q_lower_28 (by decide) ?_
        exact hret _ _ _ _ _ _ fd_Q_lower_30 hQ ⟨⟨L, by rw [(fq_lower_2 h40 hj h0 (Or.inr (Int32.not_le.mp c25))).2]; exact hB⟩, fq_FR.rf g, (fq_lower_2 h40 hj h0 (Or.inr (Int32.not_le.mp c25))).1.symm⟩ rfl
  · refine lv_iconst (v := (-1)) hxx hbb fd_Q_lower_8 (by decide) ?_
    exact hret _ _ _ _ _ _ fd_Q_lower_9 hQ ⟨⟨L, by rw [(fq_lower_1 hA.2.1 (fun j hj e => (fq_QB_there hB hj).mp (fq_no hp2.2 c5 j hj e))).2]; exact hB⟩, fq_FR.rf g, (fq_lower_1 hA.2.1 (fun j hj e => (fq_QB_there hB hj).mp (fq_no hp2.2 c5 j hj e))).1.symm⟩ rfl
set_option maxHeartbeats 4000000 in
set_option maxRecDepth 100000 in
theorem fc_Q_leastOf (l : Launch) (V : fq_V) (o : Nat → Nat) (mo : Nat) (g : fq_G) (b N : Nat) (L : Nat → List Nat) (hL : fq_LS N g L) (hN : N ≤ 40) (hb : b < 32) (hne : L b ≠ []) : fq_MI l V y_Q_leastOf b_Q_leastOf 4 .int 0 [.ref (o 0), .int (nI b)] (fq_WQ V o mo) g (fun r u => u = g ∧ ∃ f, f ∈ L b ∧ r = nI f ∧ ∀ k ∈ L b, fq_bt (g 4) f k) := by
  refine fq_MI_of (lv := [(0, .ref (o 0)), (1, .int (nI b))]) (by decide) (Nat.le_of_ble_eq_true rfl) rfl ?_
  intro p e s m args below meth c A Q hC hret ls hl hQ
  have hxx := hC.1
  have hbb := hC.2.1
  obtain ⟨x0, t0, e0⟩ : ∃ x t, L b = x :: t := by cases h : L b with | nil => exact absurd h hne | cons x t => exact ⟨x, t, rfl⟩
  have hLb := hL b hb
  have hn0 := fq_Nx_of hLb.1
  have hmem : ∀ k ∈ L b, k < 40 := fun k hk => by have := (hLb.2.2 k hk).1; omega
  have hx0 : x0 < 40 := hmem x0 (by rw [e0]; simp)
  have hn1 : g 0 b = nI x0 ∧ fq_Nx (g 2) t0 (g 2 x0) := by rw [e0] at hn0; exact hn0
  refine lv_aload_n hxx hbb fd_Q_leastOf_0 rfl (lv_at hl 0 rfl) ?_
  refine fg_Q_first hC hQ fd_Q_leastOf_1 ?_
  refine lv_iload_n hxx hbb fd_Q_leastOf_4 rfl (lv_at hl 1 rfl) ?_
  refine fr_Q_first hC hQ b rfl (by omega) fd_Q_leastOf_5 (v := nI x0) hn1.1 ?_
  refine lv_istore_n (lv' := [(2, .int (nI x0)), (0, .ref (o 0)), (1, .int (nI b))]) hxx hbb fd_Q_leastOf_6 rfl hl (by decide) rfl (fun ls hl => ?_)
  refine lv_aload_n hxx hbb fd_Q_leastOf_7 rfl (lv_at hl 1 rfl) ?_
  refine fg_Q_next hC hQ fd_Q_leastOf_8 ?_
  refine lv_iload_n hxx hbb fd_Q_leastOf_11 rfl (lv_at hl 0 rfl) ?_
  refine fr_Q_next hC hQ x0 rfl (by omega) fd_Q_leastOf_12 (v := g 2 x0) rfl ?_
  refine lv_istore_n (lv' := [(3, .int (g 2 x0)), (2, .int (nI x0)), (0, .ref (o 0)), (1, .int (nI b))]) hxx hbb fd_Q_leastOf_13 rfl hl (by decide) rfl (fun ls hl => ?_)
  have loop14 : ∀ (n : Nat) (t : List Nat) (f : Nat) (y : Int32), t.length < n → fq_Nx (g 2) t y → (∀ k ∈ t, k ∈ L b) → f ∈ L b → (∀ k ∈ L b, k ∈ t ∨ fq_bt (g 4) f k) → ∀ (H : Heap) (locs : List Loc) (ls : Array Slot), fq_Hp V A s.heap (fq_WQ V o mo g) H locs → lv_has ls 4 [(0, .ref (o 0)), (1, .int (nI b)), (2, .int (nI f)), (3, .int y)] → W p l e (fq_Rm 0) s m args below meth c H locs 0 0 Q (F0 m 14 ls []) := by
    intro n
    induction n with
    | zero =>
      intro t f y hlen hnx hsub hfm hall
      omega
    | succ n ih14 =>
      intro t f y hlen hnx hsub hfm hall H locs ls hQ hl
      refine lv_iload_n hxx hbb fd_Q_leastOf_14 rfl (lv_at hl 3 rfl) ?_
      refine lv_iconst (v := (-1)) hxx hbb fd_Q_leastOf_15 (by decide) ?_
      refine lv_icmp_eq (tgt := 70) hxx hbb fd_Q_leastOf_16 (by decide) (fun c16 => ?_) (fun c16 => ?_)
      · refine lv_iload_n hxx hbb fd_Q_leastOf_70 rfl (lv_at hl 2 rfl) ?_
        exact hret _ _ _ _ _ _ fd_Q_leastOf_71 hQ ⟨rfl, f, hfm, rfl, fun k hk => (hall k hk).resolve_left (by rw [fq_Nx_nil hnx (fun k hk => hmem k (hsub k hk)) c16]; simp)⟩ rfl
      · obtain ⟨j, t', et, ey, hnx'⟩ := fq_Nx_cons hnx c16
        subst et
        subst ey
        have hj40 := hmem j (hsub j List.mem_cons_self)
        have hf40 := hmem f hfm
        refine lv_aload_n hxx hbb fd_Q_leastOf_19 rfl (lv_at hl 0 rfl) ?_
        refine fg_Q_keys hC hQ fd_Q_leastOf_20 ?_
        refine lv_iload_n hxx hbb fd_Q_leastOf_23 rfl (lv_at hl 3 rfl) ?_
        refine fr_Q_keys hC hQ j rfl (by omega) fd_Q_leastOf_24 (v := g 4 j) rfl ?_
        refine lv_aload_n hxx hbb fd_Q_leastOf_25 rfl (lv_at hl 0 rfl) ?_
        refine fg_Q_keys hC hQ fd_Q_leastOf_26 ?_
        refine lv_iload_n hxx hbb fd_Q_leastOf_29 rfl (lv_at hl 2 rfl) ?_
        refine fr_Q_keys hC hQ f rfl (by omega) fd_Q_leastOf_30 (v := g 4 f) rfl ?_
        refine lv_icmp_lt (tgt := 54) hxx hbb fd_Q_leastOf_31 (by decide) (fun c31 => ?_) (fun c31 => ?_)
        · have hbt : fq_bt (g 4) j f := Or.inl c31
          refine lv_iload_n hxx hbb fd_Q_leastOf_54 rfl (lv_at hl 3 rfl) ?_
          refine lv_goto (tgt := 59) hxx hbb fd_Q_leastOf_55 (by decide) ?_
          refine lv_istore_n (lv' := [(2, .int (nI j)), (0, .ref (o 0)), (1, .int (nI b)), (3, .int (nI j))]) hxx hbb fd_Q_leastOf_59 rfl hl (by decide) rfl (fun ls hl => ?_)
          refine lv_aload_n hxx hbb fd_Q_leastOf_60 rfl (lv_at hl 1 rfl) ?_
          refine fg_Q_next hC hQ fd_Q_leastOf_61 ?_
          refine lv_iload_n hxx hbb fd_Q_leastOf_64 rfl (lv_at hl 3 rfl) ?_
          refine fr_Q_next hC hQ j rfl (by omega) fd_Q_leastOf_65 (v := g 2 j) rfl ?_
          refine lv_istore_n (lv' := [(3, .int (g 2 j)), (2, .int (nI j)), (0, .ref (o 0)), (1, .int (nI b))]) hxx hbb fd_Q_leastOf_66 rfl hl (by decide) rfl (fun ls hl => ?_)
          refine lv_goto (tgt := 14) hxx hbb fd_Q_leastOf_67 (by decide) ?_
          exact ih14 t' j (g 2 j) (by simp only [List.length_cons] at hlen; omega) hnx' (fun k hk => hsub k (List.mem_cons_of_mem _ hk)) (hsub j List.mem_cons_self) (fq_ls_take hall hbt) _ _ _ hQ (lv_sub hl [2, 3, 1, 0] rfl)
        · refine lv_aload_n hxx hbb fd_Q_leastOf_34 rfl (lv_at hl 0 rfl) ?_
          refine fg_Q_keys hC hQ fd_Q_leastOf_35 ?_
          refine lv_iload_n hxx hbb fd_Q_leastOf_38 rfl (lv_at hl 3 rfl) ?_
          refine fr_Q_keys hC hQ j rfl (by omega) fd_Q_leastOf_39 (v := g 4 j) rfl ?_
          refine lv_aload_n hxx hbb fd_Q_leastOf_40 rfl (lv_at hl 0 rfl) ?_
          refine fg_Q_keys hC hQ fd_Q_leastOf_41 ?_
          refine lv_iload_n hxx hbb fd_Q_leastOf_44 rfl (lv_at hl 2 rfl) ?_
          refine fr_Q_keys hC hQ f rfl (by omega) fd_Q_leastOf_45 (v := g 4 f) rfl ?_
          refine lv_icmp_ne (tgt := 58) hxx hbb fd_Q_leastOf_46 (by decide) (fun c46 => ?_) (fun c46 => ?_)
          · have hbt : fq_bt (g 4) f j := fq_bt_no c31 c46
            refine lv_iload_n hxx hbb fd_Q_leastOf_58 rfl (lv_at hl 2 rfl) ?_
            refine lv_istore_n (lv' := [(2, .int (nI f)), (0, .ref (o 0)), (1, .int (nI b)), (3, .int (nI j))]) hxx hbb fd_Q_leastOf_59 rfl hl (by decide) rfl (fun ls hl => ?_)
            refine lv_aload_n hxx hbb fd_Q_leastOf_60 rfl (lv_at hl 1 rfl) ?_
            refine fg_Q_next hC hQ fd_Q_leastOf_61 ?_
            refine lv_iload_n hxx hbb fd_Q_leastOf_64 rfl (lv_at hl 3 rfl) ?_
            refine fr_Q_next hC hQ j rfl (by omega) fd_Q_leastOf_65 (v := g 2 j) rfl ?_
            refine lv_istore_n (lv' := [(3, .int (g 2 j)), (2, .int (nI f)), (0, .ref (o 0)), (1, .int (nI b))]) hxx hbb fd_Q_leastOf_66 rfl hl (by decide) rfl (fun ls hl => ?_)
            refine lv_goto (tgt := 14) hxx hbb fd_Q_leastOf_67 (by decide) ?_
            exact ih14 t' f (g 2 j) (by simp only [List.length_cons] at hlen; omega) hnx' (fun k hk => hsub k (List.mem_cons_of_mem _ hk)) hfm (fq_ls_keep hall hbt) _ _ _ hQ (lv_sub hl [2, 3, 1, 0] rfl)
          · refine lv_iload_n hxx hbb fd_Q_leastOf_49 rfl (lv_at hl 3 rfl) ?_
            refine lv_iload_n hxx hbb fd_Q_leastOf_50 rfl (lv_at hl 2 rfl) ?_
            refine lv_icmp_ge (tgt := 58) hxx hbb fd_Q_leastOf_51 (by decide) (fun c51 => ?_) (fun c51 => ?_)
            · have hbt : fq_bt (g 4) f j := fq_bt_eq c46 ((nI_leI (by omega) (by omega)).mp c51)
              refine lv_iload_n hxx hbb fd_Q_leastOf_58 rfl (lv_at hl 2 rfl) ?_
              refine lv_istore_n (lv' := [(2, .int (nI f)), (0, .ref (o 0)), (1, .int (nI b)), (3, .int (nI j))]) hxx hbb fd_Q_leastOf_59 rfl hl (by decide) rfl (fun ls hl => ?_)
              refine lv_aload_n hxx hbb fd_Q_leastOf_60 rfl (lv_at hl 1 rfl) ?_
              refine fg_Q_next hC hQ fd_Q_leastOf_61 ?_
              refine lv_iload_n hxx hbb fd_Q_leastOf_64 rfl (lv_at hl 3 rfl) ?_
              refine fr_Q_next hC hQ j rfl (by omega) fd_Q_leastOf_65 (v := g 2 j) rfl ?_
              refine lv_istore_n (lv' := [(3, .int (g 2 j)), (2, .int (nI f)), (0, .ref (o 0)), (1, .int (nI b))]) hxx hbb fd_Q_leastOf_66 rfl hl (by decide) rfl (fun ls hl => ?_)
              refine lv_goto (tgt := 14) hxx hbb fd_Q_leastOf_67 (by decide) ?_
              exact ih14 t' f (g 2 j) (by simp only [List.length_cons] at hlen; omega) hnx' (fun k hk => hsub k (List.mem_cons_of_mem _ hk)) hfm (fq_ls_keep hall hbt) _ _ _ hQ (lv_sub hl [2, 3, 1, 0] rfl)
            · have hbt : fq_bt (g 4) j f := Or.inr ⟨c46, Nat.le_of_lt (Nat.not_le.mp (fun q => c51 ((nI_leI (by omega) (by omega)).mpr q)))⟩
              refine lv_iload_n hxx hbb fd_Q_leastOf_54 rfl (lv_at hl 3 rfl) ?_
              refine lv_goto (tgt := 59) hxx hbb fd_Q_leastOf_55 (by decide) ?_
              refine lv_istore_n (lv' := [(2, .int (nI j)), (0, .ref (o 0)), (1, .int (nI b)), (3, .int (nI j))]) hxx hbb fd_Q_leastOf_59 rfl hl (by decide) rfl (fun ls hl => ?_)
              refine lv_aload_n hxx hbb fd_Q_leastOf_60 rfl (lv_at hl 1 rfl) ?_
              refine fg_Q_next hC hQ fd_Q_leastOf_61 ?_
              refine lv_iload_n hxx hbb fd_Q_leastOf_64 rfl (lv_at hl 3 rfl) ?_
              refine fr_Q_next hC hQ j rfl (by omega) fd_Q_leastOf_65 (v := g 2 j) rfl ?_
              refine lv_istore_n (lv' := [(3, .int (g 2 j)), (2, .int (nI j)), (0, .ref (o 0)), (1, .int (nI b))]) hxx hbb fd_Q_leastOf_66 rfl hl (by decide) rfl (fun ls hl => ?_)
              refine lv_goto (tgt := 14) hxx hbb fd_Q_leastOf_67 (by decide) ?_
              exact ih14 t' j (g 2 j) (by simp only [List.length_cons] at hlen; omega) hnx' (fun k hk => hsub k (List.mem_cons_of_mem _ hk)) (hsub j List.mem_cons_self) (fq_ls_take hall hbt) _ _ _ hQ (lv_sub hl [2, 3, 1, 0] rfl)
  exact loop14 (t0.length + 1) t0 x0 (g 2 x0) (by omega) hn1.2 (fun k hk => by rw [e0]; exact List.mem_cons_of_mem _ hk) (by rw [e0]; simp) (fun k hk => by rw [e0] at hk; rcases List.mem_cons.mp hk with q | q; rw [q]; exact Or.inr (fq_bt_rf _ _); exact Or.inl q) _ _ _ hQ (lv_sub hl [2, 3, 1, 0] rfl)
set_option maxHeartbeats 4000000 in
set_option maxRecDepth 100000 in
theorem fc_Q_layAnew (l : Launch) (V : fq_V) (o : Nat → Nat) (mo : Nat) (g : fq_G) (N b : Nat) (nf : Int32) (L : Nat → List Nat) (hL : fq_LS N g L) (hN : N ≤ 40) (hb : b < 32) (h2 : ∀ k, k < N → g 5 k = nI b → k ∈ L b) (hct : ∀ b', b' < 32 → fq_CT g N b') (hd : ∀ k ∈ L b, fq_dk (g 4 k) nf < b) (hk0 : ∀ k ∈ L b, 0 ≤ (g 4 k).toInt) (hnf : 0 ≤ nf.toInt) : fq_MV l V y_Q_layAnew b_Q_layAnew 5 1 [.ref (o 0), .int (nI b), .int nf] (fq_WQ V o mo) g (fun u => ∃ L1, fq_LA g u N b nf L L1 []) := by
  refine fq_MV_of (lv := [(0, .ref (o 0)), (1, .int (nI b)), (2, .int nf)]) (by decide) (Nat.le_of_ble_eq_true rfl) rfl ?_
  intro p e s m args below meth c A Q hC hret ls hl hQ
  have hxx := hC.1
  have hbb := hC.2.1
  refine lv_aload_n hxx hbb fd_Q_layAnew_0 rfl (lv_at hl 0 rfl) ?_
  refine lv_iload_n hxx hbb fd_Q_layAnew_1 rfl (lv_at hl 2 rfl) ?_
  refine fp_Q_floor hC hQ fd_Q_layAnew_2 (fun H locs hQ => ?_)
  refine lv_aload_n hxx hbb fd_Q_layAnew_5 rfl (lv_at hl 0 rfl) ?_
  refine fg_Q_first hC hQ fd_Q_layAnew_6 ?_
  refine lv_iload_n hxx hbb fd_Q_layAnew_9 rfl (lv_at hl 1 rfl) ?_
  refine fr_Q_first hC hQ b rfl (by omega) fd_Q_layAnew_10 (v := g 0 b) rfl ?_
  refine lv_istore_n (lv' := [(3, .int (g 0 b)), (0, .ref (o 0)), (1, .int (nI b)), (2, .int nf)]) hxx hbb fd_Q_layAnew_11 rfl hl (by decide) rfl (fun ls hl => ?_)
  refine lv_aload_n hxx hbb fd_Q_layAnew_12 rfl (lv_at hl 1 rfl) ?_
  refine fg_Q_first hC hQ fd_Q_layAnew_13 ?_
  refine lv_iload_n hxx hbb fd_Q_layAnew_16 rfl (lv_at hl 2 rfl) ?_
  refine lv_iconst (v := (-1)) hxx hbb fd_Q_layAnew_17 (by decide) ?_
  refine fs_Q_first hC hQ b rfl (by omega) fd_Q_layAnew_18 (fun H locs hQ => ?_)
  refine lv_aload_n hxx hbb fd_Q_layAnew_19 rfl (lv_at hl 1 rfl) ?_
  refine fg_Q_counts hC hQ fd_Q_layAnew_20 ?_
  refine lv_iload_n hxx hbb fd_Q_layAnew_23 rfl (lv_at hl 2 rfl) ?_
  refine lv_iconst (v := 0) hxx hbb fd_Q_layAnew_24 (by decide) ?_
  refine fs_Q_counts hC hQ b rfl (by omega) fd_Q_layAnew_25 (fun H locs hQ => ?_)
  have loop26 : ∀ (n : Nat) (g1 : fq_G) (L1 : Nat → List Nat) (R : List Nat) (y : Int32), R.length < n → fq_LA g g1 N b nf L L1 R → fq_Nx (g1 2) R y → ∀ (H : Heap) (locs : List Loc) (ls : Array Slot), fq_Hp V A s.heap (fq_WQ V o mo g1) H locs → lv_has ls 5 [(0, .ref (o 0)), (1, .int (nI b)), (2, .int nf), (3, .int y)] → W p l e (fq_Rm 1) s m args below meth c H locs 0 0 Q (F0 m 26 ls []) := by
    intro n
    induction n with
    | zero =>
      intro g1 L1 R y hlen hLA hnx
      omega
    | succ n ih26 =>
      intro g1 L1 R y hlen hLA hnx H locs ls hQ hl
      refine lv_iload_n hxx hbb fd_Q_layAnew_26 rfl (lv_at hl 3 rfl) ?_
      refine lv_iconst (v := (-1)) hxx hbb fd_Q_layAnew_27 (by decide) ?_
      refine lv_icmp_eq (tgt := 60) hxx hbb fd_Q_layAnew_28 (by decide) (fun c28 => ?_) (fun c28 => ?_)
      · exact hret _ _ _ _ _ fd_Q_layAnew_60 hQ ⟨L1, by rw [fq_Nx_nil hnx (fun k hk => by have := ((hL b hb).2.2 k (hLA.2.1.1 k hk).1).1; omega) c28] at hLA; exact hLA⟩
      · obtain ⟨j, t, et, ey, hnx'⟩ := fq_Nx_cons hnx c28
        subst et
        subst ey
        have hjm : j ∈ L b := (hLA.2.1.1 j List.mem_cons_self).1
        have hj40 : j < 40 := by have := ((hL b hb).2.2 j hjm).1; omega
        have h123 : g1 12 3 = nf := hLA.2.2.1.2
        refine lv_aload_n hxx hbb fd_Q_layAnew_31 rfl (lv_at hl 0 rfl) ?_
        refine fg_Q_next hC hQ fd_Q_layAnew_32 ?_
        refine lv_iload_n hxx hbb fd_Q_layAnew_35 rfl (lv_at hl 3 rfl) ?_
        refine fr_Q_next hC hQ j rfl (by omega) fd_Q_layAnew_36 (v := g1 2 j) rfl ?_
        refine lv_istore (lv' := [(4, .int (g1 2 j)), (0, .ref (o 0)), (1, .int (nI b)), (2, .int nf), (3, .int (nI j))]) hxx hbb fd_Q_layAnew_37 hl (by decide) rfl (fun ls hl => ?_)
        refine lv_aload_n hxx hbb fd_Q_layAnew_39 rfl (lv_at hl 1 rfl) ?_
        refine lv_iload_n hxx hbb fd_Q_layAnew_40 rfl (lv_at hl 4 rfl) ?_
        refine lv_aload_n hxx hbb fd_Q_layAnew_41 rfl (lv_at hl 1 rfl) ?_
        refine lv_aload_n hxx hbb fd_Q_layAnew_42 rfl (lv_at hl 1 rfl) ?_
        refine fg_Q_keys hC hQ fd_Q_layAnew_43 ?_
        refine lv_iload_n hxx hbb fd_Q_layAnew_46 rfl (lv_at hl 4 rfl) ?_
        refine fr_Q_keys hC hQ j rfl (by omega) fd_Q_layAnew_47 (v := g 4 j) (congrFun hLA.2.2.1.1 j) ?_
        refine fq_callI hC (fc_Q_bucketFor l V o mo g1 (g 4 j) (hk0 j hjm) (by rw [h123]; exact hnf)) fw_Q_74 ⟨Nat.le_of_ble_eq_true rfl, Nat.le_of_ble_eq_true rfl⟩ rfl rfl rfl hQ rfl hl.1 (rest := [.int (nI j), .ref (o 0)]) rfl (Nat.le_of_ble_eq_true rfl) fd_Q_layAnew_48 ⟨Nat.le_refl _, Nat.le_refl _⟩ (fun r48 u48 H locs hp48 hQ => ?_)
        rw [hp48.1] at hQ
        refine fq_top (y := nI (fq_dk (g 4 j) nf)) (hp48.2.trans (by rw [h123])) ?_
        refine fq_callV hC (fc_Q_link l V o mo g1 j (fq_dk (g 4 j) nf) hj40 (fq_dk_31 _ _) (fq_LS_first hN hLA.1.1 (fq_dk_31 _ _))) fw_Q_78 ⟨Nat.le_of_ble_eq_true rfl, Nat.le_of_ble_eq_true rfl⟩ rfl rfl rfl hQ rfl hl.1 (rest := []) rfl (Nat.le_of_ble_eq_true rfl) fd_Q_layAnew_51 ⟨Nat.le_refl _, Nat.le_refl _⟩ (fun u51 H locs hp51 hQ => ?_)
        subst hp51
        refine lv_iload hxx hbb fd_Q_layAnew_54 (lv_at hl 0 rfl) ?_
        refine lv_istore_n (lv' := [(3, .int (g1 2 j)), (4, .int (g1 2 j)), (0, .ref (o 0)), (1, .int (nI b)), (2, .int nf)]) hxx hbb fd_Q_layAnew_56 rfl hl (by decide) rfl (fun ls hl => ?_)
        refine lv_goto (tgt := 26) hxx hbb fd_Q_layAnew_57 (by decide) ?_
        exact ih26 _ _ t (g1 2 j) (by simp only [List.length_cons] at hlen; omega) (fq_LA_step hN hb (fun k hk => ((hL b hb).2.2 k hk).1) hd hLA) (fq_LA_Nx hLA.1.2.2 hnx') _ _ _ hQ (lv_sub hl [2, 3, 4, 0] rfl)
  exact loop26 ((L b).length + 1) _ _ (L b) (g 0 b) (by omega) (fq_LA_init hL hN hb h2 hct) (fq_Nx_of (hL b hb).1) _ _ _ hQ (lv_sub hl [1, 2, 3, 0] rfl)
set_option maxHeartbeats 4000000 in
set_option maxRecDepth 100000 in
theorem fc_Q_pop (l : Launch) (V : fq_V) (o : Nat → Nat) (mo : Nat) (g : fq_G) (a : fq_G) (N C P : Nat) (L : Nat → List Nat) (hB : fq_QB g a N L) (hA : fq_AB a N C P) : fq_MI l V y_Q_pop b_Q_pop 3 .int 2 [.ref (o 0)] (fq_WQ V o mo) g (fun r u => (fq_cnt (fq_th a) N = 0 ∧ r = -1 ∧ u = g) ∨ ∃ f, fq_isL (a 0) N f ∧ r = nI f ∧ (∃ L', fq_QB u (fq_popG a N f) N L') ∧ fq_FR g u) := by
  refine fq_MI_of (lv := [(0, .ref (o 0))]) (by decide) (Nat.le_of_ble_eq_true rfl) rfl ?_
  intro p e s m args below meth c A Q hC hret ls hl hQ
  have hxx := hC.1
  have hbb := hC.2.1
  refine lv_aload_n hxx hbb fd_Q_pop_0 rfl (lv_at hl 0 rfl) ?_
  refine fg_Q_size hC hQ fd_Q_pop_1 (v := nI (fq_cnt (fq_th a) N)) hB.1.2.2.1 ?_
  refine lv_if_ne (tgt := 9) hxx hbb fd_Q_pop_4 (by decide) (fun c4 => ?_) (fun c4 => ?_)
  · have h40 := hA.2.1
    obtain ⟨k0, hk0, hk00⟩ := fq_some_there c4
    have hbm := fq_dk_31 (a 0 k0) (a 8 3)
    have hkm := (hB.2.2.2.1 k0 hk0 hk00).2
    refine lv_iconst (v := (nI 0)) hxx hbb fd_Q_pop_9 (by decide) ?_
    refine lv_istore_n (lv' := [(1, .int (nI 0)), (0, .ref (o 0))]) hxx hbb fd_Q_pop_10 rfl hl (by decide) rfl (fun ls hl => ?_)
    have loop11 : ∀ (n : Nat) (b : Nat), b ≤ fq_dk (a 0 k0) (a 8 3) → fq_dk (a 0 k0) (a 8 3) < b + n → (∀ b', b' < b → L b' = []) → ∀ (H : Heap) (locs : List Loc) (ls : Array Slot), fq_Hp V A s.heap (fq_WQ V o mo g) H locs → lv_has ls 3 [(0, .ref (o 0)), (1, .int (nI b))] → W p l e (fq_Rm 2) s m args below meth c H locs 0 0 Q (F0 m 11 ls []) := by
      intro n
      induction n with
      | zero =>
        intro b hble hn hlow
        omega
      | succ n ih11 =>
        intro b hble hn hlow H locs ls hQ hl
        refine lv_aload_n hxx hbb fd_Q_pop_11 rfl (lv_at hl 0 rfl) ?_
        refine fg_Q_first hC hQ fd_Q_pop_12 ?_
        refine lv_iload_n hxx hbb fd_Q_pop_15 rfl (lv_at hl 1 rfl) ?_
        refine fr_Q_first hC hQ b rfl (by omega) fd_Q_pop_16 (v := g 0 b) rfl ?_
        refine lv_iconst (v := (-1)) hxx hbb fd_Q_pop_17 (by decide) ?_
        refine lv_icmp_ne (tgt := 27) hxx hbb fd_Q_pop_18 (by decide) (fun c18 => ?_) (fun c18 => ?_)
        · have hb32 : b < 32 := by omega
          have hne : L b ≠ [] := fun q => c18 (by have h9 := (hB.2.1 b hb32).1; rw [q] at h9; exact h9)
          refine lv_aload_n hxx hbb fd_Q_pop_27 rfl (lv_at hl 0 rfl) ?_
          refine lv_iload_n hxx hbb fd_Q_pop_28 rfl (lv_at hl 1 rfl) ?_
          refine fq_callI hC (fc_Q_leastOf l V o mo g b N L hB.2.1 h40 hb32 hne) fw_Q_95 ⟨Nat.le_of_ble_eq_true rfl, Nat.le_of_ble_eq_true rfl⟩ rfl rfl rfl hQ rfl hl.1 (rest := []) rfl (Nat.le_of_ble_eq_true rfl) fd_Q_pop_29 ⟨Nat.le_refl _, Nat.le_refl _⟩ (fun r29 u29 H locs hp29 hQ => ?_)
          rw [hp29.1] at hQ
          obtain ⟨f, hfm, er29, hmin⟩ := hp29.2
          refine fq_top (y := nI f) er29 ?_
          obtain ⟨hisL, hfb⟩ := fq_isL_of hB hA hb32 hlow hfm hmin
          obtain ⟨hfN, hf0, -, hf4⟩ := fq_QB_mem hB hb32 hfm
          have hkf := (hA.2.2.2.2.1 f hfN).resolve_left hf0
          refine lv_istore_n (lv' := [(2, .int (nI f)), (0, .ref (o 0)), (1, .int (nI b))]) hxx hbb fd_Q_pop_32 rfl hl (by decide) rfl (fun ls hl => ?_)
          refine lv_iload_n hxx hbb fd_Q_pop_33 rfl (lv_at hl 2 rfl) ?_
          refine lv_if_le (tgt := 48) hxx hbb fd_Q_pop_34 (by decide) (fun c34 => ?_) (fun c34 => ?_)
          · have hb0 : b = 0 := by have h9 := (nI_leI (a := b) (b := 0) (by omega) (by omega)).mp (by rw [nI_0]; exact c34); omega
            subst hb0
            have hwf : g 5 f = nI 0 := ((hB.2.1 0 hb32).2.2 f hfm).2
            refine lv_aload_n hxx hbb fd_Q_pop_48 rfl (lv_at hl 1 rfl) ?_
            refine lv_iload_n hxx hbb fd_Q_pop_49 rfl (lv_at hl 0 rfl) ?_
            refine fq_callV hC (fc_Q_unlink l V o mo g f 0 (by omega) (by omega) hwf (fq_LS_nb h40 hB.2.1 hb32 hfm).1 (fq_LS_nb h40 hB.2.1 hb32 hfm).2) fw_Q_91 ⟨Nat.le_of_ble_eq_true rfl, Nat.le_of_ble_eq_true rfl⟩ rfl rfl rfl hQ rfl hl.1 (rest := []) rfl (Nat.le_of_ble_eq_true rfl) fd_Q_pop_50 ⟨Nat.le_refl _, Nat.le_refl _⟩ (fun u50 H locs hp50 hQ => ?_)
            subst hp50
            refine lv_aload_n hxx hbb fd_Q_pop_53 rfl (lv_at hl 1 rfl) ?_
            refine lv_dup hxx hbb fd_Q_pop_54 rfl ?_
            refine fg_Q_size hC hQ fd_Q_pop_55 (v := g 12 4) (congrFun (fq_unlink_o g f 0 (r := 12) (by omega)) 4) ?_
            refine lv_iconst (v := 1) hxx hbb fd_Q_pop_58 (by decide) ?_
            refine lv_isub hxx hbb fd_Q_pop_59 ?_
            refine fp_Q_size hC hQ fd_Q_pop_60 (fun H locs hQ => ?_)
            refine lv_iload_n hxx hbb fd_Q_pop_63 rfl (lv_at hl 0 rfl) ?_
            exact hret _ _ _ _ _ _ fd_Q_pop_64 hQ (Or.inr ⟨f, hisL, rfl, ⟨_, by unfold fq_popG; rw [if_pos hfb]; exact fq_QB_unlink hB h40 hfN hf0 hfb.symm⟩, (fq_FR.unlink _ _ _).trans (fq_FR.s12 _ 4 _ (by omega) (by omega))⟩) rfl
          · have hb0 : 0 < b := Nat.pos_of_ne_zero (fun q => c34 (by rw [q, nI_0]; exact Int32.le_refl 0))
            refine lv_aload_n hxx hbb fd_Q_pop_37 rfl (lv_at hl 1 rfl) ?_
            refine lv_iload_n hxx hbb fd_Q_pop_38 rfl (lv_at hl 2 rfl) ?_
            refine lv_aload_n hxx hbb fd_Q_pop_39 rfl (lv_at hl 1 rfl) ?_
            refine fg_Q_keys hC hQ fd_Q_pop_40 ?_
            refine lv_iload_n hxx hbb fd_Q_pop_43 rfl (lv_at hl 0 rfl) ?_
            refine fr_Q_keys hC hQ f rfl (by omega) fd_Q_pop_44 (v := a 0 f) hf4 ?_
            refine fq_callV hC (fc_Q_layAnew l V o mo g N b (a 0 f) L hB.2.1 h40 hb32 (fun k hk e => fq_QB_all hB hb32 hk e) hB.2.2.2.2 (fun k hk => by obtain ⟨k1, k2, k3, k4⟩ := fq_QB_mem hB hb32 hk; rw [k4, ← hfb]; exact fq_laid_lt hA hisL (by omega) (k3.trans hfb.symm)) (fun k hk => by obtain ⟨k1, k2, k3, k4⟩ := fq_QB_mem hB hb32 hk; rw [k4]; have h8 := hA.2.2.2.1; have h9 := (hA.2.2.2.2.1 k k1).resolve_left k2; omega) (by have h8 := hA.2.2.2.1; omega)) fw_Q_98 ⟨Nat.le_of_ble_eq_true rfl, Nat.le_of_ble_eq_true rfl⟩ rfl rfl rfl hQ rfl hl.1 (rest := []) rfl (Nat.le_of_ble_eq_true rfl) fd_Q_pop_45 ⟨Nat.le_refl _, Nat.le_refl _⟩ (fun u45 H locs hp45 hQ => ?_)
            obtain ⟨L1, hLA⟩ := hp45
            have hB1 := fq_QB_laid hB hA hisL hfb.symm hb0 hLA
            have hz0 : fq_dk (fq_popM a N f 0 f) (fq_popM a N f 8 3) = 0 := by rw [fq_popM_0, fq_popM_83]; exact fq_d_self _
            have hf1 : fq_popM a N f 0 f ≠ -1 := by rw [fq_popM_0]; exact hf0
            have hm1 : f ∈ L1 0 := by have h9 := (hB1.2.2.2.1 f hfN hf1).2; rw [hz0] at h9; exact h9
            have hwf : u45 5 f = nI 0 := ((hB1.2.1 0 (by omega)).2.2 f hm1).2
            refine lv_aload_n hxx hbb fd_Q_pop_48 rfl (lv_at hl 1 rfl) ?_
            refine lv_iload_n hxx hbb fd_Q_pop_49 rfl (lv_at hl 0 rfl) ?_
            refine fq_callV hC (fc_Q_unlink l V o mo u45 f 0 (by omega) (by omega) hwf (fq_LS_nb h40 hB1.2.1 (by omega) hm1).1 (fq_LS_nb h40 hB1.2.1 (by omega) hm1).2) fw_Q_91 ⟨Nat.le_of_ble_eq_true rfl, Nat.le_of_ble_eq_true rfl⟩ rfl rfl rfl hQ rfl hl.1 (rest := []) rfl (Nat.le_of_ble_eq_true rfl) fd_Q_pop_50 ⟨Nat.le_refl _, Nat.le_refl _⟩ (fun u50 H locs hp50 hQ => ?_)
            subst hp50
            refine lv_aload_n hxx hbb fd_Q_pop_53 rfl (lv_at hl 1 rfl) ?_
            refine lv_dup hxx hbb fd_Q_pop_54 rfl ?_
            refine fg_Q_size hC hQ fd_Q_pop_55 (v := u45 12 4) (congrFun (fq_unlink_o u45 f 0 (r := 12) (by omega)) 4) ?_
            refine lv_iconst (v := 1) hxx hbb fd_Q_pop_58 (by decide) ?_
            refine lv_isub hxx hbb fd_Q_pop_59 ?_
            refine fp_Q_size hC hQ fd_Q_pop_60 (fun H locs hQ => ?_)
            refine lv_iload_n hxx hbb fd_Q_pop_63 rfl (lv_at hl 0 rfl) ?_
            exact hret _ _ _ _ _ _ fd_Q_pop_64 hQ (Or.inr ⟨f, hisL, rfl, ⟨_, by unfold fq_popG; rw [if_neg (by omega)]; exact fq_QB_unlink hB1 h40 hfN hf1 hz0.symm⟩, ((fq_LA_FR hLA).trans (fq_FR.unlink _ _ _)).trans (fq_FR.s12 _ 4 _ (by omega) (by omega))⟩) rfl
        · have hLb0 : L b = [] := by rcases fq_Ch_hd (hB.2.1 b (by omega)).1 with ⟨-, q⟩ | ⟨q1, q2, q3, q4⟩; exact q; have h9 := ((hB.2.1 b (by omega)).2.2 q1 (by rw [q3]; simp)).1; exact absurd (q4.symm.trans c18) (fq_nI_ne (by omega))
          refine lv_iinc (v := nI (b + 1)) (lv' := [(1, .int (nI (b + 1))), (0, .ref (o 0))]) hxx hbb fd_Q_pop_21 hl (k := 1) rfl (fq_inc b) (by decide) rfl (fun ls hl => ?_)
          refine lv_goto (tgt := 11) hxx hbb fd_Q_pop_24 (by decide) ?_
          exact ih11 (b + 1) (by rcases Nat.lt_or_ge b (fq_dk (a 0 k0) (a 8 3)) with q | q; exact q; exact absurd (Nat.le_antisymm hble q) (fun q => by rw [← q, hLb0] at hkm; cases hkm)) (by omega) (fun b' h => by rcases Nat.lt_or_ge b' b with q | q; exact hlow b' q; rw [show b' = b by omega]; exact hLb0) _ _ _ hQ (lv_sub hl [1, 0] rfl)
    exact loop11 (fq_dk (a 0 k0) (a 8 3) + 1) 0 (Nat.zero_le _) (by omega) (fun b' h => absurd h (Nat.not_lt_zero _)) _ _ _ hQ (lv_sub hl [1, 0] rfl)
  · refine lv_iconst (v := (-1)) hxx hbb fd_Q_pop_7 (by decide) ?_
    exact hret _ _ _ _ _ _ fd_Q_pop_8 hQ (Or.inl ⟨fq_cnt_none hA.2.1 c4, rfl, rfl⟩) rfl
end
section
/-! pure rows: arcs; clearing; what is told -/
/-- the latest arc below j that leaves u -/
def fq_pv (F : Nat → Int32) (u : Int32) : Nat → Int32
  | 0 => -1
  | j + 1 => if F j = u then nI j else fq_pv F u j
theorem fq_pv_congr {F F' : Nat → Int32} {u : Int32} {n : Nat} (h : ∀ j, j < n → F' j = F j) : fq_pv F' u n = fq_pv F u n := by
  induction n with
  | zero => rfl
  | succ n ih =>
    simp only [fq_pv]
    rw [h n (by omega), ih (fun j hj => h j (by omega))]
theorem fq_pv_cases (F : Nat → Int32) (u : Int32) (n : Nat) : (fq_pv F u n = -1 ∧ ∀ j, j < n → F j ≠ u) ∨ ∃ j, j < n ∧ fq_pv F u n = nI j ∧ F j = u ∧ ∀ i, j < i → i < n → F i ≠ u := by
  induction n with
  | zero => exact Or.inl ⟨rfl, fun j hj => absurd hj (Nat.not_lt_zero _)⟩
  | succ n ih =>
    simp only [fq_pv]
    by_cases c : F n = u
    · rw [if_pos c]
      exact Or.inr ⟨n, by omega, rfl, c, fun i h1 h2 => by omega⟩
    · rw [if_neg c]
      rcases ih with ⟨h1, h2⟩ | ⟨j, h1, h2, h3, h4⟩
      · refine Or.inl ⟨h1, fun j hj => ?_⟩
        by_cases q : j = n
        · rw [q]; exact c
        · exact h2 j (by omega)
      · refine Or.inr ⟨j, by omega, h2, h3, fun i h5 h6 => ?_⟩
        by_cases q : i = n
        · rw [q]; exact c
        · exact h4 i h5 (by omega)
/-- the net: E arcs of at most M between N items -/
def fq_AG (a : fq_G) (N M E : Nat) : Prop := 1 ≤ M ∧ M ≤ 300 ∧ E ≤ M ∧ a 8 1 = nI M ∧ a 8 6 = nI E ∧ ∀ j, j < E → (∃ u, u < N ∧ a 1 j = nI u) ∧ (∃ v, v < N ∧ a 2 j = nI v) ∧ 0 ≤ (a 3 j).toInt
def fq_QA (g a : fq_G) (N E : Nat) : Prop := g 12 1 = a 8 1 ∧ g 12 2 = a 8 2 ∧ g 12 7 = a 8 6 ∧ (∀ u, u < N → g 6 u = fq_pv (a 1) (nI u) E) ∧ ∀ j, j < E → g 7 j = fq_pv (a 1) (a 1 j) j ∧ g 8 j = a 2 j ∧ g 9 j = a 3 j
def fq_QD (g a : fq_G) (N : Nat) : Prop := g 12 8 = a 8 7 ∧ (a 8 7 = 0 ∨ a 8 7 = 1) ∧ (a 8 7 = 1 → ∀ k, k < N → g 10 k = (if a 6 k = 0 then -1 else a 4 k) ∧ g 11 k = (if a 6 k = 0 then -1 else a 5 k))
def fq_arcR (a : fq_G) (N : Nat) (x y len : Int32) : Int32 := if fq_itm N x = false ∨ fq_itm N y = false then -1 else if len < 0 ∨ a 8 2 < len then -2 else if a 8 6 = a 8 1 then -3 else 0
def fq_arcA (a : fq_G) (E : Nat) (x y len : Int32) : fq_G := fq_us (fq_us (fq_us (fq_us (fq_us a 1 E x) 2 E y) 3 E len) 8 6 (a 8 6 + 1)) 8 7 0
def fq_arcF (a : fq_G) (N : Nat) (x y len : Int32) : fq_G := if fq_arcR a N x y len = 0 then fq_arcA a (a 8 6).toNatClampNeg x y len else a
theorem fq_arc_1 {a : fq_G} {N : Nat} {x y len : Int32} (h : fq_itm N x = false ∨ fq_itm N y = false) : fq_arcR a N x y len = -1 ∧ fq_arcF a N x y len = a := by
  have e : fq_arcR a N x y len = -1 := by
    unfold fq_arcR
    rw [if_pos h]
  exact ⟨e, by unfold fq_arcF; rw [e]; rfl⟩
theorem fq_arc_2 {a : fq_G} {N : Nat} {x y len : Int32} (h1 : fq_itm N x = true) (h2 : fq_itm N y = true) (h : len < 0 ∨ a 8 2 < len) : fq_arcR a N x y len = -2 ∧ fq_arcF a N x y len = a := by
  have e : fq_arcR a N x y len = -2 := by
    unfold fq_arcR
    rw [if_neg (by simp [h1, h2]), if_pos h]
  exact ⟨e, by unfold fq_arcF; rw [e]; rfl⟩
theorem fq_arc_3 {a : fq_G} {N : Nat} {x y len : Int32} (h1 : fq_itm N x = true) (h2 : fq_itm N y = true) (h : ¬ (len < 0 ∨ a 8 2 < len)) (he : a 8 6 = a 8 1) : fq_arcR a N x y len = -3 ∧ fq_arcF a N x y len = a := by
  have e : fq_arcR a N x y len = -3 := by
    unfold fq_arcR
    rw [if_neg (by simp [h1, h2]), if_neg h, if_pos he]
  exact ⟨e, by unfold fq_arcF; rw [e]; rfl⟩
theorem fq_arc_4 {a : fq_G} {N E : Nat} {x y len : Int32} (h1 : fq_itm N x = true) (h2 : fq_itm N y = true) (h : ¬ (len < 0 ∨ a 8 2 < len)) (he : ¬ a 8 6 = a 8 1) (hE : a 8 6 = nI E) (hE2 : E < 2 ^ 31) : fq_arcR a N x y len = 0 ∧ fq_arcF a N x y len = fq_arcA a E x y len := by
  have e : fq_arcR a N x y len = 0 := by
    unfold fq_arcR
    rw [if_neg (by simp [h1, h2]), if_neg h, if_neg he]
  exact ⟨e, by unfold fq_arcF; rw [e, hE, nI_clamp hE2]; rfl⟩
theorem fq_arcA_AG {a : fq_G} {N M E u v : Nat} {len : Int32} (hG : fq_AG a N M E) (hE : E < M) (hu : u < N) (hv : v < N) (hl : ¬ len < 0) : fq_AG (fq_arcA a E (nI u) (nI v) len) N M (E + 1) := by
  obtain ⟨m1, m2, m3, m4, m5, m6⟩ := hG
  refine ⟨m1, m2, by omega, by simp [fq_arcA, fq_us, upd, m4], by simp [fq_arcA, fq_us, upd, m5, nI_1], fun j hj => ?_⟩
  have e1 : fq_arcA a E (nI u) (nI v) len 1 = upd (a 1) E (nI u) := by simp [fq_arcA, fq_us]
  have e2 : fq_arcA a E (nI u) (nI v) len 2 = upd (a 2) E (nI v) := by simp [fq_arcA, fq_us]
  have e3 : fq_arcA a E (nI u) (nI v) len 3 = upd (a 3) E len := by simp [fq_arcA, fq_us]
  rw [e1, e2, e3]
  by_cases c : j = E
  · subst c
    refine ⟨⟨u, hu, by simp [upd]⟩, ⟨v, hv, by simp [upd]⟩, ?_⟩
    have e : upd (a 3) j len j = len := by simp [upd]
    rw [e]
    have := Int32.not_lt.mp hl
    rw [Int32.le_iff_toInt_le, Int32.toInt_zero] at this
    exact this
  · simp only [upd, if_neg c]
    exact m6 j (by omega)
theorem fq_arcA_QA {g a : fq_G} {N M E u v : Nat} {len : Int32} (hQ : fq_QA g a N E) (hG : fq_AG a N M E) (h40 : N ≤ 40) (hu : u < N) (hv : v < N) :
    fq_QA (fq_us (fq_us (fq_us (fq_us (fq_us (fq_us g 8 E (nI v)) 9 E len) 7 E (g 6 u)) 6 u (nI E)) 12 7 (nI E + 1)) 12 8 0) (fq_arcA a E (nI u) (nI v) len) N (E + 1) := by
  obtain ⟨q1, q2, q7, qh, qj⟩ := hQ
  obtain ⟨m1, m2, m3, m4, m5, m6⟩ := hG
  obtain ⟨z, ez⟩ : ∃ z, z = fq_us (fq_us (fq_us (fq_us (fq_us (fq_us g 8 E (nI v)) 9 E len) 7 E (g 6 u)) 6 u (nI E)) 12 7 (nI E + 1)) 12 8 0 := ⟨_, rfl⟩
  rw [← ez]
  have e1 : fq_arcA a E (nI u) (nI v) len 1 = upd (a 1) E (nI u) := by simp [fq_arcA, fq_us]
  have e2 : fq_arcA a E (nI u) (nI v) len 2 = upd (a 2) E (nI v) := by simp [fq_arcA, fq_us]
  have e3 : fq_arcA a E (nI u) (nI v) len 3 = upd (a 3) E len := by simp [fq_arcA, fq_us]
  have e8 : fq_arcA a E (nI u) (nI v) len 8 = upd (upd (a 8) 6 (a 8 6 + 1)) 7 0 := by simp [fq_arcA, fq_us]
  have z6 : z 6 = upd (g 6) u (nI E) := by rw [ez]; simp [fq_us]
  have z7 : z 7 = upd (g 7) E (g 6 u) := by rw [ez]; simp [fq_us]
  have z8 : z 8 = upd (g 8) E (nI v) := by rw [ez]; simp [fq_us]
  have z9 : z 9 = upd (g 9) E len := by rw [ez]; simp [fq_us]
  have z12 : z 12 = upd (upd (g 12) 7 (nI E + 1)) 8 0 := by rw [ez]; simp [fq_us]
  have hpv : ∀ (w : Int32) (n : Nat), n ≤ E → fq_pv (upd (a 1) E (nI u)) w n = fq_pv (a 1) w n := by
    intro w n hn
    refine fq_pv_congr (fun j hj => ?_)
    have hne : j ≠ E := by omega
    simp [upd, hne]
  rw [fq_QA, e1, e2, e3, e8, z6, z7, z8, z9, z12]
  refine ⟨by simp [upd, q1], by simp [upd, q2], by simp [upd, m5], fun w hw => ?_, fun j hj => ?_⟩
  · simp only [fq_pv]
    rw [hpv _ _ (Nat.le_refl _)]
    by_cases c : w = u
    · subst c
      simp [upd]
    · have c2 : ¬ nI u = nI w := fun q => c (fq_eqI (by omega) (by omega) q).symm
      simp [upd, c, c2, qh w hw]
  · rw [hpv _ _ (by omega)]
    by_cases c : j = E
    · subst c
      simp [upd, qh u hu]
    · simp only [upd, if_neg c]
      exact qj j (by omega)
def fq_distF (a : fq_G) (N : Nat) (x : Int32) : Int32 := if a 8 7 ≠ 0 ∧ fq_itm N x = true ∧ a 6 x.toNatClampNeg ≠ 0 then a 4 x.toNatClampNeg else -1
def fq_befF (a : fq_G) (N : Nat) (x : Int32) : Int32 := if a 8 7 ≠ 0 ∧ fq_itm N x = true ∧ a 6 x.toNatClampNeg ≠ 0 then a 5 x.toNatClampNeg else -1
theorem fq_dist_no {a : fq_G} {N : Nat} {x : Int32} (h : a 8 7 = 0 ∨ fq_itm N x = false) : fq_distF a N x = -1 ∧ fq_befF a N x = -1 := by
  unfold fq_distF fq_befF
  rcases h with h | h <;> simp [h]
theorem fq_dist_is {g a : fq_G} {N j : Nat} (hD : fq_QD g a N) (h40 : N ≤ 40) (hj : j < N) (h : ¬ a 8 7 = 0) : fq_distF a N (nI j) = g 10 j ∧ fq_befF a N (nI j) = g 11 j := by
  obtain ⟨d1, d2, d3⟩ := hD
  have h1 := d3 (d2.resolve_left h) j hj
  unfold fq_distF fq_befF
  rw [nI_clamp (by omega), fq_itm_t h40 hj, h1.1, h1.2]
  by_cases c : a 6 j = 0 <;> simp [h, c]
def fq_keyF (a : fq_G) (N : Nat) (x : Int32) : Int32 := if fq_itm N x = true then a 0 x.toNatClampNeg else -1
def fq_buckF (a : fq_G) (N : Nat) (x : Int32) : Int32 := if fq_itm N x = true ∧ a 0 x.toNatClampNeg ≠ -1 then nI (fq_dk (a 0 x.toNatClampNeg) (a 8 3)) else -1
theorem fq_key_no {a : fq_G} {N : Nat} {x : Int32} (h : ∀ j, j < N → x = nI j → a 0 j = -1) : fq_keyF a N x = -1 ∧ fq_buckF a N x = -1 := by
  unfold fq_keyF fq_buckF
  by_cases c : fq_itm N x = false
  · simp [c]
  · have c2 : 0 ≤ x.toInt ∧ x.toInt < (N : Int) := by simpa [fq_itm] using c
    have e := fq_n_toInt c2.1
    have := h x.toNatClampNeg (by omega) (fq_nI_n c2.1).symm
    simp [this]
theorem fq_key_is {a : fq_G} {N j : Nat} (h40 : N ≤ 40) (hj : j < N) (h : a 0 j ≠ -1) : fq_keyF a N (nI j) = a 0 j ∧ fq_buckF a N (nI j) = nI (fq_dk (a 0 j) (a 8 3)) := by
  unfold fq_keyF fq_buckF
  rw [nI_clamp (by omega), fq_itm_t h40 hj]
  simp [h]
def fq_manyF (a : fq_G) (N : Nat) (x : Int32) : Int32 := if 0 ≤ x.toInt ∧ x.toInt < 32 then nI (fq_cnt (fq_inb a x.toNatClampNeg) N) else -1
theorem fq_many_no {a : fq_G} {N : Nat} {x : Int32} (h : ¬ (¬ x < 0 ∧ ¬ 31 < x)) : fq_manyF a N x = -1 := by
  unfold fq_manyF
  rw [if_neg]
  intro c
  apply h
  rw [Int32.lt_iff_toInt_lt, Int32.lt_iff_toInt_lt, Int32.toInt_zero]
  have : (31 : Int32).toInt = 31 := by decide
  rw [this]
  omega
theorem fq_many_ix {x : Int32} (h : ¬ x < 0 ∧ ¬ 31 < x) : ∃ b, b < 32 ∧ x = nI b := by
  rw [Int32.lt_iff_toInt_lt, Int32.lt_iff_toInt_lt, Int32.toInt_zero] at h
  have e : (31 : Int32).toInt = 31 := by decide
  rw [e] at h
  have h0 : 0 ≤ x.toInt := by omega
  have := fq_n_toInt h0
  exact ⟨x.toNatClampNeg, by omega, (fq_nI_n h0).symm⟩
theorem fq_many_is {a : fq_G} {N b : Nat} (hb : b < 32) : fq_manyF a N (nI b) = nI (fq_cnt (fq_inb a b) N) := by
  unfold fq_manyF
  rw [nI_clamp (by omega), nI_toInt (by omega), if_pos (by omega)]
theorem fq_QB_many {g a : fq_G} {N b : Nat} {L : Nat → List Nat} (hQ : fq_QB g a N L) (hb : b < 32) : g 1 b = nI (fq_cnt (fq_inb a b) N) := by
  have h := hQ.2.2.2.2 b hb
  unfold fq_CT at h
  rw [h]
  refine congrArg nI (fq_cnt_congr (fun k hk => ?_))
  have e1 := hQ.2.2.1 k hk
  by_cases c : a 0 k = -1
  · rw [if_pos c] at e1
    have e2 : ¬ (-1 : Int32) = nI b := fun q => fq_nI_ne (by omega) q.symm
    simp [fq_inb, e1, c, e2]
  · rw [if_neg c] at e1
    have e3 := fq_dk_31 (a 0 k) (a 8 3)
    by_cases c2 : fq_dk (a 0 k) (a 8 3) = b
    · simp [fq_inb, e1, c, c2]
    · have e2 : ¬ nI (fq_dk (a 0 k) (a 8 3)) = nI b := fun q => c2 (fq_eqI (by omega) (by omega) q)
      simp [fq_inb, e1, c, c2, e2]
def fq_countF (a : fq_G) (x : Int32) : Int32 := if x = 0 then a 8 0 else if x = 1 then a 8 6 else if x = 2 then a 8 5 else -1
end
section
/-! pure rows: small helpers -/
theorem fq_if0 {r : Int32} {c : Prop} {d : Decidable c} (h : r = if c then 1 else 0) (e : r = 0) : ¬ c := by
  intro q
  rw [if_pos q] at h
  rw [h] at e
  exact absurd e (by decide)
theorem fq_if1 {r : Int32} {c : Prop} {d : Decidable c} (h : r = if c then 1 else 0) (e : ¬ r = 0) : c := by
  by_cases q : c
  · exact q
  · rw [if_neg q] at h
    exact absurd h e
theorem fq_sw3 {x : Int32} (h0 : ¬ x = 0) (h1 : ¬ x = 1) (h2 : ¬ x = 2) : x.toInt < 0 ∨ 2 < x.toInt := by
  have e0 : ¬ x.toInt = 0 := lv_neT h0 (by decide)
  have e1 : ¬ x.toInt = 1 := lv_neT h1 (by decide)
  have e2 : ¬ x.toInt = 2 := lv_neT h2 (by decide)
  omega
theorem fq_snd {P C : Nat} (h : P ≤ 32 * C) (hC : C < 67108864) : ¬ 0 < lg_cmp (nI P).toInt64 (32 * (nI C).toInt64) := by
  rw [nI_l (by omega), nI_l (by omega)]
  have e : (32 : Int64) = lN 32 := by decide
  rw [e, lN_mul]
  have h1 : ¬ lN (32 * C) < lN P := by
    rw [lN_lt (by omega) (by omega)]
    omega
  unfold lg_cmp
  rw [if_neg h1]
  split <;> decide
end
section
set_option maxHeartbeats 4000000 in
set_option maxRecDepth 100000 in
theorem fc_Q_arc (l : Launch) (V : fq_V) (o : Nat → Nat) (mo : Nat) (g : fq_G) (a : fq_G) (M E : Nat) (N : Nat) (h1 : 1 ≤ N) (h40 : N ≤ 40) (hN : g 12 0 = nI N) (hQA : fq_QA g a N E) (hG : fq_AG a N M E) (hmM : mo = M) (x y len : Int32) : fq_MI l V y_Q_arc b_Q_arc 4 .int 2 [.ref (o 0), .int x, .int y, .int len] (fq_WQ V o mo) g (fun r u => r = fq_arcR a N x y len ∧ ((r ≠ 0 ∧ u = g ∧ fq_arcF a N x y len = a) ∨ (r = 0 ∧ ∃ u0 v0, u0 < N ∧ v0 < N ∧ x = nI u0 ∧ y = nI v0 ∧ ¬ len < 0 ∧ E < M ∧ fq_arcF a N x y len = fq_arcA a E x y len ∧ u = fq_us (fq_us (fq_us (fq_us (fq_us (fq_us g 8 E (nI v0)) 9 E len) 7 E (g 6 u0)) 6 u0 (nI E)) 12 7 (nI E + 1)) 12 8 0))) := by
  refine fq_MI_of (lv := [(0, .ref (o 0)), (1, .int x), (2, .int y), (3, .int len)]) (by decide) (Nat.le_of_ble_eq_true rfl) rfl ?_
  intro p e s m args below meth c A Q hC hret ls hl hQ
  have hxx := hC.1
  have hbb := hC.2.1
  refine lv_aload_n hxx hbb fd_Q_arc_0 rfl (lv_at hl 0 rfl) ?_
  refine lv_iload_n hxx hbb fd_Q_arc_1 rfl (lv_at hl 1 rfl) ?_
  refine fq_callI hC (fc_Q_isItem l V o mo g x N h1 h40 hN) fw_Q_64 ⟨Nat.le_of_ble_eq_true rfl, Nat.le_of_ble_eq_true rfl⟩ rfl rfl rfl hQ rfl hl.1 (rest := []) rfl (Nat.le_of_ble_eq_true rfl) fd_Q_arc_2 ⟨Nat.le_refl _, Nat.le_refl _⟩ (fun r2 u2 H locs hp2 hQ => ?_)
  rw [hp2.1] at hQ
  refine lv_if_eq (tgt := 16) hxx hbb fd_Q_arc_5 (by decide) (fun c5 => ?_) (fun c5 => ?_)
  · refine lv_iconst (v := (-1)) hxx hbb fd_Q_arc_16 (by decide) ?_
    exact hret _ _ _ _ _ _ fd_Q_arc_17 hQ ⟨(fq_arc_1 (Or.inl (fq_itm_f (fq_no hp2.2 c5)))).1.symm, Or.inl ⟨by decide, rfl, (fq_arc_1 (Or.inl (fq_itm_f (fq_no hp2.2 c5)))).2⟩⟩ rfl
  · obtain ⟨u0, hu0, eu0⟩ := fq_yes hp2.2 c5
    subst eu0
    refine lv_aload_n hxx hbb fd_Q_arc_8 rfl (lv_at hl 0 rfl) ?_
    refine lv_iload_n hxx hbb fd_Q_arc_9 rfl (lv_at hl 2 rfl) ?_
    refine fq_callI hC (fc_Q_isItem l V o mo g y N h1 h40 hN) fw_Q_64 ⟨Nat.le_of_ble_eq_true rfl, Nat.le_of_ble_eq_true rfl⟩ rfl rfl rfl hQ rfl hl.1 (rest := []) rfl (Nat.le_of_ble_eq_true rfl) fd_Q_arc_10 ⟨Nat.le_refl _, Nat.le_refl _⟩ (fun r10 u10 H locs hp10 hQ => ?_)
    rw [hp10.1] at hQ
    refine lv_if_ne (tgt := 18) hxx hbb fd_Q_arc_13 (by decide) (fun c13 => ?_) (fun c13 => ?_)
    · obtain ⟨v0, hv0, ev0⟩ := fq_yes hp10.2 c13
      subst ev0
      have hmo : mo ≤ 300 := by rw [hmM]; exact hG.2.1
      have hit1 := fq_itm_t h40 hu0
      have hit2 := fq_itm_t h40 hv0
      refine lv_iload_n hxx hbb fd_Q_arc_18 rfl (lv_at hl 3 rfl) ?_
      refine lv_iconst (v := 0) hxx hbb fd_Q_arc_19 (by decide) ?_
      refine lv_aload_n hxx hbb fd_Q_arc_20 rfl (lv_at hl 0 rfl) ?_
      refine fg_Q_longest hC hQ fd_Q_arc_21 (v := a 8 2) hQA.2.1 ?_
      refine fq_callS hC (fc_Q_within l V (fq_WQ V o mo) g len 0 (a 8 2)) fw_Q_60 ⟨Nat.le_of_ble_eq_true rfl, Nat.le_of_ble_eq_true rfl⟩ hQ rfl hl.1 (rest := []) rfl (Nat.le_of_ble_eq_true rfl) fd_Q_arc_24 ⟨Nat.le_refl _, Nat.le_refl _⟩ (fun r24 u24 H locs hp24 hQ => ?_)
      rw [hp24.1] at hQ
      refine lv_if_ne (tgt := 33) hxx hbb fd_Q_arc_27 (by decide) (fun c27 => ?_) (fun c27 => ?_)
      · have hlen := fq_if1 hp24.2 c27
        have hlen2 : ¬ (len < 0 ∨ a 8 2 < len) := fun q => q.elim hlen.1 hlen.2
        refine lv_aload_n hxx hbb fd_Q_arc_33 rfl (lv_at hl 0 rfl) ?_
        refine fg_Q_arcs hC hQ fd_Q_arc_34 (v := nI E) (hQA.2.2.1.trans hG.2.2.2.2.1) ?_
        refine lv_aload_n hxx hbb fd_Q_arc_37 rfl (lv_at hl 0 rfl) ?_
        refine fg_Q_most hC hQ fd_Q_arc_38 (v := nI M) (hQA.1.trans hG.2.2.2.1) ?_
        refine lv_icmp_ne (tgt := 47) hxx hbb fd_Q_arc_41 (by decide) (fun c41 => ?_) (fun c41 => ?_)
        · have hne : ¬ a 8 6 = a 8 1 := by rw [hG.2.2.2.2.1, hG.2.2.2.1]; exact c41
          have hEM : E < M := by have h9 := hG.2.2.1; have h8 : E ≠ M := fun q => c41 (by rw [q]); omega
          refine lv_aload_n hxx hbb fd_Q_arc_47 rfl (lv_at hl 0 rfl) ?_
          refine fg_Q_arcTo hC hQ fd_Q_arc_48 ?_
          refine lv_aload_n hxx hbb fd_Q_arc_51 rfl (lv_at hl 0 rfl) ?_
          refine fg_Q_arcs hC hQ fd_Q_arc_52 (v := nI E) (hQA.2.2.1.trans hG.2.2.2.2.1) ?_
          refine lv_iload_n hxx hbb fd_Q_arc_55 rfl (lv_at hl 2 rfl) ?_
          refine fs_Q_arcTo hC hQ hmo E rfl (by omega) fd_Q_arc_56 (fun H locs hQ => ?_)
          refine lv_aload_n hxx hbb fd_Q_arc_57 rfl (lv_at hl 0 rfl) ?_
          refine fg_Q_lengths hC hQ fd_Q_arc_58 ?_
          refine lv_aload_n hxx hbb fd_Q_arc_61 rfl (lv_at hl 0 rfl) ?_
          refine fg_Q_arcs hC hQ fd_Q_arc_62 (v := nI E) (hQA.2.2.1.trans hG.2.2.2.2.1) ?_
          refine lv_iload_n hxx hbb fd_Q_arc_65 rfl (lv_at hl 3 rfl) ?_
          refine fs_Q_lengths hC hQ hmo E rfl (by omega) fd_Q_arc_66 (fun H locs hQ => ?_)
          refine lv_aload_n hxx hbb fd_Q_arc_67 rfl (lv_at hl 0 rfl) ?_
          refine fg_Q_arcNext hC hQ fd_Q_arc_68 ?_
          refine lv_aload_n hxx hbb fd_Q_arc_71 rfl (lv_at hl 0 rfl) ?_
          refine fg_Q_arcs hC hQ fd_Q_arc_72 (v := nI E) (hQA.2.2.1.trans hG.2.2.2.2.1) ?_
          refine lv_aload_n hxx hbb fd_Q_arc_75 rfl (lv_at hl 0 rfl) ?_
          refine fg_Q_heads hC hQ fd_Q_arc_76 ?_
          refine lv_iload_n hxx hbb fd_Q_arc_79 rfl (lv_at hl 1 rfl) ?_
          refine fr_Q_heads hC hQ u0 rfl (by omega) fd_Q_arc_80 (v := g 6 u0) rfl ?_
          refine fs_Q_arcNext hC hQ hmo E rfl (by omega) fd_Q_arc_81 (fun H locs hQ => ?_)
          refine lv_aload_n hxx hbb fd_Q_arc_82 rfl (lv_at hl 0 rfl) ?_
          refine fg_Q_heads hC hQ fd_Q_arc_83 ?_
          refine lv_iload_n hxx hbb fd_Q_arc_86 rfl (lv_at hl 1 rfl) ?_
          refine lv_aload_n hxx hbb fd_Q_arc_87 rfl (lv_at hl 0 rfl) ?_
          refine fg_Q_arcs hC hQ fd_Q_arc_88 (v := nI E) (hQA.2.2.1.trans hG.2.2.2.2.1) ?_
          refine fs_Q_heads hC hQ u0 rfl (by omega) fd_Q_arc_91 (fun H locs hQ => ?_)
          refine lv_aload_n hxx hbb fd_Q_arc_92 rfl (lv_at hl 0 rfl) ?_
          refine lv_dup hxx hbb fd_Q_arc_93 rfl ?_
          refine fg_Q_arcs hC hQ fd_Q_arc_94 (v := nI E) (hQA.2.2.1.trans hG.2.2.2.2.1) ?_
          refine lv_iconst (v := 1) hxx hbb fd_Q_arc_97 (by decide) ?_
          refine lv_iadd hxx hbb fd_Q_arc_98 ?_
          refine fp_Q_arcs hC hQ fd_Q_arc_99 (fun H locs hQ => ?_)
          refine lv_aload_n hxx hbb fd_Q_arc_102 rfl (lv_at hl 0 rfl) ?_
          refine lv_iconst (v := 0) hxx hbb fd_Q_arc_103 (by decide) ?_
          refine fp_Q_has hC hQ rfl rfl fd_Q_arc_104 (fun H locs hQ => ?_)
          refine lv_iconst (v := 0) hxx hbb fd_Q_arc_107 (by decide) ?_
          exact hret _ _ _ _ _ _ fd_Q_arc_108 hQ ⟨(fq_arc_4 hit1 hit2 hlen2 hne hG.2.2.2.2.1 (by omega)).1.symm, Or.inr ⟨rfl, u0, v0, hu0, hv0, rfl, rfl, hlen.1, hEM, (fq_arc_4 hit1 hit2 hlen2 hne hG.2.2.2.2.1 (by omega)).2, rfl⟩⟩ rfl
        · refine lv_bipush (v := (-3)) hxx hbb fd_Q_arc_44 (by decide) ?_
          exact hret _ _ _ _ _ _ fd_Q_arc_46 hQ ⟨(fq_arc_3 hit1 hit2 hlen2 (by rw [hG.2.2.2.2.1, hG.2.2.2.1]; exact c41)).1.symm, Or.inl ⟨by decide, rfl, (fq_arc_3 hit1 hit2 hlen2 (by rw [hG.2.2.2.2.1, hG.2.2.2.1]; exact c41)).2⟩⟩ rfl
      · refine lv_bipush (v := (-2)) hxx hbb fd_Q_arc_30 (by decide) ?_
        exact hret _ _ _ _ _ _ fd_Q_arc_32 hQ ⟨(fq_arc_2 hit1 hit2 (by have h9 := fq_if0 hp24.2 c27; by_cases q : len < 0; exact Or.inl q; by_cases q2 : a 8 2 < len; exact Or.inr q2; exact absurd ⟨q, q2⟩ h9)).1.symm, Or.inl ⟨by decide, rfl, (fq_arc_2 hit1 hit2 (by have h9 := fq_if0 hp24.2 c27; by_cases q : len < 0; exact Or.inl q; by_cases q2 : a 8 2 < len; exact Or.inr q2; exact absurd ⟨q, q2⟩ h9)).2⟩⟩ rfl
    · refine lv_iconst (v := (-1)) hxx hbb fd_Q_arc_16 (by decide) ?_
      exact hret _ _ _ _ _ _ fd_Q_arc_17 hQ ⟨(fq_arc_1 (Or.inr (fq_itm_f (fq_no hp10.2 c13)))).1.symm, Or.inl ⟨by decide, rfl, (fq_arc_1 (Or.inr (fq_itm_f (fq_no hp10.2 c13)))).2⟩⟩ rfl
set_option maxHeartbeats 4000000 in
set_option maxRecDepth 100000 in
theorem fc_Q_distance (l : Launch) (V : fq_V) (o : Nat → Nat) (mo : Nat) (g : fq_G) (a : fq_G) (N : Nat) (h1 : 1 ≤ N) (h40 : N ≤ 40) (hN : g 12 0 = nI N) (hD : fq_QD g a N) (x : Int32) : fq_MI l V y_Q_distance b_Q_distance 2 .int 2 [.ref (o 0), .int x] (fq_WQ V o mo) g (fun r u => u = g ∧ r = fq_distF a N x) := by
  refine fq_MI_of (lv := [(0, .ref (o 0)), (1, .int x)]) (by decide) (Nat.le_of_ble_eq_true rfl) rfl ?_
  intro p e s m args below meth c A Q hC hret ls hl hQ
  have hxx := hC.1
  have hbb := hC.2.1
  refine lv_aload_n hxx hbb fd_Q_distance_0 rfl (lv_at hl 0 rfl) ?_
  refine fg_Q_has hC hQ fd_Q_distance_1 (v := a 8 7) hD.1 ?_
  refine lv_if_eq (tgt := 24) hxx hbb fd_Q_distance_4 (by decide) (fun c4 => ?_) (fun c4 => ?_)
  · refine lv_iconst (v := (-1)) hxx hbb fd_Q_distance_24 (by decide) ?_
    exact hret _ _ _ _ _ _ fd_Q_distance_25 hQ ⟨rfl, (fq_dist_no (Or.inl c4)).1.symm⟩ rfl
  · refine lv_aload_n hxx hbb fd_Q_distance_7 rfl (lv_at hl 0 rfl) ?_
    refine lv_iload_n hxx hbb fd_Q_distance_8 rfl (lv_at hl 1 rfl) ?_
    refine fq_callI hC (fc_Q_isItem l V o mo g x N h1 h40 hN) fw_Q_64 ⟨Nat.le_of_ble_eq_true rfl, Nat.le_of_ble_eq_true rfl⟩ rfl rfl rfl hQ rfl hl.1 (rest := []) rfl (Nat.le_of_ble_eq_true rfl) fd_Q_distance_9 ⟨Nat.le_refl _, Nat.le_refl _⟩ (fun r9 u9 H locs hp9 hQ => ?_)
    rw [hp9.1] at hQ
    refine lv_if_eq (tgt := 24) hxx hbb fd_Q_distance_12 (by decide) (fun c12 => ?_) (fun c12 => ?_)
    · refine lv_iconst (v := (-1)) hxx hbb fd_Q_distance_24 (by decide) ?_
      exact hret _ _ _ _ _ _ fd_Q_distance_25 hQ ⟨rfl, (fq_dist_no (Or.inr (fq_itm_f (fq_no hp9.2 c12)))).1.symm⟩ rfl
    · obtain ⟨j, hj, ej⟩ := fq_yes hp9.2 c12
      subst ej
      refine lv_aload_n hxx hbb fd_Q_distance_15 rfl (lv_at hl 0 rfl) ?_
      refine fg_Q_distances hC hQ fd_Q_distance_16 ?_
      refine lv_iload_n hxx hbb fd_Q_distance_19 rfl (lv_at hl 1 rfl) ?_
      refine fr_Q_distances hC hQ j rfl (by omega) fd_Q_distance_20 (v := g 10 j) rfl ?_
      refine lv_goto (tgt := 25) hxx hbb fd_Q_distance_21 (by decide) ?_
      exact hret _ _ _ _ _ _ fd_Q_distance_25 hQ ⟨rfl, (fq_dist_is hD h40 hj c4).1.symm⟩ rfl
set_option maxHeartbeats 4000000 in
set_option maxRecDepth 100000 in
theorem fc_Q_before (l : Launch) (V : fq_V) (o : Nat → Nat) (mo : Nat) (g : fq_G) (a : fq_G) (N : Nat) (h1 : 1 ≤ N) (h40 : N ≤ 40) (hN : g 12 0 = nI N) (hD : fq_QD g a N) (x : Int32) : fq_MI l V y_Q_before b_Q_before 2 .int 2 [.ref (o 0), .int x] (fq_WQ V o mo) g (fun r u => u = g ∧ r = fq_befF a N x) := by
  refine fq_MI_of (lv := [(0, .ref (o 0)), (1, .int x)]) (by decide) (Nat.le_of_ble_eq_true rfl) rfl ?_
  intro p e s m args below meth c A Q hC hret ls hl hQ
  have hxx := hC.1
  have hbb := hC.2.1
  refine lv_aload_n hxx hbb fd_Q_before_0 rfl (lv_at hl 0 rfl) ?_
  refine fg_Q_has hC hQ fd_Q_before_1 (v := a 8 7) hD.1 ?_
  refine lv_if_eq (tgt := 24) hxx hbb fd_Q_before_4 (by decide) (fun c4 => ?_) (fun c4 => ?_)
  · refine lv_iconst (v := (-1)) hxx hbb fd_Q_before_24 (by decide) ?_
    exact hret _ _ _ _ _ _ fd_Q_before_25 hQ ⟨rfl, (fq_dist_no (Or.inl c4)).2.symm⟩ rfl
  · refine lv_aload_n hxx hbb fd_Q_before_7 rfl (lv_at hl 0 rfl) ?_
    refine lv_iload_n hxx hbb fd_Q_before_8 rfl (lv_at hl 1 rfl) ?_
    refine fq_callI hC (fc_Q_isItem l V o mo g x N h1 h40 hN) fw_Q_64 ⟨Nat.le_of_ble_eq_true rfl, Nat.le_of_ble_eq_true rfl⟩ rfl rfl rfl hQ rfl hl.1 (rest := []) rfl (Nat.le_of_ble_eq_true rfl) fd_Q_before_9 ⟨Nat.le_refl _, Nat.le_refl _⟩ (fun r9 u9 H locs hp9 hQ => ?_)
    rw [hp9.1] at hQ
    refine lv_if_eq (tgt := 24) hxx hbb fd_Q_before_12 (by decide) (fun c12 => ?_) (fun c12 => ?_)
    · refine lv_iconst (v := (-1)) hxx hbb fd_Q_before_24 (by decide) ?_
      exact hret _ _ _ _ _ _ fd_Q_before_25 hQ ⟨rfl, (fq_dist_no (Or.inr (fq_itm_f (fq_no hp9.2 c12)))).2.symm⟩ rfl
    · obtain ⟨j, hj, ej⟩ := fq_yes hp9.2 c12
      subst ej
      refine lv_aload_n hxx hbb fd_Q_before_15 rfl (lv_at hl 0 rfl) ?_
      refine fg_Q_parents hC hQ fd_Q_before_16 ?_
      refine lv_iload_n hxx hbb fd_Q_before_19 rfl (lv_at hl 1 rfl) ?_
      refine fr_Q_parents hC hQ j rfl (by omega) fd_Q_before_20 (v := g 11 j) rfl ?_
      refine lv_goto (tgt := 25) hxx hbb fd_Q_before_21 (by decide) ?_
      exact hret _ _ _ _ _ _ fd_Q_before_25 hQ ⟨rfl, (fq_dist_is hD h40 hj c4).2.symm⟩ rfl
set_option maxHeartbeats 4000000 in
set_option maxRecDepth 100000 in
theorem fc_Q_floor (l : Launch) (V : fq_V) (o : Nat → Nat) (mo : Nat) (g : fq_G)  : fq_MI l V y_Q_floor b_Q_floor 1 .int 0 [.ref (o 0)] (fq_WQ V o mo) g (fun r u => u = g ∧ r = g 12 3) := by
  refine fq_MI_of (lv := [(0, .ref (o 0))]) (by decide) (Nat.le_of_ble_eq_true rfl) rfl ?_
  intro p e s m args below meth c A Q hC hret ls hl hQ
  have hxx := hC.1
  have hbb := hC.2.1
  refine lv_aload_n hxx hbb fd_Q_floor_0 rfl (lv_at hl 0 rfl) ?_
  refine fg_Q_floor hC hQ fd_Q_floor_1 (v := g 12 3) rfl ?_
  exact hret _ _ _ _ _ _ fd_Q_floor_4 hQ ⟨rfl, rfl⟩ rfl
set_option maxHeartbeats 4000000 in
set_option maxRecDepth 100000 in
theorem fc_Q_size (l : Launch) (V : fq_V) (o : Nat → Nat) (mo : Nat) (g : fq_G)  : fq_MI l V y_Q_size b_Q_size 1 .int 0 [.ref (o 0)] (fq_WQ V o mo) g (fun r u => u = g ∧ r = g 12 4) := by
  refine fq_MI_of (lv := [(0, .ref (o 0))]) (by decide) (Nat.le_of_ble_eq_true rfl) rfl ?_
  intro p e s m args below meth c A Q hC hret ls hl hQ
  have hxx := hC.1
  have hbb := hC.2.1
  refine lv_aload_n hxx hbb fd_Q_size_0 rfl (lv_at hl 0 rfl) ?_
  refine fg_Q_size hC hQ fd_Q_size_1 (v := g 12 4) rfl ?_
  exact hret _ _ _ _ _ _ fd_Q_size_4 hQ ⟨rfl, rfl⟩ rfl
set_option maxHeartbeats 4000000 in
set_option maxRecDepth 100000 in
theorem fc_Q_placed (l : Launch) (V : fq_V) (o : Nat → Nat) (mo : Nat) (g : fq_G)  : fq_MI l V y_Q_placed b_Q_placed 1 .int 0 [.ref (o 0)] (fq_WQ V o mo) g (fun r u => u = g ∧ r = g 12 5) := by
  refine fq_MI_of (lv := [(0, .ref (o 0))]) (by decide) (Nat.le_of_ble_eq_true rfl) rfl ?_
  intro p e s m args below meth c A Q hC hret ls hl hQ
  have hxx := hC.1
  have hbb := hC.2.1
  refine lv_aload_n hxx hbb fd_Q_placed_0 rfl (lv_at hl 0 rfl) ?_
  refine fg_Q_placed hC hQ fd_Q_placed_1 (v := g 12 5) rfl ?_
  exact hret _ _ _ _ _ _ fd_Q_placed_4 hQ ⟨rfl, rfl⟩ rfl
set_option maxHeartbeats 4000000 in
set_option maxRecDepth 100000 in
theorem fc_Q_key (l : Launch) (V : fq_V) (o : Nat → Nat) (mo : Nat) (g : fq_G) (a : fq_G) (N C P : Nat) (L : Nat → List Nat) (hB : fq_QB g a N L) (hA : fq_AB a N C P) (x : Int32) : fq_MI l V y_Q_key b_Q_key 2 .int 3 [.ref (o 0), .int x] (fq_WQ V o mo) g (fun r u => u = g ∧ r = fq_keyF a N x) := by
  refine fq_MI_of (lv := [(0, .ref (o 0)), (1, .int x)]) (by decide) (Nat.le_of_ble_eq_true rfl) rfl ?_
  intro p e s m args below meth c A Q hC hret ls hl hQ
  have hxx := hC.1
  have hbb := hC.2.1
  refine lv_aload_n hxx hbb fd_Q_key_0 rfl (lv_at hl 0 rfl) ?_
  refine lv_iload_n hxx hbb fd_Q_key_1 rfl (lv_at hl 1 rfl) ?_
  refine fq_callI hC (fc_Q_isThere l V o mo g x N hA.1 hA.2.1 hB.1.1) fw_Q_88 ⟨Nat.le_of_ble_eq_true rfl, Nat.le_of_ble_eq_true rfl⟩ rfl rfl rfl hQ rfl hl.1 (rest := []) rfl (Nat.le_of_ble_eq_true rfl) fd_Q_key_2 ⟨Nat.le_refl _, Nat.le_refl _⟩ (fun r2 u2 H locs hp2 hQ => ?_)
  rw [hp2.1] at hQ
  refine lv_if_eq (tgt := 17) hxx hbb fd_Q_key_5 (by decide) (fun c5 => ?_) (fun c5 => ?_)
  · refine lv_iconst (v := (-1)) hxx hbb fd_Q_key_17 (by decide) ?_
    exact hret _ _ _ _ _ _ fd_Q_key_18 hQ ⟨rfl, (fq_key_no (fun j hj e => (fq_QB_there hB hj).mp (fq_no hp2.2 c5 j hj e))).1.symm⟩ rfl
  · obtain ⟨j, hj, ej, hw⟩ := fq_yes hp2.2 c5
    subst ej
    have h40 := hA.2.1
    have h0 : a 0 j ≠ -1 := fun q => hw ((fq_QB_there hB hj).mpr q)
    refine lv_aload_n hxx hbb fd_Q_key_8 rfl (lv_at hl 0 rfl) ?_
    refine fg_Q_keys hC hQ fd_Q_key_9 ?_
    refine lv_iload_n hxx hbb fd_Q_key_12 rfl (lv_at hl 1 rfl) ?_
    refine fr_Q_keys hC hQ j rfl (by omega) fd_Q_key_13 (v := a 0 j) (hB.2.2.2.1 j hj h0).1 ?_
    refine lv_goto (tgt := 18) hxx hbb fd_Q_key_14 (by decide) ?_
    exact hret _ _ _ _ _ _ fd_Q_key_18 hQ ⟨rfl, (fq_key_is h40 hj h0).1.symm⟩ rfl
set_option maxHeartbeats 4000000 in
set_option maxRecDepth 100000 in
theorem fc_Q_bucket (l : Launch) (V : fq_V) (o : Nat → Nat) (mo : Nat) (g : fq_G) (a : fq_G) (N C P : Nat) (L : Nat → List Nat) (hB : fq_QB g a N L) (hA : fq_AB a N C P) (x : Int32) : fq_MI l V y_Q_bucket b_Q_bucket 2 .int 3 [.ref (o 0), .int x] (fq_WQ V o mo) g (fun r u => u = g ∧ r = fq_buckF a N x) := by
  refine fq_MI_of (lv := [(0, .ref (o 0)), (1, .int x)]) (by decide) (Nat.le_of_ble_eq_true rfl) rfl ?_
  intro p e s m args below meth c A Q hC hret ls hl hQ
  have hxx := hC.1
  have hbb := hC.2.1
  refine lv_aload_n hxx hbb fd_Q_bucket_0 rfl (lv_at hl 0 rfl) ?_
  refine lv_iload_n hxx hbb fd_Q_bucket_1 rfl (lv_at hl 1 rfl) ?_
  refine fq_callI hC (fc_Q_isThere l V o mo g x N hA.1 hA.2.1 hB.1.1) fw_Q_88 ⟨Nat.le_of_ble_eq_true rfl, Nat.le_of_ble_eq_true rfl⟩ rfl rfl rfl hQ rfl hl.1 (rest := []) rfl (Nat.le_of_ble_eq_true rfl) fd_Q_bucket_2 ⟨Nat.le_refl _, Nat.le_refl _⟩ (fun r2 u2 H locs hp2 hQ => ?_)
  rw [hp2.1] at hQ
  refine lv_if_eq (tgt := 17) hxx hbb fd_Q_bucket_5 (by decide) (fun c5 => ?_) (fun c5 => ?_)
  · refine lv_iconst (v := (-1)) hxx hbb fd_Q_bucket_17 (by decide) ?_
    exact hret _ _ _ _ _ _ fd_Q_bucket_18 hQ ⟨rfl, (fq_key_no (fun j hj e => (fq_QB_there hB hj).mp (fq_no hp2.2 c5 j hj e))).2.symm⟩ rfl
  · obtain ⟨j, hj, ej, hw⟩ := fq_yes hp2.2 c5
    subst ej
    have h40 := hA.2.1
    have h0 : a 0 j ≠ -1 := fun q => hw ((fq_QB_there hB hj).mpr q)
    refine lv_aload_n hxx hbb fd_Q_bucket_8 rfl (lv_at hl 0 rfl) ?_
    refine fg_Q_where hC hQ fd_Q_bucket_9 ?_
    refine lv_iload_n hxx hbb fd_Q_bucket_12 rfl (lv_at hl 1 rfl) ?_
    refine fr_Q_where hC hQ j rfl (by omega) fd_Q_bucket_13 (v := nI (fq_dk (a 0 j) (a 8 3))) (by rw [hB.2.2.1 j hj, if_neg h0]) ?_
    refine lv_goto (tgt := 18) hxx hbb fd_Q_bucket_14 (by decide) ?_
    exact hret _ _ _ _ _ _ fd_Q_bucket_18 hQ ⟨rfl, (fq_key_is h40 hj h0).2.symm⟩ rfl
set_option maxHeartbeats 4000000 in
set_option maxRecDepth 100000 in
theorem fc_Q_many (l : Launch) (V : fq_V) (o : Nat → Nat) (mo : Nat) (g : fq_G) (a : fq_G) (N C P : Nat) (L : Nat → List Nat) (hB : fq_QB g a N L) (hA : fq_AB a N C P) (x : Int32) : fq_MI l V y_Q_many b_Q_many 2 .int 1 [.ref (o 0), .int x] (fq_WQ V o mo) g (fun r u => u = g ∧ r = fq_manyF a N x) := by
  refine fq_MI_of (lv := [(0, .ref (o 0)), (1, .int x)]) (by decide) (Nat.le_of_ble_eq_true rfl) rfl ?_
  intro p e s m args below meth c A Q hC hret ls hl hQ
  have hxx := hC.1
  have hbb := hC.2.1
  refine lv_iload_n hxx hbb fd_Q_many_0 rfl (lv_at hl 1 rfl) ?_
  refine lv_iconst (v := 0) hxx hbb fd_Q_many_1 (by decide) ?_
  refine lv_bipush (v := 31) hxx hbb fd_Q_many_2 (by decide) ?_
  refine fq_callS hC (fc_Q_within l V (fq_WQ V o mo) g x 0 31) fw_Q_60 ⟨Nat.le_of_ble_eq_true rfl, Nat.le_of_ble_eq_true rfl⟩ hQ rfl hl.1 (rest := []) rfl (Nat.le_of_ble_eq_true rfl) fd_Q_many_4 ⟨Nat.le_refl _, Nat.le_refl _⟩ (fun r4 u4 H locs hp4 hQ => ?_)
  rw [hp4.1] at hQ
  refine lv_if_eq (tgt := 19) hxx hbb fd_Q_many_7 (by decide) (fun c7 => ?_) (fun c7 => ?_)
  · refine lv_iconst (v := (-1)) hxx hbb fd_Q_many_19 (by decide) ?_
    exact hret _ _ _ _ _ _ fd_Q_many_20 hQ ⟨rfl, (fq_many_no (fq_if0 hp4.2 c7)).symm⟩ rfl
  · obtain ⟨b, hb, eb⟩ := fq_many_ix (fq_if1 hp4.2 c7)
    subst eb
    refine lv_aload_n hxx hbb fd_Q_many_10 rfl (lv_at hl 0 rfl) ?_
    refine fg_Q_counts hC hQ fd_Q_many_11 ?_
    refine lv_iload_n hxx hbb fd_Q_many_14 rfl (lv_at hl 1 rfl) ?_
    refine fr_Q_counts hC hQ b rfl (by omega) fd_Q_many_15 (v := g 1 b) rfl ?_
    refine lv_goto (tgt := 20) hxx hbb fd_Q_many_16 (by decide) ?_
    exact hret _ _ _ _ _ _ fd_Q_many_20 hQ ⟨rfl, (fq_QB_many hB hb).trans (fq_many_is hb).symm⟩ rfl
theorem fq_cst_Q : Cond.constantLong R_Q 129 32 ∈ fq_tb := fq_m (List.mem_append_right _ (List.mem_of_getElem? (i := 181) (by decide +kernel))) (by decide)
set_option maxHeartbeats 4000000 in
set_option maxRecDepth 100000 in
theorem fc_Q_sound (l : Launch) (V : fq_V) (o : Nat → Nat) (mo : Nat) (g : fq_G) (a : fq_G) (N C P : Nat) (L : Nat → List Nat) (hB : fq_QB g a N L) (hA : fq_AB a N C P) (hC26 : C < 67108864) : fq_MI l V y_Q_sound b_Q_sound 3 .boolean 1 [.ref (o 0)] (fq_WQ V o mo) g (fun r u => u = g ∧ r = 1) := by
  refine fq_MI_of (lv := [(0, .ref (o 0))]) (by decide) (Nat.le_of_ble_eq_true rfl) rfl ?_
  intro p e s m args below meth c A Q hC hret ls hl hQ
  have hxx := hC.1
  have hbb := hC.2.1
  refine lv_aload_n hxx hbb fd_Q_sound_0 rfl (lv_at hl 0 rfl) ?_
  refine fg_Q_placed hC hQ fd_Q_sound_1 (v := nI P) (hB.1.2.2.2.1.trans hA.2.2.2.2.2.1) ?_
  refine lv_i2l (v := (nI P).toInt64) hxx hbb fd_Q_sound_4 rfl ?_
  refine lv_ldc2 (v := 32) hxx hbb hC.2.2.2.2.1 (hC.2.2.2.2.2.1 _ (fq_cst_Q)) fd_Q_sound_5 ?_
  refine lv_aload_n hxx hbb fd_Q_sound_8 rfl (lv_at hl 0 rfl) ?_
  refine fg_Q_calls hC hQ fd_Q_sound_9 (v := nI C) (hB.1.2.2.2.2.trans hA.2.2.2.2.2.2.1) ?_
  refine lv_i2l (v := (nI C).toInt64) hxx hbb fd_Q_sound_12 rfl ?_
  refine lv_lmul hxx hbb fd_Q_sound_13 ?_
  refine W.lcmp hxx hbb fd_Q_sound_14 ?_
  refine lv_if_gt (tgt := 22) hxx hbb fd_Q_sound_15 (by decide) (fun c15 => ?_) (fun c15 => ?_)
  · exact absurd c15 (fq_snd (by have := hA.2.2.2.2.2.2.2; omega) hC26)
  · refine lv_iconst (v := 1) hxx hbb fd_Q_sound_18 (by decide) ?_
    refine lv_goto (tgt := 23) hxx hbb fd_Q_sound_19 (by decide) ?_
    refine lv_istore_n (lv' := [(1, .int 1), (0, .ref (o 0))]) hxx hbb fd_Q_sound_23 rfl hl (by decide) rfl (fun ls hl => ?_)
    refine lv_iconst (v := (nI 0)) hxx hbb fd_Q_sound_24 (by decide) ?_
    refine lv_istore_n (lv' := [(2, .int (nI 0)), (1, .int 1), (0, .ref (o 0))]) hxx hbb fd_Q_sound_25 rfl hl (by decide) rfl (fun ls hl => ?_)
    have loop26 : ∀ (n : Nat) (k : Nat), k ≤ N → N < k + n → ∀ (H : Heap) (locs : List Loc) (ls : Array Slot), fq_Hp V A s.heap (fq_WQ V o mo g) H locs → lv_has ls 3 [(0, .ref (o 0)), (1, .int 1), (2, .int (nI k))] → W p l e (fq_Rm 1) s m args below meth c H locs 0 0 Q (F0 m 26 ls []) := by
      intro n
      induction n with
      | zero =>
        intro k hk hn
        omega
      | succ n ih26 =>
        intro k hk hn H locs ls hQ hl
        refine lv_iload_n hxx hbb fd_Q_sound_26 rfl (lv_at hl 2 rfl) ?_
        refine lv_aload_n hxx hbb fd_Q_sound_27 rfl (lv_at hl 0 rfl) ?_
        refine fg_Q_n hC hQ fd_Q_sound_28 (v := nI N) hB.1.1 ?_
        refine lv_icmp_ge (tgt := 90) hxx hbb fd_Q_sound_31 (by decide) (fun c31 => ?_) (fun c31 => ?_)
        · refine lv_iload_n hxx hbb fd_Q_sound_90 rfl (lv_at hl 1 rfl) ?_
          exact hret _ _ _ _ _ _ fd_Q_sound_91 hQ ⟨rfl, rfl⟩ rfl
        · have h40 := hA.2.1
          have hkN : k < N := Nat.not_le.mp (fun q => c31 (nI_le q (by omega)))
          refine lv_iload_n hxx hbb fd_Q_sound_34 rfl (lv_at hl 1 rfl) ?_
          refine lv_aload_n hxx hbb fd_Q_sound_35 rfl (lv_at hl 0 rfl) ?_
          refine fg_Q_where hC hQ fd_Q_sound_36 ?_
          refine lv_iload_n hxx hbb fd_Q_sound_39 rfl (lv_at hl 2 rfl) ?_
          refine fr_Q_where hC hQ k rfl (by omega) fd_Q_sound_40 (v := g 5 k) rfl ?_
          refine lv_iconst (v := (-1)) hxx hbb fd_Q_sound_41 (by decide) ?_
          refine lv_icmp_eq (tgt := 77) hxx hbb fd_Q_sound_42 (by decide) (fun c42 => ?_) (fun c42 => ?_)
          · refine lv_iconst (v := 1) hxx hbb fd_Q_sound_77 (by decide) ?_
            refine lv_goto (tgt := 82) hxx hbb fd_Q_sound_78 (by decide) ?_
            refine lv_iand hxx hbb fd_Q_sound_82 ?_
            refine fq_top (y := 1) (by decide) ?_
            refine lv_istore_n (lv' := [(1, .int 1), (0, .ref (o 0)), (2, .int (nI k))]) hxx hbb fd_Q_sound_83 rfl hl (by decide) rfl (fun ls hl => ?_)
            refine lv_iinc (v := nI (k + 1)) (lv' := [(2, .int (nI (k + 1))), (1, .int 1), (0, .ref (o 0))]) hxx hbb fd_Q_sound_84 hl (k := 2) rfl (fq_inc k) (by decide) rfl (fun ls hl => ?_)
            refine lv_goto (tgt := 26) hxx hbb fd_Q_sound_87 (by decide) ?_
            exact ih26 (k + 1) (by omega) (by omega) _ _ _ hQ (lv_sub hl [2, 1, 0] rfl)
          · have h0 : a 0 k ≠ -1 := fun q => c42 ((fq_QB_there hB hkN).mpr q)
            have hk9 := (hA.2.2.2.2.1 k hkN).resolve_left h0
            refine lv_aload_n hxx hbb fd_Q_sound_45 rfl (lv_at hl 0 rfl) ?_
            refine fg_Q_where hC hQ fd_Q_sound_46 ?_
            refine lv_iload_n hxx hbb fd_Q_sound_49 rfl (lv_at hl 2 rfl) ?_
            refine fr_Q_where hC hQ k rfl (by omega) fd_Q_sound_50 (v := nI (fq_dk (a 0 k) (a 8 3))) (by rw [hB.2.2.1 k hkN, if_neg h0]) ?_
            refine lv_aload_n hxx hbb fd_Q_sound_51 rfl (lv_at hl 0 rfl) ?_
            refine lv_aload_n hxx hbb fd_Q_sound_52 rfl (lv_at hl 0 rfl) ?_
            refine fg_Q_keys hC hQ fd_Q_sound_53 ?_
            refine lv_iload_n hxx hbb fd_Q_sound_56 rfl (lv_at hl 2 rfl) ?_
            refine fr_Q_keys hC hQ k rfl (by omega) fd_Q_sound_57 (v := a 0 k) (hB.2.2.2.1 k hkN h0).1 ?_
            refine fq_callI hC (fc_Q_bucketFor l V o mo g (a 0 k) (by have h8 := hA.2.2.2.1; omega) (by rw [hB.1.2.1]; exact hA.2.2.2.1)) fw_Q_74 ⟨Nat.le_of_ble_eq_true rfl, Nat.le_of_ble_eq_true rfl⟩ rfl rfl rfl hQ rfl hl.1 (rest := [.int (nI (fq_dk (a 0 k) (a 8 3))), .int 1]) rfl (Nat.le_of_ble_eq_true rfl) fd_Q_sound_58 ⟨Nat.le_refl _, Nat.le_refl _⟩ (fun r58 u58 H locs hp58 hQ => ?_)
            rw [hp58.1] at hQ
            refine fq_top (y := nI (fq_dk (a 0 k) (a 8 3))) (hp58.2.trans (by rw [hB.1.2.1])) ?_
            refine lv_icmp_ne (tgt := 81) hxx hbb fd_Q_sound_61 (by decide) (fun c61 => ?_) (fun c61 => ?_)
            · exact absurd rfl c61
            · refine lv_aload_n hxx hbb fd_Q_sound_64 rfl (lv_at hl 0 rfl) ?_
              refine fg_Q_keys hC hQ fd_Q_sound_65 ?_
              refine lv_iload_n hxx hbb fd_Q_sound_68 rfl (lv_at hl 2 rfl) ?_
              refine fr_Q_keys hC hQ k rfl (by omega) fd_Q_sound_69 (v := a 0 k) (hB.2.2.2.1 k hkN h0).1 ?_
              refine lv_aload_n hxx hbb fd_Q_sound_70 rfl (lv_at hl 0 rfl) ?_
              refine fg_Q_floor hC hQ fd_Q_sound_71 (v := a 8 3) hB.1.2.1 ?_
              refine lv_icmp_lt (tgt := 81) hxx hbb fd_Q_sound_74 (by decide) (fun c74 => ?_) (fun c74 => ?_)
              · exact absurd (Int32.lt_iff_toInt_lt.mp c74) (by omega)
              · refine lv_iconst (v := 1) hxx hbb fd_Q_sound_77 (by decide) ?_
                refine lv_goto (tgt := 82) hxx hbb fd_Q_sound_78 (by decide) ?_
                refine lv_iand hxx hbb fd_Q_sound_82 ?_
                refine fq_top (y := 1) (by decide) ?_
                refine lv_istore_n (lv' := [(1, .int 1), (0, .ref (o 0)), (2, .int (nI k))]) hxx hbb fd_Q_sound_83 rfl hl (by decide) rfl (fun ls hl => ?_)
                refine lv_iinc (v := nI (k + 1)) (lv' := [(2, .int (nI (k + 1))), (1, .int 1), (0, .ref (o 0))]) hxx hbb fd_Q_sound_84 hl (k := 2) rfl (fq_inc k) (by decide) rfl (fun ls hl => ?_)
                refine lv_goto (tgt := 26) hxx hbb fd_Q_sound_87 (by decide) ?_
                exact ih26 (k + 1) (by omega) (by omega) _ _ _ hQ (lv_sub hl [2, 1, 0] rfl)
    exact loop26 (N + 1) 0 (Nat.zero_le _) (by omega) _ _ _ hQ (lv_sub hl [2, 1, 0] rfl)
set_option maxHeartbeats 4000000 in
set_option maxRecDepth 100000 in
theorem fc_Q_count (l : Launch) (V : fq_V) (o : Nat → Nat) (mo : Nat) (g : fq_G) (a : fq_G) (h0 : g 12 0 = a 8 0) (h6 : g 12 6 = a 8 5) (h7 : g 12 7 = a 8 6) (x : Int32) : fq_MI l V y_Q_count b_Q_count 2 .int 0 [.ref (o 0), .int x] (fq_WQ V o mo) g (fun r u => u = g ∧ r = fq_countF a x) := by
  refine fq_MI_of (lv := [(0, .ref (o 0)), (1, .int x)]) (by decide) (Nat.le_of_ble_eq_true rfl) rfl ?_
  intro p e s m args below meth c A Q hC hret ls hl hQ
  have hxx := hC.1
  have hbb := hC.2.1
  refine lv_iload_n hxx hbb fd_Q_count_0 rfl (lv_at hl 1 rfl) ?_
  by_cases e0 : x = 0
  · subst e0
    refine lv_tableIn (tgt := 28) hxx hbb fd_Q_count_1 (by decide) (by decide) (off := 27) (by decide) (by decide) ?_
    refine lv_aload_n hxx hbb fd_Q_count_28 rfl (lv_at hl 0 rfl) ?_
    refine fg_Q_n hC hQ fd_Q_count_29 (v := a 8 0) h0 ?_
    exact hret _ _ _ _ _ _ fd_Q_count_32 hQ ⟨rfl, rfl⟩ rfl
  by_cases e1 : x = 1
  · subst e1
    refine lv_tableIn (tgt := 33) hxx hbb fd_Q_count_1 (by decide) (by decide) (off := 32) (by decide) (by decide) ?_
    refine lv_aload_n hxx hbb fd_Q_count_33 rfl (lv_at hl 0 rfl) ?_
    refine fg_Q_arcs hC hQ fd_Q_count_34 (v := a 8 6) h7 ?_
    exact hret _ _ _ _ _ _ fd_Q_count_37 hQ ⟨rfl, rfl⟩ rfl
  by_cases e2 : x = 2
  · subst e2
    refine lv_tableIn (tgt := 38) hxx hbb fd_Q_count_1 (by decide) (by decide) (off := 37) (by decide) (by decide) ?_
    refine lv_aload_n hxx hbb fd_Q_count_38 rfl (lv_at hl 0 rfl) ?_
    refine fg_Q_calls hC hQ fd_Q_count_39 (v := a 8 5) h6 ?_
    exact hret _ _ _ _ _ _ fd_Q_count_42 hQ ⟨rfl, rfl⟩ rfl
  refine lv_tableOut (tgt := 43) hxx hbb fd_Q_count_1 (fq_sw3 e0 e1 e2) (by decide) ?_
  refine lv_iconst (v := (-1)) hxx hbb fd_Q_count_43 (by decide) ?_
  exact hret _ _ _ _ _ _ fd_Q_count_44 hQ ⟨rfl, by unfold fq_countF; rw [if_neg e0, if_neg e1, if_neg e2]⟩ rfl
end
section
/-! pure rows: clearing -/
def fq_fill (f : Nat → Int32) (n : Nat) (x : Int32) : Nat → Int32 := fun k => if k < n then x else f k
def fq_row (a : fq_G) (r : Nat) (f : Nat → Int32) : fq_G := fun q => if q = r then f else a q
theorem fq_fill_s (f : Nat → Int32) (n : Nat) (x : Int32) : upd (fq_fill f n x) n x = fq_fill f (n + 1) x := by
  funext k
  unfold upd fq_fill
  by_cases h : k = n
  · subst h
    simp
  · rw [if_neg h]
    by_cases h2 : k < n
    · rw [if_pos h2, if_pos (by omega)]
    · rw [if_neg h2, if_neg (by omega)]
theorem fq_fill_0 (f : Nat → Int32) (x : Int32) : fq_fill f 0 x = f := by
  funext k
  simp [fq_fill]
theorem fq_fill_e {f : Nat → Int32} {n : Nat} {x : Int32} (h : f n = x) : fq_fill f (n + 1) x = fq_fill f n x := by
  funext k
  unfold fq_fill
  by_cases h2 : k < n
  · rw [if_pos h2, if_pos (by omega)]
  · rw [if_neg h2]
    by_cases h3 : k = n
    · subst h3
      rw [if_pos (by omega), h]
    · rw [if_neg (by omega)]
theorem fq_us_row (a : fq_G) (r i : Nat) (f : Nat → Int32) (x : Int32) : fq_us (fq_row a r f) r i x = fq_row a r (upd f i x) := by
  funext q
  unfold fq_us fq_row
  by_cases h : q = r <;> simp [h]
theorem fq_row_self (a : fq_G) (r : Nat) : fq_row a r (a r) = a := by
  funext q
  unfold fq_row
  by_cases h : q = r
  · subst h
    simp
  · simp [h]
/-- the buckets' picture but for the size -/
def fq_QB0 (g a : fq_G) (N : Nat) (L : Nat → List Nat) : Prop :=
  (g 12 0 = nI N ∧ g 12 3 = a 8 3 ∧ g 12 5 = a 8 4 ∧ g 12 6 = a 8 5) ∧ fq_LS N g L ∧
  (∀ k, k < N → g 5 k = if a 0 k = -1 then -1 else nI (fq_dk (a 0 k) (a 8 3))) ∧
  (∀ k, k < N → a 0 k ≠ -1 → g 4 k = a 0 k ∧ k ∈ L (fq_dk (a 0 k) (a 8 3))) ∧ ∀ b, b < 32 → fq_CT g N b
theorem fq_QB0_of {g a : fq_G} {N : Nat} {L : Nat → List Nat} (h : fq_QB g a N L) : fq_QB0 g a N L := ⟨⟨h.1.1, h.1.2.1, h.1.2.2.2.1, h.1.2.2.2.2⟩, h.2⟩
theorem fq_QB0_cg {g g' a a' : fq_G} {N : Nat} {L : Nat → List Nat} (hr : ∀ r, r < 6 → g' r = g r) (h12 : ∀ j, j ≠ 4 → g' 12 j = g 12 j) (h0 : ∀ k, k < N → a' 0 k = a 0 k) (h8 : ∀ j, j = 3 ∨ j = 4 ∨ j = 5 → a' 8 j = a 8 j) (h : fq_QB0 g a N L) : fq_QB0 g' a' N L := by
  obtain ⟨⟨q0, q3, q5, q6⟩, hL, hw, hk, hct⟩ := h
  refine ⟨⟨by rw [h12 0 (by decide)]; exact q0, by rw [h12 3 (by decide), h8 3 (by simp)]; exact q3, by rw [h12 5 (by decide), h8 4 (by simp)]; exact q5, by rw [h12 6 (by decide), h8 5 (by simp)]; exact q6⟩, fq_LS_congr (hr 0 (by omega)) (hr 2 (by omega)) (hr 3 (by omega)) (hr 5 (by omega)) hL, fun k hkN => ?_, fun k hkN hk0 => ?_, fun b hb => ?_⟩
  · rw [hr 5 (by omega), h0 k hkN, h8 3 (by simp)]
    exact hw k hkN
  · rw [h0 k hkN] at hk0
    rw [hr 4 (by omega), h0 k hkN, h8 3 (by simp)]
    exact hk k hkN hk0
  · have := hct b hb
    unfold fq_CT at this ⊢
    rw [hr 1 (by omega), hr 5 (by omega)]
    exact this
theorem fq_QB_cg {g g' a a' : fq_G} {N : Nat} {L : Nat → List Nat} (hr : ∀ r, r < 6 → g' r = g r) (h12 : ∀ j, 3 ≤ j → j < 7 → g' 12 j = g 12 j) (h120 : g' 12 0 = g 12 0) (h0 : ∀ k, k < N → a' 0 k = a 0 k) (h8 : ∀ j, j = 3 ∨ j = 4 ∨ j = 5 → a' 8 j = a 8 j) (h : fq_QB g a N L) : fq_QB g' a' N L := by
  obtain ⟨⟨q0, q3, q4, q5, q6⟩, hL, hw, hk, hct⟩ := h
  refine ⟨⟨by rw [h120]; exact q0, by rw [h12 3 (by decide) (by decide), h8 3 (by simp)]; exact q3, ?_, by rw [h12 5 (by decide) (by decide), h8 4 (by simp)]; exact q5, by rw [h12 6 (by decide) (by decide), h8 5 (by simp)]; exact q6⟩, fq_LS_congr (hr 0 (by omega)) (hr 2 (by omega)) (hr 3 (by omega)) (hr 5 (by omega)) hL, fun k hkN => ?_, fun k hkN hk0 => ?_, fun b hb => ?_⟩
  · rw [h12 4 (by decide) (by decide), q4]
    exact congrArg nI (fq_cnt_congr (fun k hk => by simp only [fq_th, h0 k hk]))
  · rw [hr 5 (by omega), h0 k hkN, h8 3 (by simp)]
    exact hw k hkN
  · rw [h0 k hkN] at hk0
    rw [hr 4 (by omega), h0 k hkN, h8 3 (by simp)]
    exact hk k hkN hk0
  · have := hct b hb
    unfold fq_CT at this ⊢
    rw [hr 1 (by omega), hr 5 (by omega)]
    exact this
theorem fq_QB0_to {g a : fq_G} {N : Nat} {L : Nat → List Nat} (h : fq_QB0 g a N L) : fq_QB (fq_us g 12 4 (nI (fq_cnt (fq_th a) N))) a N L := by
  obtain ⟨⟨q0, q3, q5, q6⟩, hL, hw, hk, hct⟩ := h
  refine ⟨⟨by simp [fq_us, upd, q0], by simp [fq_us, upd, q3], by simp [fq_us, upd], by simp [fq_us, upd, q5], by simp [fq_us, upd, q6]⟩, fq_LS_congr (by simp [fq_us]) (by simp [fq_us]) (by simp [fq_us]) (by simp [fq_us]) hL, ?_, ?_, ?_⟩
  · have e : fq_us g 12 4 (nI (fq_cnt (fq_th a) N)) 5 = g 5 := by simp [fq_us]
    rw [e]
    exact hw
  · have e : fq_us g 12 4 (nI (fq_cnt (fq_th a) N)) 4 = g 4 := by simp [fq_us]
    rw [e]
    exact hk
  · intro b hb
    have := hct b hb
    unfold fq_CT at this ⊢
    have e : fq_us g 12 4 (nI (fq_cnt (fq_th a) N)) 5 = g 5 := by simp [fq_us]
    have e1 : fq_us g 12 4 (nI (fq_cnt (fq_th a) N)) 1 = g 1 := by simp [fq_us]
    rw [e, e1]
    exact this
theorem fq_unlink_pt (g : fq_G) (z : Int32) (it b : Nat) (r : Nat) (hr : r < 6) : fq_unlinkF (fq_us g 12 4 z) it b r = fq_unlinkF g it b r := by
  have h : r = 0 ∨ r = 1 ∨ r = 2 ∨ r = 3 ∨ r = 4 ∨ r = 5 := by omega
  rcases h with rfl | rfl | rfl | rfl | rfl | rfl
  · rw [fq_unlink_0, fq_unlink_0]; simp [fq_us]
  · rw [fq_unlink_1, fq_unlink_1]; simp [fq_us]
  · rw [fq_unlink_2, fq_unlink_2]; simp [fq_us]
  · rw [fq_unlink_3, fq_unlink_3]; simp [fq_us]
  · rw [fq_unlink_4, fq_unlink_4]; simp [fq_us]
  · rw [fq_unlink_5, fq_unlink_5]; simp [fq_us]
theorem fq_QB0_unlink {g a : fq_G} {N : Nat} {L : Nat → List Nat} (h : fq_QB0 g a N L) (hN : N ≤ 40) {it b : Nat} (hit : it < N) (h0 : a 0 it ≠ -1) (hb : b = fq_dk (a 0 it) (a 8 3)) :
    fq_QB0 (fq_unlinkF g it b) (fq_us a 0 it (-1)) N (fq_upL L b ((L b).erase it)) := by
  refine fq_QB0_cg (fun r hr => ?_) (fun j hj => ?_) (fun _ _ => rfl) (fun _ _ => rfl) (fq_QB0_of (fq_QB_unlink (fq_QB0_to h) hN hit h0 hb))
  · have h12 : r ≠ 12 := by omega
    rw [← fq_unlink_pt g (nI (fq_cnt (fq_th a) N)) it b r hr]
    simp [fq_us, h12]
  · rw [fq_unlink_o g it b (by omega)]
    simp [fq_us, upd, hj, fq_unlink_o _ it b (r := 12) (by omega)]
/-- the plain queue after its clearing -/
def fq_clrM (a : fq_G) : fq_G := fq_us (fq_row a 0 (fq_fill (a 0) 40 (-1))) 8 3 0
theorem fq_clrM_0 (a : fq_G) : fq_clrM a 0 = fq_fill (a 0) 40 (-1) := by simp [fq_clrM, fq_us, fq_row]
theorem fq_clrM_8 (a : fq_G) : fq_clrM a 8 = upd (a 8) 3 0 := by simp [fq_clrM, fq_us, fq_row]
theorem fq_clrM_o (a : fq_G) {r : Nat} (h0 : r ≠ 0) (h8 : r ≠ 8) : fq_clrM a r = a r := by simp [fq_clrM, fq_us, fq_row, h0, h8]
theorem fq_clr_1 {g a : fq_G} {N k : Nat} {L : Nat → List Nat} (h : fq_QB0 g (fq_row a 0 (fq_fill (a 0) k (-1))) N L) (h0 : a 0 k = -1) : fq_QB0 (fq_us (fq_us g 10 k (-1)) 11 k (-1)) (fq_row a 0 (fq_fill (a 0) (k + 1) (-1))) N L := by
  rw [fq_fill_e h0]
  refine fq_QB0_cg (fun r hr => ?_) (fun j _ => by simp [fq_us]) (fun _ _ => rfl) (fun _ _ => rfl) h
  have h10 : r ≠ 10 := by omega
  have h11 : r ≠ 11 := by omega
  simp [fq_us, h10, h11]
theorem fq_clr_2 {g a : fq_G} {N k : Nat} {L : Nat → List Nat} (h : fq_QB0 g (fq_row a 0 (fq_fill (a 0) k (-1))) N L) (hN : N ≤ 40) (hk : k < N) (h0 : a 0 k ≠ -1) :
    ∃ L', fq_QB0 (fq_us (fq_us (fq_unlinkF g k (fq_dk (a 0 k) (a 8 3))) 10 k (-1)) 11 k (-1)) (fq_row a 0 (fq_fill (a 0) (k + 1) (-1))) N L' := by
  have e0 : fq_row a 0 (fq_fill (a 0) k (-1)) 0 k = a 0 k := by simp [fq_row, fq_fill]
  have e8 : fq_row a 0 (fq_fill (a 0) k (-1)) 8 = a 8 := by simp [fq_row]
  have h1 := fq_QB0_unlink h hN hk (by rw [e0]; exact h0) (b := fq_dk (a 0 k) (a 8 3)) (by rw [e0, e8])
  rw [fq_us_row, fq_fill_s] at h1
  refine ⟨_, fq_QB0_cg (fun r hr => ?_) (fun j _ => by simp [fq_us]) (fun _ _ => rfl) (fun _ _ => rfl) h1⟩
  have h10 : r ≠ 10 := by omega
  have h11 : r ≠ 11 := by omega
  simp [fq_us, h10, h11]
theorem fq_clr_e {g a : fq_G} {N : Nat} {L : Nat → List Nat} (h : fq_QB0 g (fq_row a 0 (fq_fill (a 0) N (-1))) N L) (hN : N ≤ 40) : fq_QB (fq_us (fq_us g 12 4 0) 12 3 0) (fq_clrM a) N L := by
  obtain ⟨⟨q0, q3, q5, q6⟩, hL, hw, hk, hct⟩ := h
  have hz : ∀ k, k < N → fq_clrM a 0 k = -1 := fun k hk => by
    rw [fq_clrM_0]
    unfold fq_fill
    rw [if_pos (by omega)]
  have hz2 : ∀ k, k < N → fq_row a 0 (fq_fill (a 0) N (-1)) 0 k = -1 := fun k hk => by simp [fq_row, fq_fill, hk]
  have e8 : fq_row a 0 (fq_fill (a 0) N (-1)) 8 = a 8 := by simp [fq_row]
  rw [e8] at q5 q6
  have e : ∀ r, r ≠ 12 → fq_us (fq_us g 12 4 0) 12 3 0 r = g r := fun r hr => by simp [fq_us, hr]
  refine ⟨⟨by simp [fq_us, upd, q0], by rw [fq_clrM_8]; simp [fq_us, upd], ?_, by rw [fq_clrM_8]; simp [fq_us, upd, q5], by rw [fq_clrM_8]; simp [fq_us, upd, q6]⟩, fq_LS_congr (e 0 (by decide)) (e 2 (by decide)) (e 3 (by decide)) (e 5 (by decide)) hL, fun k hkN => ?_, fun k hkN hk0 => absurd (hz k hkN) hk0, fun b hb => ?_⟩
  · rw [fq_cnt_zero.mpr (fun k hk => by simp [fq_th, hz k hk]), nI_0]
    simp [fq_us, upd]
  · rw [if_pos (hz k hkN), e 5 (by decide), hw k hkN, if_pos (hz2 k hkN)]
  · have := hct b hb
    unfold fq_CT at this ⊢
    rw [e 1 (by decide), e 5 (by decide)]
    exact this
theorem fq_clrM_AB {a : fq_G} {N C P : Nat} (hA : fq_AB a N C P) : fq_AB (fq_clrM a) N C P := by
  obtain ⟨n1, n40, a0, hf, hkeys, hP, hC, hb⟩ := hA
  have hz : ∀ k, k < N → fq_clrM a 0 k = -1 := fun k hk => by
    rw [fq_clrM_0]
    unfold fq_fill
    rw [if_pos (by omega)]
  refine ⟨n1, n40, by rw [fq_clrM_8]; simp [upd, a0], by rw [fq_clrM_8]; simp [upd], fun k hk => Or.inl (hz k hk), by rw [fq_clrM_8]; simp [upd, hP], by rw [fq_clrM_8]; simp [upd, hC], ?_⟩
  have h0 : fq_phi (fq_clrM a) N = 0 := by
    unfold fq_phi
    have : fq_sum (fq_ph (fq_clrM a)) N = fq_sum (fun _ => 0) N := fq_sum_congr (fun k hk => by simp [fq_ph, hz k hk])
    rw [this]
    clear this
    induction N with
    | zero => rfl
    | succ n ih => 
      have : ∀ n, fq_sum (fun _ => 0) n = 0 := by
        intro n
        induction n with
        | zero => rfl
        | succ n ih => simp [fq_sum, ih]
      exact this _
  omega
end
section
/-! pure rows: ways through the net, on the plain state -/
theorem fq_bmod32 (z : Int) (h : -2147483648 ≤ z) (h2 : z < 4294967296) : z.bmod (2 ^ 32) = if z < 2147483648 then z else z - 4294967296 := by
  simp only [Int.bmod]
  split <;> split <;> omega
theorem fq_add_toInt {x y : Int32} (hx : 0 ≤ x.toInt) (hy : 0 ≤ y.toInt) : (x + y).toInt = if x.toInt + y.toInt < 2147483648 then x.toInt + y.toInt else x.toInt + y.toInt - 4294967296 := by
  have h1 := x.toInt_lt
  have h2 := y.toInt_lt
  rw [Int32.toInt_add, fq_bmod32 _ (by omega) (by omega)]
theorem fq_add_nn {x y : Int32} (hx : 0 ≤ x.toInt) (hy : 0 ≤ y.toInt) (h : ¬ x + y < 0) : (x + y).toInt = x.toInt + y.toInt := by
  have h1 := x.toInt_lt
  have h2 := y.toInt_lt
  have e := fq_add_toInt hx hy
  rw [Int32.lt_iff_toInt_lt, Int32.toInt_zero] at h
  rw [e] at h ⊢
  split at h <;> split <;> omega
theorem fq_pushF_fr (a : fq_G) (N : Nat) (x key : Int32) : (∀ r, r ≠ 0 → r ≠ 8 → fq_pushF a N x key r = a r) ∧ ∀ j, j ≠ 4 → j ≠ 5 → fq_pushF a N x key 8 j = a 8 j := by
  unfold fq_pushF
  split
  · exact ⟨fun r h0 h8 => by simp [fq_pushA, fq_us, h0, h8], fun j h4 h5 => by simp [fq_pushA, fq_us, upd, h4, h5]⟩
  · exact ⟨fun _ _ _ => rfl, fun _ _ _ => rfl⟩
theorem fq_lowerF_fr (a : fq_G) (N : Nat) (x key : Int32) : (∀ r, r ≠ 0 → r ≠ 8 → fq_lowerF a N x key r = a r) ∧ ∀ j, j ≠ 4 → j ≠ 5 → fq_lowerF a N x key 8 j = a 8 j := by
  unfold fq_lowerF
  split
  · exact ⟨fun r h0 h8 => by simp [fq_lowerA, fq_us, h0, h8], fun j h4 h5 => by simp [fq_lowerA, fq_us, upd, h4, h5]⟩
  · exact ⟨fun _ _ _ => rfl, fun _ _ _ => rfl⟩
def fq_reachF (a : fq_G) (N u v : Nat) (len : Int32) : fq_G :=
  if a 6 v ≠ 0 ∨ a 4 u + len < 0 then a else if a 0 v = -1 then fq_us (fq_pushF a N (nI v) (a 4 u + len)) 5 v (nI u) else if a 4 u + len < a 0 v then fq_us (fq_lowerF a N (nI v) (a 4 u + len)) 5 v (nI u) else a
def fq_BF (a b : fq_G) : Prop := (∀ r, r ≠ 0 → r ≠ 5 → r ≠ 8 → b r = a r) ∧ ∀ j, j ≠ 4 → j ≠ 5 → b 8 j = a 8 j
theorem fq_BF.rf (a : fq_G) : fq_BF a a := ⟨fun _ _ _ _ => rfl, fun _ _ _ => rfl⟩
theorem fq_BF.trans {a b c : fq_G} (h1 : fq_BF a b) (h2 : fq_BF b c) : fq_BF a c := ⟨fun r x y z => (h2.1 r x y z).trans (h1.1 r x y z), fun j x y => (h2.2 j x y).trans (h1.2 j x y)⟩
theorem fq_BF_reach (a : fq_G) (N u v : Nat) (len : Int32) : fq_BF a (fq_reachF a N u v len) := by
  unfold fq_reachF
  split
  · exact fq_BF.rf a
  · split
    · have h := fq_pushF_fr a N (nI v) (a 4 u + len)
      refine ⟨fun r h0 h5 h8 => ?_, fun j h4 h5 => ?_⟩
      · rw [← h.1 r h0 h8]
        simp [fq_us, h5]
      · rw [← h.2 j h4 h5]
        simp [fq_us]
    · split
      · have h := fq_lowerF_fr a N (nI v) (a 4 u + len)
        refine ⟨fun r h0 h5 h8 => ?_, fun j h4 h5 => ?_⟩
        · rw [← h.1 r h0 h8]
          simp [fq_us, h5]
        · rw [← h.2 j h4 h5]
          simp [fq_us]
      · exact fq_BF.rf a
def fq_RA (a : fq_G) (N : Nat) : Prop := ∀ k, k < N → (a 6 k ≠ 0 → a 0 k = -1 ∧ 0 ≤ (a 4 k).toInt) ∧ (a 5 k ≠ -1 → a 6 k ≠ 0 ∨ a 0 k ≠ -1)
def fq_CL (a : fq_G) (N E fr : Nat) : Prop := (∀ S : Nat → Prop, S fr → (∀ j, j < E → S (a 1 j).toNatClampNeg → S (a 2 j).toNatClampNeg) → ∀ k, k < N → (a 6 k ≠ 0 ∨ a 0 k ≠ -1) → S k) ∧ (a 6 fr ≠ 0 ∨ a 0 fr ≠ -1)
def fq_RP (a : fq_G) (N M E C P fr : Nat) : Prop := fq_AB a N C P ∧ fq_AG a N M E ∧ fq_RA a N ∧ fq_CL a N E fr
theorem fq_AB_cg {a a' : fq_G} {N C P : Nat} (h0 : a' 0 = a 0) (h8 : ∀ j, j ≠ 7 → a' 8 j = a 8 j) (h : fq_AB a N C P) : fq_AB a' N C P := by
  obtain ⟨n1, n40, a0, hf, hkeys, hP, hC, hb⟩ := h
  refine ⟨n1, n40, by rw [h8 0 (by decide)]; exact a0, by rw [h8 3 (by decide)]; exact hf, by rw [h0, h8 3 (by decide)]; exact hkeys, by rw [h8 4 (by decide)]; exact hP, by rw [h8 5 (by decide)]; exact hC, ?_⟩
  have e : fq_phi a' N = fq_phi a N := by
    unfold fq_phi
    exact fq_sum_congr (fun k _ => by simp only [fq_ph, h0, h8 3 (by decide)])
  rw [e]
  exact hb
theorem fq_AG_cg {a a' : fq_G} {N M E : Nat} (h1 : a' 1 = a 1) (h2 : a' 2 = a 2) (h3 : a' 3 = a 3) (h81 : a' 8 1 = a 8 1) (h86 : a' 8 6 = a 8 6) (h : fq_AG a N M E) : fq_AG a' N M E := by
  unfold fq_AG
  rw [h1, h2, h3, h81, h86]
  exact h
theorem fq_reach_put {a b : fq_G} {N M E C P C' P' fr u v j : Nat} {s : Int32} (h : fq_RP a N M E C P fr) (hu : u < N) (htk : a 6 u ≠ 0) (hj : j < E) (hju : a 1 j = nI u) (hv : v < N) (hjv : a 2 j = nI v) (hv6 : a 6 v = 0) (hs : s ≠ -1)
    (hb0 : b 0 = upd (a 0) v s) (hbo : ∀ r, r ≠ 0 → r ≠ 8 → b r = a r) (hb8 : ∀ i, i ≠ 4 → i ≠ 5 → b 8 i = a 8 i) (hAb : fq_AB b N C' P') : fq_RP (fq_us b 5 v (nI u)) N M E C' P' fr := by
  obtain ⟨hA, hG, hR, hCl⟩ := h
  have h40 := hA.2.1
  obtain ⟨c, ec⟩ : ∃ c, c = fq_us b 5 v (nI u) := ⟨_, rfl⟩
  rw [← ec]
  have c0 : c 0 = upd (a 0) v s := by rw [ec, ← hb0]; simp [fq_us]
  have c8 : c 8 = b 8 := by rw [ec]; simp [fq_us]
  have c5 : c 5 = upd (a 5) v (nI u) := by rw [ec, ← hbo 5 (by decide) (by decide)]; simp [fq_us]
  have co : ∀ r, r ≠ 0 → r ≠ 8 → r ≠ 5 → c r = a r := fun r x y z => by rw [ec, ← hbo r x y]; simp [fq_us, z]
  refine ⟨fq_AB_cg (by rw [ec]; simp [fq_us]) (fun i _ => by rw [c8]) hAb, fq_AG_cg (co 1 (by decide) (by decide) (by decide)) (co 2 (by decide) (by decide) (by decide)) (co 3 (by decide) (by decide) (by decide)) (by rw [c8]; exact hb8 1 (by decide) (by decide)) (by rw [c8]; exact hb8 6 (by decide) (by decide)) hG, fun k hk => ?_, ?_, ?_⟩
  · rw [c0, c5, co 6 (by decide) (by decide) (by decide), co 4 (by decide) (by decide) (by decide)]
    by_cases e : k = v
    · subst e
      exact ⟨fun q => absurd hv6 q, fun _ => Or.inr (by simp [upd, hs])⟩
    · simp only [upd, if_neg e]
      exact hR k hk
  · intro S hS hcl k hk hkk
    rw [co 1 (by decide) (by decide) (by decide), co 2 (by decide) (by decide) (by decide)] at hcl
    rw [c0, co 6 (by decide) (by decide) (by decide)] at hkk
    by_cases e : k = v
    · subst e
      have h1 := hCl.1 S hS hcl u hu (Or.inl htk)
      have h2 := hcl j hj (by rw [hju, nI_clamp (by omega)]; exact h1)
      rw [hjv, nI_clamp (by omega)] at h2
      exact h2
    · simp only [upd, if_neg e] at hkk
      exact hCl.1 S hS hcl k hk hkk
  · rw [c0, co 6 (by decide) (by decide) (by decide)]
    by_cases e : fr = v
    · subst e
      right
      simp [upd, hs]
    · simp only [upd, if_neg e]
      exact hCl.2
theorem fq_reach_ok {a : fq_G} {N M E C P fr u v j : Nat} (h : fq_RP a N M E C P fr) (hu : u < N) (htk : a 6 u ≠ 0) (hw : a 4 u = a 8 3) (hj : j < E) (hju : a 1 j = nI u) (hv : v < N) (hjv : a 2 j = nI v) :
    ∃ C' P', C' ≤ C + 1 ∧ fq_RP (fq_reachF a N u v (a 3 j)) N M E C' P' fr := by
  have h2 := h
  obtain ⟨hA, hG, hR, hCl⟩ := h
  have h40 := hA.2.1
  have hlow := hA.2.2.2.1
  have hlen := (hG.2.2.2.2.2 j hj).2.2
  unfold fq_reachF
  by_cases c1 : a 6 v ≠ 0 ∨ a 4 u + a 3 j < 0
  · rw [if_pos c1]
    exact ⟨C, P, by omega, h2⟩
  · rw [if_neg c1]
    have hv6 : a 6 v = 0 := Classical.byContradiction (fun q => c1 (Or.inl q))
    have hs0 : ¬ a 4 u + a 3 j < 0 := fun q => c1 (Or.inr q)
    have hs := fq_add_nn (x := a 4 u) (y := a 3 j) (by rw [hw]; exact hlow) hlen hs0
    have hk : (a 8 3).toInt ≤ (a 4 u + a 3 j).toInt := by rw [hs, hw]; omega
    have hsn := fq_key_ne hlow hk
    by_cases c2 : a 0 v = -1
    · rw [if_pos c2]
      have z := fq_push_4 (a := a) (key := a 4 u + a 3 j) h40 hv c2 (by rw [Int32.lt_iff_toInt_lt]; omega)
      have hfr := fq_pushF_fr a N (nI v) (a 4 u + a 3 j)
      exact ⟨C + 1, P + 1, by omega, fq_reach_put h2 hu htk hj hju hv hjv hv6 hsn (by rw [z.2]; exact fq_pushA_0 _ _ _) hfr.1 hfr.2 (by rw [z.2]; exact fq_pushA_ok hA hv c2 hk)⟩
    · rw [if_neg c2]
      by_cases c3 : a 4 u + a 3 j < a 0 v
      · rw [if_pos c3]
        have c4 := Int32.lt_iff_toInt_lt.mp c3
        have z := fq_lower_3 (a := a) (key := a 4 u + a 3 j) h40 hv c2 (by rw [Int32.lt_iff_toInt_lt, Int32.lt_iff_toInt_lt]; omega)
        have hfr := fq_lowerF_fr a N (nI v) (a 4 u + a 3 j)
        exact ⟨C + 1, _, by omega, fq_reach_put h2 hu htk hj hju hv hjv hv6 hsn (by rw [z.2]; exact fq_lowerA_0 _ _ _) hfr.1 hfr.2 (by rw [z.2]; exact fq_lowerA_ok hA hv c2 hk (by omega))⟩
      · rw [if_neg c3]
        exact ⟨C, P, by omega, h2⟩
def fq_rx (N u : Nat) : Nat → fq_G → fq_G
  | 0, a => a
  | j + 1, a => fq_rx N u j (if a 1 j = nI u then fq_reachF a N u (a 2 j).toNatClampNeg (a 3 j) else a)
theorem fq_rx_ok {N M E fr u : Nat} (hu : u < N) (j : Nat) : ∀ (a : fq_G) (C P : Nat), j ≤ E → fq_RP a N M E C P fr → a 6 u ≠ 0 → a 4 u = a 8 3 → ∃ C' P', C' ≤ C + j ∧ fq_RP (fq_rx N u j a) N M E C' P' fr ∧ fq_BF a (fq_rx N u j a) := by
  induction j with
  | zero => intro a C P _ h _ _; exact ⟨C, P, by omega, h, fq_BF.rf a⟩
  | succ j ih =>
    intro a C P hj h htk hw
    simp only [fq_rx]
    by_cases c : a 1 j = nI u
    · rw [if_pos c]
      obtain ⟨v, hv, ev⟩ := (h.2.1.2.2.2.2.2 j (by omega)).2.1
      have h40 := h.1.2.1
      have e : (a 2 j).toNatClampNeg = v := by rw [ev, nI_clamp (by omega)]
      rw [e]
      obtain ⟨C1, P1, h1, h2⟩ := fq_reach_ok h hu htk hw (by omega) c hv ev
      have hf := fq_BF_reach a N u v (a 3 j)
      obtain ⟨C2, P2, h3, h4, h5⟩ := ih _ C1 P1 (by omega) h2 (by rw [hf.1 6 (by decide) (by decide) (by decide)]; exact htk) (by rw [hf.1 4 (by decide) (by decide) (by decide), hf.2 3 (by decide) (by decide)]; exact hw)
      exact ⟨C2, P2, by omega, h4, hf.trans h5⟩
    · rw [if_neg c]
      obtain ⟨C2, P2, h3, h4, h5⟩ := ih _ C P (by omega) h htk hw
      exact ⟨C2, P2, by omega, h4, h5⟩
theorem fq_rx_none {N u : Nat} {a : fq_G} (j : Nat) (h : ∀ i, i < j → a 1 i ≠ nI u) : fq_rx N u j a = a := by
  induction j with
  | zero => rfl
  | succ j ih =>
    simp only [fq_rx]
    rw [if_neg (h j (by omega))]
    exact ih (fun i hi => h i (by omega))
theorem fq_rx_next {N u : Nat} {a : fq_G} {j : Nat} (i : Nat) (hj : j < i) (hju : a 1 j = nI u) (h : ∀ k, j < k → k < i → a 1 k ≠ nI u) : fq_rx N u i a = fq_rx N u j (fq_reachF a N u (a 2 j).toNatClampNeg (a 3 j)) := by
  induction i with
  | zero => exact absurd hj (Nat.not_lt_zero _)
  | succ i ih =>
    simp only [fq_rx]
    by_cases c : j = i
    · subst c
      rw [if_pos hju]
    · rw [if_neg (h i (by omega) (by omega))]
      exact ih (by omega) (fun k h1 h2 => h k h1 (by omega))
theorem fq_isL_ex {K : Nat → Int32} {N : Nat} (h : ∃ k, k < N ∧ K k ≠ -1) : ∃ f, fq_isL K N f := by
  induction N with
  | zero =>
    obtain ⟨k, hk, _⟩ := h
    exact absurd hk (Nat.not_lt_zero _)
  | succ n ih =>
    by_cases c : ∃ k, k < n ∧ K k ≠ -1
    · obtain ⟨f, f1, f2, f3⟩ := ih c
      by_cases c2 : K n ≠ -1 ∧ K n < K f
      · refine ⟨n, by omega, c2.1, fun k hk hk0 => ?_⟩
        by_cases q : k = n
        · rw [q]
          exact fq_bt_rf K n
        · exact fq_bt_tr (Or.inl c2.2) (f3 k (by omega) hk0)
      · refine ⟨f, by omega, f2, fun k hk hk0 => ?_⟩
        by_cases q : k = n
        · rw [q] at hk0 ⊢
          have c3 : ¬ K n < K f := fun q => c2 ⟨hk0, q⟩
          by_cases c4 : K n = K f
          · exact fq_bt_eq c4 (by omega)
          · exact fq_bt_no c3 c4
        · exact f3 k (by omega) hk0
    · obtain ⟨k, hk, hk0⟩ := h
      have hkn : k = n := by
        by_cases q : k = n
        · exact q
        · exact absurd ⟨k, by omega, hk0⟩ c
      subst hkn
      refine ⟨k, by omega, hk0, fun i hi hi0 => ?_⟩
      by_cases q : i = k
      · rw [q]
        exact fq_bt_rf K k
      · exact absurd ⟨i, by omega, hi0⟩ c
noncomputable def fq_least (a : fq_G) (N : Nat) : Nat := Classical.epsilon (fun f => fq_isL (a 0) N f)
theorem fq_least_is {a : fq_G} {N f : Nat} (h : fq_isL (a 0) N f) : fq_least a N = f := fq_isL_uniq (Classical.epsilon_spec (p := fun f => fq_isL (a 0) N f) ⟨f, h⟩) h
def fq_popT (a : fq_G) (N f : Nat) : fq_G := fq_us (fq_us (fq_popG a N f) 4 f (a 0 f)) 6 f 1
noncomputable def fq_stepF (N E : Nat) (a : fq_G) : fq_G := fq_rx N (fq_least a N) E (fq_popT a N (fq_least a N))
def fq_mu (a : fq_G) (N : Nat) : Nat := fq_cnt (fun k => decide (a 6 k = 0)) N
theorem fq_popG_0 (a : fq_G) (N f : Nat) : fq_popG a N f 0 = upd (a 0) f (-1) := by
  unfold fq_popG
  split <;> simp [fq_us, fq_popM]
theorem fq_popG_o (a : fq_G) (N f : Nat) {r : Nat} (h0 : r ≠ 0) (h8 : r ≠ 8) : fq_popG a N f r = a r := by
  unfold fq_popG
  split <;> simp [fq_us, fq_popM, h0, h8]
theorem fq_popG_8 (a : fq_G) (N f : Nat) {j : Nat} (h3 : j ≠ 3) (h4 : j ≠ 4) : fq_popG a N f 8 j = a 8 j := by
  unfold fq_popG
  split <;> simp [fq_us, fq_popM, upd, h3, h4]
theorem fq_popG_83 {a : fq_G} {N C P f : Nat} (hA : fq_AB a N C P) (hf : fq_isL (a 0) N f) : fq_popG a N f 8 3 = a 0 f := by
  unfold fq_popG
  split
  · rename_i c
    have e := fq_d_zero c
    have h1 := (hA.2.2.2.2.1 f hf.1).resolve_left hf.2.1
    have h2 := hA.2.2.2.1
    have e2 : fq_us a 0 f (-1) 8 3 = a 8 3 := by simp [fq_us]
    rw [e2, ← fq_nI_n h2, ← e, fq_nI_n (by omega)]
  · have e2 : fq_us (fq_popM a N f) 0 f (-1) 8 3 = fq_popM a N f 8 3 := by simp [fq_us]
    rw [e2, fq_popM_83]
theorem fq_popT_0 (a : fq_G) (N f : Nat) : fq_popT a N f 0 = upd (a 0) f (-1) := by
  rw [← fq_popG_0 a N f]
  simp [fq_popT, fq_us]
theorem fq_popT_8 (a : fq_G) (N f : Nat) : fq_popT a N f 8 = fq_popG a N f 8 := by simp [fq_popT, fq_us]
theorem fq_popT_6 (a : fq_G) (N f : Nat) : fq_popT a N f 6 = upd (a 6) f 1 := by
  rw [← fq_popG_o a N f (r := 6) (by decide) (by decide)]
  simp [fq_popT, fq_us]
theorem fq_popT_4 (a : fq_G) (N f : Nat) : fq_popT a N f 4 = upd (a 4) f (a 0 f) := by
  rw [← fq_popG_o a N f (r := 4) (by decide) (by decide)]
  simp [fq_popT, fq_us]
theorem fq_popT_o (a : fq_G) (N f : Nat) {r : Nat} (h0 : r ≠ 0) (h8 : r ≠ 8) (h4 : r ≠ 4) (h6 : r ≠ 6) : fq_popT a N f r = a r := by
  rw [← fq_popG_o a N f h0 h8]
  simp [fq_popT, fq_us, h4, h6]
theorem fq_popT_ok {a : fq_G} {N M E C P fr f : Nat} (h : fq_RP a N M E C P fr) (hf : fq_isL (a 0) N f) :
    (∃ P', fq_RP (fq_popT a N f) N M E C P' fr) ∧ fq_popT a N f 6 f ≠ 0 ∧ fq_popT a N f 4 f = fq_popT a N f 8 3 ∧ fq_mu (fq_popT a N f) N + 1 = fq_mu a N := by
  obtain ⟨hA, hG, hR, hCl⟩ := h
  obtain ⟨P', hP'⟩ := fq_popG_ok hA hf
  have h83 := fq_popG_83 hA hf
  have hk := (hA.2.2.2.2.1 f hf.1).resolve_left hf.2.1
  have hlow := hA.2.2.2.1
  refine ⟨⟨P', fq_AB_cg (by rw [fq_popT_0, fq_popG_0]) (fun j _ => by rw [fq_popT_8]) hP', fq_AG_cg (fq_popT_o a N f (by decide) (by decide) (by decide) (by decide)) (fq_popT_o a N f (by decide) (by decide) (by decide) (by decide)) (fq_popT_o a N f (by decide) (by decide) (by decide) (by decide)) (by rw [fq_popT_8]; exact fq_popG_8 a N f (by decide) (by decide)) (by rw [fq_popT_8]; exact fq_popG_8 a N f (by decide) (by decide)) hG, fun k hkN => ?_, ?_, ?_⟩, ?_, ?_, ?_⟩
  · rw [fq_popT_0, fq_popT_6, fq_popT_4, fq_popT_o a N f (r := 5) (by decide) (by decide) (by decide) (by decide)]
    by_cases e : k = f
    · subst e
      refine ⟨fun _ => ⟨by simp [upd], ?_⟩, fun _ => Or.inl (by simp [upd])⟩
      have e1 : upd (a 4) k (a 0 k) k = a 0 k := by simp [upd]
      rw [e1]
      omega
    · simp only [upd, if_neg e]
      exact hR k hkN
  · intro S hS hcl k hkN hkk
    rw [fq_popT_o a N f (r := 1) (by decide) (by decide) (by decide) (by decide), fq_popT_o a N f (r := 2) (by decide) (by decide) (by decide) (by decide)] at hcl
    rw [fq_popT_0, fq_popT_6] at hkk
    by_cases e : k = f
    · subst e
      exact hCl.1 S hS hcl k hkN (Or.inr hf.2.1)
    · simp only [upd, if_neg e] at hkk
      exact hCl.1 S hS hcl k hkN hkk
  · rw [fq_popT_0, fq_popT_6]
    by_cases e : fr = f
    · left
      simp [upd, e]
    · simp only [upd, if_neg e]
      exact hCl.2
  · rw [fq_popT_6]
    simp [upd]
  · rw [fq_popT_4, fq_popT_8, h83]
    simp [upd]
  · unfold fq_mu
    have h6 : a 6 f = 0 := Classical.byContradiction (fun q => hf.2.1 ((hR f hf.1).1 q).1)
    rw [fq_popT_6]
    exact (fq_cnt_flip (P := fun k => decide (upd (a 6) f 1 k = 0)) (P' := fun k => decide (a 6 k = 0)) hf.1 (by simp [upd]) (by simp [h6]) (fun k _ hne => by simp [upd, hne])).symm
noncomputable def fq_loopF (N E : Nat) : Nat → fq_G → fq_G
  | 0, a => a
  | n + 1, a => if fq_cnt (fq_th a) N = 0 then a else fq_loopF N E n (fq_stepF N E a)
theorem fq_nonempty {a : fq_G} {N : Nat} (h : ¬ fq_cnt (fq_th a) N = 0) : ∃ k, k < N ∧ a 0 k ≠ -1 := by
  apply Classical.byContradiction
  intro c
  apply h
  refine fq_cnt_zero.mpr (fun k hk => ?_)
  by_cases q : a 0 k = -1
  · simp [fq_th, q]
  · exact absurd ⟨k, hk, q⟩ c
theorem fq_step_ok {a : fq_G} {N M E C P fr : Nat} (h : fq_RP a N M E C P fr) (hne : ¬ fq_cnt (fq_th a) N = 0) : ∃ C' P', C' ≤ C + E ∧ fq_RP (fq_stepF N E a) N M E C' P' fr ∧ fq_mu (fq_stepF N E a) N + 1 = fq_mu a N := by
  obtain ⟨f, hf⟩ := fq_isL_ex (fq_nonempty hne)
  unfold fq_stepF
  rw [fq_least_is hf]
  obtain ⟨⟨P1, h1⟩, h2, h3, h4⟩ := fq_popT_ok h hf
  obtain ⟨C2, P2, h5, h6, h7⟩ := fq_rx_ok hf.1 E _ C P1 (Nat.le_refl _) h1 h2 h3
  refine ⟨C2, P2, h5, h6, ?_⟩
  rw [← h4]
  unfold fq_mu
  rw [h7.1 6 (by decide) (by decide) (by decide)]
theorem fq_loop_ok {N M E fr : Nat} (n : Nat) : ∀ (a : fq_G) (C P : Nat), fq_RP a N M E C P fr → fq_mu a N < n → ∃ C' P', C' ≤ C + n * E ∧ fq_RP (fq_loopF N E n a) N M E C' P' fr ∧ fq_cnt (fq_th (fq_loopF N E n a)) N = 0 := by
  induction n with
  | zero => intro a C P _ h; exact absurd h (Nat.not_lt_zero _)
  | succ n ih =>
    intro a C P h hm
    simp only [fq_loopF]
    by_cases c : fq_cnt (fq_th a) N = 0
    · rw [if_pos c]
      exact ⟨C, P, by omega, h, c⟩
    · rw [if_neg c]
      obtain ⟨C1, P1, h1, h2, h3⟩ := fq_step_ok h c
      obtain ⟨C2, P2, h4, h5, h6⟩ := ih _ C1 P1 h2 (by omega)
      refine ⟨C2, P2, ?_, h5, h6⟩
      rw [Nat.add_mul]
      omega
def fq_run0 (a : fq_G) : fq_G := fq_row (fq_row (fq_clrM a) 6 (fq_fill (a 6) 40 0)) 5 (fq_fill (a 5) 40 (-1))
def fq_run1 (a : fq_G) (N : Nat) (x : Int32) : fq_G := fq_pushF (fq_run0 a) N x 0
theorem fq_run0_0 (a : fq_G) : fq_run0 a 0 = fq_fill (a 0) 40 (-1) := by simp [fq_run0, fq_row, fq_clrM_0]
theorem fq_run0_8 (a : fq_G) : fq_run0 a 8 = upd (a 8) 3 0 := by simp [fq_run0, fq_row, fq_clrM_8]
theorem fq_run0_6 (a : fq_G) : fq_run0 a 6 = fq_fill (a 6) 40 0 := by simp [fq_run0, fq_row]
theorem fq_run0_5 (a : fq_G) : fq_run0 a 5 = fq_fill (a 5) 40 (-1) := by simp [fq_run0, fq_row]
theorem fq_run0_o (a : fq_G) {r : Nat} (h0 : r ≠ 0) (h8 : r ≠ 8) (h6 : r ≠ 6) (h5 : r ≠ 5) : fq_run0 a r = a r := by simp [fq_run0, fq_row, h5, h6, fq_clrM_o a h0 h8]
theorem fq_run1_is {a : fq_G} {N C P j : Nat} (hA : fq_AB a N C P) (hj : j < N) : fq_pushR (fq_run0 a) N (nI j) 0 = 0 ∧ fq_run1 a N (nI j) = fq_pushA (fq_run0 a) j 0 := by
  have h40 := hA.2.1
  have z := fq_push_4 (a := fq_run0 a) (key := 0) h40 hj (by rw [fq_run0_0]; simp [fq_fill]; omega) (by rw [fq_run0_8]; simp [upd])
  exact z
theorem fq_run1_ok {a : fq_G} {N M E C P j : Nat} (hA : fq_AB a N C P) (hG : fq_AG a N M E) (hj : j < N) : fq_RP (fq_run1 a N (nI j)) N M E (C + 1) (P + 1) j := by
  have h40 := hA.2.1
  rw [(fq_run1_is hA hj).2]
  have hA0 : fq_AB (fq_run0 a) N C P := fq_AB_cg (by rw [fq_run0_0, fq_clrM_0]) (fun i _ => by rw [fq_run0_8, fq_clrM_8]) (fq_clrM_AB hA)
  have hz : ∀ k, k < N → fq_run0 a 0 k = -1 := fun k hk => by
    rw [fq_run0_0]
    unfold fq_fill
    rw [if_pos (by omega)]
  have h83 : fq_run0 a 8 3 = 0 := by rw [fq_run0_8]; simp [upd]
  have po : ∀ r, r ≠ 0 → r ≠ 8 → fq_pushA (fq_run0 a) j 0 r = fq_run0 a r := fun r x y => by simp [fq_pushA, fq_us, x, y]
  have o1 : ∀ r, r = 1 ∨ r = 2 ∨ r = 3 → fq_pushA (fq_run0 a) j 0 r = a r := fun r hr => by rw [po r (by omega) (by omega), fq_run0_o a (by omega) (by omega) (by omega) (by omega)]
  have h6 : ∀ k, k < N → fq_pushA (fq_run0 a) j 0 6 k = 0 := fun k hk => by
    rw [po 6 (by decide) (by decide), fq_run0_6]
    unfold fq_fill
    rw [if_pos (by omega)]
  have h5 : ∀ k, k < N → fq_pushA (fq_run0 a) j 0 5 k = -1 := fun k hk => by
    rw [po 5 (by decide) (by decide), fq_run0_5]
    unfold fq_fill
    rw [if_pos (by omega)]
  refine ⟨fq_pushA_ok hA0 hj (hz j hj) (by rw [h83]; exact Int.le_refl _), fq_AG_cg (o1 1 (by simp)) (o1 2 (by simp)) (o1 3 (by simp)) (by simp [fq_pushA, fq_us, upd, fq_run0_8]) (by simp [fq_pushA, fq_us, upd, fq_run0_8]) hG, fun k hk => ⟨fun q => absurd (h6 k hk) q, fun q => absurd (h5 k hk) q⟩, fun S hS _ k hk hkk => ?_, Or.inr ?_⟩
  · rcases hkk with q | q
    · exact absurd (h6 k hk) q
    · rw [fq_pushA_0] at q
      by_cases e : k = j
      · rw [e]
        exact hS
      · simp only [upd, if_neg e] at q
        exact absurd (hz k hk) q
  · rw [fq_pushA_0]
    simp [upd]
def fq_ov (a : fq_G) (j : Nat) : Bool := decide (a 6 (a 1 j).toNatClampNeg ≠ 0 ∧ a 6 (a 2 j).toNatClampNeg = 0)
def fq_hasI (a : fq_G) (E : Nat) : Int32 := if fq_cnt (fq_ov a) E = 0 then 1 else 0
noncomputable def fq_runT (a : fq_G) (N E : Nat) (x : Int32) : fq_G := fq_loopF N E 41 (fq_run1 a N x)
noncomputable def fq_runF (a : fq_G) (N E : Nat) (x : Int32) : fq_G := if fq_itm N x = false then a else fq_us (fq_runT a N E x) 8 7 (fq_hasI (fq_runT a N E x) E)
noncomputable def fq_runR (a : fq_G) (N E : Nat) (x : Int32) : Int32 := if fq_itm N x = false then -1 else if fq_hasI (fq_runT a N E x) E = 0 then -2 else 0
theorem fq_runT_ok {a : fq_G} {N M E C P j : Nat} (hA : fq_AB a N C P) (hG : fq_AG a N M E) (hj : j < N) : ∃ C' P', C' ≤ C + 12301 ∧ fq_RP (fq_runT a N E (nI j)) N M E C' P' j ∧ fq_cnt (fq_th (fq_runT a N E (nI j))) N = 0 := by
  have h1 := fq_run1_ok hA hG hj
  have hm : fq_mu (fq_run1 a N (nI j)) N < 41 := by
    have := fq_cnt_le (fun k => decide (fq_run1 a N (nI j) 6 k = 0)) N
    have := hA.2.1
    unfold fq_mu
    omega
  obtain ⟨C2, P2, h2, h3, h4⟩ := fq_loop_ok 41 _ _ _ h1 hm
  have h5 := hG.2.1
  have h6 := hG.2.2.1
  exact ⟨C2, P2, by omega, h3, h4⟩
theorem fq_runF_ok {a : fq_G} {N M E C P : Nat} (hA : fq_AB a N C P) (hG : fq_AG a N M E) (x : Int32) : ∃ C' P', C' ≤ C + 12301 ∧ fq_AB (fq_runF a N E x) N C' P' ∧ fq_AG (fq_runF a N E x) N M E := by
  unfold fq_runF
  by_cases c : fq_itm N x = false
  · rw [if_pos c]
    exact ⟨C, P, by omega, hA, hG⟩
  · rw [if_neg c]
    have c2 : 0 ≤ x.toInt ∧ x.toInt < (N : Int) := by simpa [fq_itm] using c
    have e := fq_n_toInt c2.1
    obtain ⟨C2, P2, h1, h2, h3⟩ := fq_runT_ok hA hG (j := x.toNatClampNeg) (by omega)
    rw [fq_nI_n c2.1] at h2
    refine ⟨C2, P2, h1, fq_AB_cg (by simp [fq_us]) (fun i hi => by simp [fq_us, upd, hi]) h2.1, fq_AG_cg (by simp [fq_us]) (by simp [fq_us]) (by simp [fq_us]) (by simp [fq_us, upd]) (by simp [fq_us, upd]) h2.2.1⟩
end
section
/-! pure rows: the queue's picture while it runs -/
def fq_RI (g a : fq_G) (N E : Nat) (L : Nat → List Nat) : Prop := fq_QB g a N L ∧ fq_QA g a N E ∧ ∀ k, k < N → g 10 k = (if a 6 k = 0 then -1 else a 4 k) ∧ g 11 k = a 5 k
theorem fq_QA_cg {g g' a a' : fq_G} {N E : Nat} (hr : ∀ r, 6 ≤ r → r < 10 → g' r = g r) (h12 : ∀ j, j = 1 ∨ j = 2 ∨ j = 7 → g' 12 j = g 12 j) (ha : ∀ r, r = 1 ∨ r = 2 ∨ r = 3 → a' r = a r) (h8 : ∀ j, j = 1 ∨ j = 2 ∨ j = 6 → a' 8 j = a 8 j) (h : fq_QA g a N E) : fq_QA g' a' N E := by
  unfold fq_QA
  rw [hr 6 (by omega) (by omega), hr 7 (by omega) (by omega), hr 8 (by omega) (by omega), hr 9 (by omega) (by omega), h12 1 (by simp), h12 2 (by simp), h12 7 (by simp), ha 1 (by simp), ha 2 (by simp), ha 3 (by simp), h8 1 (by simp), h8 2 (by simp), h8 6 (by simp)]
  exact h
theorem fq_RI_put {g a u1 a1 : fq_G} {N E v : Nat} {x : Int32} {L L' : Nat → List Nat} (hR : fq_RI g a N E L) (hB : fq_QB u1 a1 N L') (hF : fq_FR g u1) (ho : ∀ r, r ≠ 0 → r ≠ 8 → a1 r = a r) (h8 : ∀ j, j ≠ 4 → j ≠ 5 → a1 8 j = a 8 j) :
    fq_RI (fq_us u1 11 v x) (fq_us a1 5 v x) N E L' := by
  refine ⟨fq_QB_cg (fun r hr => ?_) (fun j _ _ => by simp [fq_us]) (by simp [fq_us]) (fun _ _ => by simp [fq_us]) (fun j _ => by simp [fq_us]) hB, fq_QA_cg (fun r h1 h2 => ?_) (fun j hj => ?_) (fun r hr => ?_) (fun j hj => ?_) hR.2.1, fun k hk => ?_⟩
  · have : r ≠ 11 := by omega
    simp [fq_us, this]
  · rw [← hF.1 r h1 (by omega)]
    have : r ≠ 11 := by omega
    simp [fq_us, this]
  · rw [← hF.2 j (by omega)]
    simp [fq_us]
  · rw [← ho r (by omega) (by omega)]
    have : r ≠ 5 := by omega
    simp [fq_us, this]
  · rw [← h8 j (by omega) (by omega)]
    simp [fq_us]
  · have e10 : fq_us u1 11 v x 10 = g 10 := by rw [← hF.1 10 (by decide) (by decide)]; simp [fq_us]
    have e11 : fq_us u1 11 v x 11 = upd (g 11) v x := by rw [← hF.1 11 (by decide) (by decide)]; simp [fq_us]
    have e6 : fq_us a1 5 v x 6 = a 6 := by rw [← ho 6 (by decide) (by decide)]; simp [fq_us]
    have e4 : fq_us a1 5 v x 4 = a 4 := by rw [← ho 4 (by decide) (by decide)]; simp [fq_us]
    have e5 : fq_us a1 5 v x 5 = upd (a 5) v x := by rw [← ho 5 (by decide) (by decide)]; simp [fq_us]
    rw [e10, e11, e6, e4, e5]
    refine ⟨(hR.2.2 k hk).1, ?_⟩
    by_cases c : k = v
    · simp [upd, c]
    · simp [upd, c, (hR.2.2 k hk).2]
theorem fq_RI_pop {g b u : fq_G} {N E f : Nat} {L L' : Nat → List Nat} (hR : fq_RI g b N E L) (hB : fq_QB u (fq_popG b N f) N L') (hF : fq_FR g u) : fq_RI (fq_us u 10 f (b 0 f)) (fq_popT b N f) N E L' := by
  refine ⟨fq_QB_cg (fun r hr => ?_) (fun j _ _ => by simp [fq_us]) (by simp [fq_us]) (fun k _ => by rw [fq_popT_0, fq_popG_0]) (fun j _ => by rw [fq_popT_8]) hB, fq_QA_cg (fun r h1 h2 => ?_) (fun j hj => ?_) (fun r hr => fq_popT_o b N f (by omega) (by omega) (by omega) (by omega)) (fun j hj => by rw [fq_popT_8]; exact fq_popG_8 b N f (by omega) (by omega)) hR.2.1, fun k hk => ?_⟩
  · have : r ≠ 10 := by omega
    simp [fq_us, this]
  · rw [← hF.1 r h1 (by omega)]
    have : r ≠ 10 := by omega
    simp [fq_us, this]
  · rw [← hF.2 j (by omega)]
    simp [fq_us]
  · have e10 : fq_us u 10 f (b 0 f) 10 = upd (g 10) f (b 0 f) := by rw [← hF.1 10 (by decide) (by decide)]; simp [fq_us]
    have e11 : fq_us u 10 f (b 0 f) 11 = g 11 := by rw [← hF.1 11 (by decide) (by decide)]; simp [fq_us]
    rw [e10, e11, fq_popT_6, fq_popT_4, fq_popT_o b N f (r := 5) (by decide) (by decide) (by decide) (by decide)]
    refine ⟨?_, (hR.2.2 k hk).2⟩
    by_cases c : k = f
    · subst c
      simp [upd]
    · simp [upd, c, (hR.2.2 k hk).1]
theorem fq_rf_0 {a : fq_G} {N u v : Nat} {len : Int32} (h : a 6 v ≠ 0 ∨ a 4 u + len < 0) : fq_reachF a N u v len = a := by
  unfold fq_reachF
  rw [if_pos h]
theorem fq_rf_1 {a : fq_G} {N u v : Nat} {len : Int32} (h6 : a 6 v = 0) (hs : ¬ a 4 u + len < 0) (h0 : a 0 v = -1) : fq_reachF a N u v len = fq_us (fq_pushF a N (nI v) (a 4 u + len)) 5 v (nI u) := by
  unfold fq_reachF
  rw [if_neg (fun q => q.elim (fun q => q h6) hs), if_pos h0]
theorem fq_rf_2 {a : fq_G} {N u v : Nat} {len : Int32} (h6 : a 6 v = 0) (hs : ¬ a 4 u + len < 0) (h0 : a 0 v ≠ -1) (hk : a 4 u + len < a 0 v) : fq_reachF a N u v len = fq_us (fq_lowerF a N (nI v) (a 4 u + len)) 5 v (nI u) := by
  unfold fq_reachF
  rw [if_neg (fun q => q.elim (fun q => q h6) hs), if_neg h0, if_pos hk]
theorem fq_rf_3 {a : fq_G} {N u v : Nat} {len : Int32} (h0 : a 0 v ≠ -1) (hk : ¬ a 4 u + len < a 0 v) : fq_reachF a N u v len = a := by
  unfold fq_reachF
  rw [if_neg h0, if_neg hk]
  split <;> rfl
theorem fq_dist_m1 {g a : fq_G} {N k : Nat} (hD : g 10 k = (if a 6 k = 0 then -1 else a 4 k)) (hR : fq_RA a N) (hk : k < N) : g 10 k = -1 ↔ a 6 k = 0 := by
  constructor
  · intro h
    apply Classical.byContradiction
    intro c
    rw [if_neg c] at hD
    have := ((hR k hk).1 c).2
    rw [← hD, h, fq_m1] at this
    omega
  · intro h
    rw [if_pos h] at hD
    exact hD
theorem fq_orb {x : Int32} {A B : Prop} (h : (x = 1 ∧ A) ∨ (x = 0 ∧ B)) : x ||| 1 = 1 := by
  rcases h with ⟨h, _⟩ | ⟨h, _⟩ <;> rw [h] <;> decide
theorem fq_ov_f {a : fq_G} {j u : Nat} (hu : a 1 j = nI u) (hu2 : u < 2 ^ 31) (h : a 6 u = 0) : fq_ov a j = false := by
  unfold fq_ov
  rw [hu, nI_clamp hu2]
  simp [h]
theorem fq_ov_f2 {a : fq_G} {j v : Nat} (hv : a 2 j = nI v) (hv2 : v < 2 ^ 31) (h : ¬ a 6 v = 0) : fq_ov a j = false := by
  unfold fq_ov
  rw [hv, nI_clamp hv2]
  simp [h]
theorem fq_ov_t {a : fq_G} {j u v : Nat} (hu : a 1 j = nI u) (hu2 : u < 2 ^ 31) (h : ¬ a 6 u = 0) (hv : a 2 j = nI v) (hv2 : v < 2 ^ 31) (h2 : a 6 v = 0) : fq_ov a j = true := by
  unfold fq_ov
  rw [hu, nI_clamp hu2, hv, nI_clamp hv2]
  simp [h, h2]
/-- what isOver knows: all arcs that leave items below i, and those of i from t on -/
def fq_OS (a : fq_G) (E i t : Nat) (x : Int32) : Prop := (x = 1 ∧ ∃ j, j < E ∧ fq_ov a j = true) ∨ (x = 0 ∧ ∀ j, j < E → ((a 1 j).toNatClampNeg < i ∨ ((a 1 j).toNatClampNeg = i ∧ t ≤ j)) → fq_ov a j = false)
theorem fq_OS_0 (a : fq_G) (E : Nat) : fq_OS a E 0 E 0 := Or.inr ⟨rfl, fun j hj h => by omega⟩
theorem fq_OS_in {a : fq_G} {E i t : Nat} {x : Int32} (h : fq_OS a E i E x) : fq_OS a E i E x := h
theorem fq_OS_next {a : fq_G} {E N i t : Nat} {x : Int32} (hi : i < 40) (hN : N ≤ 40) (hG : ∀ j, j < E → ∃ u, u < N ∧ a 1 j = nI u) (h : fq_OS a E i t x) (hn : ∀ j, j < t → a 1 j ≠ nI i) : fq_OS a E (i + 1) E x := by
  rcases h with h | ⟨h1, h2⟩
  · exact Or.inl h
  · refine Or.inr ⟨h1, fun j hj hc => h2 j hj ?_⟩
    obtain ⟨u, hu, eu⟩ := hG j hj
    rw [eu, nI_clamp (by omega)] at hc ⊢
    by_cases c : u < i
    · exact Or.inl c
    · right
      have hui : u = i := by omega
      refine ⟨hui, ?_⟩
      rcases Nat.lt_or_ge j t with q | q
      · exact absurd (by rw [eu, hui]) (hn j q)
      · exact q
theorem fq_OS_back {a : fq_G} {E i t j : Nat} {x y : Int32} (hi : i < 40) (hji : a 1 j = nI i) (hbt : ∀ k, j < k → k < t → a 1 k ≠ nI i) (hGi : ∀ k, k < E → ∃ u, u < 40 ∧ a 1 k = nI u) (h : fq_OS a E i t x) (hy : (y = x ∧ fq_ov a j = false) ∨ (y = 1 ∧ j < E ∧ fq_ov a j = true)) : fq_OS a E i j y := by
  rcases hy with ⟨hy, ho⟩ | ⟨hy, hj, ho⟩
  · subst hy
    rcases h with h | ⟨h1, h2⟩
    · exact Or.inl h
    · refine Or.inr ⟨h1, fun k hk hc => ?_⟩
      rcases hc with hc | ⟨hc1, hc2⟩
      · exact h2 k hk (Or.inl hc)
      · by_cases c : k = j
        · rw [c]
          exact ho
        · refine h2 k hk (Or.inr ⟨hc1, ?_⟩)
          rcases Nat.lt_or_ge k t with q | q
          · obtain ⟨u, hu, eu⟩ := hGi k hk
            rw [eu, nI_clamp (by omega)] at hc1
            exact absurd (by rw [eu, hc1]) (hbt k (by omega) q)
          · exact q
  · exact Or.inl ⟨hy, j, hj, ho⟩
theorem fq_OS_end {a : fq_G} {E N : Nat} {x : Int32} (hN : N ≤ 40) (hG : ∀ j, j < E → ∃ u, u < N ∧ a 1 j = nI u) (h : fq_OS a E N E x) : (x = 1 ∧ ¬ fq_cnt (fq_ov a) E = 0) ∨ (x = 0 ∧ fq_cnt (fq_ov a) E = 0) := by
  rcases h with ⟨h1, j, hj, ho⟩ | ⟨h1, h2⟩
  · refine Or.inl ⟨h1, fun q => ?_⟩
    have := fq_cnt_zero.mp q j hj
    rw [ho] at this
    cases this
  · refine Or.inr ⟨h1, fq_cnt_zero.mpr (fun j hj => h2 j hj (Or.inl ?_))⟩
    obtain ⟨u, hu, eu⟩ := hG j hj
    rw [eu, nI_clamp (by omega)]
    exact hu
end
section
set_option maxHeartbeats 4000000 in
set_option maxRecDepth 100000 in
theorem fc_Q_clear (l : Launch) (V : fq_V) (o : Nat → Nat) (mo : Nat) (g : fq_G) (a : fq_G) (N C P : Nat) (L : Nat → List Nat) (hB : fq_QB g a N L) (hA : fq_AB a N C P) : fq_MV l V y_Q_clear b_Q_clear 2 1 [.ref (o 0)] (fq_WQ V o mo) g (fun u => (∃ L', fq_QB u (fq_clrM a) N L') ∧ (∀ k, k < N → u 10 k = -1 ∧ u 11 k = -1) ∧ (∀ r, 6 ≤ r → r < 10 → u r = g r) ∧ ∀ j, j ≠ 3 → j ≠ 4 → u 12 j = g 12 j) := by
  refine fq_MV_of (lv := [(0, .ref (o 0))]) (by decide) (Nat.le_of_ble_eq_true rfl) rfl ?_
  intro p e s m args below meth c A Q hC hret ls hl hQ
  have hxx := hC.1
  have hbb := hC.2.1
  refine lv_iconst (v := (nI 0)) hxx hbb fd_Q_clear_0 (by decide) ?_
  refine lv_istore_n (lv' := [(1, .int (nI 0)), (0, .ref (o 0))]) hxx hbb fd_Q_clear_1 rfl hl (by decide) rfl (fun ls hl => ?_)
  have loop2 : ∀ (n : Nat) (k : Nat) (g1 : fq_G) (L1 : Nat → List Nat), k ≤ N → N < k + n → fq_QB0 g1 (fq_row a 0 (fq_fill (a 0) k (-1))) N L1 → (∀ i, i < k → g1 10 i = -1 ∧ g1 11 i = -1) → (∀ r, 6 ≤ r → r < 10 → g1 r = g r) → g1 12 = g 12 → ∀ (H : Heap) (locs : List Loc) (ls : Array Slot), fq_Hp V A s.heap (fq_WQ V o mo g1) H locs → lv_has ls 2 [(0, .ref (o 0)), (1, .int (nI k))] → W p l e (fq_Rm 1) s m args below meth c H locs 0 0 Q (F0 m 2 ls []) := by
    intro n
    induction n with
    | zero =>
      intro k g1 L1 hk hn hq hd hfr h12
      omega
    | succ n ih2 =>
      intro k g1 L1 hk hn hq hd hfr h12 H locs ls hQ hl
      refine lv_iload_n hxx hbb fd_Q_clear_2 rfl (lv_at hl 1 rfl) ?_
      refine lv_aload_n hxx hbb fd_Q_clear_3 rfl (lv_at hl 0 rfl) ?_
      refine fg_Q_n hC hQ fd_Q_clear_4 (v := nI N) hq.1.1 ?_
      refine lv_icmp_ge (tgt := 45) hxx hbb fd_Q_clear_7 (by decide) (fun c7 => ?_) (fun c7 => ?_)
      · have hkN : k = N := by have h40 := hA.2.1; have h9 := (nI_leI (by omega) (by omega)).mp c7; omega
        subst hkN
        refine lv_aload_n hxx hbb fd_Q_clear_45 rfl (lv_at hl 0 rfl) ?_
        refine lv_iconst (v := 0) hxx hbb fd_Q_clear_46 (by decide) ?_
        refine fp_Q_size hC hQ fd_Q_clear_47 (fun H locs hQ => ?_)
        refine lv_aload_n hxx hbb fd_Q_clear_50 rfl (lv_at hl 0 rfl) ?_
        refine lv_iconst (v := 0) hxx hbb fd_Q_clear_51 (by decide) ?_
        refine fp_Q_floor hC hQ fd_Q_clear_52 (fun H locs hQ => ?_)
        refine hret _ _ _ _ _ fd_Q_clear_55 hQ ⟨⟨L1, fq_clr_e hq hA.2.1⟩, fun i hi => ?_, fun r h1 h2 => ?_, fun j h3 h4 => ?_⟩
        · have h9 := hd i hi; simp [fq_us, h9]
        · have r12 : r ≠ 12 := by omega
          rw [← hfr r h1 h2]; simp [fq_us, r12]
        · rw [← h12]; simp [fq_us, upd, h3, h4]
      · have h40 := hA.2.1
        have hkN : k < N := Nat.not_le.mp (fun q => c7 (nI_le q (by omega)))
        have e0 : fq_row a 0 (fq_fill (a 0) k (-1)) 0 k = a 0 k := by simp [fq_row, fq_fill]
        have e8 : fq_row a 0 (fq_fill (a 0) k (-1)) 8 = a 8 := by simp [fq_row]
        have hwk := hq.2.2.1 k hkN
        rw [e0, e8] at hwk
        refine lv_aload_n hxx hbb fd_Q_clear_10 rfl (lv_at hl 0 rfl) ?_
        refine fg_Q_where hC hQ fd_Q_clear_11 ?_
        refine lv_iload_n hxx hbb fd_Q_clear_14 rfl (lv_at hl 1 rfl) ?_
        refine fr_Q_where hC hQ k rfl (by omega) fd_Q_clear_15 (v := g1 5 k) rfl ?_
        refine lv_iconst (v := (-1)) hxx hbb fd_Q_clear_16 (by decide) ?_
        refine lv_icmp_eq (tgt := 25) hxx hbb fd_Q_clear_17 (by decide) (fun c17 => ?_) (fun c17 => ?_)
        · have h0 : a 0 k = -1 := by
            apply Classical.byContradiction; intro q; rw [if_neg q, c17] at hwk; have h9 := fq_dk_31 (a 0 k) (a 8 3); exact fq_nI_ne (by omega) hwk.symm
          have hq2 := fq_clr_1 hq h0
          have geo : ∀ r, 6 ≤ r → g1 r = g1 r := fun _ _ => rfl
          have ge10 : g1 10 = g1 10 := rfl
          have ge11 : g1 11 = g1 11 := rfl
          have hd2 : ∀ i, i < k + 1 → fq_us (fq_us g1 10 k (-1)) 11 k (-1) 10 i = -1 ∧ fq_us (fq_us g1 10 k (-1)) 11 k (-1) 11 i = -1 := by
            intro i hi
            by_cases c : i = k
            · subst c; simp [fq_us, upd]
            · have h9 := hd i (by omega); rw [← ge10] at h9; rw [← ge11] at h9; simp [fq_us, upd, c, h9]
          have hfr2 : ∀ r, 6 ≤ r → r < 10 → fq_us (fq_us g1 10 k (-1)) 11 k (-1) r = g r := by
            intro r h1 h2
            have r10 : r ≠ 10 := by omega
            have r11 : r ≠ 11 := by omega
            rw [← hfr r h1 h2, ← geo r h1]
            simp [fq_us, r10, r11]
          have h122 : fq_us (fq_us g1 10 k (-1)) 11 k (-1) 12 = g 12 := by rw [← h12, ← geo 12 (by omega)]; simp [fq_us]
          refine lv_aload_n hxx hbb fd_Q_clear_25 rfl (lv_at hl 0 rfl) ?_
          refine fg_Q_distances hC hQ fd_Q_clear_26 ?_
          refine lv_iload_n hxx hbb fd_Q_clear_29 rfl (lv_at hl 1 rfl) ?_
          refine lv_iconst (v := (-1)) hxx hbb fd_Q_clear_30 (by decide) ?_
          refine fs_Q_distances hC hQ k rfl (by omega) fd_Q_clear_31 (fun H locs hQ => ?_)
          refine lv_aload_n hxx hbb fd_Q_clear_32 rfl (lv_at hl 0 rfl) ?_
          refine fg_Q_parents hC hQ fd_Q_clear_33 ?_
          refine lv_iload_n hxx hbb fd_Q_clear_36 rfl (lv_at hl 1 rfl) ?_
          refine lv_iconst (v := (-1)) hxx hbb fd_Q_clear_37 (by decide) ?_
          refine fs_Q_parents hC hQ k rfl (by omega) fd_Q_clear_38 (fun H locs hQ => ?_)
          refine lv_iinc (v := nI (k + 1)) (lv' := [(1, .int (nI (k + 1))), (0, .ref (o 0))]) hxx hbb fd_Q_clear_39 hl (k := 1) rfl (fq_inc k) (by decide) rfl (fun ls hl => ?_)
          refine lv_goto (tgt := 2) hxx hbb fd_Q_clear_42 (by decide) ?_
          exact ih2 (k + 1) _ _ (by omega) (by omega) hq2 hd2 hfr2 h122 _ _ _ hQ (lv_sub hl [1, 0] rfl)
        · have h0 : a 0 k ≠ -1 := fun q => c17 (by rw [hwk, if_pos q])
          rw [if_neg h0] at hwk
          have hm1 : k ∈ L1 (fq_dk (a 0 k) (a 8 3)) := by have h9 := (hq.2.2.2.1 k hkN (by rw [e0]; exact h0)).2; rw [e0, e8] at h9; exact h9
          obtain ⟨L2, hq2⟩ := fq_clr_2 hq h40 hkN h0
          have geo : ∀ r, 6 ≤ r → fq_unlinkF g1 k (fq_dk (a 0 k) (a 8 3)) r = g1 r := fun r hr => fq_unlink_o _ _ _ hr
          have ge10 := geo 10 (by omega)
          have ge11 := geo 11 (by omega)
          have hd2 : ∀ i, i < k + 1 → fq_us (fq_us (fq_unlinkF g1 k (fq_dk (a 0 k) (a 8 3))) 10 k (-1)) 11 k (-1) 10 i = -1 ∧ fq_us (fq_us (fq_unlinkF g1 k (fq_dk (a 0 k) (a 8 3))) 10 k (-1)) 11 k (-1) 11 i = -1 := by
            intro i hi
            by_cases c : i = k
            · subst c; simp [fq_us, upd]
            · have h9 := hd i (by omega); rw [← ge10] at h9; rw [← ge11] at h9; simp [fq_us, upd, c, h9]
          have hfr2 : ∀ r, 6 ≤ r → r < 10 → fq_us (fq_us (fq_unlinkF g1 k (fq_dk (a 0 k) (a 8 3))) 10 k (-1)) 11 k (-1) r = g r := by
            intro r h1 h2
            have r10 : r ≠ 10 := by omega
            have r11 : r ≠ 11 := by omega
            rw [← hfr r h1 h2, ← geo r h1]
            simp [fq_us, r10, r11]
          have h122 : fq_us (fq_us (fq_unlinkF g1 k (fq_dk (a 0 k) (a 8 3))) 10 k (-1)) 11 k (-1) 12 = g 12 := by rw [← h12, ← geo 12 (by omega)]; simp [fq_us]
          refine lv_aload_n hxx hbb fd_Q_clear_20 rfl (lv_at hl 0 rfl) ?_
          refine lv_iload_n hxx hbb fd_Q_clear_21 rfl (lv_at hl 1 rfl) ?_
          refine fq_callV hC (fc_Q_unlink l V o mo g1 k (fq_dk (a 0 k) (a 8 3)) (by omega) (fq_dk_31 _ _) hwk (fq_LS_nb h40 hq.2.1 (fq_dk_31 _ _) hm1).1 (fq_LS_nb h40 hq.2.1 (fq_dk_31 _ _) hm1).2) fw_Q_91 ⟨Nat.le_of_ble_eq_true rfl, Nat.le_of_ble_eq_true rfl⟩ rfl rfl rfl hQ rfl hl.1 (rest := []) rfl (Nat.le_of_ble_eq_true rfl) fd_Q_clear_22 ⟨Nat.le_refl _, Nat.le_refl _⟩ (fun u22 H locs hp22 hQ => ?_)
          subst hp22
          refine lv_aload_n hxx hbb fd_Q_clear_25 rfl (lv_at hl 0 rfl) ?_
          refine fg_Q_distances hC hQ fd_Q_clear_26 ?_
          refine lv_iload_n hxx hbb fd_Q_clear_29 rfl (lv_at hl 1 rfl) ?_
          refine lv_iconst (v := (-1)) hxx hbb fd_Q_clear_30 (by decide) ?_
          refine fs_Q_distances hC hQ k rfl (by omega) fd_Q_clear_31 (fun H locs hQ => ?_)
          refine lv_aload_n hxx hbb fd_Q_clear_32 rfl (lv_at hl 0 rfl) ?_
          refine fg_Q_parents hC hQ fd_Q_clear_33 ?_
          refine lv_iload_n hxx hbb fd_Q_clear_36 rfl (lv_at hl 1 rfl) ?_
          refine lv_iconst (v := (-1)) hxx hbb fd_Q_clear_37 (by decide) ?_
          refine fs_Q_parents hC hQ k rfl (by omega) fd_Q_clear_38 (fun H locs hQ => ?_)
          refine lv_iinc (v := nI (k + 1)) (lv' := [(1, .int (nI (k + 1))), (0, .ref (o 0))]) hxx hbb fd_Q_clear_39 hl (k := 1) rfl (fq_inc k) (by decide) rfl (fun ls hl => ?_)
          refine lv_goto (tgt := 2) hxx hbb fd_Q_clear_42 (by decide) ?_
          exact ih2 (k + 1) _ _ (by omega) (by omega) hq2 hd2 hfr2 h122 _ _ _ hQ (lv_sub hl [1, 0] rfl)
  exact loop2 (N + 1) 0 g L (Nat.zero_le _) (by omega) (by rw [fq_fill_0, fq_row_self]; exact fq_QB0_of hB) (fun i hi => absurd hi (Nat.not_lt_zero _)) (fun _ _ _ => rfl) rfl _ _ _ hQ (lv_sub hl [1, 0] rfl)
set_option maxHeartbeats 4000000 in
set_option maxRecDepth 100000 in
theorem fc_Q_follow (l : Launch) (V : fq_V) (o : Nat → Nat) (mo : Nat) (g : fq_G) (a : fq_G) (N C P M E : Nat) (L : Nat → List Nat) (hR : fq_RI g a N E L) (hA : fq_AB a N C P) (hG : fq_AG a N M E) (hRA : fq_RA a N) (hmM : mo = M) (u j : Nat) (hu : u < N) (htk : a 6 u ≠ 0) (hj : j < E) : fq_MV l V y_Q_follow b_Q_follow 6 4 [.ref (o 0), .int (nI u), .int (nI j)] (fq_WQ V o mo) g (fun w => ∃ L', fq_RI w (fq_reachF a N u (a 2 j).toNatClampNeg (a 3 j)) N E L' ∧ ∀ i, (i < 3 ∨ 7 ≤ i) → w 12 i = g 12 i) := by
  refine fq_MV_of (lv := [(0, .ref (o 0)), (1, .int (nI u)), (2, .int (nI j))]) (by decide) (Nat.le_of_ble_eq_true rfl) rfl ?_
  intro p e s m args below meth c A Q hC hret ls hl hQ
  have hxx := hC.1
  have hbb := hC.2.1
  obtain ⟨v, hv, ev⟩ := (hG.2.2.2.2.2 j hj).2.1
  have h40 := hA.2.1
  have hm3 := hG.2.1
  have hm4 := hG.2.2.1
  have hmo : mo ≤ 300 := by omega
  have ev2 : (a 2 j).toNatClampNeg = v := by rw [ev, nI_clamp (by omega)]
  rw [ev2] at hret
  have hQj := hR.2.1.2.2.2.2 j hj
  have hdv := fq_dist_m1 (hR.2.2 v hv).1 hRA hv
  have hwv := fq_QB_there hR.1 hv
  obtain ⟨sm, esm⟩ : ∃ z, z = a 4 u + a 3 j := ⟨_, rfl⟩
  refine lv_aload_n hxx hbb fd_Q_follow_0 rfl (lv_at hl 0 rfl) ?_
  refine fg_Q_arcTo hC hQ fd_Q_follow_1 ?_
  refine lv_iload_n hxx hbb fd_Q_follow_4 rfl (lv_at hl 2 rfl) ?_
  refine fr_Q_arcTo hC hQ hmo j rfl (by omega) fd_Q_follow_5 (v := nI v) (hQj.2.1.trans ev) ?_
  refine lv_istore_n (lv' := [(3, .int (nI v)), (0, .ref (o 0)), (1, .int (nI u)), (2, .int (nI j))]) hxx hbb fd_Q_follow_6 rfl hl (by decide) rfl (fun ls hl => ?_)
  refine lv_aload_n hxx hbb fd_Q_follow_7 rfl (lv_at hl 1 rfl) ?_
  refine fg_Q_distances hC hQ fd_Q_follow_8 ?_
  refine lv_iload_n hxx hbb fd_Q_follow_11 rfl (lv_at hl 2 rfl) ?_
  refine fr_Q_distances hC hQ u rfl (by omega) fd_Q_follow_12 (v := a 4 u) ((hR.2.2 u hu).1.trans (if_neg htk)) ?_
  refine lv_aload_n hxx hbb fd_Q_follow_13 rfl (lv_at hl 1 rfl) ?_
  refine fg_Q_lengths hC hQ fd_Q_follow_14 ?_
  refine lv_iload_n hxx hbb fd_Q_follow_17 rfl (lv_at hl 3 rfl) ?_
  refine fr_Q_lengths hC hQ hmo j rfl (by omega) fd_Q_follow_18 (v := a 3 j) hQj.2.2 ?_
  refine lv_iadd hxx hbb fd_Q_follow_19 ?_
  refine fq_top (y := sm) esm.symm ?_
  refine lv_istore (lv' := [(4, .int sm), (3, .int (nI v)), (0, .ref (o 0)), (1, .int (nI u)), (2, .int (nI j))]) hxx hbb fd_Q_follow_20 hl (by decide) rfl (fun ls hl => ?_)
  refine lv_iload hxx hbb fd_Q_follow_22 (lv_at hl 0 rfl) ?_
  refine lv_if_lt (tgt := 66) hxx hbb fd_Q_follow_24 (by decide) (fun c24 => ?_) (fun c24 => ?_)
  · refine lv_iload hxx hbb fd_Q_follow_66 (lv_at hl 0 rfl) ?_
    refine lv_if_lt (tgt := 108) hxx hbb fd_Q_follow_68 (by decide) (fun c68 => ?_) (fun c68 => ?_)
    · exact hret _ _ _ _ _ fd_Q_follow_108 hQ ⟨L, by rw [(fq_rf_0 (Or.inr (by rw [← esm]; exact c24)))]; exact hR, fun _ _ => rfl⟩
    · exact absurd c24 c68
  · refine lv_aload_n hxx hbb fd_Q_follow_27 rfl (lv_at hl 2 rfl) ?_
    refine fg_Q_distances hC hQ fd_Q_follow_28 ?_
    refine lv_iload_n hxx hbb fd_Q_follow_31 rfl (lv_at hl 1 rfl) ?_
    refine fr_Q_distances hC hQ v rfl (by omega) fd_Q_follow_32 (v := g 10 v) rfl ?_
    refine lv_iconst (v := (-1)) hxx hbb fd_Q_follow_33 (by decide) ?_
    refine lv_icmp_ne (tgt := 66) hxx hbb fd_Q_follow_34 (by decide) (fun c34 => ?_) (fun c34 => ?_)
    · refine lv_iload hxx hbb fd_Q_follow_66 (lv_at hl 0 rfl) ?_
      refine lv_if_lt (tgt := 108) hxx hbb fd_Q_follow_68 (by decide) (fun c68 => ?_) (fun c68 => ?_)
      · exact absurd c68 c24
      · refine lv_aload_n hxx hbb fd_Q_follow_71 rfl (lv_at hl 2 rfl) ?_
        refine fg_Q_where hC hQ fd_Q_follow_72 ?_
        refine lv_iload_n hxx hbb fd_Q_follow_75 rfl (lv_at hl 1 rfl) ?_
        refine fr_Q_where hC hQ v rfl (by omega) fd_Q_follow_76 (v := g 5 v) rfl ?_
        refine lv_iconst (v := (-1)) hxx hbb fd_Q_follow_77 (by decide) ?_
        refine lv_icmp_eq (tgt := 108) hxx hbb fd_Q_follow_78 (by decide) (fun c78 => ?_) (fun c78 => ?_)
        · exact hret _ _ _ _ _ fd_Q_follow_108 hQ ⟨L, by rw [(fq_rf_0 (Or.inl (fun q => c34 (hdv.mpr q))))]; exact hR, fun _ _ => rfl⟩
        · exact absurd (hwv.mpr ((hRA v hv).1 (fun q => c34 (hdv.mpr q))).1) c78
    · refine lv_aload_n hxx hbb fd_Q_follow_37 rfl (lv_at hl 2 rfl) ?_
      refine fg_Q_where hC hQ fd_Q_follow_38 ?_
      refine lv_iload_n hxx hbb fd_Q_follow_41 rfl (lv_at hl 1 rfl) ?_
      refine fr_Q_where hC hQ v rfl (by omega) fd_Q_follow_42 (v := g 5 v) rfl ?_
      refine lv_iconst (v := (-1)) hxx hbb fd_Q_follow_43 (by decide) ?_
      refine lv_icmp_ne (tgt := 66) hxx hbb fd_Q_follow_44 (by decide) (fun c44 => ?_) (fun c44 => ?_)
      · refine lv_iload hxx hbb fd_Q_follow_66 (lv_at hl 0 rfl) ?_
        refine lv_if_lt (tgt := 108) hxx hbb fd_Q_follow_68 (by decide) (fun c68 => ?_) (fun c68 => ?_)
        · exact absurd c68 c24
        · refine lv_aload_n hxx hbb fd_Q_follow_71 rfl (lv_at hl 2 rfl) ?_
          refine fg_Q_where hC hQ fd_Q_follow_72 ?_
          refine lv_iload_n hxx hbb fd_Q_follow_75 rfl (lv_at hl 1 rfl) ?_
          refine fr_Q_where hC hQ v rfl (by omega) fd_Q_follow_76 (v := g 5 v) rfl ?_
          refine lv_iconst (v := (-1)) hxx hbb fd_Q_follow_77 (by decide) ?_
          refine lv_icmp_eq (tgt := 108) hxx hbb fd_Q_follow_78 (by decide) (fun c78 => ?_) (fun c78 => ?_)
          · exact absurd c78 c44
          · have h0 : a 0 v ≠ -1 := fun q => c44 (hwv.mpr q)
            refine lv_iload hxx hbb fd_Q_follow_81 (lv_at hl 0 rfl) ?_
            refine lv_aload_n hxx hbb fd_Q_follow_83 rfl (lv_at hl 2 rfl) ?_
            refine fg_Q_keys hC hQ fd_Q_follow_84 ?_
            refine lv_iload_n hxx hbb fd_Q_follow_87 rfl (lv_at hl 1 rfl) ?_
            refine fr_Q_keys hC hQ v rfl (by omega) fd_Q_follow_88 (v := a 0 v) (hR.1.2.2.2.1 v hv h0).1 ?_
            refine lv_icmp_ge (tgt := 108) hxx hbb fd_Q_follow_89 (by decide) (fun c89 => ?_) (fun c89 => ?_)
            · exact hret _ _ _ _ _ fd_Q_follow_108 hQ ⟨L, by rw [(fq_rf_3 h0 (by rw [← esm]; exact Int32.not_lt.mpr c89))]; exact hR, fun _ _ => rfl⟩
            · refine lv_aload_n hxx hbb fd_Q_follow_92 rfl (lv_at hl 2 rfl) ?_
              refine lv_iload_n hxx hbb fd_Q_follow_93 rfl (lv_at hl 1 rfl) ?_
              refine lv_iload hxx hbb fd_Q_follow_94 (lv_at hl 0 rfl) ?_
              refine fq_callI hC (fc_Q_lower l V o mo g a N C P L hR.1 hA (nI v) sm) fw_Q_112 ⟨Nat.le_of_ble_eq_true rfl, Nat.le_of_ble_eq_true rfl⟩ rfl rfl rfl hQ rfl hl.1 (rest := []) rfl (Nat.le_of_ble_eq_true rfl) fd_Q_follow_96 ⟨Nat.le_refl _, Nat.le_refl _⟩ (fun r96 u96 H locs hp96 hQ => ?_)
              obtain ⟨⟨L2, hB2⟩, hF2, -⟩ := hp96
              refine lv_istore (lv' := [(5, .int r96), (4, .int sm), (3, .int (nI v)), (0, .ref (o 0)), (1, .int (nI u)), (2, .int (nI j))]) hxx hbb fd_Q_follow_99 hl (by decide) rfl (fun ls hl => ?_)
              refine lv_aload_n hxx hbb fd_Q_follow_101 rfl (lv_at hl 3 rfl) ?_
              refine fg_Q_parents hC hQ fd_Q_follow_102 ?_
              refine lv_iload_n hxx hbb fd_Q_follow_105 rfl (lv_at hl 2 rfl) ?_
              refine lv_iload_n hxx hbb fd_Q_follow_106 rfl (lv_at hl 4 rfl) ?_
              refine fs_Q_parents hC hQ v rfl (by omega) fd_Q_follow_107 (fun H locs hQ => ?_)
              exact hret _ _ _ _ _ fd_Q_follow_108 hQ (by rw [fq_rf_2 (hdv.mp c34) (by rw [← esm]; exact c24) h0 (by rw [← esm]; exact Int32.not_le.mp c89), ← esm]; exact ⟨L2, fq_RI_put hR hB2 hF2 (fq_lowerF_fr a N (nI v) sm).1 (fq_lowerF_fr a N (nI v) sm).2, fun i hi => by rw [← hF2.2 i hi]; simp [fq_us]⟩)
      · refine lv_aload_n hxx hbb fd_Q_follow_47 rfl (lv_at hl 2 rfl) ?_
        refine lv_iload_n hxx hbb fd_Q_follow_48 rfl (lv_at hl 1 rfl) ?_
        refine lv_iload hxx hbb fd_Q_follow_49 (lv_at hl 0 rfl) ?_
        refine fq_callI hC (fc_Q_push l V o mo g a N C P L hR.1 hA (nI v) sm) fw_Q_108 ⟨Nat.le_of_ble_eq_true rfl, Nat.le_of_ble_eq_true rfl⟩ rfl rfl rfl hQ rfl hl.1 (rest := []) rfl (Nat.le_of_ble_eq_true rfl) fd_Q_follow_51 ⟨Nat.le_refl _, Nat.le_refl _⟩ (fun r51 u51 H locs hp51 hQ => ?_)
        obtain ⟨⟨L2, hB2⟩, hF2, -⟩ := hp51
        refine lv_istore (lv' := [(5, .int r51), (4, .int sm), (3, .int (nI v)), (0, .ref (o 0)), (1, .int (nI u)), (2, .int (nI j))]) hxx hbb fd_Q_follow_54 hl (by decide) rfl (fun ls hl => ?_)
        refine lv_aload_n hxx hbb fd_Q_follow_56 rfl (lv_at hl 3 rfl) ?_
        refine fg_Q_parents hC hQ fd_Q_follow_57 ?_
        refine lv_iload_n hxx hbb fd_Q_follow_60 rfl (lv_at hl 2 rfl) ?_
        refine lv_iload_n hxx hbb fd_Q_follow_61 rfl (lv_at hl 4 rfl) ?_
        refine fs_Q_parents hC hQ v rfl (by omega) fd_Q_follow_62 (fun H locs hQ => ?_)
        refine lv_goto (tgt := 108) hxx hbb fd_Q_follow_63 (by decide) ?_
        exact hret _ _ _ _ _ fd_Q_follow_108 hQ (by rw [fq_rf_1 (hdv.mp c34) (by rw [← esm]; exact c24) (hwv.mp c44), ← esm]; exact ⟨L2, fq_RI_put hR hB2 hF2 (fq_pushF_fr a N (nI v) sm).1 (fq_pushF_fr a N (nI v) sm).2, fun i hi => by rw [← hF2.2 i hi]; simp [fq_us]⟩)
set_option maxHeartbeats 4000000 in
set_option maxRecDepth 100000 in
theorem fc_Q_isOver (l : Launch) (V : fq_V) (o : Nat → Nat) (mo : Nat) (g : fq_G) (a : fq_G) (N M E : Nat) (hN : g 12 0 = nI N) (h40 : N ≤ 40) (hQA : fq_QA g a N E) (hG : fq_AG a N M E) (hD : ∀ k, k < N → g 10 k = (if a 6 k = 0 then -1 else a 4 k)) (hRA : fq_RA a N) (hmM : mo = M) : fq_MI l V y_Q_isOver b_Q_isOver 4 .boolean 0 [.ref (o 0)] (fq_WQ V o mo) g (fun r u => u = g ∧ ((r = 1 ∧ ¬ fq_cnt (fq_ov a) E = 0) ∨ (r = 0 ∧ fq_cnt (fq_ov a) E = 0))) := by
  refine fq_MI_of (lv := [(0, .ref (o 0))]) (by decide) (Nat.le_of_ble_eq_true rfl) rfl ?_
  intro p e s m args below meth c A Q hC hret ls hl hQ
  have hxx := hC.1
  have hbb := hC.2.1
  have hm3 := hG.2.1
  have hm4 := hG.2.2.1
  have hmo : mo ≤ 300 := by omega
  have hGi : ∀ j, j < E → ∃ u, u < N ∧ a 1 j = nI u := fun j hj => (hG.2.2.2.2.2 j hj).1
  refine lv_iconst (v := 0) hxx hbb fd_Q_isOver_0 (by decide) ?_
  refine lv_istore_n (lv' := [(1, .int 0), (0, .ref (o 0))]) hxx hbb fd_Q_isOver_1 rfl hl (by decide) rfl (fun ls hl => ?_)
  refine lv_iconst (v := (nI 0)) hxx hbb fd_Q_isOver_2 (by decide) ?_
  refine lv_istore_n (lv' := [(2, .int (nI 0)), (1, .int 0), (0, .ref (o 0))]) hxx hbb fd_Q_isOver_3 rfl hl (by decide) rfl (fun ls hl => ?_)
  have loop4 : ∀ (n : Nat) (i : Nat) (x : Int32), i ≤ N → N < i + n → fq_OS a E i E x → ∀ (H : Heap) (locs : List Loc) (ls : Array Slot), fq_Hp V A s.heap (fq_WQ V o mo g) H locs → lv_has ls 4 [(0, .ref (o 0)), (1, .int x), (2, .int (nI i))] → W p l e (fq_Rm 0) s m args below meth c H locs 0 0 Q (F0 m 4 ls []) := by
    intro n
    induction n with
    | zero =>
      intro i x hi hn hos
      omega
    | succ n ih4 =>
      intro i x hi hn hos H locs ls hQ hl
      refine lv_iload_n hxx hbb fd_Q_isOver_4 rfl (lv_at hl 2 rfl) ?_
      refine lv_aload_n hxx hbb fd_Q_isOver_5 rfl (lv_at hl 0 rfl) ?_
      refine fg_Q_n hC hQ fd_Q_isOver_6 (v := nI N) hN ?_
      refine lv_icmp_ge (tgt := 73) hxx hbb fd_Q_isOver_9 (by decide) (fun c9 => ?_) (fun c9 => ?_)
      · refine lv_iload_n hxx hbb fd_Q_isOver_73 rfl (lv_at hl 1 rfl) ?_
        have hiN : i = N := by have h9 := (nI_leI (by omega) (by omega)).mp c9; omega
        subst hiN
        rcases fq_OS_end h40 hGi hos with ⟨hr, hj⟩ | ⟨hr, hj⟩
        · refine fq_top hr ?_
          exact hret _ _ _ _ _ _ fd_Q_isOver_74 hQ ⟨rfl, Or.inl ⟨rfl, hj⟩⟩ rfl
        · refine fq_top hr ?_
          exact hret _ _ _ _ _ _ fd_Q_isOver_74 hQ ⟨rfl, Or.inr ⟨rfl, hj⟩⟩ rfl
      · have hiN : i < N := Nat.not_le.mp (fun q => c9 (nI_le q (by omega)))
        refine lv_aload_n hxx hbb fd_Q_isOver_12 rfl (lv_at hl 0 rfl) ?_
        refine fg_Q_heads hC hQ fd_Q_isOver_13 ?_
        refine lv_iload_n hxx hbb fd_Q_isOver_16 rfl (lv_at hl 2 rfl) ?_
        refine fr_Q_heads hC hQ i rfl (by omega) fd_Q_isOver_17 (v := fq_pv (a 1) (nI i) E) (hQA.2.2.2.1 i hiN) ?_
        refine lv_istore_n (lv' := [(3, .int (fq_pv (a 1) (nI i) E)), (0, .ref (o 0)), (1, .int x), (2, .int (nI i))]) hxx hbb fd_Q_isOver_18 rfl hl (by decide) rfl (fun ls hl => ?_)
        have loop19 : ∀ (n : Nat) (t : Nat) (z : Int32), t ≤ E → t < n → fq_OS a E i t z → ∀ (H : Heap) (locs : List Loc) (ls : Array Slot), fq_Hp V A s.heap (fq_WQ V o mo g) H locs → lv_has ls 4 [(0, .ref (o 0)), (1, .int z), (2, .int (nI i)), (3, .int (fq_pv (a 1) (nI i) t))] → W p l e (fq_Rm 0) s m args below meth c H locs 0 0 Q (F0 m 19 ls []) := by
          intro n
          induction n with
          | zero =>
            intro t z htE htn hosz
            omega
          | succ n ih19 =>
            intro t z htE htn hosz H locs ls hQ hl
            refine lv_iload_n hxx hbb fd_Q_isOver_19 rfl (lv_at hl 3 rfl) ?_
            refine lv_iconst (v := (-1)) hxx hbb fd_Q_isOver_20 (by decide) ?_
            refine lv_icmp_eq (tgt := 67) hxx hbb fd_Q_isOver_21 (by decide) (fun c21 => ?_) (fun c21 => ?_)
            · have hnone : ∀ j, j < t → a 1 j ≠ nI i := by rcases fq_pv_cases (a 1) (nI i) t with ⟨-, h9⟩ | ⟨j, h1, h2, -⟩; exact h9; exact absurd (h2.symm.trans c21) (fq_nI_ne (by omega))
              refine lv_iinc (v := nI (i + 1)) (lv' := [(2, .int (nI (i + 1))), (0, .ref (o 0)), (1, .int z), (3, .int (fq_pv (a 1) (nI i) t))]) hxx hbb fd_Q_isOver_67 hl (k := 2) rfl (fq_inc i) (by decide) rfl (fun ls hl => ?_)
              refine lv_goto (tgt := 4) hxx hbb fd_Q_isOver_70 (by decide) ?_
              exact ih4 (i + 1) z (by omega) (by omega) (fq_OS_next (by omega) h40 hGi hosz hnone) _ _ _ hQ (lv_sub hl [1, 2, 0] rfl)
            · obtain ⟨j, hjt, ej, hji, hbt⟩ : ∃ j, j < t ∧ fq_pv (a 1) (nI i) t = nI j ∧ a 1 j = nI i ∧ ∀ k, j < k → k < t → a 1 k ≠ nI i := by rcases fq_pv_cases (a 1) (nI i) t with ⟨h9, -⟩ | h9; exact absurd h9 c21; exact h9
              obtain ⟨v, hv, ev⟩ := (hG.2.2.2.2.2 j (by omega)).2.1
              have hQj := hQA.2.2.2.2 j (by omega)
              have hdi := fq_dist_m1 (hD i hiN) hRA hiN
              have hdv := fq_dist_m1 (hD v hv) hRA hv
              refine lv_iload_n hxx hbb fd_Q_isOver_24 rfl (lv_at hl 1 rfl) ?_
              refine lv_aload_n hxx hbb fd_Q_isOver_25 rfl (lv_at hl 0 rfl) ?_
              refine fg_Q_distances hC hQ fd_Q_isOver_26 ?_
              refine lv_iload_n hxx hbb fd_Q_isOver_29 rfl (lv_at hl 2 rfl) ?_
              refine fr_Q_distances hC hQ i rfl (by omega) fd_Q_isOver_30 (v := g 10 i) rfl ?_
              refine lv_iconst (v := (-1)) hxx hbb fd_Q_isOver_31 (by decide) ?_
              refine lv_icmp_eq (tgt := 54) hxx hbb fd_Q_isOver_32 (by decide) (fun c32 => ?_) (fun c32 => ?_)
              · have hov := fq_ov_f hji (by omega) (hdi.mp c32)
                refine lv_iconst (v := 0) hxx hbb fd_Q_isOver_54 (by decide) ?_
                refine lv_ior hxx hbb fd_Q_isOver_55 ?_
                refine fq_top (y := z) (Int32.or_zero) ?_
                refine lv_istore_n (lv' := [(1, .int z), (0, .ref (o 0)), (2, .int (nI i)), (3, .int (fq_pv (a 1) (nI i) t))]) hxx hbb fd_Q_isOver_56 rfl hl (by decide) rfl (fun ls hl => ?_)
                refine lv_aload_n hxx hbb fd_Q_isOver_57 rfl (lv_at hl 1 rfl) ?_
                refine fg_Q_arcNext hC hQ fd_Q_isOver_58 ?_
                refine lv_iload_n hxx hbb fd_Q_isOver_61 rfl (lv_at hl 3 rfl) ?_
                refine fr_Q_arcNext hC hQ hmo j ej (by omega) fd_Q_isOver_62 (v := fq_pv (a 1) (nI i) j) (hQj.1.trans (by rw [hji])) ?_
                refine lv_istore_n (lv' := [(3, .int (fq_pv (a 1) (nI i) j)), (1, .int z), (0, .ref (o 0)), (2, .int (nI i))]) hxx hbb fd_Q_isOver_63 rfl hl (by decide) rfl (fun ls hl => ?_)
                refine lv_goto (tgt := 19) hxx hbb fd_Q_isOver_64 (by decide) ?_
                exact ih19 j z (by omega) (by omega) (fq_OS_back (by omega) hji hbt (fun k hk => by obtain ⟨u9, hu9, eu9⟩ := hGi k hk; exact ⟨u9, by omega, eu9⟩) hosz (Or.inl ⟨rfl, hov⟩)) _ _ _ hQ (lv_sub hl [2, 1, 3, 0] rfl)
              · refine lv_aload_n hxx hbb fd_Q_isOver_35 rfl (lv_at hl 0 rfl) ?_
                refine fg_Q_distances hC hQ fd_Q_isOver_36 ?_
                refine lv_aload_n hxx hbb fd_Q_isOver_39 rfl (lv_at hl 0 rfl) ?_
                refine fg_Q_arcTo hC hQ fd_Q_isOver_40 ?_
                refine lv_iload_n hxx hbb fd_Q_isOver_43 rfl (lv_at hl 3 rfl) ?_
                refine fr_Q_arcTo hC hQ hmo j ej (by omega) fd_Q_isOver_44 (v := nI v) (hQj.2.1.trans ev) ?_
                refine fr_Q_distances hC hQ v rfl (by omega) fd_Q_isOver_45 (v := g 10 v) rfl ?_
                refine lv_iconst (v := (-1)) hxx hbb fd_Q_isOver_46 (by decide) ?_
                refine lv_icmp_ne (tgt := 54) hxx hbb fd_Q_isOver_47 (by decide) (fun c47 => ?_) (fun c47 => ?_)
                · have hov := fq_ov_f2 ev (by omega) (fun q => c47 (hdv.mpr q))
                  refine lv_iconst (v := 0) hxx hbb fd_Q_isOver_54 (by decide) ?_
                  refine lv_ior hxx hbb fd_Q_isOver_55 ?_
                  refine fq_top (y := z) (Int32.or_zero) ?_
                  refine lv_istore_n (lv' := [(1, .int z), (0, .ref (o 0)), (2, .int (nI i)), (3, .int (fq_pv (a 1) (nI i) t))]) hxx hbb fd_Q_isOver_56 rfl hl (by decide) rfl (fun ls hl => ?_)
                  refine lv_aload_n hxx hbb fd_Q_isOver_57 rfl (lv_at hl 1 rfl) ?_
                  refine fg_Q_arcNext hC hQ fd_Q_isOver_58 ?_
                  refine lv_iload_n hxx hbb fd_Q_isOver_61 rfl (lv_at hl 3 rfl) ?_
                  refine fr_Q_arcNext hC hQ hmo j ej (by omega) fd_Q_isOver_62 (v := fq_pv (a 1) (nI i) j) (hQj.1.trans (by rw [hji])) ?_
                  refine lv_istore_n (lv' := [(3, .int (fq_pv (a 1) (nI i) j)), (1, .int z), (0, .ref (o 0)), (2, .int (nI i))]) hxx hbb fd_Q_isOver_63 rfl hl (by decide) rfl (fun ls hl => ?_)
                  refine lv_goto (tgt := 19) hxx hbb fd_Q_isOver_64 (by decide) ?_
                  exact ih19 j z (by omega) (by omega) (fq_OS_back (by omega) hji hbt (fun k hk => by obtain ⟨u9, hu9, eu9⟩ := hGi k hk; exact ⟨u9, by omega, eu9⟩) hosz (Or.inl ⟨rfl, hov⟩)) _ _ _ hQ (lv_sub hl [2, 1, 3, 0] rfl)
                · have hov := fq_ov_t hji (by omega) (fun q => c32 (hdi.mpr q)) ev (by omega) (hdv.mp c47)
                  refine lv_iconst (v := 1) hxx hbb fd_Q_isOver_50 (by decide) ?_
                  refine lv_goto (tgt := 55) hxx hbb fd_Q_isOver_51 (by decide) ?_
                  refine lv_ior hxx hbb fd_Q_isOver_55 ?_
                  refine fq_top (y := 1) (fq_orb hosz) ?_
                  refine lv_istore_n (lv' := [(1, .int 1), (0, .ref (o 0)), (2, .int (nI i)), (3, .int (fq_pv (a 1) (nI i) t))]) hxx hbb fd_Q_isOver_56 rfl hl (by decide) rfl (fun ls hl => ?_)
                  refine lv_aload_n hxx hbb fd_Q_isOver_57 rfl (lv_at hl 1 rfl) ?_
                  refine fg_Q_arcNext hC hQ fd_Q_isOver_58 ?_
                  refine lv_iload_n hxx hbb fd_Q_isOver_61 rfl (lv_at hl 3 rfl) ?_
                  refine fr_Q_arcNext hC hQ hmo j ej (by omega) fd_Q_isOver_62 (v := fq_pv (a 1) (nI i) j) (hQj.1.trans (by rw [hji])) ?_
                  refine lv_istore_n (lv' := [(3, .int (fq_pv (a 1) (nI i) j)), (1, .int 1), (0, .ref (o 0)), (2, .int (nI i))]) hxx hbb fd_Q_isOver_63 rfl hl (by decide) rfl (fun ls hl => ?_)
                  refine lv_goto (tgt := 19) hxx hbb fd_Q_isOver_64 (by decide) ?_
                  exact ih19 j 1 (by omega) (by omega) (fq_OS_back (by omega) hji hbt (fun k hk => by obtain ⟨u9, hu9, eu9⟩ := hGi k hk; exact ⟨u9, by omega, eu9⟩) hosz (Or.inr ⟨rfl, by omega, hov⟩)) _ _ _ hQ (lv_sub hl [2, 1, 3, 0] rfl)
        exact loop19 (E + 1) E x (Nat.le_refl _) (by omega) hos _ _ _ hQ (lv_sub hl [1, 2, 3, 0] rfl)
  exact loop4 (N + 1) 0 0 (Nat.zero_le _) (by omega) (fq_OS_0 a E) _ _ _ hQ (lv_sub hl [2, 1, 0] rfl)
end
section
/-! pure rows: the queue's run -/
theorem fq_run0_QB {g a : fq_G} {N : Nat} {L : Nat → List Nat} (h : fq_QB g (fq_clrM a) N L) : fq_QB g (fq_run0 a) N L :=
  fq_QB_cg (fun _ _ => rfl) (fun _ _ _ => rfl) rfl (fun k _ => by rw [fq_run0_0, fq_clrM_0]) (fun j _ => by rw [fq_run0_8, fq_clrM_8]) h
theorem fq_run0_AB {a : fq_G} {N C P : Nat} (hA : fq_AB a N C P) : fq_AB (fq_run0 a) N C P := fq_AB_cg (by rw [fq_run0_0, fq_clrM_0]) (fun i _ => by rw [fq_run0_8, fq_clrM_8]) (fq_clrM_AB hA)
theorem fq_RI_run1 {g a u1 u2 : fq_G} {N C P E j : Nat} {L2 : Nat → List Nat} (hA : fq_AB a N C P) (hj : j < N) (hQA : fq_QA g a N E) (hd : ∀ k, k < N → u1 10 k = -1 ∧ u1 11 k = -1) (hfr : ∀ r, 6 ≤ r → r < 10 → u1 r = g r) (h12 : ∀ j, j ≠ 3 → j ≠ 4 → u1 12 j = g 12 j) (hB : fq_QB u2 (fq_run1 a N (nI j)) N L2) (hF : fq_FR u1 u2) : fq_RI u2 (fq_run1 a N (nI j)) N E L2 := by
  have h40 := hA.2.1
  have hpf := fq_pushF_fr (fq_run0 a) N (nI j) 0
  refine ⟨hB, fq_QA_cg (fun r h1 h2 => (hF.1 r h1 (by omega)).trans (hfr r h1 h2)) (fun i hi => (hF.2 i (by omega)).trans (h12 i (by omega) (by omega))) (fun r hr => ?_) (fun i hi => ?_) hQA, fun k hk => ?_⟩
  · rw [← fq_run0_o a (r := r) (by omega) (by omega) (by omega) (by omega)]
    exact hpf.1 r (by omega) (by omega)
  · have := hpf.2 i (by omega) (by omega)
    rw [fq_run0_8] at this
    have h3 : i ≠ 3 := by omega
    simp only [upd, if_neg h3] at this
    exact this
  · have e6 : fq_run1 a N (nI j) 6 k = 0 := by
      have := hpf.1 6 (by decide) (by decide)
      unfold fq_run1
      rw [this, fq_run0_6]
      unfold fq_fill
      rw [if_pos (by omega)]
    have e5 : fq_run1 a N (nI j) 5 k = -1 := by
      have := hpf.1 5 (by decide) (by decide)
      unfold fq_run1
      rw [this, fq_run0_5]
      unfold fq_fill
      rw [if_pos (by omega)]
    rw [e6, e5, hF.1 10 (by decide) (by decide), hF.1 11 (by decide) (by decide)]
    exact ⟨by rw [if_pos rfl]; exact (hd k hk).1, (hd k hk).2⟩
theorem fq_run_is {a : fq_G} {N E j : Nat} (h40 : N ≤ 40) (hj : j < N) : fq_runF a N E (nI j) = fq_us (fq_runT a N E (nI j)) 8 7 (fq_hasI (fq_runT a N E (nI j)) E) ∧ fq_runR a N E (nI j) = if fq_hasI (fq_runT a N E (nI j)) E = 0 then -2 else 0 := by
  have h := fq_itm_t h40 hj
  constructor
  · unfold fq_runF
    rw [if_neg (by simp [h])]
  · unfold fq_runR
    rw [if_neg (by simp [h])]
theorem fq_run_no {a : fq_G} {N E : Nat} {x : Int32} (h : ∀ j, j < N → x ≠ nI j) : fq_runF a N E x = a ∧ fq_runR a N E x = -1 := by
  have h := fq_itm_f h
  exact ⟨by unfold fq_runF; rw [if_pos h], by unfold fq_runR; rw [if_pos h]⟩
theorem fq_run_end {g b : fq_G} {N M E C P fr : Nat} {L : Nat → List Nat} {z : Int32} (hz : z = 0 ∨ z = 1) (hRI : fq_RI g b N E L) (hRP : fq_RP b N M E C P fr) (hc : fq_cnt (fq_th b) N = 0) : fq_QB (fq_us g 12 8 z) (fq_us b 8 7 z) N L ∧ fq_QA (fq_us g 12 8 z) (fq_us b 8 7 z) N E ∧ fq_QD (fq_us g 12 8 z) (fq_us b 8 7 z) N := by
  have e : ∀ r, r ≠ 12 → fq_us g 12 8 z r = g r := fun r hr => by simp [fq_us, hr]
  have e8 : ∀ r, r ≠ 8 → fq_us b 8 7 z r = b r := fun r hr => by simp [fq_us, hr]
  refine ⟨fq_QB_cg (fun r hr => e r (by omega)) (fun j h1 h2 => ?_) (by simp [fq_us, upd]) (fun k _ => by rw [e8 0 (by decide)]) (fun j hj => ?_) hRI.1, fq_QA_cg (fun r h1 h2 => e r (by omega)) (fun j hj => ?_) (fun r hr => e8 r (by omega)) (fun j hj => ?_) hRI.2.1, by simp [fq_us, upd], ?_, fun h1 k hk => ?_⟩
  · have : j ≠ 8 := by omega
    simp [fq_us, upd, this]
  · have : j ≠ 7 := by omega
    simp [fq_us, upd, this]
  · have : j ≠ 8 := by omega
    simp [fq_us, upd, this]
  · have : j ≠ 7 := by omega
    simp [fq_us, upd, this]
  · rcases hz with q | q
    · left
      simp [fq_us, upd, q]
    · right
      simp [fq_us, upd, q]
  · rw [e 10 (by decide), e 11 (by decide), e8 6 (by decide), e8 4 (by decide), e8 5 (by decide)]
    refine ⟨(hRI.2.2 k hk).1, ?_⟩
    rw [(hRI.2.2 k hk).2]
    by_cases c : b 6 k = 0
    · rw [if_pos c]
      apply Classical.byContradiction
      intro q
      rcases (hRP.2.2.1 k hk).2 q with q2 | q2
      · exact q2 c
      · have := fq_cnt_zero.mp hc k hk
        simp [fq_th, q2] at this
    · rw [if_neg c]
end
section
set_option maxHeartbeats 4000000 in
set_option maxRecDepth 100000 in
theorem fc_Q_run (l : Launch) (V : fq_V) (o : Nat → Nat) (mo : Nat) (g : fq_G) (a : fq_G) (N C P M E : Nat) (L : Nat → List Nat) (hB : fq_QB g a N L) (hQA : fq_QA g a N E) (hA : fq_AB a N C P) (hG : fq_AG a N M E) (hmM : mo = M) (x : Int32) : fq_MI l V y_Q_run b_Q_run 5 .int 5 [.ref (o 0), .int x] (fq_WQ V o mo) g (fun r u => r = fq_runR a N E x ∧ ((fq_itm N x = false ∧ u = g) ∨ ∃ L', fq_QB u (fq_runF a N E x) N L' ∧ fq_QA u (fq_runF a N E x) N E ∧ fq_QD u (fq_runF a N E x) N)) := by
  refine fq_MI_of (lv := [(0, .ref (o 0)), (1, .int x)]) (by decide) (Nat.le_of_ble_eq_true rfl) rfl ?_
  intro p e s m args below meth c A Q hC hret ls hl hQ
  have hxx := hC.1
  have hbb := hC.2.1
  refine lv_aload_n hxx hbb fd_Q_run_0 rfl (lv_at hl 0 rfl) ?_
  refine lv_iload_n hxx hbb fd_Q_run_1 rfl (lv_at hl 1 rfl) ?_
  refine fq_callI hC (fc_Q_isItem l V o mo g x N hA.1 hA.2.1 hB.1.1) fw_Q_64 ⟨Nat.le_of_ble_eq_true rfl, Nat.le_of_ble_eq_true rfl⟩ rfl rfl rfl hQ rfl hl.1 (rest := []) rfl (Nat.le_of_ble_eq_true rfl) fd_Q_run_2 ⟨Nat.le_refl _, Nat.le_refl _⟩ (fun r2 u2 H locs hp2 hQ => ?_)
  rw [hp2.1] at hQ
  refine lv_if_ne (tgt := 10) hxx hbb fd_Q_run_5 (by decide) (fun c5 => ?_) (fun c5 => ?_)
  · obtain ⟨j0, hj0, ej0⟩ := fq_yes hp2.2 c5
    subst ej0
    have h40 := hA.2.1
    have hm3 := hG.2.1
    have hm4 := hG.2.2.1
    have hmo : mo ≤ 300 := by omega
    refine lv_aload_n hxx hbb fd_Q_run_10 rfl (lv_at hl 0 rfl) ?_
    refine fq_callV hC (fc_Q_clear l V o mo g a N C P L hB hA) fw_Q_115 ⟨Nat.le_of_ble_eq_true rfl, Nat.le_of_ble_eq_true rfl⟩ rfl rfl rfl hQ rfl hl.1 (rest := []) rfl (Nat.le_of_ble_eq_true rfl) fd_Q_run_11 ⟨Nat.le_refl _, Nat.le_refl _⟩ (fun u11 H locs hp11 hQ => ?_)
    obtain ⟨⟨L1, hB1⟩, hd1, hfr1, h121⟩ := hp11
    have hB2 := fq_run0_QB hB1
    have hA2 := fq_run0_AB hA
    refine lv_aload_n hxx hbb fd_Q_run_14 rfl (lv_at hl 0 rfl) ?_
    refine lv_iload_n hxx hbb fd_Q_run_15 rfl (lv_at hl 1 rfl) ?_
    refine lv_iconst (v := 0) hxx hbb fd_Q_run_16 (by decide) ?_
    refine fq_callI hC (fc_Q_push l V o mo u11 (fq_run0 a) N C P L1 hB2 hA2 (nI j0) 0) fw_Q_108 ⟨Nat.le_of_ble_eq_true rfl, Nat.le_of_ble_eq_true rfl⟩ rfl rfl rfl hQ rfl hl.1 (rest := []) rfl (Nat.le_of_ble_eq_true rfl) fd_Q_run_17 ⟨Nat.le_refl _, Nat.le_refl _⟩ (fun r17 u17 H locs hp17 hQ => ?_)
    obtain ⟨⟨L2, hB3⟩, hF3, -⟩ := hp17
    have hB3 : fq_QB u17 (fq_run1 a N (nI j0)) N L2 := hB3
    have hRI0 := fq_RI_run1 hA hj0 hQA hd1 hfr1 h121 hB3 hF3
    have hmu0 : fq_mu (fq_run1 a N (nI j0)) N < 41 := by have h9 := fq_cnt_le (fun k => decide (fq_run1 a N (nI j0) 6 k = 0)) N; unfold fq_mu; omega
    refine lv_istore_n (lv' := [(2, .int r17), (0, .ref (o 0)), (1, .int (nI j0))]) hxx hbb fd_Q_run_20 rfl hl (by decide) rfl (fun ls hl => ?_)
    have loop21 : ∀ (n : Nat) (b g1 : fq_G) (L1 : Nat → List Nat) (C1 P1 : Nat), fq_mu b N < n → fq_loopF N E n b = fq_runT a N E (nI j0) → fq_RI g1 b N E L1 → fq_RP b N M E C1 P1 j0 → ∀ (H : Heap) (locs : List Loc) (ls : Array Slot), fq_Hp V A s.heap (fq_WQ V o mo g1) H locs → lv_has ls 5 [(0, .ref (o 0))] → W p l e (fq_Rm 5) s m args below meth c H locs 0 0 Q (F0 m 21 ls []) := by
      intro n
      induction n with
      | zero =>
        intro b g1 L1 C1 P1 hmu hT hRI hRP
        omega
      | succ n ih21 =>
        intro b g1 L1 C1 P1 hmu hT hRI hRP H locs ls hQ hl
        refine lv_aload_n hxx hbb fd_Q_run_21 rfl (lv_at hl 0 rfl) ?_
        refine fg_Q_size hC hQ fd_Q_run_22 (v := nI (fq_cnt (fq_th b) N)) hRI.1.1.2.2.1 ?_
        refine lv_if_le (tgt := 79) hxx hbb fd_Q_run_25 (by decide) (fun c25 => ?_) (fun c25 => ?_)
        · have hc : fq_cnt (fq_th b) N = 0 := by have h8 := fq_cnt_le (fq_th b) N; have h9 := (nI_leI (a := fq_cnt (fq_th b) N) (b := 0) (by omega) (by omega)).mp (by rw [nI_0]; exact c25); omega
          have hbT : b = fq_runT a N E (nI j0) := by rw [← hT]; simp only [fq_loopF]; rw [if_pos hc]
          obtain ⟨hz1, hz2⟩ := fq_run_is (a := a) (E := E) h40 hj0
          rw [← hbT] at hz1 hz2
          refine lv_aload_n hxx hbb fd_Q_run_79 rfl (lv_at hl 0 rfl) ?_
          refine lv_aload_n hxx hbb fd_Q_run_80 rfl (lv_at hl 0 rfl) ?_
          refine fq_callI hC (fc_Q_isOver l V o mo g1 b N M E hRI.1.1.1 h40 hRI.2.1 hRP.2.1 (fun k hk => (hRI.2.2 k hk).1) hRP.2.2.1 hmM) fw_Q_125 ⟨Nat.le_of_ble_eq_true rfl, Nat.le_of_ble_eq_true rfl⟩ rfl rfl rfl hQ rfl hl.1 (rest := [.ref (o 0)]) rfl (Nat.le_of_ble_eq_true rfl) fd_Q_run_81 ⟨Nat.le_refl _, Nat.le_refl _⟩ (fun r81 u81 H locs hp81 hQ => ?_)
          rw [hp81.1] at hQ
          refine lv_if_ne (tgt := 91) hxx hbb fd_Q_run_84 (by decide) (fun c84 => ?_) (fun c84 => ?_)
          · have hh : fq_hasI b E = 0 := by unfold fq_hasI; rw [if_neg (fq_yes hp81.2 c84)]
            refine lv_iconst (v := 0) hxx hbb fd_Q_run_91 (by decide) ?_
            refine fp_Q_has hC hQ rfl rfl fd_Q_run_92 (fun H locs hQ => ?_)
            refine lv_aload_n hxx hbb fd_Q_run_95 rfl (lv_at hl 0 rfl) ?_
            refine fg_Q_has hC hQ fd_Q_run_96 (v := 0) rfl ?_
            refine lv_if_eq (tgt := 106) hxx hbb fd_Q_run_99 (by decide) (fun c99 => ?_) (fun c99 => ?_)
            · refine lv_bipush (v := (-2)) hxx hbb fd_Q_run_106 (by decide) ?_
              exact hret _ _ _ _ _ _ fd_Q_run_108 hQ ⟨by rw [hz2, hh]; rfl, Or.inr ⟨L1, by rw [hz1, hh]; exact fq_run_end (Or.inl rfl) hRI hRP hc⟩⟩ rfl
            · exact absurd rfl c99
          · have hh : fq_hasI b E = 1 := by unfold fq_hasI; rw [if_pos (fq_no hp81.2 c84)]
            refine lv_iconst (v := 1) hxx hbb fd_Q_run_87 (by decide) ?_
            refine lv_goto (tgt := 92) hxx hbb fd_Q_run_88 (by decide) ?_
            refine fp_Q_has hC hQ rfl rfl fd_Q_run_92 (fun H locs hQ => ?_)
            refine lv_aload_n hxx hbb fd_Q_run_95 rfl (lv_at hl 0 rfl) ?_
            refine fg_Q_has hC hQ fd_Q_run_96 (v := 1) rfl ?_
            refine lv_if_eq (tgt := 106) hxx hbb fd_Q_run_99 (by decide) (fun c99 => ?_) (fun c99 => ?_)
            · exact absurd c99 (by decide)
            · refine lv_iconst (v := 0) hxx hbb fd_Q_run_102 (by decide) ?_
              refine lv_goto (tgt := 108) hxx hbb fd_Q_run_103 (by decide) ?_
              exact hret _ _ _ _ _ _ fd_Q_run_108 hQ ⟨by rw [hz2, hh]; rfl, Or.inr ⟨L1, by rw [hz1, hh]; exact fq_run_end (Or.inr rfl) hRI hRP hc⟩⟩ rfl
        · have hc : ¬ fq_cnt (fq_th b) N = 0 := fun q => c25 (by rw [q, nI_0]; exact Int32.le_refl 0)
          have hT2 : fq_loopF N E n (fq_stepF N E b) = fq_runT a N E (nI j0) := by rw [← hT]; simp only [fq_loopF]; rw [if_neg hc]
          refine lv_aload_n hxx hbb fd_Q_run_28 rfl (lv_at hl 0 rfl) ?_
          refine fq_callI hC (fc_Q_pop l V o mo g1 b N C1 P1 L1 hRI.1 hRP.1) fw_Q_118 ⟨Nat.le_of_ble_eq_true rfl, Nat.le_of_ble_eq_true rfl⟩ rfl rfl rfl hQ rfl hl.1 (rest := []) rfl (Nat.le_of_ble_eq_true rfl) fd_Q_run_29 ⟨Nat.le_refl _, Nat.le_refl _⟩ (fun r29 u29 H locs hp29 hQ => ?_)
          obtain ⟨f, hf, er29, ⟨L5, hB5⟩, hF5⟩ := hp29.resolve_left (fun q => hc q.1)
          have hf40 : f < 40 := by have h9 := hf.1; omega
          refine fq_top (y := nI f) er29 ?_
          have h83 : u29 12 3 = b 0 f := hB5.1.2.1.trans (fq_popG_83 hRP.1 hf)
          have hRI5 := fq_RI_pop hRI hB5 hF5
          obtain ⟨⟨P5, hRP5⟩, htk5, hw5, hmu5⟩ := fq_popT_ok hRP hf
          have hstep : fq_rx N f E (fq_popT b N f) = fq_stepF N E b := by unfold fq_stepF; rw [fq_least_is hf]
          refine lv_istore_n (lv' := [(3, .int (nI f)), (0, .ref (o 0))]) hxx hbb fd_Q_run_32 rfl hl (by decide) rfl (fun ls hl => ?_)
          refine lv_aload_n hxx hbb fd_Q_run_33 rfl (lv_at hl 1 rfl) ?_
          refine fg_Q_distances hC hQ fd_Q_run_34 ?_
          refine lv_iload_n hxx hbb fd_Q_run_37 rfl (lv_at hl 0 rfl) ?_
          refine lv_aload_n hxx hbb fd_Q_run_38 rfl (lv_at hl 1 rfl) ?_
          refine fg_Q_floor hC hQ fd_Q_run_39 (v := b 0 f) h83 ?_
          refine fs_Q_distances hC hQ f rfl (by omega) fd_Q_run_42 (fun H locs hQ => ?_)
          refine lv_aload_n hxx hbb fd_Q_run_43 rfl (lv_at hl 1 rfl) ?_
          refine fg_Q_heads hC hQ fd_Q_run_44 ?_
          refine lv_iload_n hxx hbb fd_Q_run_47 rfl (lv_at hl 0 rfl) ?_
          refine fr_Q_heads hC hQ f rfl (by omega) fd_Q_run_48 (v := fq_pv (fq_popT b N f 1) (nI f) E) (hRI5.2.1.2.2.2.1 f hf.1) ?_
          refine lv_istore (lv' := [(4, .int (fq_pv (fq_popT b N f 1) (nI f) E)), (3, .int (nI f)), (0, .ref (o 0))]) hxx hbb fd_Q_run_49 hl (by decide) rfl (fun ls hl => ?_)
          have loop51 : ∀ (n : Nat) (i : Nat) (b2 g2 : fq_G) (L2 : Nat → List Nat) (C2 P2 : Nat), i ≤ E → i < n → fq_rx N f i b2 = fq_stepF N E b → fq_RI g2 b2 N E L2 → fq_RP b2 N M E C2 P2 j0 → fq_BF (fq_popT b N f) b2 → ∀ (H : Heap) (locs : List Loc) (ls : Array Slot), fq_Hp V A s.heap (fq_WQ V o mo g2) H locs → lv_has ls 5 [(0, .ref (o 0)), (3, .int (nI f)), (4, .int (fq_pv (b2 1) (nI f) i))] → W p l e (fq_Rm 5) s m args below meth c H locs 0 0 Q (F0 m 51 ls []) := by
            intro n
            induction n with
            | zero =>
              intro i b2 g2 L2 C2 P2 hiE hin hrx hRI2 hRP2 hbf
              omega
            | succ n ih51 =>
              intro i b2 g2 L2 C2 P2 hiE hin hrx hRI2 hRP2 hbf H locs ls hQ hl
              refine lv_iload hxx hbb fd_Q_run_51 (lv_at hl 2 rfl) ?_
              refine lv_iconst (v := (-1)) hxx hbb fd_Q_run_53 (by decide) ?_
              refine lv_icmp_eq (tgt := 76) hxx hbb fd_Q_run_54 (by decide) (fun c54 => ?_) (fun c54 => ?_)
              · have hnone : ∀ j, j < i → b2 1 j ≠ nI f := by rcases fq_pv_cases (b2 1) (nI f) i with ⟨-, h9⟩ | ⟨j, h1, h2, -⟩; exact h9; exact absurd (h2.symm.trans c54) (fq_nI_ne (by omega))
                have hb2 : b2 = fq_stepF N E b := by rw [← hrx]; exact (fq_rx_none i hnone).symm
                have hmu2 : fq_mu b2 N + 1 = fq_mu b N := by rw [← hmu5]; unfold fq_mu; rw [hbf.1 6 (by decide) (by decide) (by decide)]
                refine lv_goto (tgt := 21) hxx hbb fd_Q_run_76 (by decide) ?_
                exact ih21 b2 g2 L2 C2 P2 (by omega) (by rw [hb2]; exact hT2) hRI2 hRP2 _ _ _ hQ (lv_sub hl [0] rfl)
              · obtain ⟨j, hjt, ej, hji, hbt⟩ : ∃ j, j < i ∧ fq_pv (b2 1) (nI f) i = nI j ∧ b2 1 j = nI f ∧ ∀ k, j < k → k < i → b2 1 k ≠ nI f := by rcases fq_pv_cases (b2 1) (nI f) i with ⟨h9, -⟩ | h9; exact absurd h9 c54; exact h9
                rw [ej] at hl
                obtain ⟨v, hv, ev⟩ := (hRP2.2.1.2.2.2.2.2 j (by omega)).2.1
                have ev2 : (b2 2 j).toNatClampNeg = v := by rw [ev, nI_clamp (by omega)]
                have htk2 : b2 6 f ≠ 0 := by rw [hbf.1 6 (by decide) (by decide) (by decide)]; exact htk5
                have hw2 : b2 4 f = b2 8 3 := by rw [hbf.1 4 (by decide) (by decide) (by decide), hbf.2 3 (by decide) (by decide)]; exact hw5
                obtain ⟨C6, P6, -, hRP6⟩ := fq_reach_ok hRP2 hf.1 htk2 hw2 (by omega) hji hv ev
                have hbf6 := fq_BF_reach b2 N f v (b2 3 j)
                refine lv_aload_n hxx hbb fd_Q_run_57 rfl (lv_at hl 0 rfl) ?_
                refine lv_iload_n hxx hbb fd_Q_run_58 rfl (lv_at hl 1 rfl) ?_
                refine lv_iload hxx hbb fd_Q_run_59 (lv_at hl 2 rfl) ?_
                refine fq_callV hC (fc_Q_follow l V o mo g2 b2 N C2 P2 M E L2 hRI2 hRP2.1 hRP2.2.1 hRP2.2.2.1 hmM f j hf.1 htk2 (by omega)) fw_Q_122 ⟨Nat.le_of_ble_eq_true rfl, Nat.le_of_ble_eq_true rfl⟩ rfl rfl rfl hQ rfl hl.1 (rest := []) rfl (Nat.le_of_ble_eq_true rfl) fd_Q_run_61 ⟨Nat.le_refl _, Nat.le_refl _⟩ (fun u61 H locs hp61 hQ => ?_)
                rw [ev2] at hp61
                obtain ⟨L6, hRI6, -⟩ := hp61
                refine lv_aload_n hxx hbb fd_Q_run_64 rfl (lv_at hl 0 rfl) ?_
                refine fg_Q_arcNext hC hQ fd_Q_run_65 ?_
                refine lv_iload hxx hbb fd_Q_run_68 (lv_at hl 2 rfl) ?_
                refine fr_Q_arcNext hC hQ hmo j rfl (by omega) fd_Q_run_70 (v := fq_pv (fq_reachF b2 N f v (b2 3 j) 1) (nI f) j) ((hRI6.2.1.2.2.2.2 j (by omega)).1.trans (by rw [hbf6.1 1 (by decide) (by decide) (by decide), hji])) ?_
                refine lv_istore (lv' := [(4, .int (fq_pv (fq_reachF b2 N f v (b2 3 j) 1) (nI f) j)), (0, .ref (o 0)), (3, .int (nI f))]) hxx hbb fd_Q_run_71 hl (by decide) rfl (fun ls hl => ?_)
                refine lv_goto (tgt := 51) hxx hbb fd_Q_run_73 (by decide) ?_
                exact ih51 j (fq_reachF b2 N f v (b2 3 j)) u61 L6 C6 P6 (by omega) (by omega) (by rw [← hrx, fq_rx_next i hjt hji hbt, ev2]) hRI6 hRP6 (hbf.trans hbf6) _ _ _ hQ (lv_sub hl [1, 2, 0] rfl)
          exact loop51 (E + 1) E (fq_popT b N f) _ L5 C1 P5 (Nat.le_refl _) (by omega) hstep hRI5 hRP5 (fq_BF.rf _) _ _ _ hQ (lv_sub hl [2, 1, 0] rfl)
    exact loop21 41 (fq_run1 a N (nI j0)) u17 L2 (C + 1) (P + 1) hmu0 rfl hRI0 (fq_run1_ok hA hG hj0) _ _ _ hQ (lv_sub hl [1] rfl)
  · refine lv_iconst (v := (-1)) hxx hbb fd_Q_run_8 (by decide) ?_
    exact hret _ _ _ _ _ _ fd_Q_run_9 hQ ⟨(fq_run_no (fq_no hp2.2 c5)).2.symm, Or.inl ⟨fq_itm_f (fq_no hp2.2 c5), rfl⟩⟩ rfl
end
section
/-! pure rows: for the plain form's own methods -/
theorem fq_item_yes {x : Int32} {N : Nat} (h40 : N ≤ 40) (c1 : ¬ x < 0) (c9 : ¬ nI N ≤ x) : ∃ j, j < N ∧ x = nI j := by
  obtain ⟨j, hj, e⟩ := nI_of c1
  refine ⟨j, ?_, e⟩
  rw [e, nI_leI (by omega) hj] at c9
  omega
theorem fq_item_no1 {x : Int32} {N : Nat} (h40 : N ≤ 40) (c1 : x < 0) : ∀ j, j < N → x ≠ nI j := by
  intro j hj e
  rw [e] at c1
  exact nI_pos (by omega) c1
theorem fq_item_no2 {x : Int32} {N : Nat} (h40 : N ≤ 40) (c9 : nI N ≤ x) : ∀ j, j < N → x ≠ nI j := by
  intro j hj e
  rw [e, nI_leI (by omega) (by omega)] at c9
  omega
theorem fq_s_l : ∀ n, n < 32 → ((nI n &&& 31).toBitVec.smod 32).toNat = n := by decide +kernel
theorem fq_bit {x : Int32} {k : Nat} (hx : 0 ≤ x.toInt) (hk : k < 32) : (x >>> (nI k &&& 31)) &&& 1 = nI (x.toNatClampNeg / 2 ^ k % 2) := by
  have h := fq_n_lt x
  have h2 : x.toNatClampNeg / 2 ^ k ≤ x.toNatClampNeg := Nat.div_le_self _ _
  have e := pk_shrN h (nI k &&& 31) k (fq_s_l k hk)
  rw [fq_nI_n hx] at e
  rw [e, pk_andN (by omega) 1 (by decide)]
/-- what 'unlike' has found after k bits -/
def fq_US (X Y k d : Nat) : Prop := d ≤ k ∧ (∀ i, d ≤ i → i < k → X / 2 ^ i % 2 = Y / 2 ^ i % 2) ∧ (d = 0 ∨ X / 2 ^ (d - 1) % 2 ≠ Y / 2 ^ (d - 1) % 2)
theorem fq_US_0 (X Y : Nat) : fq_US X Y 0 0 := ⟨Nat.le_refl _, fun i _ h => absurd h (Nat.not_lt_zero _), Or.inl rfl⟩
theorem fq_US_eq {X Y k d : Nat} (h : fq_US X Y k d) (e : nI (X / 2 ^ k % 2) = nI (Y / 2 ^ k % 2)) : fq_US X Y (k + 1) d := by
  have e2 : X / 2 ^ k % 2 = Y / 2 ^ k % 2 := fq_eqI (by omega) (by omega) e
  refine ⟨by have := h.1; omega, fun i h1 h2 => ?_, h.2.2⟩
  by_cases c : i = k
  · rw [c]
    exact e2
  · exact h.2.1 i h1 (by omega)
theorem fq_US_ne {X Y k : Nat} (e : ¬ nI (X / 2 ^ k % 2) = nI (Y / 2 ^ k % 2)) : fq_US X Y (k + 1) (k + 1) := by
  refine ⟨Nat.le_refl _, fun i h1 h2 => by omega, Or.inr (fun q => e ?_)⟩
  simp only [Nat.add_sub_cancel] at q
  rw [q]
theorem fq_US_end {X Y d : Nat} (hX : X < 2 ^ 31) (hY : Y < 2 ^ 31) (h : fq_US X Y 31 d) : fq_d X Y = d := by
  apply fq_d_is
  · apply Nat.eq_of_testBit_eq
    intro i
    rw [Nat.testBit_div_two_pow, Nat.testBit_div_two_pow, Nat.testBit_eq_decide_div_mod_eq, Nat.testBit_eq_decide_div_mod_eq]
    by_cases c : i + d < 31
    · rw [h.2.1 (i + d) (by omega) c]
    · have hp : 2 ^ 31 ≤ 2 ^ (i + d) := Nat.pow_le_pow_right (by omega) (by omega)
      rw [Nat.div_eq_of_lt (by omega), Nat.div_eq_of_lt (by omega)]
  · rcases h.2.2 with q | q
    · exact Or.inl q
    · exact Or.inr (fun e => q (by rw [e]))
theorem fq_us_id {g : fq_G} {k i : Nat} {x : Int32} (h : g k i = x) : fq_us g k i x = g := by
  funext r
  unfold fq_us
  by_cases c : r = k
  · subst c
    rw [if_pos rfl]
    funext j
    unfold upd
    by_cases c2 : j = i
    · rw [if_pos c2, c2, h]
    · rw [if_neg c2]
  · rw [if_neg c]
theorem fq_us_us (g : fq_G) (k i : Nat) (x y : Int32) : fq_us (fq_us g k i x) k i y = fq_us g k i y := by
  funext r
  unfold fq_us
  by_cases c : r = k
  · subst c
    rw [if_pos rfl, if_pos rfl, if_pos rfl]
    funext j
    unfold upd
    by_cases c2 : j = i
    · rw [if_pos c2, if_pos c2]
    · rw [if_neg c2, if_neg c2, if_neg c2]
  · rw [if_neg c, if_neg c, if_neg c]
theorem fq_cnt_y {P : Nat → Bool} {k : Nat} (h : P k = true) : nI (fq_cnt P k) + 1 = nI (fq_cnt P (k + 1)) := by
  simp only [fq_cnt]
  rw [if_pos h, nI_1]
theorem fq_cnt_n {P : Nat → Bool} {k : Nat} (h : P k = false) : nI (fq_cnt P k) + 0 = nI (fq_cnt P (k + 1)) := by
  simp only [fq_cnt]
  rw [if_neg (by simp [h]), Int32.add_zero, Nat.add_zero]
theorem fq_dec1 (x : Int32) : x + Int32.ofInt (-1) = x - 1 := by
  rw [Int32.sub_eq_add_neg]
  rfl
theorem fq_pm_neg {j : Nat} (hj : j ≤ 300) (c : nI j - 1 < 0) : j = 0 := by
  cases j with
  | zero => rfl
  | succ j =>
    rw [nI_pred] at c
    exact absurd c (nI_pos (by omega))
theorem fq_pm_pos {j : Nat} (c : ¬ nI j - 1 < 0) : ∃ i, j = i + 1 := by
  cases j with
  | zero => exact absurd (by decide) c
  | succ j => exact ⟨j, rfl⟩
end
section
set_option maxHeartbeats 4000000 in
set_option maxRecDepth 100000 in
theorem fc_M_isItem (l : Launch) (V : fq_V) (o : Nat → Nat) (mo : Nat) (g : fq_G) (x : Int32) (N : Nat) (h40 : N ≤ 40) (hN : g 8 0 = nI N) : fq_MI l V y_M_isItem b_M_isItem 2 .boolean 0 [.ref (o 0), .int x] (fq_WM V o mo) g (fun r u => u = g ∧ ((r = 1 ∧ ∃ j, j < N ∧ x = nI j) ∨ (r = 0 ∧ ∀ j, j < N → x ≠ nI j))) := by
  refine fq_MI_of (lv := [(0, .ref (o 0)), (1, .int x)]) (by decide) (Nat.le_of_ble_eq_true rfl) rfl ?_
  intro p e s m args below meth c A Q hC hret ls hl hQ
  have hxx := hC.1
  have hbb := hC.2.1
  refine lv_iload_n hxx hbb fd_M_isItem_0 rfl (lv_at hl 1 rfl) ?_
  refine lv_if_lt (tgt := 16) hxx hbb fd_M_isItem_1 (by decide) (fun c1 => ?_) (fun c1 => ?_)
  · refine lv_iconst (v := 0) hxx hbb fd_M_isItem_16 (by decide) ?_
    exact hret _ _ _ _ _ _ fd_M_isItem_17 hQ ⟨rfl, Or.inr ⟨rfl, fq_item_no1 h40 c1⟩⟩ rfl
  · refine lv_iload_n hxx hbb fd_M_isItem_4 rfl (lv_at hl 1 rfl) ?_
    refine lv_aload_n hxx hbb fd_M_isItem_5 rfl (lv_at hl 0 rfl) ?_
    refine fg_M_items hC hQ fd_M_isItem_6 (v := nI N) hN ?_
    refine lv_icmp_ge (tgt := 16) hxx hbb fd_M_isItem_9 (by decide) (fun c9 => ?_) (fun c9 => ?_)
    · refine lv_iconst (v := 0) hxx hbb fd_M_isItem_16 (by decide) ?_
      exact hret _ _ _ _ _ _ fd_M_isItem_17 hQ ⟨rfl, Or.inr ⟨rfl, fq_item_no2 h40 c9⟩⟩ rfl
    · refine lv_iconst (v := 1) hxx hbb fd_M_isItem_12 (by decide) ?_
      refine lv_goto (tgt := 17) hxx hbb fd_M_isItem_13 (by decide) ?_
      exact hret _ _ _ _ _ _ fd_M_isItem_17 hQ ⟨rfl, Or.inl ⟨rfl, fq_item_yes h40 c1 c9⟩⟩ rfl
set_option maxHeartbeats 4000000 in
set_option maxRecDepth 100000 in
theorem fc_M_isThere (l : Launch) (V : fq_V) (o : Nat → Nat) (mo : Nat) (g : fq_G) (x : Int32) (N : Nat) (h40 : N ≤ 40) (hN : g 8 0 = nI N) : fq_MI l V y_M_isThere b_M_isThere 2 .boolean 1 [.ref (o 0), .int x] (fq_WM V o mo) g (fun r u => u = g ∧ ((r = 1 ∧ ∃ j, j < N ∧ x = nI j ∧ g 0 j ≠ -1) ∨ (r = 0 ∧ ∀ j, j < N → x = nI j → g 0 j = -1))) := by
  refine fq_MI_of (lv := [(0, .ref (o 0)), (1, .int x)]) (by decide) (Nat.le_of_ble_eq_true rfl) rfl ?_
  intro p e s m args below meth c A Q hC hret ls hl hQ
  have hxx := hC.1
  have hbb := hC.2.1
  refine lv_aload_n hxx hbb fd_M_isThere_0 rfl (lv_at hl 0 rfl) ?_
  refine lv_iload_n hxx hbb fd_M_isThere_1 rfl (lv_at hl 1 rfl) ?_
  refine fq_callI hC (fc_M_isItem l V o mo g x N h40 hN) fw_M_51 ⟨Nat.le_of_ble_eq_true rfl, Nat.le_of_ble_eq_true rfl⟩ rfl rfl rfl hQ rfl hl.1 (rest := []) rfl (Nat.le_of_ble_eq_true rfl) fd_M_isThere_2 ⟨Nat.le_refl _, Nat.le_refl _⟩ (fun r2 u2 H locs hp2 hQ => ?_)
  rw [hp2.1] at hQ
  refine lv_if_eq (tgt := 22) hxx hbb fd_M_isThere_5 (by decide) (fun c5 => ?_) (fun c5 => ?_)
  · refine lv_iconst (v := 0) hxx hbb fd_M_isThere_22 (by decide) ?_
    exact hret _ _ _ _ _ _ fd_M_isThere_23 hQ ⟨rfl, Or.inr ⟨rfl, fun j hj e => absurd e (fq_no hp2.2 c5 j hj)⟩⟩ rfl
  · obtain ⟨j, hj, ej⟩ := fq_yes hp2.2 c5
    subst ej
    refine lv_aload_n hxx hbb fd_M_isThere_8 rfl (lv_at hl 0 rfl) ?_
    refine fg_M_keys hC hQ fd_M_isThere_9 ?_
    refine lv_iload_n hxx hbb fd_M_isThere_12 rfl (lv_at hl 1 rfl) ?_
    refine fr_M_keys hC hQ j rfl (by omega) fd_M_isThere_13 (v := g 0 j) rfl ?_
    refine lv_iconst (v := (-1)) hxx hbb fd_M_isThere_14 (by decide) ?_
    refine lv_icmp_eq (tgt := 22) hxx hbb fd_M_isThere_15 (by decide) (fun c15 => ?_) (fun c15 => ?_)
    · refine lv_iconst (v := 0) hxx hbb fd_M_isThere_22 (by decide) ?_
      exact hret _ _ _ _ _ _ fd_M_isThere_23 hQ ⟨rfl, Or.inr ⟨rfl, fun j2 hj2 e => by rw [← fq_eqI (by omega) (by omega) e]; exact c15⟩⟩ rfl
    · refine lv_iconst (v := 1) hxx hbb fd_M_isThere_18 (by decide) ?_
      refine lv_goto (tgt := 23) hxx hbb fd_M_isThere_19 (by decide) ?_
      exact hret _ _ _ _ _ _ fd_M_isThere_23 hQ ⟨rfl, Or.inl ⟨rfl, j, hj, rfl, c15⟩⟩ rfl
set_option maxHeartbeats 4000000 in
set_option maxRecDepth 100000 in
theorem fc_M_unlike (l : Launch) (V : fq_V) (Wd : fq_G → va_W) (g : fq_G) (x y : Int32) (hx : 0 ≤ x.toInt) (hy : 0 ≤ y.toInt) : fq_MI l V y_M_unlike b_M_unlike 4 .int 0 [.int x, .int y] Wd g (fun r u => u = g ∧ r = nI (fq_dk x y)) := by
  refine fq_MI_of (lv := [(0, .int x), (1, .int y)]) (by decide) (Nat.le_of_ble_eq_true rfl) rfl ?_
  intro p e s m args below meth c A Q hC hret ls hl hQ
  have hxx := hC.1
  have hbb := hC.2.1
  refine lv_iconst (v := (nI 0)) hxx hbb fd_M_unlike_0 (by decide) ?_
  refine lv_istore_n (lv' := [(2, .int (nI 0)), (0, .int x), (1, .int y)]) hxx hbb fd_M_unlike_1 rfl hl (by decide) rfl (fun ls hl => ?_)
  refine lv_iconst (v := (nI 0)) hxx hbb fd_M_unlike_2 (by decide) ?_
  refine lv_istore_n (lv' := [(3, .int (nI 0)), (2, .int (nI 0)), (0, .int x), (1, .int y)]) hxx hbb fd_M_unlike_3 rfl hl (by decide) rfl (fun ls hl => ?_)
  have loop4 : ∀ (n : Nat) (k d : Nat), k ≤ 31 → 31 < k + n → fq_US x.toNatClampNeg y.toNatClampNeg k d → ∀ (H : Heap) (locs : List Loc) (ls : Array Slot), fq_Hp V A s.heap (Wd g) H locs → lv_has ls 4 [(0, .int x), (1, .int y), (2, .int (nI d)), (3, .int (nI k))] → W p l e (fq_Rm 0) s m args below meth c H locs 0 0 Q (F0 m 4 ls []) := by
    intro n
    induction n with
    | zero =>
      intro k d hk hn hus
      omega
    | succ n ih4 =>
      intro k d hk hn hus H locs ls hQ hl
      refine lv_iload_n hxx hbb fd_M_unlike_4 rfl (lv_at hl 3 rfl) ?_
      refine lv_bipush (v := (nI 31)) hxx hbb fd_M_unlike_5 (by decide) ?_
      refine lv_icmp_ge (tgt := 37) hxx hbb fd_M_unlike_7 (by decide) (fun c7 => ?_) (fun c7 => ?_)
      · refine lv_iload_n hxx hbb fd_M_unlike_37 rfl (lv_at hl 2 rfl) ?_
        have hk31 : k = 31 := by have h9 := (nI_leI (by omega) (by omega)).mp c7; omega
        subst hk31
        exact hret _ _ _ _ _ _ fd_M_unlike_38 hQ ⟨rfl, by unfold fq_dk; rw [fq_US_end (fq_n_lt x) (fq_n_lt y) hus]⟩ rfl
      · have hk31 : k < 31 := Nat.not_le.mp (fun q => c7 (nI_le q (by omega)))
        refine lv_iload_n hxx hbb fd_M_unlike_10 rfl (lv_at hl 0 rfl) ?_
        refine lv_iload_n hxx hbb fd_M_unlike_11 rfl (lv_at hl 3 rfl) ?_
        refine lv_ishr hxx hbb fd_M_unlike_12 ?_
        refine lv_iconst (v := 1) hxx hbb fd_M_unlike_13 (by decide) ?_
        refine lv_iand hxx hbb fd_M_unlike_14 ?_
        refine fq_top (y := nI (x.toNatClampNeg / 2 ^ k % 2)) (fq_bit hx (by omega)) ?_
        refine lv_iload_n hxx hbb fd_M_unlike_15 rfl (lv_at hl 1 rfl) ?_
        refine lv_iload_n hxx hbb fd_M_unlike_16 rfl (lv_at hl 3 rfl) ?_
        refine lv_ishr hxx hbb fd_M_unlike_17 ?_
        refine lv_iconst (v := 1) hxx hbb fd_M_unlike_18 (by decide) ?_
        refine lv_iand hxx hbb fd_M_unlike_19 ?_
        refine fq_top (y := nI (y.toNatClampNeg / 2 ^ k % 2)) (fq_bit hy (by omega)) ?_
        refine lv_icmp_eq (tgt := 29) hxx hbb fd_M_unlike_20 (by decide) (fun c20 => ?_) (fun c20 => ?_)
        · refine lv_iload_n hxx hbb fd_M_unlike_29 rfl (lv_at hl 2 rfl) ?_
          refine lv_istore_n (lv' := [(2, .int (nI d)), (0, .int x), (1, .int y), (3, .int (nI k))]) hxx hbb fd_M_unlike_30 rfl hl (by decide) rfl (fun ls hl => ?_)
          refine lv_iinc (v := nI (k + 1)) (lv' := [(3, .int (nI (k + 1))), (2, .int (nI d)), (0, .int x), (1, .int y)]) hxx hbb fd_M_unlike_31 hl (k := 3) rfl (fq_inc k) (by decide) rfl (fun ls hl => ?_)
          refine lv_goto (tgt := 4) hxx hbb fd_M_unlike_34 (by decide) ?_
          exact ih4 (k + 1) d (by omega) (by omega) (fq_US_eq hus c20) _ _ _ hQ (lv_sub hl [2, 3, 1, 0] rfl)
        · refine lv_iload_n hxx hbb fd_M_unlike_23 rfl (lv_at hl 3 rfl) ?_
          refine lv_iconst (v := 1) hxx hbb fd_M_unlike_24 (by decide) ?_
          refine lv_iadd hxx hbb fd_M_unlike_25 ?_
          refine fq_top (y := nI (k + 1)) (nI_1 k) ?_
          refine lv_goto (tgt := 30) hxx hbb fd_M_unlike_26 (by decide) ?_
          refine lv_istore_n (lv' := [(2, .int (nI (k + 1))), (0, .int x), (1, .int y), (3, .int (nI k))]) hxx hbb fd_M_unlike_30 rfl hl (by decide) rfl (fun ls hl => ?_)
          refine lv_iinc (v := nI (k + 1)) (lv' := [(3, .int (nI (k + 1))), (2, .int (nI (k + 1))), (0, .int x), (1, .int y)]) hxx hbb fd_M_unlike_31 hl (k := 3) rfl (fq_inc k) (by decide) rfl (fun ls hl => ?_)
          refine lv_goto (tgt := 4) hxx hbb fd_M_unlike_34 (by decide) ?_
          exact ih4 (k + 1) (k + 1) (by omega) (by omega) (fq_US_ne c20) _ _ _ hQ (lv_sub hl [2, 3, 1, 0] rfl)
  exact loop4 32 0 0 (by omega) (by omega) (fq_US_0 _ _) _ _ _ hQ (lv_sub hl [2, 3, 1, 0] rfl)
set_option maxHeartbeats 4000000 in
set_option maxRecDepth 100000 in
theorem fc_M_push (l : Launch) (V : fq_V) (o : Nat → Nat) (mo : Nat) (g : fq_G) (x key : Int32) (N : Nat) (h40 : N ≤ 40) (hN : g 8 0 = nI N) : fq_MI l V y_M_push b_M_push 3 .int 1 [.ref (o 0), .int x, .int key] (fq_WM V o mo) g (fun r u => r = fq_pushR g N x key ∧ u = fq_pushF g N x key) := by
  refine fq_MI_of (lv := [(0, .ref (o 0)), (1, .int x), (2, .int key)]) (by decide) (Nat.le_of_ble_eq_true rfl) rfl ?_
  intro p e s m args below meth c A Q hC hret ls hl hQ
  have hxx := hC.1
  have hbb := hC.2.1
  refine lv_aload_n hxx hbb fd_M_push_0 rfl (lv_at hl 0 rfl) ?_
  refine lv_iload_n hxx hbb fd_M_push_1 rfl (lv_at hl 1 rfl) ?_
  refine fq_callI hC (fc_M_isItem l V o mo g x N h40 hN) fw_M_51 ⟨Nat.le_of_ble_eq_true rfl, Nat.le_of_ble_eq_true rfl⟩ rfl rfl rfl hQ rfl hl.1 (rest := []) rfl (Nat.le_of_ble_eq_true rfl) fd_M_push_2 ⟨Nat.le_refl _, Nat.le_refl _⟩ (fun r2 u2 H locs hp2 hQ => ?_)
  rw [hp2.1] at hQ
  refine lv_if_eq (tgt := 18) hxx hbb fd_M_push_5 (by decide) (fun c5 => ?_) (fun c5 => ?_)
  · refine lv_iconst (v := (-1)) hxx hbb fd_M_push_18 (by decide) ?_
    exact hret _ _ _ _ _ _ fd_M_push_19 hQ ⟨(fq_push_1 (fq_no hp2.2 c5)).1.symm, (fq_push_1 (fq_no hp2.2 c5)).2.symm⟩ rfl
  · obtain ⟨j, hj, ej⟩ := fq_yes hp2.2 c5
    subst ej
    refine lv_aload_n hxx hbb fd_M_push_8 rfl (lv_at hl 0 rfl) ?_
    refine fg_M_keys hC hQ fd_M_push_9 ?_
    refine lv_iload_n hxx hbb fd_M_push_12 rfl (lv_at hl 1 rfl) ?_
    refine fr_M_keys hC hQ j rfl (by omega) fd_M_push_13 (v := g 0 j) rfl ?_
    refine lv_iconst (v := (-1)) hxx hbb fd_M_push_14 (by decide) ?_
    refine lv_icmp_eq (tgt := 20) hxx hbb fd_M_push_15 (by decide) (fun c15 => ?_) (fun c15 => ?_)
    · refine lv_iload_n hxx hbb fd_M_push_20 rfl (lv_at hl 2 rfl) ?_
      refine lv_aload_n hxx hbb fd_M_push_21 rfl (lv_at hl 0 rfl) ?_
      refine fg_M_lowest hC hQ fd_M_push_22 (v := g 8 3) rfl ?_
      refine lv_icmp_ge (tgt := 31) hxx hbb fd_M_push_25 (by decide) (fun c25 => ?_) (fun c25 => ?_)
      · refine lv_aload_n hxx hbb fd_M_push_31 rfl (lv_at hl 0 rfl) ?_
        refine fg_M_keys hC hQ fd_M_push_32 ?_
        refine lv_iload_n hxx hbb fd_M_push_35 rfl (lv_at hl 1 rfl) ?_
        refine lv_iload_n hxx hbb fd_M_push_36 rfl (lv_at hl 2 rfl) ?_
        refine fs_M_keys hC hQ j rfl (by omega) fd_M_push_37 (fun H locs hQ => ?_)
        refine lv_aload_n hxx hbb fd_M_push_38 rfl (lv_at hl 0 rfl) ?_
        refine lv_dup hxx hbb fd_M_push_39 rfl ?_
        refine fg_M_placings hC hQ fd_M_push_40 (v := g 8 4) rfl ?_
        refine lv_iconst (v := 1) hxx hbb fd_M_push_43 (by decide) ?_
        refine lv_iadd hxx hbb fd_M_push_44 ?_
        refine fp_M_placings hC hQ fd_M_push_45 (fun H locs hQ => ?_)
        refine lv_aload_n hxx hbb fd_M_push_48 rfl (lv_at hl 0 rfl) ?_
        refine lv_dup hxx hbb fd_M_push_49 rfl ?_
        refine fg_M_calls hC hQ fd_M_push_50 (v := g 8 5) rfl ?_
        refine lv_iconst (v := 1) hxx hbb fd_M_push_53 (by decide) ?_
        refine lv_iadd hxx hbb fd_M_push_54 ?_
        refine fp_M_calls hC hQ fd_M_push_55 (fun H locs hQ => ?_)
        refine lv_iconst (v := 0) hxx hbb fd_M_push_58 (by decide) ?_
        exact hret _ _ _ _ _ _ fd_M_push_59 hQ ⟨(fq_push_4 h40 hj c15 (Int32.not_lt.mpr c25)).1.symm, (fq_push_4 h40 hj c15 (Int32.not_lt.mpr c25)).2.symm⟩ rfl
      · refine lv_bipush (v := (-2)) hxx hbb fd_M_push_28 (by decide) ?_
        exact hret _ _ _ _ _ _ fd_M_push_30 hQ ⟨(fq_push_3 h40 hj c15 (Int32.not_le.mp c25)).1.symm, (fq_push_3 h40 hj c15 (Int32.not_le.mp c25)).2.symm⟩ rfl
    · refine lv_iconst (v := (-1)) hxx hbb fd_M_push_18 (by decide) ?_
      exact hret _ _ _ _ _ _ fd_M_push_19 hQ ⟨(fq_push_2 h40 hj c15).1.symm, (fq_push_2 h40 hj c15).2.symm⟩ rfl
set_option maxHeartbeats 4000000 in
set_option maxRecDepth 100000 in
theorem fc_M_lower (l : Launch) (V : fq_V) (o : Nat → Nat) (mo : Nat) (g : fq_G) (x key : Int32) (N C P : Nat) (hA : fq_AB g N C P) : fq_MI l V y_M_lower b_M_lower 3 .int 2 [.ref (o 0), .int x, .int key] (fq_WM V o mo) g (fun r u => r = fq_lowerR g N x key ∧ u = fq_lowerF g N x key) := by
  refine fq_MI_of (lv := [(0, .ref (o 0)), (1, .int x), (2, .int key)]) (by decide) (Nat.le_of_ble_eq_true rfl) rfl ?_
  intro p e s m args below meth c A Q hC hret ls hl hQ
  have hxx := hC.1
  have hbb := hC.2.1
  refine lv_aload_n hxx hbb fd_M_lower_0 rfl (lv_at hl 0 rfl) ?_
  refine lv_iload_n hxx hbb fd_M_lower_1 rfl (lv_at hl 1 rfl) ?_
  refine fq_callI hC (fc_M_isThere l V o mo g x N hA.2.1 hA.2.2.1) fw_M_61 ⟨Nat.le_of_ble_eq_true rfl, Nat.le_of_ble_eq_true rfl⟩ rfl rfl rfl hQ rfl hl.1 (rest := []) rfl (Nat.le_of_ble_eq_true rfl) fd_M_lower_2 ⟨Nat.le_refl _, Nat.le_refl _⟩ (fun r2 u2 H locs hp2 hQ => ?_)
  rw [hp2.1] at hQ
  refine lv_if_ne (tgt := 10) hxx hbb fd_M_lower_5 (by decide) (fun c5 => ?_) (fun c5 => ?_)
  · obtain ⟨j, hj, ej, h0⟩ := fq_yes hp2.2 c5
    subst ej
    have h40 := hA.2.1
    refine lv_iload_n hxx hbb fd_M_lower_10 rfl (lv_at hl 2 rfl) ?_
    refine lv_aload_n hxx hbb fd_M_lower_11 rfl (lv_at hl 0 rfl) ?_
    refine fg_M_lowest hC hQ fd_M_lower_12 (v := g 8 3) rfl ?_
    refine lv_icmp_lt (tgt := 28) hxx hbb fd_M_lower_15 (by decide) (fun c15 => ?_) (fun c15 => ?_)
    · refine lv_bipush (v := (-2)) hxx hbb fd_M_lower_28 (by decide) ?_
      exact hret _ _ _ _ _ _ fd_M_lower_30 hQ ⟨(fq_lower_2 h40 hj h0 (Or.inl c15)).1.symm, (fq_lower_2 h40 hj h0 (Or.inl c15)).2.symm⟩ rfl
    · refine lv_iload_n hxx hbb fd_M_lower_18 rfl (lv_at hl 2 rfl) ?_
      refine lv_aload_n hxx hbb fd_M_lower_19 rfl (lv_at hl 0 rfl) ?_
      refine fg_M_keys hC hQ fd_M_lower_20 ?_
      refine lv_iload_n hxx hbb fd_M_lower_23 rfl (lv_at hl 1 rfl) ?_
      refine fr_M_keys hC hQ j rfl (by omega) fd_M_lower_24 (v := g 0 j) rfl ?_
      refine lv_icmp_le (tgt := 31) hxx hbb fd_M_lower_25 (by decide) (fun c25 => ?_) (fun c25 => ?_)
      · have hk : (g 8 3).toInt ≤ key.toInt := Int32.le_iff_toInt_le.mp (Int32.not_lt.mp c15)
        have hf0 := hA.2.2.2.1
        have hj0 := (hA.2.2.2.2.1 j hj).resolve_left h0
        have hz := fq_lower_3 (key := key) h40 hj h0 (fun q => q.elim c15 (fun q => Int32.not_lt.mpr c25 q))
        refine lv_aload_n hxx hbb fd_M_lower_31 rfl (lv_at hl 0 rfl) ?_
        refine lv_dup hxx hbb fd_M_lower_32 rfl ?_
        refine fg_M_placings hC hQ fd_M_lower_33 (v := g 8 4) rfl ?_
        refine lv_iload_n hxx hbb fd_M_lower_36 rfl (lv_at hl 2 rfl) ?_
        refine lv_aload_n hxx hbb fd_M_lower_37 rfl (lv_at hl 0 rfl) ?_
        refine fg_M_lowest hC hQ fd_M_lower_38 (v := g 8 3) rfl ?_
        refine fq_callS hC (fc_M_unlike l V (fq_WM V o mo) g key (g 8 3) (by omega) hf0) fw_M_64 ⟨Nat.le_of_ble_eq_true rfl, Nat.le_of_ble_eq_true rfl⟩ hQ rfl hl.1 (rest := [.int (g 8 4), .ref (o 0)]) rfl (Nat.le_of_ble_eq_true rfl) fd_M_lower_41 ⟨Nat.le_refl _, Nat.le_refl _⟩ (fun r41 u41 H locs hp41 hQ => ?_)
        rw [hp41.1] at hQ
        refine fq_top (y := nI (fq_dk key (g 8 3))) hp41.2 ?_
        refine lv_aload_n hxx hbb fd_M_lower_44 rfl (lv_at hl 0 rfl) ?_
        refine fg_M_keys hC hQ fd_M_lower_45 ?_
        refine lv_iload_n hxx hbb fd_M_lower_48 rfl (lv_at hl 1 rfl) ?_
        refine fr_M_keys hC hQ j rfl (by omega) fd_M_lower_49 (v := g 0 j) rfl ?_
        refine lv_aload_n hxx hbb fd_M_lower_50 rfl (lv_at hl 0 rfl) ?_
        refine fg_M_lowest hC hQ fd_M_lower_51 (v := g 8 3) rfl ?_
        refine fq_callS hC (fc_M_unlike l V (fq_WM V o mo) g (g 0 j) (g 8 3) (by omega) hf0) fw_M_64 ⟨Nat.le_of_ble_eq_true rfl, Nat.le_of_ble_eq_true rfl⟩ hQ rfl hl.1 (rest := [.int (nI (fq_dk key (g 8 3))), .int (g 8 4), .ref (o 0)]) rfl (Nat.le_of_ble_eq_true rfl) fd_M_lower_54 ⟨Nat.le_refl _, Nat.le_refl _⟩ (fun r54 u54 H locs hp54 hQ => ?_)
        rw [hp54.1] at hQ
        refine fq_top (y := nI (fq_dk (g 0 j) (g 8 3))) hp54.2 ?_
        refine lv_icmp_eq (tgt := 64) hxx hbb fd_M_lower_57 (by decide) (fun c57 => ?_) (fun c57 => ?_)
        · refine lv_iconst (v := 0) hxx hbb fd_M_lower_64 (by decide) ?_
          refine lv_iadd hxx hbb fd_M_lower_65 ?_
          refine fp_M_placings hC hQ fd_M_lower_66 (fun H locs hQ => ?_)
          refine lv_aload_n hxx hbb fd_M_lower_69 rfl (lv_at hl 0 rfl) ?_
          refine fg_M_keys hC hQ fd_M_lower_70 ?_
          refine lv_iload_n hxx hbb fd_M_lower_73 rfl (lv_at hl 1 rfl) ?_
          refine lv_iload_n hxx hbb fd_M_lower_74 rfl (lv_at hl 2 rfl) ?_
          refine fs_M_keys hC hQ j rfl (by omega) fd_M_lower_75 (fun H locs hQ => ?_)
          refine lv_aload_n hxx hbb fd_M_lower_76 rfl (lv_at hl 0 rfl) ?_
          refine lv_dup hxx hbb fd_M_lower_77 rfl ?_
          refine fg_M_calls hC hQ fd_M_lower_78 (v := g 8 5) rfl ?_
          refine lv_iconst (v := 1) hxx hbb fd_M_lower_81 (by decide) ?_
          refine lv_iadd hxx hbb fd_M_lower_82 ?_
          refine fp_M_calls hC hQ fd_M_lower_83 (fun H locs hQ => ?_)
          refine lv_iconst (v := 0) hxx hbb fd_M_lower_86 (by decide) ?_
          exact hret _ _ _ _ _ _ fd_M_lower_87 hQ ⟨hz.1.symm, by rw [hz.2]; unfold fq_lowerA; rw [if_pos (fq_eqI (by have := fq_dk_31 key (g 8 3); omega) (by have := fq_dk_31 (g 0 j) (g 8 3); omega) c57)]⟩ rfl
        · refine lv_iconst (v := 1) hxx hbb fd_M_lower_60 (by decide) ?_
          refine lv_goto (tgt := 65) hxx hbb fd_M_lower_61 (by decide) ?_
          refine lv_iadd hxx hbb fd_M_lower_65 ?_
          refine fp_M_placings hC hQ fd_M_lower_66 (fun H locs hQ => ?_)
          refine lv_aload_n hxx hbb fd_M_lower_69 rfl (lv_at hl 0 rfl) ?_
          refine fg_M_keys hC hQ fd_M_lower_70 ?_
          refine lv_iload_n hxx hbb fd_M_lower_73 rfl (lv_at hl 1 rfl) ?_
          refine lv_iload_n hxx hbb fd_M_lower_74 rfl (lv_at hl 2 rfl) ?_
          refine fs_M_keys hC hQ j rfl (by omega) fd_M_lower_75 (fun H locs hQ => ?_)
          refine lv_aload_n hxx hbb fd_M_lower_76 rfl (lv_at hl 0 rfl) ?_
          refine lv_dup hxx hbb fd_M_lower_77 rfl ?_
          refine fg_M_calls hC hQ fd_M_lower_78 (v := g 8 5) rfl ?_
          refine lv_iconst (v := 1) hxx hbb fd_M_lower_81 (by decide) ?_
          refine lv_iadd hxx hbb fd_M_lower_82 ?_
          refine fp_M_calls hC hQ fd_M_lower_83 (fun H locs hQ => ?_)
          refine lv_iconst (v := 0) hxx hbb fd_M_lower_86 (by decide) ?_
          exact hret _ _ _ _ _ _ fd_M_lower_87 hQ ⟨hz.1.symm, by rw [hz.2]; unfold fq_lowerA; rw [if_neg (fun q => c57 (by rw [q]))]⟩ rfl
      · refine lv_bipush (v := (-2)) hxx hbb fd_M_lower_28 (by decide) ?_
        exact hret _ _ _ _ _ _ fd_M_lower_30 hQ ⟨(fq_lower_2 h40 hj h0 (Or.inr (Int32.not_le.mp c25))).1.symm, (fq_lower_2 h40 hj h0 (Or.inr (Int32.not_le.mp c25))).2.symm⟩ rfl
  · refine lv_iconst (v := (-1)) hxx hbb fd_M_lower_8 (by decide) ?_
    exact hret _ _ _ _ _ _ fd_M_lower_9 hQ ⟨(fq_lower_1 hA.2.1 (fq_no hp2.2 c5)).1.symm, (fq_lower_1 hA.2.1 (fq_no hp2.2 c5)).2.symm⟩ rfl
set_option maxHeartbeats 4000000 in
set_option maxRecDepth 100000 in
theorem fc_M_floor (l : Launch) (V : fq_V) (o : Nat → Nat) (mo : Nat) (g : fq_G)  : fq_MI l V y_M_floor b_M_floor 1 .int 0 [.ref (o 0)] (fq_WM V o mo) g (fun r u => u = g ∧ r = g 8 3) := by
  refine fq_MI_of (lv := [(0, .ref (o 0))]) (by decide) (Nat.le_of_ble_eq_true rfl) rfl ?_
  intro p e s m args below meth c A Q hC hret ls hl hQ
  have hxx := hC.1
  have hbb := hC.2.1
  refine lv_aload_n hxx hbb fd_M_floor_0 rfl (lv_at hl 0 rfl) ?_
  refine fg_M_lowest hC hQ fd_M_floor_1 (v := g 8 3) rfl ?_
  exact hret _ _ _ _ _ _ fd_M_floor_4 hQ ⟨rfl, rfl⟩ rfl
set_option maxHeartbeats 4000000 in
set_option maxRecDepth 100000 in
theorem fc_M_placed (l : Launch) (V : fq_V) (o : Nat → Nat) (mo : Nat) (g : fq_G)  : fq_MI l V y_M_placed b_M_placed 1 .int 0 [.ref (o 0)] (fq_WM V o mo) g (fun r u => u = g ∧ r = g 8 4) := by
  refine fq_MI_of (lv := [(0, .ref (o 0))]) (by decide) (Nat.le_of_ble_eq_true rfl) rfl ?_
  intro p e s m args below meth c A Q hC hret ls hl hQ
  have hxx := hC.1
  have hbb := hC.2.1
  refine lv_aload_n hxx hbb fd_M_placed_0 rfl (lv_at hl 0 rfl) ?_
  refine fg_M_placings hC hQ fd_M_placed_1 (v := g 8 4) rfl ?_
  exact hret _ _ _ _ _ _ fd_M_placed_4 hQ ⟨rfl, rfl⟩ rfl
set_option maxHeartbeats 4000000 in
set_option maxRecDepth 100000 in
theorem fc_M_size (l : Launch) (V : fq_V) (o : Nat → Nat) (mo : Nat) (g : fq_G) (N : Nat) (h40 : N ≤ 40) (hN : g 8 0 = nI N) : fq_MI l V y_M_size b_M_size 3 .int 0 [.ref (o 0)] (fq_WM V o mo) g (fun r u => u = g ∧ r = nI (fq_cnt (fq_th g) N)) := by
  refine fq_MI_of (lv := [(0, .ref (o 0))]) (by decide) (Nat.le_of_ble_eq_true rfl) rfl ?_
  intro p e s m args below meth c A Q hC hret ls hl hQ
  have hxx := hC.1
  have hbb := hC.2.1
  refine lv_iconst (v := (nI (fq_cnt (fq_th g) 0))) hxx hbb fd_M_size_0 (rfl) ?_
  refine lv_istore_n (lv' := [(1, .int (nI (fq_cnt (fq_th g) 0))), (0, .ref (o 0))]) hxx hbb fd_M_size_1 rfl hl (by decide) rfl (fun ls hl => ?_)
  refine lv_iconst (v := (nI 0)) hxx hbb fd_M_size_2 (by decide) ?_
  refine lv_istore_n (lv' := [(2, .int (nI 0)), (1, .int (nI (fq_cnt (fq_th g) 0))), (0, .ref (o 0))]) hxx hbb fd_M_size_3 rfl hl (by decide) rfl (fun ls hl => ?_)
  have loop4 : ∀ (n : Nat) (k : Nat), k ≤ N → N < k + n → ∀ (H : Heap) (locs : List Loc) (ls : Array Slot), fq_Hp V A s.heap (fq_WM V o mo g) H locs → lv_has ls 3 [(0, .ref (o 0)), (1, .int (nI (fq_cnt (fq_th g) k))), (2, .int (nI k))] → W p l e (fq_Rm 0) s m args below meth c H locs 0 0 Q (F0 m 4 ls []) := by
    intro n
    induction n with
    | zero =>
      intro k hk hn
      omega
    | succ n ih4 =>
      intro k hk hn H locs ls hQ hl
      refine lv_iload_n hxx hbb fd_M_size_4 rfl (lv_at hl 2 rfl) ?_
      refine lv_aload_n hxx hbb fd_M_size_5 rfl (lv_at hl 0 rfl) ?_
      refine fg_M_items hC hQ fd_M_size_6 (v := nI N) hN ?_
      refine lv_icmp_ge (tgt := 36) hxx hbb fd_M_size_9 (by decide) (fun c9 => ?_) (fun c9 => ?_)
      · refine lv_iload_n hxx hbb fd_M_size_36 rfl (lv_at hl 1 rfl) ?_
        have hkN : k = N := by have h9 := (nI_leI (by omega) (by omega)).mp c9; omega
        subst hkN
        exact hret _ _ _ _ _ _ fd_M_size_37 hQ ⟨rfl, rfl⟩ rfl
      · have hkN : k < N := Nat.not_le.mp (fun q => c9 (nI_le q (by omega)))
        refine lv_iload_n hxx hbb fd_M_size_12 rfl (lv_at hl 1 rfl) ?_
        refine lv_aload_n hxx hbb fd_M_size_13 rfl (lv_at hl 0 rfl) ?_
        refine fg_M_keys hC hQ fd_M_size_14 ?_
        refine lv_iload_n hxx hbb fd_M_size_17 rfl (lv_at hl 2 rfl) ?_
        refine fr_M_keys hC hQ k rfl (by omega) fd_M_size_18 (v := g 0 k) rfl ?_
        refine lv_iconst (v := (-1)) hxx hbb fd_M_size_19 (by decide) ?_
        refine lv_icmp_eq (tgt := 27) hxx hbb fd_M_size_20 (by decide) (fun c20 => ?_) (fun c20 => ?_)
        · refine lv_iconst (v := 0) hxx hbb fd_M_size_27 (by decide) ?_
          refine lv_iadd hxx hbb fd_M_size_28 ?_
          refine fq_top (y := nI (fq_cnt (fq_th g) (k + 1))) (fq_cnt_n (by simp [fq_th, c20])) ?_
          refine lv_istore_n (lv' := [(1, .int (nI (fq_cnt (fq_th g) (k + 1)))), (0, .ref (o 0)), (2, .int (nI k))]) hxx hbb fd_M_size_29 rfl hl (by decide) rfl (fun ls hl => ?_)
          refine lv_iinc (v := nI (k + 1)) (lv' := [(2, .int (nI (k + 1))), (1, .int (nI (fq_cnt (fq_th g) (k + 1)))), (0, .ref (o 0))]) hxx hbb fd_M_size_30 hl (k := 2) rfl (fq_inc k) (by decide) rfl (fun ls hl => ?_)
          refine lv_goto (tgt := 4) hxx hbb fd_M_size_33 (by decide) ?_
          exact ih4 (k + 1) (by omega) (by omega) _ _ _ hQ (lv_sub hl [2, 1, 0] rfl)
        · refine lv_iconst (v := 1) hxx hbb fd_M_size_23 (by decide) ?_
          refine lv_goto (tgt := 28) hxx hbb fd_M_size_24 (by decide) ?_
          refine lv_iadd hxx hbb fd_M_size_28 ?_
          refine fq_top (y := nI (fq_cnt (fq_th g) (k + 1))) (fq_cnt_y (by simp [fq_th, c20])) ?_
          refine lv_istore_n (lv' := [(1, .int (nI (fq_cnt (fq_th g) (k + 1)))), (0, .ref (o 0)), (2, .int (nI k))]) hxx hbb fd_M_size_29 rfl hl (by decide) rfl (fun ls hl => ?_)
          refine lv_iinc (v := nI (k + 1)) (lv' := [(2, .int (nI (k + 1))), (1, .int (nI (fq_cnt (fq_th g) (k + 1)))), (0, .ref (o 0))]) hxx hbb fd_M_size_30 hl (k := 2) rfl (fq_inc k) (by decide) rfl (fun ls hl => ?_)
          refine lv_goto (tgt := 4) hxx hbb fd_M_size_33 (by decide) ?_
          exact ih4 (k + 1) (by omega) (by omega) _ _ _ hQ (lv_sub hl [2, 1, 0] rfl)
  exact loop4 (N + 1) 0 (Nat.zero_le _) (by omega) _ _ _ hQ (lv_sub hl [2, 1, 0] rfl)
set_option maxHeartbeats 4000000 in
set_option maxRecDepth 100000 in
theorem fc_M_key (l : Launch) (V : fq_V) (o : Nat → Nat) (mo : Nat) (g : fq_G) (x : Int32) (N C P : Nat) (hA : fq_AB g N C P) : fq_MI l V y_M_key b_M_key 2 .int 2 [.ref (o 0), .int x] (fq_WM V o mo) g (fun r u => u = g ∧ r = fq_keyF g N x) := by
  refine fq_MI_of (lv := [(0, .ref (o 0)), (1, .int x)]) (by decide) (Nat.le_of_ble_eq_true rfl) rfl ?_
  intro p e s m args below meth c A Q hC hret ls hl hQ
  have hxx := hC.1
  have hbb := hC.2.1
  refine lv_aload_n hxx hbb fd_M_key_0 rfl (lv_at hl 0 rfl) ?_
  refine lv_iload_n hxx hbb fd_M_key_1 rfl (lv_at hl 1 rfl) ?_
  refine fq_callI hC (fc_M_isThere l V o mo g x N hA.2.1 hA.2.2.1) fw_M_61 ⟨Nat.le_of_ble_eq_true rfl, Nat.le_of_ble_eq_true rfl⟩ rfl rfl rfl hQ rfl hl.1 (rest := []) rfl (Nat.le_of_ble_eq_true rfl) fd_M_key_2 ⟨Nat.le_refl _, Nat.le_refl _⟩ (fun r2 u2 H locs hp2 hQ => ?_)
  rw [hp2.1] at hQ
  refine lv_if_eq (tgt := 17) hxx hbb fd_M_key_5 (by decide) (fun c5 => ?_) (fun c5 => ?_)
  · refine lv_iconst (v := (-1)) hxx hbb fd_M_key_17 (by decide) ?_
    exact hret _ _ _ _ _ _ fd_M_key_18 hQ ⟨rfl, (fq_key_no (fq_no hp2.2 c5)).1.symm⟩ rfl
  · obtain ⟨j, hj, ej, h0⟩ := fq_yes hp2.2 c5
    subst ej
    have h40 := hA.2.1
    have hf0 := hA.2.2.2.1
    have hj0 := (hA.2.2.2.2.1 j hj).resolve_left h0
    refine lv_aload_n hxx hbb fd_M_key_8 rfl (lv_at hl 0 rfl) ?_
    refine fg_M_keys hC hQ fd_M_key_9 ?_
    refine lv_iload_n hxx hbb fd_M_key_12 rfl (lv_at hl 1 rfl) ?_
    refine fr_M_keys hC hQ j rfl (by omega) fd_M_key_13 (v := g 0 j) rfl ?_
    refine lv_goto (tgt := 18) hxx hbb fd_M_key_14 (by decide) ?_
    exact hret _ _ _ _ _ _ fd_M_key_18 hQ ⟨rfl, (fq_key_is h40 hj h0).1.symm⟩ rfl
set_option maxHeartbeats 4000000 in
set_option maxRecDepth 100000 in
theorem fc_M_bucket (l : Launch) (V : fq_V) (o : Nat → Nat) (mo : Nat) (g : fq_G) (x : Int32) (N C P : Nat) (hA : fq_AB g N C P) : fq_MI l V y_M_bucket b_M_bucket 2 .int 2 [.ref (o 0), .int x] (fq_WM V o mo) g (fun r u => u = g ∧ r = fq_buckF g N x) := by
  refine fq_MI_of (lv := [(0, .ref (o 0)), (1, .int x)]) (by decide) (Nat.le_of_ble_eq_true rfl) rfl ?_
  intro p e s m args below meth c A Q hC hret ls hl hQ
  have hxx := hC.1
  have hbb := hC.2.1
  refine lv_aload_n hxx hbb fd_M_bucket_0 rfl (lv_at hl 0 rfl) ?_
  refine lv_iload_n hxx hbb fd_M_bucket_1 rfl (lv_at hl 1 rfl) ?_
  refine fq_callI hC (fc_M_isThere l V o mo g x N hA.2.1 hA.2.2.1) fw_M_61 ⟨Nat.le_of_ble_eq_true rfl, Nat.le_of_ble_eq_true rfl⟩ rfl rfl rfl hQ rfl hl.1 (rest := []) rfl (Nat.le_of_ble_eq_true rfl) fd_M_bucket_2 ⟨Nat.le_refl _, Nat.le_refl _⟩ (fun r2 u2 H locs hp2 hQ => ?_)
  rw [hp2.1] at hQ
  refine lv_if_eq (tgt := 24) hxx hbb fd_M_bucket_5 (by decide) (fun c5 => ?_) (fun c5 => ?_)
  · refine lv_iconst (v := (-1)) hxx hbb fd_M_bucket_24 (by decide) ?_
    exact hret _ _ _ _ _ _ fd_M_bucket_25 hQ ⟨rfl, (fq_key_no (fq_no hp2.2 c5)).2.symm⟩ rfl
  · obtain ⟨j, hj, ej, h0⟩ := fq_yes hp2.2 c5
    subst ej
    have h40 := hA.2.1
    have hf0 := hA.2.2.2.1
    have hj0 := (hA.2.2.2.2.1 j hj).resolve_left h0
    refine lv_aload_n hxx hbb fd_M_bucket_8 rfl (lv_at hl 0 rfl) ?_
    refine fg_M_keys hC hQ fd_M_bucket_9 ?_
    refine lv_iload_n hxx hbb fd_M_bucket_12 rfl (lv_at hl 1 rfl) ?_
    refine fr_M_keys hC hQ j rfl (by omega) fd_M_bucket_13 (v := g 0 j) rfl ?_
    refine lv_aload_n hxx hbb fd_M_bucket_14 rfl (lv_at hl 0 rfl) ?_
    refine fg_M_lowest hC hQ fd_M_bucket_15 (v := g 8 3) rfl ?_
    refine fq_callS hC (fc_M_unlike l V (fq_WM V o mo) g (g 0 j) (g 8 3) (by omega) hf0) fw_M_64 ⟨Nat.le_of_ble_eq_true rfl, Nat.le_of_ble_eq_true rfl⟩ hQ rfl hl.1 (rest := []) rfl (Nat.le_of_ble_eq_true rfl) fd_M_bucket_18 ⟨Nat.le_refl _, Nat.le_refl _⟩ (fun r18 u18 H locs hp18 hQ => ?_)
    rw [hp18.1] at hQ
    refine fq_top (y := nI (fq_dk (g 0 j) (g 8 3))) hp18.2 ?_
    refine lv_goto (tgt := 25) hxx hbb fd_M_bucket_21 (by decide) ?_
    exact hret _ _ _ _ _ _ fd_M_bucket_25 hQ ⟨rfl, (fq_key_is h40 hj h0).2.symm⟩ rfl
set_option maxHeartbeats 4000000 in
set_option maxRecDepth 100000 in
theorem fc_M_many (l : Launch) (V : fq_V) (o : Nat → Nat) (mo : Nat) (g : fq_G) (x : Int32) (N C P : Nat) (hA : fq_AB g N C P) : fq_MI l V y_M_many b_M_many 4 .int 1 [.ref (o 0), .int x] (fq_WM V o mo) g (fun r u => u = g ∧ r = fq_manyF g N x) := by
  refine fq_MI_of (lv := [(0, .ref (o 0)), (1, .int x)]) (by decide) (Nat.le_of_ble_eq_true rfl) rfl ?_
  intro p e s m args below meth c A Q hC hret ls hl hQ
  have hxx := hC.1
  have hbb := hC.2.1
  refine lv_iload_n hxx hbb fd_M_many_0 rfl (lv_at hl 1 rfl) ?_
  refine lv_if_lt (tgt := 10) hxx hbb fd_M_many_1 (by decide) (fun c1 => ?_) (fun c1 => ?_)
  · refine lv_iconst (v := (-1)) hxx hbb fd_M_many_10 (by decide) ?_
    exact hret _ _ _ _ _ _ fd_M_many_11 hQ ⟨rfl, (fq_many_no (fun q => q.1 c1)).symm⟩ rfl
  · refine lv_iload_n hxx hbb fd_M_many_4 rfl (lv_at hl 1 rfl) ?_
    refine lv_bipush (v := 31) hxx hbb fd_M_many_5 (by decide) ?_
    refine lv_icmp_le (tgt := 12) hxx hbb fd_M_many_7 (by decide) (fun c7 => ?_) (fun c7 => ?_)
    · obtain ⟨b, hb, eb⟩ := fq_many_ix ⟨c1, Int32.not_lt.mpr c7⟩
      subst eb
      have h40 := hA.2.1
      have hf0 := hA.2.2.2.1
      refine lv_iconst (v := (nI (fq_cnt (fq_inb g b) 0))) hxx hbb fd_M_many_12 (rfl) ?_
      refine lv_istore_n (lv' := [(2, .int (nI (fq_cnt (fq_inb g b) 0))), (0, .ref (o 0)), (1, .int (nI b))]) hxx hbb fd_M_many_13 rfl hl (by decide) rfl (fun ls hl => ?_)
      refine lv_iconst (v := (nI 0)) hxx hbb fd_M_many_14 (by decide) ?_
      refine lv_istore_n (lv' := [(3, .int (nI 0)), (2, .int (nI (fq_cnt (fq_inb g b) 0))), (0, .ref (o 0)), (1, .int (nI b))]) hxx hbb fd_M_many_15 rfl hl (by decide) rfl (fun ls hl => ?_)
      have loop16 : ∀ (n : Nat) (k : Nat), k ≤ N → N < k + n → ∀ (H : Heap) (locs : List Loc) (ls : Array Slot), fq_Hp V A s.heap (fq_WM V o mo g) H locs → lv_has ls 4 [(0, .ref (o 0)), (1, .int (nI b)), (2, .int (nI (fq_cnt (fq_inb g b) k))), (3, .int (nI k))] → W p l e (fq_Rm 1) s m args below meth c H locs 0 0 Q (F0 m 16 ls []) := by
        intro n
        induction n with
        | zero =>
          intro k hk hn
          omega
        | succ n ih16 =>
          intro k hk hn H locs ls hQ hl
          refine lv_iload_n hxx hbb fd_M_many_16 rfl (lv_at hl 3 rfl) ?_
          refine lv_aload_n hxx hbb fd_M_many_17 rfl (lv_at hl 0 rfl) ?_
          refine fg_M_items hC hQ fd_M_many_18 (v := nI N) hA.2.2.1 ?_
          refine lv_icmp_ge (tgt := 65) hxx hbb fd_M_many_21 (by decide) (fun c21 => ?_) (fun c21 => ?_)
          · refine lv_iload_n hxx hbb fd_M_many_65 rfl (lv_at hl 2 rfl) ?_
            have hkN : k = N := by have h9 := (nI_leI (by omega) (by omega)).mp c21; omega
            subst hkN
            exact hret _ _ _ _ _ _ fd_M_many_66 hQ ⟨rfl, (fq_many_is hb).symm⟩ rfl
          · have hkN : k < N := Nat.not_le.mp (fun q => c21 (nI_le q (by omega)))
            refine lv_iload_n hxx hbb fd_M_many_24 rfl (lv_at hl 2 rfl) ?_
            refine lv_aload_n hxx hbb fd_M_many_25 rfl (lv_at hl 0 rfl) ?_
            refine fg_M_keys hC hQ fd_M_many_26 ?_
            refine lv_iload_n hxx hbb fd_M_many_29 rfl (lv_at hl 3 rfl) ?_
            refine fr_M_keys hC hQ k rfl (by omega) fd_M_many_30 (v := g 0 k) rfl ?_
            refine lv_iconst (v := (-1)) hxx hbb fd_M_many_31 (by decide) ?_
            refine lv_icmp_eq (tgt := 56) hxx hbb fd_M_many_32 (by decide) (fun c32 => ?_) (fun c32 => ?_)
            · refine lv_iconst (v := 0) hxx hbb fd_M_many_56 (by decide) ?_
              refine lv_iadd hxx hbb fd_M_many_57 ?_
              refine fq_top (y := nI (fq_cnt (fq_inb g b) (k + 1))) (fq_cnt_n (by simp [fq_inb, c32])) ?_
              refine lv_istore_n (lv' := [(2, .int (nI (fq_cnt (fq_inb g b) (k + 1)))), (0, .ref (o 0)), (1, .int (nI b)), (3, .int (nI k))]) hxx hbb fd_M_many_58 rfl hl (by decide) rfl (fun ls hl => ?_)
              refine lv_iinc (v := nI (k + 1)) (lv' := [(3, .int (nI (k + 1))), (2, .int (nI (fq_cnt (fq_inb g b) (k + 1)))), (0, .ref (o 0)), (1, .int (nI b))]) hxx hbb fd_M_many_59 hl (k := 3) rfl (fq_inc k) (by decide) rfl (fun ls hl => ?_)
              refine lv_goto (tgt := 16) hxx hbb fd_M_many_62 (by decide) ?_
              exact ih16 (k + 1) (by omega) (by omega) _ _ _ hQ (lv_sub hl [2, 3, 1, 0] rfl)
            · have hk0 := (hA.2.2.2.2.1 k hkN).resolve_left c32
              have h31 := fq_dk_31 (g 0 k) (g 8 3)
              refine lv_aload_n hxx hbb fd_M_many_35 rfl (lv_at hl 0 rfl) ?_
              refine fg_M_keys hC hQ fd_M_many_36 ?_
              refine lv_iload_n hxx hbb fd_M_many_39 rfl (lv_at hl 3 rfl) ?_
              refine fr_M_keys hC hQ k rfl (by omega) fd_M_many_40 (v := g 0 k) rfl ?_
              refine lv_aload_n hxx hbb fd_M_many_41 rfl (lv_at hl 0 rfl) ?_
              refine fg_M_lowest hC hQ fd_M_many_42 (v := g 8 3) rfl ?_
              refine fq_callS hC (fc_M_unlike l V (fq_WM V o mo) g (g 0 k) (g 8 3) (by omega) hf0) fw_M_64 ⟨Nat.le_of_ble_eq_true rfl, Nat.le_of_ble_eq_true rfl⟩ hQ rfl hl.1 (rest := [.int (nI (fq_cnt (fq_inb g b) k))]) rfl (Nat.le_of_ble_eq_true rfl) fd_M_many_45 ⟨Nat.le_refl _, Nat.le_refl _⟩ (fun r45 u45 H locs hp45 hQ => ?_)
              rw [hp45.1] at hQ
              refine fq_top (y := nI (fq_dk (g 0 k) (g 8 3))) hp45.2 ?_
              refine lv_iload_n hxx hbb fd_M_many_48 rfl (lv_at hl 1 rfl) ?_
              refine lv_icmp_ne (tgt := 56) hxx hbb fd_M_many_49 (by decide) (fun c49 => ?_) (fun c49 => ?_)
              · refine lv_iconst (v := 0) hxx hbb fd_M_many_56 (by decide) ?_
                refine lv_iadd hxx hbb fd_M_many_57 ?_
                refine fq_top (y := nI (fq_cnt (fq_inb g b) (k + 1))) (fq_cnt_n (by have h9 : ¬ fq_dk (g 0 k) (g 8 3) = b := fun q => c49 (by rw [q]); simp [fq_inb, h9])) ?_
                refine lv_istore_n (lv' := [(2, .int (nI (fq_cnt (fq_inb g b) (k + 1)))), (0, .ref (o 0)), (1, .int (nI b)), (3, .int (nI k))]) hxx hbb fd_M_many_58 rfl hl (by decide) rfl (fun ls hl => ?_)
                refine lv_iinc (v := nI (k + 1)) (lv' := [(3, .int (nI (k + 1))), (2, .int (nI (fq_cnt (fq_inb g b) (k + 1)))), (0, .ref (o 0)), (1, .int (nI b))]) hxx hbb fd_M_many_59 hl (k := 3) rfl (fq_inc k) (by decide) rfl (fun ls hl => ?_)
                refine lv_goto (tgt := 16) hxx hbb fd_M_many_62 (by decide) ?_
                exact ih16 (k + 1) (by omega) (by omega) _ _ _ hQ (lv_sub hl [2, 3, 1, 0] rfl)
              · refine lv_iconst (v := 1) hxx hbb fd_M_many_52 (by decide) ?_
                refine lv_goto (tgt := 57) hxx hbb fd_M_many_53 (by decide) ?_
                refine lv_iadd hxx hbb fd_M_many_57 ?_
                refine fq_top (y := nI (fq_cnt (fq_inb g b) (k + 1))) (fq_cnt_y (by have h9 : fq_dk (g 0 k) (g 8 3) = b := fq_eqI (by omega) (by omega) c49; simp [fq_inb, h9, c32])) ?_
                refine lv_istore_n (lv' := [(2, .int (nI (fq_cnt (fq_inb g b) (k + 1)))), (0, .ref (o 0)), (1, .int (nI b)), (3, .int (nI k))]) hxx hbb fd_M_many_58 rfl hl (by decide) rfl (fun ls hl => ?_)
                refine lv_iinc (v := nI (k + 1)) (lv' := [(3, .int (nI (k + 1))), (2, .int (nI (fq_cnt (fq_inb g b) (k + 1)))), (0, .ref (o 0)), (1, .int (nI b))]) hxx hbb fd_M_many_59 hl (k := 3) rfl (fq_inc k) (by decide) rfl (fun ls hl => ?_)
                refine lv_goto (tgt := 16) hxx hbb fd_M_many_62 (by decide) ?_
                exact ih16 (k + 1) (by omega) (by omega) _ _ _ hQ (lv_sub hl [2, 3, 1, 0] rfl)
      exact loop16 (N + 1) 0 (Nat.zero_le _) (by omega) _ _ _ hQ (lv_sub hl [2, 3, 1, 0] rfl)
    · refine lv_iconst (v := (-1)) hxx hbb fd_M_many_10 (by decide) ?_
      exact hret _ _ _ _ _ _ fd_M_many_11 hQ ⟨rfl, (fq_many_no (fun q => q.2 (Int32.not_le.mp c7))).symm⟩ rfl
set_option maxHeartbeats 4000000 in
set_option maxRecDepth 100000 in
theorem fc_M_arc (l : Launch) (V : fq_V) (o : Nat → Nat) (mo : Nat) (g : fq_G) (x y len : Int32) (M E : Nat) (N : Nat) (h40 : N ≤ 40) (hN : g 8 0 = nI N) (hG : fq_AG g N M E) : fq_MI l V y_M_arc b_M_arc 4 .int 1 [.ref (o 0), .int x, .int y, .int len] (fq_WM V o mo) g (fun r u => r = fq_arcR g N x y len ∧ u = fq_arcF g N x y len) := by
  refine fq_MI_of (lv := [(0, .ref (o 0)), (1, .int x), (2, .int y), (3, .int len)]) (by decide) (Nat.le_of_ble_eq_true rfl) rfl ?_
  intro p e s m args below meth c A Q hC hret ls hl hQ
  have hxx := hC.1
  have hbb := hC.2.1
  refine lv_aload_n hxx hbb fd_M_arc_0 rfl (lv_at hl 0 rfl) ?_
  refine lv_iload_n hxx hbb fd_M_arc_1 rfl (lv_at hl 1 rfl) ?_
  refine fq_callI hC (fc_M_isItem l V o mo g x N h40 hN) fw_M_51 ⟨Nat.le_of_ble_eq_true rfl, Nat.le_of_ble_eq_true rfl⟩ rfl rfl rfl hQ rfl hl.1 (rest := []) rfl (Nat.le_of_ble_eq_true rfl) fd_M_arc_2 ⟨Nat.le_refl _, Nat.le_refl _⟩ (fun r2 u2 H locs hp2 hQ => ?_)
  rw [hp2.1] at hQ
  refine lv_if_eq (tgt := 16) hxx hbb fd_M_arc_5 (by decide) (fun c5 => ?_) (fun c5 => ?_)
  · refine lv_iconst (v := (-1)) hxx hbb fd_M_arc_16 (by decide) ?_
    exact hret _ _ _ _ _ _ fd_M_arc_17 hQ ⟨(fq_arc_1 (Or.inl (fq_itm_f (fq_no hp2.2 c5)))).1.symm, (fq_arc_1 (Or.inl (fq_itm_f (fq_no hp2.2 c5)))).2.symm⟩ rfl
  · obtain ⟨u0, hu0, eu0⟩ := fq_yes hp2.2 c5
    subst eu0
    refine lv_aload_n hxx hbb fd_M_arc_8 rfl (lv_at hl 0 rfl) ?_
    refine lv_iload_n hxx hbb fd_M_arc_9 rfl (lv_at hl 2 rfl) ?_
    refine fq_callI hC (fc_M_isItem l V o mo g y N h40 hN) fw_M_51 ⟨Nat.le_of_ble_eq_true rfl, Nat.le_of_ble_eq_true rfl⟩ rfl rfl rfl hQ rfl hl.1 (rest := []) rfl (Nat.le_of_ble_eq_true rfl) fd_M_arc_10 ⟨Nat.le_refl _, Nat.le_refl _⟩ (fun r10 u10 H locs hp10 hQ => ?_)
    rw [hp10.1] at hQ
    refine lv_if_ne (tgt := 18) hxx hbb fd_M_arc_13 (by decide) (fun c13 => ?_) (fun c13 => ?_)
    · obtain ⟨v0, hv0, ev0⟩ := fq_yes hp10.2 c13
      subst ev0
      have hit1 := fq_itm_t h40 hu0
      have hit2 := fq_itm_t h40 hv0
      refine lv_iload_n hxx hbb fd_M_arc_18 rfl (lv_at hl 3 rfl) ?_
      refine lv_if_lt (tgt := 30) hxx hbb fd_M_arc_19 (by decide) (fun c19 => ?_) (fun c19 => ?_)
      · refine lv_bipush (v := (-2)) hxx hbb fd_M_arc_30 (by decide) ?_
        exact hret _ _ _ _ _ _ fd_M_arc_32 hQ ⟨(fq_arc_2 hit1 hit2 (Or.inl c19)).1.symm, (fq_arc_2 hit1 hit2 (Or.inl c19)).2.symm⟩ rfl
      · refine lv_iload_n hxx hbb fd_M_arc_22 rfl (lv_at hl 3 rfl) ?_
        refine lv_aload_n hxx hbb fd_M_arc_23 rfl (lv_at hl 0 rfl) ?_
        refine fg_M_mostLength hC hQ fd_M_arc_24 (v := g 8 2) rfl ?_
        refine lv_icmp_le (tgt := 33) hxx hbb fd_M_arc_27 (by decide) (fun c27 => ?_) (fun c27 => ?_)
        · have hlen2 : ¬ (len < 0 ∨ g 8 2 < len) := fun q => q.elim c19 (fun q => Int32.not_lt.mpr c27 q)
          refine lv_aload_n hxx hbb fd_M_arc_33 rfl (lv_at hl 0 rfl) ?_
          refine fg_M_arcs hC hQ fd_M_arc_34 (v := nI E) hG.2.2.2.2.1 ?_
          refine lv_aload_n hxx hbb fd_M_arc_37 rfl (lv_at hl 0 rfl) ?_
          refine fg_M_mostArcs hC hQ fd_M_arc_38 (v := nI M) hG.2.2.2.1 ?_
          refine lv_icmp_ne (tgt := 47) hxx hbb fd_M_arc_41 (by decide) (fun c41 => ?_) (fun c41 => ?_)
          · have hne : ¬ g 8 6 = g 8 1 := by rw [hG.2.2.2.2.1, hG.2.2.2.1]; exact c41
            have hEM : E < M := by have h9 := hG.2.2.1; have h8 : E ≠ M := fun q => c41 (by rw [q]); omega
            have hM3 := hG.2.1
            refine lv_aload_n hxx hbb fd_M_arc_47 rfl (lv_at hl 0 rfl) ?_
            refine fg_M_froms hC hQ fd_M_arc_48 ?_
            refine lv_aload_n hxx hbb fd_M_arc_51 rfl (lv_at hl 0 rfl) ?_
            refine fg_M_arcs hC hQ fd_M_arc_52 (v := nI E) hG.2.2.2.2.1 ?_
            refine lv_iload_n hxx hbb fd_M_arc_55 rfl (lv_at hl 1 rfl) ?_
            refine fs_M_froms hC hQ E rfl (by omega) fd_M_arc_56 (fun H locs hQ => ?_)
            refine lv_aload_n hxx hbb fd_M_arc_57 rfl (lv_at hl 0 rfl) ?_
            refine fg_M_tos hC hQ fd_M_arc_58 ?_
            refine lv_aload_n hxx hbb fd_M_arc_61 rfl (lv_at hl 0 rfl) ?_
            refine fg_M_arcs hC hQ fd_M_arc_62 (v := nI E) hG.2.2.2.2.1 ?_
            refine lv_iload_n hxx hbb fd_M_arc_65 rfl (lv_at hl 2 rfl) ?_
            refine fs_M_tos hC hQ E rfl (by omega) fd_M_arc_66 (fun H locs hQ => ?_)
            refine lv_aload_n hxx hbb fd_M_arc_67 rfl (lv_at hl 0 rfl) ?_
            refine fg_M_lengths hC hQ fd_M_arc_68 ?_
            refine lv_aload_n hxx hbb fd_M_arc_71 rfl (lv_at hl 0 rfl) ?_
            refine fg_M_arcs hC hQ fd_M_arc_72 (v := nI E) hG.2.2.2.2.1 ?_
            refine lv_iload_n hxx hbb fd_M_arc_75 rfl (lv_at hl 3 rfl) ?_
            refine fs_M_lengths hC hQ E rfl (by omega) fd_M_arc_76 (fun H locs hQ => ?_)
            refine lv_aload_n hxx hbb fd_M_arc_77 rfl (lv_at hl 0 rfl) ?_
            refine lv_dup hxx hbb fd_M_arc_78 rfl ?_
            refine fg_M_arcs hC hQ fd_M_arc_79 (v := nI E) hG.2.2.2.2.1 ?_
            refine lv_iconst (v := 1) hxx hbb fd_M_arc_82 (by decide) ?_
            refine lv_iadd hxx hbb fd_M_arc_83 ?_
            refine fp_M_arcs hC hQ fd_M_arc_84 (fun H locs hQ => ?_)
            refine lv_aload_n hxx hbb fd_M_arc_87 rfl (lv_at hl 0 rfl) ?_
            refine lv_iconst (v := 0) hxx hbb fd_M_arc_88 (by decide) ?_
            refine fp_M_hasWays hC hQ rfl rfl fd_M_arc_89 (fun H locs hQ => ?_)
            refine lv_iconst (v := 0) hxx hbb fd_M_arc_92 (by decide) ?_
            exact hret _ _ _ _ _ _ fd_M_arc_93 hQ ⟨(fq_arc_4 hit1 hit2 hlen2 hne hG.2.2.2.2.1 (by omega)).1.symm, by rw [(fq_arc_4 hit1 hit2 hlen2 hne hG.2.2.2.2.1 (by omega)).2]; unfold fq_arcA; rw [hG.2.2.2.2.1]⟩ rfl
          · refine lv_bipush (v := (-3)) hxx hbb fd_M_arc_44 (by decide) ?_
            exact hret _ _ _ _ _ _ fd_M_arc_46 hQ ⟨(fq_arc_3 hit1 hit2 hlen2 (by rw [hG.2.2.2.2.1, hG.2.2.2.1]; exact c41)).1.symm, (fq_arc_3 hit1 hit2 hlen2 (by rw [hG.2.2.2.2.1, hG.2.2.2.1]; exact c41)).2.symm⟩ rfl
        · refine lv_bipush (v := (-2)) hxx hbb fd_M_arc_30 (by decide) ?_
          exact hret _ _ _ _ _ _ fd_M_arc_32 hQ ⟨(fq_arc_2 hit1 hit2 (Or.inr (Int32.not_le.mp c27))).1.symm, (fq_arc_2 hit1 hit2 (Or.inr (Int32.not_le.mp c27))).2.symm⟩ rfl
    · refine lv_iconst (v := (-1)) hxx hbb fd_M_arc_16 (by decide) ?_
      exact hret _ _ _ _ _ _ fd_M_arc_17 hQ ⟨(fq_arc_1 (Or.inr (fq_itm_f (fq_no hp10.2 c13)))).1.symm, (fq_arc_1 (Or.inr (fq_itm_f (fq_no hp10.2 c13)))).2.symm⟩ rfl
set_option maxHeartbeats 4000000 in
set_option maxRecDepth 100000 in
theorem fc_M_distance (l : Launch) (V : fq_V) (o : Nat → Nat) (mo : Nat) (g : fq_G) (x : Int32) (N : Nat) (h40 : N ≤ 40) (hN : g 8 0 = nI N) : fq_MI l V y_M_distance b_M_distance 2 .int 1 [.ref (o 0), .int x] (fq_WM V o mo) g (fun r u => u = g ∧ r = fq_distF g N x) := by
  refine fq_MI_of (lv := [(0, .ref (o 0)), (1, .int x)]) (by decide) (Nat.le_of_ble_eq_true rfl) rfl ?_
  intro p e s m args below meth c A Q hC hret ls hl hQ
  have hxx := hC.1
  have hbb := hC.2.1
  refine lv_aload_n hxx hbb fd_M_distance_0 rfl (lv_at hl 0 rfl) ?_
  refine fg_M_hasWays hC hQ fd_M_distance_1 (v := g 8 7) rfl ?_
  refine lv_if_eq (tgt := 33) hxx hbb fd_M_distance_4 (by decide) (fun c4 => ?_) (fun c4 => ?_)
  · refine lv_iconst (v := (-1)) hxx hbb fd_M_distance_33 (by decide) ?_
    exact hret _ _ _ _ _ _ fd_M_distance_34 hQ ⟨rfl, (fq_dist_no (Or.inl c4)).1.symm⟩ rfl
  · refine lv_aload_n hxx hbb fd_M_distance_7 rfl (lv_at hl 0 rfl) ?_
    refine lv_iload_n hxx hbb fd_M_distance_8 rfl (lv_at hl 1 rfl) ?_
    refine fq_callI hC (fc_M_isItem l V o mo g x N h40 hN) fw_M_51 ⟨Nat.le_of_ble_eq_true rfl, Nat.le_of_ble_eq_true rfl⟩ rfl rfl rfl hQ rfl hl.1 (rest := []) rfl (Nat.le_of_ble_eq_true rfl) fd_M_distance_9 ⟨Nat.le_refl _, Nat.le_refl _⟩ (fun r9 u9 H locs hp9 hQ => ?_)
    rw [hp9.1] at hQ
    refine lv_if_eq (tgt := 33) hxx hbb fd_M_distance_12 (by decide) (fun c12 => ?_) (fun c12 => ?_)
    · refine lv_iconst (v := (-1)) hxx hbb fd_M_distance_33 (by decide) ?_
      exact hret _ _ _ _ _ _ fd_M_distance_34 hQ ⟨rfl, (fq_dist_no (Or.inr (fq_itm_f (fq_no hp9.2 c12)))).1.symm⟩ rfl
    · obtain ⟨j, hj, ej⟩ := fq_yes hp9.2 c12
      subst ej
      refine lv_aload_n hxx hbb fd_M_distance_15 rfl (lv_at hl 0 rfl) ?_
      refine fg_M_taken hC hQ fd_M_distance_16 ?_
      refine lv_iload_n hxx hbb fd_M_distance_19 rfl (lv_at hl 1 rfl) ?_
      refine fr_M_taken hC hQ j rfl (by omega) fd_M_distance_20 (v := g 6 j) rfl ?_
      refine lv_if_eq (tgt := 33) hxx hbb fd_M_distance_21 (by decide) (fun c21 => ?_) (fun c21 => ?_)
      · refine lv_iconst (v := (-1)) hxx hbb fd_M_distance_33 (by decide) ?_
        exact hret _ _ _ _ _ _ fd_M_distance_34 hQ ⟨rfl, by unfold fq_distF; rw [nI_clamp (by omega), if_neg (fun q => q.2.2 c21)]⟩ rfl
      · refine lv_aload_n hxx hbb fd_M_distance_24 rfl (lv_at hl 0 rfl) ?_
        refine fg_M_ways hC hQ fd_M_distance_25 ?_
        refine lv_iload_n hxx hbb fd_M_distance_28 rfl (lv_at hl 1 rfl) ?_
        refine fr_M_ways hC hQ j rfl (by omega) fd_M_distance_29 (v := g 4 j) rfl ?_
        refine lv_goto (tgt := 34) hxx hbb fd_M_distance_30 (by decide) ?_
        exact hret _ _ _ _ _ _ fd_M_distance_34 hQ ⟨rfl, by unfold fq_distF; rw [nI_clamp (by omega), if_pos ⟨c4, fq_itm_t h40 hj, c21⟩]⟩ rfl
set_option maxHeartbeats 4000000 in
set_option maxRecDepth 100000 in
theorem fc_M_before (l : Launch) (V : fq_V) (o : Nat → Nat) (mo : Nat) (g : fq_G) (x : Int32) (N : Nat) (h40 : N ≤ 40) (hN : g 8 0 = nI N) : fq_MI l V y_M_before b_M_before 2 .int 1 [.ref (o 0), .int x] (fq_WM V o mo) g (fun r u => u = g ∧ r = fq_befF g N x) := by
  refine fq_MI_of (lv := [(0, .ref (o 0)), (1, .int x)]) (by decide) (Nat.le_of_ble_eq_true rfl) rfl ?_
  intro p e s m args below meth c A Q hC hret ls hl hQ
  have hxx := hC.1
  have hbb := hC.2.1
  refine lv_aload_n hxx hbb fd_M_before_0 rfl (lv_at hl 0 rfl) ?_
  refine fg_M_hasWays hC hQ fd_M_before_1 (v := g 8 7) rfl ?_
  refine lv_if_eq (tgt := 33) hxx hbb fd_M_before_4 (by decide) (fun c4 => ?_) (fun c4 => ?_)
  · refine lv_iconst (v := (-1)) hxx hbb fd_M_before_33 (by decide) ?_
    exact hret _ _ _ _ _ _ fd_M_before_34 hQ ⟨rfl, (fq_dist_no (Or.inl c4)).2.symm⟩ rfl
  · refine lv_aload_n hxx hbb fd_M_before_7 rfl (lv_at hl 0 rfl) ?_
    refine lv_iload_n hxx hbb fd_M_before_8 rfl (lv_at hl 1 rfl) ?_
    refine fq_callI hC (fc_M_isItem l V o mo g x N h40 hN) fw_M_51 ⟨Nat.le_of_ble_eq_true rfl, Nat.le_of_ble_eq_true rfl⟩ rfl rfl rfl hQ rfl hl.1 (rest := []) rfl (Nat.le_of_ble_eq_true rfl) fd_M_before_9 ⟨Nat.le_refl _, Nat.le_refl _⟩ (fun r9 u9 H locs hp9 hQ => ?_)
    rw [hp9.1] at hQ
    refine lv_if_eq (tgt := 33) hxx hbb fd_M_before_12 (by decide) (fun c12 => ?_) (fun c12 => ?_)
    · refine lv_iconst (v := (-1)) hxx hbb fd_M_before_33 (by decide) ?_
      exact hret _ _ _ _ _ _ fd_M_before_34 hQ ⟨rfl, (fq_dist_no (Or.inr (fq_itm_f (fq_no hp9.2 c12)))).2.symm⟩ rfl
    · obtain ⟨j, hj, ej⟩ := fq_yes hp9.2 c12
      subst ej
      refine lv_aload_n hxx hbb fd_M_before_15 rfl (lv_at hl 0 rfl) ?_
      refine fg_M_taken hC hQ fd_M_before_16 ?_
      refine lv_iload_n hxx hbb fd_M_before_19 rfl (lv_at hl 1 rfl) ?_
      refine fr_M_taken hC hQ j rfl (by omega) fd_M_before_20 (v := g 6 j) rfl ?_
      refine lv_if_eq (tgt := 33) hxx hbb fd_M_before_21 (by decide) (fun c21 => ?_) (fun c21 => ?_)
      · refine lv_iconst (v := (-1)) hxx hbb fd_M_before_33 (by decide) ?_
        exact hret _ _ _ _ _ _ fd_M_before_34 hQ ⟨rfl, by unfold fq_befF; rw [nI_clamp (by omega), if_neg (fun q => q.2.2 c21)]⟩ rfl
      · refine lv_aload_n hxx hbb fd_M_before_24 rfl (lv_at hl 0 rfl) ?_
        refine fg_M_formers hC hQ fd_M_before_25 ?_
        refine lv_iload_n hxx hbb fd_M_before_28 rfl (lv_at hl 1 rfl) ?_
        refine fr_M_formers hC hQ j rfl (by omega) fd_M_before_29 (v := g 5 j) rfl ?_
        refine lv_goto (tgt := 34) hxx hbb fd_M_before_30 (by decide) ?_
        exact hret _ _ _ _ _ _ fd_M_before_34 hQ ⟨rfl, by unfold fq_befF; rw [nI_clamp (by omega), if_pos ⟨c4, fq_itm_t h40 hj, c21⟩]⟩ rfl
set_option maxHeartbeats 4000000 in
set_option maxRecDepth 100000 in
theorem fc_M_sound (l : Launch) (V : fq_V) (o : Nat → Nat) (mo : Nat) (g : fq_G)  : fq_MI l V y_M_sound b_M_sound 1 .boolean 0 [.ref (o 0)] (fq_WM V o mo) g (fun r u => u = g ∧ r = 1) := by
  refine fq_MI_of (lv := [(0, .ref (o 0))]) (by decide) (Nat.le_of_ble_eq_true rfl) rfl ?_
  intro p e s m args below meth c A Q hC hret ls hl hQ
  have hxx := hC.1
  have hbb := hC.2.1
  refine lv_iconst (v := 1) hxx hbb fd_M_sound_0 (by decide) ?_
  exact hret _ _ _ _ _ _ fd_M_sound_1 hQ ⟨rfl, rfl⟩ rfl
set_option maxHeartbeats 4000000 in
set_option maxRecDepth 100000 in
theorem fc_M_count (l : Launch) (V : fq_V) (o : Nat → Nat) (mo : Nat) (g : fq_G) (x : Int32) : fq_MI l V y_M_count b_M_count 2 .int 0 [.ref (o 0), .int x] (fq_WM V o mo) g (fun r u => u = g ∧ r = fq_countF g x) := by
  refine fq_MI_of (lv := [(0, .ref (o 0)), (1, .int x)]) (by decide) (Nat.le_of_ble_eq_true rfl) rfl ?_
  intro p e s m args below meth c A Q hC hret ls hl hQ
  have hxx := hC.1
  have hbb := hC.2.1
  refine lv_iload_n hxx hbb fd_M_count_0 rfl (lv_at hl 1 rfl) ?_
  refine lv_if_ne (tgt := 11) hxx hbb fd_M_count_1 (by decide) (fun c1 => ?_) (fun c1 => ?_)
  · refine lv_iload_n hxx hbb fd_M_count_11 rfl (lv_at hl 1 rfl) ?_
    refine lv_iconst (v := 1) hxx hbb fd_M_count_12 (by decide) ?_
    refine lv_icmp_ne (tgt := 23) hxx hbb fd_M_count_13 (by decide) (fun c13 => ?_) (fun c13 => ?_)
    · refine lv_iload_n hxx hbb fd_M_count_23 rfl (lv_at hl 1 rfl) ?_
      refine lv_iconst (v := 2) hxx hbb fd_M_count_24 (by decide) ?_
      refine lv_icmp_ne (tgt := 35) hxx hbb fd_M_count_25 (by decide) (fun c25 => ?_) (fun c25 => ?_)
      · refine lv_iconst (v := (-1)) hxx hbb fd_M_count_35 (by decide) ?_
        exact hret _ _ _ _ _ _ fd_M_count_36 hQ ⟨rfl, by unfold fq_countF; rw [if_neg c1, if_neg c13, if_neg c25]⟩ rfl
      · refine lv_aload_n hxx hbb fd_M_count_28 rfl (lv_at hl 0 rfl) ?_
        refine fg_M_calls hC hQ fd_M_count_29 (v := g 8 5) rfl ?_
        refine lv_goto (tgt := 36) hxx hbb fd_M_count_32 (by decide) ?_
        exact hret _ _ _ _ _ _ fd_M_count_36 hQ ⟨rfl, by unfold fq_countF; rw [if_neg c1, if_neg c13, if_pos c25]⟩ rfl
    · refine lv_aload_n hxx hbb fd_M_count_16 rfl (lv_at hl 0 rfl) ?_
      refine fg_M_arcs hC hQ fd_M_count_17 (v := g 8 6) rfl ?_
      refine lv_goto (tgt := 36) hxx hbb fd_M_count_20 (by decide) ?_
      exact hret _ _ _ _ _ _ fd_M_count_36 hQ ⟨rfl, by unfold fq_countF; rw [if_neg c1, if_pos c13]⟩ rfl
  · refine lv_aload_n hxx hbb fd_M_count_4 rfl (lv_at hl 0 rfl) ?_
    refine fg_M_items hC hQ fd_M_count_5 (v := g 8 0) rfl ?_
    refine lv_goto (tgt := 36) hxx hbb fd_M_count_8 (by decide) ?_
    exact hret _ _ _ _ _ _ fd_M_count_36 hQ ⟨rfl, by unfold fq_countF; rw [if_pos c1]⟩ rfl
set_option maxHeartbeats 4000000 in
set_option maxRecDepth 100000 in
theorem fc_M_clear (l : Launch) (V : fq_V) (o : Nat → Nat) (mo : Nat) (g : fq_G)  : fq_MV l V y_M_clear b_M_clear 2 0 [.ref (o 0)] (fq_WM V o mo) g (fun u => u = fq_clrM g) := by
  refine fq_MV_of (lv := [(0, .ref (o 0))]) (by decide) (Nat.le_of_ble_eq_true rfl) rfl ?_
  intro p e s m args below meth c A Q hC hret ls hl hQ
  have hxx := hC.1
  have hbb := hC.2.1
  refine lv_iconst (v := (nI 0)) hxx hbb fd_M_clear_0 (by decide) ?_
  refine lv_istore_n (lv' := [(1, .int (nI 0)), (0, .ref (o 0))]) hxx hbb fd_M_clear_1 rfl hl (by decide) rfl (fun ls hl => ?_)
  have loop2 : ∀ (n : Nat) (k : Nat) (g1 : fq_G), k ≤ 40 → 40 < k + n → g1 = fq_row g 0 (fq_fill (g 0) k (-1)) → ∀ (H : Heap) (locs : List Loc) (ls : Array Slot), fq_Hp V A s.heap (fq_WM V o mo g1) H locs → lv_has ls 2 [(0, .ref (o 0)), (1, .int (nI k))] → W p l e (fq_Rm 0) s m args below meth c H locs 0 0 Q (F0 m 2 ls []) := by
    intro n
    induction n with
    | zero =>
      intro k g1 hk hn hg1
      omega
    | succ n ih2 =>
      intro k g1 hk hn hg1 H locs ls hQ hl
      refine lv_iload_n hxx hbb fd_M_clear_2 rfl (lv_at hl 1 rfl) ?_
      refine lv_bipush (v := (nI 40)) hxx hbb fd_M_clear_3 (by decide) ?_
      refine lv_icmp_ge (tgt := 21) hxx hbb fd_M_clear_5 (by decide) (fun c5 => ?_) (fun c5 => ?_)
      · refine lv_aload_n hxx hbb fd_M_clear_21 rfl (lv_at hl 0 rfl) ?_
        refine lv_iconst (v := 0) hxx hbb fd_M_clear_22 (by decide) ?_
        refine fp_M_lowest hC hQ fd_M_clear_23 (fun H locs hQ => ?_)
        have hk40 : k = 40 := by have h9 := (nI_leI (by omega) (by omega)).mp c5; omega
        subst hk40
        exact hret _ _ _ _ _ fd_M_clear_26 hQ (by rw [hg1]; rfl)
      · have hk40 : k < 40 := Nat.not_le.mp (fun q => c5 (nI_le q (by omega)))
        refine lv_aload_n hxx hbb fd_M_clear_8 rfl (lv_at hl 0 rfl) ?_
        refine fg_M_keys hC hQ fd_M_clear_9 ?_
        refine lv_iload_n hxx hbb fd_M_clear_12 rfl (lv_at hl 1 rfl) ?_
        refine lv_iconst (v := (-1)) hxx hbb fd_M_clear_13 (by decide) ?_
        refine fs_M_keys hC hQ k rfl (by omega) fd_M_clear_14 (fun H locs hQ => ?_)
        refine lv_iinc (v := nI (k + 1)) (lv' := [(1, .int (nI (k + 1))), (0, .ref (o 0))]) hxx hbb fd_M_clear_15 hl (k := 1) rfl (fq_inc k) (by decide) rfl (fun ls hl => ?_)
        refine lv_goto (tgt := 2) hxx hbb fd_M_clear_18 (by decide) ?_
        exact ih2 (k + 1) _ (by omega) (by omega) (by rw [hg1, fq_us_row, fq_fill_s]) _ _ _ hQ (lv_sub hl [1, 0] rfl)
  exact loop2 41 0 g (by omega) (by omega) (by rw [fq_fill_0, fq_row_self]) _ _ _ hQ (lv_sub hl [1, 0] rfl)
end
section
/-! pure rows: the plain form's pop, reach, spread, run -/
def fq_PS (K : Nat → Int32) (N j : Nat) (x : Int32) : Prop := (x = -1 ∧ ∀ k, j ≤ k → k < N → K k = -1) ∨ ∃ f, j ≤ f ∧ f < N ∧ x = nI f ∧ K f ≠ -1 ∧ ∀ k, j ≤ k → k < N → K k ≠ -1 → fq_bt K f k
theorem fq_PS_0 (K : Nat → Int32) (N : Nat) : fq_PS K N N (-1) := Or.inl ⟨rfl, fun k h1 h2 => by omega⟩
theorem fq_PS_skip {K : Nat → Int32} {N j : Nat} {x : Int32} (h : fq_PS K N (j + 1) x) (h0 : K j = -1) : fq_PS K N j x := by
  rcases h with ⟨h1, h2⟩ | ⟨f, h1, h2, h3, h4, h5⟩
  · refine Or.inl ⟨h1, fun k hk hkN => ?_⟩
    by_cases c : k = j
    · rw [c]; exact h0
    · exact h2 k (by omega) hkN
  · refine Or.inr ⟨f, by omega, h2, h3, h4, fun k hk hkN hk0 => ?_⟩
    by_cases c : k = j
    · rw [c] at hk0; exact absurd h0 hk0
    · exact h5 k (by omega) hkN hk0
theorem fq_PS_take1 {K : Nat → Int32} {N j : Nat} {x : Int32} (h : fq_PS K N (j + 1) x) (hN : N ≤ 40) (hx : x = -1) (hj : j < N) (h0 : K j ≠ -1) : fq_PS K N j (nI j) := by
  rcases h with ⟨h1, h2⟩ | ⟨f, h1, h2, h3, h4, h5⟩
  · refine Or.inr ⟨j, Nat.le_refl _, hj, rfl, h0, fun k hk hkN hk0 => ?_⟩
    by_cases c : k = j
    · rw [c]; exact fq_bt_rf K j
    · exact absurd (h2 k (by omega) hkN) hk0
  · exact absurd (h3.symm.trans hx) (fq_nI_ne (by omega))
theorem fq_PS_take2 {K : Nat → Int32} {N j f : Nat} (h1 : j + 1 ≤ f) (h5 : ∀ k, j + 1 ≤ k → k < N → K k ≠ -1 → fq_bt K f k) (hj : j < N) (h0 : K j ≠ -1) (hle : ¬ K f < K j) : fq_PS K N j (nI j) := by
  have hb : fq_bt K j f := by
    unfold fq_bt
    simp only [Int32.lt_iff_toInt_lt, ← Int32.toInt_inj] at *
    omega
  refine Or.inr ⟨j, Nat.le_refl _, hj, rfl, h0, fun k hk hkN hk0 => ?_⟩
  by_cases c : k = j
  · rw [c]; exact fq_bt_rf K j
  · exact fq_bt_tr hb (h5 k (by omega) hkN hk0)
theorem fq_PS_keep {K : Nat → Int32} {N j f : Nat} (h1 : j + 1 ≤ f) (h2 : f < N) (h4 : K f ≠ -1) (h5 : ∀ k, j + 1 ≤ k → k < N → K k ≠ -1 → fq_bt K f k) (hlt : K f < K j) : fq_PS K N j (nI f) := by
  refine Or.inr ⟨f, by omega, h2, rfl, h4, fun k hk hkN hk0 => ?_⟩
  by_cases c : k = j
  · rw [c]; exact Or.inl hlt
  · exact h5 k (by omega) hkN hk0
theorem fq_popM_of {g g1 : fq_G} {N f : Nat} (h : g1 = fq_us g 8 4 (g 8 4 + nI (fq_cnt (fq_inb g (fq_dk (g 0 f) (g 8 3))) N))) : fq_us g1 8 3 (g 0 f) = fq_popM g N f := by
  rw [h]
  rfl
theorem fq_pl_y {g g1 : fq_G} {k D : Nat} (h : g1 = fq_us g 8 4 (g 8 4 + nI (fq_cnt (fq_inb g D) k))) (hy : fq_inb g D k = true) : fq_us g1 8 4 (g1 8 4 + 1) = fq_us g 8 4 (g 8 4 + nI (fq_cnt (fq_inb g D) (k + 1))) := by
  have e : g1 8 4 = g 8 4 + nI (fq_cnt (fq_inb g D) k) := by rw [h]; simp [fq_us, upd]
  rw [e, h, fq_us_us, Int32.add_assoc, fq_cnt_y hy]
theorem fq_pl_n {g g1 : fq_G} {k D : Nat} (h : g1 = fq_us g 8 4 (g 8 4 + nI (fq_cnt (fq_inb g D) k))) (hy : fq_inb g D k = false) : fq_us g1 8 4 (g1 8 4 + 0) = fq_us g 8 4 (g 8 4 + nI (fq_cnt (fq_inb g D) (k + 1))) := by
  have e : g1 8 4 = g 8 4 + nI (fq_cnt (fq_inb g D) k) := by rw [h]; simp [fq_us, upd]
  rw [e, h, fq_us_us, Int32.add_assoc, fq_cnt_n hy]
theorem fq_bmod64 (z : Int) (h : 0 ≤ z) (h2 : z < 4294967296) : z.bmod (2 ^ 64) = z := by
  simp only [Int.bmod]
  split <;> omega
theorem fq_L0 {x y : Int32} (hx : 0 ≤ x.toInt) (hy : 0 ≤ y.toInt) : (x.toInt64 + y.toInt64).toInt = x.toInt + y.toInt := by
  have h1 := x.toInt_lt
  have h2 := y.toInt_lt
  rw [Int64.toInt_add, Int32.toInt_toInt64, Int32.toInt_toInt64, fq_bmod64 _ (by omega) (by omega)]
theorem fq_L1 {x y : Int32} (hx : 0 ≤ x.toInt) (hy : 0 ≤ y.toInt) : lg_cmp (x.toInt64 + y.toInt64) 2147483647 ≤ 0 ↔ ¬ x + y < 0 := by
  have h1 := x.toInt_lt
  have h2 := y.toInt_lt
  have e := fq_L0 hx hy
  have e2 : (2147483647 : Int64).toInt = 2147483647 := by decide
  rw [Int32.lt_iff_toInt_lt, fq_add_toInt hx hy, Int32.toInt_zero]
  unfold lg_cmp
  simp only [gt_iff_lt, Int64.lt_iff_toInt_lt, ← Int64.toInt_inj, e, e2]
  by_cases c : 2147483647 < x.toInt + y.toInt
  · rw [if_pos c, if_neg (by omega)]
    constructor
    · intro q
      exact absurd q (by decide)
    · intro q
      omega
  · rw [if_neg c]
    have e3 : (if x.toInt + y.toInt < 2147483648 then x.toInt + y.toInt else x.toInt + y.toInt - 4294967296) = x.toInt + y.toInt := if_pos (by omega)
    rw [e3]
    constructor
    · intro _
      omega
    · intro _
      split <;> decide
theorem fq_L2 {x y : Int32} (hx : 0 ≤ x.toInt) (hy : 0 ≤ y.toInt) : (x.toInt64 + y.toInt64).toInt32 = x + y := by
  apply Int32.toInt_inj.mp
  rw [Int64.toInt_toInt32, fq_L0 hx hy, Int32.toInt_add]
theorem fq_L3 {x y k : Int32} (hx : 0 ≤ x.toInt) (hy : 0 ≤ y.toInt) (hs : ¬ x + y < 0) : 0 ≤ lg_cmp (x.toInt64 + y.toInt64) k.toInt64 ↔ ¬ x + y < k := by
  rw [lg_cmp_ge, Int64.le_iff_toInt_le, fq_L0 hx hy, Int32.toInt_toInt64, Int32.lt_iff_toInt_lt, fq_add_nn hx hy hs]
  omega
/-- near: what spread knows after r rounds -/
def fq_cl (g : fq_G) (E : Nat) (S : Nat → Prop) : Prop := ∀ j, j < E → S (g 1 j).toNatClampNeg → S (g 2 j).toNatClampNeg
def fq_nz (nr : Nat → Int32) (k : Nat) : Bool := decide (nr k ≠ 0)
def fq_NS (g : fq_G) (N E fr r : Nat) (nr : Nat → Int32) : Prop := nr fr ≠ 0 ∧ (∀ S : Nat → Prop, S fr → fq_cl g E S → ∀ k, k < N → nr k ≠ 0 → S k) ∧ (fq_cl g E (fun k => nr k ≠ 0) ∨ r + 1 ≤ fq_cnt (fq_nz nr) N)
def fq_NI (g : fq_G) (N E k : Nat) (nr nq : Nat → Int32) : Prop := (∀ i, nr i ≠ 0 → nq i ≠ 0) ∧ (∀ j, j < k → nr (g 1 j).toNatClampNeg ≠ 0 → nq (g 2 j).toNatClampNeg ≠ 0) ∧ ∀ S : Nat → Prop, (∀ i, i < N → nr i ≠ 0 → S i) → fq_cl g E S → ∀ i, i < N → nq i ≠ 0 → S i
theorem fq_NI_0 (g : fq_G) (N E : Nat) (nr : Nat → Int32) : fq_NI g N E 0 nr nr := ⟨fun _ h => h, fun j hj => absurd hj (Nat.not_lt_zero _), fun S h _ i hi hn => h i hi hn⟩
theorem fq_NI_1 {g : fq_G} {N M E k u v : Nat} {nr nq : Nat → Int32} (h40 : N ≤ 40) (h : fq_NI g N E k nr nq) (hk : k < E) (hu : u < N) (eu : g 1 k = nI u) (ev : g 2 k = nI v) (hor : nq v ≠ 0 ∨ nq u ≠ 0) (hv : v < N) : fq_NI g N E (k + 1) nr (upd nq v 1) := by
  obtain ⟨h1, h2, h3⟩ := h
  refine ⟨fun i hi => ?_, fun j hj hn => ?_, fun S hS hcl i hi hn => ?_⟩
  · by_cases c : i = v
    · simp [upd, c]
    · simp only [upd, if_neg c]
      exact h1 i hi
  · by_cases c : (g 2 j).toNatClampNeg = v
    · simp [upd, c]
    · simp only [upd, if_neg c]
      by_cases c2 : j = k
      · rw [c2, ev, nI_clamp (by omega)] at c
        exact absurd rfl c
      · exact h2 j (by omega) hn
  · by_cases c : i = v
    · rw [c]
      rcases hor with q | q
      · exact h3 S hS hcl v hv q
      · have h5 := hcl k hk (by rw [eu, nI_clamp (by omega)]; exact h3 S hS hcl u hu q)
        rw [ev, nI_clamp (by omega)] at h5
        exact h5
    · simp only [upd, if_neg c] at hn
      exact h3 S hS hcl i hi hn
theorem fq_NI_2 {g : fq_G} {N M E k u v : Nat} {nr nq : Nat → Int32} (h40 : N ≤ 40) (h : fq_NI g N E k nr nq) (hk : k < E) (hu : u < N) (eu : g 1 k = nI u) (ev : g 2 k = nI v) (hv : v < N) (hv0 : nq v = 0) (hu0 : nq u = 0) : fq_NI g N E (k + 1) nr (upd nq v 0) := by
  have e : upd nq v 0 = nq := by
    funext i
    unfold upd
    by_cases c : i = v
    · rw [if_pos c, c, hv0]
    · rw [if_neg c]
  rw [e]
  obtain ⟨h1, h2, h3⟩ := h
  refine ⟨h1, fun j hj hn => ?_, h3⟩
  by_cases c2 : j = k
  · rw [c2, eu, nI_clamp (by omega)] at hn
    exact absurd hu0 (h1 u hn)
  · exact h2 j (by omega) hn
theorem fq_NS_step {g : fq_G} {N E fr r : Nat} {nr nq : Nat → Int32} (hG : ∀ j, j < E → ∃ u, u < N ∧ g 1 j = nI u) (hN : N ≤ 40) (h : fq_NS g N E fr r nr) (hi : fq_NI g N E E nr nq) : fq_NS g N E fr (r + 1) nq := by
  obtain ⟨a1, a2, a3⟩ := h
  obtain ⟨h1, h2, h3⟩ := hi
  refine ⟨h1 fr a1, fun S hS hcl k hk hn => h3 S (fun i hi2 hn2 => a2 S hS hcl i hi2 hn2) hcl k hk hn, ?_⟩
  by_cases c : ∃ i, i < N ∧ nq i ≠ 0 ∧ nr i = 0
  · obtain ⟨i, i1, i2, i3⟩ := c
    rcases a3 with a3 | a3
    · exact absurd i3 (h3 (fun k => nr k ≠ 0) (fun _ _ q => q) a3 i i1 i2)
    · right
      have := fq_cnt_strict (P := fq_nz nr) (P' := fq_nz nq) (n := N) (i := i) (fun k _ hk => by simp only [fq_nz, decide_eq_true_eq] at hk ⊢; exact h1 k hk) i1 (by simp [fq_nz, i3]) (by simp [fq_nz, i2])
      omega
  · left
    intro j hj hn
    obtain ⟨u, hu, eu⟩ := hG j hj
    refine h2 j hj ?_
    show nr (g 1 j).toNatClampNeg ≠ 0
    intro q
    exact c ⟨(g 1 j).toNatClampNeg, by rw [eu, nI_clamp (by omega)]; exact hu, hn, q⟩
theorem fq_NS_0 {g : fq_G} {N E fr : Nat} {nr : Nat → Int32} (hfr : fr < N) (hN : N ≤ 40) (h : ∀ i, i < 40 → nr i = if i = fr then 1 else 0) : fq_NS g N E fr 0 nr := by
  have hf : nr fr ≠ 0 := by rw [h fr (by omega)]; simp
  refine ⟨hf, fun S hS _ k hk hn => ?_, Or.inr ?_⟩
  · rw [h k (by omega)] at hn
    by_cases c : k = fr
    · rw [c]; exact hS
    · rw [if_neg c] at hn
      exact absurd rfl hn
  · have : ¬ fq_cnt (fq_nz nr) N = 0 := fun q => by
      have := fq_cnt_zero.mp q fr hfr
      simp [fq_nz, hf] at this
    omega
theorem fq_NS_end {g : fq_G} {N E fr : Nat} {nr : Nat → Int32} (h : fq_NS g N E fr N nr) : fq_cl g E (fun k => nr k ≠ 0) := by
  rcases h.2.2 with q | q
  · exact q
  · have := fq_cnt_le (fq_nz nr) N
    omega
/-- isOver's answer, told by 'near' -/
theorem fq_over_near {b : fq_G} {N M E C P fr : Nat} {nr : Nat → Int32} (hRP : fq_RP b N M E C P fr) (hfr : fr < N) (hc : fq_cnt (fq_th b) N = 0) (hn : nr fr ≠ 0) (hmin : ∀ S : Nat → Prop, S fr → fq_cl b E S → ∀ k, k < N → nr k ≠ 0 → S k) (hcl : fq_cl b E (fun k => nr k ≠ 0)) :
    (∀ i, i < N → b 6 i ≠ 0 ∨ nr i = 0) ↔ fq_cnt (fq_ov b) E = 0 := by
  obtain ⟨hA, hG, hR, hCl⟩ := hRP
  have h40 := hA.2.1
  have hk0 : ∀ k, k < N → b 0 k = -1 := fun k hk => by
    have := fq_cnt_zero.mp hc k hk
    simpa [fq_th] using this
  constructor
  · intro h
    refine fq_cnt_zero.mpr (fun j hj => ?_)
    obtain ⟨⟨u, hu, eu⟩, ⟨v, hv, ev⟩, -⟩ := hG.2.2.2.2.2 j hj
    by_cases c : b 6 u = 0
    · exact fq_ov_f eu (by omega) c
    · have hun : nr u ≠ 0 := hCl.1 (fun k => nr k ≠ 0) hn hcl u hu (Or.inl c)
      have hvn := hcl j hj (by rw [eu, nI_clamp (by omega)]; exact hun)
      rw [ev, nI_clamp (by omega)] at hvn
      exact fq_ov_f2 ev (by omega) (fun q => by
        rcases h v hv with z | z
        · exact z q
        · exact hvn z)
  · intro h i hi
    by_cases c : nr i = 0
    · exact Or.inr c
    · left
      refine hmin (fun k => b 6 k ≠ 0) ?_ ?_ i hi c
      · rcases hCl.2 with q | q
        · exact q
        · exact absurd (hk0 fr hfr) q
      · intro j hj hu6
        obtain ⟨⟨u, hu, eu⟩, ⟨v, hv, ev⟩, -⟩ := hG.2.2.2.2.2 j hj
        show b 6 (b 2 j).toNatClampNeg ≠ 0
        intro q
        have := fq_cnt_zero.mp h j hj
        unfold fq_ov at this
        rw [decide_eq_false_iff_not] at this
        exact this ⟨hu6, q⟩
theorem fq_rr {g : fq_G} : fq_row (fq_row (fq_clrM g) 6 (fq_fill (g 6) 0 0)) 5 (fq_fill (g 5) 0 (-1)) = fq_clrM g := by
  rw [fq_fill_0, fq_fill_0]
  funext r
  unfold fq_row
  by_cases c : r = 5
  · rw [if_pos c, c, fq_clrM_o g (by decide) (by decide)]
  · rw [if_neg c]
    by_cases c2 : r = 6
    · rw [if_pos c2, c2, fq_clrM_o g (by decide) (by decide)]
    · rw [if_neg c2]
theorem fq_rs (c : fq_G) (F K : Nat → Int32) (k : Nat) (x y : Int32) : fq_us (fq_us (fq_row (fq_row c 6 F) 5 K) 6 k x) 5 k y = fq_row (fq_row c 6 (upd F k x)) 5 (upd K k y) := by
  funext r
  unfold fq_us fq_row
  by_cases h5 : r = 5
  · subst h5
    simp
  · by_cases h6 : r = 6
    · subst h6
      simp
    · simp [h5, h6]
theorem fq_row_us (b : fq_G) (nr : Nat → Int32) (z : Int32) : fq_us (fq_row b 7 nr) 8 7 z = fq_row (fq_us b 8 7 z) 7 nr := by
  funext r
  unfold fq_us fq_row
  by_cases h7 : r = 7
  · subst h7
    simp
  · by_cases h8 : r = 8
    · subst h8
      simp
    · simp [h7, h8]
/-- the least key, as run looks for it -/
def fq_LK (K : Nat → Int32) (k : Nat) (x : Int32) : Prop := (∀ i, i < k → K i ≠ -1 → x.toInt ≤ (K i).toInt) ∧ (x = 2147483647 ∨ ∃ i, i < k ∧ K i ≠ -1 ∧ x = K i)
theorem fq_LK_0 (K : Nat → Int32) : fq_LK K 0 2147483647 := ⟨fun i hi => absurd hi (Nat.not_lt_zero _), Or.inl rfl⟩
theorem fq_LK_keep {K : Nat → Int32} {k : Nat} {x : Int32} (h : fq_LK K k x) (h0 : K k = -1 ∨ x ≤ K k) : fq_LK K (k + 1) x := by
  refine ⟨fun i hi hi0 => ?_, ?_⟩
  · by_cases c : i = k
    · subst c
      rcases h0 with q | q
      · exact absurd q hi0
      · exact Int32.le_iff_toInt_le.mp q
    · exact h.1 i (by omega) hi0
  · rcases h.2 with q | ⟨i, i1, i2, i3⟩
    · exact Or.inl q
    · exact Or.inr ⟨i, by omega, i2, i3⟩
theorem fq_LK_take {K : Nat → Int32} {k : Nat} {x : Int32} (h : fq_LK K k x) (h0 : K k ≠ -1) (hlt : ¬ x ≤ K k) : fq_LK K (k + 1) (K k) := by
  rw [Int32.le_iff_toInt_le] at hlt
  refine ⟨fun i hi hi0 => ?_, Or.inr ⟨k, by omega, h0, rfl⟩⟩
  by_cases c : i = k
  · subst c
    exact Int.le_refl _
  · have := h.1 i (by omega) hi0
    omega
theorem fq_LK_end {K : Nat → Int32} {N f : Nat} {x : Int32} (h : fq_LK K N x) (hf : fq_isL K N f) : x = K f := by
  apply Int32.toInt_inj.mp
  have h1 := h.1 f hf.1 hf.2.1
  rcases h.2 with q | ⟨i, i1, i2, i3⟩
  · have h2 := (K f).toInt_lt
    have e : (2147483647 : Int32).toInt = 2147483647 := by decide
    rw [q, e] at h1 ⊢
    omega
  · have h2 := fq_bt_le (hf.2.2 i i1 i2)
    rw [i3] at h1 ⊢
    omega
end
section
set_option maxHeartbeats 4000000 in
set_option maxRecDepth 100000 in
theorem fc_M_pop (l : Launch) (V : fq_V) (o : Nat → Nat) (mo : Nat) (g : fq_G) (N C P : Nat) (hA : fq_AB g N C P) : fq_MI l V y_M_pop b_M_pop 4 .int 1 [.ref (o 0)] (fq_WM V o mo) g (fun r u => (fq_cnt (fq_th g) N = 0 ∧ r = -1 ∧ u = g) ∨ ∃ f, fq_isL (g 0) N f ∧ r = nI f ∧ u = fq_popG g N f) := by
  refine fq_MI_of (lv := [(0, .ref (o 0))]) (by decide) (Nat.le_of_ble_eq_true rfl) rfl ?_
  intro p e s m args below meth c A Q hC hret ls hl hQ
  have hxx := hC.1
  have hbb := hC.2.1
  have h40 := hA.2.1
  refine lv_iconst (v := (-1)) hxx hbb fd_M_pop_0 (by decide) ?_
  refine lv_istore_n (lv' := [(1, .int (-1)), (0, .ref (o 0))]) hxx hbb fd_M_pop_1 rfl hl (by decide) rfl (fun ls hl => ?_)
  refine lv_aload_n hxx hbb fd_M_pop_2 rfl (lv_at hl 1 rfl) ?_
  refine fg_M_items hC hQ fd_M_pop_3 (v := nI N) hA.2.2.1 ?_
  refine lv_iconst (v := 1) hxx hbb fd_M_pop_6 (by decide) ?_
  refine lv_isub hxx hbb fd_M_pop_7 ?_
  refine lv_istore_n (lv' := [(2, .int ((nI N) - 1)), (1, .int (-1)), (0, .ref (o 0))]) hxx hbb fd_M_pop_8 rfl hl (by decide) rfl (fun ls hl => ?_)
  have loop9 : ∀ (n : Nat) (j : Nat) (x1 : Int32), j ≤ N → j < n → fq_PS (g 0) N j x1 → ∀ (H : Heap) (locs : List Loc) (ls : Array Slot), fq_Hp V A s.heap (fq_WM V o mo g) H locs → lv_has ls 4 [(0, .ref (o 0)), (1, .int x1), (2, .int (nI j - 1))] → W p l e (fq_Rm 1) s m args below meth c H locs 0 0 Q (F0 m 9 ls []) := by
    intro n
    induction n with
    | zero =>
      intro j x1 hj hn hps
      omega
    | succ n ih9 =>
      intro j x1 hj hn hps H locs ls hQ hl
      refine lv_iload_n hxx hbb fd_M_pop_9 rfl (lv_at hl 2 rfl) ?_
      refine lv_if_lt (tgt := 51) hxx hbb fd_M_pop_10 (by decide) (fun c10 => ?_) (fun c10 => ?_)
      · have hj0 : j = 0 := fq_pm_neg (by omega) c10
        subst hj0
        refine lv_iload_n hxx hbb fd_M_pop_51 rfl (lv_at hl 1 rfl) ?_
        refine lv_iconst (v := (-1)) hxx hbb fd_M_pop_52 (by decide) ?_
        refine lv_icmp_ne (tgt := 58) hxx hbb fd_M_pop_53 (by decide) (fun c53 => ?_) (fun c53 => ?_)
        · obtain ⟨f, -, hfN, ex1, hf0, hmin⟩ := hps.resolve_left (fun q => c53 q.1)
          subst ex1
          have hisL : fq_isL (g 0) N f := ⟨hfN, hf0, fun k hk hk0 => hmin k (Nat.zero_le _) hk hk0⟩
          have hlow := hA.2.2.2.1
          have hfk := (hA.2.2.2.2.1 f hfN).resolve_left hf0
          have hd31 := fq_dk_31 (g 0 f) (g 8 3)
          refine lv_aload_n hxx hbb fd_M_pop_58 rfl (lv_at hl 0 rfl) ?_
          refine fg_M_keys hC hQ fd_M_pop_59 ?_
          refine lv_iload_n hxx hbb fd_M_pop_62 rfl (lv_at hl 1 rfl) ?_
          refine fr_M_keys hC hQ f rfl (by omega) fd_M_pop_63 (v := g 0 f) rfl ?_
          refine lv_aload_n hxx hbb fd_M_pop_64 rfl (lv_at hl 0 rfl) ?_
          refine fg_M_lowest hC hQ fd_M_pop_65 (v := g 8 3) rfl ?_
          refine fq_callS hC (fc_M_unlike l V (fq_WM V o mo) g (g 0 f) (g 8 3) (by omega) hlow) fw_M_64 ⟨Nat.le_of_ble_eq_true rfl, Nat.le_of_ble_eq_true rfl⟩ hQ rfl hl.1 (rest := []) rfl (Nat.le_of_ble_eq_true rfl) fd_M_pop_68 ⟨Nat.le_refl _, Nat.le_refl _⟩ (fun r68 u68 H locs hp68 hQ => ?_)
          rw [hp68.1] at hQ
          refine fq_top (y := nI (fq_dk (g 0 f) (g 8 3))) hp68.2 ?_
          refine lv_istore_n (lv' := [(2, .int (nI (fq_dk (g 0 f) (g 8 3)))), (0, .ref (o 0)), (1, .int (nI f))]) hxx hbb fd_M_pop_71 rfl hl (by decide) rfl (fun ls hl => ?_)
          refine lv_iload_n hxx hbb fd_M_pop_72 rfl (lv_at hl 0 rfl) ?_
          refine lv_if_le (tgt := 143) hxx hbb fd_M_pop_73 (by decide) (fun c73 => ?_) (fun c73 => ?_)
          · have hd0 : fq_dk (g 0 f) (g 8 3) = 0 := by have h9 := (nI_leI (a := fq_dk (g 0 f) (g 8 3)) (b := 0) (by omega) (by omega)).mp (by rw [nI_0]; exact c73); omega
            refine lv_aload_n hxx hbb fd_M_pop_143 rfl (lv_at hl 1 rfl) ?_
            refine fg_M_keys hC hQ fd_M_pop_144 ?_
            refine lv_iload_n hxx hbb fd_M_pop_147 rfl (lv_at hl 2 rfl) ?_
            refine lv_iconst (v := (-1)) hxx hbb fd_M_pop_148 (by decide) ?_
            refine fs_M_keys hC hQ f rfl (by omega) fd_M_pop_149 (fun H locs hQ => ?_)
            refine lv_iload_n hxx hbb fd_M_pop_150 rfl (lv_at hl 2 rfl) ?_
            exact hret _ _ _ _ _ _ fd_M_pop_151 hQ (Or.inr ⟨f, hisL, rfl, by unfold fq_popG; rw [if_pos hd0]⟩) rfl
          · have hd0 : ¬ fq_dk (g 0 f) (g 8 3) = 0 := fun q => c73 (by rw [q, nI_0]; exact Int32.le_refl 0)
            refine lv_iconst (v := (nI 0)) hxx hbb fd_M_pop_76 (by decide) ?_
            refine lv_istore_n (lv' := [(3, .int (nI 0)), (2, .int (nI (fq_dk (g 0 f) (g 8 3)))), (0, .ref (o 0)), (1, .int (nI f))]) hxx hbb fd_M_pop_77 rfl hl (by decide) rfl (fun ls hl => ?_)
            have loop78 : ∀ (n : Nat) (k : Nat) (g1 : fq_G), k ≤ N → N < k + n → g1 = fq_us g 8 4 (g 8 4 + nI (fq_cnt (fq_inb g (fq_dk (g 0 f) (g 8 3))) k)) → ∀ (H : Heap) (locs : List Loc) (ls : Array Slot), fq_Hp V A s.heap (fq_WM V o mo g1) H locs → lv_has ls 4 [(0, .ref (o 0)), (1, .int (nI f)), (2, .int (nI (fq_dk (g 0 f) (g 8 3)))), (3, .int (nI k))] → W p l e (fq_Rm 1) s m args below meth c H locs 0 0 Q (F0 m 78 ls []) := by
              intro n
              induction n with
              | zero =>
                intro k g1 hk hn2 hg1
                omega
              | succ n ih78 =>
                intro k g1 hk hn2 hg1 H locs ls hQ hl
                refine lv_iload_n hxx hbb fd_M_pop_78 rfl (lv_at hl 3 rfl) ?_
                refine lv_aload_n hxx hbb fd_M_pop_79 rfl (lv_at hl 0 rfl) ?_
                refine fg_M_items hC hQ fd_M_pop_80 (v := nI N) (by rw [hg1]; exact hA.2.2.1) ?_
                refine lv_icmp_ge (tgt := 133) hxx hbb fd_M_pop_83 (by decide) (fun c83 => ?_) (fun c83 => ?_)
                · have hkN : N = k := by have h9 := (nI_leI (by omega) (by omega)).mp c83; omega
                  subst hkN
                  have hpm := fq_popM_of hg1
                  refine lv_aload_n hxx hbb fd_M_pop_133 rfl (lv_at hl 0 rfl) ?_
                  refine lv_aload_n hxx hbb fd_M_pop_134 rfl (lv_at hl 0 rfl) ?_
                  refine fg_M_keys hC hQ fd_M_pop_135 ?_
                  refine lv_iload_n hxx hbb fd_M_pop_138 rfl (lv_at hl 1 rfl) ?_
                  refine fr_M_keys hC hQ f rfl (by omega) fd_M_pop_139 (v := g 0 f) (by rw [hg1]; rfl) ?_
                  refine fp_M_lowest hC hQ fd_M_pop_140 (fun H locs hQ => ?_)
                  refine lv_aload_n hxx hbb fd_M_pop_143 rfl (lv_at hl 0 rfl) ?_
                  refine fg_M_keys hC hQ fd_M_pop_144 ?_
                  refine lv_iload_n hxx hbb fd_M_pop_147 rfl (lv_at hl 1 rfl) ?_
                  refine lv_iconst (v := (-1)) hxx hbb fd_M_pop_148 (by decide) ?_
                  refine fs_M_keys hC hQ f rfl (by omega) fd_M_pop_149 (fun H locs hQ => ?_)
                  refine lv_iload_n hxx hbb fd_M_pop_150 rfl (lv_at hl 1 rfl) ?_
                  exact hret _ _ _ _ _ _ fd_M_pop_151 hQ (Or.inr ⟨f, hisL, rfl, by unfold fq_popG; rw [if_neg hd0, ← hpm]⟩) rfl
                · have hkN : k < N := Nat.not_le.mp (fun q => c83 (nI_le q (by omega)))
                  refine lv_aload_n hxx hbb fd_M_pop_86 rfl (lv_at hl 0 rfl) ?_
                  refine lv_dup hxx hbb fd_M_pop_87 rfl ?_
                  refine fg_M_placings hC hQ fd_M_pop_88 (v := g1 8 4) rfl ?_
                  refine lv_aload_n hxx hbb fd_M_pop_91 rfl (lv_at hl 0 rfl) ?_
                  refine fg_M_keys hC hQ fd_M_pop_92 ?_
                  refine lv_iload_n hxx hbb fd_M_pop_95 rfl (lv_at hl 3 rfl) ?_
                  refine fr_M_keys hC hQ k rfl (by omega) fd_M_pop_96 (v := g 0 k) (by rw [hg1]; rfl) ?_
                  refine lv_iconst (v := (-1)) hxx hbb fd_M_pop_97 (by decide) ?_
                  refine lv_icmp_eq (tgt := 122) hxx hbb fd_M_pop_98 (by decide) (fun c98 => ?_) (fun c98 => ?_)
                  · have hg2 := fq_pl_n hg1 (by simp [fq_inb, c98])
                    refine lv_iconst (v := 0) hxx hbb fd_M_pop_122 (by decide) ?_
                    refine lv_iadd hxx hbb fd_M_pop_123 ?_
                    refine fp_M_placings hC hQ fd_M_pop_124 (fun H locs hQ => ?_)
                    refine lv_iinc (v := nI (k + 1)) (lv' := [(3, .int (nI (k + 1))), (0, .ref (o 0)), (1, .int (nI f)), (2, .int (nI (fq_dk (g 0 f) (g 8 3))))]) hxx hbb fd_M_pop_127 hl (k := 3) rfl (fq_inc k) (by decide) rfl (fun ls hl => ?_)
                    refine lv_goto (tgt := 78) hxx hbb fd_M_pop_130 (by decide) ?_
                    exact ih78 (k + 1) _ (by omega) (by omega) hg2 _ _ _ hQ (lv_sub hl [1, 2, 3, 0] rfl)
                  · have hk0 := (hA.2.2.2.2.1 k hkN).resolve_left c98
                    have h31 := fq_dk_31 (g 0 k) (g 8 3)
                    refine lv_aload_n hxx hbb fd_M_pop_101 rfl (lv_at hl 0 rfl) ?_
                    refine fg_M_keys hC hQ fd_M_pop_102 ?_
                    refine lv_iload_n hxx hbb fd_M_pop_105 rfl (lv_at hl 3 rfl) ?_
                    refine fr_M_keys hC hQ k rfl (by omega) fd_M_pop_106 (v := g 0 k) (by rw [hg1]; rfl) ?_
                    refine lv_aload_n hxx hbb fd_M_pop_107 rfl (lv_at hl 0 rfl) ?_
                    refine fg_M_lowest hC hQ fd_M_pop_108 (v := g 8 3) (by rw [hg1]; rfl) ?_
                    refine fq_callS hC (fc_M_unlike l V (fq_WM V o mo) g1 (g 0 k) (g 8 3) (by omega) hlow) fw_M_64 ⟨Nat.le_of_ble_eq_true rfl, Nat.le_of_ble_eq_true rfl⟩ hQ rfl hl.1 (rest := [.int (g1 8 4), .ref (o 0)]) rfl (Nat.le_of_ble_eq_true rfl) fd_M_pop_111 ⟨Nat.le_refl _, Nat.le_refl _⟩ (fun r111 u111 H locs hp111 hQ => ?_)
                    rw [hp111.1] at hQ
                    refine fq_top (y := nI (fq_dk (g 0 k) (g 8 3))) hp111.2 ?_
                    refine lv_iload_n hxx hbb fd_M_pop_114 rfl (lv_at hl 2 rfl) ?_
                    refine lv_icmp_ne (tgt := 122) hxx hbb fd_M_pop_115 (by decide) (fun c115 => ?_) (fun c115 => ?_)
                    · have hg2 := fq_pl_n hg1 (by have h9 : ¬ fq_dk (g 0 k) (g 8 3) = fq_dk (g 0 f) (g 8 3) := fun q => c115 (by rw [q]); simp [fq_inb, h9])
                      refine lv_iconst (v := 0) hxx hbb fd_M_pop_122 (by decide) ?_
                      refine lv_iadd hxx hbb fd_M_pop_123 ?_
                      refine fp_M_placings hC hQ fd_M_pop_124 (fun H locs hQ => ?_)
                      refine lv_iinc (v := nI (k + 1)) (lv' := [(3, .int (nI (k + 1))), (0, .ref (o 0)), (1, .int (nI f)), (2, .int (nI (fq_dk (g 0 f) (g 8 3))))]) hxx hbb fd_M_pop_127 hl (k := 3) rfl (fq_inc k) (by decide) rfl (fun ls hl => ?_)
                      refine lv_goto (tgt := 78) hxx hbb fd_M_pop_130 (by decide) ?_
                      exact ih78 (k + 1) _ (by omega) (by omega) hg2 _ _ _ hQ (lv_sub hl [1, 2, 3, 0] rfl)
                    · have hg2 := fq_pl_y hg1 (by have h9 : fq_dk (g 0 k) (g 8 3) = fq_dk (g 0 f) (g 8 3) := fq_eqI (by omega) (by omega) c115; simp [fq_inb, h9, c98])
                      refine lv_iconst (v := 1) hxx hbb fd_M_pop_118 (by decide) ?_
                      refine lv_goto (tgt := 123) hxx hbb fd_M_pop_119 (by decide) ?_
                      refine lv_iadd hxx hbb fd_M_pop_123 ?_
                      refine fp_M_placings hC hQ fd_M_pop_124 (fun H locs hQ => ?_)
                      refine lv_iinc (v := nI (k + 1)) (lv' := [(3, .int (nI (k + 1))), (0, .ref (o 0)), (1, .int (nI f)), (2, .int (nI (fq_dk (g 0 f) (g 8 3))))]) hxx hbb fd_M_pop_127 hl (k := 3) rfl (fq_inc k) (by decide) rfl (fun ls hl => ?_)
                      refine lv_goto (tgt := 78) hxx hbb fd_M_pop_130 (by decide) ?_
                      exact ih78 (k + 1) _ (by omega) (by omega) hg2 _ _ _ hQ (lv_sub hl [1, 2, 3, 0] rfl)
            exact loop78 (N + 1) 0 g (Nat.zero_le _) (by omega) (fq_us_id (by simp [fq_cnt, nI_0])).symm _ _ _ hQ (lv_sub hl [2, 3, 1, 0] rfl)
        · refine lv_iconst (v := (-1)) hxx hbb fd_M_pop_56 (by decide) ?_
          exact hret _ _ _ _ _ _ fd_M_pop_57 hQ (Or.inl ⟨fq_cnt_zero.mpr (fun k hk => by rcases hps with ⟨-, h9⟩ | ⟨f, -, h2, h3, -⟩; simp [fq_th, h9 k (Nat.zero_le _) hk]; exact absurd (h3.symm.trans c53) (fq_nI_ne (by omega))), rfl, rfl⟩) rfl
      · obtain ⟨i, ei⟩ := fq_pm_pos c10
        subst ei
        rw [nI_pred] at hl
        refine lv_aload_n hxx hbb fd_M_pop_13 rfl (lv_at hl 0 rfl) ?_
        refine fg_M_keys hC hQ fd_M_pop_14 ?_
        refine lv_iload_n hxx hbb fd_M_pop_17 rfl (lv_at hl 2 rfl) ?_
        refine fr_M_keys hC hQ i rfl (by omega) fd_M_pop_18 (v := g 0 i) rfl ?_
        refine lv_iconst (v := (-1)) hxx hbb fd_M_pop_19 (by decide) ?_
        refine lv_icmp_eq (tgt := 45) hxx hbb fd_M_pop_20 (by decide) (fun c20 => ?_) (fun c20 => ?_)
        · have hps2 := fq_PS_skip hps c20
          refine lv_iinc (v := nI i - 1) (lv' := [(2, .int (nI i - 1)), (0, .ref (o 0)), (1, .int x1)]) hxx hbb fd_M_pop_45 hl (k := 2) rfl (fq_dec1 (nI i)) (by decide) rfl (fun ls hl => ?_)
          refine lv_goto (tgt := 9) hxx hbb fd_M_pop_48 (by decide) ?_
          exact ih9 i x1 (by omega) (by omega) hps2 _ _ _ hQ (lv_sub hl [1, 2, 0] rfl)
        · refine lv_iload_n hxx hbb fd_M_pop_23 rfl (lv_at hl 1 rfl) ?_
          refine lv_iconst (v := (-1)) hxx hbb fd_M_pop_24 (by decide) ?_
          refine lv_icmp_eq (tgt := 43) hxx hbb fd_M_pop_25 (by decide) (fun c25 => ?_) (fun c25 => ?_)
          · have hps2 := fq_PS_take1 hps h40 c25 (by omega) c20
            refine lv_iload_n hxx hbb fd_M_pop_43 rfl (lv_at hl 2 rfl) ?_
            refine lv_istore_n (lv' := [(1, .int (nI i)), (0, .ref (o 0)), (2, .int (nI i))]) hxx hbb fd_M_pop_44 rfl hl (by decide) rfl (fun ls hl => ?_)
            refine lv_iinc (v := nI i - 1) (lv' := [(2, .int (nI i - 1)), (1, .int (nI i)), (0, .ref (o 0))]) hxx hbb fd_M_pop_45 hl (k := 2) rfl (fq_dec1 (nI i)) (by decide) rfl (fun ls hl => ?_)
            refine lv_goto (tgt := 9) hxx hbb fd_M_pop_48 (by decide) ?_
            exact ih9 i (nI i) (by omega) (by omega) hps2 _ _ _ hQ (lv_sub hl [2, 1, 0] rfl)
          · obtain ⟨f, hjf, hfN, ex1, hf0, hmin⟩ := hps.resolve_left (fun q => c25 q.1)
            subst ex1
            refine lv_aload_n hxx hbb fd_M_pop_28 rfl (lv_at hl 0 rfl) ?_
            refine fg_M_keys hC hQ fd_M_pop_29 ?_
            refine lv_iload_n hxx hbb fd_M_pop_32 rfl (lv_at hl 2 rfl) ?_
            refine fr_M_keys hC hQ i rfl (by omega) fd_M_pop_33 (v := g 0 i) rfl ?_
            refine lv_aload_n hxx hbb fd_M_pop_34 rfl (lv_at hl 0 rfl) ?_
            refine fg_M_keys hC hQ fd_M_pop_35 ?_
            refine lv_iload_n hxx hbb fd_M_pop_38 rfl (lv_at hl 1 rfl) ?_
            refine fr_M_keys hC hQ f rfl (by omega) fd_M_pop_39 (v := g 0 f) rfl ?_
            refine lv_icmp_gt (tgt := 45) hxx hbb fd_M_pop_40 (by decide) (fun c40 => ?_) (fun c40 => ?_)
            · have hps2 := fq_PS_keep hjf hfN hf0 hmin c40
              refine lv_iinc (v := nI i - 1) (lv' := [(2, .int (nI i - 1)), (0, .ref (o 0)), (1, .int (nI f))]) hxx hbb fd_M_pop_45 hl (k := 2) rfl (fq_dec1 (nI i)) (by decide) rfl (fun ls hl => ?_)
              refine lv_goto (tgt := 9) hxx hbb fd_M_pop_48 (by decide) ?_
              exact ih9 i (nI f) (by omega) (by omega) hps2 _ _ _ hQ (lv_sub hl [1, 2, 0] rfl)
            · have hps2 := fq_PS_take2 hjf hmin (by omega) c20 c40
              refine lv_iload_n hxx hbb fd_M_pop_43 rfl (lv_at hl 2 rfl) ?_
              refine lv_istore_n (lv' := [(1, .int (nI i)), (0, .ref (o 0)), (2, .int (nI i))]) hxx hbb fd_M_pop_44 rfl hl (by decide) rfl (fun ls hl => ?_)
              refine lv_iinc (v := nI i - 1) (lv' := [(2, .int (nI i - 1)), (1, .int (nI i)), (0, .ref (o 0))]) hxx hbb fd_M_pop_45 hl (k := 2) rfl (fq_dec1 (nI i)) (by decide) rfl (fun ls hl => ?_)
              refine lv_goto (tgt := 9) hxx hbb fd_M_pop_48 (by decide) ?_
              exact ih9 i (nI i) (by omega) (by omega) hps2 _ _ _ hQ (lv_sub hl [2, 1, 0] rfl)
  exact loop9 (N + 1) N (-1) (Nat.le_refl _) (by omega) (fq_PS_0 _ _) _ _ _ hQ (lv_sub hl [2, 1, 0] rfl)
theorem fq_cst_M : Cond.constantLong R_M 75 2147483647 ∈ fq_tb := fq_m (List.mem_append_right _ (List.mem_of_getElem? (i := 312) (by decide +kernel))) (by decide)
theorem fq_cst_M2 : Cond.constant R_M 87 2147483647 ∈ fq_tb := fq_m (List.mem_append_right _ (List.mem_of_getElem? (i := 306) (by decide +kernel))) (by decide)
set_option maxHeartbeats 4000000 in
set_option maxRecDepth 100000 in
theorem fc_M_reach (l : Launch) (V : fq_V) (o : Nat → Nat) (mo : Nat) (g : fq_G) (N C P : Nat) (hA : fq_AB g N C P) (u v : Nat) (len : Int32) (hu : u < N) (hv : v < N) (hw : 0 ≤ (g 4 u).toInt) (hlen : 0 ≤ len.toInt) : fq_MV l V y_M_reach b_M_reach 6 3 [.ref (o 0), .int (nI u), .int (nI v), .int len] (fq_WM V o mo) g (fun w => w = fq_reachF g N u v len) := by
  refine fq_MV_of (lv := [(0, .ref (o 0)), (1, .int (nI u)), (2, .int (nI v)), (3, .int len)]) (by decide) (Nat.le_of_ble_eq_true rfl) rfl ?_
  intro p e s m args below meth c A Q hC hret ls hl hQ
  have hxx := hC.1
  have hbb := hC.2.1
  have h40 := hA.2.1
  refine lv_aload_n hxx hbb fd_M_reach_0 rfl (lv_at hl 0 rfl) ?_
  refine fg_M_ways hC hQ fd_M_reach_1 ?_
  refine lv_iload_n hxx hbb fd_M_reach_4 rfl (lv_at hl 1 rfl) ?_
  refine fr_M_ways hC hQ u rfl (by omega) fd_M_reach_5 (v := g 4 u) rfl ?_
  refine lv_i2l (v := (g 4 u).toInt64) hxx hbb fd_M_reach_6 rfl ?_
  refine lv_iload_n hxx hbb fd_M_reach_7 rfl (lv_at hl 3 rfl) ?_
  refine lv_i2l (v := len.toInt64) hxx hbb fd_M_reach_8 rfl ?_
  refine lv_ladd hxx hbb fd_M_reach_9 ?_
  refine lv_lstore (lv' := [(4, .long (((g 4 u).toInt64) + len.toInt64)), (0, .ref (o 0)), (1, .int (nI u)), (2, .int (nI v)), (3, .int len)]) hxx hbb fd_M_reach_10 hl (by decide) rfl (fun ls hl => ?_)
  refine lv_aload_n hxx hbb fd_M_reach_12 rfl (lv_at hl 1 rfl) ?_
  refine fg_M_taken hC hQ fd_M_reach_13 ?_
  refine lv_iload_n hxx hbb fd_M_reach_16 rfl (lv_at hl 3 rfl) ?_
  refine fr_M_taken hC hQ v rfl (by omega) fd_M_reach_17 (v := g 6 v) rfl ?_
  refine lv_if_ne (tgt := 30) hxx hbb fd_M_reach_18 (by decide) (fun c18 => ?_) (fun c18 => ?_)
  · exact hret _ _ _ _ _ fd_M_reach_30 hQ (fq_rf_0 (Or.inl c18)).symm
  · refine lv_lload hxx hbb fd_M_reach_21 (lv_at hl 0 rfl) ?_
    refine lv_ldc2 (v := 2147483647) hxx hbb hC.2.2.2.2.1 (hC.2.2.2.2.2.1 _ fq_cst_M) fd_M_reach_23 ?_
    refine W.lcmp hxx hbb fd_M_reach_26 ?_
    refine lv_if_le (tgt := 31) hxx hbb fd_M_reach_27 (by decide) (fun c27 => ?_) (fun c27 => ?_)
    · have hs := (fq_L1 hw hlen).mp c27
      refine lv_aload_n hxx hbb fd_M_reach_31 rfl (lv_at hl 1 rfl) ?_
      refine fg_M_keys hC hQ fd_M_reach_32 ?_
      refine lv_iload_n hxx hbb fd_M_reach_35 rfl (lv_at hl 3 rfl) ?_
      refine fr_M_keys hC hQ v rfl (by omega) fd_M_reach_36 (v := g 0 v) rfl ?_
      refine lv_iconst (v := (-1)) hxx hbb fd_M_reach_37 (by decide) ?_
      refine lv_icmp_ne (tgt := 60) hxx hbb fd_M_reach_38 (by decide) (fun c38 => ?_) (fun c38 => ?_)
      · refine lv_lload hxx hbb fd_M_reach_60 (lv_at hl 0 rfl) ?_
        refine lv_aload_n hxx hbb fd_M_reach_62 rfl (lv_at hl 1 rfl) ?_
        refine fg_M_keys hC hQ fd_M_reach_63 ?_
        refine lv_iload_n hxx hbb fd_M_reach_66 rfl (lv_at hl 3 rfl) ?_
        refine fr_M_keys hC hQ v rfl (by omega) fd_M_reach_67 (v := g 0 v) rfl ?_
        refine lv_i2l (v := (g 0 v).toInt64) hxx hbb fd_M_reach_68 rfl ?_
        refine W.lcmp hxx hbb fd_M_reach_69 ?_
        refine lv_if_ge (tgt := 89) hxx hbb fd_M_reach_70 (by decide) (fun c70 => ?_) (fun c70 => ?_)
        · exact hret _ _ _ _ _ fd_M_reach_89 hQ (fq_rf_3 c38 ((fq_L3 hw hlen hs).mp c70)).symm
        · refine lv_aload_n hxx hbb fd_M_reach_73 rfl (lv_at hl 1 rfl) ?_
          refine lv_iload_n hxx hbb fd_M_reach_74 rfl (lv_at hl 3 rfl) ?_
          refine lv_lload hxx hbb fd_M_reach_75 (lv_at hl 0 rfl) ?_
          refine lv_l2i (v := g 4 u + len) hxx hbb fd_M_reach_77 (fq_L2 hw hlen) ?_
          refine fq_callI hC (fc_M_lower l V o mo g (nI v) (g 4 u + len) N C P hA) fw_M_80 ⟨Nat.le_of_ble_eq_true rfl, Nat.le_of_ble_eq_true rfl⟩ rfl rfl rfl hQ rfl hl.1 (rest := []) rfl (Nat.le_of_ble_eq_true rfl) fd_M_reach_78 ⟨Nat.le_refl _, Nat.le_refl _⟩ (fun r78 u78 H locs hp78 hQ => ?_)
          refine lv_pop hxx hbb fd_M_reach_81 rfl ?_
          refine lv_aload_n hxx hbb fd_M_reach_82 rfl (lv_at hl 1 rfl) ?_
          refine fg_M_formers hC hQ fd_M_reach_83 ?_
          refine lv_iload_n hxx hbb fd_M_reach_86 rfl (lv_at hl 3 rfl) ?_
          refine lv_iload_n hxx hbb fd_M_reach_87 rfl (lv_at hl 2 rfl) ?_
          refine fs_M_formers hC hQ v rfl (by omega) fd_M_reach_88 (fun H locs hQ => ?_)
          exact hret _ _ _ _ _ fd_M_reach_89 hQ (by rw [fq_rf_2 c18 hs c38 (Classical.byContradiction (fun q => c70 ((fq_L3 hw hlen hs).mpr q))), hp78.2])
      · refine lv_aload_n hxx hbb fd_M_reach_41 rfl (lv_at hl 1 rfl) ?_
        refine lv_iload_n hxx hbb fd_M_reach_42 rfl (lv_at hl 3 rfl) ?_
        refine lv_lload hxx hbb fd_M_reach_43 (lv_at hl 0 rfl) ?_
        refine lv_l2i (v := g 4 u + len) hxx hbb fd_M_reach_45 (fq_L2 hw hlen) ?_
        refine fq_callI hC (fc_M_push l V o mo g (nI v) (g 4 u + len) N h40 hA.2.2.1) fw_M_77 ⟨Nat.le_of_ble_eq_true rfl, Nat.le_of_ble_eq_true rfl⟩ rfl rfl rfl hQ rfl hl.1 (rest := []) rfl (Nat.le_of_ble_eq_true rfl) fd_M_reach_46 ⟨Nat.le_refl _, Nat.le_refl _⟩ (fun r46 u46 H locs hp46 hQ => ?_)
        refine lv_pop hxx hbb fd_M_reach_49 rfl ?_
        refine lv_aload_n hxx hbb fd_M_reach_50 rfl (lv_at hl 1 rfl) ?_
        refine fg_M_formers hC hQ fd_M_reach_51 ?_
        refine lv_iload_n hxx hbb fd_M_reach_54 rfl (lv_at hl 3 rfl) ?_
        refine lv_iload_n hxx hbb fd_M_reach_55 rfl (lv_at hl 2 rfl) ?_
        refine fs_M_formers hC hQ v rfl (by omega) fd_M_reach_56 (fun H locs hQ => ?_)
        refine lv_goto (tgt := 89) hxx hbb fd_M_reach_57 (by decide) ?_
        exact hret _ _ _ _ _ fd_M_reach_89 hQ (by rw [fq_rf_1 c18 hs c38, hp46.2])
    · exact hret _ _ _ _ _ fd_M_reach_30 hQ (fq_rf_0 (Or.inr (Classical.byContradiction (fun q => c27 ((fq_L1 hw hlen).mpr q))))).symm
set_option maxHeartbeats 4000000 in
set_option maxRecDepth 100000 in
theorem fc_M_spread (l : Launch) (V : fq_V) (o : Nat → Nat) (mo : Nat) (g : fq_G) (N M E fr : Nat) (h40 : N ≤ 40) (hN : g 8 0 = nI N) (hG : fq_AG g N M E) (hfr : fr < N) : fq_MV l V y_M_spread b_M_spread 4 0 [.ref (o 0), .int (nI fr)] (fq_WM V o mo) g (fun w => ∃ nr, w = fq_row g 7 nr ∧ nr fr ≠ 0 ∧ (∀ S : Nat → Prop, S fr → fq_cl g E S → ∀ k, k < N → nr k ≠ 0 → S k) ∧ fq_cl g E (fun k => nr k ≠ 0)) := by
  refine fq_MV_of (lv := [(0, .ref (o 0)), (1, .int (nI fr))]) (by decide) (Nat.le_of_ble_eq_true rfl) rfl ?_
  intro p e s m args below meth c A Q hC hret ls hl hQ
  have hxx := hC.1
  have hbb := hC.2.1
  have hm3 := hG.2.1
  have hm4 := hG.2.2.1
  have hGi : ∀ j, j < E → ∃ u, u < N ∧ g 1 j = nI u := fun j hj => (hG.2.2.2.2.2 j hj).1
  refine lv_iconst (v := (nI 0)) hxx hbb fd_M_spread_0 (by decide) ?_
  refine lv_istore_n (lv' := [(2, .int (nI 0)), (0, .ref (o 0)), (1, .int (nI fr))]) hxx hbb fd_M_spread_1 rfl hl (by decide) rfl (fun ls hl => ?_)
  have loop2 : ∀ (n : Nat) (k : Nat) (nr : Nat → Int32), k ≤ 40 → 40 < k + n → (∀ i, i < k → nr i = if i = fr then 1 else 0) → ∀ (H : Heap) (locs : List Loc) (ls : Array Slot), fq_Hp V A s.heap (fq_WM V o mo (fq_row g 7 nr)) H locs → lv_has ls 4 [(0, .ref (o 0)), (1, .int (nI fr)), (2, .int (nI k))] → W p l e (fq_Rm 0) s m args below meth c H locs 0 0 Q (F0 m 2 ls []) := by
    intro n
    induction n with
    | zero =>
      intro k nr hk hn hnr
      omega
    | succ n ih2 =>
      intro k nr hk hn hnr H locs ls hQ hl
      refine lv_iload_n hxx hbb fd_M_spread_2 rfl (lv_at hl 2 rfl) ?_
      refine lv_bipush (v := (nI 40)) hxx hbb fd_M_spread_3 (by decide) ?_
      refine lv_icmp_ge (tgt := 30) hxx hbb fd_M_spread_5 (by decide) (fun c5 => ?_) (fun c5 => ?_)
      · have hk40 : k = 40 := by have h9 := (nI_leI (by omega) (by omega)).mp c5; omega
        subst hk40
        refine lv_iconst (v := (nI 0)) hxx hbb fd_M_spread_30 (by decide) ?_
        refine lv_istore_n (lv' := [(2, .int (nI 0)), (0, .ref (o 0)), (1, .int (nI fr))]) hxx hbb fd_M_spread_31 rfl hl (by decide) rfl (fun ls hl => ?_)
        have loop32 : ∀ (n : Nat) (r : Nat) (nr : Nat → Int32), r ≤ N → N < r + n → fq_NS g N E fr r nr → ∀ (H : Heap) (locs : List Loc) (ls : Array Slot), fq_Hp V A s.heap (fq_WM V o mo (fq_row g 7 nr)) H locs → lv_has ls 4 [(0, .ref (o 0)), (1, .int (nI fr)), (2, .int (nI r))] → W p l e (fq_Rm 0) s m args below meth c H locs 0 0 Q (F0 m 32 ls []) := by
          intro n
          induction n with
          | zero =>
            intro r nr hr hn3 hns
            omega
          | succ n ih32 =>
            intro r nr hr hn3 hns H locs ls hQ hl
            refine lv_iload_n hxx hbb fd_M_spread_32 rfl (lv_at hl 2 rfl) ?_
            refine lv_aload_n hxx hbb fd_M_spread_33 rfl (lv_at hl 0 rfl) ?_
            refine fg_M_items hC hQ fd_M_spread_34 (v := nI N) hN ?_
            refine lv_icmp_ge (tgt := 106) hxx hbb fd_M_spread_37 (by decide) (fun c37 => ?_) (fun c37 => ?_)
            · have hrN : r = N := by have h9 := (nI_leI (by omega) (by omega)).mp c37; omega
              subst hrN
              exact hret _ _ _ _ _ fd_M_spread_106 hQ ⟨nr, rfl, hns.1, hns.2.1, fq_NS_end hns⟩
            · have hrN : r < N := Nat.not_le.mp (fun q => c37 (nI_le q (by omega)))
              refine lv_iconst (v := (nI 0)) hxx hbb fd_M_spread_40 (by decide) ?_
              refine lv_istore_n (lv' := [(3, .int (nI 0)), (0, .ref (o 0)), (1, .int (nI fr)), (2, .int (nI r))]) hxx hbb fd_M_spread_41 rfl hl (by decide) rfl (fun ls hl => ?_)
              have loop42 : ∀ (n : Nat) (k : Nat) (nq : Nat → Int32), k ≤ E → E < k + n → fq_NI g N E k nr nq → ∀ (H : Heap) (locs : List Loc) (ls : Array Slot), fq_Hp V A s.heap (fq_WM V o mo (fq_row g 7 nq)) H locs → lv_has ls 4 [(0, .ref (o 0)), (1, .int (nI fr)), (2, .int (nI r)), (3, .int (nI k))] → W p l e (fq_Rm 0) s m args below meth c H locs 0 0 Q (F0 m 42 ls []) := by
                intro n
                induction n with
                | zero =>
                  intro k nq hk hn4 hni
                  omega
                | succ n ih42 =>
                  intro k nq hk hn4 hni H locs ls hQ hl
                  refine lv_iload_n hxx hbb fd_M_spread_42 rfl (lv_at hl 3 rfl) ?_
                  refine lv_aload_n hxx hbb fd_M_spread_43 rfl (lv_at hl 0 rfl) ?_
                  refine fg_M_arcs hC hQ fd_M_spread_44 (v := nI E) hG.2.2.2.2.1 ?_
                  refine lv_icmp_ge (tgt := 100) hxx hbb fd_M_spread_47 (by decide) (fun c47 => ?_) (fun c47 => ?_)
                  · have hkE : k = E := by have h9 := (nI_leI (by omega) (by omega)).mp c47; omega
                    subst hkE
                    refine lv_iinc (v := nI (r + 1)) (lv' := [(2, .int (nI (r + 1))), (0, .ref (o 0)), (1, .int (nI fr)), (3, .int (nI k))]) hxx hbb fd_M_spread_100 hl (k := 2) rfl (fq_inc r) (by decide) rfl (fun ls hl => ?_)
                    refine lv_goto (tgt := 32) hxx hbb fd_M_spread_103 (by decide) ?_
                    exact ih32 (r + 1) nq (by omega) (by omega) (fq_NS_step hGi h40 hns hni) _ _ _ hQ (lv_sub hl [1, 2, 0] rfl)
                  · have hkE : k < E := Nat.not_le.mp (fun q => c47 (nI_le q (by omega)))
                    obtain ⟨⟨u, hu, eu⟩, ⟨v, hv, ev⟩, -⟩ := hG.2.2.2.2.2 k hkE
                    refine lv_aload_n hxx hbb fd_M_spread_50 rfl (lv_at hl 0 rfl) ?_
                    refine fg_M_near hC hQ fd_M_spread_51 ?_
                    refine lv_aload_n hxx hbb fd_M_spread_54 rfl (lv_at hl 0 rfl) ?_
                    refine fg_M_tos hC hQ fd_M_spread_55 ?_
                    refine lv_iload_n hxx hbb fd_M_spread_58 rfl (lv_at hl 3 rfl) ?_
                    refine fr_M_tos hC hQ k rfl (by omega) fd_M_spread_59 (v := nI v) ev ?_
                    refine lv_aload_n hxx hbb fd_M_spread_60 rfl (lv_at hl 0 rfl) ?_
                    refine fg_M_near hC hQ fd_M_spread_61 ?_
                    refine lv_aload_n hxx hbb fd_M_spread_64 rfl (lv_at hl 0 rfl) ?_
                    refine fg_M_tos hC hQ fd_M_spread_65 ?_
                    refine lv_iload_n hxx hbb fd_M_spread_68 rfl (lv_at hl 3 rfl) ?_
                    refine fr_M_tos hC hQ k rfl (by omega) fd_M_spread_69 (v := nI v) ev ?_
                    refine fr_M_near hC hQ v rfl (by omega) fd_M_spread_70 (v := nq v) rfl ?_
                    refine lv_if_ne (tgt := 88) hxx hbb fd_M_spread_71 (by decide) (fun c71 => ?_) (fun c71 => ?_)
                    · have hni2 := fq_NI_1 (M := M) h40 hni hkE hu eu ev (Or.inl c71) hv
                      refine lv_iconst (v := 1) hxx hbb fd_M_spread_88 (by decide) ?_
                      refine lv_goto (tgt := 93) hxx hbb fd_M_spread_89 (by decide) ?_
                      refine fs_M_near hC hQ v rfl (by omega) (by decide) fd_M_spread_93 (fun H locs hQ => ?_)
                      refine lv_iinc (v := nI (k + 1)) (lv' := [(3, .int (nI (k + 1))), (0, .ref (o 0)), (1, .int (nI fr)), (2, .int (nI r))]) hxx hbb fd_M_spread_94 hl (k := 3) rfl (fq_inc k) (by decide) rfl (fun ls hl => ?_)
                      refine lv_goto (tgt := 42) hxx hbb fd_M_spread_97 (by decide) ?_
                      exact ih42 (k + 1) (upd nq v 1) (by omega) (by omega) hni2 _ _ _ hQ (lv_sub hl [1, 2, 3, 0] rfl)
                    · refine lv_aload_n hxx hbb fd_M_spread_74 rfl (lv_at hl 0 rfl) ?_
                      refine fg_M_near hC hQ fd_M_spread_75 ?_
                      refine lv_aload_n hxx hbb fd_M_spread_78 rfl (lv_at hl 0 rfl) ?_
                      refine fg_M_froms hC hQ fd_M_spread_79 ?_
                      refine lv_iload_n hxx hbb fd_M_spread_82 rfl (lv_at hl 3 rfl) ?_
                      refine fr_M_froms hC hQ k rfl (by omega) fd_M_spread_83 (v := nI u) eu ?_
                      refine fr_M_near hC hQ u rfl (by omega) fd_M_spread_84 (v := nq u) rfl ?_
                      refine lv_if_eq (tgt := 92) hxx hbb fd_M_spread_85 (by decide) (fun c85 => ?_) (fun c85 => ?_)
                      · have hni2 := fq_NI_2 (M := M) h40 hni hkE hu eu ev hv c71 c85
                        refine lv_iconst (v := 0) hxx hbb fd_M_spread_92 (by decide) ?_
                        refine fs_M_near hC hQ v rfl (by omega) (by decide) fd_M_spread_93 (fun H locs hQ => ?_)
                        refine lv_iinc (v := nI (k + 1)) (lv' := [(3, .int (nI (k + 1))), (0, .ref (o 0)), (1, .int (nI fr)), (2, .int (nI r))]) hxx hbb fd_M_spread_94 hl (k := 3) rfl (fq_inc k) (by decide) rfl (fun ls hl => ?_)
                        refine lv_goto (tgt := 42) hxx hbb fd_M_spread_97 (by decide) ?_
                        exact ih42 (k + 1) (upd nq v 0) (by omega) (by omega) hni2 _ _ _ hQ (lv_sub hl [1, 2, 3, 0] rfl)
                      · have hni2 := fq_NI_1 (M := M) h40 hni hkE hu eu ev (Or.inr c85) hv
                        refine lv_iconst (v := 1) hxx hbb fd_M_spread_88 (by decide) ?_
                        refine lv_goto (tgt := 93) hxx hbb fd_M_spread_89 (by decide) ?_
                        refine fs_M_near hC hQ v rfl (by omega) (by decide) fd_M_spread_93 (fun H locs hQ => ?_)
                        refine lv_iinc (v := nI (k + 1)) (lv' := [(3, .int (nI (k + 1))), (0, .ref (o 0)), (1, .int (nI fr)), (2, .int (nI r))]) hxx hbb fd_M_spread_94 hl (k := 3) rfl (fq_inc k) (by decide) rfl (fun ls hl => ?_)
                        refine lv_goto (tgt := 42) hxx hbb fd_M_spread_97 (by decide) ?_
                        exact ih42 (k + 1) (upd nq v 1) (by omega) (by omega) hni2 _ _ _ hQ (lv_sub hl [1, 2, 3, 0] rfl)
              exact loop42 (E + 1) 0 nr (Nat.zero_le _) (by omega) (fq_NI_0 _ _ _ _) _ _ _ hQ (lv_sub hl [1, 2, 3, 0] rfl)
        exact loop32 (N + 1) 0 nr (Nat.zero_le _) (by omega) (fq_NS_0 hfr h40 hnr) _ _ _ hQ (lv_sub hl [1, 2, 0] rfl)
      · have hk40 : k < 40 := Nat.not_le.mp (fun q => c5 (nI_le q (by omega)))
        refine lv_aload_n hxx hbb fd_M_spread_8 rfl (lv_at hl 0 rfl) ?_
        refine fg_M_near hC hQ fd_M_spread_9 ?_
        refine lv_iload_n hxx hbb fd_M_spread_12 rfl (lv_at hl 2 rfl) ?_
        refine lv_iload_n hxx hbb fd_M_spread_13 rfl (lv_at hl 2 rfl) ?_
        refine lv_iload_n hxx hbb fd_M_spread_14 rfl (lv_at hl 1 rfl) ?_
        refine lv_icmp_ne (tgt := 22) hxx hbb fd_M_spread_15 (by decide) (fun c15 => ?_) (fun c15 => ?_)
        · have hnr2 : ∀ i, i < k + 1 → upd nr k 0 i = if i = fr then 1 else 0 := by
            intro i hi
            by_cases c : i = k
            · subst c; have h9 : i ≠ fr := fun q => c15 (by rw [q]); simp [upd, h9]
            · simp only [upd, if_neg c]; exact hnr i (by omega)
          refine lv_iconst (v := 0) hxx hbb fd_M_spread_22 (by decide) ?_
          refine fs_M_near hC hQ k rfl (by omega) (by decide) fd_M_spread_23 (fun H locs hQ => ?_)
          refine lv_iinc (v := nI (k + 1)) (lv' := [(2, .int (nI (k + 1))), (0, .ref (o 0)), (1, .int (nI fr))]) hxx hbb fd_M_spread_24 hl (k := 2) rfl (fq_inc k) (by decide) rfl (fun ls hl => ?_)
          refine lv_goto (tgt := 2) hxx hbb fd_M_spread_27 (by decide) ?_
          exact ih2 (k + 1) (upd nr k 0) (by omega) (by omega) hnr2 _ _ _ hQ (lv_sub hl [1, 2, 0] rfl)
        · have hnr2 : ∀ i, i < k + 1 → upd nr k 1 i = if i = fr then 1 else 0 := by
            intro i hi
            by_cases c : i = k
            · subst c; have h9 : i = fr := fq_eqI (by omega) (by omega) c15; simp [upd, h9]
            · simp only [upd, if_neg c]; exact hnr i (by omega)
          refine lv_iconst (v := 1) hxx hbb fd_M_spread_18 (by decide) ?_
          refine lv_goto (tgt := 23) hxx hbb fd_M_spread_19 (by decide) ?_
          refine fs_M_near hC hQ k rfl (by omega) (by decide) fd_M_spread_23 (fun H locs hQ => ?_)
          refine lv_iinc (v := nI (k + 1)) (lv' := [(2, .int (nI (k + 1))), (0, .ref (o 0)), (1, .int (nI fr))]) hxx hbb fd_M_spread_24 hl (k := 2) rfl (fq_inc k) (by decide) rfl (fun ls hl => ?_)
          refine lv_goto (tgt := 2) hxx hbb fd_M_spread_27 (by decide) ?_
          exact ih2 (k + 1) (upd nr k 1) (by omega) (by omega) hnr2 _ _ _ hQ (lv_sub hl [1, 2, 0] rfl)
  exact loop2 41 0 (g 7) (by omega) (by omega) (fun i hi => absurd hi (Nat.not_lt_zero _)) _ _ _ hQ (lv_sub hl [1, 2, 0] rfl)
end
section
set_option maxHeartbeats 4000000 in
set_option maxRecDepth 100000 in
theorem fc_M_run (l : Launch) (V : fq_V) (o : Nat → Nat) (mo : Nat) (g : fq_G) (N C P M E : Nat) (hA : fq_AB g N C P) (hG : fq_AG g N M E) (x : Int32) : fq_MI l V y_M_run b_M_run 5 .int 4 [.ref (o 0), .int x] (fq_WM V o mo) g (fun r w => r = fq_runR g N E x ∧ ∃ nr, w = fq_row (fq_runF g N E x) 7 nr) := by
  refine fq_MI_of (lv := [(0, .ref (o 0)), (1, .int x)]) (by decide) (Nat.le_of_ble_eq_true rfl) rfl ?_
  intro p e s m args below meth c A Q hC hret ls hl hQ
  have hxx := hC.1
  have hbb := hC.2.1
  refine lv_aload_n hxx hbb fd_M_run_0 rfl (lv_at hl 0 rfl) ?_
  refine lv_iload_n hxx hbb fd_M_run_1 rfl (lv_at hl 1 rfl) ?_
  refine fq_callI hC (fc_M_isItem l V o mo g x N hA.2.1 hA.2.2.1) fw_M_51 ⟨Nat.le_of_ble_eq_true rfl, Nat.le_of_ble_eq_true rfl⟩ rfl rfl rfl hQ rfl hl.1 (rest := []) rfl (Nat.le_of_ble_eq_true rfl) fd_M_run_2 ⟨Nat.le_refl _, Nat.le_refl _⟩ (fun r2 u2 H locs hp2 hQ => ?_)
  rw [hp2.1] at hQ
  refine lv_if_ne (tgt := 10) hxx hbb fd_M_run_5 (by decide) (fun c5 => ?_) (fun c5 => ?_)
  · obtain ⟨j0, hj0, ej0⟩ := fq_yes hp2.2 c5
    subst ej0
    have h40 := hA.2.1
    have hm3 := hG.2.1
    have hm4 := hG.2.2.1
    refine lv_aload_n hxx hbb fd_M_run_10 rfl (lv_at hl 0 rfl) ?_
    refine fq_callV hC (fc_M_clear l V o mo g) fw_M_45 ⟨Nat.le_of_ble_eq_true rfl, Nat.le_of_ble_eq_true rfl⟩ rfl rfl rfl hQ rfl hl.1 (rest := []) rfl (Nat.le_of_ble_eq_true rfl) fd_M_run_11 ⟨Nat.le_refl _, Nat.le_refl _⟩ (fun u11 H locs hp11 hQ => ?_)
    subst hp11
    refine lv_iconst (v := (nI 0)) hxx hbb fd_M_run_14 (by decide) ?_
    refine lv_istore_n (lv' := [(2, .int (nI 0)), (0, .ref (o 0)), (1, .int (nI j0))]) hxx hbb fd_M_run_15 rfl hl (by decide) rfl (fun ls hl => ?_)
    have loop16 : ∀ (n : Nat) (k : Nat) (g1 : fq_G), k ≤ 40 → 40 < k + n → g1 = fq_row (fq_row (fq_clrM g) 6 (fq_fill (g 6) k 0)) 5 (fq_fill (g 5) k (-1)) → ∀ (H : Heap) (locs : List Loc) (ls : Array Slot), fq_Hp V A s.heap (fq_WM V o mo g1) H locs → lv_has ls 5 [(0, .ref (o 0)), (1, .int (nI j0)), (2, .int (nI k))] → W p l e (fq_Rm 4) s m args below meth c H locs 0 0 Q (F0 m 16 ls []) := by
      intro n
      induction n with
      | zero =>
        intro k g1 hk hn hg1
        omega
      | succ n ih16 =>
        intro k g1 hk hn hg1 H locs ls hQ hl
        refine lv_iload_n hxx hbb fd_M_run_16 rfl (lv_at hl 2 rfl) ?_
        refine lv_bipush (v := (nI 40)) hxx hbb fd_M_run_17 (by decide) ?_
        refine lv_icmp_ge (tgt := 42) hxx hbb fd_M_run_19 (by decide) (fun c19 => ?_) (fun c19 => ?_)
        · have hk40 : k = 40 := by have h9 := (nI_leI (by omega) (by omega)).mp c19; omega
          subst hk40
          have hg0 : g1 = fq_run0 g := hg1
          rw [hg0] at hQ
          have hN0 : fq_run0 g 8 0 = nI N := (fq_run0_AB hA).2.2.1
          refine lv_aload_n hxx hbb fd_M_run_42 rfl (lv_at hl 0 rfl) ?_
          refine lv_iload_n hxx hbb fd_M_run_43 rfl (lv_at hl 1 rfl) ?_
          refine lv_iconst (v := 0) hxx hbb fd_M_run_44 (by decide) ?_
          refine fq_callI hC (fc_M_push l V o mo (fq_run0 g) (nI j0) 0 N h40 hN0) fw_M_77 ⟨Nat.le_of_ble_eq_true rfl, Nat.le_of_ble_eq_true rfl⟩ rfl rfl rfl hQ rfl hl.1 (rest := []) rfl (Nat.le_of_ble_eq_true rfl) fd_M_run_45 ⟨Nat.le_refl _, Nat.le_refl _⟩ (fun r45 u45 H locs hp45 hQ => ?_)
          have hu45 : u45 = fq_run1 g N (nI j0) := hp45.2
          rw [hu45] at hQ
          have hmu0 : fq_mu (fq_run1 g N (nI j0)) N < 41 := by have h9 := fq_cnt_le (fun k => decide (fq_run1 g N (nI j0) 6 k = 0)) N; unfold fq_mu; omega
          refine lv_pop hxx hbb fd_M_run_48 rfl ?_
          have loop49 : ∀ (n : Nat) (b : fq_G) (C1 P1 : Nat), fq_mu b N < n → fq_loopF N E n b = fq_runT g N E (nI j0) → fq_RP b N M E C1 P1 j0 → ∀ (H : Heap) (locs : List Loc) (ls : Array Slot), fq_Hp V A s.heap (fq_WM V o mo b) H locs → lv_has ls 5 [(0, .ref (o 0)), (1, .int (nI j0))] → W p l e (fq_Rm 4) s m args below meth c H locs 0 0 Q (F0 m 49 ls []) := by
            intro n
            induction n with
            | zero =>
              intro b C1 P1 hmu hT hRP
              omega
            | succ n ih49 =>
              intro b C1 P1 hmu hT hRP H locs ls hQ hl
              refine lv_aload_n hxx hbb fd_M_run_49 rfl (lv_at hl 0 rfl) ?_
              refine fq_callI hC (fc_M_size l V o mo b N h40 hRP.1.2.2.1) fw_M_83 ⟨Nat.le_of_ble_eq_true rfl, Nat.le_of_ble_eq_true rfl⟩ rfl rfl rfl hQ rfl hl.1 (rest := []) rfl (Nat.le_of_ble_eq_true rfl) fd_M_run_50 ⟨Nat.le_refl _, Nat.le_refl _⟩ (fun r50 u50 H locs hp50 hQ => ?_)
              rw [hp50.1] at hQ
              refine fq_top (y := nI (fq_cnt (fq_th b) N)) hp50.2 ?_
              refine lv_if_le (tgt := 177) hxx hbb fd_M_run_53 (by decide) (fun c53 => ?_) (fun c53 => ?_)
              · have hc : fq_cnt (fq_th b) N = 0 := by have h8 := fq_cnt_le (fq_th b) N; have h9 := (nI_leI (a := fq_cnt (fq_th b) N) (b := 0) (by omega) (by omega)).mp (by rw [nI_0]; exact c53); omega
                have hbT : b = fq_runT g N E (nI j0) := by rw [← hT]; simp only [fq_loopF]; rw [if_pos hc]
                obtain ⟨hz1, hz2⟩ := fq_run_is (a := g) (E := E) h40 hj0
                rw [← hbT] at hz1 hz2
                refine lv_aload_n hxx hbb fd_M_run_177 rfl (lv_at hl 0 rfl) ?_
                refine lv_iload_n hxx hbb fd_M_run_178 rfl (lv_at hl 1 rfl) ?_
                refine fq_callV hC (fc_M_spread l V o mo b N M E j0 h40 hRP.1.2.2.1 hRP.2.1 hj0) fw_M_95 ⟨Nat.le_of_ble_eq_true rfl, Nat.le_of_ble_eq_true rfl⟩ rfl rfl rfl hQ rfl hl.1 (rest := []) rfl (Nat.le_of_ble_eq_true rfl) fd_M_run_179 ⟨Nat.le_refl _, Nat.le_refl _⟩ (fun u179 H locs hp179 hQ => ?_)
                obtain ⟨nr, eu179, hnr1, hnr2, hnr3⟩ := hp179
                subst eu179
                have hov := fq_over_near hRP hj0 hc hnr1 hnr2 hnr3
                refine lv_aload_n hxx hbb fd_M_run_182 rfl (lv_at hl 0 rfl) ?_
                refine lv_iconst (v := 1) hxx hbb fd_M_run_183 (by decide) ?_
                refine fp_M_hasWays hC hQ rfl rfl fd_M_run_184 (fun H locs hQ => ?_)
                refine lv_iconst (v := (nI 0)) hxx hbb fd_M_run_187 (by decide) ?_
                refine lv_istore_n (lv' := [(2, .int (nI 0)), (0, .ref (o 0)), (1, .int (nI j0))]) hxx hbb fd_M_run_188 rfl hl (by decide) rfl (fun ls hl => ?_)
                have loop189 : ∀ (n : Nat) (k : Nat) (z : Int32), k ≤ N → N < k + n → ((z = 1 ∧ ∀ i, i < k → b 6 i ≠ 0 ∨ nr i = 0) ∨ (z = 0 ∧ ¬ ∀ i, i < N → b 6 i ≠ 0 ∨ nr i = 0)) → ∀ (H : Heap) (locs : List Loc) (ls : Array Slot), fq_Hp V A s.heap (fq_WM V o mo (fq_us (fq_row b 7 nr) 8 7 z)) H locs → lv_has ls 5 [(0, .ref (o 0)), (1, .int (nI j0)), (2, .int (nI k))] → W p l e (fq_Rm 4) s m args below meth c H locs 0 0 Q (F0 m 189 ls []) := by
                  intro n
                  induction n with
                  | zero =>
                    intro k z hk hn5 hzz
                    omega
                  | succ n ih189 =>
                    intro k z hk hn5 hzz H locs ls hQ hl
                    refine lv_iload_n hxx hbb fd_M_run_189 rfl (lv_at hl 2 rfl) ?_
                    refine lv_aload_n hxx hbb fd_M_run_190 rfl (lv_at hl 0 rfl) ?_
                    refine fg_M_items hC hQ fd_M_run_191 (v := nI N) hRP.1.2.2.1 ?_
                    refine lv_icmp_ge (tgt := 237) hxx hbb fd_M_run_194 (by decide) (fun c194 => ?_) (fun c194 => ?_)
                    · have hkN : N = k := by have h9 := (nI_leI (by omega) (by omega)).mp c194; omega
                      subst hkN
                      have hh : fq_hasI b E = z := by
                        unfold fq_hasI
                        rcases hzz with ⟨q1, q2⟩ | ⟨q1, q2⟩
                        · rw [if_pos (hov.mp q2), q1]
                        · rw [if_neg (fun q => q2 (hov.mpr q)), q1]
                      rw [hh] at hz1 hz2
                      refine lv_aload_n hxx hbb fd_M_run_237 rfl (lv_at hl 0 rfl) ?_
                      refine fg_M_hasWays hC hQ fd_M_run_238 (v := z) rfl ?_
                      refine lv_if_eq (tgt := 248) hxx hbb fd_M_run_241 (by decide) (fun c241 => ?_) (fun c241 => ?_)
                      · refine lv_bipush (v := (-2)) hxx hbb fd_M_run_248 (by decide) ?_
                        exact hret _ _ _ _ _ _ fd_M_run_250 hQ ⟨by rw [hz2, if_pos c241], nr, by rw [hz1, fq_row_us]⟩ rfl
                      · refine lv_iconst (v := 0) hxx hbb fd_M_run_244 (by decide) ?_
                        refine lv_goto (tgt := 250) hxx hbb fd_M_run_245 (by decide) ?_
                        exact hret _ _ _ _ _ _ fd_M_run_250 hQ ⟨by rw [hz2, if_neg c241], nr, by rw [hz1, fq_row_us]⟩ rfl
                    · have hkN : k < N := Nat.not_le.mp (fun q => c194 (nI_le q (by omega)))
                      refine lv_aload_n hxx hbb fd_M_run_197 rfl (lv_at hl 0 rfl) ?_
                      refine lv_aload_n hxx hbb fd_M_run_198 rfl (lv_at hl 0 rfl) ?_
                      refine fg_M_hasWays hC hQ fd_M_run_199 (v := z) rfl ?_
                      refine lv_if_eq (tgt := 227) hxx hbb fd_M_run_202 (by decide) (fun c202 => ?_) (fun c202 => ?_)
                      · have hzz2 : ((0 : Int32) = 1 ∧ ∀ i, i < k + 1 → b 6 i ≠ 0 ∨ nr i = 0) ∨ ((0 : Int32) = 0 ∧ ¬ ∀ i, i < N → b 6 i ≠ 0 ∨ nr i = 0) := Or.inr ⟨rfl, fq_no hzz c202⟩
                        refine lv_iconst (v := 0) hxx hbb fd_M_run_227 (by decide) ?_
                        refine fp_M_hasWays hC hQ rfl rfl fd_M_run_228 (fun H locs hQ => ?_)
                        refine lv_iinc (v := nI (k + 1)) (lv' := [(2, .int (nI (k + 1))), (0, .ref (o 0)), (1, .int (nI j0))]) hxx hbb fd_M_run_231 hl (k := 2) rfl (fq_inc k) (by decide) rfl (fun ls hl => ?_)
                        refine lv_goto (tgt := 189) hxx hbb fd_M_run_234 (by decide) ?_
                        exact ih189 (k + 1) 0 (by omega) (by omega) hzz2 _ _ _ hQ (lv_sub hl [1, 2, 0] rfl)
                      · refine lv_aload_n hxx hbb fd_M_run_205 rfl (lv_at hl 0 rfl) ?_
                        refine fg_M_taken hC hQ fd_M_run_206 ?_
                        refine lv_iload_n hxx hbb fd_M_run_209 rfl (lv_at hl 2 rfl) ?_
                        refine fr_M_taken hC hQ k rfl (by omega) fd_M_run_210 (v := b 6 k) rfl ?_
                        refine lv_if_ne (tgt := 223) hxx hbb fd_M_run_211 (by decide) (fun c211 => ?_) (fun c211 => ?_)
                        · have hzz2 : ((1 : Int32) = 1 ∧ ∀ i, i < k + 1 → b 6 i ≠ 0 ∨ nr i = 0) ∨ ((1 : Int32) = 0 ∧ ¬ ∀ i, i < N → b 6 i ≠ 0 ∨ nr i = 0) := Or.inl ⟨rfl, lt_s (fq_yes hzz c202) (Or.inl c211)⟩
                          refine lv_iconst (v := 1) hxx hbb fd_M_run_223 (by decide) ?_
                          refine lv_goto (tgt := 228) hxx hbb fd_M_run_224 (by decide) ?_
                          refine fp_M_hasWays hC hQ rfl rfl fd_M_run_228 (fun H locs hQ => ?_)
                          refine lv_iinc (v := nI (k + 1)) (lv' := [(2, .int (nI (k + 1))), (0, .ref (o 0)), (1, .int (nI j0))]) hxx hbb fd_M_run_231 hl (k := 2) rfl (fq_inc k) (by decide) rfl (fun ls hl => ?_)
                          refine lv_goto (tgt := 189) hxx hbb fd_M_run_234 (by decide) ?_
                          exact ih189 (k + 1) 1 (by omega) (by omega) hzz2 _ _ _ hQ (lv_sub hl [1, 2, 0] rfl)
                        · refine lv_aload_n hxx hbb fd_M_run_214 rfl (lv_at hl 0 rfl) ?_
                          refine fg_M_near hC hQ fd_M_run_215 ?_
                          refine lv_iload_n hxx hbb fd_M_run_218 rfl (lv_at hl 2 rfl) ?_
                          refine fr_M_near hC hQ k rfl (by omega) fd_M_run_219 (v := nr k) rfl ?_
                          refine lv_if_ne (tgt := 227) hxx hbb fd_M_run_220 (by decide) (fun c220 => ?_) (fun c220 => ?_)
                          · have hzz2 : ((0 : Int32) = 1 ∧ ∀ i, i < k + 1 → b 6 i ≠ 0 ∨ nr i = 0) ∨ ((0 : Int32) = 0 ∧ ¬ ∀ i, i < N → b 6 i ≠ 0 ∨ nr i = 0) := Or.inr ⟨rfl, fun q => (q k hkN).elim (fun q => q c211) c220⟩
                            refine lv_iconst (v := 0) hxx hbb fd_M_run_227 (by decide) ?_
                            refine fp_M_hasWays hC hQ rfl rfl fd_M_run_228 (fun H locs hQ => ?_)
                            refine lv_iinc (v := nI (k + 1)) (lv' := [(2, .int (nI (k + 1))), (0, .ref (o 0)), (1, .int (nI j0))]) hxx hbb fd_M_run_231 hl (k := 2) rfl (fq_inc k) (by decide) rfl (fun ls hl => ?_)
                            refine lv_goto (tgt := 189) hxx hbb fd_M_run_234 (by decide) ?_
                            exact ih189 (k + 1) 0 (by omega) (by omega) hzz2 _ _ _ hQ (lv_sub hl [1, 2, 0] rfl)
                          · have hzz2 : ((1 : Int32) = 1 ∧ ∀ i, i < k + 1 → b 6 i ≠ 0 ∨ nr i = 0) ∨ ((1 : Int32) = 0 ∧ ¬ ∀ i, i < N → b 6 i ≠ 0 ∨ nr i = 0) := Or.inl ⟨rfl, lt_s (fq_yes hzz c202) (Or.inr c220)⟩
                            refine lv_iconst (v := 1) hxx hbb fd_M_run_223 (by decide) ?_
                            refine lv_goto (tgt := 228) hxx hbb fd_M_run_224 (by decide) ?_
                            refine fp_M_hasWays hC hQ rfl rfl fd_M_run_228 (fun H locs hQ => ?_)
                            refine lv_iinc (v := nI (k + 1)) (lv' := [(2, .int (nI (k + 1))), (0, .ref (o 0)), (1, .int (nI j0))]) hxx hbb fd_M_run_231 hl (k := 2) rfl (fq_inc k) (by decide) rfl (fun ls hl => ?_)
                            refine lv_goto (tgt := 189) hxx hbb fd_M_run_234 (by decide) ?_
                            exact ih189 (k + 1) 1 (by omega) (by omega) hzz2 _ _ _ hQ (lv_sub hl [1, 2, 0] rfl)
                exact loop189 (N + 1) 0 1 (Nat.zero_le _) (by omega) (Or.inl ⟨rfl, fun i hi => absurd hi (Nat.not_lt_zero _)⟩) _ _ _ hQ (lv_sub hl [1, 2, 0] rfl)
              · have hc : ¬ fq_cnt (fq_th b) N = 0 := fun q => c53 (by rw [q, nI_0]; exact Int32.le_refl 0)
                have hT2 : fq_loopF N E n (fq_stepF N E b) = fq_runT g N E (nI j0) := by rw [← hT]; simp only [fq_loopF]; rw [if_neg hc]
                obtain ⟨f, hf⟩ := fq_isL_ex (fq_nonempty hc)
                have hf40 : f < 40 := by have h9 := hf.1; omega
                obtain ⟨⟨P5, hRP5⟩, htk5, hw5, hmu5⟩ := fq_popT_ok hRP hf
                have hstep : fq_rx N f E (fq_popT b N f) = fq_stepF N E b := by unfold fq_stepF; rw [fq_least_is hf]
                refine lv_ldc (v := 2147483647) hxx hbb hC.2.2.2.2.1 (hC.2.2.2.2.2.1 _ fq_cst_M2) fd_M_run_56 ?_
                refine lv_istore_n (lv' := [(2, .int 2147483647), (0, .ref (o 0)), (1, .int (nI j0))]) hxx hbb fd_M_run_58 rfl hl (by decide) rfl (fun ls hl => ?_)
                refine lv_iconst (v := (nI 0)) hxx hbb fd_M_run_59 (by decide) ?_
                refine lv_istore_n (lv' := [(3, .int (nI 0)), (2, .int 2147483647), (0, .ref (o 0)), (1, .int (nI j0))]) hxx hbb fd_M_run_60 rfl hl (by decide) rfl (fun ls hl => ?_)
                have loop61 : ∀ (n : Nat) (k : Nat) (lst : Int32), k ≤ N → N < k + n → fq_LK (b 0) k lst → ∀ (H : Heap) (locs : List Loc) (ls : Array Slot), fq_Hp V A s.heap (fq_WM V o mo b) H locs → lv_has ls 5 [(0, .ref (o 0)), (1, .int (nI j0)), (2, .int lst), (3, .int (nI k))] → W p l e (fq_Rm 4) s m args below meth c H locs 0 0 Q (F0 m 61 ls []) := by
                  intro n
                  induction n with
                  | zero =>
                    intro k lst hk hn2 hlk
                    omega
                  | succ n ih61 =>
                    intro k lst hk hn2 hlk H locs ls hQ hl
                    refine lv_iload_n hxx hbb fd_M_run_61 rfl (lv_at hl 3 rfl) ?_
                    refine lv_aload_n hxx hbb fd_M_run_62 rfl (lv_at hl 0 rfl) ?_
                    refine fg_M_items hC hQ fd_M_run_63 (v := nI N) hRP.1.2.2.1 ?_
                    refine lv_icmp_ge (tgt := 106) hxx hbb fd_M_run_66 (by decide) (fun c66 => ?_) (fun c66 => ?_)
                    · have hkN : N = k := by have h9 := (nI_leI (by omega) (by omega)).mp c66; omega
                      subst hkN
                      have hlst := fq_LK_end hlk hf
                      subst hlst
                      refine lv_aload_n hxx hbb fd_M_run_106 rfl (lv_at hl 0 rfl) ?_
                      refine fq_callI hC (fc_M_pop l V o mo b N C1 P1 hRP.1) fw_M_88 ⟨Nat.le_of_ble_eq_true rfl, Nat.le_of_ble_eq_true rfl⟩ rfl rfl rfl hQ rfl hl.1 (rest := []) rfl (Nat.le_of_ble_eq_true rfl) fd_M_run_107 ⟨Nat.le_refl _, Nat.le_refl _⟩ (fun r107 u107 H locs hp107 hQ => ?_)
                      obtain ⟨f', hf', er107, eu107⟩ := hp107.resolve_left (fun q => hc q.1)
                      have hff : f' = f := fq_isL_uniq hf' hf
                      rw [hff] at er107 eu107
                      rw [eu107] at hQ
                      refine fq_top (y := nI f) er107 ?_
                      refine lv_istore_n (lv' := [(3, .int (nI f)), (0, .ref (o 0)), (1, .int (nI j0)), (2, .int (b 0 f))]) hxx hbb fd_M_run_110 rfl hl (by decide) rfl (fun ls hl => ?_)
                      refine lv_aload_n hxx hbb fd_M_run_111 rfl (lv_at hl 1 rfl) ?_
                      refine fg_M_ways hC hQ fd_M_run_112 ?_
                      refine lv_iload_n hxx hbb fd_M_run_115 rfl (lv_at hl 0 rfl) ?_
                      refine lv_iload_n hxx hbb fd_M_run_116 rfl (lv_at hl 3 rfl) ?_
                      refine fs_M_ways hC hQ f rfl (by omega) fd_M_run_117 (fun H locs hQ => ?_)
                      refine lv_aload_n hxx hbb fd_M_run_118 rfl (lv_at hl 1 rfl) ?_
                      refine fg_M_taken hC hQ fd_M_run_119 ?_
                      refine lv_iload_n hxx hbb fd_M_run_122 rfl (lv_at hl 0 rfl) ?_
                      refine lv_iconst (v := 1) hxx hbb fd_M_run_123 (by decide) ?_
                      refine fs_M_taken hC hQ f rfl (by omega) (by decide) fd_M_run_124 (fun H locs hQ => ?_)
                      refine lv_aload_n hxx hbb fd_M_run_125 rfl (lv_at hl 1 rfl) ?_
                      refine fg_M_arcs hC hQ fd_M_run_126 (v := nI E) (by have h9 := hRP5.2.1.2.2.2.2.1; exact h9) ?_
                      refine lv_iconst (v := 1) hxx hbb fd_M_run_129 (by decide) ?_
                      refine lv_isub hxx hbb fd_M_run_130 ?_
                      refine lv_istore (lv' := [(4, .int ((nI E) - 1)), (3, .int (nI f)), (0, .ref (o 0)), (1, .int (nI j0)), (2, .int (b 0 f))]) hxx hbb fd_M_run_131 hl (by decide) rfl (fun ls hl => ?_)
                      have loop133 : ∀ (n : Nat) (i : Nat) (b2 : fq_G) (C2 P2 : Nat), i ≤ E → i < n → fq_rx N f i b2 = fq_stepF N E b → fq_RP b2 N M E C2 P2 j0 → fq_BF (fq_popT b N f) b2 → ∀ (H : Heap) (locs : List Loc) (ls : Array Slot), fq_Hp V A s.heap (fq_WM V o mo b2) H locs → lv_has ls 5 [(0, .ref (o 0)), (1, .int (nI j0)), (3, .int (nI f)), (4, .int (nI i - 1))] → W p l e (fq_Rm 4) s m args below meth c H locs 0 0 Q (F0 m 133 ls []) := by
                        intro n
                        induction n with
                        | zero =>
                          intro i b2 C2 P2 hiE hin hrx hRP2 hbf
                          omega
                        | succ n ih133 =>
                          intro i b2 C2 P2 hiE hin hrx hRP2 hbf H locs ls hQ hl
                          refine lv_iload hxx hbb fd_M_run_133 (lv_at hl 3 rfl) ?_
                          refine lv_if_lt (tgt := 174) hxx hbb fd_M_run_135 (by decide) (fun c135 => ?_) (fun c135 => ?_)
                          · have hi0 : i = 0 := fq_pm_neg (by omega) c135
                            subst hi0
                            have hb2 : b2 = fq_stepF N E b := hrx
                            have hmu2 : fq_mu b2 N + 1 = fq_mu b N := by rw [← hmu5]; unfold fq_mu; rw [hbf.1 6 (by decide) (by decide) (by decide)]
                            refine lv_goto (tgt := 49) hxx hbb fd_M_run_174 (by decide) ?_
                            exact ih49 b2 C2 P2 (by omega) (by rw [hb2]; exact hT2) hRP2 _ _ _ hQ (lv_sub hl [0, 1] rfl)
                          · obtain ⟨i2, ei⟩ := fq_pm_pos c135
                            subst ei
                            rw [nI_pred] at hl
                            refine lv_aload_n hxx hbb fd_M_run_138 rfl (lv_at hl 0 rfl) ?_
                            refine fg_M_froms hC hQ fd_M_run_139 ?_
                            refine lv_iload hxx hbb fd_M_run_142 (lv_at hl 3 rfl) ?_
                            refine fr_M_froms hC hQ i2 rfl (by omega) fd_M_run_144 (v := b2 1 i2) rfl ?_
                            refine lv_iload_n hxx hbb fd_M_run_145 rfl (lv_at hl 2 rfl) ?_
                            refine lv_icmp_ne (tgt := 168) hxx hbb fd_M_run_146 (by decide) (fun c146 => ?_) (fun c146 => ?_)
                            · refine lv_iinc (v := nI i2 - 1) (lv' := [(4, .int (nI i2 - 1)), (0, .ref (o 0)), (1, .int (nI j0)), (3, .int (nI f))]) hxx hbb fd_M_run_168 hl (k := 3) rfl (fq_dec1 (nI i2)) (by decide) rfl (fun ls hl => ?_)
                              refine lv_goto (tgt := 133) hxx hbb fd_M_run_171 (by decide) ?_
                              exact ih133 i2 b2 C2 P2 (by omega) (by omega) (by rw [← hrx]; simp only [fq_rx]; rw [if_neg c146]) hRP2 hbf _ _ _ hQ (lv_sub hl [1, 2, 3, 0] rfl)
                            · obtain ⟨v, hv, ev⟩ := (hRP2.2.1.2.2.2.2.2 i2 (by omega)).2.1
                              have ev2 : (b2 2 i2).toNatClampNeg = v := by rw [ev, nI_clamp (by omega)]
                              have htk2 : b2 6 f ≠ 0 := by rw [hbf.1 6 (by decide) (by decide) (by decide)]; exact htk5
                              have hw2 : b2 4 f = b2 8 3 := by rw [hbf.1 4 (by decide) (by decide) (by decide), hbf.2 3 (by decide) (by decide)]; exact hw5
                              obtain ⟨C6, P6, -, hRP6⟩ := fq_reach_ok hRP2 hf.1 htk2 hw2 (by omega) c146 hv ev
                              refine lv_aload_n hxx hbb fd_M_run_149 rfl (lv_at hl 0 rfl) ?_
                              refine lv_iload_n hxx hbb fd_M_run_150 rfl (lv_at hl 2 rfl) ?_
                              refine lv_aload_n hxx hbb fd_M_run_151 rfl (lv_at hl 0 rfl) ?_
                              refine fg_M_tos hC hQ fd_M_run_152 ?_
                              refine lv_iload hxx hbb fd_M_run_155 (lv_at hl 3 rfl) ?_
                              refine fr_M_tos hC hQ i2 rfl (by omega) fd_M_run_157 (v := nI v) ev ?_
                              refine lv_aload_n hxx hbb fd_M_run_158 rfl (lv_at hl 0 rfl) ?_
                              refine fg_M_lengths hC hQ fd_M_run_159 ?_
                              refine lv_iload hxx hbb fd_M_run_162 (lv_at hl 3 rfl) ?_
                              refine fr_M_lengths hC hQ i2 rfl (by omega) fd_M_run_164 (v := b2 3 i2) rfl ?_
                              refine fq_callV hC (fc_M_reach l V o mo b2 N C2 P2 hRP2.1 f v (b2 3 i2) hf.1 hv (by rw [hw2]; exact hRP2.1.2.2.2.1) (hRP2.2.1.2.2.2.2.2 i2 (by omega)).2.2) fw_M_91 ⟨Nat.le_of_ble_eq_true rfl, Nat.le_of_ble_eq_true rfl⟩ rfl rfl rfl hQ rfl hl.1 (rest := []) rfl (Nat.le_of_ble_eq_true rfl) fd_M_run_165 ⟨Nat.le_refl _, Nat.le_refl _⟩ (fun u165 H locs hp165 hQ => ?_)
                              subst hp165
                              refine lv_iinc (v := nI i2 - 1) (lv' := [(4, .int (nI i2 - 1)), (0, .ref (o 0)), (1, .int (nI j0)), (3, .int (nI f))]) hxx hbb fd_M_run_168 hl (k := 3) rfl (fq_dec1 (nI i2)) (by decide) rfl (fun ls hl => ?_)
                              refine lv_goto (tgt := 133) hxx hbb fd_M_run_171 (by decide) ?_
                              exact ih133 i2 (fq_reachF b2 N f v (b2 3 i2)) C6 P6 (by omega) (by omega) (by rw [← hrx]; simp only [fq_rx]; rw [if_pos c146, ev2]) hRP6 (hbf.trans (fq_BF_reach _ _ _ _ _)) _ _ _ hQ (lv_sub hl [1, 2, 3, 0] rfl)
                      exact loop133 (E + 1) E (fq_popT b N f) C1 P5 (Nat.le_refl _) (by omega) hstep hRP5 (fq_BF.rf _) _ _ _ hQ (lv_sub hl [2, 3, 1, 0] rfl)
                    · have hkN : k < N := Nat.not_le.mp (fun q => c66 (nI_le q (by omega)))
                      refine lv_aload_n hxx hbb fd_M_run_69 rfl (lv_at hl 0 rfl) ?_
                      refine fg_M_keys hC hQ fd_M_run_70 ?_
                      refine lv_iload_n hxx hbb fd_M_run_73 rfl (lv_at hl 3 rfl) ?_
                      refine fr_M_keys hC hQ k rfl (by omega) fd_M_run_74 (v := b 0 k) rfl ?_
                      refine lv_iconst (v := (-1)) hxx hbb fd_M_run_75 (by decide) ?_
                      refine lv_icmp_eq (tgt := 98) hxx hbb fd_M_run_76 (by decide) (fun c76 => ?_) (fun c76 => ?_)
                      · have hlk2 := fq_LK_keep hlk (Or.inl c76)
                        refine lv_iload_n hxx hbb fd_M_run_98 rfl (lv_at hl 2 rfl) ?_
                        refine lv_istore_n (lv' := [(2, .int lst), (0, .ref (o 0)), (1, .int (nI j0)), (3, .int (nI k))]) hxx hbb fd_M_run_99 rfl hl (by decide) rfl (fun ls hl => ?_)
                        refine lv_iinc (v := nI (k + 1)) (lv' := [(3, .int (nI (k + 1))), (2, .int lst), (0, .ref (o 0)), (1, .int (nI j0))]) hxx hbb fd_M_run_100 hl (k := 3) rfl (fq_inc k) (by decide) rfl (fun ls hl => ?_)
                        refine lv_goto (tgt := 61) hxx hbb fd_M_run_103 (by decide) ?_
                        exact ih61 (k + 1) lst (by omega) (by omega) hlk2 _ _ _ hQ (lv_sub hl [2, 3, 1, 0] rfl)
                      · refine lv_aload_n hxx hbb fd_M_run_79 rfl (lv_at hl 0 rfl) ?_
                        refine fg_M_keys hC hQ fd_M_run_80 ?_
                        refine lv_iload_n hxx hbb fd_M_run_83 rfl (lv_at hl 3 rfl) ?_
                        refine fr_M_keys hC hQ k rfl (by omega) fd_M_run_84 (v := b 0 k) rfl ?_
                        refine lv_iload_n hxx hbb fd_M_run_85 rfl (lv_at hl 2 rfl) ?_
                        refine lv_icmp_ge (tgt := 98) hxx hbb fd_M_run_86 (by decide) (fun c86 => ?_) (fun c86 => ?_)
                        · have hlk2 := fq_LK_keep hlk (Or.inr c86)
                          refine lv_iload_n hxx hbb fd_M_run_98 rfl (lv_at hl 2 rfl) ?_
                          refine lv_istore_n (lv' := [(2, .int lst), (0, .ref (o 0)), (1, .int (nI j0)), (3, .int (nI k))]) hxx hbb fd_M_run_99 rfl hl (by decide) rfl (fun ls hl => ?_)
                          refine lv_iinc (v := nI (k + 1)) (lv' := [(3, .int (nI (k + 1))), (2, .int lst), (0, .ref (o 0)), (1, .int (nI j0))]) hxx hbb fd_M_run_100 hl (k := 3) rfl (fq_inc k) (by decide) rfl (fun ls hl => ?_)
                          refine lv_goto (tgt := 61) hxx hbb fd_M_run_103 (by decide) ?_
                          exact ih61 (k + 1) lst (by omega) (by omega) hlk2 _ _ _ hQ (lv_sub hl [2, 3, 1, 0] rfl)
                        · have hlk2 := fq_LK_take hlk c76 c86
                          refine lv_aload_n hxx hbb fd_M_run_89 rfl (lv_at hl 0 rfl) ?_
                          refine fg_M_keys hC hQ fd_M_run_90 ?_
                          refine lv_iload_n hxx hbb fd_M_run_93 rfl (lv_at hl 3 rfl) ?_
                          refine fr_M_keys hC hQ k rfl (by omega) fd_M_run_94 (v := b 0 k) rfl ?_
                          refine lv_goto (tgt := 99) hxx hbb fd_M_run_95 (by decide) ?_
                          refine lv_istore_n (lv' := [(2, .int (b 0 k)), (0, .ref (o 0)), (1, .int (nI j0)), (3, .int (nI k))]) hxx hbb fd_M_run_99 rfl hl (by decide) rfl (fun ls hl => ?_)
                          refine lv_iinc (v := nI (k + 1)) (lv' := [(3, .int (nI (k + 1))), (2, .int (b 0 k)), (0, .ref (o 0)), (1, .int (nI j0))]) hxx hbb fd_M_run_100 hl (k := 3) rfl (fq_inc k) (by decide) rfl (fun ls hl => ?_)
                          refine lv_goto (tgt := 61) hxx hbb fd_M_run_103 (by decide) ?_
                          exact ih61 (k + 1) (b 0 k) (by omega) (by omega) hlk2 _ _ _ hQ (lv_sub hl [2, 3, 1, 0] rfl)
                exact loop61 (N + 1) 0 2147483647 (Nat.zero_le _) (by omega) (fq_LK_0 _) _ _ _ hQ (lv_sub hl [2, 3, 1, 0] rfl)
          exact loop49 41 (fq_run1 g N (nI j0)) (C + 1) (P + 1) hmu0 rfl (fq_run1_ok hA hG hj0) _ _ _ hQ (lv_sub hl [0, 1] rfl)
        · have hk40 : k < 40 := Nat.not_le.mp (fun q => c19 (nI_le q (by omega)))
          refine lv_aload_n hxx hbb fd_M_run_22 rfl (lv_at hl 0 rfl) ?_
          refine fg_M_taken hC hQ fd_M_run_23 ?_
          refine lv_iload_n hxx hbb fd_M_run_26 rfl (lv_at hl 2 rfl) ?_
          refine lv_iconst (v := 0) hxx hbb fd_M_run_27 (by decide) ?_
          refine fs_M_taken hC hQ k rfl (by omega) (by decide) fd_M_run_28 (fun H locs hQ => ?_)
          refine lv_aload_n hxx hbb fd_M_run_29 rfl (lv_at hl 0 rfl) ?_
          refine fg_M_formers hC hQ fd_M_run_30 ?_
          refine lv_iload_n hxx hbb fd_M_run_33 rfl (lv_at hl 2 rfl) ?_
          refine lv_iconst (v := (-1)) hxx hbb fd_M_run_34 (by decide) ?_
          refine fs_M_formers hC hQ k rfl (by omega) fd_M_run_35 (fun H locs hQ => ?_)
          refine lv_iinc (v := nI (k + 1)) (lv' := [(2, .int (nI (k + 1))), (0, .ref (o 0)), (1, .int (nI j0))]) hxx hbb fd_M_run_36 hl (k := 2) rfl (fq_inc k) (by decide) rfl (fun ls hl => ?_)
          refine lv_goto (tgt := 16) hxx hbb fd_M_run_39 (by decide) ?_
          exact ih16 (k + 1) _ (by omega) (by omega) (by rw [hg1, fq_rs, fq_fill_s, fq_fill_s]) _ _ _ hQ (lv_sub hl [1, 2, 0] rfl)
    exact loop16 41 0 (fq_clrM g) (by omega) (by omega) fq_rr.symm _ _ _ hQ (lv_sub hl [1, 2, 0] rfl)
  · refine lv_iconst (v := (-1)) hxx hbb fd_M_run_8 (by decide) ?_
    exact hret _ _ _ _ _ _ fd_M_run_9 hQ ⟨(fq_run_no (fq_no hp2.2 c5)).2.symm, g 7, by rw [(fq_run_no (fq_no hp2.2 c5)).1, fq_row_self]⟩ rfl
end
section
/-! rows for constructors -/
section FQN
variable {V : fq_V} {p : Program} {l : Launch} {e : Env} {R : Room} {s : State} {m : MethodId} {args : Array Value} {below : List Frame} {meth : Method} {c : Code} {H : Heap} {locs : List Loc} {cells slots : Nat} {Q : State → Prop}
variable {cc : ByteArray} {pc nL : Nat} {ret : Option FieldType} {ls : Array Slot} {rest : List Value} {A : Nat → Prop} {H0 : Heap} {own : String} {w : va_W}
theorem fq_newI (hC : fq_Cx V p s m args meth c own cc nL ret) (hQ : fq_Hp V A H0 w H locs) {n : Int32} {N' : Nat} (hn : n = nI N') (hN : N' ≤ 300) (hcells : cells + 1 ≤ R.cells) (hslots : slots + N' ≤ R.slots) (hdg : decode cc pc = .ok (.newarray .int, 2))
    (kk : ∀ (q : Nat) (H1 : Heap), fq_Hp V A H0 (w ++ [(q, .inl (V.2.1, N', .inl (fun _ => 0)))]) H1 locs → W p l e R s m args below meth c H1 locs (cells + 1) (slots + N') Q (F0 m (pc + 2) ls (.ref q :: rest))) : W p l e R s m args below meth c H locs cells slots Q (F0 m pc ls (.int n :: rest)) := by
  subst hn
  obtain ⟨hx, hb, hr, hml, hown, hts, hlk, hK⟩ := hC
  obtain ⟨hP, hD, hS, hA⟩ := hQ
  refine va_newa (atype := .int) (tys := fq_tys V) (a0 := (N', .inl (fun _ => 0))) hx hb (hts _ fa_int) rfl hK hP hD hS hA (fun cA => rfl) (nI_pos (by omega)) (nI_clamp (by omega)) (by show N' * 4 ≤ _; omega) hcells hslots hdg (fun q cA H1 hK1 hP1 hD1 hS1 => ?_)
  have e1 : s.vm.findClass ("[" ++ FieldType.int.toString) = some cA := (hK1.2 2 (cA, .int) rfl).2
  have e2 : s.vm.findClass ("[" ++ FieldType.int.toString) = some V.2.1 := (hK.2 0 (V.2.1, .int) rfl).2
  have e3 : cA = V.2.1 := Option.some.inj (e1.symm.trans e2)
  subst e3
  exact kk q H1 ⟨hP1, hD1, hS1, hA⟩
theorem fq_newZ (hC : fq_Cx V p s m args meth c own cc nL ret) (hQ : fq_Hp V A H0 w H locs) {n : Int32} {N' : Nat} (hn : n = nI N') (hN : N' ≤ 300) (hcells : cells + 1 ≤ R.cells) (hslots : slots + N' ≤ R.slots) (hdg : decode cc pc = .ok (.newarray .boolean, 2))
    (kk : ∀ (q : Nat) (H1 : Heap), fq_Hp V A H0 (w ++ [(q, .inl (V.2.2, N', .inl (fun _ => 0)))]) H1 locs → W p l e R s m args below meth c H1 locs (cells + 1) (slots + N') Q (F0 m (pc + 2) ls (.ref q :: rest))) : W p l e R s m args below meth c H locs cells slots Q (F0 m pc ls (.int n :: rest)) := by
  subst hn
  obtain ⟨hx, hb, hr, hml, hown, hts, hlk, hK⟩ := hC
  obtain ⟨hP, hD, hS, hA⟩ := hQ
  refine va_newa (atype := .boolean) (tys := fq_tys V) (a0 := (N', .inl (fun _ => 0))) hx hb (hts _ fa_boolean) rfl hK hP hD hS hA (fun cA => rfl) (nI_pos (by omega)) (nI_clamp (by omega)) (by show N' * 1 ≤ _; omega) hcells hslots hdg (fun q cA H1 hK1 hP1 hD1 hS1 => ?_)
  have e1 : s.vm.findClass ("[" ++ FieldType.boolean.toString) = some cA := (hK1.2 2 (cA, .boolean) rfl).2
  have e2 : s.vm.findClass ("[" ++ FieldType.boolean.toString) = some V.2.2 := (hK.2 1 (V.2.2, .boolean) rfl).2
  have e3 : cA = V.2.2 := Option.some.inj (e1.symm.trans e2)
  subst e3
  exact kk q H1 ⟨hP1, hD1, hS1, hA⟩
theorem fq_putQ (hC : fq_Cx V p s m args meth c R_Q cc nL ret) (hin : meth.name = "<init>") (hQ : fq_Hp V A H0 w H locs) {a idx : Nat} {fs : List Value} (he : w[0]? = some (a, .inr (0, fs))) (k : Nat) (hk : k < 21) (hl : Cond.fieldLink R_Q idx "FloorQueue" (F_Q k).2.1 (F_Q k).2.2.1 ∈ fq_tb) (hsame : (F_Q k).1 = "FloorQueue") (hfin : (F_Q k).2.2.2 = true) {ty : FieldType} {v : Value} (hd : parseFieldDescriptor (F_Q k).2.2.1 = some ty) (hn : narrow ty v = v) (hfit : fits ty v = true) (hlen : k < fs.length) (hdg : decode cc pc = .ok (.putfield idx, 3))
    (kk : ∀ (H1 : Heap) (locs1 : List Loc), fq_Hp V A H0 (w.set 0 (a, .inr (0, fs.set k v))) H1 locs1 → W p l e R s m args below meth c H1 locs1 cells slots Q (F0 m (pc + 3) ls rest)) : W p l e R s m args below meth c H locs cells slots Q (F0 m pc ls (v :: .ref a :: rest)) :=
  va_putF (D := V.1) (cl := classes) (ci := 0) (C := R_Q) (T := F_Q) (N := 21) (own := R_Q) (ref := "FloorQueue") (index := idx) hC.1 hC.2.1 hC.2.2.2.2.2.1 i_Q t_Q t_Q_ok n_Q hC.2.2.2.2.1 hC.2.2.2.2.2.2.2 hQ.1 hQ.2.1 hQ.2.2.1 0 he rfl k hk (hC.2.2.2.2.2.1 _ hl) (fun _ h9 => by rw [← hsame]; exact h9) hfin hin hsame hd hn hfit hlen hdg (fun H1 locs1 hP hD hS => kk H1 locs1 ⟨hP, hD, hS, hQ.2.2.2⟩)
theorem fq_putM (hC : fq_Cx V p s m args meth c R_M cc nL ret) (hin : meth.name = "<init>") (hQ : fq_Hp V A H0 w H locs) {a idx : Nat} {fs : List Value} (he : w[0]? = some (a, .inr (1, fs))) (k : Nat) (hk : k < 16) (hl : Cond.fieldLink R_M idx "FloorQueueModel" (F_M k).2.1 (F_M k).2.2.1 ∈ fq_tb) (hsame : (F_M k).1 = "FloorQueueModel") (hfin : (F_M k).2.2.2 = true) {ty : FieldType} {v : Value} (hd : parseFieldDescriptor (F_M k).2.2.1 = some ty) (hn : narrow ty v = v) (hfit : fits ty v = true) (hlen : k < fs.length) (hdg : decode cc pc = .ok (.putfield idx, 3))
    (kk : ∀ (H1 : Heap) (locs1 : List Loc), fq_Hp V A H0 (w.set 0 (a, .inr (1, fs.set k v))) H1 locs1 → W p l e R s m args below meth c H1 locs1 cells slots Q (F0 m (pc + 3) ls rest)) : W p l e R s m args below meth c H locs cells slots Q (F0 m pc ls (v :: .ref a :: rest)) :=
  va_putF (D := V.1) (cl := classes) (ci := 1) (C := R_M) (T := F_M) (N := 16) (own := R_M) (ref := "FloorQueueModel") (index := idx) hC.1 hC.2.1 hC.2.2.2.2.2.1 i_M t_M t_M_ok n_M hC.2.2.2.2.1 hC.2.2.2.2.2.2.2 hQ.1 hQ.2.1 hQ.2.2.1 0 he rfl k hk (hC.2.2.2.2.2.1 _ hl) (fun _ h9 => by rw [← hsame]; exact h9) hfin hin hsame hd hn hfit hlen hdg (fun H1 locs1 hP hD hS => kk H1 locs1 ⟨hP, hD, hS, hQ.2.2.2⟩)
theorem fq_getQ (hC : fq_Cx V p s m args meth c R_Q cc nL ret) (hQ : fq_Hp V A H0 w H locs) {a idx : Nat} {fs : List Value} (he : w[0]? = some (a, .inr (0, fs))) (k : Nat) (hk : k < 21) (hl : Cond.fieldLink R_Q idx "FloorQueue" (F_Q k).2.1 (F_Q k).2.2.1 ∈ fq_tb) (hsame : (F_Q k).1 = "FloorQueue") {v : Value} (hv : fs[k]? = some v) (hdg : decode cc pc = .ok (.getfield idx, 3))
    (kk : W p l e R s m args below meth c H locs cells slots Q (F0 m (pc + 3) ls (v :: rest))) : W p l e R s m args below meth c H locs cells slots Q (F0 m pc ls (.ref a :: rest)) :=
  va_get (D := V.1) (cl := classes) (ci := 0) (C := R_Q) (T := F_Q) (N := 21) (own := R_Q) (ref := "FloorQueue") (index := idx) hC.1 hC.2.1 hC.2.2.2.2.2.1 i_Q hC.2.2.2.2.1 hC.2.2.2.2.2.2.2 hQ.1 0 he rfl k hk (hC.2.2.2.2.2.1 _ hl) (fun _ h9 => by rw [← hsame]; exact h9) hv hdg kk
end FQN
/-- brought into a range -/
def fq_b (v lo hi : Int32) : Int32 := if v < lo then lo else if hi < v then hi else v
theorem fq_b_in (v : Int32) (h : Nat) (h1 : 1 ≤ h) (h2 : h ≤ 300) : ∃ N, 1 ≤ N ∧ N ≤ h ∧ fq_b v 1 (nI h) = nI N := by
  have e1 : (1 : Int32) = nI 1 := by decide
  unfold fq_b
  by_cases c : v < 1
  · rw [if_pos c]
    exact ⟨1, by omega, h1, e1⟩
  · rw [if_neg c]
    by_cases c2 : nI h < v
    · rw [if_pos c2]
      exact ⟨h, h1, by omega, rfl⟩
    · rw [if_neg c2]
      have e2 : (1 : Int32).toInt = 1 := by decide
      rw [Int32.lt_iff_toInt_lt, e2] at c
      rw [Int32.lt_iff_toInt_lt, nI_toInt (by omega)] at c2
      have e3 := fq_n_toInt (x := v) (by omega)
      exact ⟨v.toNatClampNeg, by omega, by omega, (fq_nI_n (by omega)).symm⟩
end
section
abbrev fq_Q0 : List Value := [.int 0, .int 0, .int 0, .null, .null, .null, .null, .null, .null, .int 0, .int 0, .int 0, .int 0, .null, .null, .null, .null, .int 0, .null, .null, .int 0]
abbrev fq_M0 : List Value := [.int 0, .int 0, .int 0, .null, .int 0, .int 0, .int 0, .int 0, .null, .null, .null, .int 0, .null, .null, .null, .null]
set_option maxHeartbeats 4000000 in
set_option maxRecDepth 100000 in
theorem fq_Qinit_tail {V : fq_V} {p : Program} {l : Launch} {e : Env} {R : Room} {s : State} {m : MethodId} {args : Array Value} {below : List Frame} {meth : Method} {c : Code} {cells slots : Nat} {Q : State → Prop} {A : Nat → Prop} (hC : fq_Cx V p s m args meth c R_Q b_Q_init 5 none) (o : Nat → Nat) (mo : Nat) (g : fq_G) (x y z : Int32) (hret : ∀ (g1 : fq_G) (H : Heap) (locs : List Loc) (ls : Array Slot), fq_Hp V A s.heap (fq_WQ V o mo g1) H locs → (g1 12 = g 12 ∧ (∀ b, b < 32 → g1 0 b = -1) ∧ g1 1 = g 1 ∧ ∀ k, k < 40 → g1 5 k = -1 ∧ g1 6 k = -1) → W p l e R s m args below meth c H locs cells slots Q (F0 m 198 ls [])) (H : Heap) (locs : List Loc) (ls : Array Slot) (hQ : fq_Hp V A s.heap (fq_WQ V o mo g) H locs) (hl : lv_has ls 5 [(0, .ref (o 0)), (1, .int x), (2, .int y), (3, .int z)]) : W p l e R s m args below meth c H locs cells slots Q (F0 m 142 ls []) := by
  have hxx := hC.1
  have hbb := hC.2.1
  refine lv_iconst (v := (nI 0)) hxx hbb fd_Q_init_142 (by decide) ?_
  refine lv_istore (lv' := [(4, .int (nI 0)), (0, .ref (o 0)), (1, .int x), (2, .int y), (3, .int z)]) hxx hbb fd_Q_init_143 hl (by decide) rfl (fun ls hl => ?_)
  have loop145 : ∀ (n : Nat) (k : Nat) (g1 : fq_G), k ≤ 32 → 32 < k + n → (∀ r, r ≠ 0 → g1 r = g r) → (∀ i, i < k → g1 0 i = -1) → ∀ (H : Heap) (locs : List Loc) (ls : Array Slot), fq_Hp V A s.heap (fq_WQ V o mo g1) H locs → lv_has ls 5 [(0, .ref (o 0)), (4, .int (nI k))] → W p l e R s m args below meth c H locs cells slots Q (F0 m 145 ls []) := by
    intro n
    induction n with
    | zero =>
      intro k g1 hk hn hr1 hb1
      omega
    | succ n ih145 =>
      intro k g1 hk hn hr1 hb1 H locs ls hQ hl
      refine lv_iload hxx hbb fd_Q_init_145 (lv_at hl 1 rfl) ?_
      refine lv_bipush (v := (nI 32)) hxx hbb fd_Q_init_147 (by decide) ?_
      refine lv_icmp_ge (tgt := 166) hxx hbb fd_Q_init_149 (by decide) (fun c149 => ?_) (fun c149 => ?_)
      · have hk32 : 32 = k := by have h9 := (nI_leI (by omega) (by omega)).mp c149; omega
        subst hk32
        refine lv_iconst (v := (nI 0)) hxx hbb fd_Q_init_166 (by decide) ?_
        refine lv_istore (lv' := [(4, .int (nI 0)), (0, .ref (o 0))]) hxx hbb fd_Q_init_167 hl (by decide) rfl (fun ls hl => ?_)
        have loop169 : ∀ (n : Nat) (k : Nat) (g2 : fq_G), k ≤ 40 → 40 < k + n → (∀ r, r ≠ 0 → r ≠ 5 → r ≠ 6 → g2 r = g r) → (∀ i, i < 32 → g2 0 i = -1) → (∀ i, i < k → g2 5 i = -1 ∧ g2 6 i = -1) → ∀ (H : Heap) (locs : List Loc) (ls : Array Slot), fq_Hp V A s.heap (fq_WQ V o mo g2) H locs → lv_has ls 5 [(0, .ref (o 0)), (4, .int (nI k))] → W p l e R s m args below meth c H locs cells slots Q (F0 m 169 ls []) := by
          intro n
          induction n with
          | zero =>
            intro k g2 hk2 hn2 hr2 hb2 hc2
            omega
          | succ n ih169 =>
            intro k g2 hk2 hn2 hr2 hb2 hc2 H locs ls hQ hl
            refine lv_iload hxx hbb fd_Q_init_169 (lv_at hl 1 rfl) ?_
            refine lv_bipush (v := (nI 40)) hxx hbb fd_Q_init_171 (by decide) ?_
            refine lv_icmp_ge (tgt := 198) hxx hbb fd_Q_init_173 (by decide) (fun c173 => ?_) (fun c173 => ?_)
            · have hk40 : 40 = k := by have h9 := (nI_leI (by omega) (by omega)).mp c173; omega
              subst hk40
              exact hret _ _ _ _ hQ ⟨hr2 12 (by decide) (by decide) (by decide), hb2, hr2 1 (by decide) (by decide) (by decide), hc2⟩
            · have hk40 : k < 40 := Nat.not_le.mp (fun q => c173 (nI_le q (by omega)))
              refine lv_aload_n hxx hbb fd_Q_init_176 rfl (lv_at hl 0 rfl) ?_
              refine fg_Q_where hC hQ fd_Q_init_177 ?_
              refine lv_iload hxx hbb fd_Q_init_180 (lv_at hl 1 rfl) ?_
              refine lv_iconst (v := (-1)) hxx hbb fd_Q_init_182 (by decide) ?_
              refine fs_Q_where hC hQ k rfl (by omega) fd_Q_init_183 (fun H locs hQ => ?_)
              refine lv_aload_n hxx hbb fd_Q_init_184 rfl (lv_at hl 0 rfl) ?_
              refine fg_Q_heads hC hQ fd_Q_init_185 ?_
              refine lv_iload hxx hbb fd_Q_init_188 (lv_at hl 1 rfl) ?_
              refine lv_iconst (v := (-1)) hxx hbb fd_Q_init_190 (by decide) ?_
              refine fs_Q_heads hC hQ k rfl (by omega) fd_Q_init_191 (fun H locs hQ => ?_)
              refine lv_iinc (v := nI (k + 1)) (lv' := [(4, .int (nI (k + 1))), (0, .ref (o 0))]) hxx hbb fd_Q_init_192 hl (k := 1) rfl (fq_inc k) (by decide) rfl (fun ls hl => ?_)
              refine lv_goto (tgt := 169) hxx hbb fd_Q_init_195 (by decide) ?_
              exact ih169 (k + 1) _ (by omega) (by omega) (fun r h0 h5 h6 => by rw [← hr2 r h0 h5 h6]; simp [fq_us, h5, h6]) (fun i hi => by rw [← hb2 i hi]; simp [fq_us]) (fun i hi => by by_cases c : i = k; simp [fq_us, upd, c]; have h9 := hc2 i (by omega); simp [fq_us, upd, c, h9]) _ _ _ hQ (lv_sub hl [1, 0] rfl)
        exact loop169 41 0 g1 (by omega) (by omega) (fun r h0 _ _ => hr1 r h0) hb1 (fun i hi => absurd hi (Nat.not_lt_zero _)) _ _ _ hQ (lv_sub hl [1, 0] rfl)
      · have hk32 : k < 32 := Nat.not_le.mp (fun q => c149 (nI_le q (by omega)))
        refine lv_aload_n hxx hbb fd_Q_init_152 rfl (lv_at hl 0 rfl) ?_
        refine fg_Q_first hC hQ fd_Q_init_153 ?_
        refine lv_iload hxx hbb fd_Q_init_156 (lv_at hl 1 rfl) ?_
        refine lv_iconst (v := (-1)) hxx hbb fd_Q_init_158 (by decide) ?_
        refine fs_Q_first hC hQ k rfl (by omega) fd_Q_init_159 (fun H locs hQ => ?_)
        refine lv_iinc (v := nI (k + 1)) (lv' := [(4, .int (nI (k + 1))), (0, .ref (o 0))]) hxx hbb fd_Q_init_160 hl (k := 1) rfl (fq_inc k) (by decide) rfl (fun ls hl => ?_)
        refine lv_goto (tgt := 145) hxx hbb fd_Q_init_163 (by decide) ?_
        exact ih145 (k + 1) _ (by omega) (by omega) (fun r hr => by rw [← hr1 r hr]; simp [fq_us, hr]) (fun i hi => by by_cases c : i = k; simp [fq_us, upd, c]; simp [fq_us, upd, c, hb1 i (by omega)]) _ _ _ hQ (lv_sub hl [1, 0] rfl)
  exact loop145 33 0 g (by omega) (by omega) (fun _ _ => rfl) (fun i hi => absurd hi (Nat.not_lt_zero _)) _ _ _ hQ (lv_sub hl [1, 0] rfl)
set_option maxHeartbeats 4000000 in
set_option maxRecDepth 100000 in
theorem fc_Q_init (l : Launch) (V : fq_V) (h0 sz : Nat) (x y z : Int32) : Met l y_Q_init (.code y_Q_init b_Q_init 5 none :: fq_tb) ({ frames := 2, cells := 12, slots := 1244, locals := 64 }) (va_Pc [.ref h0, .int x, .int y, .int z] (fun U => U.heap.size = sz ∧ va_P V.1 classes [(h0, .inr (0, fq_Q0))] U.heap ∧ va_K V.1 classes (fq_tys V) U ∧ va_D (fun _ => True) [(h0, .inr (0, fq_Q0))])) (va_Qv (fun u : (Nat → Nat) × Nat × fq_G => u.2.2 12 0 = fq_b x 1 (nI 40) ∧ u.2.2 12 1 = fq_b y 1 (nI 300) ∧ nI u.2.1 = fq_b y 1 (nI 300) ∧ u.2.1 ≤ 300 ∧ u.2.2 12 2 = (if z < 0 then 0 else z) ∧ (∀ j, 3 ≤ j → u.2.2 12 j = 0) ∧ (∀ b, b < 32 → u.2.2 0 b = -1 ∧ u.2.2 1 b = 0) ∧ ∀ k, k < 40 → u.2.2 5 k = -1 ∧ u.2.2 6 k = -1) (fun u t => u.1 0 = h0 ∧ va_P V.1 classes (fq_WQ V u.1 u.2.1 u.2.2) t.heap ∧ va_K V.1 classes (fq_tys V) t ∧ va_D (va_A [(h0, .inr (0, fq_Q0))] sz) (fq_WQ V u.1 u.2.1 u.2.2)) (va_A [(h0, .inr (0, fq_Q0))] sz)) 12 1244 (va_A [(h0, .inr (0, fq_Q0))] sz) := by
  refine Met.ofW (cc := b_Q_init) (maxL := 5) (ret := none) (by decide) rfl ?_
  intro p e s m args below meth c s₁ B hml hv
  obtain ⟨rfl, hsz, hP, hK, hD0⟩ := hv
  have hts0 := atoms_spec (ws := .code y_Q_init b_Q_init 5 none :: fq_tb) B.pre
  have hown : s.vm.findClass R_Q = some m.cls := findClass_of_methodNamed B.named
  have hin : meth.name = "<init>" := (name_of_methodNamed B.named B.method).1
  have hlocks := B.notSynchronized
  subst hsz
  have hQ : fq_Hp V (va_A [(h0, .inr (0, fq_Q0))] s.heap.size) s.heap [(h0, .inr (0, fq_Q0))] s.heap [] := ⟨hP, hD0.self, va_S.rf, fun q hq => Or.inr hq⟩
  generalize hAe : va_A [(h0, .inr (0, fq_Q0))] s.heap.size = A at hQ ⊢
  have hl := lv_entry ([.ref h0, .int x, .int y, .int z]) (n := 5) (Nat.le_of_ble_eq_true rfl)
  rw [lg_entry_eq]
  generalize (lg_sl ([.ref h0, .int x, .int y, .int z]) ++ List.replicate (5 - (lg_sl ([.ref h0, .int x, .int y, .int z])).length) Slot.unset).toArray = ls at hl ⊢
  have hl : lv_has ls 5 [(0, .ref h0), (1, .int x), (2, .int y), (3, .int z)] := hl
  have hC : fq_Cx V p s m ([.ref h0, .int x, .int y, .int z]).toArray meth c R_Q b_Q_init 5 none := ⟨B.exec, B.bytes, B.returns, hml, hown, fun w hw => hts0 w (List.mem_cons_of_mem _ hw), B.notSynchronized, hK⟩
  have hxx := hC.1
  have hbb := hC.2.1
  refine lv_aload_n hxx hbb fd_Q_init_0 rfl (lv_at hl 0 rfl) ?_
  refine W.objInit hxx hbb hC.2.2.2.2.1 (hC.2.2.2.2.2.1 _ fo_Q) (hC.2.2.2.2.2.1 _ fo_i) (hC.2.2.2.2.2.1 _ fo_c) rfl (by rw [hml]; exact hl.1) rfl fd_Q_init_1 (Nat.le_of_ble_eq_true rfl) (Nat.le_of_ble_eq_true rfl) ?_
  refine W.eq (g2 := F0 m 4 ls []) rfl ?_
  have hQ : fq_Hp V A s.heap [(h0, .inr (0, [.int 0, .int 0, .int 0, .null, .null, .null, .null, .null, .null, .int 0, .int 0, .int 0, .int 0, .null, .null, .null, .null, .int 0, .null, .null, .int 0]))] s.heap [] := hQ
  refine lv_aload_n hxx hbb fd_Q_init_4 rfl (lv_at hl 0 rfl) ?_
  refine lv_bipush (v := nI 32) hxx hbb fd_Q_init_5 (by decide) ?_
  refine fq_newI (N' := 32) hC hQ rfl (by omega) (by show _ ≤ 12; omega) (by show _ ≤ 1244; omega) fd_Q_init_7 (fun q1 H hQ => ?_)
  have hQ : fq_Hp V A s.heap [(h0, .inr (0, [.int 0, .int 0, .int 0, .null, .null, .null, .null, .null, .null, .int 0, .int 0, .int 0, .int 0, .null, .null, .null, .null, .int 0, .null, .null, .int 0])), (q1, .inl (V.2.1, 32, .inl (fun _ => 0)))] H [] := hQ
  refine fq_putQ (v := .ref q1) hC hin hQ rfl 3 (by decide) fl_Q_first rfl rfl rfl rfl rfl (Nat.le_of_ble_eq_true rfl) fd_Q_init_9 (fun H locs hQ => ?_)
  have hQ : fq_Hp V A s.heap [(h0, .inr (0, [.int 0, .int 0, .int 0, .ref q1, .null, .null, .null, .null, .null, .int 0, .int 0, .int 0, .int 0, .null, .null, .null, .null, .int 0, .null, .null, .int 0])), (q1, .inl (V.2.1, 32, .inl (fun _ => 0)))] H locs := hQ
  refine lv_aload_n hxx hbb fd_Q_init_12 rfl (lv_at hl 0 rfl) ?_
  refine lv_bipush (v := nI 32) hxx hbb fd_Q_init_13 (by decide) ?_
  refine fq_newI (N' := 32) hC hQ rfl (by omega) (by show _ ≤ 12; omega) (by show _ ≤ 1244; omega) fd_Q_init_15 (fun q2 H hQ => ?_)
  have hQ : fq_Hp V A s.heap [(h0, .inr (0, [.int 0, .int 0, .int 0, .ref q1, .null, .null, .null, .null, .null, .int 0, .int 0, .int 0, .int 0, .null, .null, .null, .null, .int 0, .null, .null, .int 0])), (q1, .inl (V.2.1, 32, .inl (fun _ => 0))), (q2, .inl (V.2.1, 32, .inl (fun _ => 0)))] H locs := hQ
  refine fq_putQ (v := .ref q2) hC hin hQ rfl 4 (by decide) fl_Q_counts rfl rfl rfl rfl rfl (Nat.le_of_ble_eq_true rfl) fd_Q_init_17 (fun H locs hQ => ?_)
  have hQ : fq_Hp V A s.heap [(h0, .inr (0, [.int 0, .int 0, .int 0, .ref q1, .ref q2, .null, .null, .null, .null, .int 0, .int 0, .int 0, .int 0, .null, .null, .null, .null, .int 0, .null, .null, .int 0])), (q1, .inl (V.2.1, 32, .inl (fun _ => 0))), (q2, .inl (V.2.1, 32, .inl (fun _ => 0)))] H locs := hQ
  refine lv_aload_n hxx hbb fd_Q_init_20 rfl (lv_at hl 0 rfl) ?_
  refine lv_bipush (v := nI 40) hxx hbb fd_Q_init_21 (by decide) ?_
  refine fq_newI (N' := 40) hC hQ rfl (by omega) (by show _ ≤ 12; omega) (by show _ ≤ 1244; omega) fd_Q_init_23 (fun q3 H hQ => ?_)
  have hQ : fq_Hp V A s.heap [(h0, .inr (0, [.int 0, .int 0, .int 0, .ref q1, .ref q2, .null, .null, .null, .null, .int 0, .int 0, .int 0, .int 0, .null, .null, .null, .null, .int 0, .null, .null, .int 0])), (q1, .inl (V.2.1, 32, .inl (fun _ => 0))), (q2, .inl (V.2.1, 32, .inl (fun _ => 0))), (q3, .inl (V.2.1, 40, .inl (fun _ => 0)))] H locs := hQ
  refine fq_putQ (v := .ref q3) hC hin hQ rfl 5 (by decide) fl_Q_next rfl rfl rfl rfl rfl (Nat.le_of_ble_eq_true rfl) fd_Q_init_25 (fun H locs hQ => ?_)
  have hQ : fq_Hp V A s.heap [(h0, .inr (0, [.int 0, .int 0, .int 0, .ref q1, .ref q2, .ref q3, .null, .null, .null, .int 0, .int 0, .int 0, .int 0, .null, .null, .null, .null, .int 0, .null, .null, .int 0])), (q1, .inl (V.2.1, 32, .inl (fun _ => 0))), (q2, .inl (V.2.1, 32, .inl (fun _ => 0))), (q3, .inl (V.2.1, 40, .inl (fun _ => 0)))] H locs := hQ
  refine lv_aload_n hxx hbb fd_Q_init_28 rfl (lv_at hl 0 rfl) ?_
  refine lv_bipush (v := nI 40) hxx hbb fd_Q_init_29 (by decide) ?_
  refine fq_newI (N' := 40) hC hQ rfl (by omega) (by show _ ≤ 12; omega) (by show _ ≤ 1244; omega) fd_Q_init_31 (fun q4 H hQ => ?_)
  have hQ : fq_Hp V A s.heap [(h0, .inr (0, [.int 0, .int 0, .int 0, .ref q1, .ref q2, .ref q3, .null, .null, .null, .int 0, .int 0, .int 0, .int 0, .null, .null, .null, .null, .int 0, .null, .null, .int 0])), (q1, .inl (V.2.1, 32, .inl (fun _ => 0))), (q2, .inl (V.2.1, 32, .inl (fun _ => 0))), (q3, .inl (V.2.1, 40, .inl (fun _ => 0))), (q4, .inl (V.2.1, 40, .inl (fun _ => 0)))] H locs := hQ
  refine fq_putQ (v := .ref q4) hC hin hQ rfl 6 (by decide) fl_Q_before rfl rfl rfl rfl rfl (Nat.le_of_ble_eq_true rfl) fd_Q_init_33 (fun H locs hQ => ?_)
  have hQ : fq_Hp V A s.heap [(h0, .inr (0, [.int 0, .int 0, .int 0, .ref q1, .ref q2, .ref q3, .ref q4, .null, .null, .int 0, .int 0, .int 0, .int 0, .null, .null, .null, .null, .int 0, .null, .null, .int 0])), (q1, .inl (V.2.1, 32, .inl (fun _ => 0))), (q2, .inl (V.2.1, 32, .inl (fun _ => 0))), (q3, .inl (V.2.1, 40, .inl (fun _ => 0))), (q4, .inl (V.2.1, 40, .inl (fun _ => 0)))] H locs := hQ
  refine lv_aload_n hxx hbb fd_Q_init_36 rfl (lv_at hl 0 rfl) ?_
  refine lv_bipush (v := nI 40) hxx hbb fd_Q_init_37 (by decide) ?_
  refine fq_newI (N' := 40) hC hQ rfl (by omega) (by show _ ≤ 12; omega) (by show _ ≤ 1244; omega) fd_Q_init_39 (fun q5 H hQ => ?_)
  have hQ : fq_Hp V A s.heap [(h0, .inr (0, [.int 0, .int 0, .int 0, .ref q1, .ref q2, .ref q3, .ref q4, .null, .null, .int 0, .int 0, .int 0, .int 0, .null, .null, .null, .null, .int 0, .null, .null, .int 0])), (q1, .inl (V.2.1, 32, .inl (fun _ => 0))), (q2, .inl (V.2.1, 32, .inl (fun _ => 0))), (q3, .inl (V.2.1, 40, .inl (fun _ => 0))), (q4, .inl (V.2.1, 40, .inl (fun _ => 0))), (q5, .inl (V.2.1, 40, .inl (fun _ => 0)))] H locs := hQ
  refine fq_putQ (v := .ref q5) hC hin hQ rfl 7 (by decide) fl_Q_keys rfl rfl rfl rfl rfl (Nat.le_of_ble_eq_true rfl) fd_Q_init_41 (fun H locs hQ => ?_)
  have hQ : fq_Hp V A s.heap [(h0, .inr (0, [.int 0, .int 0, .int 0, .ref q1, .ref q2, .ref q3, .ref q4, .ref q5, .null, .int 0, .int 0, .int 0, .int 0, .null, .null, .null, .null, .int 0, .null, .null, .int 0])), (q1, .inl (V.2.1, 32, .inl (fun _ => 0))), (q2, .inl (V.2.1, 32, .inl (fun _ => 0))), (q3, .inl (V.2.1, 40, .inl (fun _ => 0))), (q4, .inl (V.2.1, 40, .inl (fun _ => 0))), (q5, .inl (V.2.1, 40, .inl (fun _ => 0)))] H locs := hQ
  refine lv_aload_n hxx hbb fd_Q_init_44 rfl (lv_at hl 0 rfl) ?_
  refine lv_bipush (v := nI 40) hxx hbb fd_Q_init_45 (by decide) ?_
  refine fq_newI (N' := 40) hC hQ rfl (by omega) (by show _ ≤ 12; omega) (by show _ ≤ 1244; omega) fd_Q_init_47 (fun q6 H hQ => ?_)
  have hQ : fq_Hp V A s.heap [(h0, .inr (0, [.int 0, .int 0, .int 0, .ref q1, .ref q2, .ref q3, .ref q4, .ref q5, .null, .int 0, .int 0, .int 0, .int 0, .null, .null, .null, .null, .int 0, .null, .null, .int 0])), (q1, .inl (V.2.1, 32, .inl (fun _ => 0))), (q2, .inl (V.2.1, 32, .inl (fun _ => 0))), (q3, .inl (V.2.1, 40, .inl (fun _ => 0))), (q4, .inl (V.2.1, 40, .inl (fun _ => 0))), (q5, .inl (V.2.1, 40, .inl (fun _ => 0))), (q6, .inl (V.2.1, 40, .inl (fun _ => 0)))] H locs := hQ
  refine fq_putQ (v := .ref q6) hC hin hQ rfl 8 (by decide) fl_Q_where rfl rfl rfl rfl rfl (Nat.le_of_ble_eq_true rfl) fd_Q_init_49 (fun H locs hQ => ?_)
  have hQ : fq_Hp V A s.heap [(h0, .inr (0, [.int 0, .int 0, .int 0, .ref q1, .ref q2, .ref q3, .ref q4, .ref q5, .ref q6, .int 0, .int 0, .int 0, .int 0, .null, .null, .null, .null, .int 0, .null, .null, .int 0])), (q1, .inl (V.2.1, 32, .inl (fun _ => 0))), (q2, .inl (V.2.1, 32, .inl (fun _ => 0))), (q3, .inl (V.2.1, 40, .inl (fun _ => 0))), (q4, .inl (V.2.1, 40, .inl (fun _ => 0))), (q5, .inl (V.2.1, 40, .inl (fun _ => 0))), (q6, .inl (V.2.1, 40, .inl (fun _ => 0)))] H locs := hQ
  refine lv_aload_n hxx hbb fd_Q_init_52 rfl (lv_at hl 0 rfl) ?_
  refine lv_bipush (v := nI 40) hxx hbb fd_Q_init_53 (by decide) ?_
  refine fq_newI (N' := 40) hC hQ rfl (by omega) (by show _ ≤ 12; omega) (by show _ ≤ 1244; omega) fd_Q_init_55 (fun q7 H hQ => ?_)
  have hQ : fq_Hp V A s.heap [(h0, .inr (0, [.int 0, .int 0, .int 0, .ref q1, .ref q2, .ref q3, .ref q4, .ref q5, .ref q6, .int 0, .int 0, .int 0, .int 0, .null, .null, .null, .null, .int 0, .null, .null, .int 0])), (q1, .inl (V.2.1, 32, .inl (fun _ => 0))), (q2, .inl (V.2.1, 32, .inl (fun _ => 0))), (q3, .inl (V.2.1, 40, .inl (fun _ => 0))), (q4, .inl (V.2.1, 40, .inl (fun _ => 0))), (q5, .inl (V.2.1, 40, .inl (fun _ => 0))), (q6, .inl (V.2.1, 40, .inl (fun _ => 0))), (q7, .inl (V.2.1, 40, .inl (fun _ => 0)))] H locs := hQ
  refine fq_putQ (v := .ref q7) hC hin hQ rfl 13 (by decide) fl_Q_heads rfl rfl rfl rfl rfl (Nat.le_of_ble_eq_true rfl) fd_Q_init_57 (fun H locs hQ => ?_)
  have hQ : fq_Hp V A s.heap [(h0, .inr (0, [.int 0, .int 0, .int 0, .ref q1, .ref q2, .ref q3, .ref q4, .ref q5, .ref q6, .int 0, .int 0, .int 0, .int 0, .ref q7, .null, .null, .null, .int 0, .null, .null, .int 0])), (q1, .inl (V.2.1, 32, .inl (fun _ => 0))), (q2, .inl (V.2.1, 32, .inl (fun _ => 0))), (q3, .inl (V.2.1, 40, .inl (fun _ => 0))), (q4, .inl (V.2.1, 40, .inl (fun _ => 0))), (q5, .inl (V.2.1, 40, .inl (fun _ => 0))), (q6, .inl (V.2.1, 40, .inl (fun _ => 0))), (q7, .inl (V.2.1, 40, .inl (fun _ => 0)))] H locs := hQ
  refine lv_aload_n hxx hbb fd_Q_init_60 rfl (lv_at hl 0 rfl) ?_
  refine lv_bipush (v := nI 40) hxx hbb fd_Q_init_61 (by decide) ?_
  refine fq_newI (N' := 40) hC hQ rfl (by omega) (by show _ ≤ 12; omega) (by show _ ≤ 1244; omega) fd_Q_init_63 (fun q8 H hQ => ?_)
  have hQ : fq_Hp V A s.heap [(h0, .inr (0, [.int 0, .int 0, .int 0, .ref q1, .ref q2, .ref q3, .ref q4, .ref q5, .ref q6, .int 0, .int 0, .int 0, .int 0, .ref q7, .null, .null, .null, .int 0, .null, .null, .int 0])), (q1, .inl (V.2.1, 32, .inl (fun _ => 0))), (q2, .inl (V.2.1, 32, .inl (fun _ => 0))), (q3, .inl (V.2.1, 40, .inl (fun _ => 0))), (q4, .inl (V.2.1, 40, .inl (fun _ => 0))), (q5, .inl (V.2.1, 40, .inl (fun _ => 0))), (q6, .inl (V.2.1, 40, .inl (fun _ => 0))), (q7, .inl (V.2.1, 40, .inl (fun _ => 0))), (q8, .inl (V.2.1, 40, .inl (fun _ => 0)))] H locs := hQ
  refine fq_putQ (v := .ref q8) hC hin hQ rfl 18 (by decide) fl_Q_distances rfl rfl rfl rfl rfl (Nat.le_of_ble_eq_true rfl) fd_Q_init_65 (fun H locs hQ => ?_)
  have hQ : fq_Hp V A s.heap [(h0, .inr (0, [.int 0, .int 0, .int 0, .ref q1, .ref q2, .ref q3, .ref q4, .ref q5, .ref q6, .int 0, .int 0, .int 0, .int 0, .ref q7, .null, .null, .null, .int 0, .ref q8, .null, .int 0])), (q1, .inl (V.2.1, 32, .inl (fun _ => 0))), (q2, .inl (V.2.1, 32, .inl (fun _ => 0))), (q3, .inl (V.2.1, 40, .inl (fun _ => 0))), (q4, .inl (V.2.1, 40, .inl (fun _ => 0))), (q5, .inl (V.2.1, 40, .inl (fun _ => 0))), (q6, .inl (V.2.1, 40, .inl (fun _ => 0))), (q7, .inl (V.2.1, 40, .inl (fun _ => 0))), (q8, .inl (V.2.1, 40, .inl (fun _ => 0)))] H locs := hQ
  refine lv_aload_n hxx hbb fd_Q_init_68 rfl (lv_at hl 0 rfl) ?_
  refine lv_bipush (v := nI 40) hxx hbb fd_Q_init_69 (by decide) ?_
  refine fq_newI (N' := 40) hC hQ rfl (by omega) (by show _ ≤ 12; omega) (by show _ ≤ 1244; omega) fd_Q_init_71 (fun q9 H hQ => ?_)
  have hQ : fq_Hp V A s.heap [(h0, .inr (0, [.int 0, .int 0, .int 0, .ref q1, .ref q2, .ref q3, .ref q4, .ref q5, .ref q6, .int 0, .int 0, .int 0, .int 0, .ref q7, .null, .null, .null, .int 0, .ref q8, .null, .int 0])), (q1, .inl (V.2.1, 32, .inl (fun _ => 0))), (q2, .inl (V.2.1, 32, .inl (fun _ => 0))), (q3, .inl (V.2.1, 40, .inl (fun _ => 0))), (q4, .inl (V.2.1, 40, .inl (fun _ => 0))), (q5, .inl (V.2.1, 40, .inl (fun _ => 0))), (q6, .inl (V.2.1, 40, .inl (fun _ => 0))), (q7, .inl (V.2.1, 40, .inl (fun _ => 0))), (q8, .inl (V.2.1, 40, .inl (fun _ => 0))), (q9, .inl (V.2.1, 40, .inl (fun _ => 0)))] H locs := hQ
  refine fq_putQ (v := .ref q9) hC hin hQ rfl 19 (by decide) fl_Q_parents rfl rfl rfl rfl rfl (Nat.le_of_ble_eq_true rfl) fd_Q_init_73 (fun H locs hQ => ?_)
  have hQ : fq_Hp V A s.heap [(h0, .inr (0, [.int 0, .int 0, .int 0, .ref q1, .ref q2, .ref q3, .ref q4, .ref q5, .ref q6, .int 0, .int 0, .int 0, .int 0, .ref q7, .null, .null, .null, .int 0, .ref q8, .ref q9, .int 0])), (q1, .inl (V.2.1, 32, .inl (fun _ => 0))), (q2, .inl (V.2.1, 32, .inl (fun _ => 0))), (q3, .inl (V.2.1, 40, .inl (fun _ => 0))), (q4, .inl (V.2.1, 40, .inl (fun _ => 0))), (q5, .inl (V.2.1, 40, .inl (fun _ => 0))), (q6, .inl (V.2.1, 40, .inl (fun _ => 0))), (q7, .inl (V.2.1, 40, .inl (fun _ => 0))), (q8, .inl (V.2.1, 40, .inl (fun _ => 0))), (q9, .inl (V.2.1, 40, .inl (fun _ => 0)))] H locs := hQ
  obtain ⟨N, hN1, hN2, eN⟩ := fq_b_in x 40 (by omega) (by omega)
  obtain ⟨mo, hm1, hm2, em⟩ := fq_b_in y 300 (by omega) (by omega)
  refine lv_aload_n hxx hbb fd_Q_init_76 rfl (lv_at hl 0 rfl) ?_
  refine lv_iload_n hxx hbb fd_Q_init_77 rfl (lv_at hl 1 rfl) ?_
  refine lv_iconst (v := 1) hxx hbb fd_Q_init_78 (by decide) ?_
  refine lv_bipush (v := nI 40) hxx hbb fd_Q_init_79 (by decide) ?_
  refine fq_callS hC (fc_Q_bring l V (fun _ => [(h0, .inr (0, [.int 0, .int 0, .int 0, .ref q1, .ref q2, .ref q3, .ref q4, .ref q5, .ref q6, .int 0, .int 0, .int 0, .int 0, .ref q7, .null, .null, .null, .int 0, .ref q8, .ref q9, .int 0])), (q1, .inl (V.2.1, 32, .inl (fun _ => 0))), (q2, .inl (V.2.1, 32, .inl (fun _ => 0))), (q3, .inl (V.2.1, 40, .inl (fun _ => 0))), (q4, .inl (V.2.1, 40, .inl (fun _ => 0))), (q5, .inl (V.2.1, 40, .inl (fun _ => 0))), (q6, .inl (V.2.1, 40, .inl (fun _ => 0))), (q7, .inl (V.2.1, 40, .inl (fun _ => 0))), (q8, .inl (V.2.1, 40, .inl (fun _ => 0))), (q9, .inl (V.2.1, 40, .inl (fun _ => 0)))]) (fun _ _ => 0) x 1 (nI 40)) fw_Q_37 ⟨Nat.le_of_ble_eq_true rfl, Nat.le_of_ble_eq_true rfl⟩ hQ rfl hl.1 (rest := [.ref h0]) rfl (Nat.le_of_ble_eq_true rfl) fd_Q_init_81 ⟨by show _ ≤ 12; omega, by show _ ≤ 1244; omega⟩ (fun r81 u81 H locs hp81 hQ => ?_)
  have hQ : fq_Hp V A s.heap [(h0, .inr (0, [.int 0, .int 0, .int 0, .ref q1, .ref q2, .ref q3, .ref q4, .ref q5, .ref q6, .int 0, .int 0, .int 0, .int 0, .ref q7, .null, .null, .null, .int 0, .ref q8, .ref q9, .int 0])), (q1, .inl (V.2.1, 32, .inl (fun _ => 0))), (q2, .inl (V.2.1, 32, .inl (fun _ => 0))), (q3, .inl (V.2.1, 40, .inl (fun _ => 0))), (q4, .inl (V.2.1, 40, .inl (fun _ => 0))), (q5, .inl (V.2.1, 40, .inl (fun _ => 0))), (q6, .inl (V.2.1, 40, .inl (fun _ => 0))), (q7, .inl (V.2.1, 40, .inl (fun _ => 0))), (q8, .inl (V.2.1, 40, .inl (fun _ => 0))), (q9, .inl (V.2.1, 40, .inl (fun _ => 0)))] H locs := hQ
  refine fq_top (y := nI N) (hp81.2.trans eN) ?_
  refine fq_putQ (v := .int (nI N)) hC hin hQ rfl 0 (by decide) fl_Q_n rfl rfl rfl rfl rfl (Nat.le_of_ble_eq_true rfl) fd_Q_init_84 (fun H locs hQ => ?_)
  have hQ : fq_Hp V A s.heap [(h0, .inr (0, [.int (nI N), .int 0, .int 0, .ref q1, .ref q2, .ref q3, .ref q4, .ref q5, .ref q6, .int 0, .int 0, .int 0, .int 0, .ref q7, .null, .null, .null, .int 0, .ref q8, .ref q9, .int 0])), (q1, .inl (V.2.1, 32, .inl (fun _ => 0))), (q2, .inl (V.2.1, 32, .inl (fun _ => 0))), (q3, .inl (V.2.1, 40, .inl (fun _ => 0))), (q4, .inl (V.2.1, 40, .inl (fun _ => 0))), (q5, .inl (V.2.1, 40, .inl (fun _ => 0))), (q6, .inl (V.2.1, 40, .inl (fun _ => 0))), (q7, .inl (V.2.1, 40, .inl (fun _ => 0))), (q8, .inl (V.2.1, 40, .inl (fun _ => 0))), (q9, .inl (V.2.1, 40, .inl (fun _ => 0)))] H locs := hQ
  refine lv_aload_n hxx hbb fd_Q_init_87 rfl (lv_at hl 0 rfl) ?_
  refine lv_iload_n hxx hbb fd_Q_init_88 rfl (lv_at hl 2 rfl) ?_
  refine lv_iconst (v := 1) hxx hbb fd_Q_init_89 (by decide) ?_
  refine lv_sipush (v := nI 300) hxx hbb fd_Q_init_90 (by decide) ?_
  refine fq_callS hC (fc_Q_bring l V (fun _ => [(h0, .inr (0, [.int (nI N), .int 0, .int 0, .ref q1, .ref q2, .ref q3, .ref q4, .ref q5, .ref q6, .int 0, .int 0, .int 0, .int 0, .ref q7, .null, .null, .null, .int 0, .ref q8, .ref q9, .int 0])), (q1, .inl (V.2.1, 32, .inl (fun _ => 0))), (q2, .inl (V.2.1, 32, .inl (fun _ => 0))), (q3, .inl (V.2.1, 40, .inl (fun _ => 0))), (q4, .inl (V.2.1, 40, .inl (fun _ => 0))), (q5, .inl (V.2.1, 40, .inl (fun _ => 0))), (q6, .inl (V.2.1, 40, .inl (fun _ => 0))), (q7, .inl (V.2.1, 40, .inl (fun _ => 0))), (q8, .inl (V.2.1, 40, .inl (fun _ => 0))), (q9, .inl (V.2.1, 40, .inl (fun _ => 0)))]) (fun _ _ => 0) y 1 (nI 300)) fw_Q_37 ⟨Nat.le_of_ble_eq_true rfl, Nat.le_of_ble_eq_true rfl⟩ hQ rfl hl.1 (rest := [.ref h0]) rfl (Nat.le_of_ble_eq_true rfl) fd_Q_init_93 ⟨by show _ ≤ 12; omega, by show _ ≤ 1244; omega⟩ (fun r93 u93 H locs hp93 hQ => ?_)
  have hQ : fq_Hp V A s.heap [(h0, .inr (0, [.int (nI N), .int 0, .int 0, .ref q1, .ref q2, .ref q3, .ref q4, .ref q5, .ref q6, .int 0, .int 0, .int 0, .int 0, .ref q7, .null, .null, .null, .int 0, .ref q8, .ref q9, .int 0])), (q1, .inl (V.2.1, 32, .inl (fun _ => 0))), (q2, .inl (V.2.1, 32, .inl (fun _ => 0))), (q3, .inl (V.2.1, 40, .inl (fun _ => 0))), (q4, .inl (V.2.1, 40, .inl (fun _ => 0))), (q5, .inl (V.2.1, 40, .inl (fun _ => 0))), (q6, .inl (V.2.1, 40, .inl (fun _ => 0))), (q7, .inl (V.2.1, 40, .inl (fun _ => 0))), (q8, .inl (V.2.1, 40, .inl (fun _ => 0))), (q9, .inl (V.2.1, 40, .inl (fun _ => 0)))] H locs := hQ
  refine fq_top (y := nI mo) (hp93.2.trans em) ?_
  refine fq_putQ (v := .int (nI mo)) hC hin hQ rfl 1 (by decide) fl_Q_most rfl rfl rfl rfl rfl (Nat.le_of_ble_eq_true rfl) fd_Q_init_96 (fun H locs hQ => ?_)
  have hQ : fq_Hp V A s.heap [(h0, .inr (0, [.int (nI N), .int (nI mo), .int 0, .ref q1, .ref q2, .ref q3, .ref q4, .ref q5, .ref q6, .int 0, .int 0, .int 0, .int 0, .ref q7, .null, .null, .null, .int 0, .ref q8, .ref q9, .int 0])), (q1, .inl (V.2.1, 32, .inl (fun _ => 0))), (q2, .inl (V.2.1, 32, .inl (fun _ => 0))), (q3, .inl (V.2.1, 40, .inl (fun _ => 0))), (q4, .inl (V.2.1, 40, .inl (fun _ => 0))), (q5, .inl (V.2.1, 40, .inl (fun _ => 0))), (q6, .inl (V.2.1, 40, .inl (fun _ => 0))), (q7, .inl (V.2.1, 40, .inl (fun _ => 0))), (q8, .inl (V.2.1, 40, .inl (fun _ => 0))), (q9, .inl (V.2.1, 40, .inl (fun _ => 0)))] H locs := hQ
  refine lv_aload_n hxx hbb fd_Q_init_99 rfl (lv_at hl 0 rfl) ?_
  refine lv_iload_n hxx hbb fd_Q_init_100 rfl (lv_at hl 3 rfl) ?_
  suffices hJ : ∀ v : Int32, v = (if z < 0 then 0 else z) → W p l e _ s m _ below meth c H locs _ _ _ (F0 m 109 ls [.int v, .ref h0]) by
    refine lv_if_ge (tgt := 108) hxx hbb fd_Q_init_101 (by decide) (fun c101 => ?_) (fun c101 => ?_)
    · refine lv_iload_n hxx hbb fd_Q_init_108 rfl (lv_at hl 3 rfl) ?_
      exact hJ z (by rw [if_neg (Int32.not_lt.mpr c101)])
    · refine lv_iconst (v := 0) hxx hbb fd_Q_init_104 (by decide) ?_
      refine lv_goto (tgt := 109) hxx hbb fd_Q_init_105 (by decide) ?_
      exact hJ 0 (by rw [if_pos (Int32.not_le.mp c101)])
  intro lg elg
  refine fq_putQ (v := .int lg) hC hin hQ rfl 2 (by decide) fl_Q_longest rfl rfl rfl rfl rfl (Nat.le_of_ble_eq_true rfl) fd_Q_init_109 (fun H locs hQ => ?_)
  have hQ : fq_Hp V A s.heap [(h0, .inr (0, [.int (nI N), .int (nI mo), .int lg, .ref q1, .ref q2, .ref q3, .ref q4, .ref q5, .ref q6, .int 0, .int 0, .int 0, .int 0, .ref q7, .null, .null, .null, .int 0, .ref q8, .ref q9, .int 0])), (q1, .inl (V.2.1, 32, .inl (fun _ => 0))), (q2, .inl (V.2.1, 32, .inl (fun _ => 0))), (q3, .inl (V.2.1, 40, .inl (fun _ => 0))), (q4, .inl (V.2.1, 40, .inl (fun _ => 0))), (q5, .inl (V.2.1, 40, .inl (fun _ => 0))), (q6, .inl (V.2.1, 40, .inl (fun _ => 0))), (q7, .inl (V.2.1, 40, .inl (fun _ => 0))), (q8, .inl (V.2.1, 40, .inl (fun _ => 0))), (q9, .inl (V.2.1, 40, .inl (fun _ => 0)))] H locs := hQ
  refine lv_aload_n hxx hbb fd_Q_init_112 rfl (lv_at hl 0 rfl) ?_
  refine lv_aload_n hxx hbb fd_Q_init_113 rfl (lv_at hl 0 rfl) ?_
  refine fq_getQ (v := .int (nI mo)) hC hQ rfl 1 (by decide) fl_Q_most rfl rfl fd_Q_init_114 ?_
  refine fq_newI (N' := mo) hC hQ rfl (by omega) (by show _ ≤ 12; omega) (by show _ ≤ 1244; omega) fd_Q_init_117 (fun q10 H hQ => ?_)
  have hQ : fq_Hp V A s.heap [(h0, .inr (0, [.int (nI N), .int (nI mo), .int lg, .ref q1, .ref q2, .ref q3, .ref q4, .ref q5, .ref q6, .int 0, .int 0, .int 0, .int 0, .ref q7, .null, .null, .null, .int 0, .ref q8, .ref q9, .int 0])), (q1, .inl (V.2.1, 32, .inl (fun _ => 0))), (q2, .inl (V.2.1, 32, .inl (fun _ => 0))), (q3, .inl (V.2.1, 40, .inl (fun _ => 0))), (q4, .inl (V.2.1, 40, .inl (fun _ => 0))), (q5, .inl (V.2.1, 40, .inl (fun _ => 0))), (q6, .inl (V.2.1, 40, .inl (fun _ => 0))), (q7, .inl (V.2.1, 40, .inl (fun _ => 0))), (q8, .inl (V.2.1, 40, .inl (fun _ => 0))), (q9, .inl (V.2.1, 40, .inl (fun _ => 0))), (q10, .inl (V.2.1, mo, .inl (fun _ => 0)))] H locs := hQ
  refine fq_putQ (v := .ref q10) hC hin hQ rfl 14 (by decide) fl_Q_arcNext rfl rfl rfl rfl rfl (Nat.le_of_ble_eq_true rfl) fd_Q_init_119 (fun H locs hQ => ?_)
  have hQ : fq_Hp V A s.heap [(h0, .inr (0, [.int (nI N), .int (nI mo), .int lg, .ref q1, .ref q2, .ref q3, .ref q4, .ref q5, .ref q6, .int 0, .int 0, .int 0, .int 0, .ref q7, .ref q10, .null, .null, .int 0, .ref q8, .ref q9, .int 0])), (q1, .inl (V.2.1, 32, .inl (fun _ => 0))), (q2, .inl (V.2.1, 32, .inl (fun _ => 0))), (q3, .inl (V.2.1, 40, .inl (fun _ => 0))), (q4, .inl (V.2.1, 40, .inl (fun _ => 0))), (q5, .inl (V.2.1, 40, .inl (fun _ => 0))), (q6, .inl (V.2.1, 40, .inl (fun _ => 0))), (q7, .inl (V.2.1, 40, .inl (fun _ => 0))), (q8, .inl (V.2.1, 40, .inl (fun _ => 0))), (q9, .inl (V.2.1, 40, .inl (fun _ => 0))), (q10, .inl (V.2.1, mo, .inl (fun _ => 0)))] H locs := hQ
  refine lv_aload_n hxx hbb fd_Q_init_122 rfl (lv_at hl 0 rfl) ?_
  refine lv_aload_n hxx hbb fd_Q_init_123 rfl (lv_at hl 0 rfl) ?_
  refine fq_getQ (v := .int (nI mo)) hC hQ rfl 1 (by decide) fl_Q_most rfl rfl fd_Q_init_124 ?_
  refine fq_newI (N' := mo) hC hQ rfl (by omega) (by show _ ≤ 12; omega) (by show _ ≤ 1244; omega) fd_Q_init_127 (fun q11 H hQ => ?_)
  have hQ : fq_Hp V A s.heap [(h0, .inr (0, [.int (nI N), .int (nI mo), .int lg, .ref q1, .ref q2, .ref q3, .ref q4, .ref q5, .ref q6, .int 0, .int 0, .int 0, .int 0, .ref q7, .ref q10, .null, .null, .int 0, .ref q8, .ref q9, .int 0])), (q1, .inl (V.2.1, 32, .inl (fun _ => 0))), (q2, .inl (V.2.1, 32, .inl (fun _ => 0))), (q3, .inl (V.2.1, 40, .inl (fun _ => 0))), (q4, .inl (V.2.1, 40, .inl (fun _ => 0))), (q5, .inl (V.2.1, 40, .inl (fun _ => 0))), (q6, .inl (V.2.1, 40, .inl (fun _ => 0))), (q7, .inl (V.2.1, 40, .inl (fun _ => 0))), (q8, .inl (V.2.1, 40, .inl (fun _ => 0))), (q9, .inl (V.2.1, 40, .inl (fun _ => 0))), (q10, .inl (V.2.1, mo, .inl (fun _ => 0))), (q11, .inl (V.2.1, mo, .inl (fun _ => 0)))] H locs := hQ
  refine fq_putQ (v := .ref q11) hC hin hQ rfl 15 (by decide) fl_Q_arcTo rfl rfl rfl rfl rfl (Nat.le_of_ble_eq_true rfl) fd_Q_init_129 (fun H locs hQ => ?_)
  have hQ : fq_Hp V A s.heap [(h0, .inr (0, [.int (nI N), .int (nI mo), .int lg, .ref q1, .ref q2, .ref q3, .ref q4, .ref q5, .ref q6, .int 0, .int 0, .int 0, .int 0, .ref q7, .ref q10, .ref q11, .null, .int 0, .ref q8, .ref q9, .int 0])), (q1, .inl (V.2.1, 32, .inl (fun _ => 0))), (q2, .inl (V.2.1, 32, .inl (fun _ => 0))), (q3, .inl (V.2.1, 40, .inl (fun _ => 0))), (q4, .inl (V.2.1, 40, .inl (fun _ => 0))), (q5, .inl (V.2.1, 40, .inl (fun _ => 0))), (q6, .inl (V.2.1, 40, .inl (fun _ => 0))), (q7, .inl (V.2.1, 40, .inl (fun _ => 0))), (q8, .inl (V.2.1, 40, .inl (fun _ => 0))), (q9, .inl (V.2.1, 40, .inl (fun _ => 0))), (q10, .inl (V.2.1, mo, .inl (fun _ => 0))), (q11, .inl (V.2.1, mo, .inl (fun _ => 0)))] H locs := hQ
  refine lv_aload_n hxx hbb fd_Q_init_132 rfl (lv_at hl 0 rfl) ?_
  refine lv_aload_n hxx hbb fd_Q_init_133 rfl (lv_at hl 0 rfl) ?_
  refine fq_getQ (v := .int (nI mo)) hC hQ rfl 1 (by decide) fl_Q_most rfl rfl fd_Q_init_134 ?_
  refine fq_newI (N' := mo) hC hQ rfl (by omega) (by show _ ≤ 12; omega) (by show _ ≤ 1244; omega) fd_Q_init_137 (fun q12 H hQ => ?_)
  have hQ : fq_Hp V A s.heap [(h0, .inr (0, [.int (nI N), .int (nI mo), .int lg, .ref q1, .ref q2, .ref q3, .ref q4, .ref q5, .ref q6, .int 0, .int 0, .int 0, .int 0, .ref q7, .ref q10, .ref q11, .null, .int 0, .ref q8, .ref q9, .int 0])), (q1, .inl (V.2.1, 32, .inl (fun _ => 0))), (q2, .inl (V.2.1, 32, .inl (fun _ => 0))), (q3, .inl (V.2.1, 40, .inl (fun _ => 0))), (q4, .inl (V.2.1, 40, .inl (fun _ => 0))), (q5, .inl (V.2.1, 40, .inl (fun _ => 0))), (q6, .inl (V.2.1, 40, .inl (fun _ => 0))), (q7, .inl (V.2.1, 40, .inl (fun _ => 0))), (q8, .inl (V.2.1, 40, .inl (fun _ => 0))), (q9, .inl (V.2.1, 40, .inl (fun _ => 0))), (q10, .inl (V.2.1, mo, .inl (fun _ => 0))), (q11, .inl (V.2.1, mo, .inl (fun _ => 0))), (q12, .inl (V.2.1, mo, .inl (fun _ => 0)))] H locs := hQ
  refine fq_putQ (v := .ref q12) hC hin hQ rfl 16 (by decide) fl_Q_lengths rfl rfl rfl rfl rfl (Nat.le_of_ble_eq_true rfl) fd_Q_init_139 (fun H locs hQ => ?_)
  have hQ : fq_Hp V A s.heap [(h0, .inr (0, [.int (nI N), .int (nI mo), .int lg, .ref q1, .ref q2, .ref q3, .ref q4, .ref q5, .ref q6, .int 0, .int 0, .int 0, .int 0, .ref q7, .ref q10, .ref q11, .ref q12, .int 0, .ref q8, .ref q9, .int 0])), (q1, .inl (V.2.1, 32, .inl (fun _ => 0))), (q2, .inl (V.2.1, 32, .inl (fun _ => 0))), (q3, .inl (V.2.1, 40, .inl (fun _ => 0))), (q4, .inl (V.2.1, 40, .inl (fun _ => 0))), (q5, .inl (V.2.1, 40, .inl (fun _ => 0))), (q6, .inl (V.2.1, 40, .inl (fun _ => 0))), (q7, .inl (V.2.1, 40, .inl (fun _ => 0))), (q8, .inl (V.2.1, 40, .inl (fun _ => 0))), (q9, .inl (V.2.1, 40, .inl (fun _ => 0))), (q10, .inl (V.2.1, mo, .inl (fun _ => 0))), (q11, .inl (V.2.1, mo, .inl (fun _ => 0))), (q12, .inl (V.2.1, mo, .inl (fun _ => 0)))] H locs := hQ
  obtain ⟨o, ho⟩ : ∃ o : Nat → Nat, o = fun k => [h0, q1, q2, q3, q4, q5, q6, q7, q10, q11, q12, q8, q9].getD k 0 := ⟨_, rfl⟩
  obtain ⟨g, hg⟩ : ∃ g : fq_G, g = fun r i => if r = 12 then [nI N, nI mo, lg, 0, 0, 0, 0, 0, 0].getD i 0 else 0 := ⟨_, rfl⟩
  have hQ : fq_Hp V A s.heap (fq_WQ V o mo g) H locs := by
    subst ho; subst hg
    exact ⟨hQ.1.sub [0, 1, 2, 3, 4, 5, 6, 7, 10, 11, 12, 8, 9] rfl, hQ.2.1.sub [0, 1, 2, 3, 4, 5, 6, 7, 10, 11, 12, 8, 9] (by decide) rfl, hQ.2.2.1, hQ.2.2.2⟩
  have ho0 : o 0 = h0 := by rw [ho]; rfl
  rw [← ho0] at hl
  refine W.widen (k := 12) (n := 1244) (by omega) (by omega) ?_
  refine fq_Qinit_tail hC o mo g x y z ?_ H locs ls hQ hl
  intro g1 H locs ls hQ hp
  refine W.vret hxx hbb B.returns (fun t ht hW => ⟨⟨(o, mo, g1), rfl, ⟨?_, ?_, em.symm, hm2, ?_, ?_, ?_, hp.2.2.2⟩, ho0, by rw [ht]; exact hQ.1, va_K.moved hW.alike hK, hQ.2.1⟩, hQ.2.2.1.F ht⟩) hQ.2.2.1.2.2 fd_Q_init_198 hlocks
  · show g1 12 0 = _; rw [hp.1, hg, eN]; rfl
  · show g1 12 1 = _; rw [hp.1, hg, em]; rfl
  · show g1 12 2 = _; rw [hp.1, hg, ← elg]; rfl
  · intro j hj; show g1 12 j = 0; rw [hp.1, hg]; show [nI N, nI mo, lg, 0, 0, 0, 0, 0, 0].getD j 0 = 0
    match j, hj with
    | 3, _ => rfl
    | 4, _ => rfl
    | 5, _ => rfl
    | 6, _ => rfl
    | 7, _ => rfl
    | 8, _ => rfl
    | j + 9, _ => rfl
  · intro b hb; exact ⟨hp.2.1 b hb, by show g1 1 b = 0; rw [hp.2.2.1, hg]; rfl⟩
set_option maxHeartbeats 4000000 in
set_option maxRecDepth 100000 in
theorem fc_M_init (l : Launch) (V : fq_V) (h0 sz : Nat) (x y z : Int32) : Met l y_M_init (.code y_M_init b_M_init 4 none :: fq_tb) ({ frames := 2, cells := 8, slots := 1100, locals := 64 }) (va_Pc [.ref h0, .int x, .int y, .int z] (fun U => U.heap.size = sz ∧ va_P V.1 classes [(h0, .inr (1, fq_M0))] U.heap ∧ va_K V.1 classes (fq_tys V) U ∧ va_D (fun _ => True) [(h0, .inr (1, fq_M0))])) (va_Qv (fun u : (Nat → Nat) × Nat × fq_G => u.2.2 8 0 = fq_b x 1 (nI 40) ∧ u.2.2 8 1 = fq_b y 1 (nI 300) ∧ u.2.2 8 2 = (if z < 0 then 0 else z) ∧ (∀ j, 3 ≤ j → u.2.2 8 j = 0) ∧ ∀ k, k < 40 → u.2.2 0 k = -1) (fun u t => u.1 0 = h0 ∧ va_P V.1 classes (fq_WM V u.1 u.2.1 u.2.2) t.heap ∧ va_K V.1 classes (fq_tys V) t ∧ va_D (va_A [(h0, .inr (1, fq_M0))] sz) (fq_WM V u.1 u.2.1 u.2.2)) (va_A [(h0, .inr (1, fq_M0))] sz)) 8 1100 (va_A [(h0, .inr (1, fq_M0))] sz) := by
  refine Met.ofW (cc := b_M_init) (maxL := 4) (ret := none) (by decide) rfl ?_
  intro p e s m args below meth c s₁ B hml hv
  obtain ⟨rfl, hsz, hP, hK, hD0⟩ := hv
  have hts0 := atoms_spec (ws := .code y_M_init b_M_init 4 none :: fq_tb) B.pre
  have hown : s.vm.findClass R_M = some m.cls := findClass_of_methodNamed B.named
  have hin : meth.name = "<init>" := (name_of_methodNamed B.named B.method).1
  have hlocks := B.notSynchronized
  subst hsz
  have hQ : fq_Hp V (va_A [(h0, .inr (1, fq_M0))] s.heap.size) s.heap [(h0, .inr (1, fq_M0))] s.heap [] := ⟨hP, hD0.self, va_S.rf, fun q hq => Or.inr hq⟩
  generalize hAe : va_A [(h0, .inr (1, fq_M0))] s.heap.size = A at hQ ⊢
  have hl := lv_entry ([.ref h0, .int x, .int y, .int z]) (n := 4) (Nat.le_of_ble_eq_true rfl)
  rw [lg_entry_eq]
  generalize (lg_sl ([.ref h0, .int x, .int y, .int z]) ++ List.replicate (4 - (lg_sl ([.ref h0, .int x, .int y, .int z])).length) Slot.unset).toArray = ls at hl ⊢
  have hl : lv_has ls 4 [(0, .ref h0), (1, .int x), (2, .int y), (3, .int z)] := hl
  have hC : fq_Cx V p s m ([.ref h0, .int x, .int y, .int z]).toArray meth c R_M b_M_init 4 none := ⟨B.exec, B.bytes, B.returns, hml, hown, fun w hw => hts0 w (List.mem_cons_of_mem _ hw), B.notSynchronized, hK⟩
  have hxx := hC.1
  have hbb := hC.2.1
  refine lv_aload_n hxx hbb fd_M_init_0 rfl (lv_at hl 0 rfl) ?_
  refine W.objInit hxx hbb hC.2.2.2.2.1 (hC.2.2.2.2.2.1 _ fo_M) (hC.2.2.2.2.2.1 _ fo_i) (hC.2.2.2.2.2.1 _ fo_c) rfl (by rw [hml]; exact hl.1) rfl fd_M_init_1 (Nat.le_of_ble_eq_true rfl) (Nat.le_of_ble_eq_true rfl) ?_
  refine W.eq (g2 := F0 m 4 ls []) rfl ?_
  have hQ : fq_Hp V A s.heap [(h0, .inr (1, [.int 0, .int 0, .int 0, .null, .int 0, .int 0, .int 0, .int 0, .null, .null, .null, .int 0, .null, .null, .null, .null]))] s.heap [] := hQ
  refine lv_aload_n hxx hbb fd_M_init_4 rfl (lv_at hl 0 rfl) ?_
  refine lv_bipush (v := nI 40) hxx hbb fd_M_init_5 (by decide) ?_
  refine fq_newI (N' := 40) hC hQ rfl (by omega) (by show _ ≤ 8; omega) (by show _ ≤ 1100; omega) fd_M_init_7 (fun q1 H hQ => ?_)
  have hQ : fq_Hp V A s.heap [(h0, .inr (1, [.int 0, .int 0, .int 0, .null, .int 0, .int 0, .int 0, .int 0, .null, .null, .null, .int 0, .null, .null, .null, .null])), (q1, .inl (V.2.1, 40, .inl (fun _ => 0)))] H [] := hQ
  refine fq_putM (v := .ref q1) hC hin hQ rfl 3 (by decide) fl_M_keys rfl rfl rfl rfl rfl (Nat.le_of_ble_eq_true rfl) fd_M_init_9 (fun H locs hQ => ?_)
  have hQ : fq_Hp V A s.heap [(h0, .inr (1, [.int 0, .int 0, .int 0, .ref q1, .int 0, .int 0, .int 0, .int 0, .null, .null, .null, .int 0, .null, .null, .null, .null])), (q1, .inl (V.2.1, 40, .inl (fun _ => 0)))] H locs := hQ
  refine lv_aload_n hxx hbb fd_M_init_12 rfl (lv_at hl 0 rfl) ?_
  refine lv_sipush (v := nI 300) hxx hbb fd_M_init_13 (by decide) ?_
  refine fq_newI (N' := 300) hC hQ rfl (by omega) (by show _ ≤ 8; omega) (by show _ ≤ 1100; omega) fd_M_init_16 (fun q2 H hQ => ?_)
  have hQ : fq_Hp V A s.heap [(h0, .inr (1, [.int 0, .int 0, .int 0, .ref q1, .int 0, .int 0, .int 0, .int 0, .null, .null, .null, .int 0, .null, .null, .null, .null])), (q1, .inl (V.2.1, 40, .inl (fun _ => 0))), (q2, .inl (V.2.1, 300, .inl (fun _ => 0)))] H locs := hQ
  refine fq_putM (v := .ref q2) hC hin hQ rfl 8 (by decide) fl_M_froms rfl rfl rfl rfl rfl (Nat.le_of_ble_eq_true rfl) fd_M_init_18 (fun H locs hQ => ?_)
  have hQ : fq_Hp V A s.heap [(h0, .inr (1, [.int 0, .int 0, .int 0, .ref q1, .int 0, .int 0, .int 0, .int 0, .ref q2, .null, .null, .int 0, .null, .null, .null, .null])), (q1, .inl (V.2.1, 40, .inl (fun _ => 0))), (q2, .inl (V.2.1, 300, .inl (fun _ => 0)))] H locs := hQ
  refine lv_aload_n hxx hbb fd_M_init_21 rfl (lv_at hl 0 rfl) ?_
  refine lv_sipush (v := nI 300) hxx hbb fd_M_init_22 (by decide) ?_
  refine fq_newI (N' := 300) hC hQ rfl (by omega) (by show _ ≤ 8; omega) (by show _ ≤ 1100; omega) fd_M_init_25 (fun q3 H hQ => ?_)
  have hQ : fq_Hp V A s.heap [(h0, .inr (1, [.int 0, .int 0, .int 0, .ref q1, .int 0, .int 0, .int 0, .int 0, .ref q2, .null, .null, .int 0, .null, .null, .null, .null])), (q1, .inl (V.2.1, 40, .inl (fun _ => 0))), (q2, .inl (V.2.1, 300, .inl (fun _ => 0))), (q3, .inl (V.2.1, 300, .inl (fun _ => 0)))] H locs := hQ
  refine fq_putM (v := .ref q3) hC hin hQ rfl 9 (by decide) fl_M_tos rfl rfl rfl rfl rfl (Nat.le_of_ble_eq_true rfl) fd_M_init_27 (fun H locs hQ => ?_)
  have hQ : fq_Hp V A s.heap [(h0, .inr (1, [.int 0, .int 0, .int 0, .ref q1, .int 0, .int 0, .int 0, .int 0, .ref q2, .ref q3, .null, .int 0, .null, .null, .null, .null])), (q1, .inl (V.2.1, 40, .inl (fun _ => 0))), (q2, .inl (V.2.1, 300, .inl (fun _ => 0))), (q3, .inl (V.2.1, 300, .inl (fun _ => 0)))] H locs := hQ
  refine lv_aload_n hxx hbb fd_M_init_30 rfl (lv_at hl 0 rfl) ?_
  refine lv_sipush (v := nI 300) hxx hbb fd_M_init_31 (by decide) ?_
  refine fq_newI (N' := 300) hC hQ rfl (by omega) (by show _ ≤ 8; omega) (by show _ ≤ 1100; omega) fd_M_init_34 (fun q4 H hQ => ?_)
  have hQ : fq_Hp V A s.heap [(h0, .inr (1, [.int 0, .int 0, .int 0, .ref q1, .int 0, .int 0, .int 0, .int 0, .ref q2, .ref q3, .null, .int 0, .null, .null, .null, .null])), (q1, .inl (V.2.1, 40, .inl (fun _ => 0))), (q2, .inl (V.2.1, 300, .inl (fun _ => 0))), (q3, .inl (V.2.1, 300, .inl (fun _ => 0))), (q4, .inl (V.2.1, 300, .inl (fun _ => 0)))] H locs := hQ
  refine fq_putM (v := .ref q4) hC hin hQ rfl 10 (by decide) fl_M_lengths rfl rfl rfl rfl rfl (Nat.le_of_ble_eq_true rfl) fd_M_init_36 (fun H locs hQ => ?_)
  have hQ : fq_Hp V A s.heap [(h0, .inr (1, [.int 0, .int 0, .int 0, .ref q1, .int 0, .int 0, .int 0, .int 0, .ref q2, .ref q3, .ref q4, .int 0, .null, .null, .null, .null])), (q1, .inl (V.2.1, 40, .inl (fun _ => 0))), (q2, .inl (V.2.1, 300, .inl (fun _ => 0))), (q3, .inl (V.2.1, 300, .inl (fun _ => 0))), (q4, .inl (V.2.1, 300, .inl (fun _ => 0)))] H locs := hQ
  refine lv_aload_n hxx hbb fd_M_init_39 rfl (lv_at hl 0 rfl) ?_
  refine lv_bipush (v := nI 40) hxx hbb fd_M_init_40 (by decide) ?_
  refine fq_newI (N' := 40) hC hQ rfl (by omega) (by show _ ≤ 8; omega) (by show _ ≤ 1100; omega) fd_M_init_42 (fun q5 H hQ => ?_)
  have hQ : fq_Hp V A s.heap [(h0, .inr (1, [.int 0, .int 0, .int 0, .ref q1, .int 0, .int 0, .int 0, .int 0, .ref q2, .ref q3, .ref q4, .int 0, .null, .null, .null, .null])), (q1, .inl (V.2.1, 40, .inl (fun _ => 0))), (q2, .inl (V.2.1, 300, .inl (fun _ => 0))), (q3, .inl (V.2.1, 300, .inl (fun _ => 0))), (q4, .inl (V.2.1, 300, .inl (fun _ => 0))), (q5, .inl (V.2.1, 40, .inl (fun _ => 0)))] H locs := hQ
  refine fq_putM (v := .ref q5) hC hin hQ rfl 12 (by decide) fl_M_ways rfl rfl rfl rfl rfl (Nat.le_of_ble_eq_true rfl) fd_M_init_44 (fun H locs hQ => ?_)
  have hQ : fq_Hp V A s.heap [(h0, .inr (1, [.int 0, .int 0, .int 0, .ref q1, .int 0, .int 0, .int 0, .int 0, .ref q2, .ref q3, .ref q4, .int 0, .ref q5, .null, .null, .null])), (q1, .inl (V.2.1, 40, .inl (fun _ => 0))), (q2, .inl (V.2.1, 300, .inl (fun _ => 0))), (q3, .inl (V.2.1, 300, .inl (fun _ => 0))), (q4, .inl (V.2.1, 300, .inl (fun _ => 0))), (q5, .inl (V.2.1, 40, .inl (fun _ => 0)))] H locs := hQ
  refine lv_aload_n hxx hbb fd_M_init_47 rfl (lv_at hl 0 rfl) ?_
  refine lv_bipush (v := nI 40) hxx hbb fd_M_init_48 (by decide) ?_
  refine fq_newI (N' := 40) hC hQ rfl (by omega) (by show _ ≤ 8; omega) (by show _ ≤ 1100; omega) fd_M_init_50 (fun q6 H hQ => ?_)
  have hQ : fq_Hp V A s.heap [(h0, .inr (1, [.int 0, .int 0, .int 0, .ref q1, .int 0, .int 0, .int 0, .int 0, .ref q2, .ref q3, .ref q4, .int 0, .ref q5, .null, .null, .null])), (q1, .inl (V.2.1, 40, .inl (fun _ => 0))), (q2, .inl (V.2.1, 300, .inl (fun _ => 0))), (q3, .inl (V.2.1, 300, .inl (fun _ => 0))), (q4, .inl (V.2.1, 300, .inl (fun _ => 0))), (q5, .inl (V.2.1, 40, .inl (fun _ => 0))), (q6, .inl (V.2.1, 40, .inl (fun _ => 0)))] H locs := hQ
  refine fq_putM (v := .ref q6) hC hin hQ rfl 13 (by decide) fl_M_formers rfl rfl rfl rfl rfl (Nat.le_of_ble_eq_true rfl) fd_M_init_52 (fun H locs hQ => ?_)
  have hQ : fq_Hp V A s.heap [(h0, .inr (1, [.int 0, .int 0, .int 0, .ref q1, .int 0, .int 0, .int 0, .int 0, .ref q2, .ref q3, .ref q4, .int 0, .ref q5, .ref q6, .null, .null])), (q1, .inl (V.2.1, 40, .inl (fun _ => 0))), (q2, .inl (V.2.1, 300, .inl (fun _ => 0))), (q3, .inl (V.2.1, 300, .inl (fun _ => 0))), (q4, .inl (V.2.1, 300, .inl (fun _ => 0))), (q5, .inl (V.2.1, 40, .inl (fun _ => 0))), (q6, .inl (V.2.1, 40, .inl (fun _ => 0)))] H locs := hQ
  refine lv_aload_n hxx hbb fd_M_init_55 rfl (lv_at hl 0 rfl) ?_
  refine lv_bipush (v := nI 40) hxx hbb fd_M_init_56 (by decide) ?_
  refine fq_newZ (N' := 40) hC hQ rfl (by omega) (by show _ ≤ 8; omega) (by show _ ≤ 1100; omega) fd_M_init_58 (fun q7 H hQ => ?_)
  have hQ : fq_Hp V A s.heap [(h0, .inr (1, [.int 0, .int 0, .int 0, .ref q1, .int 0, .int 0, .int 0, .int 0, .ref q2, .ref q3, .ref q4, .int 0, .ref q5, .ref q6, .null, .null])), (q1, .inl (V.2.1, 40, .inl (fun _ => 0))), (q2, .inl (V.2.1, 300, .inl (fun _ => 0))), (q3, .inl (V.2.1, 300, .inl (fun _ => 0))), (q4, .inl (V.2.1, 300, .inl (fun _ => 0))), (q5, .inl (V.2.1, 40, .inl (fun _ => 0))), (q6, .inl (V.2.1, 40, .inl (fun _ => 0))), (q7, .inl (V.2.2, 40, .inl (fun _ => 0)))] H locs := hQ
  refine fq_putM (v := .ref q7) hC hin hQ rfl 14 (by decide) fl_M_taken rfl rfl rfl rfl rfl (Nat.le_of_ble_eq_true rfl) fd_M_init_60 (fun H locs hQ => ?_)
  have hQ : fq_Hp V A s.heap [(h0, .inr (1, [.int 0, .int 0, .int 0, .ref q1, .int 0, .int 0, .int 0, .int 0, .ref q2, .ref q3, .ref q4, .int 0, .ref q5, .ref q6, .ref q7, .null])), (q1, .inl (V.2.1, 40, .inl (fun _ => 0))), (q2, .inl (V.2.1, 300, .inl (fun _ => 0))), (q3, .inl (V.2.1, 300, .inl (fun _ => 0))), (q4, .inl (V.2.1, 300, .inl (fun _ => 0))), (q5, .inl (V.2.1, 40, .inl (fun _ => 0))), (q6, .inl (V.2.1, 40, .inl (fun _ => 0))), (q7, .inl (V.2.2, 40, .inl (fun _ => 0)))] H locs := hQ
  refine lv_aload_n hxx hbb fd_M_init_63 rfl (lv_at hl 0 rfl) ?_
  refine lv_bipush (v := nI 40) hxx hbb fd_M_init_64 (by decide) ?_
  refine fq_newZ (N' := 40) hC hQ rfl (by omega) (by show _ ≤ 8; omega) (by show _ ≤ 1100; omega) fd_M_init_66 (fun q8 H hQ => ?_)
  have hQ : fq_Hp V A s.heap [(h0, .inr (1, [.int 0, .int 0, .int 0, .ref q1, .int 0, .int 0, .int 0, .int 0, .ref q2, .ref q3, .ref q4, .int 0, .ref q5, .ref q6, .ref q7, .null])), (q1, .inl (V.2.1, 40, .inl (fun _ => 0))), (q2, .inl (V.2.1, 300, .inl (fun _ => 0))), (q3, .inl (V.2.1, 300, .inl (fun _ => 0))), (q4, .inl (V.2.1, 300, .inl (fun _ => 0))), (q5, .inl (V.2.1, 40, .inl (fun _ => 0))), (q6, .inl (V.2.1, 40, .inl (fun _ => 0))), (q7, .inl (V.2.2, 40, .inl (fun _ => 0))), (q8, .inl (V.2.2, 40, .inl (fun _ => 0)))] H locs := hQ
  refine fq_putM (v := .ref q8) hC hin hQ rfl 15 (by decide) fl_M_near rfl rfl rfl rfl rfl (Nat.le_of_ble_eq_true rfl) fd_M_init_68 (fun H locs hQ => ?_)
  have hQ : fq_Hp V A s.heap [(h0, .inr (1, [.int 0, .int 0, .int 0, .ref q1, .int 0, .int 0, .int 0, .int 0, .ref q2, .ref q3, .ref q4, .int 0, .ref q5, .ref q6, .ref q7, .ref q8])), (q1, .inl (V.2.1, 40, .inl (fun _ => 0))), (q2, .inl (V.2.1, 300, .inl (fun _ => 0))), (q3, .inl (V.2.1, 300, .inl (fun _ => 0))), (q4, .inl (V.2.1, 300, .inl (fun _ => 0))), (q5, .inl (V.2.1, 40, .inl (fun _ => 0))), (q6, .inl (V.2.1, 40, .inl (fun _ => 0))), (q7, .inl (V.2.2, 40, .inl (fun _ => 0))), (q8, .inl (V.2.2, 40, .inl (fun _ => 0)))] H locs := hQ
  refine lv_aload_n hxx hbb fd_M_init_71 rfl (lv_at hl 0 rfl) ?_
  refine lv_iload_n hxx hbb fd_M_init_72 rfl (lv_at hl 1 rfl) ?_
  refine lv_iconst (v := 1) hxx hbb fd_M_init_73 (by decide) ?_
  suffices hJ : ∀ v : Int32, v = fq_b x 1 (nI 40) → W p l e _ s m _ below meth c H locs _ _ _ (F0 m 93 ls [.int v, .ref h0]) by
    refine lv_icmp_ge (tgt := 81) hxx hbb fd_M_init_74 (by decide) (fun c1 => ?_) (fun c1 => ?_)
    · refine lv_iload_n hxx hbb fd_M_init_81 rfl (lv_at hl 1 rfl) ?_
      refine lv_bipush (v := nI 40) hxx hbb fd_M_init_82 (by decide) ?_
      refine lv_icmp_le (tgt := 92) hxx hbb fd_M_init_84 (by decide) (fun c2 => ?_) (fun c2 => ?_)
      · refine lv_iload_n hxx hbb fd_M_init_92 rfl (lv_at hl 1 rfl) ?_
        exact hJ _ (by unfold fq_b; rw [if_neg (Int32.not_lt.mpr c1), if_neg (Int32.not_lt.mpr c2)])
      · refine lv_bipush (v := nI 40) hxx hbb fd_M_init_87 (by decide) ?_
        refine lv_goto (tgt := 93) hxx hbb fd_M_init_89 (by decide) ?_
        exact hJ _ (by unfold fq_b; rw [if_neg (Int32.not_lt.mpr c1), if_pos (Int32.not_le.mp c2)])
    · refine lv_iconst (v := 1) hxx hbb fd_M_init_77 (by decide) ?_
      refine lv_goto (tgt := 93) hxx hbb fd_M_init_78 (by decide) ?_
      exact hJ _ (by unfold fq_b; rw [if_pos (Int32.not_le.mp c1)])
  intro v1 ev1
  refine fq_putM (v := .int v1) hC hin hQ rfl 0 (by decide) fl_M_items rfl rfl rfl rfl rfl (Nat.le_of_ble_eq_true rfl) fd_M_init_93 (fun H locs hQ => ?_)
  have hQ : fq_Hp V A s.heap [(h0, .inr (1, [.int v1, .int 0, .int 0, .ref q1, .int 0, .int 0, .int 0, .int 0, .ref q2, .ref q3, .ref q4, .int 0, .ref q5, .ref q6, .ref q7, .ref q8])), (q1, .inl (V.2.1, 40, .inl (fun _ => 0))), (q2, .inl (V.2.1, 300, .inl (fun _ => 0))), (q3, .inl (V.2.1, 300, .inl (fun _ => 0))), (q4, .inl (V.2.1, 300, .inl (fun _ => 0))), (q5, .inl (V.2.1, 40, .inl (fun _ => 0))), (q6, .inl (V.2.1, 40, .inl (fun _ => 0))), (q7, .inl (V.2.2, 40, .inl (fun _ => 0))), (q8, .inl (V.2.2, 40, .inl (fun _ => 0)))] H locs := hQ
  refine lv_aload_n hxx hbb fd_M_init_96 rfl (lv_at hl 0 rfl) ?_
  refine lv_iload_n hxx hbb fd_M_init_97 rfl (lv_at hl 2 rfl) ?_
  refine lv_iconst (v := 1) hxx hbb fd_M_init_98 (by decide) ?_
  suffices hJ : ∀ v : Int32, v = fq_b y 1 (nI 300) → W p l e _ s m _ below meth c H locs _ _ _ (F0 m 120 ls [.int v, .ref h0]) by
    refine lv_icmp_ge (tgt := 106) hxx hbb fd_M_init_99 (by decide) (fun c1 => ?_) (fun c1 => ?_)
    · refine lv_iload_n hxx hbb fd_M_init_106 rfl (lv_at hl 2 rfl) ?_
      refine lv_sipush (v := nI 300) hxx hbb fd_M_init_107 (by decide) ?_
      refine lv_icmp_le (tgt := 119) hxx hbb fd_M_init_110 (by decide) (fun c2 => ?_) (fun c2 => ?_)
      · refine lv_iload_n hxx hbb fd_M_init_119 rfl (lv_at hl 2 rfl) ?_
        exact hJ _ (by unfold fq_b; rw [if_neg (Int32.not_lt.mpr c1), if_neg (Int32.not_lt.mpr c2)])
      · refine lv_sipush (v := nI 300) hxx hbb fd_M_init_113 (by decide) ?_
        refine lv_goto (tgt := 120) hxx hbb fd_M_init_116 (by decide) ?_
        exact hJ _ (by unfold fq_b; rw [if_neg (Int32.not_lt.mpr c1), if_pos (Int32.not_le.mp c2)])
    · refine lv_iconst (v := 1) hxx hbb fd_M_init_102 (by decide) ?_
      refine lv_goto (tgt := 120) hxx hbb fd_M_init_103 (by decide) ?_
      exact hJ _ (by unfold fq_b; rw [if_pos (Int32.not_le.mp c1)])
  intro v2 ev2
  refine fq_putM (v := .int v2) hC hin hQ rfl 1 (by decide) fl_M_mostArcs rfl rfl rfl rfl rfl (Nat.le_of_ble_eq_true rfl) fd_M_init_120 (fun H locs hQ => ?_)
  have hQ : fq_Hp V A s.heap [(h0, .inr (1, [.int v1, .int v2, .int 0, .ref q1, .int 0, .int 0, .int 0, .int 0, .ref q2, .ref q3, .ref q4, .int 0, .ref q5, .ref q6, .ref q7, .ref q8])), (q1, .inl (V.2.1, 40, .inl (fun _ => 0))), (q2, .inl (V.2.1, 300, .inl (fun _ => 0))), (q3, .inl (V.2.1, 300, .inl (fun _ => 0))), (q4, .inl (V.2.1, 300, .inl (fun _ => 0))), (q5, .inl (V.2.1, 40, .inl (fun _ => 0))), (q6, .inl (V.2.1, 40, .inl (fun _ => 0))), (q7, .inl (V.2.2, 40, .inl (fun _ => 0))), (q8, .inl (V.2.2, 40, .inl (fun _ => 0)))] H locs := hQ
  refine lv_aload_n hxx hbb fd_M_init_123 rfl (lv_at hl 0 rfl) ?_
  refine lv_iload_n hxx hbb fd_M_init_124 rfl (lv_at hl 3 rfl) ?_
  suffices hJ : ∀ v : Int32, v = (if z < 0 then 0 else z) → W p l e _ s m _ below meth c H locs _ _ _ (F0 m 133 ls [.int v, .ref h0]) by
    refine lv_if_ge (tgt := 132) hxx hbb fd_M_init_125 (by decide) (fun c101 => ?_) (fun c101 => ?_)
    · refine lv_iload_n hxx hbb fd_M_init_132 rfl (lv_at hl 3 rfl) ?_
      exact hJ z (by rw [if_neg (Int32.not_lt.mpr c101)])
    · refine lv_iconst (v := 0) hxx hbb fd_M_init_128 (by decide) ?_
      refine lv_goto (tgt := 133) hxx hbb fd_M_init_129 (by decide) ?_
      exact hJ 0 (by rw [if_pos (Int32.not_le.mp c101)])
  intro v3 ev3
  refine fq_putM (v := .int v3) hC hin hQ rfl 2 (by decide) fl_M_mostLength rfl rfl rfl rfl rfl (Nat.le_of_ble_eq_true rfl) fd_M_init_133 (fun H locs hQ => ?_)
  have hQ : fq_Hp V A s.heap [(h0, .inr (1, [.int v1, .int v2, .int v3, .ref q1, .int 0, .int 0, .int 0, .int 0, .ref q2, .ref q3, .ref q4, .int 0, .ref q5, .ref q6, .ref q7, .ref q8])), (q1, .inl (V.2.1, 40, .inl (fun _ => 0))), (q2, .inl (V.2.1, 300, .inl (fun _ => 0))), (q3, .inl (V.2.1, 300, .inl (fun _ => 0))), (q4, .inl (V.2.1, 300, .inl (fun _ => 0))), (q5, .inl (V.2.1, 40, .inl (fun _ => 0))), (q6, .inl (V.2.1, 40, .inl (fun _ => 0))), (q7, .inl (V.2.2, 40, .inl (fun _ => 0))), (q8, .inl (V.2.2, 40, .inl (fun _ => 0)))] H locs := hQ
  obtain ⟨o, ho⟩ : ∃ o : Nat → Nat, o = fun k => [h0, q1, q2, q3, q4, q5, q6, q7, q8].getD k 0 := ⟨_, rfl⟩
  obtain ⟨g, hg⟩ : ∃ g : fq_G, g = fun r i => if r = 8 then [v1, v2, v3, 0, 0, 0, 0, 0].getD i 0 else 0 := ⟨_, rfl⟩
  have hQ : fq_Hp V A s.heap (fq_WM V o 0 g) H locs := by
    subst ho; subst hg
    exact hQ
  have ho0 : o 0 = h0 := by rw [ho]; rfl
  rw [← ho0] at hl
  refine W.widen (k := 8) (n := 1100) (by omega) (by omega) ?_
  refine lv_aload_n hxx hbb fd_M_init_136 rfl (lv_at hl 0 rfl) ?_
  refine fq_callV hC (fc_M_clear l V o 0 g) fw_M_45 ⟨Nat.le_of_ble_eq_true rfl, Nat.le_of_ble_eq_true rfl⟩ rfl rfl rfl hQ rfl hl.1 (rest := []) rfl (Nat.le_of_ble_eq_true rfl) fd_M_init_137 ⟨by show _ ≤ 8; omega, by show _ ≤ 1100; omega⟩ (fun u137 H locs hp137 hQ => ?_)
  subst hp137
  refine W.vret hxx hbb B.returns (fun t ht hW => ⟨⟨(o, 0, fq_clrM g), rfl, ⟨?_, ?_, ?_, ?_, ?_⟩, ho0, by rw [ht]; exact hQ.1, va_K.moved hW.alike hK, hQ.2.1⟩, hQ.2.2.1.F ht⟩) hQ.2.2.1.2.2 fd_M_init_140 hlocks
  · show fq_clrM g 8 0 = _; rw [fq_clrM_8, hg, ← ev1]; rfl
  · show fq_clrM g 8 1 = _; rw [fq_clrM_8, hg, ← ev2]; rfl
  · show fq_clrM g 8 2 = _; rw [fq_clrM_8, hg, ← ev3]; rfl
  · intro j hj; show fq_clrM g 8 j = 0; rw [fq_clrM_8, hg]
    match j, hj with
    | 3, _ => rfl
    | 4, _ => rfl
    | 5, _ => rfl
    | 6, _ => rfl
    | 7, _ => rfl
    | j + 8, _ => rfl
  · intro k hk; show fq_clrM g 0 k = -1; rw [fq_clrM_0]; unfold fq_fill; rw [if_pos hk]
end
section
/-! pure rows: what holds between the two objects at the law's loop -/
def fq_IN (g a : fq_G) (mo N M E C P : Nat) (L : Nat → List Nat) : Prop := fq_QB g a N L ∧ fq_QA g a N E ∧ fq_QD g a N ∧ fq_AB a N C P ∧ fq_AG a N M E ∧ mo = M
def fq_INV (g a : fq_G) (mo B : Nat) : Prop := ∃ N M E C P L, fq_IN g a mo N M E C P L ∧ C ≤ B
theorem fq_QD_cg {g g' a a' : fq_G} {N : Nat} (h10 : g' 10 = g 10) (h11 : g' 11 = g 11) (h128 : g' 12 8 = g 12 8) (h4 : a' 4 = a 4) (h5 : a' 5 = a 5) (h6 : a' 6 = a 6) (h87 : a' 8 7 = a 8 7) (h : fq_QD g a N) : fq_QD g' a' N := by
  unfold fq_QD
  rw [h10, h11, h128, h4, h5, h6, h87]
  exact h
theorem fq_IN_fr {g a u b : fq_G} {mo N M E C P C' P' : Nat} {L L' : Nat → List Nat} (h : fq_IN g a mo N M E C P L) (hB : fq_QB u b N L') (hF : fq_FR g u) (ho : ∀ r, r ≠ 0 → r ≠ 8 → b r = a r) (h8 : ∀ j, j ≠ 3 → j ≠ 4 → j ≠ 5 → b 8 j = a 8 j) (hA : fq_AB b N C' P') : fq_IN u b mo N M E C' P' L' := by
  obtain ⟨i1, i2, i3, i4, i5, i6⟩ := h
  refine ⟨hB, fq_QA_cg (fun r h1 h2 => hF.1 r h1 (by omega)) (fun j hj => hF.2 j (by omega)) (fun r hr => ho r (by omega) (by omega)) (fun j hj => h8 j (by omega) (by omega) (by omega)) i2, fq_QD_cg (hF.1 10 (by decide) (by decide)) (hF.1 11 (by decide) (by decide)) (hF.2 8 (by decide)) (ho 4 (by decide) (by decide)) (ho 5 (by decide) (by decide)) (ho 6 (by decide) (by decide)) (h8 7 (by decide) (by decide) (by decide)) i3, hA, fq_AG_cg (ho 1 (by decide) (by decide)) (ho 2 (by decide) (by decide)) (ho 3 (by decide) (by decide)) (h8 1 (by decide) (by decide) (by decide)) (h8 6 (by decide) (by decide) (by decide)) i5, i6⟩
theorem fq_pushF_AB {a : fq_G} {N C P : Nat} (hA : fq_AB a N C P) (x key : Int32) : ∃ C' P', C' ≤ C + 1 ∧ fq_AB (fq_pushF a N x key) N C' P' := by
  have h40 := hA.2.1
  by_cases c : fq_itm N x = false
  · have e : fq_pushR a N x key = -1 := by simp [fq_pushR, c]
    have e2 : fq_pushF a N x key = a := by unfold fq_pushF; rw [e]; rfl
    rw [e2]
    exact ⟨C, P, by omega, hA⟩
  · have c2 : 0 ≤ x.toInt ∧ x.toInt < (N : Int) := by simpa [fq_itm] using c
    have e := fq_n_toInt c2.1
    obtain ⟨j, hj, ex⟩ : ∃ j, j < N ∧ x = nI j := ⟨x.toNatClampNeg, by omega, (fq_nI_n c2.1).symm⟩
    subst ex
    by_cases c3 : a 0 j = -1
    · by_cases c4 : key < a 8 3
      · rw [(fq_push_3 h40 hj c3 c4).2]
        exact ⟨C, P, by omega, hA⟩
      · rw [(fq_push_4 h40 hj c3 c4).2]
        exact ⟨C + 1, P + 1, by omega, fq_pushA_ok hA hj c3 (Int32.le_iff_toInt_le.mp (Int32.not_lt.mp c4))⟩
    · rw [(fq_push_2 h40 hj c3).2]
      exact ⟨C, P, by omega, hA⟩
theorem fq_lowerF_AB {a : fq_G} {N C P : Nat} (hA : fq_AB a N C P) (x key : Int32) : ∃ C' P', C' ≤ C + 1 ∧ fq_AB (fq_lowerF a N x key) N C' P' := by
  have h40 := hA.2.1
  by_cases c : fq_itm N x = false
  · have e : fq_lowerR a N x key = -1 := by simp [fq_lowerR, c]
    have e2 : fq_lowerF a N x key = a := by unfold fq_lowerF; rw [e]; rfl
    rw [e2]
    exact ⟨C, P, by omega, hA⟩
  · have c2 : 0 ≤ x.toInt ∧ x.toInt < (N : Int) := by simpa [fq_itm] using c
    have e := fq_n_toInt c2.1
    obtain ⟨j, hj, ex⟩ : ∃ j, j < N ∧ x = nI j := ⟨x.toNatClampNeg, by omega, (fq_nI_n c2.1).symm⟩
    subst ex
    by_cases c3 : a 0 j = -1
    · rw [(fq_lower_1 (key := key) h40 (fun i hi ei => by rw [← fq_eqI (by omega) (by omega) ei]; exact c3)).2]
      exact ⟨C, P, by omega, hA⟩
    · by_cases c4 : key < a 8 3 ∨ a 0 j < key
      · rw [(fq_lower_2 h40 hj c3 c4).2]
        exact ⟨C, P, by omega, hA⟩
      · rw [(fq_lower_3 h40 hj c3 c4).2]
        exact ⟨C + 1, _, by omega, fq_lowerA_ok hA hj c3 (Int32.le_iff_toInt_le.mp (Int32.not_lt.mp (fun q => c4 (Or.inl q)))) (Int32.le_iff_toInt_le.mp (Int32.not_lt.mp (fun q => c4 (Or.inr q))))⟩
theorem fq_INV_push {g a u : fq_G} {mo N M E C P B : Nat} {L : Nat → List Nat} {x key : Int32} (h : fq_IN g a mo N M E C P L) (hC : C ≤ B) (hp : (∃ L', fq_QB u (fq_pushF a N x key) N L') ∧ fq_FR g u) : fq_INV u (fq_pushF a N x key) mo (B + 49204) := by
  obtain ⟨⟨L', hB⟩, hF⟩ := hp
  obtain ⟨C', P', h1, h2⟩ := fq_pushF_AB h.2.2.2.1 x key
  have hfr := fq_pushF_fr a N x key
  exact ⟨N, M, E, C', P', L', fq_IN_fr h hB hF hfr.1 (fun j _ h4 h5 => hfr.2 j h4 h5) h2, by omega⟩
theorem fq_INV_lower {g a u : fq_G} {mo N M E C P B : Nat} {L : Nat → List Nat} {x key : Int32} (h : fq_IN g a mo N M E C P L) (hC : C ≤ B) (hp : (∃ L', fq_QB u (fq_lowerF a N x key) N L') ∧ fq_FR g u) : fq_INV u (fq_lowerF a N x key) mo (B + 49204) := by
  obtain ⟨⟨L', hB⟩, hF⟩ := hp
  obtain ⟨C', P', h1, h2⟩ := fq_lowerF_AB h.2.2.2.1 x key
  have hfr := fq_lowerF_fr a N x key
  exact ⟨N, M, E, C', P', L', fq_IN_fr h hB hF hfr.1 (fun j _ h4 h5 => hfr.2 j h4 h5) h2, by omega⟩
theorem fq_INV_same {g a : fq_G} {mo N M E C P B : Nat} {L : Nat → List Nat} (h : fq_IN g a mo N M E C P L) (hC : C ≤ B) : fq_INV g a mo (B + 49204) := ⟨N, M, E, C, P, L, h, by omega⟩
theorem fq_none_isL {a : fq_G} {N f : Nat} (h : fq_cnt (fq_th a) N = 0) (hf : fq_isL (a 0) N f) : False := by
  have := fq_cnt_zero.mp h f hf.1
  simp [fq_th, hf.2.1] at this
theorem fq_INV_pop {g a u u2 : fq_G} {mo N M E C P B : Nat} {L : Nat → List Nat} {r r2 : Int32} (h : fq_IN g a mo N M E C P L) (hC : C ≤ B)
    (hp : (fq_cnt (fq_th a) N = 0 ∧ r = -1 ∧ u = g) ∨ ∃ f, fq_isL (a 0) N f ∧ r = nI f ∧ (∃ L', fq_QB u (fq_popG a N f) N L') ∧ fq_FR g u)
    (hp2 : (fq_cnt (fq_th a) N = 0 ∧ r2 = -1 ∧ u2 = a) ∨ ∃ f, fq_isL (a 0) N f ∧ r2 = nI f ∧ u2 = fq_popG a N f) : r = r2 ∧ fq_INV u u2 mo (B + 49204) := by
  rcases hp with ⟨q1, q2, q3⟩ | ⟨f, f1, f2, ⟨L', f3⟩, f4⟩
  · rcases hp2 with ⟨z1, z2, z3⟩ | ⟨f, f1, -⟩
    · rw [q2, z2, q3, z3]
      exact ⟨rfl, fq_INV_same h hC⟩
    · exact (fq_none_isL q1 f1).elim
  · rcases hp2 with ⟨z1, z2, z3⟩ | ⟨f', e1, e2, e3⟩
    · exact (fq_none_isL z1 f1).elim
    · have e := fq_isL_uniq e1 f1
      rw [e] at e2 e3
      rw [f2, e2, e3]
      obtain ⟨P', hA'⟩ := fq_popG_ok h.2.2.2.1 f1
      exact ⟨rfl, N, M, E, C, P', L', fq_IN_fr h f3 f4 (fun r h0 h8 => fq_popG_o a N f h0 h8) (fun j h3 h4 _ => fq_popG_8 a N f h3 h4) hA', by omega⟩
theorem fq_INV_arc {g a u : fq_G} {mo N M E C P B : Nat} {L : Nat → List Nat} {r x y len : Int32} (h : fq_IN g a mo N M E C P L) (hC : C ≤ B)
    (hp : (r ≠ 0 ∧ u = g ∧ fq_arcF a N x y len = a) ∨ (r = 0 ∧ ∃ u0 v0, u0 < N ∧ v0 < N ∧ x = nI u0 ∧ y = nI v0 ∧ ¬ len < 0 ∧ E < M ∧ fq_arcF a N x y len = fq_arcA a E x y len ∧ u = fq_us (fq_us (fq_us (fq_us (fq_us (fq_us g 8 E (nI v0)) 9 E len) 7 E (g 6 u0)) 6 u0 (nI E)) 12 7 (nI E + 1)) 12 8 0)) : fq_INV u (fq_arcF a N x y len) mo (B + 49204) := by
  rcases hp with ⟨-, q2, q3⟩ | ⟨-, u0, v0, hu, hv, ex, ey, hl, hE, e1, e2⟩
  · rw [q2, q3]
    exact fq_INV_same h hC
  · obtain ⟨i1, i2, i3, i4, i5, i6⟩ := h
    subst ex
    subst ey
    rw [e1]
    have hQA := fq_arcA_QA (len := len) i2 i5 i4.2.1 hu hv
    rw [← e2] at hQA
    have ur : ∀ r, r < 6 → u r = g r := fun r hr => by
      have r6 : r ≠ 6 := by omega
      have r7 : r ≠ 7 := by omega
      have r8 : r ≠ 8 := by omega
      have r9 : r ≠ 9 := by omega
      have r12 : r ≠ 12 := by omega
      rw [e2]
      simp [fq_us, r6, r7, r8, r9, r12]
    have u12 : ∀ j, j < 7 → u 12 j = g 12 j := fun j hj => by
      have j7 : j ≠ 7 := by omega
      have j8 : j ≠ 8 := by omega
      rw [e2]
      simp [fq_us, upd, j7, j8]
    have a8 : ∀ j, j < 6 → fq_arcA a E (nI u0) (nI v0) len 8 j = a 8 j := fun j hj => by
      have j7 : j ≠ 7 := by omega
      have j6 : j ≠ 6 := by omega
      simp [fq_arcA, fq_us, upd, j7, j6]
    have a0 : fq_arcA a E (nI u0) (nI v0) len 0 = a 0 := by simp [fq_arcA, fq_us]
    have hA : fq_AB (fq_arcA a E (nI u0) (nI v0) len) N C P := by
      obtain ⟨n1, n40, b0, hf, hkeys, hP, hCC, hb⟩ := i4
      refine ⟨n1, n40, by rw [a8 0 (by omega)]; exact b0, by rw [a8 3 (by omega)]; exact hf, by rw [a0, a8 3 (by omega)]; exact hkeys, by rw [a8 4 (by omega)]; exact hP, by rw [a8 5 (by omega)]; exact hCC, ?_⟩
      have e : fq_phi (fq_arcA a E (nI u0) (nI v0) len) N = fq_phi a N := by
        unfold fq_phi
        exact fq_sum_congr (fun k _ => by simp only [fq_ph, a0, a8 3 (by omega)])
      rw [e]
      exact hb
    refine ⟨N, M, E + 1, C, P, L, ⟨fq_QB_cg ur (fun j h1 h2 => u12 j (by omega)) (u12 0 (by omega)) (fun k _ => by rw [a0]) (fun j hj => a8 j (by omega)) i1, hQA, ⟨?_, Or.inl ?_, fun q => ?_⟩, hA, fq_arcA_AG i5 hE hu hv hl, i6⟩, by omega⟩
    · rw [e2]
      simp [fq_us, upd, fq_arcA]
    · simp [fq_us, upd, fq_arcA]
    · have z : fq_arcA a E (nI u0) (nI v0) len 8 7 = 0 := by simp [fq_us, upd, fq_arcA]
      rw [z] at q
      exact absurd q (by decide)
theorem fq_IN_row7 {g a : fq_G} {mo N M E C P : Nat} {L : Nat → List Nat} (nr : Nat → Int32) (h : fq_IN g a mo N M E C P L) : fq_IN g (fq_row a 7 nr) mo N M E C P L := by
  obtain ⟨i1, i2, i3, i4, i5, i6⟩ := h
  have e : ∀ r, r ≠ 7 → fq_row a 7 nr r = a r := fun r hr => by simp [fq_row, hr]
  exact ⟨fq_QB_cg (fun _ _ => rfl) (fun _ _ _ => rfl) rfl (fun k _ => by rw [e 0 (by decide)]) (fun j _ => by rw [e 8 (by decide)]) i1, fq_QA_cg (fun _ _ _ => rfl) (fun _ _ => rfl) (fun r hr => e r (by omega)) (fun j _ => by rw [e 8 (by decide)]) i2, fq_QD_cg rfl rfl rfl (e 4 (by decide)) (e 5 (by decide)) (e 6 (by decide)) (by rw [e 8 (by decide)]) i3, fq_AB_cg (e 0 (by decide)) (fun j _ => by rw [e 8 (by decide)]) i4, fq_AG_cg (e 1 (by decide)) (e 2 (by decide)) (e 3 (by decide)) (by rw [e 8 (by decide)]) (by rw [e 8 (by decide)]) i5, i6⟩
theorem fq_INV_run {g a u : fq_G} {mo N M E C P B : Nat} {L : Nat → List Nat} {x : Int32} {nr : Nat → Int32} (h : fq_IN g a mo N M E C P L) (hC : C ≤ B) (hp : (fq_itm N x = false ∧ u = g) ∨ ∃ L', fq_QB u (fq_runF a N E x) N L' ∧ fq_QA u (fq_runF a N E x) N E ∧ fq_QD u (fq_runF a N E x) N) : fq_INV u (fq_row (fq_runF a N E x) 7 nr) mo (B + 49204) := by
  rcases hp with ⟨q1, q2⟩ | ⟨L', q1, q2, q3⟩
  · have e : fq_runF a N E x = a := by unfold fq_runF; rw [if_pos q1]
    rw [e, q2]
    exact ⟨N, M, E, C, P, L, fq_IN_row7 nr h, by omega⟩
  · obtain ⟨C', P', h1, h2, h3⟩ := fq_runF_ok h.2.2.2.1 h.2.2.2.2.1 x
    exact ⟨N, M, E, C', P', L', fq_IN_row7 nr ⟨q1, q2, q3, h2, h3, h.2.2.2.2.2⟩, by omega⟩
theorem fq_INV_0 {g a : fq_G} {mo : Nat} {x y z : Int32} (hg : g 12 0 = fq_b x 1 (nI 40) ∧ g 12 1 = fq_b y 1 (nI 300) ∧ nI mo = fq_b y 1 (nI 300) ∧ mo ≤ 300 ∧ g 12 2 = (if z < 0 then 0 else z) ∧ (∀ j, 3 ≤ j → g 12 j = 0) ∧ (∀ b, b < 32 → g 0 b = -1 ∧ g 1 b = 0) ∧ ∀ k, k < 40 → g 5 k = -1 ∧ g 6 k = -1)
    (ha : a 8 0 = fq_b x 1 (nI 40) ∧ a 8 1 = fq_b y 1 (nI 300) ∧ a 8 2 = (if z < 0 then 0 else z) ∧ (∀ j, 3 ≤ j → a 8 j = 0) ∧ ∀ k, k < 40 → a 0 k = -1) (B : Nat) : fq_INV g a mo B := by
  obtain ⟨g0, g1, gm, gm2, g2, g3, gb, gk⟩ := hg
  obtain ⟨a0, a1, a2, a3, ak⟩ := ha
  obtain ⟨N, n1, n2, eN⟩ := fq_b_in x 40 (by omega) (by omega)
  obtain ⟨M, m1, m2, eM⟩ := fq_b_in y 300 (by omega) (by omega)
  have emo : mo = M := fq_eqI (by omega) (by omega) (gm.trans eM)
  have hz : fq_cnt (fq_th a) N = 0 := fq_cnt_zero.mpr (fun k hk => by simp [fq_th, ak k (by omega)])
  refine ⟨N, M, 0, 0, 0, fun _ => [], ⟨⟨⟨by rw [g0, eN], by rw [g3 3 (by omega), a3 3 (by omega)], by rw [hz, g3 4 (by omega), nI_0], by rw [g3 5 (by omega), a3 4 (by omega)], by rw [g3 6 (by omega), a3 5 (by omega)]⟩, fun b hb => ⟨(gb b hb).1, List.nodup_nil, fun k hk => by cases hk⟩, fun k hk => ?_, fun k hk hk0 => absurd (ak k (by omega)) hk0, fun b hb => ?_⟩, ⟨by rw [g1, a1], by rw [g2, a2], by rw [g3 7 (by omega), a3 6 (by omega)], fun u hu => (gk u (by omega)).2, fun j hj => absurd hj (Nat.not_lt_zero _)⟩, ⟨by rw [g3 8 (by omega), a3 7 (by omega)], Or.inl (a3 7 (by omega)), fun q => ?_⟩, ⟨n1, n2, by rw [a0, eN], by rw [a3 3 (by omega)]; decide, fun k hk => Or.inl (ak k (by omega)), by rw [a3 4 (by omega), nI_0], by rw [a3 5 (by omega), nI_0], ?_⟩, ⟨m1, m2, by omega, by rw [a1, eM], by rw [a3 6 (by omega), nI_0], fun j hj => absurd hj (Nat.not_lt_zero _)⟩, emo⟩, by omega⟩
  · rw [(gk k (by omega)).1, if_pos (ak k (by omega))]
  · unfold fq_CT
    rw [(gb b hb).2, fq_cnt_zero.mpr (fun k hk => ?_), nI_0]
    have e2 : ¬ (-1 : Int32) = nI b := fun q => fq_nI_ne (by omega) q.symm
    simp [(gk k (by omega)).1, e2]
  · rw [a3 7 (by omega)] at q
    exact absurd q (by decide)
  · have : ∀ n, n ≤ 40 → fq_sum (fq_ph a) n = 0 := by
      intro n hn
      induction n with
      | zero => rfl
      | succ n ih =>
        simp only [fq_sum]
        rw [ih (by omega)]
        simp [fq_ph, ak n (by omega)]
    unfold fq_phi
    rw [this N n2]
    omega
end
section
section FQL
variable {V : fq_V} {p : Program} {l : Launch} {e : Env} {R : Room} {s : State} {m : MethodId} {args : Array Value} {below : List Frame} {meth : Method} {c : Code} {H : Heap} {locs : List Loc} {cells slots : Nat} {Q : State → Prop}
variable {cc : ByteArray} {pc nL : Nat} {ret : Option FieldType} {ls : Array Slot} {rest st : List Value} {A : Nat → Prop} {H0 : Heap} {own : String}
theorem fq_lawQ {o1 o2 : Nat → Nat} {mo mo2 : Nat} {g a : fq_G} (hC : fq_Cx V p s m args meth c own cc nL ret) {y : MethodName} {cc' : ByteArray} {nL' d' n idx : Nat} {ty : FieldType} {As : List Value} {post : Int32 → fq_G → Prop} (hM : fq_MI l V y cc' nL' ty d' (.ref (o1 0) :: As) (fq_WQ V o1 mo) g post) (hw : fq_CW own idx R_Q y cc' nL' (some ty) n) (hR : (fq_Rm d').frames + 1 ≤ R.frames ∧ 8 + (nL' + 11) + (fq_Rm d').locals ≤ R.locals)
    (hQ : fq_Hp V A H0 (fq_WQ V o1 mo g ++ fq_WM V o2 mo2 a) H locs) (hn : As.length = n) (hsz : ls.size = nL) (hst : st = As.reverse ++ .ref (o1 0) :: rest) (hroom : (rest.map fun v => v.category).sum ≤ 8) (hdg : decode cc pc = .ok (.invokevirtual idx, 3)) (hf : cells + 0 ≤ R.cells ∧ slots + 0 ≤ R.slots)
    (kk : ∀ (r : Int32) (u : fq_G) (H1 : Heap) (locs1 : List Loc), post r u → fq_Hp V A H0 (fq_WQ V o1 mo u ++ fq_WM V o2 mo2 a) H1 locs1 → W p l e R s m args below meth c H1 locs1 cells slots Q (F0 m (pc + 3) ls (.int r :: rest))) : W p l e R s m args below meth c H locs cells slots Q (F0 m pc ls st) := by
  obtain ⟨hx, hb, hr, hml, hown, hts, hlk, hK⟩ := hC
  obtain ⟨hP, hD, hS, hA⟩ := hQ
  subst hst
  have hPc : va_P V.1 classes (fq_WQ V o1 mo g) H := hP.sub [0, 1, 2, 3, 4, 5, 6, 7, 8, 9, 10, 11, 12] rfl
  have hDc : va_D A (fq_WQ V o1 mo g) := hD.sub [0, 1, 2, 3, 4, 5, 6, 7, 8, 9, 10, 11, 12] (by decide) rfl
  have hFc := va_free (wc := fq_WQ V o1 mo g) hD hS hA [0, 1, 2, 3, 4, 5, 6, 7, 8, 9, 10, 11, 12] rfl
  refine va_calli (va_runV (As := As) (rest := rest) ⟨hx, hb, hml, hown, hts⟩ (hM H.size) (cwV n hts (fq_goodV hw) rfl rfl rfl hw.2 hR) ⟨fq_blind, va_recv hK hPc (ci := 0) (q0 := 0) rfl rfl, fun U hU hW => ⟨rfl, by rw [hU], by rw [hU]; exact hPc, va_K.moved hW.alike hK, hDc.weaken (fun _ _ _ _ => trivial)⟩⟩ rfl hn hsz rfl (lv_room hroom) hdg hf) hS (fun q _ h => hFc q h) hFc (fun r u t H1 locs1 ht hvm hp hB hz hk hS1 => ?_)
  obtain ⟨hP1, hK1, hD1⟩ := hB
  rw [ht] at hP1
  obtain ⟨hP2, hD2⟩ := va_join (wr := fq_WM V o2 mo2 a) (w1 := fq_WQ V o1 mo u) hP hD [0, 1, 2, 3, 4, 5, 6, 7, 8, 9, 10, 11, 12] [13, 14, 15, 16, 17, 18, 19, 20, 21] rfl rfl (by decide) (by decide) hk hFc hP1 hD1
  exact kk r u H1 locs1 hp ⟨hP2.sub [9, 10, 11, 12, 13, 14, 15, 16, 17, 18, 19, 20, 21, 0, 1, 2, 3, 4, 5, 6, 7, 8] rfl, hD2.sub [9, 10, 11, 12, 13, 14, 15, 16, 17, 18, 19, 20, 21, 0, 1, 2, 3, 4, 5, 6, 7, 8] (by decide) rfl, hS1, hA⟩
theorem fq_lawM {o1 o2 : Nat → Nat} {mo mo2 : Nat} {g a : fq_G} (hC : fq_Cx V p s m args meth c own cc nL ret) {y : MethodName} {cc' : ByteArray} {nL' d' n idx : Nat} {ty : FieldType} {As : List Value} {post : Int32 → fq_G → Prop} (hM : fq_MI l V y cc' nL' ty d' (.ref (o2 0) :: As) (fq_WM V o2 mo2) a post) (hw : fq_CW own idx R_M y cc' nL' (some ty) n) (hR : (fq_Rm d').frames + 1 ≤ R.frames ∧ 8 + (nL' + 11) + (fq_Rm d').locals ≤ R.locals)
    (hQ : fq_Hp V A H0 (fq_WQ V o1 mo g ++ fq_WM V o2 mo2 a) H locs) (hn : As.length = n) (hsz : ls.size = nL) (hst : st = As.reverse ++ .ref (o2 0) :: rest) (hroom : (rest.map fun v => v.category).sum ≤ 8) (hdg : decode cc pc = .ok (.invokevirtual idx, 3)) (hf : cells + 0 ≤ R.cells ∧ slots + 0 ≤ R.slots)
    (kk : ∀ (r : Int32) (u : fq_G) (H1 : Heap) (locs1 : List Loc), post r u → fq_Hp V A H0 (fq_WQ V o1 mo g ++ fq_WM V o2 mo2 u) H1 locs1 → W p l e R s m args below meth c H1 locs1 cells slots Q (F0 m (pc + 3) ls (.int r :: rest))) : W p l e R s m args below meth c H locs cells slots Q (F0 m pc ls st) := by
  obtain ⟨hx, hb, hr, hml, hown, hts, hlk, hK⟩ := hC
  obtain ⟨hP, hD, hS, hA⟩ := hQ
  subst hst
  have hPc : va_P V.1 classes (fq_WM V o2 mo2 a) H := hP.sub [13, 14, 15, 16, 17, 18, 19, 20, 21] rfl
  have hDc : va_D A (fq_WM V o2 mo2 a) := hD.sub [13, 14, 15, 16, 17, 18, 19, 20, 21] (by decide) rfl
  have hFc := va_free (wc := fq_WM V o2 mo2 a) hD hS hA [13, 14, 15, 16, 17, 18, 19, 20, 21] rfl
  refine va_calli (va_runV (As := As) (rest := rest) ⟨hx, hb, hml, hown, hts⟩ (hM H.size) (cwV n hts (fq_goodV hw) rfl rfl rfl hw.2 hR) ⟨fq_blind, va_recv hK hPc (ci := 1) (q0 := 0) rfl rfl, fun U hU hW => ⟨rfl, by rw [hU], by rw [hU]; exact hPc, va_K.moved hW.alike hK, hDc.weaken (fun _ _ _ _ => trivial)⟩⟩ rfl hn hsz rfl (lv_room hroom) hdg hf) hS (fun q _ h => hFc q h) hFc (fun r u t H1 locs1 ht hvm hp hB hz hk hS1 => ?_)
  obtain ⟨hP1, hK1, hD1⟩ := hB
  rw [ht] at hP1
  obtain ⟨hP2, hD2⟩ := va_join (wr := fq_WQ V o1 mo g) (w1 := fq_WM V o2 mo2 u) hP hD [13, 14, 15, 16, 17, 18, 19, 20, 21] [0, 1, 2, 3, 4, 5, 6, 7, 8, 9, 10, 11, 12] rfl rfl (by decide) (by decide) hk hFc hP1 hD1
  exact kk r u H1 locs1 hp ⟨hP2, hD2, hS1, hA⟩
theorem fq_slen {b L : Nat} {xs : Nat → Int32} {w : va_W} (hx : p.tables.exec = Jvm.exec) (hb : c.code = cc) (hX : va_X b L xs s s.heap) (hbl : b < s.heap.size) (hbA : ¬ A b) (hQ : fq_Hp V A s.heap w H locs) (hdg : decode cc pc = .ok (.arraylength, 1)) (kk : W p l e R s m args below meth c H locs cells slots Q (F0 m (pc + 1) ls (.int (nI L) :: rest))) : W p l e R s m args below meth c H locs cells slots Q (F0 m pc ls (.ref b :: rest)) :=
  va_slen hx hb hX hbl hbA hQ.2.2.1 hdg kk
theorem fq_sld {b L : Nat} {xs : Nat → Int32} {w : va_W} (hx : p.tables.exec = Jvm.exec) (hb : c.code = cc) (hX : va_X b L xs s s.heap) (hbl : b < s.heap.size) (hbA : ¬ A b) (hQ : fq_Hp V A s.heap w H locs) (hL : L ≤ 2051) (k : Nat) {i : Int32} (hi : i = nI k) (hk : k < L) (hdg : decode cc pc = .ok (.iaload, 1)) (kk : W p l e R s m args below meth c H locs cells slots Q (F0 m (pc + 1) ls (.int (xs k) :: rest))) : W p l e R s m args below meth c H locs cells slots Q (F0 m pc ls (.int i :: .ref b :: rest)) := by
  subst hi
  refine va_sld hx hb hX hbl hbA hQ.2.2.1 (vp_in_nI hk (by omega)) hdg ?_
  rw [nI_clamp (by omega)]
  exact kk
end FQL
set_option maxHeartbeats 4000000 in
set_option maxRecDepth 100000 in
/-- cell(script, k) -/
theorem fc_L_cell (l : Launch) (b L k sz : Nat) (xs : Nat → Int32) (hk : k < 3) (hL : L ≤ 2051) : Met l y_L_cell (.code y_L_cell b_L_cell 2 (some .int) :: fq_tb) (fq_Rm 0) (va_Pc [.ref b, .int (nI k)] (fun U => U.heap.size = sz ∧ va_X b L xs U U.heap ∧ b < sz)) (va_Qi (fun (r : Int32) (_ : Unit) => r = if k < L then xs k else 0) (fun _ _ => True) (fun q => sz ≤ q)) 0 0 (fun q => sz ≤ q) := by
  refine Met.ofW (cc := b_L_cell) (maxL := 2) (ret := some .int) (by decide) rfl ?_
  intro p e s m args below meth c s₁ B hml hv
  obtain ⟨rfl, hsz, hX, hbl⟩ := hv
  subst hsz
  have hxx := B.exec
  have hbb := B.bytes
  have hr := B.returns
  have hlocks := B.notSynchronized
  have hbA : ¬ (fun q : Nat => s.heap.size ≤ q) b := Nat.not_le.mpr hbl
  have hS : va_S (fun q : Nat => s.heap.size ≤ q) s.heap s.heap [] := va_S.rf
  have hl := lv_entry ([.ref b, .int (nI k)]) (n := 2) (Nat.le_of_ble_eq_true rfl)
  rw [lg_entry_eq]
  generalize (lg_sl ([.ref b, .int (nI k)]) ++ List.replicate (2 - (lg_sl ([.ref b, .int (nI k)])).length) Slot.unset).toArray = ls at hl ⊢
  have hl : lv_has ls 2 [(0, .ref b), (1, .int (nI k))] := hl
  refine lv_iload_n hxx hbb fd_L_cell_0 rfl (lv_at hl 1 rfl) ?_
  refine lv_aload_n hxx hbb fd_L_cell_1 rfl (lv_at hl 0 rfl) ?_
  refine va_slen hxx hbb hX hbl hbA hS fd_L_cell_2 ?_
  refine lv_icmp_ge (tgt := 12) hxx hbb fd_L_cell_3 (by decide) (fun c3 => ?_) (fun c3 => ?_)
  · have hkL : ¬ k < L := fun q => nI_ge q (by omega) c3
    refine lv_iconst (v := 0) hxx hbb fd_L_cell_12 (by decide) ?_
    exact W.iret hxx hbb hr (fun t ht hW => ⟨⟨0, (), rfl, by rw [if_neg hkL], trivial⟩, hS.F ht⟩) hS.2.2 fd_L_cell_13 hlocks
  · have hkL : k < L := by
      rcases Nat.lt_or_ge k L with q | q
      · exact q
      · exact absurd (nI_le q (by omega)) c3
    refine lv_aload_n hxx hbb fd_L_cell_6 rfl (lv_at hl 0 rfl) ?_
    refine lv_iload_n hxx hbb fd_L_cell_7 rfl (lv_at hl 1 rfl) ?_
    refine va_sld hxx hbb hX hbl hbA hS (vp_in_nI hkL (by omega)) fd_L_cell_8 ?_
    rw [nI_clamp (by omega)]
    refine lv_goto (tgt := 13) hxx hbb fd_L_cell_9 (by decide) ?_
    exact W.iret hxx hbb hr (fun t ht hW => ⟨⟨xs k, (), rfl, by rw [if_pos hkL], trivial⟩, hS.F ht⟩) hS.2.2 fd_L_cell_13 hlocks
section FQL2
variable {V : fq_V} {p : Program} {l : Launch} {e : Env} {R : Room} {s : State} {m : MethodId} {args : Array Value} {below : List Frame} {meth : Method} {c : Code} {H : Heap} {locs : List Loc} {cells slots : Nat} {Q : State → Prop}
variable {cc : ByteArray} {pc nL : Nat} {ret : Option FieldType} {ls : Array Slot} {rest st : List Value} {A : Nat → Prop}
theorem fq_callCell (hC : fq_Cx V p s m args meth c R_law cc nL ret) {w : va_W} {b L : Nat} {xs : Nat → Int32} (k : Nat) (hk : k < 3) (hL : L ≤ 2051) (hX : va_X b L xs s s.heap) (hbl : b < s.heap.size) (hbA : ¬ A b) (hQ : fq_Hp V A s.heap w H locs) (hR : (fq_Rm 0).frames + 1 ≤ R.frames ∧ 8 + (2 + 11) + (fq_Rm 0).locals ≤ R.locals) (hsz : ls.size = nL) (hroom : (rest.map fun v => v.category).sum ≤ 8) (hdg : decode cc pc = .ok (.invokestatic 9, 3)) (hf : cells + 0 ≤ R.cells ∧ slots + 0 ≤ R.slots)
    (kk : ∀ (H1 : Heap) (locs1 : List Loc), fq_Hp V A s.heap w H1 locs1 → W p l e R s m args below meth c H1 locs1 cells slots Q (F0 m (pc + 3) ls (.int (if k < L then xs k else 0) :: rest))) : W p l e R s m args below meth c H locs cells slots Q (F0 m pc ls (.int (nI k) :: .ref b :: rest)) := by
  obtain ⟨hx, hb, hr, hml, hown, hts, hlk, hK⟩ := hC
  obtain ⟨hP, hD, hS, hA⟩ := hQ
  refine va_calli (va_runS (As := [.ref b, .int (nI k)]) (rest := rest) ⟨hx, hb, hml, hown, hts⟩ (fc_L_cell l b L k H.size xs hk hL) (cwS 2 hts (fq_goodS fw_L_9) rfl rfl rfl fw_L_9.2 hR) ⟨?_, fun U hU hW => ⟨rfl, by rw [hU], ?_, ?_⟩⟩ rfl rfl hsz rfl (lv_room hroom) hdg hf) hS (fun q h1 h2 => absurd h2 (Nat.not_le.mpr h1)) (fun q h => hA q (Nat.le_trans hS.1 h)) (fun r u t H1 locs1 ht hvm hp hB hz hk1 hS1 => ?_)
  · intro a U g mk q
    obtain ⟨q0, q1, q2, q3⟩ := q
    exact ⟨q0, q1, va_X.moved (u := U) (U := U.calling g mk a) (Vm.Alike.refl U.vm) q2, q3⟩
  · rw [hU]
    exact va_X.moved hW.alike (hX.kept (hS.2.1 b hbl hbA))
  · exact Nat.lt_of_lt_of_le hbl hS.1
  · rw [hp]
    exact kk H1 locs1 ⟨hP.kept (fun i q hq => hk1 q.1 ((hP i q hq).lt) (Nat.not_le.mpr ((hP i q hq).lt))), hD, hS1, hA⟩
end FQL2
theorem fq_lw1 {L j : Nat} (hL : L ≤ 2051) (hj : j ≤ 2054) (h : ¬ nI L - 4 < nI j) : j + 4 ≤ L := by
  have e4 : (4 : Int32) = nI 4 := by decide
  rw [e4, Int32.lt_iff_toInt_lt, pk_sub_toInt (by omega) (by omega), nI_toInt (by omega)] at h
  omega
theorem fq_ad2 (j : Nat) : nI j + 2 = nI (j + 2) := by
  have e : (2 : Int32) = nI 2 := by decide
  rw [e, nI_add]
theorem fq_ad3 (j : Nat) : nI j + 3 = nI (j + 3) := by
  have e : (3 : Int32) = nI 3 := by decide
  rw [e, nI_add]
theorem fq_ad4 (j : Nat) : nI j + Int32.ofInt 4 = nI (j + 4) := by
  have e : (Int32.ofInt 4) = nI 4 := by decide
  rw [e, nI_add]
theorem fwi_Q : Cond.methodLink R_law 15 y_Q_init ∈ fq_tb ∧ Cond.instanceMethod y_Q_init ∈ fq_tb ∧ Cond.code y_Q_init b_Q_init 5 none ∈ fq_tb := ⟨fq_m (List.mem_append_right _ (List.mem_of_getElem? (i := 5) (by decide +kernel))) (by decide), fq_m (List.mem_append_right _ (List.mem_of_getElem? (i := 6) (by decide +kernel))) (by decide), fq_m (List.mem_append_right _ (List.mem_of_getElem? (i := 7) (by decide +kernel))) (by decide)⟩
theorem fgi_Q : GoodIn fq_tb (.code y_Q_init b_Q_init 5 none :: fq_tb) := fun w hw => fq_good w (by rcases List.mem_cons.mp hw with h | h; rw [h]; exact fwi_Q.2.2; exact h)
theorem fwi_M : Cond.methodLink R_law 20 y_M_init ∈ fq_tb ∧ Cond.instanceMethod y_M_init ∈ fq_tb ∧ Cond.code y_M_init b_M_init 4 none ∈ fq_tb := ⟨fq_m (List.mem_append_right _ (List.mem_of_getElem? (i := 191) (by decide +kernel))) (by decide), fq_m (List.mem_append_right _ (List.mem_of_getElem? (i := 192) (by decide +kernel))) (by decide), fq_m (List.mem_append_right _ (List.mem_of_getElem? (i := 193) (by decide +kernel))) (by decide)⟩
theorem fgi_M : GoodIn fq_tb (.code y_M_init b_M_init 4 none :: fq_tb) := fun w hw => fq_good w (by rcases List.mem_cons.mp hw with h | h; rw [h]; exact fwi_M.2.2; exact h)
end
section
/-! THE CLAIM OUT OF ONE WALK OF THE LAW'S BODY. Your part is whole_start (and what it stands on); all else here is the same for every law, but numbers. -/
def lw_P (b : Addr) (xs : List Int32) (args : Array Value) (s : State) : Prop := args = #[.ref b] ∧ s.IntsAt b xs ∧ xs.length ≤ 2051 ∧ (Jvm.Cond.and given_1 narrow_1).before args s = true
def lw_Q (_ : Array Value) (s : State) (o : Outcome) (t : State) : Prop := o = .returned (some (.int 1)) ∧ Framed s o t [] 600000 7302250
def lw_Z (below : List Frame) (a : Array Value) (s : State) : State → Prop := fun t => ∃ o, t.status = .running ∧ Ended t below o ∧ lw_Q a s o t
/-- the law's own end, with 1 on the stack, nothing written that was there before, its room as the claim has it -/
theorem lw_ret {p : Program} {l : Launch} {e : Env} {s : State} {m : MethodId} {below : List Frame} {meth : Method} {c : Code} {b : Nat} (hx : p.tables.exec = Jvm.exec) (hb : c.code = code) (hr : meth.sig.returnType = ret) (hlocks : meth.locks = false) {pc : Nat} {H : Heap} {ls : Array Slot} (hdg : decode code pc = .ok (.ireturn, 1)) : W p l e room_1 s m #[Value.ref b] below meth c H [] 600000 7302250 (lw_Z below #[Value.ref b] s) (F0 m pc ls [.int 1]) := by
  intro T hT X
  obtain ⟨fs, hret, hrun, hended, hW, hframe⟩ := X.leave (v := some (.int 1)) (hlocks := hlocks) (fun h => by rw [hr] at h; cases h)
  have hmeth' : T.vm.method? m = some meth := X.method'
  refine ⟨T.setFrames fs, ?_, .returned (some (.int 1)), hrun, hended, rfl, ⟨_, rfl⟩, hW, hframe⟩
  jvm_step X.here [X.here.top, hx, hb, hdg, hmeth', hr, ret, narrow_b1]
  (try refine ⟨rfl, ?_⟩); (try refine ⟨rfl, ?_⟩)
  first | (intro acts; rw [hret _ acts rfl rfl rfl]) | rw [hret _ _ rfl rfl rfl]
  exact Steps.refl _
/-- what holds at the law's entry: the machine, the code, the tables' words (any of lw_tbl by 'hts w (by decide +kernel)'), the script of L ints xs at the cell b, what the Statement gives of the start (any of its parts by flat_of_before) -/
def lw_At (p : Program) (s : State) (m : MethodId) (meth : Method) (c : Code) (b L : Nat) (xs : Nat → Int32) : Prop :=
  p.tables.exec = Jvm.exec ∧ c.code = code ∧ meth.sig.returnType = ret ∧ c.maxLocals = 4 ∧ s.vm.findClass R_law = some m.cls ∧ (∀ w ∈ lw_tbl, w.before #[Value.ref b] s = true) ∧ va_X b L xs s s.heap ∧ b < s.heap.size ∧ meth.locks = false ∧ (Jvm.Cond.and given_1 narrow_1).before #[Value.ref b] s = true
set_option maxHeartbeats 16000000 in
set_option maxRecDepth 100000 in
/-- THE LAW'S LOOP -/
theorem fq_law_loop {p : Program} {l : Launch} {e : Env} {s : State} {m : MethodId} {below : List Frame} {meth : Method} {c : Code} {V : fq_V} {b L : Nat} {xs : Nat → Int32} (hL : L ≤ 2051) (C0 : lw_At p s m meth c b L xs) (hK : va_K V.1 classes (fq_tys V) s) (o1 o2 : Nat → Nat) (mo mo2 : Nat) :
    ∀ (n j : Nat) (g a : fq_G), j ≤ L + 3 → L + 3 < j + n → fq_INV g a mo (12301 * j) → ∀ (H : Heap) (locs : List Loc) (ls : Array Slot), fq_Hp V (fun q : Nat => s.heap.size ≤ q) s.heap (fq_WQ V o1 mo g ++ fq_WM V o2 mo2 a) H locs → lv_has ls 4 [(0, .ref b), (1, .ref (o1 0)), (2, .ref (o2 0)), (3, .int (nI j))] → W p l e room_1 s m #[Value.ref b] below meth c H locs 22 2381 (lw_Z below #[Value.ref b] s) (F0 m 48 ls []) := by
  obtain ⟨hxx, hbb, hr, hml, hown, hts, hX, hbl, hlocks, hgv⟩ := C0
  have hbA : ¬ (fun q : Nat => s.heap.size ≤ q) b := Nat.not_le.mpr hbl
  have hC : fq_Cx V p s m #[Value.ref b] meth c R_law code 4 ret := ⟨hxx, hbb, hr, hml, hown, fun w hw => hts w (fq_sub hw), hlocks, hK⟩
  intro n
  induction n with
  | zero =>
    intro j g a h1 h2
    omega
  | succ n ih =>
    intro j g a hj hn hinv H locs ls hQ hl
    obtain ⟨N, M, E, C, P, Lq, hI, hCB⟩ := hinv
    have h40 := hI.2.2.2.1.2.1
    have hN8 := hI.2.2.2.1.2.2.1
    refine lv_iload_n hxx hbb fd_L_law_48 rfl (lv_at hl 3 rfl) ?_
    refine lv_aload_n hxx hbb fd_L_law_49 rfl (lv_at hl 0 rfl) ?_
    refine fq_slen hxx hbb hX hbl hbA hQ fd_L_law_50 ?_
    refine lv_iconst (v := 4) hxx hbb fd_L_law_51 (by decide) ?_
    refine lv_isub hxx hbb fd_L_law_52 ?_
    refine lv_icmp_gt (tgt := 477) hxx hbb fd_L_law_53 (by decide) (fun c53 => ?_) (fun c53 => ?_)
    · refine lv_iconst (v := 1) hxx hbb fd_L_law_477 (by decide) ?_
      refine va_forget (fun q hq => hQ.2.2.1.2.2 q hq) ?_
      refine W.widen (k := 600000) (n := 7302250) (by omega) (by omega) ?_
      exact lw_ret hxx hbb hr hlocks fd_L_law_478
    · have hjL : j + 4 ≤ L := fq_lw1 hL (by omega) c53
      have hend : ∀ (g a : fq_G) (H : Heap) (locs : List Loc), fq_INV g a mo (12301 * j + 49204) → fq_Hp V (fun q : Nat => s.heap.size ≤ q) s.heap (fq_WQ V o1 mo g ++ fq_WM V o2 mo2 a) H locs → W p l e room_1 s m #[Value.ref b] below meth c H locs 22 2381 (lw_Z below #[Value.ref b] s) (F0 m 471 ls []) := by
        intro g a H locs hinv hQ
        refine lv_iinc (v := nI (j + 4)) (lv' := [(3, .int (nI (j + 4))), (0, .ref b), (1, .ref (o1 0)), (2, .ref (o2 0))]) hxx hbb fd_L_law_471 hl (k := 3) rfl (fq_ad4 j) (by decide) rfl (fun ls hl => ?_)
        refine lv_goto (tgt := 48) hxx hbb fd_L_law_474 (by decide) ?_
        exact ih (j + 4) g a (by omega) (by omega) (by rw [show 12301 * (j + 4) = 12301 * j + 49204 by omega]; exact hinv) H locs ls hQ (lv_sub hl [1, 2, 3, 0] rfl)
      refine lv_aload_n hxx hbb fd_L_law_56 rfl (lv_at hl 0 rfl) ?_
      refine lv_iload_n hxx hbb fd_L_law_57 rfl (lv_at hl 3 rfl) ?_
      refine fq_sld hxx hbb hX hbl hbA hQ hL j rfl (by omega) fd_L_law_58 ?_
      refine lv_bipush (v := 15) hxx hbb fd_L_law_59 (by decide) ?_
      refine lv_iand hxx hbb fd_L_law_61 ?_
      obtain ⟨t, ht, et⟩ := pk_andE (xs j) (m := 15) 4 (by decide)
      refine fq_top et ?_
      have hc : t = 0 ∨ t = 1 ∨ t = 2 ∨ t = 3 ∨ t = 4 ∨ t = 5 ∨ t = 6 ∨ t = 7 ∨ t = 8 ∨ t = 9 ∨ t = 10 ∨ t = 11 ∨ t = 12 ∨ t = 13 ∨ t = 14 ∨ t = 15 := by omega
      rcases hc with rfl | rfl | rfl | rfl | rfl | rfl | rfl | rfl | rfl | rfl | rfl | rfl | rfl | rfl | rfl | rfl
      · refine lv_tableIn (tgt := 136) hxx hbb fd_L_law_62 (by decide) (by decide) (off := 74) (by decide) (by decide) ?_
        refine lv_aload_n hxx hbb fd_L_law_136 rfl (lv_at hl 1 rfl) ?_
        refine lv_aload_n hxx hbb fd_L_law_137 rfl (lv_at hl 0 rfl) ?_
        refine lv_iload_n hxx hbb fd_L_law_138 rfl (lv_at hl 3 rfl) ?_
        refine lv_iconst (v := 1) hxx hbb fd_L_law_139 (by decide) ?_
        refine lv_iadd hxx hbb fd_L_law_140 ?_
        refine fq_top (y := nI (j + 1)) (nI_1 j) ?_
        refine fq_sld hxx hbb hX hbl hbA hQ hL (j + 1) rfl (by omega) fd_L_law_141 ?_
        refine lv_aload_n hxx hbb fd_L_law_142 rfl (lv_at hl 0 rfl) ?_
        refine lv_iload_n hxx hbb fd_L_law_143 rfl (lv_at hl 3 rfl) ?_
        refine lv_iconst (v := 2) hxx hbb fd_L_law_144 (by decide) ?_
        refine lv_iadd hxx hbb fd_L_law_145 ?_
        refine fq_top (y := nI (j + 2)) (fq_ad2 j) ?_
        refine fq_sld hxx hbb hX hbl hbA hQ hL (j + 2) rfl (by omega) fd_L_law_146 ?_
        refine fq_lawQ hC (fc_Q_push l V o1 mo g a N C P Lq hI.1 hI.2.2.2.1 (xs (j + 1)) (xs (j + 2))) fw_L_21 ⟨Nat.le_of_ble_eq_true rfl, Nat.le_of_ble_eq_true rfl⟩ hQ rfl hl.1 (rest := []) rfl (Nat.le_of_ble_eq_true rfl) fd_L_law_147 ⟨Nat.le_of_ble_eq_true rfl, Nat.le_of_ble_eq_true rfl⟩ (fun r147 u147 H locs hp147 hQ => ?_)
        refine lv_aload_n hxx hbb fd_L_law_150 rfl (lv_at hl 2 rfl) ?_
        refine lv_aload_n hxx hbb fd_L_law_151 rfl (lv_at hl 0 rfl) ?_
        refine lv_iload_n hxx hbb fd_L_law_152 rfl (lv_at hl 3 rfl) ?_
        refine lv_iconst (v := 1) hxx hbb fd_L_law_153 (by decide) ?_
        refine lv_iadd hxx hbb fd_L_law_154 ?_
        refine fq_top (y := nI (j + 1)) (nI_1 j) ?_
        refine fq_sld hxx hbb hX hbl hbA hQ hL (j + 1) rfl (by omega) fd_L_law_155 ?_
        refine lv_aload_n hxx hbb fd_L_law_156 rfl (lv_at hl 0 rfl) ?_
        refine lv_iload_n hxx hbb fd_L_law_157 rfl (lv_at hl 3 rfl) ?_
        refine lv_iconst (v := 2) hxx hbb fd_L_law_158 (by decide) ?_
        refine lv_iadd hxx hbb fd_L_law_159 ?_
        refine fq_top (y := nI (j + 2)) (fq_ad2 j) ?_
        refine fq_sld hxx hbb hX hbl hbA hQ hL (j + 2) rfl (by omega) fd_L_law_160 ?_
        refine fq_lawM hC (fc_M_push l V o2 mo2 a (xs (j + 1)) (xs (j + 2)) N h40 hN8) fw_L_25 ⟨Nat.le_of_ble_eq_true rfl, Nat.le_of_ble_eq_true rfl⟩ hQ rfl hl.1 (rest := [.int r147]) rfl (Nat.le_of_ble_eq_true rfl) fd_L_law_161 ⟨Nat.le_of_ble_eq_true rfl, Nat.le_of_ble_eq_true rfl⟩ (fun r161 u161 H locs hp161 hQ => ?_)
        refine lv_icmp_eq (tgt := 471) hxx hbb fd_L_law_164 (by decide) (fun cc => ?_) (fun cc => ?_)
        · exact hend u147 u161 H locs (by rw [hp161.2]; exact fq_INV_push hI hCB ⟨hp147.1, hp147.2.1⟩) hQ
        · exact absurd (hp147.2.2.trans hp161.1.symm) cc
      · refine lv_tableIn (tgt := 169) hxx hbb fd_L_law_62 (by decide) (by decide) (off := 107) (by decide) (by decide) ?_
        refine lv_aload_n hxx hbb fd_L_law_169 rfl (lv_at hl 1 rfl) ?_
        refine lv_aload_n hxx hbb fd_L_law_170 rfl (lv_at hl 0 rfl) ?_
        refine lv_iload_n hxx hbb fd_L_law_171 rfl (lv_at hl 3 rfl) ?_
        refine lv_iconst (v := 1) hxx hbb fd_L_law_172 (by decide) ?_
        refine lv_iadd hxx hbb fd_L_law_173 ?_
        refine fq_top (y := nI (j + 1)) (nI_1 j) ?_
        refine fq_sld hxx hbb hX hbl hbA hQ hL (j + 1) rfl (by omega) fd_L_law_174 ?_
        refine lv_aload_n hxx hbb fd_L_law_175 rfl (lv_at hl 0 rfl) ?_
        refine lv_iload_n hxx hbb fd_L_law_176 rfl (lv_at hl 3 rfl) ?_
        refine lv_iconst (v := 2) hxx hbb fd_L_law_177 (by decide) ?_
        refine lv_iadd hxx hbb fd_L_law_178 ?_
        refine fq_top (y := nI (j + 2)) (fq_ad2 j) ?_
        refine fq_sld hxx hbb hX hbl hbA hQ hL (j + 2) rfl (by omega) fd_L_law_179 ?_
        refine fq_lawQ hC (fc_Q_lower l V o1 mo g a N C P Lq hI.1 hI.2.2.2.1 (xs (j + 1)) (xs (j + 2))) fw_L_26 ⟨Nat.le_of_ble_eq_true rfl, Nat.le_of_ble_eq_true rfl⟩ hQ rfl hl.1 (rest := []) rfl (Nat.le_of_ble_eq_true rfl) fd_L_law_180 ⟨Nat.le_of_ble_eq_true rfl, Nat.le_of_ble_eq_true rfl⟩ (fun r180 u180 H locs hp180 hQ => ?_)
        refine lv_aload_n hxx hbb fd_L_law_183 rfl (lv_at hl 2 rfl) ?_
        refine lv_aload_n hxx hbb fd_L_law_184 rfl (lv_at hl 0 rfl) ?_
        refine lv_iload_n hxx hbb fd_L_law_185 rfl (lv_at hl 3 rfl) ?_
        refine lv_iconst (v := 1) hxx hbb fd_L_law_186 (by decide) ?_
        refine lv_iadd hxx hbb fd_L_law_187 ?_
        refine fq_top (y := nI (j + 1)) (nI_1 j) ?_
        refine fq_sld hxx hbb hX hbl hbA hQ hL (j + 1) rfl (by omega) fd_L_law_188 ?_
        refine lv_aload_n hxx hbb fd_L_law_189 rfl (lv_at hl 0 rfl) ?_
        refine lv_iload_n hxx hbb fd_L_law_190 rfl (lv_at hl 3 rfl) ?_
        refine lv_iconst (v := 2) hxx hbb fd_L_law_191 (by decide) ?_
        refine lv_iadd hxx hbb fd_L_law_192 ?_
        refine fq_top (y := nI (j + 2)) (fq_ad2 j) ?_
        refine fq_sld hxx hbb hX hbl hbA hQ hL (j + 2) rfl (by omega) fd_L_law_193 ?_
        refine fq_lawM hC (fc_M_lower l V o2 mo2 a (xs (j + 1)) (xs (j + 2)) N C P hI.2.2.2.1) fw_L_29 ⟨Nat.le_of_ble_eq_true rfl, Nat.le_of_ble_eq_true rfl⟩ hQ rfl hl.1 (rest := [.int r180]) rfl (Nat.le_of_ble_eq_true rfl) fd_L_law_194 ⟨Nat.le_of_ble_eq_true rfl, Nat.le_of_ble_eq_true rfl⟩ (fun r194 u194 H locs hp194 hQ => ?_)
        refine lv_icmp_eq (tgt := 471) hxx hbb fd_L_law_197 (by decide) (fun cc => ?_) (fun cc => ?_)
        · exact hend u180 u194 H locs (by rw [hp194.2]; exact fq_INV_lower hI hCB ⟨hp180.1, hp180.2.1⟩) hQ
        · exact absurd (hp180.2.2.trans hp194.1.symm) cc
      · refine lv_tableIn (tgt := 202) hxx hbb fd_L_law_62 (by decide) (by decide) (off := 140) (by decide) (by decide) ?_
        refine lv_aload_n hxx hbb fd_L_law_202 rfl (lv_at hl 1 rfl) ?_
        refine fq_lawQ hC (fc_Q_pop l V o1 mo g a N C P Lq hI.1 hI.2.2.2.1) fw_L_30 ⟨Nat.le_of_ble_eq_true rfl, Nat.le_of_ble_eq_true rfl⟩ hQ rfl hl.1 (rest := []) rfl (Nat.le_of_ble_eq_true rfl) fd_L_law_203 ⟨Nat.le_of_ble_eq_true rfl, Nat.le_of_ble_eq_true rfl⟩ (fun r203 u203 H locs hp203 hQ => ?_)
        refine lv_aload_n hxx hbb fd_L_law_206 rfl (lv_at hl 2 rfl) ?_
        refine fq_lawM hC (fc_M_pop l V o2 mo2 a N C P hI.2.2.2.1) fw_L_34 ⟨Nat.le_of_ble_eq_true rfl, Nat.le_of_ble_eq_true rfl⟩ hQ rfl hl.1 (rest := [.int r203]) rfl (Nat.le_of_ble_eq_true rfl) fd_L_law_207 ⟨Nat.le_of_ble_eq_true rfl, Nat.le_of_ble_eq_true rfl⟩ (fun r207 u207 H locs hp207 hQ => ?_)
        refine lv_icmp_eq (tgt := 471) hxx hbb fd_L_law_210 (by decide) (fun cc => ?_) (fun cc => ?_)
        · exact hend u203 u207 H locs ((fq_INV_pop hI hCB hp203 hp207).2) hQ
        · exact absurd ((fq_INV_pop hI hCB hp203 hp207).1) cc
      · refine lv_tableIn (tgt := 215) hxx hbb fd_L_law_62 (by decide) (by decide) (off := 153) (by decide) (by decide) ?_
        refine lv_aload_n hxx hbb fd_L_law_215 rfl (lv_at hl 1 rfl) ?_
        refine fq_lawQ hC (fc_Q_floor l V o1 mo g) fw_L_35 ⟨Nat.le_of_ble_eq_true rfl, Nat.le_of_ble_eq_true rfl⟩ hQ rfl hl.1 (rest := []) rfl (Nat.le_of_ble_eq_true rfl) fd_L_law_216 ⟨Nat.le_of_ble_eq_true rfl, Nat.le_of_ble_eq_true rfl⟩ (fun r216 u216 H locs hp216 hQ => ?_)
        refine lv_aload_n hxx hbb fd_L_law_219 rfl (lv_at hl 2 rfl) ?_
        refine fq_lawM hC (fc_M_floor l V o2 mo2 a) fw_L_38 ⟨Nat.le_of_ble_eq_true rfl, Nat.le_of_ble_eq_true rfl⟩ hQ rfl hl.1 (rest := [.int r216]) rfl (Nat.le_of_ble_eq_true rfl) fd_L_law_220 ⟨Nat.le_of_ble_eq_true rfl, Nat.le_of_ble_eq_true rfl⟩ (fun r220 u220 H locs hp220 hQ => ?_)
        refine lv_icmp_eq (tgt := 471) hxx hbb fd_L_law_223 (by decide) (fun cc => ?_) (fun cc => ?_)
        · exact hend u216 u220 H locs (by rw [hp216.1, hp220.1]; exact fq_INV_same hI hCB) hQ
        · exact absurd (by rw [hp216.2, hp220.2]; exact hI.1.1.2.1) cc
      · refine lv_tableIn (tgt := 228) hxx hbb fd_L_law_62 (by decide) (by decide) (off := 166) (by decide) (by decide) ?_
        refine lv_aload_n hxx hbb fd_L_law_228 rfl (lv_at hl 1 rfl) ?_
        refine fq_lawQ hC (fc_Q_size l V o1 mo g) fw_L_39 ⟨Nat.le_of_ble_eq_true rfl, Nat.le_of_ble_eq_true rfl⟩ hQ rfl hl.1 (rest := []) rfl (Nat.le_of_ble_eq_true rfl) fd_L_law_229 ⟨Nat.le_of_ble_eq_true rfl, Nat.le_of_ble_eq_true rfl⟩ (fun r229 u229 H locs hp229 hQ => ?_)
        refine lv_aload_n hxx hbb fd_L_law_232 rfl (lv_at hl 2 rfl) ?_
        refine fq_lawM hC (fc_M_size l V o2 mo2 a N h40 hN8) fw_L_42 ⟨Nat.le_of_ble_eq_true rfl, Nat.le_of_ble_eq_true rfl⟩ hQ rfl hl.1 (rest := [.int r229]) rfl (Nat.le_of_ble_eq_true rfl) fd_L_law_233 ⟨Nat.le_of_ble_eq_true rfl, Nat.le_of_ble_eq_true rfl⟩ (fun r233 u233 H locs hp233 hQ => ?_)
        refine lv_icmp_eq (tgt := 471) hxx hbb fd_L_law_236 (by decide) (fun cc => ?_) (fun cc => ?_)
        · exact hend u229 u233 H locs (by rw [hp229.1, hp233.1]; exact fq_INV_same hI hCB) hQ
        · exact absurd (by rw [hp229.2, hp233.2]; exact hI.1.1.2.2.1) cc
      · refine lv_tableIn (tgt := 241) hxx hbb fd_L_law_62 (by decide) (by decide) (off := 179) (by decide) (by decide) ?_
        refine lv_aload_n hxx hbb fd_L_law_241 rfl (lv_at hl 1 rfl) ?_
        refine lv_aload_n hxx hbb fd_L_law_242 rfl (lv_at hl 0 rfl) ?_
        refine lv_iload_n hxx hbb fd_L_law_243 rfl (lv_at hl 3 rfl) ?_
        refine lv_iconst (v := 1) hxx hbb fd_L_law_244 (by decide) ?_
        refine lv_iadd hxx hbb fd_L_law_245 ?_
        refine fq_top (y := nI (j + 1)) (nI_1 j) ?_
        refine fq_sld hxx hbb hX hbl hbA hQ hL (j + 1) rfl (by omega) fd_L_law_246 ?_
        refine fq_lawQ hC (fc_Q_key l V o1 mo g a N C P Lq hI.1 hI.2.2.2.1 (xs (j + 1))) fw_L_43 ⟨Nat.le_of_ble_eq_true rfl, Nat.le_of_ble_eq_true rfl⟩ hQ rfl hl.1 (rest := []) rfl (Nat.le_of_ble_eq_true rfl) fd_L_law_247 ⟨Nat.le_of_ble_eq_true rfl, Nat.le_of_ble_eq_true rfl⟩ (fun r247 u247 H locs hp247 hQ => ?_)
        refine lv_aload_n hxx hbb fd_L_law_250 rfl (lv_at hl 2 rfl) ?_
        refine lv_aload_n hxx hbb fd_L_law_251 rfl (lv_at hl 0 rfl) ?_
        refine lv_iload_n hxx hbb fd_L_law_252 rfl (lv_at hl 3 rfl) ?_
        refine lv_iconst (v := 1) hxx hbb fd_L_law_253 (by decide) ?_
        refine lv_iadd hxx hbb fd_L_law_254 ?_
        refine fq_top (y := nI (j + 1)) (nI_1 j) ?_
        refine fq_sld hxx hbb hX hbl hbA hQ hL (j + 1) rfl (by omega) fd_L_law_255 ?_
        refine fq_lawM hC (fc_M_key l V o2 mo2 a (xs (j + 1)) N C P hI.2.2.2.1) fw_L_47 ⟨Nat.le_of_ble_eq_true rfl, Nat.le_of_ble_eq_true rfl⟩ hQ rfl hl.1 (rest := [.int r247]) rfl (Nat.le_of_ble_eq_true rfl) fd_L_law_256 ⟨Nat.le_of_ble_eq_true rfl, Nat.le_of_ble_eq_true rfl⟩ (fun r256 u256 H locs hp256 hQ => ?_)
        refine lv_icmp_eq (tgt := 471) hxx hbb fd_L_law_259 (by decide) (fun cc => ?_) (fun cc => ?_)
        · exact hend u247 u256 H locs (by rw [hp247.1, hp256.1]; exact fq_INV_same hI hCB) hQ
        · exact absurd (hp247.2.trans hp256.2.symm) cc
      · refine lv_tableIn (tgt := 264) hxx hbb fd_L_law_62 (by decide) (by decide) (off := 202) (by decide) (by decide) ?_
        refine lv_aload_n hxx hbb fd_L_law_264 rfl (lv_at hl 1 rfl) ?_
        refine lv_aload_n hxx hbb fd_L_law_265 rfl (lv_at hl 0 rfl) ?_
        refine lv_iload_n hxx hbb fd_L_law_266 rfl (lv_at hl 3 rfl) ?_
        refine lv_iconst (v := 1) hxx hbb fd_L_law_267 (by decide) ?_
        refine lv_iadd hxx hbb fd_L_law_268 ?_
        refine fq_top (y := nI (j + 1)) (nI_1 j) ?_
        refine fq_sld hxx hbb hX hbl hbA hQ hL (j + 1) rfl (by omega) fd_L_law_269 ?_
        refine fq_lawQ hC (fc_Q_bucket l V o1 mo g a N C P Lq hI.1 hI.2.2.2.1 (xs (j + 1))) fw_L_48 ⟨Nat.le_of_ble_eq_true rfl, Nat.le_of_ble_eq_true rfl⟩ hQ rfl hl.1 (rest := []) rfl (Nat.le_of_ble_eq_true rfl) fd_L_law_270 ⟨Nat.le_of_ble_eq_true rfl, Nat.le_of_ble_eq_true rfl⟩ (fun r270 u270 H locs hp270 hQ => ?_)
        refine lv_aload_n hxx hbb fd_L_law_273 rfl (lv_at hl 2 rfl) ?_
        refine lv_aload_n hxx hbb fd_L_law_274 rfl (lv_at hl 0 rfl) ?_
        refine lv_iload_n hxx hbb fd_L_law_275 rfl (lv_at hl 3 rfl) ?_
        refine lv_iconst (v := 1) hxx hbb fd_L_law_276 (by decide) ?_
        refine lv_iadd hxx hbb fd_L_law_277 ?_
        refine fq_top (y := nI (j + 1)) (nI_1 j) ?_
        refine fq_sld hxx hbb hX hbl hbA hQ hL (j + 1) rfl (by omega) fd_L_law_278 ?_
        refine fq_lawM hC (fc_M_bucket l V o2 mo2 a (xs (j + 1)) N C P hI.2.2.2.1) fw_L_51 ⟨Nat.le_of_ble_eq_true rfl, Nat.le_of_ble_eq_true rfl⟩ hQ rfl hl.1 (rest := [.int r270]) rfl (Nat.le_of_ble_eq_true rfl) fd_L_law_279 ⟨Nat.le_of_ble_eq_true rfl, Nat.le_of_ble_eq_true rfl⟩ (fun r279 u279 H locs hp279 hQ => ?_)
        refine lv_icmp_eq (tgt := 471) hxx hbb fd_L_law_282 (by decide) (fun cc => ?_) (fun cc => ?_)
        · exact hend u270 u279 H locs (by rw [hp270.1, hp279.1]; exact fq_INV_same hI hCB) hQ
        · exact absurd (hp270.2.trans hp279.2.symm) cc
      · refine lv_tableIn (tgt := 287) hxx hbb fd_L_law_62 (by decide) (by decide) (off := 225) (by decide) (by decide) ?_
        refine lv_aload_n hxx hbb fd_L_law_287 rfl (lv_at hl 1 rfl) ?_
        refine lv_aload_n hxx hbb fd_L_law_288 rfl (lv_at hl 0 rfl) ?_
        refine lv_iload_n hxx hbb fd_L_law_289 rfl (lv_at hl 3 rfl) ?_
        refine lv_iconst (v := 1) hxx hbb fd_L_law_290 (by decide) ?_
        refine lv_iadd hxx hbb fd_L_law_291 ?_
        refine fq_top (y := nI (j + 1)) (nI_1 j) ?_
        refine fq_sld hxx hbb hX hbl hbA hQ hL (j + 1) rfl (by omega) fd_L_law_292 ?_
        refine fq_lawQ hC (fc_Q_many l V o1 mo g a N C P Lq hI.1 hI.2.2.2.1 (xs (j + 1))) fw_L_52 ⟨Nat.le_of_ble_eq_true rfl, Nat.le_of_ble_eq_true rfl⟩ hQ rfl hl.1 (rest := []) rfl (Nat.le_of_ble_eq_true rfl) fd_L_law_293 ⟨Nat.le_of_ble_eq_true rfl, Nat.le_of_ble_eq_true rfl⟩ (fun r293 u293 H locs hp293 hQ => ?_)
        refine lv_aload_n hxx hbb fd_L_law_296 rfl (lv_at hl 2 rfl) ?_
        refine lv_aload_n hxx hbb fd_L_law_297 rfl (lv_at hl 0 rfl) ?_
        refine lv_iload_n hxx hbb fd_L_law_298 rfl (lv_at hl 3 rfl) ?_
        refine lv_iconst (v := 1) hxx hbb fd_L_law_299 (by decide) ?_
        refine lv_iadd hxx hbb fd_L_law_300 ?_
        refine fq_top (y := nI (j + 1)) (nI_1 j) ?_
        refine fq_sld hxx hbb hX hbl hbA hQ hL (j + 1) rfl (by omega) fd_L_law_301 ?_
        refine fq_lawM hC (fc_M_many l V o2 mo2 a (xs (j + 1)) N C P hI.2.2.2.1) fw_L_55 ⟨Nat.le_of_ble_eq_true rfl, Nat.le_of_ble_eq_true rfl⟩ hQ rfl hl.1 (rest := [.int r293]) rfl (Nat.le_of_ble_eq_true rfl) fd_L_law_302 ⟨Nat.le_of_ble_eq_true rfl, Nat.le_of_ble_eq_true rfl⟩ (fun r302 u302 H locs hp302 hQ => ?_)
        refine lv_icmp_eq (tgt := 471) hxx hbb fd_L_law_305 (by decide) (fun cc => ?_) (fun cc => ?_)
        · exact hend u293 u302 H locs (by rw [hp293.1, hp302.1]; exact fq_INV_same hI hCB) hQ
        · exact absurd (hp293.2.trans hp302.2.symm) cc
      · refine lv_tableIn (tgt := 310) hxx hbb fd_L_law_62 (by decide) (by decide) (off := 248) (by decide) (by decide) ?_
        refine lv_aload_n hxx hbb fd_L_law_310 rfl (lv_at hl 1 rfl) ?_
        refine fq_lawQ hC (fc_Q_placed l V o1 mo g) fw_L_56 ⟨Nat.le_of_ble_eq_true rfl, Nat.le_of_ble_eq_true rfl⟩ hQ rfl hl.1 (rest := []) rfl (Nat.le_of_ble_eq_true rfl) fd_L_law_311 ⟨Nat.le_of_ble_eq_true rfl, Nat.le_of_ble_eq_true rfl⟩ (fun r311 u311 H locs hp311 hQ => ?_)
        refine lv_aload_n hxx hbb fd_L_law_314 rfl (lv_at hl 2 rfl) ?_
        refine fq_lawM hC (fc_M_placed l V o2 mo2 a) fw_L_59 ⟨Nat.le_of_ble_eq_true rfl, Nat.le_of_ble_eq_true rfl⟩ hQ rfl hl.1 (rest := [.int r311]) rfl (Nat.le_of_ble_eq_true rfl) fd_L_law_315 ⟨Nat.le_of_ble_eq_true rfl, Nat.le_of_ble_eq_true rfl⟩ (fun r315 u315 H locs hp315 hQ => ?_)
        refine lv_icmp_eq (tgt := 471) hxx hbb fd_L_law_318 (by decide) (fun cc => ?_) (fun cc => ?_)
        · exact hend u311 u315 H locs (by rw [hp311.1, hp315.1]; exact fq_INV_same hI hCB) hQ
        · exact absurd (by rw [hp311.2, hp315.2]; exact hI.1.1.2.2.2.1) cc
      · refine lv_tableIn (tgt := 323) hxx hbb fd_L_law_62 (by decide) (by decide) (off := 261) (by decide) (by decide) ?_
        refine lv_aload_n hxx hbb fd_L_law_323 rfl (lv_at hl 1 rfl) ?_
        refine lv_aload_n hxx hbb fd_L_law_324 rfl (lv_at hl 0 rfl) ?_
        refine lv_iload_n hxx hbb fd_L_law_325 rfl (lv_at hl 3 rfl) ?_
        refine lv_iconst (v := 1) hxx hbb fd_L_law_326 (by decide) ?_
        refine lv_iadd hxx hbb fd_L_law_327 ?_
        refine fq_top (y := nI (j + 1)) (nI_1 j) ?_
        refine fq_sld hxx hbb hX hbl hbA hQ hL (j + 1) rfl (by omega) fd_L_law_328 ?_
        refine lv_aload_n hxx hbb fd_L_law_329 rfl (lv_at hl 0 rfl) ?_
        refine lv_iload_n hxx hbb fd_L_law_330 rfl (lv_at hl 3 rfl) ?_
        refine lv_iconst (v := 2) hxx hbb fd_L_law_331 (by decide) ?_
        refine lv_iadd hxx hbb fd_L_law_332 ?_
        refine fq_top (y := nI (j + 2)) (fq_ad2 j) ?_
        refine fq_sld hxx hbb hX hbl hbA hQ hL (j + 2) rfl (by omega) fd_L_law_333 ?_
        refine lv_aload_n hxx hbb fd_L_law_334 rfl (lv_at hl 0 rfl) ?_
        refine lv_iload_n hxx hbb fd_L_law_335 rfl (lv_at hl 3 rfl) ?_
        refine lv_iconst (v := 3) hxx hbb fd_L_law_336 (by decide) ?_
        refine lv_iadd hxx hbb fd_L_law_337 ?_
        refine fq_top (y := nI (j + 3)) (fq_ad3 j) ?_
        refine fq_sld hxx hbb hX hbl hbA hQ hL (j + 3) rfl (by omega) fd_L_law_338 ?_
        refine fq_lawQ hC (fc_Q_arc l V o1 mo g a M E N hI.2.2.2.1.1 h40 hI.1.1.1 hI.2.1 hI.2.2.2.2.1 hI.2.2.2.2.2 (xs (j + 1)) (xs (j + 2)) (xs (j + 3))) fw_L_60 ⟨Nat.le_of_ble_eq_true rfl, Nat.le_of_ble_eq_true rfl⟩ hQ rfl hl.1 (rest := []) rfl (Nat.le_of_ble_eq_true rfl) fd_L_law_339 ⟨Nat.le_of_ble_eq_true rfl, Nat.le_of_ble_eq_true rfl⟩ (fun r339 u339 H locs hp339 hQ => ?_)
        refine lv_aload_n hxx hbb fd_L_law_342 rfl (lv_at hl 2 rfl) ?_
        refine lv_aload_n hxx hbb fd_L_law_343 rfl (lv_at hl 0 rfl) ?_
        refine lv_iload_n hxx hbb fd_L_law_344 rfl (lv_at hl 3 rfl) ?_
        refine lv_iconst (v := 1) hxx hbb fd_L_law_345 (by decide) ?_
        refine lv_iadd hxx hbb fd_L_law_346 ?_
        refine fq_top (y := nI (j + 1)) (nI_1 j) ?_
        refine fq_sld hxx hbb hX hbl hbA hQ hL (j + 1) rfl (by omega) fd_L_law_347 ?_
        refine lv_aload_n hxx hbb fd_L_law_348 rfl (lv_at hl 0 rfl) ?_
        refine lv_iload_n hxx hbb fd_L_law_349 rfl (lv_at hl 3 rfl) ?_
        refine lv_iconst (v := 2) hxx hbb fd_L_law_350 (by decide) ?_
        refine lv_iadd hxx hbb fd_L_law_351 ?_
        refine fq_top (y := nI (j + 2)) (fq_ad2 j) ?_
        refine fq_sld hxx hbb hX hbl hbA hQ hL (j + 2) rfl (by omega) fd_L_law_352 ?_
        refine lv_aload_n hxx hbb fd_L_law_353 rfl (lv_at hl 0 rfl) ?_
        refine lv_iload_n hxx hbb fd_L_law_354 rfl (lv_at hl 3 rfl) ?_
        refine lv_iconst (v := 3) hxx hbb fd_L_law_355 (by decide) ?_
        refine lv_iadd hxx hbb fd_L_law_356 ?_
        refine fq_top (y := nI (j + 3)) (fq_ad3 j) ?_
        refine fq_sld hxx hbb hX hbl hbA hQ hL (j + 3) rfl (by omega) fd_L_law_357 ?_
        refine fq_lawM hC (fc_M_arc l V o2 mo2 a (xs (j + 1)) (xs (j + 2)) (xs (j + 3)) M E N h40 hN8 hI.2.2.2.2.1) fw_L_64 ⟨Nat.le_of_ble_eq_true rfl, Nat.le_of_ble_eq_true rfl⟩ hQ rfl hl.1 (rest := [.int r339]) rfl (Nat.le_of_ble_eq_true rfl) fd_L_law_358 ⟨Nat.le_of_ble_eq_true rfl, Nat.le_of_ble_eq_true rfl⟩ (fun r358 u358 H locs hp358 hQ => ?_)
        refine lv_icmp_eq (tgt := 471) hxx hbb fd_L_law_361 (by decide) (fun cc => ?_) (fun cc => ?_)
        · exact hend u339 u358 H locs (by rw [hp358.2]; exact fq_INV_arc hI hCB hp339.2) hQ
        · exact absurd (hp339.1.trans hp358.1.symm) cc
      · refine lv_tableIn (tgt := 366) hxx hbb fd_L_law_62 (by decide) (by decide) (off := 304) (by decide) (by decide) ?_
        refine lv_aload_n hxx hbb fd_L_law_366 rfl (lv_at hl 1 rfl) ?_
        refine lv_aload_n hxx hbb fd_L_law_367 rfl (lv_at hl 0 rfl) ?_
        refine lv_iload_n hxx hbb fd_L_law_368 rfl (lv_at hl 3 rfl) ?_
        refine lv_iconst (v := 1) hxx hbb fd_L_law_369 (by decide) ?_
        refine lv_iadd hxx hbb fd_L_law_370 ?_
        refine fq_top (y := nI (j + 1)) (nI_1 j) ?_
        refine fq_sld hxx hbb hX hbl hbA hQ hL (j + 1) rfl (by omega) fd_L_law_371 ?_
        refine fq_lawQ hC (fc_Q_run l V o1 mo g a N C P M E Lq hI.1 hI.2.1 hI.2.2.2.1 hI.2.2.2.2.1 hI.2.2.2.2.2 (xs (j + 1))) fw_L_65 ⟨Nat.le_of_ble_eq_true rfl, Nat.le_of_ble_eq_true rfl⟩ hQ rfl hl.1 (rest := []) rfl (Nat.le_of_ble_eq_true rfl) fd_L_law_372 ⟨Nat.le_of_ble_eq_true rfl, Nat.le_of_ble_eq_true rfl⟩ (fun r372 u372 H locs hp372 hQ => ?_)
        refine lv_aload_n hxx hbb fd_L_law_375 rfl (lv_at hl 2 rfl) ?_
        refine lv_aload_n hxx hbb fd_L_law_376 rfl (lv_at hl 0 rfl) ?_
        refine lv_iload_n hxx hbb fd_L_law_377 rfl (lv_at hl 3 rfl) ?_
        refine lv_iconst (v := 1) hxx hbb fd_L_law_378 (by decide) ?_
        refine lv_iadd hxx hbb fd_L_law_379 ?_
        refine fq_top (y := nI (j + 1)) (nI_1 j) ?_
        refine fq_sld hxx hbb hX hbl hbA hQ hL (j + 1) rfl (by omega) fd_L_law_380 ?_
        refine fq_lawM hC (fc_M_run l V o2 mo2 a N C P M E hI.2.2.2.1 hI.2.2.2.2.1 (xs (j + 1))) fw_L_68 ⟨Nat.le_of_ble_eq_true rfl, Nat.le_of_ble_eq_true rfl⟩ hQ rfl hl.1 (rest := [.int r372]) rfl (Nat.le_of_ble_eq_true rfl) fd_L_law_381 ⟨Nat.le_of_ble_eq_true rfl, Nat.le_of_ble_eq_true rfl⟩ (fun r381 u381 H locs hp381 hQ => ?_)
        refine lv_icmp_eq (tgt := 471) hxx hbb fd_L_law_384 (by decide) (fun cc => ?_) (fun cc => ?_)
        · exact hend u372 u381 H locs (by obtain ⟨nr, enr⟩ := hp381.2; rw [enr]; exact fq_INV_run hI hCB hp372.2) hQ
        · exact absurd (hp372.1.trans hp381.1.symm) cc
      · refine lv_tableIn (tgt := 389) hxx hbb fd_L_law_62 (by decide) (by decide) (off := 327) (by decide) (by decide) ?_
        refine lv_aload_n hxx hbb fd_L_law_389 rfl (lv_at hl 1 rfl) ?_
        refine lv_aload_n hxx hbb fd_L_law_390 rfl (lv_at hl 0 rfl) ?_
        refine lv_iload_n hxx hbb fd_L_law_391 rfl (lv_at hl 3 rfl) ?_
        refine lv_iconst (v := 1) hxx hbb fd_L_law_392 (by decide) ?_
        refine lv_iadd hxx hbb fd_L_law_393 ?_
        refine fq_top (y := nI (j + 1)) (nI_1 j) ?_
        refine fq_sld hxx hbb hX hbl hbA hQ hL (j + 1) rfl (by omega) fd_L_law_394 ?_
        refine fq_lawQ hC (fc_Q_distance l V o1 mo g a N hI.2.2.2.1.1 h40 hI.1.1.1 hI.2.2.1 (xs (j + 1))) fw_L_69 ⟨Nat.le_of_ble_eq_true rfl, Nat.le_of_ble_eq_true rfl⟩ hQ rfl hl.1 (rest := []) rfl (Nat.le_of_ble_eq_true rfl) fd_L_law_395 ⟨Nat.le_of_ble_eq_true rfl, Nat.le_of_ble_eq_true rfl⟩ (fun r395 u395 H locs hp395 hQ => ?_)
        refine lv_aload_n hxx hbb fd_L_law_398 rfl (lv_at hl 2 rfl) ?_
        refine lv_aload_n hxx hbb fd_L_law_399 rfl (lv_at hl 0 rfl) ?_
        refine lv_iload_n hxx hbb fd_L_law_400 rfl (lv_at hl 3 rfl) ?_
        refine lv_iconst (v := 1) hxx hbb fd_L_law_401 (by decide) ?_
        refine lv_iadd hxx hbb fd_L_law_402 ?_
        refine fq_top (y := nI (j + 1)) (nI_1 j) ?_
        refine fq_sld hxx hbb hX hbl hbA hQ hL (j + 1) rfl (by omega) fd_L_law_403 ?_
        refine fq_lawM hC (fc_M_distance l V o2 mo2 a (xs (j + 1)) N h40 hN8) fw_L_72 ⟨Nat.le_of_ble_eq_true rfl, Nat.le_of_ble_eq_true rfl⟩ hQ rfl hl.1 (rest := [.int r395]) rfl (Nat.le_of_ble_eq_true rfl) fd_L_law_404 ⟨Nat.le_of_ble_eq_true rfl, Nat.le_of_ble_eq_true rfl⟩ (fun r404 u404 H locs hp404 hQ => ?_)
        refine lv_icmp_eq (tgt := 471) hxx hbb fd_L_law_407 (by decide) (fun cc => ?_) (fun cc => ?_)
        · exact hend u395 u404 H locs (by rw [hp395.1, hp404.1]; exact fq_INV_same hI hCB) hQ
        · exact absurd (hp395.2.trans hp404.2.symm) cc
      · refine lv_tableIn (tgt := 412) hxx hbb fd_L_law_62 (by decide) (by decide) (off := 350) (by decide) (by decide) ?_
        refine lv_aload_n hxx hbb fd_L_law_412 rfl (lv_at hl 1 rfl) ?_
        refine lv_aload_n hxx hbb fd_L_law_413 rfl (lv_at hl 0 rfl) ?_
        refine lv_iload_n hxx hbb fd_L_law_414 rfl (lv_at hl 3 rfl) ?_
        refine lv_iconst (v := 1) hxx hbb fd_L_law_415 (by decide) ?_
        refine lv_iadd hxx hbb fd_L_law_416 ?_
        refine fq_top (y := nI (j + 1)) (nI_1 j) ?_
        refine fq_sld hxx hbb hX hbl hbA hQ hL (j + 1) rfl (by omega) fd_L_law_417 ?_
        refine fq_lawQ hC (fc_Q_before l V o1 mo g a N hI.2.2.2.1.1 h40 hI.1.1.1 hI.2.2.1 (xs (j + 1))) fw_L_73 ⟨Nat.le_of_ble_eq_true rfl, Nat.le_of_ble_eq_true rfl⟩ hQ rfl hl.1 (rest := []) rfl (Nat.le_of_ble_eq_true rfl) fd_L_law_418 ⟨Nat.le_of_ble_eq_true rfl, Nat.le_of_ble_eq_true rfl⟩ (fun r418 u418 H locs hp418 hQ => ?_)
        refine lv_aload_n hxx hbb fd_L_law_421 rfl (lv_at hl 2 rfl) ?_
        refine lv_aload_n hxx hbb fd_L_law_422 rfl (lv_at hl 0 rfl) ?_
        refine lv_iload_n hxx hbb fd_L_law_423 rfl (lv_at hl 3 rfl) ?_
        refine lv_iconst (v := 1) hxx hbb fd_L_law_424 (by decide) ?_
        refine lv_iadd hxx hbb fd_L_law_425 ?_
        refine fq_top (y := nI (j + 1)) (nI_1 j) ?_
        refine fq_sld hxx hbb hX hbl hbA hQ hL (j + 1) rfl (by omega) fd_L_law_426 ?_
        refine fq_lawM hC (fc_M_before l V o2 mo2 a (xs (j + 1)) N h40 hN8) fw_L_76 ⟨Nat.le_of_ble_eq_true rfl, Nat.le_of_ble_eq_true rfl⟩ hQ rfl hl.1 (rest := [.int r418]) rfl (Nat.le_of_ble_eq_true rfl) fd_L_law_427 ⟨Nat.le_of_ble_eq_true rfl, Nat.le_of_ble_eq_true rfl⟩ (fun r427 u427 H locs hp427 hQ => ?_)
        refine lv_icmp_eq (tgt := 471) hxx hbb fd_L_law_430 (by decide) (fun cc => ?_) (fun cc => ?_)
        · exact hend u418 u427 H locs (by rw [hp418.1, hp427.1]; exact fq_INV_same hI hCB) hQ
        · exact absurd (hp418.2.trans hp427.2.symm) cc
      · refine lv_tableIn (tgt := 435) hxx hbb fd_L_law_62 (by decide) (by decide) (off := 373) (by decide) (by decide) ?_
        refine lv_aload_n hxx hbb fd_L_law_435 rfl (lv_at hl 1 rfl) ?_
        refine fq_lawQ hC (fc_Q_sound l V o1 mo g a N C P Lq hI.1 hI.2.2.2.1 (by omega)) fw_L_77 ⟨Nat.le_of_ble_eq_true rfl, Nat.le_of_ble_eq_true rfl⟩ hQ rfl hl.1 (rest := []) rfl (Nat.le_of_ble_eq_true rfl) fd_L_law_436 ⟨Nat.le_of_ble_eq_true rfl, Nat.le_of_ble_eq_true rfl⟩ (fun r436 u436 H locs hp436 hQ => ?_)
        refine lv_aload_n hxx hbb fd_L_law_439 rfl (lv_at hl 2 rfl) ?_
        refine fq_lawM hC (fc_M_sound l V o2 mo2 a) fw_L_81 ⟨Nat.le_of_ble_eq_true rfl, Nat.le_of_ble_eq_true rfl⟩ hQ rfl hl.1 (rest := [.int r436]) rfl (Nat.le_of_ble_eq_true rfl) fd_L_law_440 ⟨Nat.le_of_ble_eq_true rfl, Nat.le_of_ble_eq_true rfl⟩ (fun r440 u440 H locs hp440 hQ => ?_)
        refine lv_icmp_eq (tgt := 471) hxx hbb fd_L_law_443 (by decide) (fun cc => ?_) (fun cc => ?_)
        · exact hend u436 u440 H locs (by rw [hp436.1, hp440.1]; exact fq_INV_same hI hCB) hQ
        · exact absurd (hp436.2.trans hp440.2.symm) cc
      · refine lv_tableIn (tgt := 448) hxx hbb fd_L_law_62 (by decide) (by decide) (off := 386) (by decide) (by decide) ?_
        refine lv_aload_n hxx hbb fd_L_law_448 rfl (lv_at hl 1 rfl) ?_
        refine lv_aload_n hxx hbb fd_L_law_449 rfl (lv_at hl 0 rfl) ?_
        refine lv_iload_n hxx hbb fd_L_law_450 rfl (lv_at hl 3 rfl) ?_
        refine lv_iconst (v := 1) hxx hbb fd_L_law_451 (by decide) ?_
        refine lv_iadd hxx hbb fd_L_law_452 ?_
        refine fq_top (y := nI (j + 1)) (nI_1 j) ?_
        refine fq_sld hxx hbb hX hbl hbA hQ hL (j + 1) rfl (by omega) fd_L_law_453 ?_
        refine fq_lawQ hC (fc_Q_count l V o1 mo g a (hI.1.1.1.trans hN8.symm) hI.1.1.2.2.2.2 hI.2.1.2.2.1 (xs (j + 1))) fw_L_82 ⟨Nat.le_of_ble_eq_true rfl, Nat.le_of_ble_eq_true rfl⟩ hQ rfl hl.1 (rest := []) rfl (Nat.le_of_ble_eq_true rfl) fd_L_law_454 ⟨Nat.le_of_ble_eq_true rfl, Nat.le_of_ble_eq_true rfl⟩ (fun r454 u454 H locs hp454 hQ => ?_)
        refine lv_aload_n hxx hbb fd_L_law_457 rfl (lv_at hl 2 rfl) ?_
        refine lv_aload_n hxx hbb fd_L_law_458 rfl (lv_at hl 0 rfl) ?_
        refine lv_iload_n hxx hbb fd_L_law_459 rfl (lv_at hl 3 rfl) ?_
        refine lv_iconst (v := 1) hxx hbb fd_L_law_460 (by decide) ?_
        refine lv_iadd hxx hbb fd_L_law_461 ?_
        refine fq_top (y := nI (j + 1)) (nI_1 j) ?_
        refine fq_sld hxx hbb hX hbl hbA hQ hL (j + 1) rfl (by omega) fd_L_law_462 ?_
        refine fq_lawM hC (fc_M_count l V o2 mo2 a (xs (j + 1))) fw_L_85 ⟨Nat.le_of_ble_eq_true rfl, Nat.le_of_ble_eq_true rfl⟩ hQ rfl hl.1 (rest := [.int r454]) rfl (Nat.le_of_ble_eq_true rfl) fd_L_law_463 ⟨Nat.le_of_ble_eq_true rfl, Nat.le_of_ble_eq_true rfl⟩ (fun r463 u463 H locs hp463 hQ => ?_)
        refine lv_icmp_eq (tgt := 471) hxx hbb fd_L_law_466 (by decide) (fun cc => ?_) (fun cc => ?_)
        · exact hend u454 u463 H locs (by rw [hp454.1, hp463.1]; exact fq_INV_same hI hCB) hQ
        · exact absurd (hp454.2.trans hp463.2.symm) cc
      · refine lv_tableOut (tgt := 471) hxx hbb fd_L_law_62 (by decide) (by decide) ?_
        exact hend g a H locs (fq_INV_same hI hCB) hQ
end
section
theorem fq_def_Q : ∀ j, j < 21 → defaultValue (t_Q j) = vp_V fq_Q0 j := by
  intro j hj
  have hc : j = 0 ∨ j = 1 ∨ j = 2 ∨ j = 3 ∨ j = 4 ∨ j = 5 ∨ j = 6 ∨ j = 7 ∨ j = 8 ∨ j = 9 ∨ j = 10 ∨ j = 11 ∨ j = 12 ∨ j = 13 ∨ j = 14 ∨ j = 15 ∨ j = 16 ∨ j = 17 ∨ j = 18 ∨ j = 19 ∨ j = 20 := by omega
  rcases hc with rfl | rfl | rfl | rfl | rfl | rfl | rfl | rfl | rfl | rfl | rfl | rfl | rfl | rfl | rfl | rfl | rfl | rfl | rfl | rfl | rfl <;> rfl
theorem fq_def_M : ∀ j, j < 16 → defaultValue (t_M j) = vp_V fq_M0 j := by
  intro j hj
  have hc : j = 0 ∨ j = 1 ∨ j = 2 ∨ j = 3 ∨ j = 4 ∨ j = 5 ∨ j = 6 ∨ j = 7 ∨ j = 8 ∨ j = 9 ∨ j = 10 ∨ j = 11 ∨ j = 12 ∨ j = 13 ∨ j = 14 ∨ j = 15 := by omega
  rcases hc with rfl | rfl | rfl | rfl | rfl | rfl | rfl | rfl | rfl | rfl | rfl | rfl | rfl | rfl | rfl | rfl <;> rfl
set_option maxHeartbeats 16000000 in
set_option maxRecDepth 100000 in
/-- THE LAW, from its entry -/
theorem whole_start {p : Program} {e : Env} {s : State} {m : MethodId} {below : List Frame} {meth : Method} {c : Code} (l : Launch) {b L : Nat} {xs : Nat → Int32} (hL : L ≤ 2051) (C0 : lw_At p s m meth c b L xs) : W p l e room_1 s m #[Value.ref b] below meth c s.heap [] 0 0 (lw_Z below #[Value.ref b] s) (entryFrame m ([Value.ref b] : List Value).toArray 4) := by
  obtain ⟨hxx, hbb, hr, hml, hown, hts, hX, hbl, hlocks, hgv⟩ := id C0
  have hA : ∀ q : Nat, s.heap.size ≤ q → (fun q : Nat => s.heap.size ≤ q) q := fun _ h => h
  have hbA : ¬ (fun q : Nat => s.heap.size ≤ q) b := Nat.not_le.mpr hbl
  obtain ⟨c0, iS0, hKn0⟩ := u_known (C := R_Q) (T := F_Q) (N := 21) (n := 21) hts (fun w hw => fq_sub (i_Q w hw)) (hts _ (fq_sub fn_Q))
  obtain ⟨c1, iS1, hKn1⟩ := u_known (C := R_M) (T := F_M) (N := 16) (n := 16) hts (fun w hw => fq_sub (i_M w hw)) (hts _ (fq_sub fn_M))
  obtain ⟨cI, kI, compI, hI1, hI2, hI3⟩ := Cond.arrayClass_spec (hts _ (fq_sub fa_int))
  obtain ⟨cZ, kZ, compZ, hZ1, hZ2, hZ3⟩ := Cond.arrayClass_spec (hts _ (fq_sub fa_boolean))
  obtain ⟨V, hK⟩ : ∃ V : fq_V, va_K V.1 classes (fq_tys V) s := by
    refine ⟨((fun k => if k = 0 then c0 else c1, fun k => if k = 0 then iS0 else iS1), cI, cZ), ?_, ?_⟩
    · intro k q hq
      match k, hq with
      | 0, hq => cases hq; exact hKn0
      | 1, hq => cases hq; exact hKn1
      | k + 2, hq => simp [classes] at hq
    · intro k q hq
      match k, hq with
      | 0, hq => cases hq; exact ⟨fun n z => ⟨fun k h => (by cases h), kI, hI2, compI, hI3⟩, hI1⟩
      | 1, hq => cases hq; exact ⟨fun n z => ⟨fun k h => (by cases h), kZ, hZ2, compZ, hZ3⟩, hZ1⟩
      | k + 2, hq => simp at hq
  have hts2 : ∀ w ∈ fq_tb, w.before #[Value.ref b] s = true := fun w hw => hts w (fq_sub hw)
  have hC : fq_Cx V p s m #[Value.ref b] meth c R_law code 4 ret := ⟨hxx, hbb, hr, hml, hown, hts2, hlocks, hK⟩
  have hQ : fq_Hp V (fun q : Nat => s.heap.size ≤ q) s.heap [] s.heap [] := ⟨fun k q h => by simp at h, ⟨fun i j p q h => by simp at h, fun k q h => by simp at h⟩, va_S.rf, hA⟩
  have hl := lv_entry ([.ref b]) (n := 4) (Nat.le_of_ble_eq_true rfl)
  rw [lg_entry_eq]
  generalize (lg_sl ([.ref b]) ++ List.replicate (4 - (lg_sl ([.ref b])).length) Slot.unset).toArray = ls at hl ⊢
  have hl : lv_has ls 4 [(0, .ref b)] := hl
  refine va_new (ci := 0) (fs := fq_Q0) (C := R_Q) (T := F_Q) (N := 21) hxx hbb hts2 i_Q t_Q t_Q_ok hown (hts2 _ fk_Q) (hts2 _ fn_Q) (hts2 _ fi_Q) hK hQ.1 hQ.2.1 hQ.2.2.1 hA rfl fq_def_Q (Nat.le_of_ble_eq_true rfl) (Nat.le_of_ble_eq_true rfl) fd_L_law_0 (fun q0 H hP hD hS => ?_)
  have hQ : fq_Hp V (fun q : Nat => s.heap.size ≤ q) s.heap [(q0, .inr (0, fq_Q0))] H [] := ⟨hP, hD, hS, hA⟩
  refine W.widen (k := 1) (n := 21) (by omega) (by omega) ?_
  refine lv_dup hxx hbb fd_L_law_3 rfl ?_
  have h3 : ∃ X0 X1 X2 : Int32, X0 = (if 0 < L then xs 0 else 0) ∧ X1 = (if 1 < L then xs 1 else 0) ∧ X2 = (if 2 < L then xs 2 else 0) := ⟨_, _, _, rfl, rfl, rfl⟩
  obtain ⟨X0, X1, X2, eX0, eX1, eX2⟩ := h3
  refine lv_aload_n hxx hbb fd_L_law_4 rfl (lv_at hl 0 rfl) ?_
  refine lv_iconst (v := nI 0) hxx hbb fd_L_law_5 (by decide) ?_
  refine fq_callCell hC 0 (by omega) hL hX hbl hbA hQ ⟨Nat.le_of_ble_eq_true rfl, Nat.le_of_ble_eq_true rfl⟩ hl.1 (rest := [.ref q0, .ref q0]) (Nat.le_of_ble_eq_true rfl) fd_L_law_6 ⟨Nat.le_of_ble_eq_true rfl, Nat.le_of_ble_eq_true rfl⟩ (fun H locs hQ => ?_)
  refine fq_top (y := X0) eX0.symm ?_
  refine lv_aload_n hxx hbb fd_L_law_9 rfl (lv_at hl 0 rfl) ?_
  refine lv_iconst (v := nI 1) hxx hbb fd_L_law_10 (by decide) ?_
  refine fq_callCell hC 1 (by omega) hL hX hbl hbA hQ ⟨Nat.le_of_ble_eq_true rfl, Nat.le_of_ble_eq_true rfl⟩ hl.1 (rest := [.int X0, .ref q0, .ref q0]) (Nat.le_of_ble_eq_true rfl) fd_L_law_11 ⟨Nat.le_of_ble_eq_true rfl, Nat.le_of_ble_eq_true rfl⟩ (fun H locs hQ => ?_)
  refine fq_top (y := X1) eX1.symm ?_
  refine lv_aload_n hxx hbb fd_L_law_14 rfl (lv_at hl 0 rfl) ?_
  refine lv_iconst (v := nI 2) hxx hbb fd_L_law_15 (by decide) ?_
  refine fq_callCell hC 2 (by omega) hL hX hbl hbA hQ ⟨Nat.le_of_ble_eq_true rfl, Nat.le_of_ble_eq_true rfl⟩ hl.1 (rest := [.int X1, .int X0, .ref q0, .ref q0]) (Nat.le_of_ble_eq_true rfl) fd_L_law_16 ⟨Nat.le_of_ble_eq_true rfl, Nat.le_of_ble_eq_true rfl⟩ (fun H locs hQ => ?_)
  refine fq_top (y := X2) eX2.symm ?_
  have hPc : va_P V.1 classes [(q0, .inr (0, fq_Q0))] H := hQ.1.sub [0] rfl
  have hDc : va_D (fun q : Nat => s.heap.size ≤ q) [(q0, .inr (0, fq_Q0))] := hQ.2.1.sub [0] (by decide) rfl
  have hFc := va_free (wc := [(q0, .inr (0, fq_Q0))]) hQ.2.1 hQ.2.2.1 hA [0] rfl
  refine va_callv (va_runI (As := [.int X0, .int X1, .int X2]) (rest := [.ref q0]) ⟨hxx, hbb, hml, hown, hts2⟩ (fc_Q_init l V q0 H.size X0 X1 X2) (cwI 3 hts2 fgi_Q rfl rfl rfl (hts2 _ fi_Q) (hts2 _ fwi_Q.1) (hts2 _ fwi_Q.2.1) rfl (by decide +kernel) ⟨Nat.le_of_ble_eq_true rfl, Nat.le_of_ble_eq_true rfl⟩) ⟨fun a U g mk q => by obtain ⟨q0, q1, qP, qK, qD⟩ := q; exact ⟨q0, q1, qP, va_K.moved (u := U) (U := U.calling g mk a) (Vm.Alike.refl U.vm) qK, qD⟩, fun U hU hW => ⟨rfl, by rw [hU], by rw [hU]; exact hPc, va_K.moved hW.alike hK, hDc.weaken (fun _ _ _ _ => trivial)⟩⟩ rfl rfl hl.1 rfl (lv_room (Nat.le_of_ble_eq_true rfl)) fd_L_law_19 ⟨Nat.le_of_ble_eq_true rfl, Nat.le_of_ble_eq_true rfl⟩) hQ.2.2.1 (fun q _ h => hFc q h) hFc (fun u t H1 locs ht hvm hw hB hz1 hk1 hS => ?_)
  obtain ⟨o1, mo, g⟩ := u
  obtain ⟨hoQ, hP1, hK1, hD1⟩ := hB
  rw [ht] at hP1
  dsimp only at hoQ hP1 hD1
  have hwQ := hw
  obtain ⟨hP, hD⟩ := va_join (wr := []) (w1 := fq_WQ V o1 mo g) hQ.1 hQ.2.1 [0] [] rfl rfl (by decide) (by decide) hk1 hFc hP1 hD1
  have hQ : fq_Hp V (fun q : Nat => s.heap.size ≤ q) s.heap (fq_WQ V o1 mo g) H1 locs := ⟨hP, hD, hS, hA⟩
  generalize H1 = H at hQ ⊢
  rw [← hoQ]
  refine lv_astore_n (lv' := [(1, .ref (o1 0)), (0, .ref b)]) hxx hbb fd_L_law_22 rfl hl (by decide) rfl (fun ls hl => ?_)
  refine W.widen (k := 13) (n := 1265) (by omega) (by omega) ?_
  refine va_new (ci := 1) (fs := fq_M0) (C := R_M) (T := F_M) (N := 16) hxx hbb hts2 i_M t_M t_M_ok hown (hts2 _ fk_M) (hts2 _ fn_M) (hts2 _ fi_M) hK hQ.1 hQ.2.1 hQ.2.2.1 hA rfl fq_def_M (Nat.le_of_ble_eq_true rfl) (Nat.le_of_ble_eq_true rfl) fd_L_law_23 (fun q1 H hP hD hS => ?_)
  have hQ : fq_Hp V (fun q : Nat => s.heap.size ≤ q) s.heap (fq_WQ V o1 mo g ++ [(q1, .inr (1, fq_M0))]) H locs := ⟨hP, hD, hS, hA⟩
  refine W.widen (k := 14) (n := 1281) (by omega) (by omega) ?_
  refine lv_dup hxx hbb fd_L_law_26 rfl ?_
  refine lv_aload_n hxx hbb fd_L_law_27 rfl (lv_at hl 1 rfl) ?_
  refine lv_iconst (v := nI 0) hxx hbb fd_L_law_28 (by decide) ?_
  refine fq_callCell hC 0 (by omega) hL hX hbl hbA hQ ⟨Nat.le_of_ble_eq_true rfl, Nat.le_of_ble_eq_true rfl⟩ hl.1 (rest := [.ref q1, .ref q1]) (Nat.le_of_ble_eq_true rfl) fd_L_law_29 ⟨Nat.le_of_ble_eq_true rfl, Nat.le_of_ble_eq_true rfl⟩ (fun H locs hQ => ?_)
  refine fq_top (y := X0) eX0.symm ?_
  refine lv_aload_n hxx hbb fd_L_law_32 rfl (lv_at hl 1 rfl) ?_
  refine lv_iconst (v := nI 1) hxx hbb fd_L_law_33 (by decide) ?_
  refine fq_callCell hC 1 (by omega) hL hX hbl hbA hQ ⟨Nat.le_of_ble_eq_true rfl, Nat.le_of_ble_eq_true rfl⟩ hl.1 (rest := [.int X0, .ref q1, .ref q1]) (Nat.le_of_ble_eq_true rfl) fd_L_law_34 ⟨Nat.le_of_ble_eq_true rfl, Nat.le_of_ble_eq_true rfl⟩ (fun H locs hQ => ?_)
  refine fq_top (y := X1) eX1.symm ?_
  refine lv_aload_n hxx hbb fd_L_law_37 rfl (lv_at hl 1 rfl) ?_
  refine lv_iconst (v := nI 2) hxx hbb fd_L_law_38 (by decide) ?_
  refine fq_callCell hC 2 (by omega) hL hX hbl hbA hQ ⟨Nat.le_of_ble_eq_true rfl, Nat.le_of_ble_eq_true rfl⟩ hl.1 (rest := [.int X1, .int X0, .ref q1, .ref q1]) (Nat.le_of_ble_eq_true rfl) fd_L_law_39 ⟨Nat.le_of_ble_eq_true rfl, Nat.le_of_ble_eq_true rfl⟩ (fun H locs hQ => ?_)
  refine fq_top (y := X2) eX2.symm ?_
  have hPc : va_P V.1 classes [(q1, .inr (1, fq_M0))] H := hQ.1.sub [13] rfl
  have hDc : va_D (fun q : Nat => s.heap.size ≤ q) [(q1, .inr (1, fq_M0))] := hQ.2.1.sub [13] (by decide) rfl
  have hFc := va_free (wc := [(q1, .inr (1, fq_M0))]) hQ.2.1 hQ.2.2.1 hA [13] rfl
  refine va_callv (va_runI (As := [.int X0, .int X1, .int X2]) (rest := [.ref q1]) ⟨hxx, hbb, hml, hown, hts2⟩ (fc_M_init l V q1 H.size X0 X1 X2) (cwI 3 hts2 fgi_M rfl rfl rfl (hts2 _ fi_M) (hts2 _ fwi_M.1) (hts2 _ fwi_M.2.1) rfl (by decide +kernel) ⟨Nat.le_of_ble_eq_true rfl, Nat.le_of_ble_eq_true rfl⟩) ⟨fun a U g mk q => by obtain ⟨q0, q1, qP, qK, qD⟩ := q; exact ⟨q0, q1, qP, va_K.moved (u := U) (U := U.calling g mk a) (Vm.Alike.refl U.vm) qK, qD⟩, fun U hU hW => ⟨rfl, by rw [hU], by rw [hU]; exact hPc, va_K.moved hW.alike hK, hDc.weaken (fun _ _ _ _ => trivial)⟩⟩ rfl rfl hl.1 rfl (lv_room (Nat.le_of_ble_eq_true rfl)) fd_L_law_42 ⟨Nat.le_of_ble_eq_true rfl, Nat.le_of_ble_eq_true rfl⟩) hQ.2.2.1 (fun q _ h => hFc q h) hFc (fun u t H1 locs ht hvm hw hB hz1 hk1 hS => ?_)
  obtain ⟨o2, mo2, a⟩ := u
  obtain ⟨hoM, hP1, hK1, hD1⟩ := hB
  rw [ht] at hP1
  dsimp only at hoM hP1 hD1
  have hwM := hw
  obtain ⟨hP, hD⟩ := va_join (wr := fq_WQ V o1 mo g) (w1 := fq_WM V o2 mo2 a) hQ.1 hQ.2.1 [13] [0, 1, 2, 3, 4, 5, 6, 7, 8, 9, 10, 11, 12] rfl rfl (by decide) (by decide) hk1 hFc hP1 hD1
  have hQ : fq_Hp V (fun q : Nat => s.heap.size ≤ q) s.heap (fq_WQ V o1 mo g ++ fq_WM V o2 mo2 a) H1 locs := ⟨hP, hD, hS, hA⟩
  generalize H1 = H at hQ ⊢
  rw [← hoM]
  refine lv_astore_n (lv' := [(2, .ref (o2 0)), (1, .ref (o1 0)), (0, .ref b)]) hxx hbb fd_L_law_45 rfl hl (by decide) rfl (fun ls hl => ?_)
  refine W.widen (k := 22) (n := 2381) (by omega) (by omega) ?_
  refine lv_iconst (v := nI 3) hxx hbb fd_L_law_46 (by decide) ?_
  refine lv_istore_n (lv' := [(3, .int (nI 3)), (2, .ref (o2 0)), (1, .ref (o1 0)), (0, .ref b)]) hxx hbb fd_L_law_47 rfl hl (by decide) rfl (fun ls hl => ?_)
  exact fq_law_loop hL C0 hK o1 o2 mo mo2 (L + 1) 3 g a (by omega) (by omega) (fq_INV_0 hwQ hwM _) H locs ls hQ (lv_sub hl [3, 2, 1, 0] rfl)
end
section
-- ===== YOUR PART ENDS =====
set_option maxHeartbeats 4000000 in
theorem lw_walk (l : Launch) (b : Addr) (xs : List Int32) : MetFree l x (headSpec (Jvm.Cond.code x code maxLocals ret :: tables_1) room_1) (lw_P b xs) (fun _ _ _ _ _ => True) lw_Q := by
  refine MetFree.of_bodyS (code := code) (maxLocals := maxLocals) (ret := ret) (by decide) ?_ ?_
  · intro args s m h hn
    obtain ⟨meth, c, h1, h2, h3, h4, h5, h6, -, -⟩ := Cond.code_spec hn (atoms_spec (ws := Jvm.Cond.code x code maxLocals ret :: tables_1) h _ List.mem_cons_self)
    exact ⟨meth, c, h1, h2, h3, h4, h5, h6⟩
  · intro p e s m args below meth c s₁ B hml0 hP _
    obtain ⟨rfl, hx, hbd, hgv⟩ := hP
    obtain ⟨scr, harrAt, hlist, hof, hsmall⟩ := hx
    obtain ⟨hcb, hkn, -, -⟩ := State.arrayAt?_spec harrAt
    have hown : s.vm.findClass R_law = some m.cls := findClass_of_methodNamed B.named
    have hts0 : ∀ c ∈ (Jvm.Cond.code x code maxLocals ret :: tables_1), c.before #[Value.ref b] s = true := atoms_spec (ws := Jvm.Cond.code x code maxLocals ret :: tables_1) B.pre
    have hts : ∀ w ∈ lw_tbl, w.before #[Value.ref b] s = true := k2_hts_sels lw_privs (fun w hw => hts0 w (List.mem_cons_of_mem _ hw)) lw_privs_ok
    have hml : c.maxLocals = 4 := B.maxLocals_eq (hts0 _ List.mem_cons_self)
    have X₀ : Stand p l e room_1 s m #[Value.ref b] below meth c s₁ [] 0 0 := Stand.of_body B
    have hh0 : s₁.heap = s.heap := by rw [B.state]; rfl
    have hsz : scr.slots.size = xs.length := by rw [← Array.length_toList, hlist, List.length_map]
    have hval : ∀ j : Nat, j < xs.length → scr.slots[j]? = some (.int (xs.getD j 0)) := fun j hj => by
      rw [← Array.getElem?_toList, hlist]
      simp [hj]
    have hbl : b < s.heap.size := (Array.getElem?_eq_some_iff.mp hcb).1
    have hX : va_X b xs.length (fun j => xs.getD j 0) s s.heap := ⟨scr, hcb, hof, hkn, hsz, hval⟩
    have K : W p l e room_1 s m #[Value.ref b] below meth c s₁.heap [] 0 0 (lw_Z below #[Value.ref b] s) (entryFrame m ([Value.ref b] : List Value).toArray 4) := by
      rw [hh0]
      exact whole_start l hbd ⟨B.exec, B.bytes, B.returns, hml, hown, hts, hX, hbl, B.notSynchronized, hgv⟩
    obtain ⟨t, a1, o, b1, b2, b3⟩ := K s₁ rfl X₀
    exact ⟨t, o, a1, b1, b2, b3⟩
theorem lw_pre_spec {args : Array Value} {s : State} (h : (Jvm.Cond.and given_1 narrow_1).before args s = true) (hr : rest_1_c.before args s = true) : ∃ (b : Addr) (xs : List Int32), lw_P b xs args s := by
  have hs := flat_of_before _ h
  have hq := flat_of_before _ hr
  have hc : (Cond.count 1).before args s = true := hs _ (by decide +kernel)
  have harr : (Cond.arrayOf (.arg 0) .int).before args s = true := hs _ (by decide +kernel)
  have hle : (Cond.le (.length (.arg 0)) (.int 2051)).before args s = true := hs _ (by decide +kernel)
  have hlen : (Cond.isInt (.length (.arg 0))).before args s = true := hq _ (by decide +kernel)
  have hall : (Cond.all (.arg 0) (.isInt (.elem (.arg 0) (.index 0)))).before args s = true := hq _ (by decide +kernel)
  obtain ⟨b, xs, hb, hx⟩ := State.ints_of_pre rfl harr hlen hall
  have hsm : xs.length < 2 ^ 31 := hx.choose_spec.2.2.2
  have hev : (Term.length (.arg 0)).eval args s none [] s = some (.int xs.length.toInt32) := hx.length_eval hb
  have hv := Cond.le_ints hev (show (Term.int 2051).eval args s none [] s = some (.int 2051) from rfl)
  have hd : xs.length.toInt32 ≤ 2051 := by
    simpa [Cond.before, Cond.holds, hv] using hle
  have hN : xs.length ≤ 2051 := (Int32.ofNat_le_ofNat hsm (by decide)).mp (show Int32.ofNat xs.length ≤ Int32.ofNat 2051 from hd)
  exact ⟨b, xs, Cond.one_arg hc (show args[0]? = some (.ref b) from hb), hx, hN, h⟩
theorem lw_comes (l : Launch) : Comes l x (Jvm.Cond.code x code maxLocals ret :: tables_1) room_1 (fun tb e args s => Calls_1 tb e args s ∧ rest_1 tb e args s ∧ Pre_1 tb e args s)
    (fun _ _ args s o t => lw_Q args s o t) := by
  intro p e ha hc hk s m args below hf hfit hheap happ hpre
  obtain ⟨b, xs, hP⟩ := lw_pre_spec hpre.2.2 hpre.2.1
  obtain ⟨k, o, h1, h2, h3, hQ⟩ := lw_walk l b xs p e ha hc hk s m args below hf ((Spec.applies_iff_loose hf).mp happ).1 hP trivial
  exact ⟨k, o, h1, h2, h3, hQ⟩
theorem lw_frame {s t : State} {o : Outcome} {args : Array Value} (h : Framed s o t [] 600000 7302250) :
    Framed s o t (fieldLocs frame_1_writes args s ++ arrayLocs frame_1_arrays args s ++ staticLocs frame_1_statics s) 600000 7302250 := h
theorem lw_limb (L : Cond) (hL : ∀ (args : Array Value) (s t : State), L.after args s (.returned (some (.int 1))) t = true) :
    ArmFor flags0 classFile x code maxLocals ret World_1 tables_1 room_1 Calls_1 rest_1 Pre_1
      (fun tb e a s o t => postC L tb e a s o t ∧ Framed s o t (fieldLocs frame_1_writes a s ++ arrayLocs frame_1_arrays a s ++ staticLocs frame_1_statics s) 600000 7302250) := by
  intro l _ _ _ p e ha hc hk s m args below hf hfit hheap happ hpre
  obtain ⟨k, o, h1, h2, h3, rfl, hF⟩ := lw_comes l p e ha hc hk s m args below hf hfit hheap happ hpre
  exact ⟨k, _, h1, h2, h3, hL args s _, lw_frame hF⟩
theorem i_vc : Claimed_1_1 ∧ Claimed_1_2 := ⟨lw_limb limb_1_1 (fun args s t => by simp [limb_1_1, Cond.after, Cond.holds, Cond.value]), lw_limb limb_1_2 (fun args s t => Cond.after_iff.mpr (by
  first | (rw [show limb_1_2 = Cond.eq .result (.int 1) from rfl, Cond.eq_ints (x := 1) (y := 1) rfl rfl]; simp; done) | (simp [limb_1_2, Cond.value, Term.eval]; done)))⟩
end
