section
-- ===== PART A: goes FIRST, ahead of the names: the tables' words, and 'selects' of the private methods out of them =====
/-- a private method of a class that the tables say can be made, by its rows of tables_1 -/
def lw_okq (q : MethodName × Nat) : Prop := (q.1.cls ≠ "java/lang/invoke/MethodHandle" ∧ q.1.cls ≠ "java/lang/invoke/VarHandle") ∧ Cond.instantiable q.1.cls q.2 ∈ tables_1 ∧ Cond.privateMethod q.1 ∈ tables_1 ∧ Cond.instanceMethod q.1 ∈ tables_1
theorem lw_p0 : lw_okq (⟨"SimilarityJoin", "isRecord", "(I)Z"⟩, 14) := ⟨⟨by decide +kernel, by decide +kernel⟩, List.mem_of_getElem? (i := 4) (by decide +kernel), List.mem_of_getElem? (i := 75) (by decide +kernel), List.mem_of_getElem? (i := 76) (by decide +kernel)⟩
theorem lw_p1 : lw_okq (⟨"SimilarityJoin", "refresh", "()V"⟩, 14) := ⟨⟨by decide +kernel, by decide +kernel⟩, List.mem_of_getElem? (i := 4) (by decide +kernel), List.mem_of_getElem? (i := 107) (by decide +kernel), List.mem_of_getElem? (i := 108) (by decide +kernel)⟩
theorem lw_p2 : lw_okq (⟨"SimilarityJoin", "rankTokens", "()V"⟩, 14) := ⟨⟨by decide +kernel, by decide +kernel⟩, List.mem_of_getElem? (i := 4) (by decide +kernel), List.mem_of_getElem? (i := 111) (by decide +kernel), List.mem_of_getElem? (i := 112) (by decide +kernel)⟩
theorem lw_p3 : lw_okq (⟨"SimilarityJoin", "spell", "(II)V"⟩, 14) := ⟨⟨by decide +kernel, by decide +kernel⟩, List.mem_of_getElem? (i := 4) (by decide +kernel), List.mem_of_getElem? (i := 115) (by decide +kernel), List.mem_of_getElem? (i := 116) (by decide +kernel)⟩
theorem lw_p4 : lw_okq (⟨"SimilarityJoin", "prefixLength", "(I)I"⟩, 14) := ⟨⟨by decide +kernel, by decide +kernel⟩, List.mem_of_getElem? (i := 4) (by decide +kernel), List.mem_of_getElem? (i := 119) (by decide +kernel), List.mem_of_getElem? (i := 120) (by decide +kernel)⟩
theorem lw_p5 : lw_okq (⟨"SimilarityJoin", "probe", "(II)I"⟩, 14) := ⟨⟨by decide +kernel, by decide +kernel⟩, List.mem_of_getElem? (i := 4) (by decide +kernel), List.mem_of_getElem? (i := 123) (by decide +kernel), List.mem_of_getElem? (i := 124) (by decide +kernel)⟩
theorem lw_p6 : lw_okq (⟨"SimilarityJoin", "verify", "(III)Z"⟩, 14) := ⟨⟨by decide +kernel, by decide +kernel⟩, List.mem_of_getElem? (i := 4) (by decide +kernel), List.mem_of_getElem? (i := 127) (by decide +kernel), List.mem_of_getElem? (i := 128) (by decide +kernel)⟩
theorem lw_p7 : lw_okq (⟨"SimilarityJoin", "joinRow", "(I)V"⟩, 14) := ⟨⟨by decide +kernel, by decide +kernel⟩, List.mem_of_getElem? (i := 4) (by decide +kernel), List.mem_of_getElem? (i := 131) (by decide +kernel), List.mem_of_getElem? (i := 132) (by decide +kernel)⟩
theorem lw_p8 : lw_okq (⟨"SimilarityJoin", "root", "(I)I"⟩, 14) := ⟨⟨by decide +kernel, by decide +kernel⟩, List.mem_of_getElem? (i := 4) (by decide +kernel), List.mem_of_getElem? (i := 135) (by decide +kernel), List.mem_of_getElem? (i := 136) (by decide +kernel)⟩
theorem lw_p9 : lw_okq (⟨"SimilarityJoin", "probeDraft", "()I"⟩, 14) := ⟨⟨by decide +kernel, by decide +kernel⟩, List.mem_of_getElem? (i := 4) (by decide +kernel), List.mem_of_getElem? (i := 174) (by decide +kernel), List.mem_of_getElem? (i := 175) (by decide +kernel)⟩
theorem lw_p10 : lw_okq (⟨"SimilarityJoinModel", "badToken", "(I)Z"⟩, 5) := ⟨⟨by decide +kernel, by decide +kernel⟩, List.mem_of_getElem? (i := 198) (by decide +kernel), List.mem_of_getElem? (i := 225) (by decide +kernel), List.mem_of_getElem? (i := 226) (by decide +kernel)⟩
theorem lw_p11 : lw_okq (⟨"SimilarityJoinModel", "sizeOf", "(I)I"⟩, 5) := ⟨⟨by decide +kernel, by decide +kernel⟩, List.mem_of_getElem? (i := 198) (by decide +kernel), List.mem_of_getElem? (i := 229) (by decide +kernel), List.mem_of_getElem? (i := 230) (by decide +kernel)⟩
theorem lw_p12 : lw_okq (⟨"SimilarityJoinModel", "bad", "(I)Z"⟩, 5) := ⟨⟨by decide +kernel, by decide +kernel⟩, List.mem_of_getElem? (i := 198) (by decide +kernel), List.mem_of_getElem? (i := 245) (by decide +kernel), List.mem_of_getElem? (i := 246) (by decide +kernel)⟩
theorem lw_p13 : lw_okq (⟨"SimilarityJoinModel", "copy", "(II)V"⟩, 5) := ⟨⟨by decide +kernel, by decide +kernel⟩, List.mem_of_getElem? (i := 198) (by decide +kernel), List.mem_of_getElem? (i := 249) (by decide +kernel), List.mem_of_getElem? (i := 250) (by decide +kernel)⟩
theorem lw_p14 : lw_okq (⟨"SimilarityJoinModel", "both", "(II)I"⟩, 5) := ⟨⟨by decide +kernel, by decide +kernel⟩, List.mem_of_getElem? (i := 198) (by decide +kernel), List.mem_of_getElem? (i := 285) (by decide +kernel), List.mem_of_getElem? (i := 286) (by decide +kernel)⟩
theorem lw_p15 : lw_okq (⟨"SimilarityJoinModel", "alike", "(II)Z"⟩, 5) := ⟨⟨by decide +kernel, by decide +kernel⟩, List.mem_of_getElem? (i := 198) (by decide +kernel), List.mem_of_getElem? (i := 293) (by decide +kernel), List.mem_of_getElem? (i := 294) (by decide +kernel)⟩
def lw_privs_1 : List (MethodName × Nat) := [(⟨"SimilarityJoin", "isRecord", "(I)Z"⟩, 14), (⟨"SimilarityJoin", "refresh", "()V"⟩, 14), (⟨"SimilarityJoin", "rankTokens", "()V"⟩, 14), (⟨"SimilarityJoin", "spell", "(II)V"⟩, 14), (⟨"SimilarityJoin", "prefixLength", "(I)I"⟩, 14), (⟨"SimilarityJoin", "probe", "(II)I"⟩, 14), (⟨"SimilarityJoin", "verify", "(III)Z"⟩, 14), (⟨"SimilarityJoin", "joinRow", "(I)V"⟩, 14), (⟨"SimilarityJoin", "root", "(I)I"⟩, 14), (⟨"SimilarityJoin", "probeDraft", "()I"⟩, 14), (⟨"SimilarityJoinModel", "badToken", "(I)Z"⟩, 5), (⟨"SimilarityJoinModel", "sizeOf", "(I)I"⟩, 5), (⟨"SimilarityJoinModel", "bad", "(I)Z"⟩, 5), (⟨"SimilarityJoinModel", "copy", "(II)V"⟩, 5), (⟨"SimilarityJoinModel", "both", "(II)I"⟩, 5), (⟨"SimilarityJoinModel", "alike", "(II)Z"⟩, 5)]
theorem lw_r1 : ∀ q ∈ lw_privs_1, lw_okq q := List.forall_mem_cons.mpr ⟨lw_p0, List.forall_mem_cons.mpr ⟨lw_p1, List.forall_mem_cons.mpr ⟨lw_p2, List.forall_mem_cons.mpr ⟨lw_p3, List.forall_mem_cons.mpr ⟨lw_p4, List.forall_mem_cons.mpr ⟨lw_p5, List.forall_mem_cons.mpr ⟨lw_p6, List.forall_mem_cons.mpr ⟨lw_p7, List.forall_mem_cons.mpr ⟨lw_p8, List.forall_mem_cons.mpr ⟨lw_p9, List.forall_mem_cons.mpr ⟨lw_p10, List.forall_mem_cons.mpr ⟨lw_p11, List.forall_mem_cons.mpr ⟨lw_p12, List.forall_mem_cons.mpr ⟨lw_p13, List.forall_mem_cons.mpr ⟨lw_p14, List.forall_mem_cons.mpr ⟨lw_p15, fun _ h => absurd h List.not_mem_nil⟩⟩⟩⟩⟩⟩⟩⟩⟩⟩⟩⟩⟩⟩⟩⟩
theorem lw_p16 : lw_okq (⟨"SimilarityJoinModel", "either", "(II)I"⟩, 5) := ⟨⟨by decide +kernel, by decide +kernel⟩, List.mem_of_getElem? (i := 198) (by decide +kernel), List.mem_of_getElem? (i := 297) (by decide +kernel), List.mem_of_getElem? (i := 298) (by decide +kernel)⟩
theorem lw_p17 : lw_okq (⟨"SimilarityJoinModel", "join", "()V"⟩, 5) := ⟨⟨by decide +kernel, by decide +kernel⟩, List.mem_of_getElem? (i := 198) (by decide +kernel), List.mem_of_getElem? (i := 333) (by decide +kernel), List.mem_of_getElem? (i := 334) (by decide +kernel)⟩
theorem lw_p18 : lw_okq (⟨"SimilarityJoinModel", "lower", "()Z"⟩, 5) := ⟨⟨by decide +kernel, by decide +kernel⟩, List.mem_of_getElem? (i := 198) (by decide +kernel), List.mem_of_getElem? (i := 337) (by decide +kernel), List.mem_of_getElem? (i := 338) (by decide +kernel)⟩
def lw_privs_2 : List (MethodName × Nat) := [(⟨"SimilarityJoinModel", "either", "(II)I"⟩, 5), (⟨"SimilarityJoinModel", "join", "()V"⟩, 5), (⟨"SimilarityJoinModel", "lower", "()Z"⟩, 5)]
theorem lw_r2 : ∀ q ∈ lw_privs_2, lw_okq q := List.forall_mem_cons.mpr ⟨lw_p16, List.forall_mem_cons.mpr ⟨lw_p17, List.forall_mem_cons.mpr ⟨lw_p18, fun _ h => absurd h List.not_mem_nil⟩⟩⟩
def lw_privs : List (MethodName × Nat) := lw_privs_1 ++ (lw_privs_2)
def lw_tbl : List Cond := k2_sels lw_privs ++ tables_1
theorem lw_privs_ok : ∀ q ∈ lw_privs, lw_okq q := by
  show ∀ q ∈ lw_privs_1 ++ (lw_privs_2), lw_okq q
  exact List.forall_mem_append.mpr ⟨lw_r1, lw_r2⟩
/-- the words that every contract stands on: those of lw_tbl that stay good at a call -/
def zw_tbl : List Cond := lw_tbl.filter (fun w => k2_isCode w || goodWord w)
theorem zw_good {w : Cond} (h : w ∈ zw_tbl) : w ∈ lw_tbl ∧ ((w.onTables && w.keeps) = true ∨ ∃ ty, w = .arrayClass ty) := by
  obtain ⟨h1, h2⟩ := List.mem_filter.mp h
  refine ⟨h1, ?_⟩
  rcases Bool.or_eq_true_iff.mp h2 with h | h
  · cases w <;> first | (simp [k2_isCode] at h; done) | exact Or.inl rfl
  · exact good_of_word h
theorem zw_in {w : Cond} (i : Nat) (h : lw_tbl[i]? = some w) (hg : (k2_isCode w || goodWord w) = true) : w ∈ zw_tbl := List.mem_filter.mpr ⟨List.mem_of_getElem? h, hg⟩
def R_J : String := "SimilarityJoin"
def R_M : String := "SimilarityJoinModel"
def R_law : String := "SimilarityJoinLaw"
def F_J : u_T := fun k => match k with
  | 0 => ("SimilarityJoin", "masks", "[I", true)
  | 1 => ("SimilarityJoin", "sizes", "[I", true)
  | 2 => ("SimilarityJoin", "ranks", "[I", true)
  | 3 => ("SimilarityJoin", "rankOf", "[I", true)
  | 4 => ("SimilarityJoin", "counts", "[I", true)
  | 5 => ("SimilarityJoin", "index", "[I", true)
  | 6 => ("SimilarityJoin", "rows", "[I", true)
  | 7 => ("SimilarityJoin", "parent", "[I", true)
  | 8 => ("SimilarityJoin", "draft", "I", false)
  | 9 => ("SimilarityJoin", "draftSize", "I", false)
  | 10 => ("SimilarityJoin", "count", "I", false)
  | 11 => ("SimilarityJoin", "top", "I", false)
  | 12 => ("SimilarityJoin", "bottom", "I", false)
  | _ => ("SimilarityJoin", "current", "Z", false)
def t_J : Nat → FieldType := fun k => match k with
  | 0 => .array .int
  | 1 => .array .int
  | 2 => .array .int
  | 3 => .array .int
  | 4 => .array .int
  | 5 => .array .int
  | 6 => .array .int
  | 7 => .array .int
  | 8 => .int
  | 9 => .int
  | 10 => .int
  | 11 => .int
  | 12 => .int
  | _ => .boolean
def F_M : u_T := fun k => match k with
  | 0 => ("SimilarityJoinModel", "in", "[Z", false)
  | 1 => ("SimilarityJoinModel", "count", "I", false)
  | 2 => ("SimilarityJoinModel", "t", "I", false)
  | 3 => ("SimilarityJoinModel", "u", "I", false)
  | _ => ("SimilarityJoinModel", "label", "[I", false)
def t_M : Nat → FieldType := fun k => match k with
  | 0 => .array .boolean
  | 1 => .int
  | 2 => .int
  | 3 => .int
  | _ => .array .int
theorem n_J : ∀ a, a < 14 → ∀ b, b < 14 → a ≠ b → (F_J a).2.1 ≠ (F_J b).2.1 := by decide +kernel
theorem t_J_ok : ∀ k, k < 14 → parseFieldDescriptor (F_J k).2.2.1 = some (t_J k) := by decide +kernel
theorem n_M : ∀ a, a < 5 → ∀ b, b < 5 → a ≠ b → (F_M a).2.1 ≠ (F_M b).2.1 := by decide +kernel
theorem t_M_ok : ∀ k, k < 5 → parseFieldDescriptor (F_M k).2.2.1 = some (t_M k) := by decide +kernel
abbrev zcl : List vw_C := [(R_J, F_J, 14), (R_M, F_M, 5)]
abbrev b_J_init : ByteArray := prog_1_method_1_code
def y_J_init : MethodName := ⟨R_J, "<init>", "()V"⟩
abbrev b_J_token : ByteArray := prog_1_method_2_code
def y_J_token : MethodName := ⟨R_J, "token", "(I)I"⟩
abbrev b_J_isToken : ByteArray := prog_1_method_25_code
def y_J_isToken : MethodName := ⟨R_J, "isToken", "(I)Z"⟩
abbrev b_J_drop : ByteArray := prog_1_method_3_code
def y_J_drop : MethodName := ⟨R_J, "drop", "(I)I"⟩
abbrev b_J_clear : ByteArray := prog_1_method_4_code
def y_J_clear : MethodName := ⟨R_J, "clear", "()I"⟩
abbrev b_J_recall : ByteArray := prog_1_method_5_code
def y_J_recall : MethodName := ⟨R_J, "recall", "(I)I"⟩
abbrev b_J_isRecord : ByteArray := prog_1_method_26_code
def y_J_isRecord : MethodName := ⟨R_J, "isRecord", "(I)Z"⟩
abbrev b_J_store : ByteArray := prog_1_method_6_code
def y_J_store : MethodName := ⟨R_J, "store", "()I"⟩
abbrev b_J_remove : ByteArray := prog_1_method_7_code
def y_J_remove : MethodName := ⟨R_J, "remove", "(I)I"⟩
abbrev b_J_threshold : ByteArray := prog_1_method_8_code
def y_J_threshold : MethodName := ⟨R_J, "threshold", "(II)I"⟩
abbrev b_J_records : ByteArray := prog_1_method_9_code
def y_J_records : MethodName := ⟨R_J, "records", "()I"⟩
abbrev b_J_size : ByteArray := prog_1_method_10_code
def y_J_size : MethodName := ⟨R_J, "size", "(I)I"⟩
abbrev b_J_has : ByteArray := prog_1_method_11_code
def y_J_has : MethodName := ⟨R_J, "has", "(II)I"⟩
abbrev b_J_frequency : ByteArray := prog_1_method_12_code
def y_J_frequency : MethodName := ⟨R_J, "frequency", "(I)I"⟩
abbrev b_J_refresh : ByteArray := prog_1_method_28_code
def y_J_refresh : MethodName := ⟨R_J, "refresh", "()V"⟩
abbrev b_J_rankTokens : ByteArray := prog_1_method_29_code
def y_J_rankTokens : MethodName := ⟨R_J, "rankTokens", "()V"⟩
abbrev b_J_spell : ByteArray := prog_1_method_30_code
def y_J_spell : MethodName := ⟨R_J, "spell", "(II)V"⟩
abbrev b_J_prefixLength : ByteArray := prog_1_method_31_code
def y_J_prefixLength : MethodName := ⟨R_J, "prefixLength", "(I)I"⟩
abbrev b_J_probe : ByteArray := prog_1_method_32_code
def y_J_probe : MethodName := ⟨R_J, "probe", "(II)I"⟩
abbrev b_J_verify : ByteArray := prog_1_method_33_code
def y_J_verify : MethodName := ⟨R_J, "verify", "(III)Z"⟩
abbrev b_J_joinRow : ByteArray := prog_1_method_35_code
def y_J_joinRow : MethodName := ⟨R_J, "joinRow", "(I)V"⟩
abbrev b_J_root : ByteArray := prog_1_method_36_code
def y_J_root : MethodName := ⟨R_J, "root", "(I)I"⟩
abbrev b_J_common : ByteArray := prog_1_method_13_code
def y_J_common : MethodName := ⟨R_J, "common", "(II)I"⟩
abbrev b_J_ones : ByteArray := prog_1_method_27_code
def y_J_ones : MethodName := ⟨R_J, "ones", "(I)I"⟩
abbrev b_J_similar : ByteArray := prog_1_method_14_code
def y_J_similar : MethodName := ⟨R_J, "similar", "(II)I"⟩
abbrev b_J_pairs : ByteArray := prog_1_method_15_code
def y_J_pairs : MethodName := ⟨R_J, "pairs", "()I"⟩
abbrev b_J_degree : ByteArray := prog_1_method_16_code
def y_J_degree : MethodName := ⟨R_J, "degree", "(I)I"⟩
abbrev b_J_partner : ByteArray := prog_1_method_17_code
def y_J_partner : MethodName := ⟨R_J, "partner", "(II)I"⟩
abbrev b_J_nearest : ByteArray := prog_1_method_18_code
def y_J_nearest : MethodName := ⟨R_J, "nearest", "(I)I"⟩
abbrev b_J_matches : ByteArray := prog_1_method_19_code
def y_J_matches : MethodName := ⟨R_J, "matches", "()I"⟩
abbrev b_J_probeDraft : ByteArray := prog_1_method_34_code
def y_J_probeDraft : MethodName := ⟨R_J, "probeDraft", "()I"⟩
abbrev b_J_match : ByteArray := prog_1_method_20_code
def y_J_match : MethodName := ⟨R_J, "match", "(I)I"⟩
abbrev b_J_containing : ByteArray := prog_1_method_21_code
def y_J_containing : MethodName := ⟨R_J, "containing", "()I"⟩
abbrev b_J_groups : ByteArray := prog_1_method_22_code
def y_J_groups : MethodName := ⟨R_J, "groups", "()I"⟩
abbrev b_J_groupOf : ByteArray := prog_1_method_23_code
def y_J_groupOf : MethodName := ⟨R_J, "groupOf", "(I)I"⟩
abbrev b_J_groupSize : ByteArray := prog_1_method_24_code
def y_J_groupSize : MethodName := ⟨R_J, "groupSize", "(I)I"⟩
abbrev b_M_init : ByteArray := prog_3_method_1_code
def y_M_init : MethodName := ⟨R_M, "<init>", "()V"⟩
abbrev b_M_token : ByteArray := prog_3_method_5_code
def y_M_token : MethodName := ⟨R_M, "token", "(I)I"⟩
abbrev b_M_badToken : ByteArray := prog_3_method_2_code
def y_M_badToken : MethodName := ⟨R_M, "badToken", "(I)Z"⟩
abbrev b_M_sizeOf : ByteArray := prog_3_method_4_code
def y_M_sizeOf : MethodName := ⟨R_M, "sizeOf", "(I)I"⟩
abbrev b_M_drop : ByteArray := prog_3_method_6_code
def y_M_drop : MethodName := ⟨R_M, "drop", "(I)I"⟩
abbrev b_M_clear : ByteArray := prog_3_method_7_code
def y_M_clear : MethodName := ⟨R_M, "clear", "()I"⟩
abbrev b_M_recall : ByteArray := prog_3_method_9_code
def y_M_recall : MethodName := ⟨R_M, "recall", "(I)I"⟩
abbrev b_M_bad : ByteArray := prog_3_method_3_code
def y_M_bad : MethodName := ⟨R_M, "bad", "(I)Z"⟩
abbrev b_M_copy : ByteArray := prog_3_method_8_code
def y_M_copy : MethodName := ⟨R_M, "copy", "(II)V"⟩
abbrev b_M_store : ByteArray := prog_3_method_10_code
def y_M_store : MethodName := ⟨R_M, "store", "()I"⟩
abbrev b_M_remove : ByteArray := prog_3_method_11_code
def y_M_remove : MethodName := ⟨R_M, "remove", "(I)I"⟩
abbrev b_M_threshold : ByteArray := prog_3_method_12_code
def y_M_threshold : MethodName := ⟨R_M, "threshold", "(II)I"⟩
abbrev b_M_records : ByteArray := prog_3_method_13_code
def y_M_records : MethodName := ⟨R_M, "records", "()I"⟩
abbrev b_M_size : ByteArray := prog_3_method_14_code
def y_M_size : MethodName := ⟨R_M, "size", "(I)I"⟩
abbrev b_M_has : ByteArray := prog_3_method_15_code
def y_M_has : MethodName := ⟨R_M, "has", "(II)I"⟩
abbrev b_M_frequency : ByteArray := prog_3_method_16_code
def y_M_frequency : MethodName := ⟨R_M, "frequency", "(I)I"⟩
abbrev b_M_common : ByteArray := prog_3_method_20_code
def y_M_common : MethodName := ⟨R_M, "common", "(II)I"⟩
abbrev b_M_both : ByteArray := prog_3_method_17_code
def y_M_both : MethodName := ⟨R_M, "both", "(II)I"⟩
abbrev b_M_similar : ByteArray := prog_3_method_21_code
def y_M_similar : MethodName := ⟨R_M, "similar", "(II)I"⟩
abbrev b_M_alike : ByteArray := prog_3_method_19_code
def y_M_alike : MethodName := ⟨R_M, "alike", "(II)Z"⟩
abbrev b_M_either : ByteArray := prog_3_method_18_code
def y_M_either : MethodName := ⟨R_M, "either", "(II)I"⟩
abbrev b_M_pairs : ByteArray := prog_3_method_22_code
def y_M_pairs : MethodName := ⟨R_M, "pairs", "()I"⟩
abbrev b_M_degree : ByteArray := prog_3_method_23_code
def y_M_degree : MethodName := ⟨R_M, "degree", "(I)I"⟩
abbrev b_M_partner : ByteArray := prog_3_method_24_code
def y_M_partner : MethodName := ⟨R_M, "partner", "(II)I"⟩
abbrev b_M_nearest : ByteArray := prog_3_method_25_code
def y_M_nearest : MethodName := ⟨R_M, "nearest", "(I)I"⟩
abbrev b_M_matches : ByteArray := prog_3_method_26_code
def y_M_matches : MethodName := ⟨R_M, "matches", "()I"⟩
abbrev b_M_match : ByteArray := prog_3_method_27_code
def y_M_match : MethodName := ⟨R_M, "match", "(I)I"⟩
abbrev b_M_containing : ByteArray := prog_3_method_28_code
def y_M_containing : MethodName := ⟨R_M, "containing", "()I"⟩
abbrev b_M_groups : ByteArray := prog_3_method_31_code
def y_M_groups : MethodName := ⟨R_M, "groups", "()I"⟩
abbrev b_M_join : ByteArray := prog_3_method_29_code
def y_M_join : MethodName := ⟨R_M, "join", "()V"⟩
abbrev b_M_lower : ByteArray := prog_3_method_30_code
def y_M_lower : MethodName := ⟨R_M, "lower", "()Z"⟩
abbrev b_M_groupOf : ByteArray := prog_3_method_32_code
def y_M_groupOf : MethodName := ⟨R_M, "groupOf", "(I)I"⟩
abbrev b_M_groupSize : ByteArray := prog_3_method_33_code
def y_M_groupSize : MethodName := ⟨R_M, "groupSize", "(I)I"⟩
theorem ms_J_isRecord : Cond.selects R_J y_J_isRecord y_J_isRecord ∈ zw_tbl := zw_in 0 (by decide +kernel) rfl
theorem ms_J_refresh : Cond.selects R_J y_J_refresh y_J_refresh ∈ zw_tbl := zw_in 1 (by decide +kernel) rfl
theorem ms_J_rankTokens : Cond.selects R_J y_J_rankTokens y_J_rankTokens ∈ zw_tbl := zw_in 2 (by decide +kernel) rfl
theorem ms_J_spell : Cond.selects R_J y_J_spell y_J_spell ∈ zw_tbl := zw_in 3 (by decide +kernel) rfl
theorem ms_J_prefixLength : Cond.selects R_J y_J_prefixLength y_J_prefixLength ∈ zw_tbl := zw_in 4 (by decide +kernel) rfl
theorem ms_J_probe : Cond.selects R_J y_J_probe y_J_probe ∈ zw_tbl := zw_in 5 (by decide +kernel) rfl
theorem ms_J_verify : Cond.selects R_J y_J_verify y_J_verify ∈ zw_tbl := zw_in 6 (by decide +kernel) rfl
theorem ms_J_joinRow : Cond.selects R_J y_J_joinRow y_J_joinRow ∈ zw_tbl := zw_in 7 (by decide +kernel) rfl
theorem ms_J_root : Cond.selects R_J y_J_root y_J_root ∈ zw_tbl := zw_in 8 (by decide +kernel) rfl
theorem ms_J_probeDraft : Cond.selects R_J y_J_probeDraft y_J_probeDraft ∈ zw_tbl := zw_in 9 (by decide +kernel) rfl
theorem ms_M_badToken : Cond.selects R_M y_M_badToken y_M_badToken ∈ zw_tbl := zw_in 10 (by decide +kernel) rfl
theorem ms_M_sizeOf : Cond.selects R_M y_M_sizeOf y_M_sizeOf ∈ zw_tbl := zw_in 11 (by decide +kernel) rfl
theorem ms_M_bad : Cond.selects R_M y_M_bad y_M_bad ∈ zw_tbl := zw_in 12 (by decide +kernel) rfl
theorem ms_M_copy : Cond.selects R_M y_M_copy y_M_copy ∈ zw_tbl := zw_in 13 (by decide +kernel) rfl
theorem ms_M_both : Cond.selects R_M y_M_both y_M_both ∈ zw_tbl := zw_in 14 (by decide +kernel) rfl
theorem ms_M_alike : Cond.selects R_M y_M_alike y_M_alike ∈ zw_tbl := zw_in 15 (by decide +kernel) rfl
theorem ms_M_either : Cond.selects R_M y_M_either y_M_either ∈ zw_tbl := zw_in 16 (by decide +kernel) rfl
theorem ms_M_join : Cond.selects R_M y_M_join y_M_join ∈ zw_tbl := zw_in 17 (by decide +kernel) rfl
theorem ms_M_lower : Cond.selects R_M y_M_lower y_M_lower ∈ zw_tbl := zw_in 18 (by decide +kernel) rfl
theorem mi_law : Cond.initialized R_law ∈ zw_tbl := zw_in 19 (by decide +kernel) rfl
theorem mi_J : Cond.initialized R_J ∈ zw_tbl := zw_in 20 (by decide +kernel) rfl
theorem mi_M : Cond.initialized R_M ∈ zw_tbl := zw_in 21 (by decide +kernel) rfl
theorem mcl_J : Cond.classLink R_law 7 R_J ∈ zw_tbl := zw_in 22 (by decide +kernel) rfl
theorem mb_J : Cond.instantiable R_J 14 ∈ zw_tbl := zw_in 23 (by decide +kernel) rfl
theorem ml_law_9 : Cond.methodLink R_law 9 y_J_init ∈ zw_tbl := zw_in 24 (by decide +kernel) rfl
theorem mn_J_init : Cond.instanceMethod y_J_init ∈ zw_tbl := zw_in 25 (by decide +kernel) rfl
set_option maxRecDepth 20000 in
theorem mc_J_init : Cond.code y_J_init b_J_init 1 none ∈ zw_tbl := zw_in 26 rfl rfl
theorem ml_J_1 : Cond.methodLink R_J 1 objectInit ∈ zw_tbl := zw_in 27 (by decide +kernel) rfl
theorem mn_obj : Cond.instanceMethod objectInit ∈ zw_tbl := zw_in 28 (by decide +kernel) rfl
set_option maxRecDepth 20000 in
theorem mc_obj : Cond.code objectInit ⟨#[0xb1]⟩ 1 none ∈ zw_tbl := zw_in 29 rfl rfl
theorem mf_J_masks : Cond.fieldLink R_J 7 R_J "masks" "[I" ∈ zw_tbl := zw_in 30 (by decide +kernel) rfl
theorem mf_J_sizes : Cond.fieldLink R_J 13 R_J "sizes" "[I" ∈ zw_tbl := zw_in 31 (by decide +kernel) rfl
theorem mf_J_ranks : Cond.fieldLink R_J 16 R_J "ranks" "[I" ∈ zw_tbl := zw_in 32 (by decide +kernel) rfl
theorem mf_J_rankOf : Cond.fieldLink R_J 19 R_J "rankOf" "[I" ∈ zw_tbl := zw_in 33 (by decide +kernel) rfl
theorem mf_J_counts : Cond.fieldLink R_J 22 R_J "counts" "[I" ∈ zw_tbl := zw_in 34 (by decide +kernel) rfl
theorem mf_J_index : Cond.fieldLink R_J 25 R_J "index" "[I" ∈ zw_tbl := zw_in 35 (by decide +kernel) rfl
theorem mf_J_rows : Cond.fieldLink R_J 28 R_J "rows" "[I" ∈ zw_tbl := zw_in 36 (by decide +kernel) rfl
theorem mf_J_parent : Cond.fieldLink R_J 31 R_J "parent" "[I" ∈ zw_tbl := zw_in 37 (by decide +kernel) rfl
theorem mf_J_draft : Cond.fieldLink R_J 45 R_J "draft" "I" ∈ zw_tbl := zw_in 38 (by decide +kernel) rfl
theorem mf_J_draftSize : Cond.fieldLink R_J 48 R_J "draftSize" "I" ∈ zw_tbl := zw_in 39 (by decide +kernel) rfl
theorem mf_J_count : Cond.fieldLink R_J 54 R_J "count" "I" ∈ zw_tbl := zw_in 40 (by decide +kernel) rfl
theorem mf_J_top : Cond.fieldLink R_J 34 R_J "top" "I" ∈ zw_tbl := zw_in 41 (by decide +kernel) rfl
theorem mf_J_bottom : Cond.fieldLink R_J 38 R_J "bottom" "I" ∈ zw_tbl := zw_in 42 (by decide +kernel) rfl
theorem mf_J_current : Cond.fieldLink R_J 57 R_J "current" "Z" ∈ zw_tbl := zw_in 43 (by decide +kernel) rfl
theorem ma_int : Cond.arrayClass .int ∈ zw_tbl := zw_in 73 (by decide +kernel) rfl
theorem ml_law_13 : Cond.methodLink R_law 13 y_J_token ∈ zw_tbl := zw_in 74 (by decide +kernel) rfl
theorem mn_J_token : Cond.instanceMethod y_J_token ∈ zw_tbl := zw_in 75 (by decide +kernel) rfl
theorem ms_J_token : Cond.selects R_J y_J_token y_J_token ∈ zw_tbl := zw_in 76 (by decide +kernel) rfl
set_option maxRecDepth 20000 in
theorem mc_J_token : Cond.code y_J_token b_J_token 3 (some .int) ∈ zw_tbl := zw_in 77 rfl rfl
theorem ml_J_41 : Cond.methodLink R_J 41 y_J_isToken ∈ zw_tbl := zw_in 78 (by decide +kernel) rfl
theorem mt_J_isToken : Cond.static y_J_isToken ∈ zw_tbl := zw_in 79 (by decide +kernel) rfl
set_option maxRecDepth 20000 in
theorem mc_J_isToken : Cond.code y_J_isToken b_J_isToken 1 (some .boolean) ∈ zw_tbl := zw_in 80 rfl rfl
theorem ml_law_18 : Cond.methodLink R_law 18 y_J_drop ∈ zw_tbl := zw_in 81 (by decide +kernel) rfl
theorem mn_J_drop : Cond.instanceMethod y_J_drop ∈ zw_tbl := zw_in 82 (by decide +kernel) rfl
theorem ms_J_drop : Cond.selects R_J y_J_drop y_J_drop ∈ zw_tbl := zw_in 83 (by decide +kernel) rfl
set_option maxRecDepth 20000 in
theorem mc_J_drop : Cond.code y_J_drop b_J_drop 3 (some .int) ∈ zw_tbl := zw_in 84 rfl rfl
theorem ml_law_22 : Cond.methodLink R_law 22 y_J_clear ∈ zw_tbl := zw_in 85 (by decide +kernel) rfl
theorem mn_J_clear : Cond.instanceMethod y_J_clear ∈ zw_tbl := zw_in 86 (by decide +kernel) rfl
theorem ms_J_clear : Cond.selects R_J y_J_clear y_J_clear ∈ zw_tbl := zw_in 87 (by decide +kernel) rfl
set_option maxRecDepth 20000 in
theorem mc_J_clear : Cond.code y_J_clear b_J_clear 2 (some .int) ∈ zw_tbl := zw_in 88 rfl rfl
theorem ml_law_27 : Cond.methodLink R_law 27 y_J_recall ∈ zw_tbl := zw_in 89 (by decide +kernel) rfl
theorem mn_J_recall : Cond.instanceMethod y_J_recall ∈ zw_tbl := zw_in 90 (by decide +kernel) rfl
theorem ms_J_recall : Cond.selects R_J y_J_recall y_J_recall ∈ zw_tbl := zw_in 91 (by decide +kernel) rfl
set_option maxRecDepth 20000 in
theorem mc_J_recall : Cond.code y_J_recall b_J_recall 2 (some .int) ∈ zw_tbl := zw_in 92 rfl rfl
theorem ml_J_51 : Cond.methodLink R_J 51 y_J_isRecord ∈ zw_tbl := zw_in 93 (by decide +kernel) rfl
theorem mn_J_isRecord : Cond.instanceMethod y_J_isRecord ∈ zw_tbl := zw_in 95 (by decide +kernel) rfl
set_option maxRecDepth 20000 in
theorem mc_J_isRecord : Cond.code y_J_isRecord b_J_isRecord 2 (some .boolean) ∈ zw_tbl := zw_in 96 rfl rfl
theorem ml_law_31 : Cond.methodLink R_law 31 y_J_store ∈ zw_tbl := zw_in 97 (by decide +kernel) rfl
theorem mn_J_store : Cond.instanceMethod y_J_store ∈ zw_tbl := zw_in 98 (by decide +kernel) rfl
theorem ms_J_store : Cond.selects R_J y_J_store y_J_store ∈ zw_tbl := zw_in 99 (by decide +kernel) rfl
set_option maxRecDepth 20000 in
theorem mc_J_store : Cond.code y_J_store b_J_store 1 (some .int) ∈ zw_tbl := zw_in 100 rfl rfl
theorem ml_law_35 : Cond.methodLink R_law 35 y_J_remove ∈ zw_tbl := zw_in 101 (by decide +kernel) rfl
theorem mn_J_remove : Cond.instanceMethod y_J_remove ∈ zw_tbl := zw_in 102 (by decide +kernel) rfl
theorem ms_J_remove : Cond.selects R_J y_J_remove y_J_remove ∈ zw_tbl := zw_in 103 (by decide +kernel) rfl
set_option maxRecDepth 20000 in
theorem mc_J_remove : Cond.code y_J_remove b_J_remove 3 (some .int) ∈ zw_tbl := zw_in 104 rfl rfl
theorem ml_law_39 : Cond.methodLink R_law 39 y_J_threshold ∈ zw_tbl := zw_in 105 (by decide +kernel) rfl
theorem mn_J_threshold : Cond.instanceMethod y_J_threshold ∈ zw_tbl := zw_in 106 (by decide +kernel) rfl
theorem ms_J_threshold : Cond.selects R_J y_J_threshold y_J_threshold ∈ zw_tbl := zw_in 107 (by decide +kernel) rfl
set_option maxRecDepth 20000 in
theorem mc_J_threshold : Cond.code y_J_threshold b_J_threshold 3 (some .int) ∈ zw_tbl := zw_in 108 rfl rfl
theorem ml_law_44 : Cond.methodLink R_law 44 y_J_records ∈ zw_tbl := zw_in 109 (by decide +kernel) rfl
theorem mn_J_records : Cond.instanceMethod y_J_records ∈ zw_tbl := zw_in 110 (by decide +kernel) rfl
theorem ms_J_records : Cond.selects R_J y_J_records y_J_records ∈ zw_tbl := zw_in 111 (by decide +kernel) rfl
set_option maxRecDepth 20000 in
theorem mc_J_records : Cond.code y_J_records b_J_records 1 (some .int) ∈ zw_tbl := zw_in 112 rfl rfl
theorem ml_law_48 : Cond.methodLink R_law 48 y_J_size ∈ zw_tbl := zw_in 113 (by decide +kernel) rfl
theorem mn_J_size : Cond.instanceMethod y_J_size ∈ zw_tbl := zw_in 114 (by decide +kernel) rfl
theorem ms_J_size : Cond.selects R_J y_J_size y_J_size ∈ zw_tbl := zw_in 115 (by decide +kernel) rfl
set_option maxRecDepth 20000 in
theorem mc_J_size : Cond.code y_J_size b_J_size 2 (some .int) ∈ zw_tbl := zw_in 116 rfl rfl
theorem ml_law_52 : Cond.methodLink R_law 52 y_J_has ∈ zw_tbl := zw_in 117 (by decide +kernel) rfl
theorem mn_J_has : Cond.instanceMethod y_J_has ∈ zw_tbl := zw_in 118 (by decide +kernel) rfl
theorem ms_J_has : Cond.selects R_J y_J_has y_J_has ∈ zw_tbl := zw_in 119 (by decide +kernel) rfl
set_option maxRecDepth 20000 in
theorem mc_J_has : Cond.code y_J_has b_J_has 3 (some .int) ∈ zw_tbl := zw_in 120 rfl rfl
theorem ml_law_56 : Cond.methodLink R_law 56 y_J_frequency ∈ zw_tbl := zw_in 121 (by decide +kernel) rfl
theorem mn_J_frequency : Cond.instanceMethod y_J_frequency ∈ zw_tbl := zw_in 122 (by decide +kernel) rfl
theorem ms_J_frequency : Cond.selects R_J y_J_frequency y_J_frequency ∈ zw_tbl := zw_in 123 (by decide +kernel) rfl
set_option maxRecDepth 20000 in
theorem mc_J_frequency : Cond.code y_J_frequency b_J_frequency 2 (some .int) ∈ zw_tbl := zw_in 124 rfl rfl
theorem ml_J_61 : Cond.methodLink R_J 61 y_J_refresh ∈ zw_tbl := zw_in 125 (by decide +kernel) rfl
theorem mn_J_refresh : Cond.instanceMethod y_J_refresh ∈ zw_tbl := zw_in 127 (by decide +kernel) rfl
set_option maxRecDepth 20000 in
theorem mc_J_refresh : Cond.code y_J_refresh b_J_refresh 5 none ∈ zw_tbl := zw_in 128 rfl rfl
theorem ml_J_79 : Cond.methodLink R_J 79 y_J_rankTokens ∈ zw_tbl := zw_in 129 (by decide +kernel) rfl
theorem mn_J_rankTokens : Cond.instanceMethod y_J_rankTokens ∈ zw_tbl := zw_in 131 (by decide +kernel) rfl
set_option maxRecDepth 20000 in
theorem mc_J_rankTokens : Cond.code y_J_rankTokens b_J_rankTokens 4 none ∈ zw_tbl := zw_in 132 rfl rfl
theorem ml_J_82 : Cond.methodLink R_J 82 y_J_spell ∈ zw_tbl := zw_in 133 (by decide +kernel) rfl
theorem mn_J_spell : Cond.instanceMethod y_J_spell ∈ zw_tbl := zw_in 135 (by decide +kernel) rfl
set_option maxRecDepth 20000 in
theorem mc_J_spell : Cond.code y_J_spell b_J_spell 6 none ∈ zw_tbl := zw_in 136 rfl rfl
theorem ml_J_86 : Cond.methodLink R_J 86 y_J_prefixLength ∈ zw_tbl := zw_in 137 (by decide +kernel) rfl
theorem mn_J_prefixLength : Cond.instanceMethod y_J_prefixLength ∈ zw_tbl := zw_in 139 (by decide +kernel) rfl
set_option maxRecDepth 20000 in
theorem mc_J_prefixLength : Cond.code y_J_prefixLength b_J_prefixLength 3 (some .int) ∈ zw_tbl := zw_in 140 rfl rfl
theorem ml_J_89 : Cond.methodLink R_J 89 y_J_probe ∈ zw_tbl := zw_in 141 (by decide +kernel) rfl
theorem mn_J_probe : Cond.instanceMethod y_J_probe ∈ zw_tbl := zw_in 143 (by decide +kernel) rfl
set_option maxRecDepth 20000 in
theorem mc_J_probe : Cond.code y_J_probe b_J_probe 8 (some .int) ∈ zw_tbl := zw_in 144 rfl rfl
theorem ml_J_97 : Cond.methodLink R_J 97 y_J_verify ∈ zw_tbl := zw_in 145 (by decide +kernel) rfl
theorem mn_J_verify : Cond.instanceMethod y_J_verify ∈ zw_tbl := zw_in 147 (by decide +kernel) rfl
set_option maxRecDepth 20000 in
theorem mc_J_verify : Cond.code y_J_verify b_J_verify 13 (some .boolean) ∈ zw_tbl := zw_in 148 rfl rfl
theorem ml_J_93 : Cond.methodLink R_J 93 y_J_joinRow ∈ zw_tbl := zw_in 149 (by decide +kernel) rfl
theorem mn_J_joinRow : Cond.instanceMethod y_J_joinRow ∈ zw_tbl := zw_in 151 (by decide +kernel) rfl
set_option maxRecDepth 20000 in
theorem mc_J_joinRow : Cond.code y_J_joinRow b_J_joinRow 6 none ∈ zw_tbl := zw_in 152 rfl rfl
theorem ml_J_72 : Cond.methodLink R_J 72 y_J_root ∈ zw_tbl := zw_in 153 (by decide +kernel) rfl
theorem mn_J_root : Cond.instanceMethod y_J_root ∈ zw_tbl := zw_in 155 (by decide +kernel) rfl
set_option maxRecDepth 20000 in
theorem mc_J_root : Cond.code y_J_root b_J_root 4 (some .int) ∈ zw_tbl := zw_in 156 rfl rfl
theorem ml_law_60 : Cond.methodLink R_law 60 y_J_common ∈ zw_tbl := zw_in 157 (by decide +kernel) rfl
theorem mn_J_common : Cond.instanceMethod y_J_common ∈ zw_tbl := zw_in 158 (by decide +kernel) rfl
theorem ms_J_common : Cond.selects R_J y_J_common y_J_common ∈ zw_tbl := zw_in 159 (by decide +kernel) rfl
set_option maxRecDepth 20000 in
theorem mc_J_common : Cond.code y_J_common b_J_common 3 (some .int) ∈ zw_tbl := zw_in 160 rfl rfl
theorem ml_J_64 : Cond.methodLink R_J 64 y_J_ones ∈ zw_tbl := zw_in 161 (by decide +kernel) rfl
theorem mt_J_ones : Cond.static y_J_ones ∈ zw_tbl := zw_in 162 (by decide +kernel) rfl
set_option maxRecDepth 20000 in
theorem mc_J_ones : Cond.code y_J_ones b_J_ones 2 (some .int) ∈ zw_tbl := zw_in 163 rfl rfl
theorem mk_75 : Cond.constant R_J 75 1431655765 ∈ zw_tbl := zw_in 164 (by decide +kernel) rfl
theorem mk_76 : Cond.constant R_J 76 858993459 ∈ zw_tbl := zw_in 165 (by decide +kernel) rfl
theorem mk_77 : Cond.constant R_J 77 252645135 ∈ zw_tbl := zw_in 166 (by decide +kernel) rfl
theorem mk_78 : Cond.constant R_J 78 16843009 ∈ zw_tbl := zw_in 167 (by decide +kernel) rfl
theorem ml_law_64 : Cond.methodLink R_law 64 y_J_similar ∈ zw_tbl := zw_in 168 (by decide +kernel) rfl
theorem mn_J_similar : Cond.instanceMethod y_J_similar ∈ zw_tbl := zw_in 169 (by decide +kernel) rfl
theorem ms_J_similar : Cond.selects R_J y_J_similar y_J_similar ∈ zw_tbl := zw_in 170 (by decide +kernel) rfl
set_option maxRecDepth 20000 in
theorem mc_J_similar : Cond.code y_J_similar b_J_similar 3 (some .int) ∈ zw_tbl := zw_in 171 rfl rfl
theorem ml_law_68 : Cond.methodLink R_law 68 y_J_pairs ∈ zw_tbl := zw_in 172 (by decide +kernel) rfl
theorem mn_J_pairs : Cond.instanceMethod y_J_pairs ∈ zw_tbl := zw_in 173 (by decide +kernel) rfl
theorem ms_J_pairs : Cond.selects R_J y_J_pairs y_J_pairs ∈ zw_tbl := zw_in 174 (by decide +kernel) rfl
set_option maxRecDepth 20000 in
theorem mc_J_pairs : Cond.code y_J_pairs b_J_pairs 3 (some .int) ∈ zw_tbl := zw_in 175 rfl rfl
theorem ml_law_72 : Cond.methodLink R_law 72 y_J_degree ∈ zw_tbl := zw_in 176 (by decide +kernel) rfl
theorem mn_J_degree : Cond.instanceMethod y_J_degree ∈ zw_tbl := zw_in 177 (by decide +kernel) rfl
theorem ms_J_degree : Cond.selects R_J y_J_degree y_J_degree ∈ zw_tbl := zw_in 178 (by decide +kernel) rfl
set_option maxRecDepth 20000 in
theorem mc_J_degree : Cond.code y_J_degree b_J_degree 2 (some .int) ∈ zw_tbl := zw_in 179 rfl rfl
theorem ml_law_76 : Cond.methodLink R_law 76 y_J_partner ∈ zw_tbl := zw_in 180 (by decide +kernel) rfl
theorem mn_J_partner : Cond.instanceMethod y_J_partner ∈ zw_tbl := zw_in 181 (by decide +kernel) rfl
theorem ms_J_partner : Cond.selects R_J y_J_partner y_J_partner ∈ zw_tbl := zw_in 182 (by decide +kernel) rfl
set_option maxRecDepth 20000 in
theorem mc_J_partner : Cond.code y_J_partner b_J_partner 5 (some .int) ∈ zw_tbl := zw_in 183 rfl rfl
theorem ml_law_80 : Cond.methodLink R_law 80 y_J_nearest ∈ zw_tbl := zw_in 184 (by decide +kernel) rfl
theorem mn_J_nearest : Cond.instanceMethod y_J_nearest ∈ zw_tbl := zw_in 185 (by decide +kernel) rfl
theorem ms_J_nearest : Cond.selects R_J y_J_nearest y_J_nearest ∈ zw_tbl := zw_in 186 (by decide +kernel) rfl
set_option maxRecDepth 20000 in
theorem mc_J_nearest : Cond.code y_J_nearest b_J_nearest 8 (some .int) ∈ zw_tbl := zw_in 187 rfl rfl
theorem ml_law_84 : Cond.methodLink R_law 84 y_J_matches ∈ zw_tbl := zw_in 188 (by decide +kernel) rfl
theorem mn_J_matches : Cond.instanceMethod y_J_matches ∈ zw_tbl := zw_in 189 (by decide +kernel) rfl
theorem ms_J_matches : Cond.selects R_J y_J_matches y_J_matches ∈ zw_tbl := zw_in 190 (by decide +kernel) rfl
set_option maxRecDepth 20000 in
theorem mc_J_matches : Cond.code y_J_matches b_J_matches 2 (some .int) ∈ zw_tbl := zw_in 191 rfl rfl
theorem ml_J_68 : Cond.methodLink R_J 68 y_J_probeDraft ∈ zw_tbl := zw_in 192 (by decide +kernel) rfl
theorem mn_J_probeDraft : Cond.instanceMethod y_J_probeDraft ∈ zw_tbl := zw_in 194 (by decide +kernel) rfl
set_option maxRecDepth 20000 in
theorem mc_J_probeDraft : Cond.code y_J_probeDraft b_J_probeDraft 1 (some .int) ∈ zw_tbl := zw_in 195 rfl rfl
theorem ml_law_88 : Cond.methodLink R_law 88 y_J_match ∈ zw_tbl := zw_in 196 (by decide +kernel) rfl
theorem mn_J_match : Cond.instanceMethod y_J_match ∈ zw_tbl := zw_in 197 (by decide +kernel) rfl
theorem ms_J_match : Cond.selects R_J y_J_match y_J_match ∈ zw_tbl := zw_in 198 (by decide +kernel) rfl
set_option maxRecDepth 20000 in
theorem mc_J_match : Cond.code y_J_match b_J_match 4 (some .int) ∈ zw_tbl := zw_in 199 rfl rfl
theorem ml_law_92 : Cond.methodLink R_law 92 y_J_containing ∈ zw_tbl := zw_in 200 (by decide +kernel) rfl
theorem mn_J_containing : Cond.instanceMethod y_J_containing ∈ zw_tbl := zw_in 201 (by decide +kernel) rfl
theorem ms_J_containing : Cond.selects R_J y_J_containing y_J_containing ∈ zw_tbl := zw_in 202 (by decide +kernel) rfl
set_option maxRecDepth 20000 in
theorem mc_J_containing : Cond.code y_J_containing b_J_containing 3 (some .int) ∈ zw_tbl := zw_in 203 rfl rfl
theorem ml_law_96 : Cond.methodLink R_law 96 y_J_groups ∈ zw_tbl := zw_in 204 (by decide +kernel) rfl
theorem mn_J_groups : Cond.instanceMethod y_J_groups ∈ zw_tbl := zw_in 205 (by decide +kernel) rfl
theorem ms_J_groups : Cond.selects R_J y_J_groups y_J_groups ∈ zw_tbl := zw_in 206 (by decide +kernel) rfl
set_option maxRecDepth 20000 in
theorem mc_J_groups : Cond.code y_J_groups b_J_groups 3 (some .int) ∈ zw_tbl := zw_in 207 rfl rfl
theorem ml_law_100 : Cond.methodLink R_law 100 y_J_groupOf ∈ zw_tbl := zw_in 208 (by decide +kernel) rfl
theorem mn_J_groupOf : Cond.instanceMethod y_J_groupOf ∈ zw_tbl := zw_in 209 (by decide +kernel) rfl
theorem ms_J_groupOf : Cond.selects R_J y_J_groupOf y_J_groupOf ∈ zw_tbl := zw_in 210 (by decide +kernel) rfl
set_option maxRecDepth 20000 in
theorem mc_J_groupOf : Cond.code y_J_groupOf b_J_groupOf 2 (some .int) ∈ zw_tbl := zw_in 211 rfl rfl
theorem ml_law_104 : Cond.methodLink R_law 104 y_J_groupSize ∈ zw_tbl := zw_in 212 (by decide +kernel) rfl
theorem mn_J_groupSize : Cond.instanceMethod y_J_groupSize ∈ zw_tbl := zw_in 213 (by decide +kernel) rfl
theorem ms_J_groupSize : Cond.selects R_J y_J_groupSize y_J_groupSize ∈ zw_tbl := zw_in 214 (by decide +kernel) rfl
set_option maxRecDepth 20000 in
theorem mc_J_groupSize : Cond.code y_J_groupSize b_J_groupSize 5 (some .int) ∈ zw_tbl := zw_in 215 rfl rfl
theorem mcl_M : Cond.classLink R_law 10 R_M ∈ zw_tbl := zw_in 216 (by decide +kernel) rfl
theorem mb_M : Cond.instantiable R_M 5 ∈ zw_tbl := zw_in 217 (by decide +kernel) rfl
theorem ml_law_12 : Cond.methodLink R_law 12 y_M_init ∈ zw_tbl := zw_in 218 (by decide +kernel) rfl
theorem mn_M_init : Cond.instanceMethod y_M_init ∈ zw_tbl := zw_in 219 (by decide +kernel) rfl
set_option maxRecDepth 20000 in
theorem mc_M_init : Cond.code y_M_init b_M_init 1 none ∈ zw_tbl := zw_in 220 rfl rfl
theorem ml_M_1 : Cond.methodLink R_M 1 objectInit ∈ zw_tbl := zw_in 221 (by decide +kernel) rfl
theorem mf_M_in : Cond.fieldLink R_M 7 R_M "in" "[Z" ∈ zw_tbl := zw_in 222 (by decide +kernel) rfl
theorem mf_M_count : Cond.fieldLink R_M 24 R_M "count" "I" ∈ zw_tbl := zw_in 223 (by decide +kernel) rfl
theorem mf_M_t : Cond.fieldLink R_M 13 R_M "t" "I" ∈ zw_tbl := zw_in 224 (by decide +kernel) rfl
theorem mf_M_u : Cond.fieldLink R_M 17 R_M "u" "I" ∈ zw_tbl := zw_in 225 (by decide +kernel) rfl
theorem mf_M_label : Cond.fieldLink R_M 20 R_M "label" "[I" ∈ zw_tbl := zw_in 226 (by decide +kernel) rfl
theorem ma_boolean : Cond.arrayClass .boolean ∈ zw_tbl := zw_in 238 (by decide +kernel) rfl
theorem ml_law_17 : Cond.methodLink R_law 17 y_M_token ∈ zw_tbl := zw_in 239 (by decide +kernel) rfl
theorem mn_M_token : Cond.instanceMethod y_M_token ∈ zw_tbl := zw_in 240 (by decide +kernel) rfl
theorem ms_M_token : Cond.selects R_M y_M_token y_M_token ∈ zw_tbl := zw_in 241 (by decide +kernel) rfl
set_option maxRecDepth 20000 in
theorem mc_M_token : Cond.code y_M_token b_M_token 2 (some .int) ∈ zw_tbl := zw_in 242 rfl rfl
theorem ml_M_27 : Cond.methodLink R_M 27 y_M_badToken ∈ zw_tbl := zw_in 243 (by decide +kernel) rfl
theorem mn_M_badToken : Cond.instanceMethod y_M_badToken ∈ zw_tbl := zw_in 245 (by decide +kernel) rfl
set_option maxRecDepth 20000 in
theorem mc_M_badToken : Cond.code y_M_badToken b_M_badToken 2 (some .boolean) ∈ zw_tbl := zw_in 246 rfl rfl
theorem ml_M_31 : Cond.methodLink R_M 31 y_M_sizeOf ∈ zw_tbl := zw_in 247 (by decide +kernel) rfl
theorem mn_M_sizeOf : Cond.instanceMethod y_M_sizeOf ∈ zw_tbl := zw_in 249 (by decide +kernel) rfl
set_option maxRecDepth 20000 in
theorem mc_M_sizeOf : Cond.code y_M_sizeOf b_M_sizeOf 4 (some .int) ∈ zw_tbl := zw_in 250 rfl rfl
theorem ml_law_21 : Cond.methodLink R_law 21 y_M_drop ∈ zw_tbl := zw_in 251 (by decide +kernel) rfl
theorem mn_M_drop : Cond.instanceMethod y_M_drop ∈ zw_tbl := zw_in 252 (by decide +kernel) rfl
theorem ms_M_drop : Cond.selects R_M y_M_drop y_M_drop ∈ zw_tbl := zw_in 253 (by decide +kernel) rfl
set_option maxRecDepth 20000 in
theorem mc_M_drop : Cond.code y_M_drop b_M_drop 2 (some .int) ∈ zw_tbl := zw_in 254 rfl rfl
theorem ml_law_26 : Cond.methodLink R_law 26 y_M_clear ∈ zw_tbl := zw_in 255 (by decide +kernel) rfl
theorem mn_M_clear : Cond.instanceMethod y_M_clear ∈ zw_tbl := zw_in 256 (by decide +kernel) rfl
theorem ms_M_clear : Cond.selects R_M y_M_clear y_M_clear ∈ zw_tbl := zw_in 257 (by decide +kernel) rfl
set_option maxRecDepth 20000 in
theorem mc_M_clear : Cond.code y_M_clear b_M_clear 3 (some .int) ∈ zw_tbl := zw_in 258 rfl rfl
theorem ml_law_30 : Cond.methodLink R_law 30 y_M_recall ∈ zw_tbl := zw_in 259 (by decide +kernel) rfl
theorem mn_M_recall : Cond.instanceMethod y_M_recall ∈ zw_tbl := zw_in 260 (by decide +kernel) rfl
theorem ms_M_recall : Cond.selects R_M y_M_recall y_M_recall ∈ zw_tbl := zw_in 261 (by decide +kernel) rfl
set_option maxRecDepth 20000 in
theorem mc_M_recall : Cond.code y_M_recall b_M_recall 2 (some .int) ∈ zw_tbl := zw_in 262 rfl rfl
theorem ml_M_35 : Cond.methodLink R_M 35 y_M_bad ∈ zw_tbl := zw_in 263 (by decide +kernel) rfl
theorem mn_M_bad : Cond.instanceMethod y_M_bad ∈ zw_tbl := zw_in 265 (by decide +kernel) rfl
set_option maxRecDepth 20000 in
theorem mc_M_bad : Cond.code y_M_bad b_M_bad 2 (some .boolean) ∈ zw_tbl := zw_in 266 rfl rfl
theorem ml_M_38 : Cond.methodLink R_M 38 y_M_copy ∈ zw_tbl := zw_in 267 (by decide +kernel) rfl
theorem mn_M_copy : Cond.instanceMethod y_M_copy ∈ zw_tbl := zw_in 269 (by decide +kernel) rfl
set_option maxRecDepth 20000 in
theorem mc_M_copy : Cond.code y_M_copy b_M_copy 4 none ∈ zw_tbl := zw_in 270 rfl rfl
theorem ml_law_34 : Cond.methodLink R_law 34 y_M_store ∈ zw_tbl := zw_in 271 (by decide +kernel) rfl
theorem mn_M_store : Cond.instanceMethod y_M_store ∈ zw_tbl := zw_in 272 (by decide +kernel) rfl
theorem ms_M_store : Cond.selects R_M y_M_store y_M_store ∈ zw_tbl := zw_in 273 (by decide +kernel) rfl
set_option maxRecDepth 20000 in
theorem mc_M_store : Cond.code y_M_store b_M_store 2 (some .int) ∈ zw_tbl := zw_in 274 rfl rfl
theorem ml_law_38 : Cond.methodLink R_law 38 y_M_remove ∈ zw_tbl := zw_in 275 (by decide +kernel) rfl
theorem mn_M_remove : Cond.instanceMethod y_M_remove ∈ zw_tbl := zw_in 276 (by decide +kernel) rfl
theorem ms_M_remove : Cond.selects R_M y_M_remove y_M_remove ∈ zw_tbl := zw_in 277 (by decide +kernel) rfl
set_option maxRecDepth 20000 in
theorem mc_M_remove : Cond.code y_M_remove b_M_remove 3 (some .int) ∈ zw_tbl := zw_in 278 rfl rfl
theorem ml_law_43 : Cond.methodLink R_law 43 y_M_threshold ∈ zw_tbl := zw_in 279 (by decide +kernel) rfl
theorem mn_M_threshold : Cond.instanceMethod y_M_threshold ∈ zw_tbl := zw_in 280 (by decide +kernel) rfl
theorem ms_M_threshold : Cond.selects R_M y_M_threshold y_M_threshold ∈ zw_tbl := zw_in 281 (by decide +kernel) rfl
set_option maxRecDepth 20000 in
theorem mc_M_threshold : Cond.code y_M_threshold b_M_threshold 3 (some .int) ∈ zw_tbl := zw_in 282 rfl rfl
theorem ml_law_47 : Cond.methodLink R_law 47 y_M_records ∈ zw_tbl := zw_in 283 (by decide +kernel) rfl
theorem mn_M_records : Cond.instanceMethod y_M_records ∈ zw_tbl := zw_in 284 (by decide +kernel) rfl
theorem ms_M_records : Cond.selects R_M y_M_records y_M_records ∈ zw_tbl := zw_in 285 (by decide +kernel) rfl
set_option maxRecDepth 20000 in
theorem mc_M_records : Cond.code y_M_records b_M_records 1 (some .int) ∈ zw_tbl := zw_in 286 rfl rfl
theorem ml_law_51 : Cond.methodLink R_law 51 y_M_size ∈ zw_tbl := zw_in 287 (by decide +kernel) rfl
theorem mn_M_size : Cond.instanceMethod y_M_size ∈ zw_tbl := zw_in 288 (by decide +kernel) rfl
theorem ms_M_size : Cond.selects R_M y_M_size y_M_size ∈ zw_tbl := zw_in 289 (by decide +kernel) rfl
set_option maxRecDepth 20000 in
theorem mc_M_size : Cond.code y_M_size b_M_size 2 (some .int) ∈ zw_tbl := zw_in 290 rfl rfl
theorem ml_law_55 : Cond.methodLink R_law 55 y_M_has ∈ zw_tbl := zw_in 291 (by decide +kernel) rfl
theorem mn_M_has : Cond.instanceMethod y_M_has ∈ zw_tbl := zw_in 292 (by decide +kernel) rfl
theorem ms_M_has : Cond.selects R_M y_M_has y_M_has ∈ zw_tbl := zw_in 293 (by decide +kernel) rfl
set_option maxRecDepth 20000 in
theorem mc_M_has : Cond.code y_M_has b_M_has 3 (some .int) ∈ zw_tbl := zw_in 294 rfl rfl
theorem ml_law_59 : Cond.methodLink R_law 59 y_M_frequency ∈ zw_tbl := zw_in 295 (by decide +kernel) rfl
theorem mn_M_frequency : Cond.instanceMethod y_M_frequency ∈ zw_tbl := zw_in 296 (by decide +kernel) rfl
theorem ms_M_frequency : Cond.selects R_M y_M_frequency y_M_frequency ∈ zw_tbl := zw_in 297 (by decide +kernel) rfl
set_option maxRecDepth 20000 in
theorem mc_M_frequency : Cond.code y_M_frequency b_M_frequency 4 (some .int) ∈ zw_tbl := zw_in 298 rfl rfl
theorem ml_law_63 : Cond.methodLink R_law 63 y_M_common ∈ zw_tbl := zw_in 299 (by decide +kernel) rfl
theorem mn_M_common : Cond.instanceMethod y_M_common ∈ zw_tbl := zw_in 300 (by decide +kernel) rfl
theorem ms_M_common : Cond.selects R_M y_M_common y_M_common ∈ zw_tbl := zw_in 301 (by decide +kernel) rfl
set_option maxRecDepth 20000 in
theorem mc_M_common : Cond.code y_M_common b_M_common 3 (some .int) ∈ zw_tbl := zw_in 302 rfl rfl
theorem ml_M_42 : Cond.methodLink R_M 42 y_M_both ∈ zw_tbl := zw_in 303 (by decide +kernel) rfl
theorem mn_M_both : Cond.instanceMethod y_M_both ∈ zw_tbl := zw_in 305 (by decide +kernel) rfl
set_option maxRecDepth 20000 in
theorem mc_M_both : Cond.code y_M_both b_M_both 5 (some .int) ∈ zw_tbl := zw_in 306 rfl rfl
theorem ml_law_67 : Cond.methodLink R_law 67 y_M_similar ∈ zw_tbl := zw_in 307 (by decide +kernel) rfl
theorem mn_M_similar : Cond.instanceMethod y_M_similar ∈ zw_tbl := zw_in 308 (by decide +kernel) rfl
theorem ms_M_similar : Cond.selects R_M y_M_similar y_M_similar ∈ zw_tbl := zw_in 309 (by decide +kernel) rfl
set_option maxRecDepth 20000 in
theorem mc_M_similar : Cond.code y_M_similar b_M_similar 3 (some .int) ∈ zw_tbl := zw_in 310 rfl rfl
theorem ml_M_49 : Cond.methodLink R_M 49 y_M_alike ∈ zw_tbl := zw_in 311 (by decide +kernel) rfl
theorem mn_M_alike : Cond.instanceMethod y_M_alike ∈ zw_tbl := zw_in 313 (by decide +kernel) rfl
set_option maxRecDepth 20000 in
theorem mc_M_alike : Cond.code y_M_alike b_M_alike 5 (some .boolean) ∈ zw_tbl := zw_in 314 rfl rfl
theorem ml_M_46 : Cond.methodLink R_M 46 y_M_either ∈ zw_tbl := zw_in 315 (by decide +kernel) rfl
theorem mn_M_either : Cond.instanceMethod y_M_either ∈ zw_tbl := zw_in 317 (by decide +kernel) rfl
set_option maxRecDepth 20000 in
theorem mc_M_either : Cond.code y_M_either b_M_either 5 (some .int) ∈ zw_tbl := zw_in 318 rfl rfl
theorem ml_law_71 : Cond.methodLink R_law 71 y_M_pairs ∈ zw_tbl := zw_in 319 (by decide +kernel) rfl
theorem mn_M_pairs : Cond.instanceMethod y_M_pairs ∈ zw_tbl := zw_in 320 (by decide +kernel) rfl
theorem ms_M_pairs : Cond.selects R_M y_M_pairs y_M_pairs ∈ zw_tbl := zw_in 321 (by decide +kernel) rfl
set_option maxRecDepth 20000 in
theorem mc_M_pairs : Cond.code y_M_pairs b_M_pairs 4 (some .int) ∈ zw_tbl := zw_in 322 rfl rfl
theorem ml_law_75 : Cond.methodLink R_law 75 y_M_degree ∈ zw_tbl := zw_in 323 (by decide +kernel) rfl
theorem mn_M_degree : Cond.instanceMethod y_M_degree ∈ zw_tbl := zw_in 324 (by decide +kernel) rfl
theorem ms_M_degree : Cond.selects R_M y_M_degree y_M_degree ∈ zw_tbl := zw_in 325 (by decide +kernel) rfl
set_option maxRecDepth 20000 in
theorem mc_M_degree : Cond.code y_M_degree b_M_degree 4 (some .int) ∈ zw_tbl := zw_in 326 rfl rfl
theorem ml_law_79 : Cond.methodLink R_law 79 y_M_partner ∈ zw_tbl := zw_in 327 (by decide +kernel) rfl
theorem mn_M_partner : Cond.instanceMethod y_M_partner ∈ zw_tbl := zw_in 328 (by decide +kernel) rfl
theorem ms_M_partner : Cond.selects R_M y_M_partner y_M_partner ∈ zw_tbl := zw_in 329 (by decide +kernel) rfl
set_option maxRecDepth 20000 in
theorem mc_M_partner : Cond.code y_M_partner b_M_partner 5 (some .int) ∈ zw_tbl := zw_in 330 rfl rfl
theorem ml_law_83 : Cond.methodLink R_law 83 y_M_nearest ∈ zw_tbl := zw_in 331 (by decide +kernel) rfl
theorem mn_M_nearest : Cond.instanceMethod y_M_nearest ∈ zw_tbl := zw_in 332 (by decide +kernel) rfl
theorem ms_M_nearest : Cond.selects R_M y_M_nearest y_M_nearest ∈ zw_tbl := zw_in 333 (by decide +kernel) rfl
set_option maxRecDepth 20000 in
theorem mc_M_nearest : Cond.code y_M_nearest b_M_nearest 8 (some .int) ∈ zw_tbl := zw_in 334 rfl rfl
theorem ml_law_87 : Cond.methodLink R_law 87 y_M_matches ∈ zw_tbl := zw_in 335 (by decide +kernel) rfl
theorem mn_M_matches : Cond.instanceMethod y_M_matches ∈ zw_tbl := zw_in 336 (by decide +kernel) rfl
theorem ms_M_matches : Cond.selects R_M y_M_matches y_M_matches ∈ zw_tbl := zw_in 337 (by decide +kernel) rfl
set_option maxRecDepth 20000 in
theorem mc_M_matches : Cond.code y_M_matches b_M_matches 3 (some .int) ∈ zw_tbl := zw_in 338 rfl rfl
theorem ml_law_91 : Cond.methodLink R_law 91 y_M_match ∈ zw_tbl := zw_in 339 (by decide +kernel) rfl
theorem mn_M_match : Cond.instanceMethod y_M_match ∈ zw_tbl := zw_in 340 (by decide +kernel) rfl
theorem ms_M_match : Cond.selects R_M y_M_match y_M_match ∈ zw_tbl := zw_in 341 (by decide +kernel) rfl
set_option maxRecDepth 20000 in
theorem mc_M_match : Cond.code y_M_match b_M_match 3 (some .int) ∈ zw_tbl := zw_in 342 rfl rfl
theorem ml_law_95 : Cond.methodLink R_law 95 y_M_containing ∈ zw_tbl := zw_in 343 (by decide +kernel) rfl
theorem mn_M_containing : Cond.instanceMethod y_M_containing ∈ zw_tbl := zw_in 344 (by decide +kernel) rfl
theorem ms_M_containing : Cond.selects R_M y_M_containing y_M_containing ∈ zw_tbl := zw_in 345 (by decide +kernel) rfl
set_option maxRecDepth 20000 in
theorem mc_M_containing : Cond.code y_M_containing b_M_containing 4 (some .int) ∈ zw_tbl := zw_in 346 rfl rfl
theorem ml_law_99 : Cond.methodLink R_law 99 y_M_groups ∈ zw_tbl := zw_in 347 (by decide +kernel) rfl
theorem mn_M_groups : Cond.instanceMethod y_M_groups ∈ zw_tbl := zw_in 348 (by decide +kernel) rfl
theorem ms_M_groups : Cond.selects R_M y_M_groups y_M_groups ∈ zw_tbl := zw_in 349 (by decide +kernel) rfl
set_option maxRecDepth 20000 in
theorem mc_M_groups : Cond.code y_M_groups b_M_groups 3 (some .int) ∈ zw_tbl := zw_in 350 rfl rfl
theorem ml_M_57 : Cond.methodLink R_M 57 y_M_join ∈ zw_tbl := zw_in 351 (by decide +kernel) rfl
theorem mn_M_join : Cond.instanceMethod y_M_join ∈ zw_tbl := zw_in 353 (by decide +kernel) rfl
set_option maxRecDepth 20000 in
theorem mc_M_join : Cond.code y_M_join b_M_join 3 none ∈ zw_tbl := zw_in 354 rfl rfl
theorem ml_M_53 : Cond.methodLink R_M 53 y_M_lower ∈ zw_tbl := zw_in 355 (by decide +kernel) rfl
theorem mn_M_lower : Cond.instanceMethod y_M_lower ∈ zw_tbl := zw_in 357 (by decide +kernel) rfl
set_option maxRecDepth 20000 in
theorem mc_M_lower : Cond.code y_M_lower b_M_lower 4 (some .boolean) ∈ zw_tbl := zw_in 358 rfl rfl
theorem ml_law_103 : Cond.methodLink R_law 103 y_M_groupOf ∈ zw_tbl := zw_in 359 (by decide +kernel) rfl
theorem mn_M_groupOf : Cond.instanceMethod y_M_groupOf ∈ zw_tbl := zw_in 360 (by decide +kernel) rfl
theorem ms_M_groupOf : Cond.selects R_M y_M_groupOf y_M_groupOf ∈ zw_tbl := zw_in 361 (by decide +kernel) rfl
set_option maxRecDepth 20000 in
theorem mc_M_groupOf : Cond.code y_M_groupOf b_M_groupOf 2 (some .int) ∈ zw_tbl := zw_in 362 rfl rfl
theorem ml_law_107 : Cond.methodLink R_law 107 y_M_groupSize ∈ zw_tbl := zw_in 363 (by decide +kernel) rfl
theorem mn_M_groupSize : Cond.instanceMethod y_M_groupSize ∈ zw_tbl := zw_in 364 (by decide +kernel) rfl
theorem ms_M_groupSize : Cond.selects R_M y_M_groupSize y_M_groupSize ∈ zw_tbl := zw_in 365 (by decide +kernel) rfl
set_option maxRecDepth 20000 in
theorem mc_M_groupSize : Cond.code y_M_groupSize b_M_groupSize 4 (some .int) ∈ zw_tbl := zw_in 366 rfl rfl
set_option maxRecDepth 20000 in
theorem i_J : ∀ w ∈ u_ws R_J F_J 14, w ∈ zw_tbl := by decide +kernel
set_option maxRecDepth 20000 in
theorem i_M : ∀ w ∈ u_ws R_M F_M 5, w ∈ zw_tbl := by decide +kernel
end
section
theorem d_J_init_0 : decode b_J_init 0 = .ok (.aload_n 0, 1) := by decide +kernel
theorem d_J_init_1 : decode b_J_init 1 = .ok (.invokespecial 1, 3) := by decide +kernel
theorem d_J_init_4 : decode b_J_init 4 = .ok (.aload_n 0, 1) := by decide +kernel
theorem d_J_init_5 : decode b_J_init 5 = .ok (.bipush 20, 2) := by decide +kernel
theorem d_J_init_7 : decode b_J_init 7 = .ok (.newarray .int, 2) := by decide +kernel
theorem d_J_init_9 : decode b_J_init 9 = .ok (.putfield 7, 3) := by decide +kernel
theorem d_J_init_12 : decode b_J_init 12 = .ok (.aload_n 0, 1) := by decide +kernel
theorem d_J_init_13 : decode b_J_init 13 = .ok (.bipush 20, 2) := by decide +kernel
theorem d_J_init_15 : decode b_J_init 15 = .ok (.newarray .int, 2) := by decide +kernel
theorem d_J_init_17 : decode b_J_init 17 = .ok (.putfield 13, 3) := by decide +kernel
theorem d_J_init_20 : decode b_J_init 20 = .ok (.aload_n 0, 1) := by decide +kernel
theorem d_J_init_21 : decode b_J_init 21 = .ok (.sipush 252, 3) := by decide +kernel
theorem d_J_init_24 : decode b_J_init 24 = .ok (.newarray .int, 2) := by decide +kernel
theorem d_J_init_26 : decode b_J_init 26 = .ok (.putfield 16, 3) := by decide +kernel
theorem d_J_init_29 : decode b_J_init 29 = .ok (.aload_n 0, 1) := by decide +kernel
theorem d_J_init_30 : decode b_J_init 30 = .ok (.bipush 30, 2) := by decide +kernel
theorem d_J_init_32 : decode b_J_init 32 = .ok (.newarray .int, 2) := by decide +kernel
theorem d_J_init_34 : decode b_J_init 34 = .ok (.putfield 19, 3) := by decide +kernel
theorem d_J_init_37 : decode b_J_init 37 = .ok (.aload_n 0, 1) := by decide +kernel
theorem d_J_init_38 : decode b_J_init 38 = .ok (.bipush 30, 2) := by decide +kernel
theorem d_J_init_40 : decode b_J_init 40 = .ok (.newarray .int, 2) := by decide +kernel
theorem d_J_init_42 : decode b_J_init 42 = .ok (.putfield 22, 3) := by decide +kernel
theorem d_J_init_45 : decode b_J_init 45 = .ok (.aload_n 0, 1) := by decide +kernel
theorem d_J_init_46 : decode b_J_init 46 = .ok (.bipush 30, 2) := by decide +kernel
theorem d_J_init_48 : decode b_J_init 48 = .ok (.newarray .int, 2) := by decide +kernel
theorem d_J_init_50 : decode b_J_init 50 = .ok (.putfield 25, 3) := by decide +kernel
theorem d_J_init_53 : decode b_J_init 53 = .ok (.aload_n 0, 1) := by decide +kernel
theorem d_J_init_54 : decode b_J_init 54 = .ok (.bipush 20, 2) := by decide +kernel
theorem d_J_init_56 : decode b_J_init 56 = .ok (.newarray .int, 2) := by decide +kernel
theorem d_J_init_58 : decode b_J_init 58 = .ok (.putfield 28, 3) := by decide +kernel
theorem d_J_init_61 : decode b_J_init 61 = .ok (.aload_n 0, 1) := by decide +kernel
theorem d_J_init_62 : decode b_J_init 62 = .ok (.bipush 20, 2) := by decide +kernel
theorem d_J_init_64 : decode b_J_init 64 = .ok (.newarray .int, 2) := by decide +kernel
theorem d_J_init_66 : decode b_J_init 66 = .ok (.putfield 31, 3) := by decide +kernel
theorem d_J_init_69 : decode b_J_init 69 = .ok (.aload_n 0, 1) := by decide +kernel
theorem d_J_init_70 : decode b_J_init 70 = .ok (.iconst 1, 1) := by decide +kernel
theorem d_J_init_71 : decode b_J_init 71 = .ok (.putfield 34, 3) := by decide +kernel
theorem d_J_init_74 : decode b_J_init 74 = .ok (.aload_n 0, 1) := by decide +kernel
theorem d_J_init_75 : decode b_J_init 75 = .ok (.iconst 2, 1) := by decide +kernel
theorem d_J_init_76 : decode b_J_init 76 = .ok (.putfield 38, 3) := by decide +kernel
theorem d_J_init_79 : decode b_J_init 79 = .ok (.return_, 1) := by decide +kernel
theorem d_J_token_0 : decode b_J_token 0 = .ok (.iload_n 1, 1) := by decide +kernel
theorem d_J_token_1 : decode b_J_token 1 = .ok (.invokestatic 41, 3) := by decide +kernel
theorem d_J_token_4 : decode b_J_token 4 = .ok (.ifCond .ne 5, 3) := by decide +kernel
theorem d_J_token_7 : decode b_J_token 7 = .ok (.iconst (-1), 1) := by decide +kernel
theorem d_J_token_8 : decode b_J_token 8 = .ok (.ireturn, 1) := by decide +kernel
theorem d_J_token_9 : decode b_J_token 9 = .ok (.iconst 1, 1) := by decide +kernel
theorem d_J_token_10 : decode b_J_token 10 = .ok (.iload_n 1, 1) := by decide +kernel
theorem d_J_token_11 : decode b_J_token 11 = .ok (.ishl, 1) := by decide +kernel
theorem d_J_token_12 : decode b_J_token 12 = .ok (.istore_n 2, 1) := by decide +kernel
theorem d_J_token_13 : decode b_J_token 13 = .ok (.aload_n 0, 1) := by decide +kernel
theorem d_J_token_14 : decode b_J_token 14 = .ok (.getfield 45, 3) := by decide +kernel
theorem d_J_token_17 : decode b_J_token 17 = .ok (.iload_n 2, 1) := by decide +kernel
theorem d_J_token_18 : decode b_J_token 18 = .ok (.iand, 1) := by decide +kernel
theorem d_J_token_19 : decode b_J_token 19 = .ok (.ifCond .ne 35, 3) := by decide +kernel
theorem d_J_token_22 : decode b_J_token 22 = .ok (.aload_n 0, 1) := by decide +kernel
theorem d_J_token_23 : decode b_J_token 23 = .ok (.getfield 48, 3) := by decide +kernel
theorem d_J_token_26 : decode b_J_token 26 = .ok (.bipush 12, 2) := by decide +kernel
theorem d_J_token_28 : decode b_J_token 28 = .ok (.if_icmp .ne 6, 3) := by decide +kernel
theorem d_J_token_31 : decode b_J_token 31 = .ok (.bipush (-2), 2) := by decide +kernel
theorem d_J_token_33 : decode b_J_token 33 = .ok (.ireturn, 1) := by decide +kernel
theorem d_J_token_34 : decode b_J_token 34 = .ok (.aload_n 0, 1) := by decide +kernel
theorem d_J_token_35 : decode b_J_token 35 = .ok (.aload_n 0, 1) := by decide +kernel
theorem d_J_token_36 : decode b_J_token 36 = .ok (.getfield 45, 3) := by decide +kernel
theorem d_J_token_39 : decode b_J_token 39 = .ok (.iload_n 2, 1) := by decide +kernel
theorem d_J_token_40 : decode b_J_token 40 = .ok (.ior, 1) := by decide +kernel
theorem d_J_token_41 : decode b_J_token 41 = .ok (.putfield 45, 3) := by decide +kernel
theorem d_J_token_44 : decode b_J_token 44 = .ok (.aload_n 0, 1) := by decide +kernel
theorem d_J_token_45 : decode b_J_token 45 = .ok (.dup, 1) := by decide +kernel
theorem d_J_token_46 : decode b_J_token 46 = .ok (.getfield 48, 3) := by decide +kernel
theorem d_J_token_49 : decode b_J_token 49 = .ok (.iconst 1, 1) := by decide +kernel
theorem d_J_token_50 : decode b_J_token 50 = .ok (.iadd, 1) := by decide +kernel
theorem d_J_token_51 : decode b_J_token 51 = .ok (.putfield 48, 3) := by decide +kernel
theorem d_J_token_54 : decode b_J_token 54 = .ok (.aload_n 0, 1) := by decide +kernel
theorem d_J_token_55 : decode b_J_token 55 = .ok (.getfield 48, 3) := by decide +kernel
theorem d_J_token_58 : decode b_J_token 58 = .ok (.ireturn, 1) := by decide +kernel
theorem d_J_isToken_0 : decode b_J_isToken 0 = .ok (.iload_n 0, 1) := by decide +kernel
theorem d_J_isToken_1 : decode b_J_isToken 1 = .ok (.ifCond .lt 13, 3) := by decide +kernel
theorem d_J_isToken_4 : decode b_J_isToken 4 = .ok (.iload_n 0, 1) := by decide +kernel
theorem d_J_isToken_5 : decode b_J_isToken 5 = .ok (.bipush 30, 2) := by decide +kernel
theorem d_J_isToken_7 : decode b_J_isToken 7 = .ok (.if_icmp .ge 7, 3) := by decide +kernel
theorem d_J_isToken_10 : decode b_J_isToken 10 = .ok (.iconst 1, 1) := by decide +kernel
theorem d_J_isToken_11 : decode b_J_isToken 11 = .ok (.goto 4, 3) := by decide +kernel
theorem d_J_isToken_14 : decode b_J_isToken 14 = .ok (.iconst 0, 1) := by decide +kernel
theorem d_J_isToken_15 : decode b_J_isToken 15 = .ok (.ireturn, 1) := by decide +kernel
theorem d_J_drop_0 : decode b_J_drop 0 = .ok (.iload_n 1, 1) := by decide +kernel
theorem d_J_drop_1 : decode b_J_drop 1 = .ok (.invokestatic 41, 3) := by decide +kernel
theorem d_J_drop_4 : decode b_J_drop 4 = .ok (.ifCond .ne 5, 3) := by decide +kernel
theorem d_J_drop_7 : decode b_J_drop 7 = .ok (.iconst (-1), 1) := by decide +kernel
theorem d_J_drop_8 : decode b_J_drop 8 = .ok (.ireturn, 1) := by decide +kernel
theorem d_J_drop_9 : decode b_J_drop 9 = .ok (.iconst 1, 1) := by decide +kernel
theorem d_J_drop_10 : decode b_J_drop 10 = .ok (.iload_n 1, 1) := by decide +kernel
theorem d_J_drop_11 : decode b_J_drop 11 = .ok (.ishl, 1) := by decide +kernel
theorem d_J_drop_12 : decode b_J_drop 12 = .ok (.istore_n 2, 1) := by decide +kernel
theorem d_J_drop_13 : decode b_J_drop 13 = .ok (.aload_n 0, 1) := by decide +kernel
theorem d_J_drop_14 : decode b_J_drop 14 = .ok (.getfield 45, 3) := by decide +kernel
theorem d_J_drop_17 : decode b_J_drop 17 = .ok (.iload_n 2, 1) := by decide +kernel
theorem d_J_drop_18 : decode b_J_drop 18 = .ok (.iand, 1) := by decide +kernel
theorem d_J_drop_19 : decode b_J_drop 19 = .ok (.ifCond .eq 25, 3) := by decide +kernel
theorem d_J_drop_22 : decode b_J_drop 22 = .ok (.aload_n 0, 1) := by decide +kernel
theorem d_J_drop_23 : decode b_J_drop 23 = .ok (.aload_n 0, 1) := by decide +kernel
theorem d_J_drop_24 : decode b_J_drop 24 = .ok (.getfield 45, 3) := by decide +kernel
theorem d_J_drop_27 : decode b_J_drop 27 = .ok (.iload_n 2, 1) := by decide +kernel
theorem d_J_drop_28 : decode b_J_drop 28 = .ok (.iconst (-1), 1) := by decide +kernel
theorem d_J_drop_29 : decode b_J_drop 29 = .ok (.ixor, 1) := by decide +kernel
theorem d_J_drop_30 : decode b_J_drop 30 = .ok (.iand, 1) := by decide +kernel
theorem d_J_drop_31 : decode b_J_drop 31 = .ok (.putfield 45, 3) := by decide +kernel
theorem d_J_drop_34 : decode b_J_drop 34 = .ok (.aload_n 0, 1) := by decide +kernel
theorem d_J_drop_35 : decode b_J_drop 35 = .ok (.dup, 1) := by decide +kernel
theorem d_J_drop_36 : decode b_J_drop 36 = .ok (.getfield 48, 3) := by decide +kernel
theorem d_J_drop_39 : decode b_J_drop 39 = .ok (.iconst 1, 1) := by decide +kernel
theorem d_J_drop_40 : decode b_J_drop 40 = .ok (.isub, 1) := by decide +kernel
theorem d_J_drop_41 : decode b_J_drop 41 = .ok (.putfield 48, 3) := by decide +kernel
theorem d_J_drop_44 : decode b_J_drop 44 = .ok (.aload_n 0, 1) := by decide +kernel
theorem d_J_drop_45 : decode b_J_drop 45 = .ok (.getfield 48, 3) := by decide +kernel
theorem d_J_drop_48 : decode b_J_drop 48 = .ok (.ireturn, 1) := by decide +kernel
theorem d_J_clear_0 : decode b_J_clear 0 = .ok (.aload_n 0, 1) := by decide +kernel
theorem d_J_clear_1 : decode b_J_clear 1 = .ok (.getfield 48, 3) := by decide +kernel
theorem d_J_clear_4 : decode b_J_clear 4 = .ok (.istore_n 1, 1) := by decide +kernel
theorem d_J_clear_5 : decode b_J_clear 5 = .ok (.aload_n 0, 1) := by decide +kernel
theorem d_J_clear_6 : decode b_J_clear 6 = .ok (.iconst 0, 1) := by decide +kernel
theorem d_J_clear_7 : decode b_J_clear 7 = .ok (.putfield 45, 3) := by decide +kernel
theorem d_J_clear_10 : decode b_J_clear 10 = .ok (.aload_n 0, 1) := by decide +kernel
theorem d_J_clear_11 : decode b_J_clear 11 = .ok (.iconst 0, 1) := by decide +kernel
theorem d_J_clear_12 : decode b_J_clear 12 = .ok (.putfield 48, 3) := by decide +kernel
theorem d_J_clear_15 : decode b_J_clear 15 = .ok (.iload_n 1, 1) := by decide +kernel
theorem d_J_clear_16 : decode b_J_clear 16 = .ok (.ireturn, 1) := by decide +kernel
theorem d_J_recall_0 : decode b_J_recall 0 = .ok (.aload_n 0, 1) := by decide +kernel
theorem d_J_recall_1 : decode b_J_recall 1 = .ok (.iload_n 1, 1) := by decide +kernel
theorem d_J_recall_2 : decode b_J_recall 2 = .ok (.invokevirtual 51, 3) := by decide +kernel
theorem d_J_recall_5 : decode b_J_recall 5 = .ok (.ifCond .ne 5, 3) := by decide +kernel
theorem d_J_recall_8 : decode b_J_recall 8 = .ok (.iconst (-1), 1) := by decide +kernel
theorem d_J_recall_9 : decode b_J_recall 9 = .ok (.ireturn, 1) := by decide +kernel
theorem d_J_recall_10 : decode b_J_recall 10 = .ok (.aload_n 0, 1) := by decide +kernel
theorem d_J_recall_11 : decode b_J_recall 11 = .ok (.aload_n 0, 1) := by decide +kernel
theorem d_J_recall_12 : decode b_J_recall 12 = .ok (.getfield 7, 3) := by decide +kernel
theorem d_J_recall_15 : decode b_J_recall 15 = .ok (.iload_n 1, 1) := by decide +kernel
theorem d_J_recall_16 : decode b_J_recall 16 = .ok (.iaload, 1) := by decide +kernel
theorem d_J_recall_17 : decode b_J_recall 17 = .ok (.putfield 45, 3) := by decide +kernel
theorem d_J_recall_20 : decode b_J_recall 20 = .ok (.aload_n 0, 1) := by decide +kernel
theorem d_J_recall_21 : decode b_J_recall 21 = .ok (.aload_n 0, 1) := by decide +kernel
theorem d_J_recall_22 : decode b_J_recall 22 = .ok (.getfield 13, 3) := by decide +kernel
theorem d_J_recall_25 : decode b_J_recall 25 = .ok (.iload_n 1, 1) := by decide +kernel
theorem d_J_recall_26 : decode b_J_recall 26 = .ok (.iaload, 1) := by decide +kernel
theorem d_J_recall_27 : decode b_J_recall 27 = .ok (.putfield 48, 3) := by decide +kernel
theorem d_J_recall_30 : decode b_J_recall 30 = .ok (.aload_n 0, 1) := by decide +kernel
theorem d_J_recall_31 : decode b_J_recall 31 = .ok (.getfield 48, 3) := by decide +kernel
theorem d_J_recall_34 : decode b_J_recall 34 = .ok (.ireturn, 1) := by decide +kernel
theorem d_J_isRecord_0 : decode b_J_isRecord 0 = .ok (.iload_n 1, 1) := by decide +kernel
theorem d_J_isRecord_1 : decode b_J_isRecord 1 = .ok (.ifCond .lt 15, 3) := by decide +kernel
theorem d_J_isRecord_4 : decode b_J_isRecord 4 = .ok (.iload_n 1, 1) := by decide +kernel
theorem d_J_isRecord_5 : decode b_J_isRecord 5 = .ok (.aload_n 0, 1) := by decide +kernel
theorem d_J_isRecord_6 : decode b_J_isRecord 6 = .ok (.getfield 54, 3) := by decide +kernel
theorem d_J_isRecord_9 : decode b_J_isRecord 9 = .ok (.if_icmp .ge 7, 3) := by decide +kernel
theorem d_J_isRecord_12 : decode b_J_isRecord 12 = .ok (.iconst 1, 1) := by decide +kernel
theorem d_J_isRecord_13 : decode b_J_isRecord 13 = .ok (.goto 4, 3) := by decide +kernel
theorem d_J_isRecord_16 : decode b_J_isRecord 16 = .ok (.iconst 0, 1) := by decide +kernel
theorem d_J_isRecord_17 : decode b_J_isRecord 17 = .ok (.ireturn, 1) := by decide +kernel
theorem d_J_store_0 : decode b_J_store 0 = .ok (.aload_n 0, 1) := by decide +kernel
theorem d_J_store_1 : decode b_J_store 1 = .ok (.getfield 48, 3) := by decide +kernel
theorem d_J_store_4 : decode b_J_store 4 = .ok (.ifCond .ne 5, 3) := by decide +kernel
theorem d_J_store_7 : decode b_J_store 7 = .ok (.iconst (-1), 1) := by decide +kernel
theorem d_J_store_8 : decode b_J_store 8 = .ok (.ireturn, 1) := by decide +kernel
theorem d_J_store_9 : decode b_J_store 9 = .ok (.aload_n 0, 1) := by decide +kernel
theorem d_J_store_10 : decode b_J_store 10 = .ok (.getfield 54, 3) := by decide +kernel
theorem d_J_store_13 : decode b_J_store 13 = .ok (.bipush 20, 2) := by decide +kernel
theorem d_J_store_15 : decode b_J_store 15 = .ok (.if_icmp .ne 6, 3) := by decide +kernel
theorem d_J_store_18 : decode b_J_store 18 = .ok (.bipush (-2), 2) := by decide +kernel
theorem d_J_store_20 : decode b_J_store 20 = .ok (.ireturn, 1) := by decide +kernel
theorem d_J_store_21 : decode b_J_store 21 = .ok (.aload_n 0, 1) := by decide +kernel
theorem d_J_store_22 : decode b_J_store 22 = .ok (.getfield 7, 3) := by decide +kernel
theorem d_J_store_25 : decode b_J_store 25 = .ok (.aload_n 0, 1) := by decide +kernel
theorem d_J_store_26 : decode b_J_store 26 = .ok (.getfield 54, 3) := by decide +kernel
theorem d_J_store_29 : decode b_J_store 29 = .ok (.aload_n 0, 1) := by decide +kernel
theorem d_J_store_30 : decode b_J_store 30 = .ok (.getfield 45, 3) := by decide +kernel
theorem d_J_store_33 : decode b_J_store 33 = .ok (.iastore, 1) := by decide +kernel
theorem d_J_store_34 : decode b_J_store 34 = .ok (.aload_n 0, 1) := by decide +kernel
theorem d_J_store_35 : decode b_J_store 35 = .ok (.getfield 13, 3) := by decide +kernel
theorem d_J_store_38 : decode b_J_store 38 = .ok (.aload_n 0, 1) := by decide +kernel
theorem d_J_store_39 : decode b_J_store 39 = .ok (.getfield 54, 3) := by decide +kernel
theorem d_J_store_42 : decode b_J_store 42 = .ok (.aload_n 0, 1) := by decide +kernel
theorem d_J_store_43 : decode b_J_store 43 = .ok (.getfield 48, 3) := by decide +kernel
theorem d_J_store_46 : decode b_J_store 46 = .ok (.iastore, 1) := by decide +kernel
theorem d_J_store_47 : decode b_J_store 47 = .ok (.aload_n 0, 1) := by decide +kernel
theorem d_J_store_48 : decode b_J_store 48 = .ok (.dup, 1) := by decide +kernel
theorem d_J_store_49 : decode b_J_store 49 = .ok (.getfield 54, 3) := by decide +kernel
theorem d_J_store_52 : decode b_J_store 52 = .ok (.iconst 1, 1) := by decide +kernel
theorem d_J_store_53 : decode b_J_store 53 = .ok (.iadd, 1) := by decide +kernel
theorem d_J_store_54 : decode b_J_store 54 = .ok (.putfield 54, 3) := by decide +kernel
theorem d_J_store_57 : decode b_J_store 57 = .ok (.aload_n 0, 1) := by decide +kernel
theorem d_J_store_58 : decode b_J_store 58 = .ok (.iconst 0, 1) := by decide +kernel
theorem d_J_store_59 : decode b_J_store 59 = .ok (.putfield 57, 3) := by decide +kernel
theorem d_J_store_62 : decode b_J_store 62 = .ok (.aload_n 0, 1) := by decide +kernel
theorem d_J_store_63 : decode b_J_store 63 = .ok (.getfield 54, 3) := by decide +kernel
theorem d_J_store_66 : decode b_J_store 66 = .ok (.iconst 1, 1) := by decide +kernel
theorem d_J_store_67 : decode b_J_store 67 = .ok (.isub, 1) := by decide +kernel
theorem d_J_store_68 : decode b_J_store 68 = .ok (.ireturn, 1) := by decide +kernel
theorem d_J_remove_0 : decode b_J_remove 0 = .ok (.aload_n 0, 1) := by decide +kernel
theorem d_J_remove_1 : decode b_J_remove 1 = .ok (.iload_n 1, 1) := by decide +kernel
theorem d_J_remove_2 : decode b_J_remove 2 = .ok (.invokevirtual 51, 3) := by decide +kernel
theorem d_J_remove_5 : decode b_J_remove 5 = .ok (.ifCond .ne 5, 3) := by decide +kernel
theorem d_J_remove_8 : decode b_J_remove 8 = .ok (.iconst (-1), 1) := by decide +kernel
theorem d_J_remove_9 : decode b_J_remove 9 = .ok (.ireturn, 1) := by decide +kernel
theorem d_J_remove_10 : decode b_J_remove 10 = .ok (.iload_n 1, 1) := by decide +kernel
theorem d_J_remove_11 : decode b_J_remove 11 = .ok (.iconst 1, 1) := by decide +kernel
theorem d_J_remove_12 : decode b_J_remove 12 = .ok (.iadd, 1) := by decide +kernel
theorem d_J_remove_13 : decode b_J_remove 13 = .ok (.istore_n 2, 1) := by decide +kernel
theorem d_J_remove_14 : decode b_J_remove 14 = .ok (.iload_n 2, 1) := by decide +kernel
theorem d_J_remove_15 : decode b_J_remove 15 = .ok (.aload_n 0, 1) := by decide +kernel
theorem d_J_remove_16 : decode b_J_remove 16 = .ok (.getfield 54, 3) := by decide +kernel
theorem d_J_remove_19 : decode b_J_remove 19 = .ok (.if_icmp .ge 37, 3) := by decide +kernel
theorem d_J_remove_22 : decode b_J_remove 22 = .ok (.aload_n 0, 1) := by decide +kernel
theorem d_J_remove_23 : decode b_J_remove 23 = .ok (.getfield 7, 3) := by decide +kernel
theorem d_J_remove_26 : decode b_J_remove 26 = .ok (.iload_n 2, 1) := by decide +kernel
theorem d_J_remove_27 : decode b_J_remove 27 = .ok (.iconst 1, 1) := by decide +kernel
theorem d_J_remove_28 : decode b_J_remove 28 = .ok (.isub, 1) := by decide +kernel
theorem d_J_remove_29 : decode b_J_remove 29 = .ok (.aload_n 0, 1) := by decide +kernel
theorem d_J_remove_30 : decode b_J_remove 30 = .ok (.getfield 7, 3) := by decide +kernel
theorem d_J_remove_33 : decode b_J_remove 33 = .ok (.iload_n 2, 1) := by decide +kernel
theorem d_J_remove_34 : decode b_J_remove 34 = .ok (.iaload, 1) := by decide +kernel
theorem d_J_remove_35 : decode b_J_remove 35 = .ok (.iastore, 1) := by decide +kernel
theorem d_J_remove_36 : decode b_J_remove 36 = .ok (.aload_n 0, 1) := by decide +kernel
theorem d_J_remove_37 : decode b_J_remove 37 = .ok (.getfield 13, 3) := by decide +kernel
theorem d_J_remove_40 : decode b_J_remove 40 = .ok (.iload_n 2, 1) := by decide +kernel
theorem d_J_remove_41 : decode b_J_remove 41 = .ok (.iconst 1, 1) := by decide +kernel
theorem d_J_remove_42 : decode b_J_remove 42 = .ok (.isub, 1) := by decide +kernel
theorem d_J_remove_43 : decode b_J_remove 43 = .ok (.aload_n 0, 1) := by decide +kernel
theorem d_J_remove_44 : decode b_J_remove 44 = .ok (.getfield 13, 3) := by decide +kernel
theorem d_J_remove_47 : decode b_J_remove 47 = .ok (.iload_n 2, 1) := by decide +kernel
theorem d_J_remove_48 : decode b_J_remove 48 = .ok (.iaload, 1) := by decide +kernel
theorem d_J_remove_49 : decode b_J_remove 49 = .ok (.iastore, 1) := by decide +kernel
theorem d_J_remove_50 : decode b_J_remove 50 = .ok (.iinc 2 1, 3) := by decide +kernel
theorem d_J_remove_53 : decode b_J_remove 53 = .ok (.goto (-39), 3) := by decide +kernel
theorem d_J_remove_56 : decode b_J_remove 56 = .ok (.aload_n 0, 1) := by decide +kernel
theorem d_J_remove_57 : decode b_J_remove 57 = .ok (.dup, 1) := by decide +kernel
theorem d_J_remove_58 : decode b_J_remove 58 = .ok (.getfield 54, 3) := by decide +kernel
theorem d_J_remove_61 : decode b_J_remove 61 = .ok (.iconst 1, 1) := by decide +kernel
theorem d_J_remove_62 : decode b_J_remove 62 = .ok (.isub, 1) := by decide +kernel
theorem d_J_remove_63 : decode b_J_remove 63 = .ok (.putfield 54, 3) := by decide +kernel
theorem d_J_remove_66 : decode b_J_remove 66 = .ok (.aload_n 0, 1) := by decide +kernel
theorem d_J_remove_67 : decode b_J_remove 67 = .ok (.iconst 0, 1) := by decide +kernel
theorem d_J_remove_68 : decode b_J_remove 68 = .ok (.putfield 57, 3) := by decide +kernel
theorem d_J_remove_71 : decode b_J_remove 71 = .ok (.aload_n 0, 1) := by decide +kernel
theorem d_J_remove_72 : decode b_J_remove 72 = .ok (.getfield 54, 3) := by decide +kernel
theorem d_J_remove_75 : decode b_J_remove 75 = .ok (.ireturn, 1) := by decide +kernel
theorem d_J_threshold_0 : decode b_J_threshold 0 = .ok (.iload_n 1, 1) := by decide +kernel
theorem d_J_threshold_1 : decode b_J_threshold 1 = .ok (.iconst 1, 1) := by decide +kernel
theorem d_J_threshold_2 : decode b_J_threshold 2 = .ok (.if_icmp .lt 20, 3) := by decide +kernel
theorem d_J_threshold_5 : decode b_J_threshold 5 = .ok (.iload_n 1, 1) := by decide +kernel
theorem d_J_threshold_6 : decode b_J_threshold 6 = .ok (.bipush 12, 2) := by decide +kernel
theorem d_J_threshold_8 : decode b_J_threshold 8 = .ok (.if_icmp .gt 14, 3) := by decide +kernel
theorem d_J_threshold_11 : decode b_J_threshold 11 = .ok (.iload_n 2, 1) := by decide +kernel
theorem d_J_threshold_12 : decode b_J_threshold 12 = .ok (.iconst 1, 1) := by decide +kernel
theorem d_J_threshold_13 : decode b_J_threshold 13 = .ok (.if_icmp .lt 9, 3) := by decide +kernel
theorem d_J_threshold_16 : decode b_J_threshold 16 = .ok (.iload_n 2, 1) := by decide +kernel
theorem d_J_threshold_17 : decode b_J_threshold 17 = .ok (.bipush 12, 2) := by decide +kernel
theorem d_J_threshold_19 : decode b_J_threshold 19 = .ok (.if_icmp .le 5, 3) := by decide +kernel
theorem d_J_threshold_22 : decode b_J_threshold 22 = .ok (.iconst (-1), 1) := by decide +kernel
theorem d_J_threshold_23 : decode b_J_threshold 23 = .ok (.ireturn, 1) := by decide +kernel
theorem d_J_threshold_24 : decode b_J_threshold 24 = .ok (.iload_n 1, 1) := by decide +kernel
theorem d_J_threshold_25 : decode b_J_threshold 25 = .ok (.iload_n 2, 1) := by decide +kernel
theorem d_J_threshold_26 : decode b_J_threshold 26 = .ok (.if_icmp .le 6, 3) := by decide +kernel
theorem d_J_threshold_29 : decode b_J_threshold 29 = .ok (.bipush (-2), 2) := by decide +kernel
theorem d_J_threshold_31 : decode b_J_threshold 31 = .ok (.ireturn, 1) := by decide +kernel
theorem d_J_threshold_32 : decode b_J_threshold 32 = .ok (.aload_n 0, 1) := by decide +kernel
theorem d_J_threshold_33 : decode b_J_threshold 33 = .ok (.iload_n 1, 1) := by decide +kernel
theorem d_J_threshold_34 : decode b_J_threshold 34 = .ok (.putfield 34, 3) := by decide +kernel
theorem d_J_threshold_37 : decode b_J_threshold 37 = .ok (.aload_n 0, 1) := by decide +kernel
theorem d_J_threshold_38 : decode b_J_threshold 38 = .ok (.iload_n 2, 1) := by decide +kernel
theorem d_J_threshold_39 : decode b_J_threshold 39 = .ok (.putfield 38, 3) := by decide +kernel
theorem d_J_threshold_42 : decode b_J_threshold 42 = .ok (.aload_n 0, 1) := by decide +kernel
theorem d_J_threshold_43 : decode b_J_threshold 43 = .ok (.iconst 0, 1) := by decide +kernel
theorem d_J_threshold_44 : decode b_J_threshold 44 = .ok (.putfield 57, 3) := by decide +kernel
theorem d_J_threshold_47 : decode b_J_threshold 47 = .ok (.iconst 0, 1) := by decide +kernel
theorem d_J_threshold_48 : decode b_J_threshold 48 = .ok (.ireturn, 1) := by decide +kernel
theorem d_J_records_0 : decode b_J_records 0 = .ok (.aload_n 0, 1) := by decide +kernel
theorem d_J_records_1 : decode b_J_records 1 = .ok (.getfield 54, 3) := by decide +kernel
theorem d_J_records_4 : decode b_J_records 4 = .ok (.ireturn, 1) := by decide +kernel
theorem d_J_size_0 : decode b_J_size 0 = .ok (.aload_n 0, 1) := by decide +kernel
theorem d_J_size_1 : decode b_J_size 1 = .ok (.iload_n 1, 1) := by decide +kernel
theorem d_J_size_2 : decode b_J_size 2 = .ok (.invokevirtual 51, 3) := by decide +kernel
theorem d_J_size_5 : decode b_J_size 5 = .ok (.ifCond .eq 12, 3) := by decide +kernel
theorem d_J_size_8 : decode b_J_size 8 = .ok (.aload_n 0, 1) := by decide +kernel
theorem d_J_size_9 : decode b_J_size 9 = .ok (.getfield 13, 3) := by decide +kernel
theorem d_J_size_12 : decode b_J_size 12 = .ok (.iload_n 1, 1) := by decide +kernel
theorem d_J_size_13 : decode b_J_size 13 = .ok (.iaload, 1) := by decide +kernel
theorem d_J_size_14 : decode b_J_size 14 = .ok (.goto 4, 3) := by decide +kernel
theorem d_J_size_17 : decode b_J_size 17 = .ok (.iconst (-1), 1) := by decide +kernel
theorem d_J_size_18 : decode b_J_size 18 = .ok (.ireturn, 1) := by decide +kernel
theorem d_J_has_0 : decode b_J_has 0 = .ok (.aload_n 0, 1) := by decide +kernel
theorem d_J_has_1 : decode b_J_has 1 = .ok (.iload_n 1, 1) := by decide +kernel
theorem d_J_has_2 : decode b_J_has 2 = .ok (.invokevirtual 51, 3) := by decide +kernel
theorem d_J_has_5 : decode b_J_has 5 = .ok (.ifCond .ne 5, 3) := by decide +kernel
theorem d_J_has_8 : decode b_J_has 8 = .ok (.iconst (-1), 1) := by decide +kernel
theorem d_J_has_9 : decode b_J_has 9 = .ok (.ireturn, 1) := by decide +kernel
theorem d_J_has_10 : decode b_J_has 10 = .ok (.iload_n 2, 1) := by decide +kernel
theorem d_J_has_11 : decode b_J_has 11 = .ok (.invokestatic 41, 3) := by decide +kernel
theorem d_J_has_14 : decode b_J_has 14 = .ok (.ifCond .eq 16, 3) := by decide +kernel
theorem d_J_has_17 : decode b_J_has 17 = .ok (.aload_n 0, 1) := by decide +kernel
theorem d_J_has_18 : decode b_J_has 18 = .ok (.getfield 7, 3) := by decide +kernel
theorem d_J_has_21 : decode b_J_has 21 = .ok (.iload_n 1, 1) := by decide +kernel
theorem d_J_has_22 : decode b_J_has 22 = .ok (.iaload, 1) := by decide +kernel
theorem d_J_has_23 : decode b_J_has 23 = .ok (.iload_n 2, 1) := by decide +kernel
theorem d_J_has_24 : decode b_J_has 24 = .ok (.ishr, 1) := by decide +kernel
theorem d_J_has_25 : decode b_J_has 25 = .ok (.iconst 1, 1) := by decide +kernel
theorem d_J_has_26 : decode b_J_has 26 = .ok (.iand, 1) := by decide +kernel
theorem d_J_has_27 : decode b_J_has 27 = .ok (.goto 5, 3) := by decide +kernel
theorem d_J_has_30 : decode b_J_has 30 = .ok (.bipush (-2), 2) := by decide +kernel
theorem d_J_has_32 : decode b_J_has 32 = .ok (.ireturn, 1) := by decide +kernel
theorem d_J_frequency_0 : decode b_J_frequency 0 = .ok (.iload_n 1, 1) := by decide +kernel
theorem d_J_frequency_1 : decode b_J_frequency 1 = .ok (.invokestatic 41, 3) := by decide +kernel
theorem d_J_frequency_4 : decode b_J_frequency 4 = .ok (.ifCond .ne 5, 3) := by decide +kernel
theorem d_J_frequency_7 : decode b_J_frequency 7 = .ok (.iconst (-1), 1) := by decide +kernel
theorem d_J_frequency_8 : decode b_J_frequency 8 = .ok (.ireturn, 1) := by decide +kernel
theorem d_J_frequency_9 : decode b_J_frequency 9 = .ok (.aload_n 0, 1) := by decide +kernel
theorem d_J_frequency_10 : decode b_J_frequency 10 = .ok (.invokevirtual 61, 3) := by decide +kernel
theorem d_J_frequency_13 : decode b_J_frequency 13 = .ok (.aload_n 0, 1) := by decide +kernel
theorem d_J_frequency_14 : decode b_J_frequency 14 = .ok (.getfield 22, 3) := by decide +kernel
theorem d_J_frequency_17 : decode b_J_frequency 17 = .ok (.iload_n 1, 1) := by decide +kernel
theorem d_J_frequency_18 : decode b_J_frequency 18 = .ok (.iaload, 1) := by decide +kernel
theorem d_J_frequency_19 : decode b_J_frequency 19 = .ok (.ireturn, 1) := by decide +kernel
theorem d_J_refresh_0 : decode b_J_refresh 0 = .ok (.aload_n 0, 1) := by decide +kernel
theorem d_J_refresh_1 : decode b_J_refresh 1 = .ok (.getfield 57, 3) := by decide +kernel
theorem d_J_refresh_4 : decode b_J_refresh 4 = .ok (.ifCond .eq 4, 3) := by decide +kernel
theorem d_J_refresh_7 : decode b_J_refresh 7 = .ok (.return_, 1) := by decide +kernel
theorem d_J_refresh_8 : decode b_J_refresh 8 = .ok (.aload_n 0, 1) := by decide +kernel
theorem d_J_refresh_9 : decode b_J_refresh 9 = .ok (.iconst 1, 1) := by decide +kernel
theorem d_J_refresh_10 : decode b_J_refresh 10 = .ok (.putfield 57, 3) := by decide +kernel
theorem d_J_refresh_13 : decode b_J_refresh 13 = .ok (.aload_n 0, 1) := by decide +kernel
theorem d_J_refresh_14 : decode b_J_refresh 14 = .ok (.invokevirtual 79, 3) := by decide +kernel
theorem d_J_refresh_17 : decode b_J_refresh 17 = .ok (.iconst 0, 1) := by decide +kernel
theorem d_J_refresh_18 : decode b_J_refresh 18 = .ok (.istore_n 1, 1) := by decide +kernel
theorem d_J_refresh_19 : decode b_J_refresh 19 = .ok (.iload_n 1, 1) := by decide +kernel
theorem d_J_refresh_20 : decode b_J_refresh 20 = .ok (.bipush 30, 2) := by decide +kernel
theorem d_J_refresh_22 : decode b_J_refresh 22 = .ok (.if_icmp .ge 16, 3) := by decide +kernel
theorem d_J_refresh_25 : decode b_J_refresh 25 = .ok (.aload_n 0, 1) := by decide +kernel
theorem d_J_refresh_26 : decode b_J_refresh 26 = .ok (.getfield 25, 3) := by decide +kernel
theorem d_J_refresh_29 : decode b_J_refresh 29 = .ok (.iload_n 1, 1) := by decide +kernel
theorem d_J_refresh_30 : decode b_J_refresh 30 = .ok (.iconst 0, 1) := by decide +kernel
theorem d_J_refresh_31 : decode b_J_refresh 31 = .ok (.iastore, 1) := by decide +kernel
theorem d_J_refresh_32 : decode b_J_refresh 32 = .ok (.iinc 1 1, 3) := by decide +kernel
theorem d_J_refresh_35 : decode b_J_refresh 35 = .ok (.goto (-16), 3) := by decide +kernel
theorem d_J_refresh_38 : decode b_J_refresh 38 = .ok (.iconst 0, 1) := by decide +kernel
theorem d_J_refresh_39 : decode b_J_refresh 39 = .ok (.istore_n 1, 1) := by decide +kernel
theorem d_J_refresh_40 : decode b_J_refresh 40 = .ok (.iload_n 1, 1) := by decide +kernel
theorem d_J_refresh_41 : decode b_J_refresh 41 = .ok (.aload_n 0, 1) := by decide +kernel
theorem d_J_refresh_42 : decode b_J_refresh 42 = .ok (.getfield 54, 3) := by decide +kernel
theorem d_J_refresh_45 : decode b_J_refresh 45 = .ok (.if_icmp .ge 75, 3) := by decide +kernel
theorem d_J_refresh_48 : decode b_J_refresh 48 = .ok (.aload_n 0, 1) := by decide +kernel
theorem d_J_refresh_49 : decode b_J_refresh 49 = .ok (.iload_n 1, 1) := by decide +kernel
theorem d_J_refresh_50 : decode b_J_refresh 50 = .ok (.aload_n 0, 1) := by decide +kernel
theorem d_J_refresh_51 : decode b_J_refresh 51 = .ok (.getfield 7, 3) := by decide +kernel
theorem d_J_refresh_54 : decode b_J_refresh 54 = .ok (.iload_n 1, 1) := by decide +kernel
theorem d_J_refresh_55 : decode b_J_refresh 55 = .ok (.iaload, 1) := by decide +kernel
theorem d_J_refresh_56 : decode b_J_refresh 56 = .ok (.invokevirtual 82, 3) := by decide +kernel
theorem d_J_refresh_59 : decode b_J_refresh 59 = .ok (.aload_n 0, 1) := by decide +kernel
theorem d_J_refresh_60 : decode b_J_refresh 60 = .ok (.aload_n 0, 1) := by decide +kernel
theorem d_J_refresh_61 : decode b_J_refresh 61 = .ok (.getfield 13, 3) := by decide +kernel
theorem d_J_refresh_64 : decode b_J_refresh 64 = .ok (.iload_n 1, 1) := by decide +kernel
theorem d_J_refresh_65 : decode b_J_refresh 65 = .ok (.iaload, 1) := by decide +kernel
theorem d_J_refresh_66 : decode b_J_refresh 66 = .ok (.invokevirtual 86, 3) := by decide +kernel
theorem d_J_refresh_69 : decode b_J_refresh 69 = .ok (.istore_n 2, 1) := by decide +kernel
theorem d_J_refresh_70 : decode b_J_refresh 70 = .ok (.iconst 0, 1) := by decide +kernel
theorem d_J_refresh_71 : decode b_J_refresh 71 = .ok (.istore_n 3, 1) := by decide +kernel
theorem d_J_refresh_72 : decode b_J_refresh 72 = .ok (.iload_n 3, 1) := by decide +kernel
theorem d_J_refresh_73 : decode b_J_refresh 73 = .ok (.iload_n 2, 1) := by decide +kernel
theorem d_J_refresh_74 : decode b_J_refresh 74 = .ok (.if_icmp .ge 40, 3) := by decide +kernel
theorem d_J_refresh_77 : decode b_J_refresh 77 = .ok (.aload_n 0, 1) := by decide +kernel
theorem d_J_refresh_78 : decode b_J_refresh 78 = .ok (.getfield 16, 3) := by decide +kernel
theorem d_J_refresh_81 : decode b_J_refresh 81 = .ok (.bipush 12, 2) := by decide +kernel
theorem d_J_refresh_83 : decode b_J_refresh 83 = .ok (.iload_n 1, 1) := by decide +kernel
theorem d_J_refresh_84 : decode b_J_refresh 84 = .ok (.imul, 1) := by decide +kernel
theorem d_J_refresh_85 : decode b_J_refresh 85 = .ok (.iload_n 3, 1) := by decide +kernel
theorem d_J_refresh_86 : decode b_J_refresh 86 = .ok (.iadd, 1) := by decide +kernel
theorem d_J_refresh_87 : decode b_J_refresh 87 = .ok (.iaload, 1) := by decide +kernel
theorem d_J_refresh_88 : decode b_J_refresh 88 = .ok (.istore 4, 2) := by decide +kernel
theorem d_J_refresh_90 : decode b_J_refresh 90 = .ok (.aload_n 0, 1) := by decide +kernel
theorem d_J_refresh_91 : decode b_J_refresh 91 = .ok (.getfield 25, 3) := by decide +kernel
theorem d_J_refresh_94 : decode b_J_refresh 94 = .ok (.iload 4, 2) := by decide +kernel
theorem d_J_refresh_96 : decode b_J_refresh 96 = .ok (.aload_n 0, 1) := by decide +kernel
theorem d_J_refresh_97 : decode b_J_refresh 97 = .ok (.getfield 25, 3) := by decide +kernel
theorem d_J_refresh_100 : decode b_J_refresh 100 = .ok (.iload 4, 2) := by decide +kernel
theorem d_J_refresh_102 : decode b_J_refresh 102 = .ok (.iaload, 1) := by decide +kernel
theorem d_J_refresh_103 : decode b_J_refresh 103 = .ok (.iconst 1, 1) := by decide +kernel
theorem d_J_refresh_104 : decode b_J_refresh 104 = .ok (.iload_n 1, 1) := by decide +kernel
theorem d_J_refresh_105 : decode b_J_refresh 105 = .ok (.ishl, 1) := by decide +kernel
theorem d_J_refresh_106 : decode b_J_refresh 106 = .ok (.ior, 1) := by decide +kernel
theorem d_J_refresh_107 : decode b_J_refresh 107 = .ok (.iastore, 1) := by decide +kernel
theorem d_J_refresh_108 : decode b_J_refresh 108 = .ok (.iinc 3 1, 3) := by decide +kernel
theorem d_J_refresh_111 : decode b_J_refresh 111 = .ok (.goto (-39), 3) := by decide +kernel
theorem d_J_refresh_114 : decode b_J_refresh 114 = .ok (.iinc 1 1, 3) := by decide +kernel
theorem d_J_refresh_117 : decode b_J_refresh 117 = .ok (.goto (-77), 3) := by decide +kernel
theorem d_J_refresh_120 : decode b_J_refresh 120 = .ok (.iconst 0, 1) := by decide +kernel
theorem d_J_refresh_121 : decode b_J_refresh 121 = .ok (.istore_n 1, 1) := by decide +kernel
theorem d_J_refresh_122 : decode b_J_refresh 122 = .ok (.iload_n 1, 1) := by decide +kernel
theorem d_J_refresh_123 : decode b_J_refresh 123 = .ok (.aload_n 0, 1) := by decide +kernel
theorem d_J_refresh_124 : decode b_J_refresh 124 = .ok (.getfield 54, 3) := by decide +kernel
theorem d_J_refresh_127 : decode b_J_refresh 127 = .ok (.if_icmp .ge 33, 3) := by decide +kernel
theorem d_J_refresh_130 : decode b_J_refresh 130 = .ok (.aload_n 0, 1) := by decide +kernel
theorem d_J_refresh_131 : decode b_J_refresh 131 = .ok (.getfield 28, 3) := by decide +kernel
theorem d_J_refresh_134 : decode b_J_refresh 134 = .ok (.iload_n 1, 1) := by decide +kernel
theorem d_J_refresh_135 : decode b_J_refresh 135 = .ok (.aload_n 0, 1) := by decide +kernel
theorem d_J_refresh_136 : decode b_J_refresh 136 = .ok (.iload_n 1, 1) := by decide +kernel
theorem d_J_refresh_137 : decode b_J_refresh 137 = .ok (.aload_n 0, 1) := by decide +kernel
theorem d_J_refresh_138 : decode b_J_refresh 138 = .ok (.getfield 13, 3) := by decide +kernel
theorem d_J_refresh_141 : decode b_J_refresh 141 = .ok (.iload_n 1, 1) := by decide +kernel
theorem d_J_refresh_142 : decode b_J_refresh 142 = .ok (.iaload, 1) := by decide +kernel
theorem d_J_refresh_143 : decode b_J_refresh 143 = .ok (.invokevirtual 89, 3) := by decide +kernel
theorem d_J_refresh_146 : decode b_J_refresh 146 = .ok (.iastore, 1) := by decide +kernel
theorem d_J_refresh_147 : decode b_J_refresh 147 = .ok (.aload_n 0, 1) := by decide +kernel
theorem d_J_refresh_148 : decode b_J_refresh 148 = .ok (.getfield 31, 3) := by decide +kernel
theorem d_J_refresh_151 : decode b_J_refresh 151 = .ok (.iload_n 1, 1) := by decide +kernel
theorem d_J_refresh_152 : decode b_J_refresh 152 = .ok (.iload_n 1, 1) := by decide +kernel
theorem d_J_refresh_153 : decode b_J_refresh 153 = .ok (.iastore, 1) := by decide +kernel
theorem d_J_refresh_154 : decode b_J_refresh 154 = .ok (.iinc 1 1, 3) := by decide +kernel
theorem d_J_refresh_157 : decode b_J_refresh 157 = .ok (.goto (-35), 3) := by decide +kernel
theorem d_J_refresh_160 : decode b_J_refresh 160 = .ok (.iconst 0, 1) := by decide +kernel
theorem d_J_refresh_161 : decode b_J_refresh 161 = .ok (.istore_n 1, 1) := by decide +kernel
theorem d_J_refresh_162 : decode b_J_refresh 162 = .ok (.iload_n 1, 1) := by decide +kernel
theorem d_J_refresh_163 : decode b_J_refresh 163 = .ok (.aload_n 0, 1) := by decide +kernel
theorem d_J_refresh_164 : decode b_J_refresh 164 = .ok (.getfield 54, 3) := by decide +kernel
theorem d_J_refresh_167 : decode b_J_refresh 167 = .ok (.if_icmp .ge 14, 3) := by decide +kernel
theorem d_J_refresh_170 : decode b_J_refresh 170 = .ok (.aload_n 0, 1) := by decide +kernel
theorem d_J_refresh_171 : decode b_J_refresh 171 = .ok (.iload_n 1, 1) := by decide +kernel
theorem d_J_refresh_172 : decode b_J_refresh 172 = .ok (.invokevirtual 93, 3) := by decide +kernel
theorem d_J_refresh_175 : decode b_J_refresh 175 = .ok (.iinc 1 1, 3) := by decide +kernel
theorem d_J_refresh_178 : decode b_J_refresh 178 = .ok (.goto (-16), 3) := by decide +kernel
theorem d_J_refresh_181 : decode b_J_refresh 181 = .ok (.return_, 1) := by decide +kernel
theorem d_J_rankTokens_0 : decode b_J_rankTokens 0 = .ok (.iconst 0, 1) := by decide +kernel
theorem d_J_rankTokens_1 : decode b_J_rankTokens 1 = .ok (.istore_n 1, 1) := by decide +kernel
theorem d_J_rankTokens_2 : decode b_J_rankTokens 2 = .ok (.iload_n 1, 1) := by decide +kernel
theorem d_J_rankTokens_3 : decode b_J_rankTokens 3 = .ok (.bipush 30, 2) := by decide +kernel
theorem d_J_rankTokens_5 : decode b_J_rankTokens 5 = .ok (.if_icmp .ge 51, 3) := by decide +kernel
theorem d_J_rankTokens_8 : decode b_J_rankTokens 8 = .ok (.aload_n 0, 1) := by decide +kernel
theorem d_J_rankTokens_9 : decode b_J_rankTokens 9 = .ok (.getfield 22, 3) := by decide +kernel
theorem d_J_rankTokens_12 : decode b_J_rankTokens 12 = .ok (.iload_n 1, 1) := by decide +kernel
theorem d_J_rankTokens_13 : decode b_J_rankTokens 13 = .ok (.iconst 0, 1) := by decide +kernel
theorem d_J_rankTokens_14 : decode b_J_rankTokens 14 = .ok (.iastore, 1) := by decide +kernel
theorem d_J_rankTokens_15 : decode b_J_rankTokens 15 = .ok (.iconst 0, 1) := by decide +kernel
theorem d_J_rankTokens_16 : decode b_J_rankTokens 16 = .ok (.istore_n 2, 1) := by decide +kernel
theorem d_J_rankTokens_17 : decode b_J_rankTokens 17 = .ok (.iload_n 2, 1) := by decide +kernel
theorem d_J_rankTokens_18 : decode b_J_rankTokens 18 = .ok (.aload_n 0, 1) := by decide +kernel
theorem d_J_rankTokens_19 : decode b_J_rankTokens 19 = .ok (.getfield 54, 3) := by decide +kernel
theorem d_J_rankTokens_22 : decode b_J_rankTokens 22 = .ok (.if_icmp .ge 28, 3) := by decide +kernel
theorem d_J_rankTokens_25 : decode b_J_rankTokens 25 = .ok (.aload_n 0, 1) := by decide +kernel
theorem d_J_rankTokens_26 : decode b_J_rankTokens 26 = .ok (.getfield 22, 3) := by decide +kernel
theorem d_J_rankTokens_29 : decode b_J_rankTokens 29 = .ok (.iload_n 1, 1) := by decide +kernel
theorem d_J_rankTokens_30 : decode b_J_rankTokens 30 = .ok (.dup2, 1) := by decide +kernel
theorem d_J_rankTokens_31 : decode b_J_rankTokens 31 = .ok (.iaload, 1) := by decide +kernel
theorem d_J_rankTokens_32 : decode b_J_rankTokens 32 = .ok (.aload_n 0, 1) := by decide +kernel
theorem d_J_rankTokens_33 : decode b_J_rankTokens 33 = .ok (.getfield 7, 3) := by decide +kernel
theorem d_J_rankTokens_36 : decode b_J_rankTokens 36 = .ok (.iload_n 2, 1) := by decide +kernel
theorem d_J_rankTokens_37 : decode b_J_rankTokens 37 = .ok (.iaload, 1) := by decide +kernel
theorem d_J_rankTokens_38 : decode b_J_rankTokens 38 = .ok (.iload_n 1, 1) := by decide +kernel
theorem d_J_rankTokens_39 : decode b_J_rankTokens 39 = .ok (.ishr, 1) := by decide +kernel
theorem d_J_rankTokens_40 : decode b_J_rankTokens 40 = .ok (.iconst 1, 1) := by decide +kernel
theorem d_J_rankTokens_41 : decode b_J_rankTokens 41 = .ok (.iand, 1) := by decide +kernel
theorem d_J_rankTokens_42 : decode b_J_rankTokens 42 = .ok (.iadd, 1) := by decide +kernel
theorem d_J_rankTokens_43 : decode b_J_rankTokens 43 = .ok (.iastore, 1) := by decide +kernel
theorem d_J_rankTokens_44 : decode b_J_rankTokens 44 = .ok (.iinc 2 1, 3) := by decide +kernel
theorem d_J_rankTokens_47 : decode b_J_rankTokens 47 = .ok (.goto (-30), 3) := by decide +kernel
theorem d_J_rankTokens_50 : decode b_J_rankTokens 50 = .ok (.iinc 1 1, 3) := by decide +kernel
theorem d_J_rankTokens_53 : decode b_J_rankTokens 53 = .ok (.goto (-51), 3) := by decide +kernel
theorem d_J_rankTokens_56 : decode b_J_rankTokens 56 = .ok (.iconst 0, 1) := by decide +kernel
theorem d_J_rankTokens_57 : decode b_J_rankTokens 57 = .ok (.istore_n 1, 1) := by decide +kernel
theorem d_J_rankTokens_58 : decode b_J_rankTokens 58 = .ok (.iload_n 1, 1) := by decide +kernel
theorem d_J_rankTokens_59 : decode b_J_rankTokens 59 = .ok (.bipush 30, 2) := by decide +kernel
theorem d_J_rankTokens_61 : decode b_J_rankTokens 61 = .ok (.if_icmp .ge 70, 3) := by decide +kernel
theorem d_J_rankTokens_64 : decode b_J_rankTokens 64 = .ok (.iconst 0, 1) := by decide +kernel
theorem d_J_rankTokens_65 : decode b_J_rankTokens 65 = .ok (.istore_n 2, 1) := by decide +kernel
theorem d_J_rankTokens_66 : decode b_J_rankTokens 66 = .ok (.iconst 0, 1) := by decide +kernel
theorem d_J_rankTokens_67 : decode b_J_rankTokens 67 = .ok (.istore_n 3, 1) := by decide +kernel
theorem d_J_rankTokens_68 : decode b_J_rankTokens 68 = .ok (.iload_n 3, 1) := by decide +kernel
theorem d_J_rankTokens_69 : decode b_J_rankTokens 69 = .ok (.bipush 30, 2) := by decide +kernel
theorem d_J_rankTokens_71 : decode b_J_rankTokens 71 = .ok (.if_icmp .ge 47, 3) := by decide +kernel
theorem d_J_rankTokens_74 : decode b_J_rankTokens 74 = .ok (.aload_n 0, 1) := by decide +kernel
theorem d_J_rankTokens_75 : decode b_J_rankTokens 75 = .ok (.getfield 22, 3) := by decide +kernel
theorem d_J_rankTokens_78 : decode b_J_rankTokens 78 = .ok (.iload_n 3, 1) := by decide +kernel
theorem d_J_rankTokens_79 : decode b_J_rankTokens 79 = .ok (.iaload, 1) := by decide +kernel
theorem d_J_rankTokens_80 : decode b_J_rankTokens 80 = .ok (.aload_n 0, 1) := by decide +kernel
theorem d_J_rankTokens_81 : decode b_J_rankTokens 81 = .ok (.getfield 22, 3) := by decide +kernel
theorem d_J_rankTokens_84 : decode b_J_rankTokens 84 = .ok (.iload_n 1, 1) := by decide +kernel
theorem d_J_rankTokens_85 : decode b_J_rankTokens 85 = .ok (.iaload, 1) := by decide +kernel
theorem d_J_rankTokens_86 : decode b_J_rankTokens 86 = .ok (.if_icmp .lt 23, 3) := by decide +kernel
theorem d_J_rankTokens_89 : decode b_J_rankTokens 89 = .ok (.aload_n 0, 1) := by decide +kernel
theorem d_J_rankTokens_90 : decode b_J_rankTokens 90 = .ok (.getfield 22, 3) := by decide +kernel
theorem d_J_rankTokens_93 : decode b_J_rankTokens 93 = .ok (.iload_n 3, 1) := by decide +kernel
theorem d_J_rankTokens_94 : decode b_J_rankTokens 94 = .ok (.iaload, 1) := by decide +kernel
theorem d_J_rankTokens_95 : decode b_J_rankTokens 95 = .ok (.aload_n 0, 1) := by decide +kernel
theorem d_J_rankTokens_96 : decode b_J_rankTokens 96 = .ok (.getfield 22, 3) := by decide +kernel
theorem d_J_rankTokens_99 : decode b_J_rankTokens 99 = .ok (.iload_n 1, 1) := by decide +kernel
theorem d_J_rankTokens_100 : decode b_J_rankTokens 100 = .ok (.iaload, 1) := by decide +kernel
theorem d_J_rankTokens_101 : decode b_J_rankTokens 101 = .ok (.if_icmp .ne 11, 3) := by decide +kernel
theorem d_J_rankTokens_104 : decode b_J_rankTokens 104 = .ok (.iload_n 3, 1) := by decide +kernel
theorem d_J_rankTokens_105 : decode b_J_rankTokens 105 = .ok (.iload_n 1, 1) := by decide +kernel
theorem d_J_rankTokens_106 : decode b_J_rankTokens 106 = .ok (.if_icmp .ge 6, 3) := by decide +kernel
theorem d_J_rankTokens_109 : decode b_J_rankTokens 109 = .ok (.iinc 2 1, 3) := by decide +kernel
theorem d_J_rankTokens_112 : decode b_J_rankTokens 112 = .ok (.iinc 3 1, 3) := by decide +kernel
theorem d_J_rankTokens_115 : decode b_J_rankTokens 115 = .ok (.goto (-47), 3) := by decide +kernel
theorem d_J_rankTokens_118 : decode b_J_rankTokens 118 = .ok (.aload_n 0, 1) := by decide +kernel
theorem d_J_rankTokens_119 : decode b_J_rankTokens 119 = .ok (.getfield 19, 3) := by decide +kernel
theorem d_J_rankTokens_122 : decode b_J_rankTokens 122 = .ok (.iload_n 1, 1) := by decide +kernel
theorem d_J_rankTokens_123 : decode b_J_rankTokens 123 = .ok (.iload_n 2, 1) := by decide +kernel
theorem d_J_rankTokens_124 : decode b_J_rankTokens 124 = .ok (.iastore, 1) := by decide +kernel
theorem d_J_rankTokens_125 : decode b_J_rankTokens 125 = .ok (.iinc 1 1, 3) := by decide +kernel
theorem d_J_rankTokens_128 : decode b_J_rankTokens 128 = .ok (.goto (-70), 3) := by decide +kernel
theorem d_J_rankTokens_131 : decode b_J_rankTokens 131 = .ok (.return_, 1) := by decide +kernel
theorem d_J_spell_0 : decode b_J_spell 0 = .ok (.iconst 0, 1) := by decide +kernel
theorem d_J_spell_1 : decode b_J_spell 1 = .ok (.istore_n 3, 1) := by decide +kernel
theorem d_J_spell_2 : decode b_J_spell 2 = .ok (.iconst 0, 1) := by decide +kernel
theorem d_J_spell_3 : decode b_J_spell 3 = .ok (.istore 4, 2) := by decide +kernel
theorem d_J_spell_5 : decode b_J_spell 5 = .ok (.iload 4, 2) := by decide +kernel
theorem d_J_spell_7 : decode b_J_spell 7 = .ok (.bipush 30, 2) := by decide +kernel
theorem d_J_spell_9 : decode b_J_spell 9 = .ok (.if_icmp .ge 111, 3) := by decide +kernel
theorem d_J_spell_12 : decode b_J_spell 12 = .ok (.iload_n 2, 1) := by decide +kernel
theorem d_J_spell_13 : decode b_J_spell 13 = .ok (.iload 4, 2) := by decide +kernel
theorem d_J_spell_15 : decode b_J_spell 15 = .ok (.ishr, 1) := by decide +kernel
theorem d_J_spell_16 : decode b_J_spell 16 = .ok (.iconst 1, 1) := by decide +kernel
theorem d_J_spell_17 : decode b_J_spell 17 = .ok (.iand, 1) := by decide +kernel
theorem d_J_spell_18 : decode b_J_spell 18 = .ok (.iconst 1, 1) := by decide +kernel
theorem d_J_spell_19 : decode b_J_spell 19 = .ok (.if_icmp .ne 95, 3) := by decide +kernel
theorem d_J_spell_22 : decode b_J_spell 22 = .ok (.iload_n 3, 1) := by decide +kernel
theorem d_J_spell_23 : decode b_J_spell 23 = .ok (.bipush 12, 2) := by decide +kernel
theorem d_J_spell_25 : decode b_J_spell 25 = .ok (.if_icmp .ge 89, 3) := by decide +kernel
theorem d_J_spell_28 : decode b_J_spell 28 = .ok (.iload_n 3, 1) := by decide +kernel
theorem d_J_spell_29 : decode b_J_spell 29 = .ok (.istore 5, 2) := by decide +kernel
theorem d_J_spell_31 : decode b_J_spell 31 = .ok (.iload 5, 2) := by decide +kernel
theorem d_J_spell_33 : decode b_J_spell 33 = .ok (.ifCond .le 59, 3) := by decide +kernel
theorem d_J_spell_36 : decode b_J_spell 36 = .ok (.aload_n 0, 1) := by decide +kernel
theorem d_J_spell_37 : decode b_J_spell 37 = .ok (.getfield 16, 3) := by decide +kernel
theorem d_J_spell_40 : decode b_J_spell 40 = .ok (.bipush 12, 2) := by decide +kernel
theorem d_J_spell_42 : decode b_J_spell 42 = .ok (.iload_n 1, 1) := by decide +kernel
theorem d_J_spell_43 : decode b_J_spell 43 = .ok (.imul, 1) := by decide +kernel
theorem d_J_spell_44 : decode b_J_spell 44 = .ok (.iload 5, 2) := by decide +kernel
theorem d_J_spell_46 : decode b_J_spell 46 = .ok (.iadd, 1) := by decide +kernel
theorem d_J_spell_47 : decode b_J_spell 47 = .ok (.iconst 1, 1) := by decide +kernel
theorem d_J_spell_48 : decode b_J_spell 48 = .ok (.isub, 1) := by decide +kernel
theorem d_J_spell_49 : decode b_J_spell 49 = .ok (.iaload, 1) := by decide +kernel
theorem d_J_spell_50 : decode b_J_spell 50 = .ok (.aload_n 0, 1) := by decide +kernel
theorem d_J_spell_51 : decode b_J_spell 51 = .ok (.getfield 19, 3) := by decide +kernel
theorem d_J_spell_54 : decode b_J_spell 54 = .ok (.iload 4, 2) := by decide +kernel
theorem d_J_spell_56 : decode b_J_spell 56 = .ok (.iaload, 1) := by decide +kernel
theorem d_J_spell_57 : decode b_J_spell 57 = .ok (.if_icmp .le 35, 3) := by decide +kernel
theorem d_J_spell_60 : decode b_J_spell 60 = .ok (.aload_n 0, 1) := by decide +kernel
theorem d_J_spell_61 : decode b_J_spell 61 = .ok (.getfield 16, 3) := by decide +kernel
theorem d_J_spell_64 : decode b_J_spell 64 = .ok (.bipush 12, 2) := by decide +kernel
theorem d_J_spell_66 : decode b_J_spell 66 = .ok (.iload_n 1, 1) := by decide +kernel
theorem d_J_spell_67 : decode b_J_spell 67 = .ok (.imul, 1) := by decide +kernel
theorem d_J_spell_68 : decode b_J_spell 68 = .ok (.iload 5, 2) := by decide +kernel
theorem d_J_spell_70 : decode b_J_spell 70 = .ok (.iadd, 1) := by decide +kernel
theorem d_J_spell_71 : decode b_J_spell 71 = .ok (.aload_n 0, 1) := by decide +kernel
theorem d_J_spell_72 : decode b_J_spell 72 = .ok (.getfield 16, 3) := by decide +kernel
theorem d_J_spell_75 : decode b_J_spell 75 = .ok (.bipush 12, 2) := by decide +kernel
theorem d_J_spell_77 : decode b_J_spell 77 = .ok (.iload_n 1, 1) := by decide +kernel
theorem d_J_spell_78 : decode b_J_spell 78 = .ok (.imul, 1) := by decide +kernel
theorem d_J_spell_79 : decode b_J_spell 79 = .ok (.iload 5, 2) := by decide +kernel
theorem d_J_spell_81 : decode b_J_spell 81 = .ok (.iadd, 1) := by decide +kernel
theorem d_J_spell_82 : decode b_J_spell 82 = .ok (.iconst 1, 1) := by decide +kernel
theorem d_J_spell_83 : decode b_J_spell 83 = .ok (.isub, 1) := by decide +kernel
theorem d_J_spell_84 : decode b_J_spell 84 = .ok (.iaload, 1) := by decide +kernel
theorem d_J_spell_85 : decode b_J_spell 85 = .ok (.iastore, 1) := by decide +kernel
theorem d_J_spell_86 : decode b_J_spell 86 = .ok (.iinc 5 (-1), 3) := by decide +kernel
theorem d_J_spell_89 : decode b_J_spell 89 = .ok (.goto (-58), 3) := by decide +kernel
theorem d_J_spell_92 : decode b_J_spell 92 = .ok (.aload_n 0, 1) := by decide +kernel
theorem d_J_spell_93 : decode b_J_spell 93 = .ok (.getfield 16, 3) := by decide +kernel
theorem d_J_spell_96 : decode b_J_spell 96 = .ok (.bipush 12, 2) := by decide +kernel
theorem d_J_spell_98 : decode b_J_spell 98 = .ok (.iload_n 1, 1) := by decide +kernel
theorem d_J_spell_99 : decode b_J_spell 99 = .ok (.imul, 1) := by decide +kernel
theorem d_J_spell_100 : decode b_J_spell 100 = .ok (.iload 5, 2) := by decide +kernel
theorem d_J_spell_102 : decode b_J_spell 102 = .ok (.iadd, 1) := by decide +kernel
theorem d_J_spell_103 : decode b_J_spell 103 = .ok (.aload_n 0, 1) := by decide +kernel
theorem d_J_spell_104 : decode b_J_spell 104 = .ok (.getfield 19, 3) := by decide +kernel
theorem d_J_spell_107 : decode b_J_spell 107 = .ok (.iload 4, 2) := by decide +kernel
theorem d_J_spell_109 : decode b_J_spell 109 = .ok (.iaload, 1) := by decide +kernel
theorem d_J_spell_110 : decode b_J_spell 110 = .ok (.iastore, 1) := by decide +kernel
theorem d_J_spell_111 : decode b_J_spell 111 = .ok (.iinc 3 1, 3) := by decide +kernel
theorem d_J_spell_114 : decode b_J_spell 114 = .ok (.iinc 4 1, 3) := by decide +kernel
theorem d_J_spell_117 : decode b_J_spell 117 = .ok (.goto (-112), 3) := by decide +kernel
theorem d_J_spell_120 : decode b_J_spell 120 = .ok (.return_, 1) := by decide +kernel
theorem d_J_prefixLength_0 : decode b_J_prefixLength 0 = .ok (.aload_n 0, 1) := by decide +kernel
theorem d_J_prefixLength_1 : decode b_J_prefixLength 1 = .ok (.getfield 34, 3) := by decide +kernel
theorem d_J_prefixLength_4 : decode b_J_prefixLength 4 = .ok (.iload_n 1, 1) := by decide +kernel
theorem d_J_prefixLength_5 : decode b_J_prefixLength 5 = .ok (.imul, 1) := by decide +kernel
theorem d_J_prefixLength_6 : decode b_J_prefixLength 6 = .ok (.aload_n 0, 1) := by decide +kernel
theorem d_J_prefixLength_7 : decode b_J_prefixLength 7 = .ok (.getfield 38, 3) := by decide +kernel
theorem d_J_prefixLength_10 : decode b_J_prefixLength 10 = .ok (.iadd, 1) := by decide +kernel
theorem d_J_prefixLength_11 : decode b_J_prefixLength 11 = .ok (.iconst 1, 1) := by decide +kernel
theorem d_J_prefixLength_12 : decode b_J_prefixLength 12 = .ok (.isub, 1) := by decide +kernel
theorem d_J_prefixLength_13 : decode b_J_prefixLength 13 = .ok (.aload_n 0, 1) := by decide +kernel
theorem d_J_prefixLength_14 : decode b_J_prefixLength 14 = .ok (.getfield 38, 3) := by decide +kernel
theorem d_J_prefixLength_17 : decode b_J_prefixLength 17 = .ok (.ifCond .le 10, 3) := by decide +kernel
theorem d_J_prefixLength_20 : decode b_J_prefixLength 20 = .ok (.aload_n 0, 1) := by decide +kernel
theorem d_J_prefixLength_21 : decode b_J_prefixLength 21 = .ok (.getfield 38, 3) := by decide +kernel
theorem d_J_prefixLength_24 : decode b_J_prefixLength 24 = .ok (.goto 4, 3) := by decide +kernel
theorem d_J_prefixLength_27 : decode b_J_prefixLength 27 = .ok (.iconst 1, 1) := by decide +kernel
theorem d_J_prefixLength_28 : decode b_J_prefixLength 28 = .ok (.idiv, 1) := by decide +kernel
theorem d_J_prefixLength_29 : decode b_J_prefixLength 29 = .ok (.istore_n 2, 1) := by decide +kernel
theorem d_J_prefixLength_30 : decode b_J_prefixLength 30 = .ok (.iload_n 1, 1) := by decide +kernel
theorem d_J_prefixLength_31 : decode b_J_prefixLength 31 = .ok (.iload_n 2, 1) := by decide +kernel
theorem d_J_prefixLength_32 : decode b_J_prefixLength 32 = .ok (.isub, 1) := by decide +kernel
theorem d_J_prefixLength_33 : decode b_J_prefixLength 33 = .ok (.iconst 1, 1) := by decide +kernel
theorem d_J_prefixLength_34 : decode b_J_prefixLength 34 = .ok (.iadd, 1) := by decide +kernel
theorem d_J_prefixLength_35 : decode b_J_prefixLength 35 = .ok (.ireturn, 1) := by decide +kernel
theorem d_J_probe_0 : decode b_J_probe 0 = .ok (.iload_n 2, 1) := by decide +kernel
theorem d_J_probe_1 : decode b_J_probe 1 = .ok (.ifCond .ne 5, 3) := by decide +kernel
theorem d_J_probe_4 : decode b_J_probe 4 = .ok (.iconst 0, 1) := by decide +kernel
theorem d_J_probe_5 : decode b_J_probe 5 = .ok (.ireturn, 1) := by decide +kernel
theorem d_J_probe_6 : decode b_J_probe 6 = .ok (.iconst 0, 1) := by decide +kernel
theorem d_J_probe_7 : decode b_J_probe 7 = .ok (.istore_n 3, 1) := by decide +kernel
theorem d_J_probe_8 : decode b_J_probe 8 = .ok (.aload_n 0, 1) := by decide +kernel
theorem d_J_probe_9 : decode b_J_probe 9 = .ok (.iload_n 2, 1) := by decide +kernel
theorem d_J_probe_10 : decode b_J_probe 10 = .ok (.invokevirtual 86, 3) := by decide +kernel
theorem d_J_probe_13 : decode b_J_probe 13 = .ok (.istore 4, 2) := by decide +kernel
theorem d_J_probe_15 : decode b_J_probe 15 = .ok (.iconst 0, 1) := by decide +kernel
theorem d_J_probe_16 : decode b_J_probe 16 = .ok (.istore 5, 2) := by decide +kernel
theorem d_J_probe_18 : decode b_J_probe 18 = .ok (.iload 5, 2) := by decide +kernel
theorem d_J_probe_20 : decode b_J_probe 20 = .ok (.iload 4, 2) := by decide +kernel
theorem d_J_probe_22 : decode b_J_probe 22 = .ok (.if_icmp .ge 29, 3) := by decide +kernel
theorem d_J_probe_25 : decode b_J_probe 25 = .ok (.iload_n 3, 1) := by decide +kernel
theorem d_J_probe_26 : decode b_J_probe 26 = .ok (.aload_n 0, 1) := by decide +kernel
theorem d_J_probe_27 : decode b_J_probe 27 = .ok (.getfield 25, 3) := by decide +kernel
theorem d_J_probe_30 : decode b_J_probe 30 = .ok (.aload_n 0, 1) := by decide +kernel
theorem d_J_probe_31 : decode b_J_probe 31 = .ok (.getfield 16, 3) := by decide +kernel
theorem d_J_probe_34 : decode b_J_probe 34 = .ok (.bipush 12, 2) := by decide +kernel
theorem d_J_probe_36 : decode b_J_probe 36 = .ok (.iload_n 1, 1) := by decide +kernel
theorem d_J_probe_37 : decode b_J_probe 37 = .ok (.imul, 1) := by decide +kernel
theorem d_J_probe_38 : decode b_J_probe 38 = .ok (.iload 5, 2) := by decide +kernel
theorem d_J_probe_40 : decode b_J_probe 40 = .ok (.iadd, 1) := by decide +kernel
theorem d_J_probe_41 : decode b_J_probe 41 = .ok (.iaload, 1) := by decide +kernel
theorem d_J_probe_42 : decode b_J_probe 42 = .ok (.iaload, 1) := by decide +kernel
theorem d_J_probe_43 : decode b_J_probe 43 = .ok (.ior, 1) := by decide +kernel
theorem d_J_probe_44 : decode b_J_probe 44 = .ok (.istore_n 3, 1) := by decide +kernel
theorem d_J_probe_45 : decode b_J_probe 45 = .ok (.iinc 5 1, 3) := by decide +kernel
theorem d_J_probe_48 : decode b_J_probe 48 = .ok (.goto (-30), 3) := by decide +kernel
theorem d_J_probe_51 : decode b_J_probe 51 = .ok (.iconst 0, 1) := by decide +kernel
theorem d_J_probe_52 : decode b_J_probe 52 = .ok (.istore 5, 2) := by decide +kernel
theorem d_J_probe_54 : decode b_J_probe 54 = .ok (.iconst 0, 1) := by decide +kernel
theorem d_J_probe_55 : decode b_J_probe 55 = .ok (.istore 6, 2) := by decide +kernel
theorem d_J_probe_57 : decode b_J_probe 57 = .ok (.iload 6, 2) := by decide +kernel
theorem d_J_probe_59 : decode b_J_probe 59 = .ok (.aload_n 0, 1) := by decide +kernel
theorem d_J_probe_60 : decode b_J_probe 60 = .ok (.getfield 54, 3) := by decide +kernel
theorem d_J_probe_63 : decode b_J_probe 63 = .ok (.if_icmp .ge 93, 3) := by decide +kernel
theorem d_J_probe_66 : decode b_J_probe 66 = .ok (.aload_n 0, 1) := by decide +kernel
theorem d_J_probe_67 : decode b_J_probe 67 = .ok (.getfield 34, 3) := by decide +kernel
theorem d_J_probe_70 : decode b_J_probe 70 = .ok (.iload_n 2, 1) := by decide +kernel
theorem d_J_probe_71 : decode b_J_probe 71 = .ok (.imul, 1) := by decide +kernel
theorem d_J_probe_72 : decode b_J_probe 72 = .ok (.aload_n 0, 1) := by decide +kernel
theorem d_J_probe_73 : decode b_J_probe 73 = .ok (.getfield 38, 3) := by decide +kernel
theorem d_J_probe_76 : decode b_J_probe 76 = .ok (.aload_n 0, 1) := by decide +kernel
theorem d_J_probe_77 : decode b_J_probe 77 = .ok (.getfield 13, 3) := by decide +kernel
theorem d_J_probe_80 : decode b_J_probe 80 = .ok (.iload 6, 2) := by decide +kernel
theorem d_J_probe_82 : decode b_J_probe 82 = .ok (.iaload, 1) := by decide +kernel
theorem d_J_probe_83 : decode b_J_probe 83 = .ok (.imul, 1) := by decide +kernel
theorem d_J_probe_84 : decode b_J_probe 84 = .ok (.if_icmp .gt 28, 3) := by decide +kernel
theorem d_J_probe_87 : decode b_J_probe 87 = .ok (.aload_n 0, 1) := by decide +kernel
theorem d_J_probe_88 : decode b_J_probe 88 = .ok (.getfield 34, 3) := by decide +kernel
theorem d_J_probe_91 : decode b_J_probe 91 = .ok (.aload_n 0, 1) := by decide +kernel
theorem d_J_probe_92 : decode b_J_probe 92 = .ok (.getfield 13, 3) := by decide +kernel
theorem d_J_probe_95 : decode b_J_probe 95 = .ok (.iload 6, 2) := by decide +kernel
theorem d_J_probe_97 : decode b_J_probe 97 = .ok (.iaload, 1) := by decide +kernel
theorem d_J_probe_98 : decode b_J_probe 98 = .ok (.imul, 1) := by decide +kernel
theorem d_J_probe_99 : decode b_J_probe 99 = .ok (.aload_n 0, 1) := by decide +kernel
theorem d_J_probe_100 : decode b_J_probe 100 = .ok (.getfield 38, 3) := by decide +kernel
theorem d_J_probe_103 : decode b_J_probe 103 = .ok (.iload_n 2, 1) := by decide +kernel
theorem d_J_probe_104 : decode b_J_probe 104 = .ok (.imul, 1) := by decide +kernel
theorem d_J_probe_105 : decode b_J_probe 105 = .ok (.if_icmp .gt 7, 3) := by decide +kernel
theorem d_J_probe_108 : decode b_J_probe 108 = .ok (.iconst 1, 1) := by decide +kernel
theorem d_J_probe_109 : decode b_J_probe 109 = .ok (.goto 4, 3) := by decide +kernel
theorem d_J_probe_112 : decode b_J_probe 112 = .ok (.iconst 0, 1) := by decide +kernel
theorem d_J_probe_113 : decode b_J_probe 113 = .ok (.istore 7, 2) := by decide +kernel
theorem d_J_probe_115 : decode b_J_probe 115 = .ok (.iload_n 3, 1) := by decide +kernel
theorem d_J_probe_116 : decode b_J_probe 116 = .ok (.iload 6, 2) := by decide +kernel
theorem d_J_probe_118 : decode b_J_probe 118 = .ok (.ishr, 1) := by decide +kernel
theorem d_J_probe_119 : decode b_J_probe 119 = .ok (.iconst 1, 1) := by decide +kernel
theorem d_J_probe_120 : decode b_J_probe 120 = .ok (.iand, 1) := by decide +kernel
theorem d_J_probe_121 : decode b_J_probe 121 = .ok (.iconst 1, 1) := by decide +kernel
theorem d_J_probe_122 : decode b_J_probe 122 = .ok (.if_icmp .ne 28, 3) := by decide +kernel
theorem d_J_probe_125 : decode b_J_probe 125 = .ok (.iload 7, 2) := by decide +kernel
theorem d_J_probe_127 : decode b_J_probe 127 = .ok (.ifCond .eq 23, 3) := by decide +kernel
theorem d_J_probe_130 : decode b_J_probe 130 = .ok (.aload_n 0, 1) := by decide +kernel
theorem d_J_probe_131 : decode b_J_probe 131 = .ok (.iload_n 1, 1) := by decide +kernel
theorem d_J_probe_132 : decode b_J_probe 132 = .ok (.iload_n 2, 1) := by decide +kernel
theorem d_J_probe_133 : decode b_J_probe 133 = .ok (.iload 6, 2) := by decide +kernel
theorem d_J_probe_135 : decode b_J_probe 135 = .ok (.invokevirtual 97, 3) := by decide +kernel
theorem d_J_probe_138 : decode b_J_probe 138 = .ok (.ifCond .eq 12, 3) := by decide +kernel
theorem d_J_probe_141 : decode b_J_probe 141 = .ok (.iload 5, 2) := by decide +kernel
theorem d_J_probe_143 : decode b_J_probe 143 = .ok (.iconst 1, 1) := by decide +kernel
theorem d_J_probe_144 : decode b_J_probe 144 = .ok (.iload 6, 2) := by decide +kernel
theorem d_J_probe_146 : decode b_J_probe 146 = .ok (.ishl, 1) := by decide +kernel
theorem d_J_probe_147 : decode b_J_probe 147 = .ok (.ior, 1) := by decide +kernel
theorem d_J_probe_148 : decode b_J_probe 148 = .ok (.istore 5, 2) := by decide +kernel
theorem d_J_probe_150 : decode b_J_probe 150 = .ok (.iinc 6 1, 3) := by decide +kernel
theorem d_J_probe_153 : decode b_J_probe 153 = .ok (.goto (-96), 3) := by decide +kernel
theorem d_J_probe_156 : decode b_J_probe 156 = .ok (.iload 5, 2) := by decide +kernel
theorem d_J_probe_158 : decode b_J_probe 158 = .ok (.ireturn, 1) := by decide +kernel
theorem d_J_verify_0 : decode b_J_verify 0 = .ok (.aload_n 0, 1) := by decide +kernel
theorem d_J_verify_1 : decode b_J_verify 1 = .ok (.getfield 34, 3) := by decide +kernel
theorem d_J_verify_4 : decode b_J_verify 4 = .ok (.aload_n 0, 1) := by decide +kernel
theorem d_J_verify_5 : decode b_J_verify 5 = .ok (.getfield 38, 3) := by decide +kernel
theorem d_J_verify_8 : decode b_J_verify 8 = .ok (.iadd, 1) := by decide +kernel
theorem d_J_verify_9 : decode b_J_verify 9 = .ok (.istore 4, 2) := by decide +kernel
theorem d_J_verify_11 : decode b_J_verify 11 = .ok (.aload_n 0, 1) := by decide +kernel
theorem d_J_verify_12 : decode b_J_verify 12 = .ok (.getfield 34, 3) := by decide +kernel
theorem d_J_verify_15 : decode b_J_verify 15 = .ok (.iload_n 2, 1) := by decide +kernel
theorem d_J_verify_16 : decode b_J_verify 16 = .ok (.aload_n 0, 1) := by decide +kernel
theorem d_J_verify_17 : decode b_J_verify 17 = .ok (.getfield 13, 3) := by decide +kernel
theorem d_J_verify_20 : decode b_J_verify 20 = .ok (.iload_n 3, 1) := by decide +kernel
theorem d_J_verify_21 : decode b_J_verify 21 = .ok (.iaload, 1) := by decide +kernel
theorem d_J_verify_22 : decode b_J_verify 22 = .ok (.iadd, 1) := by decide +kernel
theorem d_J_verify_23 : decode b_J_verify 23 = .ok (.imul, 1) := by decide +kernel
theorem d_J_verify_24 : decode b_J_verify 24 = .ok (.iload 4, 2) := by decide +kernel
theorem d_J_verify_26 : decode b_J_verify 26 = .ok (.iadd, 1) := by decide +kernel
theorem d_J_verify_27 : decode b_J_verify 27 = .ok (.iconst 1, 1) := by decide +kernel
theorem d_J_verify_28 : decode b_J_verify 28 = .ok (.isub, 1) := by decide +kernel
theorem d_J_verify_29 : decode b_J_verify 29 = .ok (.iload 4, 2) := by decide +kernel
theorem d_J_verify_31 : decode b_J_verify 31 = .ok (.ifCond .le 8, 3) := by decide +kernel
theorem d_J_verify_34 : decode b_J_verify 34 = .ok (.iload 4, 2) := by decide +kernel
theorem d_J_verify_36 : decode b_J_verify 36 = .ok (.goto 4, 3) := by decide +kernel
theorem d_J_verify_39 : decode b_J_verify 39 = .ok (.iconst 1, 1) := by decide +kernel
theorem d_J_verify_40 : decode b_J_verify 40 = .ok (.idiv, 1) := by decide +kernel
theorem d_J_verify_41 : decode b_J_verify 41 = .ok (.istore 5, 2) := by decide +kernel
theorem d_J_verify_43 : decode b_J_verify 43 = .ok (.iconst 0, 1) := by decide +kernel
theorem d_J_verify_44 : decode b_J_verify 44 = .ok (.istore 6, 2) := by decide +kernel
theorem d_J_verify_46 : decode b_J_verify 46 = .ok (.iconst 0, 1) := by decide +kernel
theorem d_J_verify_47 : decode b_J_verify 47 = .ok (.istore 7, 2) := by decide +kernel
theorem d_J_verify_49 : decode b_J_verify 49 = .ok (.iconst 0, 1) := by decide +kernel
theorem d_J_verify_50 : decode b_J_verify 50 = .ok (.istore 8, 2) := by decide +kernel
theorem d_J_verify_52 : decode b_J_verify 52 = .ok (.iconst 0, 1) := by decide +kernel
theorem d_J_verify_53 : decode b_J_verify 53 = .ok (.istore 9, 2) := by decide +kernel
theorem d_J_verify_55 : decode b_J_verify 55 = .ok (.iload 9, 2) := by decide +kernel
theorem d_J_verify_57 : decode b_J_verify 57 = .ok (.bipush 24, 2) := by decide +kernel
theorem d_J_verify_59 : decode b_J_verify 59 = .ok (.if_icmp .ge 144, 3) := by decide +kernel
theorem d_J_verify_62 : decode b_J_verify 62 = .ok (.iload 6, 2) := by decide +kernel
theorem d_J_verify_64 : decode b_J_verify 64 = .ok (.iload_n 2, 1) := by decide +kernel
theorem d_J_verify_65 : decode b_J_verify 65 = .ok (.if_icmp .ge 138, 3) := by decide +kernel
theorem d_J_verify_68 : decode b_J_verify 68 = .ok (.iload 7, 2) := by decide +kernel
theorem d_J_verify_70 : decode b_J_verify 70 = .ok (.aload_n 0, 1) := by decide +kernel
theorem d_J_verify_71 : decode b_J_verify 71 = .ok (.getfield 13, 3) := by decide +kernel
theorem d_J_verify_74 : decode b_J_verify 74 = .ok (.iload_n 3, 1) := by decide +kernel
theorem d_J_verify_75 : decode b_J_verify 75 = .ok (.iaload, 1) := by decide +kernel
theorem d_J_verify_76 : decode b_J_verify 76 = .ok (.if_icmp .ge 127, 3) := by decide +kernel
theorem d_J_verify_79 : decode b_J_verify 79 = .ok (.iload_n 2, 1) := by decide +kernel
theorem d_J_verify_80 : decode b_J_verify 80 = .ok (.iload 6, 2) := by decide +kernel
theorem d_J_verify_82 : decode b_J_verify 82 = .ok (.isub, 1) := by decide +kernel
theorem d_J_verify_83 : decode b_J_verify 83 = .ok (.aload_n 0, 1) := by decide +kernel
theorem d_J_verify_84 : decode b_J_verify 84 = .ok (.getfield 13, 3) := by decide +kernel
theorem d_J_verify_87 : decode b_J_verify 87 = .ok (.iload_n 3, 1) := by decide +kernel
theorem d_J_verify_88 : decode b_J_verify 88 = .ok (.iaload, 1) := by decide +kernel
theorem d_J_verify_89 : decode b_J_verify 89 = .ok (.iload 7, 2) := by decide +kernel
theorem d_J_verify_91 : decode b_J_verify 91 = .ok (.isub, 1) := by decide +kernel
theorem d_J_verify_92 : decode b_J_verify 92 = .ok (.if_icmp .ge 10, 3) := by decide +kernel
theorem d_J_verify_95 : decode b_J_verify 95 = .ok (.iload_n 2, 1) := by decide +kernel
theorem d_J_verify_96 : decode b_J_verify 96 = .ok (.iload 6, 2) := by decide +kernel
theorem d_J_verify_98 : decode b_J_verify 98 = .ok (.isub, 1) := by decide +kernel
theorem d_J_verify_99 : decode b_J_verify 99 = .ok (.goto 12, 3) := by decide +kernel
theorem d_J_verify_102 : decode b_J_verify 102 = .ok (.aload_n 0, 1) := by decide +kernel
theorem d_J_verify_103 : decode b_J_verify 103 = .ok (.getfield 13, 3) := by decide +kernel
theorem d_J_verify_106 : decode b_J_verify 106 = .ok (.iload_n 3, 1) := by decide +kernel
theorem d_J_verify_107 : decode b_J_verify 107 = .ok (.iaload, 1) := by decide +kernel
theorem d_J_verify_108 : decode b_J_verify 108 = .ok (.iload 7, 2) := by decide +kernel
theorem d_J_verify_110 : decode b_J_verify 110 = .ok (.isub, 1) := by decide +kernel
theorem d_J_verify_111 : decode b_J_verify 111 = .ok (.istore 10, 2) := by decide +kernel
theorem d_J_verify_113 : decode b_J_verify 113 = .ok (.iload 8, 2) := by decide +kernel
theorem d_J_verify_115 : decode b_J_verify 115 = .ok (.iload 10, 2) := by decide +kernel
theorem d_J_verify_117 : decode b_J_verify 117 = .ok (.iadd, 1) := by decide +kernel
theorem d_J_verify_118 : decode b_J_verify 118 = .ok (.iload 5, 2) := by decide +kernel
theorem d_J_verify_120 : decode b_J_verify 120 = .ok (.if_icmp .ge 5, 3) := by decide +kernel
theorem d_J_verify_123 : decode b_J_verify 123 = .ok (.iconst 0, 1) := by decide +kernel
theorem d_J_verify_124 : decode b_J_verify 124 = .ok (.ireturn, 1) := by decide +kernel
theorem d_J_verify_125 : decode b_J_verify 125 = .ok (.aload_n 0, 1) := by decide +kernel
theorem d_J_verify_126 : decode b_J_verify 126 = .ok (.getfield 16, 3) := by decide +kernel
theorem d_J_verify_129 : decode b_J_verify 129 = .ok (.bipush 12, 2) := by decide +kernel
theorem d_J_verify_131 : decode b_J_verify 131 = .ok (.iload_n 1, 1) := by decide +kernel
theorem d_J_verify_132 : decode b_J_verify 132 = .ok (.imul, 1) := by decide +kernel
theorem d_J_verify_133 : decode b_J_verify 133 = .ok (.iload 6, 2) := by decide +kernel
theorem d_J_verify_135 : decode b_J_verify 135 = .ok (.iadd, 1) := by decide +kernel
theorem d_J_verify_136 : decode b_J_verify 136 = .ok (.iaload, 1) := by decide +kernel
theorem d_J_verify_137 : decode b_J_verify 137 = .ok (.istore 11, 2) := by decide +kernel
theorem d_J_verify_139 : decode b_J_verify 139 = .ok (.aload_n 0, 1) := by decide +kernel
theorem d_J_verify_140 : decode b_J_verify 140 = .ok (.getfield 16, 3) := by decide +kernel
theorem d_J_verify_143 : decode b_J_verify 143 = .ok (.bipush 12, 2) := by decide +kernel
theorem d_J_verify_145 : decode b_J_verify 145 = .ok (.iload_n 3, 1) := by decide +kernel
theorem d_J_verify_146 : decode b_J_verify 146 = .ok (.imul, 1) := by decide +kernel
theorem d_J_verify_147 : decode b_J_verify 147 = .ok (.iload 7, 2) := by decide +kernel
theorem d_J_verify_149 : decode b_J_verify 149 = .ok (.iadd, 1) := by decide +kernel
theorem d_J_verify_150 : decode b_J_verify 150 = .ok (.iaload, 1) := by decide +kernel
theorem d_J_verify_151 : decode b_J_verify 151 = .ok (.istore 12, 2) := by decide +kernel
theorem d_J_verify_153 : decode b_J_verify 153 = .ok (.iload 11, 2) := by decide +kernel
theorem d_J_verify_155 : decode b_J_verify 155 = .ok (.iload 12, 2) := by decide +kernel
theorem d_J_verify_157 : decode b_J_verify 157 = .ok (.if_icmp .ne 6, 3) := by decide +kernel
theorem d_J_verify_160 : decode b_J_verify 160 = .ok (.iinc 8 1, 3) := by decide +kernel
theorem d_J_verify_163 : decode b_J_verify 163 = .ok (.iload 6, 2) := by decide +kernel
theorem d_J_verify_165 : decode b_J_verify 165 = .ok (.iload 11, 2) := by decide +kernel
theorem d_J_verify_167 : decode b_J_verify 167 = .ok (.iload 12, 2) := by decide +kernel
theorem d_J_verify_169 : decode b_J_verify 169 = .ok (.if_icmp .gt 7, 3) := by decide +kernel
theorem d_J_verify_172 : decode b_J_verify 172 = .ok (.iconst 1, 1) := by decide +kernel
theorem d_J_verify_173 : decode b_J_verify 173 = .ok (.goto 4, 3) := by decide +kernel
theorem d_J_verify_176 : decode b_J_verify 176 = .ok (.iconst 0, 1) := by decide +kernel
theorem d_J_verify_177 : decode b_J_verify 177 = .ok (.iadd, 1) := by decide +kernel
theorem d_J_verify_178 : decode b_J_verify 178 = .ok (.istore 6, 2) := by decide +kernel
theorem d_J_verify_180 : decode b_J_verify 180 = .ok (.iload 7, 2) := by decide +kernel
theorem d_J_verify_182 : decode b_J_verify 182 = .ok (.iload 12, 2) := by decide +kernel
theorem d_J_verify_184 : decode b_J_verify 184 = .ok (.iload 11, 2) := by decide +kernel
theorem d_J_verify_186 : decode b_J_verify 186 = .ok (.if_icmp .gt 7, 3) := by decide +kernel
theorem d_J_verify_189 : decode b_J_verify 189 = .ok (.iconst 1, 1) := by decide +kernel
theorem d_J_verify_190 : decode b_J_verify 190 = .ok (.goto 4, 3) := by decide +kernel
theorem d_J_verify_193 : decode b_J_verify 193 = .ok (.iconst 0, 1) := by decide +kernel
theorem d_J_verify_194 : decode b_J_verify 194 = .ok (.iadd, 1) := by decide +kernel
theorem d_J_verify_195 : decode b_J_verify 195 = .ok (.istore 7, 2) := by decide +kernel
theorem d_J_verify_197 : decode b_J_verify 197 = .ok (.iinc 9 1, 3) := by decide +kernel
theorem d_J_verify_200 : decode b_J_verify 200 = .ok (.goto (-145), 3) := by decide +kernel
theorem d_J_verify_203 : decode b_J_verify 203 = .ok (.iload 8, 2) := by decide +kernel
theorem d_J_verify_205 : decode b_J_verify 205 = .ok (.iload 5, 2) := by decide +kernel
theorem d_J_verify_207 : decode b_J_verify 207 = .ok (.if_icmp .lt 7, 3) := by decide +kernel
theorem d_J_verify_210 : decode b_J_verify 210 = .ok (.iconst 1, 1) := by decide +kernel
theorem d_J_verify_211 : decode b_J_verify 211 = .ok (.goto 4, 3) := by decide +kernel
theorem d_J_verify_214 : decode b_J_verify 214 = .ok (.iconst 0, 1) := by decide +kernel
theorem d_J_verify_215 : decode b_J_verify 215 = .ok (.ireturn, 1) := by decide +kernel
theorem d_J_joinRow_0 : decode b_J_joinRow 0 = .ok (.iload_n 1, 1) := by decide +kernel
theorem d_J_joinRow_1 : decode b_J_joinRow 1 = .ok (.iconst 1, 1) := by decide +kernel
theorem d_J_joinRow_2 : decode b_J_joinRow 2 = .ok (.iadd, 1) := by decide +kernel
theorem d_J_joinRow_3 : decode b_J_joinRow 3 = .ok (.istore_n 2, 1) := by decide +kernel
theorem d_J_joinRow_4 : decode b_J_joinRow 4 = .ok (.iload_n 2, 1) := by decide +kernel
theorem d_J_joinRow_5 : decode b_J_joinRow 5 = .ok (.aload_n 0, 1) := by decide +kernel
theorem d_J_joinRow_6 : decode b_J_joinRow 6 = .ok (.getfield 54, 3) := by decide +kernel
theorem d_J_joinRow_9 : decode b_J_joinRow 9 = .ok (.if_icmp .ge 67, 3) := by decide +kernel
theorem d_J_joinRow_12 : decode b_J_joinRow 12 = .ok (.aload_n 0, 1) := by decide +kernel
theorem d_J_joinRow_13 : decode b_J_joinRow 13 = .ok (.getfield 28, 3) := by decide +kernel
theorem d_J_joinRow_16 : decode b_J_joinRow 16 = .ok (.iload_n 1, 1) := by decide +kernel
theorem d_J_joinRow_17 : decode b_J_joinRow 17 = .ok (.iaload, 1) := by decide +kernel
theorem d_J_joinRow_18 : decode b_J_joinRow 18 = .ok (.iload_n 2, 1) := by decide +kernel
theorem d_J_joinRow_19 : decode b_J_joinRow 19 = .ok (.ishr, 1) := by decide +kernel
theorem d_J_joinRow_20 : decode b_J_joinRow 20 = .ok (.iconst 1, 1) := by decide +kernel
theorem d_J_joinRow_21 : decode b_J_joinRow 21 = .ok (.iand, 1) := by decide +kernel
theorem d_J_joinRow_22 : decode b_J_joinRow 22 = .ok (.iconst 1, 1) := by decide +kernel
theorem d_J_joinRow_23 : decode b_J_joinRow 23 = .ok (.if_icmp .ne 47, 3) := by decide +kernel
theorem d_J_joinRow_26 : decode b_J_joinRow 26 = .ok (.aload_n 0, 1) := by decide +kernel
theorem d_J_joinRow_27 : decode b_J_joinRow 27 = .ok (.iload_n 1, 1) := by decide +kernel
theorem d_J_joinRow_28 : decode b_J_joinRow 28 = .ok (.invokevirtual 72, 3) := by decide +kernel
theorem d_J_joinRow_31 : decode b_J_joinRow 31 = .ok (.istore_n 3, 1) := by decide +kernel
theorem d_J_joinRow_32 : decode b_J_joinRow 32 = .ok (.aload_n 0, 1) := by decide +kernel
theorem d_J_joinRow_33 : decode b_J_joinRow 33 = .ok (.iload_n 2, 1) := by decide +kernel
theorem d_J_joinRow_34 : decode b_J_joinRow 34 = .ok (.invokevirtual 72, 3) := by decide +kernel
theorem d_J_joinRow_37 : decode b_J_joinRow 37 = .ok (.istore 4, 2) := by decide +kernel
theorem d_J_joinRow_39 : decode b_J_joinRow 39 = .ok (.iload_n 3, 1) := by decide +kernel
theorem d_J_joinRow_40 : decode b_J_joinRow 40 = .ok (.iload 4, 2) := by decide +kernel
theorem d_J_joinRow_42 : decode b_J_joinRow 42 = .ok (.if_icmp .ge 7, 3) := by decide +kernel
theorem d_J_joinRow_45 : decode b_J_joinRow 45 = .ok (.iload_n 3, 1) := by decide +kernel
theorem d_J_joinRow_46 : decode b_J_joinRow 46 = .ok (.goto 5, 3) := by decide +kernel
theorem d_J_joinRow_49 : decode b_J_joinRow 49 = .ok (.iload 4, 2) := by decide +kernel
theorem d_J_joinRow_51 : decode b_J_joinRow 51 = .ok (.istore 5, 2) := by decide +kernel
theorem d_J_joinRow_53 : decode b_J_joinRow 53 = .ok (.aload_n 0, 1) := by decide +kernel
theorem d_J_joinRow_54 : decode b_J_joinRow 54 = .ok (.getfield 31, 3) := by decide +kernel
theorem d_J_joinRow_57 : decode b_J_joinRow 57 = .ok (.iload_n 3, 1) := by decide +kernel
theorem d_J_joinRow_58 : decode b_J_joinRow 58 = .ok (.iload 5, 2) := by decide +kernel
theorem d_J_joinRow_60 : decode b_J_joinRow 60 = .ok (.iastore, 1) := by decide +kernel
theorem d_J_joinRow_61 : decode b_J_joinRow 61 = .ok (.aload_n 0, 1) := by decide +kernel
theorem d_J_joinRow_62 : decode b_J_joinRow 62 = .ok (.getfield 31, 3) := by decide +kernel
theorem d_J_joinRow_65 : decode b_J_joinRow 65 = .ok (.iload 4, 2) := by decide +kernel
theorem d_J_joinRow_67 : decode b_J_joinRow 67 = .ok (.iload 5, 2) := by decide +kernel
theorem d_J_joinRow_69 : decode b_J_joinRow 69 = .ok (.iastore, 1) := by decide +kernel
theorem d_J_joinRow_70 : decode b_J_joinRow 70 = .ok (.iinc 2 1, 3) := by decide +kernel
theorem d_J_joinRow_73 : decode b_J_joinRow 73 = .ok (.goto (-69), 3) := by decide +kernel
theorem d_J_joinRow_76 : decode b_J_joinRow 76 = .ok (.return_, 1) := by decide +kernel
theorem d_J_root_0 : decode b_J_root 0 = .ok (.iload_n 1, 1) := by decide +kernel
theorem d_J_root_1 : decode b_J_root 1 = .ok (.istore_n 2, 1) := by decide +kernel
theorem d_J_root_2 : decode b_J_root 2 = .ok (.iconst 0, 1) := by decide +kernel
theorem d_J_root_3 : decode b_J_root 3 = .ok (.istore_n 3, 1) := by decide +kernel
theorem d_J_root_4 : decode b_J_root 4 = .ok (.iload_n 3, 1) := by decide +kernel
theorem d_J_root_5 : decode b_J_root 5 = .ok (.bipush 20, 2) := by decide +kernel
theorem d_J_root_7 : decode b_J_root 7 = .ok (.if_icmp .ge 43, 3) := by decide +kernel
theorem d_J_root_10 : decode b_J_root 10 = .ok (.aload_n 0, 1) := by decide +kernel
theorem d_J_root_11 : decode b_J_root 11 = .ok (.getfield 31, 3) := by decide +kernel
theorem d_J_root_14 : decode b_J_root 14 = .ok (.iload_n 2, 1) := by decide +kernel
theorem d_J_root_15 : decode b_J_root 15 = .ok (.iaload, 1) := by decide +kernel
theorem d_J_root_16 : decode b_J_root 16 = .ok (.iload_n 2, 1) := by decide +kernel
theorem d_J_root_17 : decode b_J_root 17 = .ok (.if_icmp .eq 33, 3) := by decide +kernel
theorem d_J_root_20 : decode b_J_root 20 = .ok (.aload_n 0, 1) := by decide +kernel
theorem d_J_root_21 : decode b_J_root 21 = .ok (.getfield 31, 3) := by decide +kernel
theorem d_J_root_24 : decode b_J_root 24 = .ok (.iload_n 2, 1) := by decide +kernel
theorem d_J_root_25 : decode b_J_root 25 = .ok (.aload_n 0, 1) := by decide +kernel
theorem d_J_root_26 : decode b_J_root 26 = .ok (.getfield 31, 3) := by decide +kernel
theorem d_J_root_29 : decode b_J_root 29 = .ok (.aload_n 0, 1) := by decide +kernel
theorem d_J_root_30 : decode b_J_root 30 = .ok (.getfield 31, 3) := by decide +kernel
theorem d_J_root_33 : decode b_J_root 33 = .ok (.iload_n 2, 1) := by decide +kernel
theorem d_J_root_34 : decode b_J_root 34 = .ok (.iaload, 1) := by decide +kernel
theorem d_J_root_35 : decode b_J_root 35 = .ok (.iaload, 1) := by decide +kernel
theorem d_J_root_36 : decode b_J_root 36 = .ok (.iastore, 1) := by decide +kernel
theorem d_J_root_37 : decode b_J_root 37 = .ok (.aload_n 0, 1) := by decide +kernel
theorem d_J_root_38 : decode b_J_root 38 = .ok (.getfield 31, 3) := by decide +kernel
theorem d_J_root_41 : decode b_J_root 41 = .ok (.iload_n 2, 1) := by decide +kernel
theorem d_J_root_42 : decode b_J_root 42 = .ok (.iaload, 1) := by decide +kernel
theorem d_J_root_43 : decode b_J_root 43 = .ok (.istore_n 2, 1) := by decide +kernel
theorem d_J_root_44 : decode b_J_root 44 = .ok (.iinc 3 1, 3) := by decide +kernel
theorem d_J_root_47 : decode b_J_root 47 = .ok (.goto (-43), 3) := by decide +kernel
theorem d_J_root_50 : decode b_J_root 50 = .ok (.iload_n 2, 1) := by decide +kernel
theorem d_J_root_51 : decode b_J_root 51 = .ok (.ireturn, 1) := by decide +kernel
theorem d_J_common_0 : decode b_J_common 0 = .ok (.aload_n 0, 1) := by decide +kernel
theorem d_J_common_1 : decode b_J_common 1 = .ok (.iload_n 1, 1) := by decide +kernel
theorem d_J_common_2 : decode b_J_common 2 = .ok (.invokevirtual 51, 3) := by decide +kernel
theorem d_J_common_5 : decode b_J_common 5 = .ok (.ifCond .eq 30, 3) := by decide +kernel
theorem d_J_common_8 : decode b_J_common 8 = .ok (.aload_n 0, 1) := by decide +kernel
theorem d_J_common_9 : decode b_J_common 9 = .ok (.iload_n 2, 1) := by decide +kernel
theorem d_J_common_10 : decode b_J_common 10 = .ok (.invokevirtual 51, 3) := by decide +kernel
theorem d_J_common_13 : decode b_J_common 13 = .ok (.ifCond .eq 22, 3) := by decide +kernel
theorem d_J_common_16 : decode b_J_common 16 = .ok (.aload_n 0, 1) := by decide +kernel
theorem d_J_common_17 : decode b_J_common 17 = .ok (.getfield 7, 3) := by decide +kernel
theorem d_J_common_20 : decode b_J_common 20 = .ok (.iload_n 1, 1) := by decide +kernel
theorem d_J_common_21 : decode b_J_common 21 = .ok (.iaload, 1) := by decide +kernel
theorem d_J_common_22 : decode b_J_common 22 = .ok (.aload_n 0, 1) := by decide +kernel
theorem d_J_common_23 : decode b_J_common 23 = .ok (.getfield 7, 3) := by decide +kernel
theorem d_J_common_26 : decode b_J_common 26 = .ok (.iload_n 2, 1) := by decide +kernel
theorem d_J_common_27 : decode b_J_common 27 = .ok (.iaload, 1) := by decide +kernel
theorem d_J_common_28 : decode b_J_common 28 = .ok (.iand, 1) := by decide +kernel
theorem d_J_common_29 : decode b_J_common 29 = .ok (.invokestatic 64, 3) := by decide +kernel
theorem d_J_common_32 : decode b_J_common 32 = .ok (.goto 4, 3) := by decide +kernel
theorem d_J_common_35 : decode b_J_common 35 = .ok (.iconst (-1), 1) := by decide +kernel
theorem d_J_common_36 : decode b_J_common 36 = .ok (.ireturn, 1) := by decide +kernel
theorem d_J_ones_0 : decode b_J_ones 0 = .ok (.iload_n 0, 1) := by decide +kernel
theorem d_J_ones_1 : decode b_J_ones 1 = .ok (.iload_n 0, 1) := by decide +kernel
theorem d_J_ones_2 : decode b_J_ones 2 = .ok (.iconst 1, 1) := by decide +kernel
theorem d_J_ones_3 : decode b_J_ones 3 = .ok (.iushr, 1) := by decide +kernel
theorem d_J_ones_4 : decode b_J_ones 4 = .ok (.ldc 75, 2) := by decide +kernel
theorem d_J_ones_6 : decode b_J_ones 6 = .ok (.iand, 1) := by decide +kernel
theorem d_J_ones_7 : decode b_J_ones 7 = .ok (.isub, 1) := by decide +kernel
theorem d_J_ones_8 : decode b_J_ones 8 = .ok (.istore_n 1, 1) := by decide +kernel
theorem d_J_ones_9 : decode b_J_ones 9 = .ok (.iload_n 1, 1) := by decide +kernel
theorem d_J_ones_10 : decode b_J_ones 10 = .ok (.ldc 76, 2) := by decide +kernel
theorem d_J_ones_12 : decode b_J_ones 12 = .ok (.iand, 1) := by decide +kernel
theorem d_J_ones_13 : decode b_J_ones 13 = .ok (.iload_n 1, 1) := by decide +kernel
theorem d_J_ones_14 : decode b_J_ones 14 = .ok (.iconst 2, 1) := by decide +kernel
theorem d_J_ones_15 : decode b_J_ones 15 = .ok (.iushr, 1) := by decide +kernel
theorem d_J_ones_16 : decode b_J_ones 16 = .ok (.ldc 76, 2) := by decide +kernel
theorem d_J_ones_18 : decode b_J_ones 18 = .ok (.iand, 1) := by decide +kernel
theorem d_J_ones_19 : decode b_J_ones 19 = .ok (.iadd, 1) := by decide +kernel
theorem d_J_ones_20 : decode b_J_ones 20 = .ok (.istore_n 1, 1) := by decide +kernel
theorem d_J_ones_21 : decode b_J_ones 21 = .ok (.iload_n 1, 1) := by decide +kernel
theorem d_J_ones_22 : decode b_J_ones 22 = .ok (.iload_n 1, 1) := by decide +kernel
theorem d_J_ones_23 : decode b_J_ones 23 = .ok (.iconst 4, 1) := by decide +kernel
theorem d_J_ones_24 : decode b_J_ones 24 = .ok (.iushr, 1) := by decide +kernel
theorem d_J_ones_25 : decode b_J_ones 25 = .ok (.iadd, 1) := by decide +kernel
theorem d_J_ones_26 : decode b_J_ones 26 = .ok (.ldc 77, 2) := by decide +kernel
theorem d_J_ones_28 : decode b_J_ones 28 = .ok (.iand, 1) := by decide +kernel
theorem d_J_ones_29 : decode b_J_ones 29 = .ok (.istore_n 1, 1) := by decide +kernel
theorem d_J_ones_30 : decode b_J_ones 30 = .ok (.iload_n 1, 1) := by decide +kernel
theorem d_J_ones_31 : decode b_J_ones 31 = .ok (.ldc 78, 2) := by decide +kernel
theorem d_J_ones_33 : decode b_J_ones 33 = .ok (.imul, 1) := by decide +kernel
theorem d_J_ones_34 : decode b_J_ones 34 = .ok (.bipush 24, 2) := by decide +kernel
theorem d_J_ones_36 : decode b_J_ones 36 = .ok (.iushr, 1) := by decide +kernel
theorem d_J_ones_37 : decode b_J_ones 37 = .ok (.ireturn, 1) := by decide +kernel
theorem d_J_similar_0 : decode b_J_similar 0 = .ok (.aload_n 0, 1) := by decide +kernel
theorem d_J_similar_1 : decode b_J_similar 1 = .ok (.iload_n 1, 1) := by decide +kernel
theorem d_J_similar_2 : decode b_J_similar 2 = .ok (.invokevirtual 51, 3) := by decide +kernel
theorem d_J_similar_5 : decode b_J_similar 5 = .ok (.ifCond .eq 11, 3) := by decide +kernel
theorem d_J_similar_8 : decode b_J_similar 8 = .ok (.aload_n 0, 1) := by decide +kernel
theorem d_J_similar_9 : decode b_J_similar 9 = .ok (.iload_n 2, 1) := by decide +kernel
theorem d_J_similar_10 : decode b_J_similar 10 = .ok (.invokevirtual 51, 3) := by decide +kernel
theorem d_J_similar_13 : decode b_J_similar 13 = .ok (.ifCond .ne 5, 3) := by decide +kernel
theorem d_J_similar_16 : decode b_J_similar 16 = .ok (.iconst (-1), 1) := by decide +kernel
theorem d_J_similar_17 : decode b_J_similar 17 = .ok (.ireturn, 1) := by decide +kernel
theorem d_J_similar_18 : decode b_J_similar 18 = .ok (.aload_n 0, 1) := by decide +kernel
theorem d_J_similar_19 : decode b_J_similar 19 = .ok (.invokevirtual 61, 3) := by decide +kernel
theorem d_J_similar_22 : decode b_J_similar 22 = .ok (.aload_n 0, 1) := by decide +kernel
theorem d_J_similar_23 : decode b_J_similar 23 = .ok (.getfield 28, 3) := by decide +kernel
theorem d_J_similar_26 : decode b_J_similar 26 = .ok (.iload_n 1, 1) := by decide +kernel
theorem d_J_similar_27 : decode b_J_similar 27 = .ok (.iaload, 1) := by decide +kernel
theorem d_J_similar_28 : decode b_J_similar 28 = .ok (.iload_n 2, 1) := by decide +kernel
theorem d_J_similar_29 : decode b_J_similar 29 = .ok (.ishr, 1) := by decide +kernel
theorem d_J_similar_30 : decode b_J_similar 30 = .ok (.iconst 1, 1) := by decide +kernel
theorem d_J_similar_31 : decode b_J_similar 31 = .ok (.iand, 1) := by decide +kernel
theorem d_J_similar_32 : decode b_J_similar 32 = .ok (.ireturn, 1) := by decide +kernel
theorem d_J_pairs_0 : decode b_J_pairs 0 = .ok (.aload_n 0, 1) := by decide +kernel
theorem d_J_pairs_1 : decode b_J_pairs 1 = .ok (.invokevirtual 61, 3) := by decide +kernel
theorem d_J_pairs_4 : decode b_J_pairs 4 = .ok (.iconst 0, 1) := by decide +kernel
theorem d_J_pairs_5 : decode b_J_pairs 5 = .ok (.istore_n 1, 1) := by decide +kernel
theorem d_J_pairs_6 : decode b_J_pairs 6 = .ok (.iconst 0, 1) := by decide +kernel
theorem d_J_pairs_7 : decode b_J_pairs 7 = .ok (.istore_n 2, 1) := by decide +kernel
theorem d_J_pairs_8 : decode b_J_pairs 8 = .ok (.iload_n 2, 1) := by decide +kernel
theorem d_J_pairs_9 : decode b_J_pairs 9 = .ok (.aload_n 0, 1) := by decide +kernel
theorem d_J_pairs_10 : decode b_J_pairs 10 = .ok (.getfield 54, 3) := by decide +kernel
theorem d_J_pairs_13 : decode b_J_pairs 13 = .ok (.if_icmp .ge 25, 3) := by decide +kernel
theorem d_J_pairs_16 : decode b_J_pairs 16 = .ok (.iload_n 1, 1) := by decide +kernel
theorem d_J_pairs_17 : decode b_J_pairs 17 = .ok (.aload_n 0, 1) := by decide +kernel
theorem d_J_pairs_18 : decode b_J_pairs 18 = .ok (.getfield 28, 3) := by decide +kernel
theorem d_J_pairs_21 : decode b_J_pairs 21 = .ok (.iload_n 2, 1) := by decide +kernel
theorem d_J_pairs_22 : decode b_J_pairs 22 = .ok (.iaload, 1) := by decide +kernel
theorem d_J_pairs_23 : decode b_J_pairs 23 = .ok (.iload_n 2, 1) := by decide +kernel
theorem d_J_pairs_24 : decode b_J_pairs 24 = .ok (.iconst 1, 1) := by decide +kernel
theorem d_J_pairs_25 : decode b_J_pairs 25 = .ok (.iadd, 1) := by decide +kernel
theorem d_J_pairs_26 : decode b_J_pairs 26 = .ok (.iushr, 1) := by decide +kernel
theorem d_J_pairs_27 : decode b_J_pairs 27 = .ok (.invokestatic 64, 3) := by decide +kernel
theorem d_J_pairs_30 : decode b_J_pairs 30 = .ok (.iadd, 1) := by decide +kernel
theorem d_J_pairs_31 : decode b_J_pairs 31 = .ok (.istore_n 1, 1) := by decide +kernel
theorem d_J_pairs_32 : decode b_J_pairs 32 = .ok (.iinc 2 1, 3) := by decide +kernel
theorem d_J_pairs_35 : decode b_J_pairs 35 = .ok (.goto (-27), 3) := by decide +kernel
theorem d_J_pairs_38 : decode b_J_pairs 38 = .ok (.iload_n 1, 1) := by decide +kernel
theorem d_J_pairs_39 : decode b_J_pairs 39 = .ok (.ireturn, 1) := by decide +kernel
theorem d_J_degree_0 : decode b_J_degree 0 = .ok (.aload_n 0, 1) := by decide +kernel
theorem d_J_degree_1 : decode b_J_degree 1 = .ok (.iload_n 1, 1) := by decide +kernel
theorem d_J_degree_2 : decode b_J_degree 2 = .ok (.invokevirtual 51, 3) := by decide +kernel
theorem d_J_degree_5 : decode b_J_degree 5 = .ok (.ifCond .ne 5, 3) := by decide +kernel
theorem d_J_degree_8 : decode b_J_degree 8 = .ok (.iconst (-1), 1) := by decide +kernel
theorem d_J_degree_9 : decode b_J_degree 9 = .ok (.ireturn, 1) := by decide +kernel
theorem d_J_degree_10 : decode b_J_degree 10 = .ok (.aload_n 0, 1) := by decide +kernel
theorem d_J_degree_11 : decode b_J_degree 11 = .ok (.invokevirtual 61, 3) := by decide +kernel
theorem d_J_degree_14 : decode b_J_degree 14 = .ok (.aload_n 0, 1) := by decide +kernel
theorem d_J_degree_15 : decode b_J_degree 15 = .ok (.getfield 28, 3) := by decide +kernel
theorem d_J_degree_18 : decode b_J_degree 18 = .ok (.iload_n 1, 1) := by decide +kernel
theorem d_J_degree_19 : decode b_J_degree 19 = .ok (.iaload, 1) := by decide +kernel
theorem d_J_degree_20 : decode b_J_degree 20 = .ok (.invokestatic 64, 3) := by decide +kernel
theorem d_J_degree_23 : decode b_J_degree 23 = .ok (.iconst 1, 1) := by decide +kernel
theorem d_J_degree_24 : decode b_J_degree 24 = .ok (.isub, 1) := by decide +kernel
theorem d_J_degree_25 : decode b_J_degree 25 = .ok (.ireturn, 1) := by decide +kernel
theorem d_J_partner_0 : decode b_J_partner 0 = .ok (.aload_n 0, 1) := by decide +kernel
theorem d_J_partner_1 : decode b_J_partner 1 = .ok (.iload_n 1, 1) := by decide +kernel
theorem d_J_partner_2 : decode b_J_partner 2 = .ok (.invokevirtual 51, 3) := by decide +kernel
theorem d_J_partner_5 : decode b_J_partner 5 = .ok (.ifCond .ne 5, 3) := by decide +kernel
theorem d_J_partner_8 : decode b_J_partner 8 = .ok (.iconst (-1), 1) := by decide +kernel
theorem d_J_partner_9 : decode b_J_partner 9 = .ok (.ireturn, 1) := by decide +kernel
theorem d_J_partner_10 : decode b_J_partner 10 = .ok (.aload_n 0, 1) := by decide +kernel
theorem d_J_partner_11 : decode b_J_partner 11 = .ok (.invokevirtual 61, 3) := by decide +kernel
theorem d_J_partner_14 : decode b_J_partner 14 = .ok (.iload_n 2, 1) := by decide +kernel
theorem d_J_partner_15 : decode b_J_partner 15 = .ok (.istore_n 3, 1) := by decide +kernel
theorem d_J_partner_16 : decode b_J_partner 16 = .ok (.iconst 0, 1) := by decide +kernel
theorem d_J_partner_17 : decode b_J_partner 17 = .ok (.istore 4, 2) := by decide +kernel
theorem d_J_partner_19 : decode b_J_partner 19 = .ok (.iload 4, 2) := by decide +kernel
theorem d_J_partner_21 : decode b_J_partner 21 = .ok (.aload_n 0, 1) := by decide +kernel
theorem d_J_partner_22 : decode b_J_partner 22 = .ok (.getfield 54, 3) := by decide +kernel
theorem d_J_partner_25 : decode b_J_partner 25 = .ok (.if_icmp .ge 40, 3) := by decide +kernel
theorem d_J_partner_28 : decode b_J_partner 28 = .ok (.iload 4, 2) := by decide +kernel
theorem d_J_partner_30 : decode b_J_partner 30 = .ok (.iload_n 1, 1) := by decide +kernel
theorem d_J_partner_31 : decode b_J_partner 31 = .ok (.if_icmp .eq 28, 3) := by decide +kernel
theorem d_J_partner_34 : decode b_J_partner 34 = .ok (.aload_n 0, 1) := by decide +kernel
theorem d_J_partner_35 : decode b_J_partner 35 = .ok (.getfield 28, 3) := by decide +kernel
theorem d_J_partner_38 : decode b_J_partner 38 = .ok (.iload_n 1, 1) := by decide +kernel
theorem d_J_partner_39 : decode b_J_partner 39 = .ok (.iaload, 1) := by decide +kernel
theorem d_J_partner_40 : decode b_J_partner 40 = .ok (.iload 4, 2) := by decide +kernel
theorem d_J_partner_42 : decode b_J_partner 42 = .ok (.ishr, 1) := by decide +kernel
theorem d_J_partner_43 : decode b_J_partner 43 = .ok (.iconst 1, 1) := by decide +kernel
theorem d_J_partner_44 : decode b_J_partner 44 = .ok (.iand, 1) := by decide +kernel
theorem d_J_partner_45 : decode b_J_partner 45 = .ok (.iconst 1, 1) := by decide +kernel
theorem d_J_partner_46 : decode b_J_partner 46 = .ok (.if_icmp .ne 13, 3) := by decide +kernel
theorem d_J_partner_49 : decode b_J_partner 49 = .ok (.iload_n 3, 1) := by decide +kernel
theorem d_J_partner_50 : decode b_J_partner 50 = .ok (.ifCond .ne 6, 3) := by decide +kernel
theorem d_J_partner_53 : decode b_J_partner 53 = .ok (.iload 4, 2) := by decide +kernel
theorem d_J_partner_55 : decode b_J_partner 55 = .ok (.ireturn, 1) := by decide +kernel
theorem d_J_partner_56 : decode b_J_partner 56 = .ok (.iinc 3 (-1), 3) := by decide +kernel
theorem d_J_partner_59 : decode b_J_partner 59 = .ok (.iinc 4 1, 3) := by decide +kernel
theorem d_J_partner_62 : decode b_J_partner 62 = .ok (.goto (-43), 3) := by decide +kernel
theorem d_J_partner_65 : decode b_J_partner 65 = .ok (.bipush (-2), 2) := by decide +kernel
theorem d_J_partner_67 : decode b_J_partner 67 = .ok (.ireturn, 1) := by decide +kernel
theorem d_J_nearest_0 : decode b_J_nearest 0 = .ok (.aload_n 0, 1) := by decide +kernel
theorem d_J_nearest_1 : decode b_J_nearest 1 = .ok (.iload_n 1, 1) := by decide +kernel
theorem d_J_nearest_2 : decode b_J_nearest 2 = .ok (.invokevirtual 51, 3) := by decide +kernel
theorem d_J_nearest_5 : decode b_J_nearest 5 = .ok (.ifCond .ne 5, 3) := by decide +kernel
theorem d_J_nearest_8 : decode b_J_nearest 8 = .ok (.iconst (-1), 1) := by decide +kernel
theorem d_J_nearest_9 : decode b_J_nearest 9 = .ok (.ireturn, 1) := by decide +kernel
theorem d_J_nearest_10 : decode b_J_nearest 10 = .ok (.bipush (-2), 2) := by decide +kernel
theorem d_J_nearest_12 : decode b_J_nearest 12 = .ok (.istore_n 2, 1) := by decide +kernel
theorem d_J_nearest_13 : decode b_J_nearest 13 = .ok (.iconst 0, 1) := by decide +kernel
theorem d_J_nearest_14 : decode b_J_nearest 14 = .ok (.istore_n 3, 1) := by decide +kernel
theorem d_J_nearest_15 : decode b_J_nearest 15 = .ok (.iconst 1, 1) := by decide +kernel
theorem d_J_nearest_16 : decode b_J_nearest 16 = .ok (.istore 4, 2) := by decide +kernel
theorem d_J_nearest_18 : decode b_J_nearest 18 = .ok (.iconst 0, 1) := by decide +kernel
theorem d_J_nearest_19 : decode b_J_nearest 19 = .ok (.istore 5, 2) := by decide +kernel
theorem d_J_nearest_21 : decode b_J_nearest 21 = .ok (.iload 5, 2) := by decide +kernel
theorem d_J_nearest_23 : decode b_J_nearest 23 = .ok (.aload_n 0, 1) := by decide +kernel
theorem d_J_nearest_24 : decode b_J_nearest 24 = .ok (.getfield 54, 3) := by decide +kernel
theorem d_J_nearest_27 : decode b_J_nearest 27 = .ok (.if_icmp .ge 79, 3) := by decide +kernel
theorem d_J_nearest_30 : decode b_J_nearest 30 = .ok (.iload 5, 2) := by decide +kernel
theorem d_J_nearest_32 : decode b_J_nearest 32 = .ok (.iload_n 1, 1) := by decide +kernel
theorem d_J_nearest_33 : decode b_J_nearest 33 = .ok (.if_icmp .eq 67, 3) := by decide +kernel
theorem d_J_nearest_36 : decode b_J_nearest 36 = .ok (.aload_n 0, 1) := by decide +kernel
theorem d_J_nearest_37 : decode b_J_nearest 37 = .ok (.getfield 7, 3) := by decide +kernel
theorem d_J_nearest_40 : decode b_J_nearest 40 = .ok (.iload_n 1, 1) := by decide +kernel
theorem d_J_nearest_41 : decode b_J_nearest 41 = .ok (.iaload, 1) := by decide +kernel
theorem d_J_nearest_42 : decode b_J_nearest 42 = .ok (.aload_n 0, 1) := by decide +kernel
theorem d_J_nearest_43 : decode b_J_nearest 43 = .ok (.getfield 7, 3) := by decide +kernel
theorem d_J_nearest_46 : decode b_J_nearest 46 = .ok (.iload 5, 2) := by decide +kernel
theorem d_J_nearest_48 : decode b_J_nearest 48 = .ok (.iaload, 1) := by decide +kernel
theorem d_J_nearest_49 : decode b_J_nearest 49 = .ok (.iand, 1) := by decide +kernel
theorem d_J_nearest_50 : decode b_J_nearest 50 = .ok (.invokestatic 64, 3) := by decide +kernel
theorem d_J_nearest_53 : decode b_J_nearest 53 = .ok (.istore 6, 2) := by decide +kernel
theorem d_J_nearest_55 : decode b_J_nearest 55 = .ok (.aload_n 0, 1) := by decide +kernel
theorem d_J_nearest_56 : decode b_J_nearest 56 = .ok (.getfield 13, 3) := by decide +kernel
theorem d_J_nearest_59 : decode b_J_nearest 59 = .ok (.iload_n 1, 1) := by decide +kernel
theorem d_J_nearest_60 : decode b_J_nearest 60 = .ok (.iaload, 1) := by decide +kernel
theorem d_J_nearest_61 : decode b_J_nearest 61 = .ok (.aload_n 0, 1) := by decide +kernel
theorem d_J_nearest_62 : decode b_J_nearest 62 = .ok (.getfield 13, 3) := by decide +kernel
theorem d_J_nearest_65 : decode b_J_nearest 65 = .ok (.iload 5, 2) := by decide +kernel
theorem d_J_nearest_67 : decode b_J_nearest 67 = .ok (.iaload, 1) := by decide +kernel
theorem d_J_nearest_68 : decode b_J_nearest 68 = .ok (.iadd, 1) := by decide +kernel
theorem d_J_nearest_69 : decode b_J_nearest 69 = .ok (.iload 6, 2) := by decide +kernel
theorem d_J_nearest_71 : decode b_J_nearest 71 = .ok (.isub, 1) := by decide +kernel
theorem d_J_nearest_72 : decode b_J_nearest 72 = .ok (.istore 7, 2) := by decide +kernel
theorem d_J_nearest_74 : decode b_J_nearest 74 = .ok (.iload_n 2, 1) := by decide +kernel
theorem d_J_nearest_75 : decode b_J_nearest 75 = .ok (.ifCond .lt 15, 3) := by decide +kernel
theorem d_J_nearest_78 : decode b_J_nearest 78 = .ok (.iload 6, 2) := by decide +kernel
theorem d_J_nearest_80 : decode b_J_nearest 80 = .ok (.iload 4, 2) := by decide +kernel
theorem d_J_nearest_82 : decode b_J_nearest 82 = .ok (.imul, 1) := by decide +kernel
theorem d_J_nearest_83 : decode b_J_nearest 83 = .ok (.iload_n 3, 1) := by decide +kernel
theorem d_J_nearest_84 : decode b_J_nearest 84 = .ok (.iload 7, 2) := by decide +kernel
theorem d_J_nearest_86 : decode b_J_nearest 86 = .ok (.imul, 1) := by decide +kernel
theorem d_J_nearest_87 : decode b_J_nearest 87 = .ok (.if_icmp .le 13, 3) := by decide +kernel
theorem d_J_nearest_90 : decode b_J_nearest 90 = .ok (.iload 5, 2) := by decide +kernel
theorem d_J_nearest_92 : decode b_J_nearest 92 = .ok (.istore_n 2, 1) := by decide +kernel
theorem d_J_nearest_93 : decode b_J_nearest 93 = .ok (.iload 6, 2) := by decide +kernel
theorem d_J_nearest_95 : decode b_J_nearest 95 = .ok (.istore_n 3, 1) := by decide +kernel
theorem d_J_nearest_96 : decode b_J_nearest 96 = .ok (.iload 7, 2) := by decide +kernel
theorem d_J_nearest_98 : decode b_J_nearest 98 = .ok (.istore 4, 2) := by decide +kernel
theorem d_J_nearest_100 : decode b_J_nearest 100 = .ok (.iinc 5 1, 3) := by decide +kernel
theorem d_J_nearest_103 : decode b_J_nearest 103 = .ok (.goto (-82), 3) := by decide +kernel
theorem d_J_nearest_106 : decode b_J_nearest 106 = .ok (.iload_n 2, 1) := by decide +kernel
theorem d_J_nearest_107 : decode b_J_nearest 107 = .ok (.ireturn, 1) := by decide +kernel
theorem d_J_matches_0 : decode b_J_matches 0 = .ok (.aload_n 0, 1) := by decide +kernel
theorem d_J_matches_1 : decode b_J_matches 1 = .ok (.invokevirtual 68, 3) := by decide +kernel
theorem d_J_matches_4 : decode b_J_matches 4 = .ok (.istore_n 1, 1) := by decide +kernel
theorem d_J_matches_5 : decode b_J_matches 5 = .ok (.iload_n 1, 1) := by decide +kernel
theorem d_J_matches_6 : decode b_J_matches 6 = .ok (.invokestatic 64, 3) := by decide +kernel
theorem d_J_matches_9 : decode b_J_matches 9 = .ok (.ireturn, 1) := by decide +kernel
theorem d_J_probeDraft_0 : decode b_J_probeDraft 0 = .ok (.aload_n 0, 1) := by decide +kernel
theorem d_J_probeDraft_1 : decode b_J_probeDraft 1 = .ok (.invokevirtual 61, 3) := by decide +kernel
theorem d_J_probeDraft_4 : decode b_J_probeDraft 4 = .ok (.aload_n 0, 1) := by decide +kernel
theorem d_J_probeDraft_5 : decode b_J_probeDraft 5 = .ok (.bipush 20, 2) := by decide +kernel
theorem d_J_probeDraft_7 : decode b_J_probeDraft 7 = .ok (.aload_n 0, 1) := by decide +kernel
theorem d_J_probeDraft_8 : decode b_J_probeDraft 8 = .ok (.getfield 45, 3) := by decide +kernel
theorem d_J_probeDraft_11 : decode b_J_probeDraft 11 = .ok (.invokevirtual 82, 3) := by decide +kernel
theorem d_J_probeDraft_14 : decode b_J_probeDraft 14 = .ok (.aload_n 0, 1) := by decide +kernel
theorem d_J_probeDraft_15 : decode b_J_probeDraft 15 = .ok (.bipush 20, 2) := by decide +kernel
theorem d_J_probeDraft_17 : decode b_J_probeDraft 17 = .ok (.aload_n 0, 1) := by decide +kernel
theorem d_J_probeDraft_18 : decode b_J_probeDraft 18 = .ok (.getfield 48, 3) := by decide +kernel
theorem d_J_probeDraft_21 : decode b_J_probeDraft 21 = .ok (.invokevirtual 89, 3) := by decide +kernel
theorem d_J_probeDraft_24 : decode b_J_probeDraft 24 = .ok (.ireturn, 1) := by decide +kernel
theorem d_J_match_0 : decode b_J_match 0 = .ok (.iload_n 1, 1) := by decide +kernel
theorem d_J_match_1 : decode b_J_match 1 = .ok (.ifCond .lt 9, 3) := by decide +kernel
theorem d_J_match_4 : decode b_J_match 4 = .ok (.iload_n 1, 1) := by decide +kernel
theorem d_J_match_5 : decode b_J_match 5 = .ok (.bipush 20, 2) := by decide +kernel
theorem d_J_match_7 : decode b_J_match 7 = .ok (.if_icmp .lt 5, 3) := by decide +kernel
theorem d_J_match_10 : decode b_J_match 10 = .ok (.iconst (-1), 1) := by decide +kernel
theorem d_J_match_11 : decode b_J_match 11 = .ok (.ireturn, 1) := by decide +kernel
theorem d_J_match_12 : decode b_J_match 12 = .ok (.aload_n 0, 1) := by decide +kernel
theorem d_J_match_13 : decode b_J_match 13 = .ok (.invokevirtual 68, 3) := by decide +kernel
theorem d_J_match_16 : decode b_J_match 16 = .ok (.istore_n 2, 1) := by decide +kernel
theorem d_J_match_17 : decode b_J_match 17 = .ok (.iload_n 1, 1) := by decide +kernel
theorem d_J_match_18 : decode b_J_match 18 = .ok (.istore_n 3, 1) := by decide +kernel
theorem d_J_match_19 : decode b_J_match 19 = .ok (.iload_n 3, 1) := by decide +kernel
theorem d_J_match_20 : decode b_J_match 20 = .ok (.aload_n 0, 1) := by decide +kernel
theorem d_J_match_21 : decode b_J_match 21 = .ok (.getfield 54, 3) := by decide +kernel
theorem d_J_match_24 : decode b_J_match 24 = .ok (.if_icmp .ge 20, 3) := by decide +kernel
theorem d_J_match_27 : decode b_J_match 27 = .ok (.iload_n 2, 1) := by decide +kernel
theorem d_J_match_28 : decode b_J_match 28 = .ok (.iload_n 3, 1) := by decide +kernel
theorem d_J_match_29 : decode b_J_match 29 = .ok (.ishr, 1) := by decide +kernel
theorem d_J_match_30 : decode b_J_match 30 = .ok (.iconst 1, 1) := by decide +kernel
theorem d_J_match_31 : decode b_J_match 31 = .ok (.iand, 1) := by decide +kernel
theorem d_J_match_32 : decode b_J_match 32 = .ok (.iconst 1, 1) := by decide +kernel
theorem d_J_match_33 : decode b_J_match 33 = .ok (.if_icmp .ne 5, 3) := by decide +kernel
theorem d_J_match_36 : decode b_J_match 36 = .ok (.iload_n 3, 1) := by decide +kernel
theorem d_J_match_37 : decode b_J_match 37 = .ok (.ireturn, 1) := by decide +kernel
theorem d_J_match_38 : decode b_J_match 38 = .ok (.iinc 3 1, 3) := by decide +kernel
theorem d_J_match_41 : decode b_J_match 41 = .ok (.goto (-22), 3) := by decide +kernel
theorem d_J_match_44 : decode b_J_match 44 = .ok (.bipush (-2), 2) := by decide +kernel
theorem d_J_match_46 : decode b_J_match 46 = .ok (.ireturn, 1) := by decide +kernel
theorem d_J_containing_0 : decode b_J_containing 0 = .ok (.iconst 0, 1) := by decide +kernel
theorem d_J_containing_1 : decode b_J_containing 1 = .ok (.istore_n 1, 1) := by decide +kernel
theorem d_J_containing_2 : decode b_J_containing 2 = .ok (.iconst 0, 1) := by decide +kernel
theorem d_J_containing_3 : decode b_J_containing 3 = .ok (.istore_n 2, 1) := by decide +kernel
theorem d_J_containing_4 : decode b_J_containing 4 = .ok (.iload_n 2, 1) := by decide +kernel
theorem d_J_containing_5 : decode b_J_containing 5 = .ok (.aload_n 0, 1) := by decide +kernel
theorem d_J_containing_6 : decode b_J_containing 6 = .ok (.getfield 54, 3) := by decide +kernel
theorem d_J_containing_9 : decode b_J_containing 9 = .ok (.if_icmp .ge 28, 3) := by decide +kernel
theorem d_J_containing_12 : decode b_J_containing 12 = .ok (.aload_n 0, 1) := by decide +kernel
theorem d_J_containing_13 : decode b_J_containing 13 = .ok (.getfield 45, 3) := by decide +kernel
theorem d_J_containing_16 : decode b_J_containing 16 = .ok (.aload_n 0, 1) := by decide +kernel
theorem d_J_containing_17 : decode b_J_containing 17 = .ok (.getfield 7, 3) := by decide +kernel
theorem d_J_containing_20 : decode b_J_containing 20 = .ok (.iload_n 2, 1) := by decide +kernel
theorem d_J_containing_21 : decode b_J_containing 21 = .ok (.iaload, 1) := by decide +kernel
theorem d_J_containing_22 : decode b_J_containing 22 = .ok (.iconst (-1), 1) := by decide +kernel
theorem d_J_containing_23 : decode b_J_containing 23 = .ok (.ixor, 1) := by decide +kernel
theorem d_J_containing_24 : decode b_J_containing 24 = .ok (.iand, 1) := by decide +kernel
theorem d_J_containing_25 : decode b_J_containing 25 = .ok (.ifCond .ne 6, 3) := by decide +kernel
theorem d_J_containing_28 : decode b_J_containing 28 = .ok (.iinc 1 1, 3) := by decide +kernel
theorem d_J_containing_31 : decode b_J_containing 31 = .ok (.iinc 2 1, 3) := by decide +kernel
theorem d_J_containing_34 : decode b_J_containing 34 = .ok (.goto (-30), 3) := by decide +kernel
theorem d_J_containing_37 : decode b_J_containing 37 = .ok (.iload_n 1, 1) := by decide +kernel
theorem d_J_containing_38 : decode b_J_containing 38 = .ok (.ireturn, 1) := by decide +kernel
theorem d_J_groups_0 : decode b_J_groups 0 = .ok (.aload_n 0, 1) := by decide +kernel
theorem d_J_groups_1 : decode b_J_groups 1 = .ok (.invokevirtual 61, 3) := by decide +kernel
theorem d_J_groups_4 : decode b_J_groups 4 = .ok (.iconst 0, 1) := by decide +kernel
theorem d_J_groups_5 : decode b_J_groups 5 = .ok (.istore_n 1, 1) := by decide +kernel
theorem d_J_groups_6 : decode b_J_groups 6 = .ok (.iconst 0, 1) := by decide +kernel
theorem d_J_groups_7 : decode b_J_groups 7 = .ok (.istore_n 2, 1) := by decide +kernel
theorem d_J_groups_8 : decode b_J_groups 8 = .ok (.iload_n 2, 1) := by decide +kernel
theorem d_J_groups_9 : decode b_J_groups 9 = .ok (.aload_n 0, 1) := by decide +kernel
theorem d_J_groups_10 : decode b_J_groups 10 = .ok (.getfield 54, 3) := by decide +kernel
theorem d_J_groups_13 : decode b_J_groups 13 = .ok (.if_icmp .ge 22, 3) := by decide +kernel
theorem d_J_groups_16 : decode b_J_groups 16 = .ok (.aload_n 0, 1) := by decide +kernel
theorem d_J_groups_17 : decode b_J_groups 17 = .ok (.getfield 31, 3) := by decide +kernel
theorem d_J_groups_20 : decode b_J_groups 20 = .ok (.iload_n 2, 1) := by decide +kernel
theorem d_J_groups_21 : decode b_J_groups 21 = .ok (.iaload, 1) := by decide +kernel
theorem d_J_groups_22 : decode b_J_groups 22 = .ok (.iload_n 2, 1) := by decide +kernel
theorem d_J_groups_23 : decode b_J_groups 23 = .ok (.if_icmp .ne 6, 3) := by decide +kernel
theorem d_J_groups_26 : decode b_J_groups 26 = .ok (.iinc 1 1, 3) := by decide +kernel
theorem d_J_groups_29 : decode b_J_groups 29 = .ok (.iinc 2 1, 3) := by decide +kernel
theorem d_J_groups_32 : decode b_J_groups 32 = .ok (.goto (-24), 3) := by decide +kernel
theorem d_J_groups_35 : decode b_J_groups 35 = .ok (.iload_n 1, 1) := by decide +kernel
theorem d_J_groups_36 : decode b_J_groups 36 = .ok (.ireturn, 1) := by decide +kernel
theorem d_J_groupOf_0 : decode b_J_groupOf 0 = .ok (.aload_n 0, 1) := by decide +kernel
theorem d_J_groupOf_1 : decode b_J_groupOf 1 = .ok (.iload_n 1, 1) := by decide +kernel
theorem d_J_groupOf_2 : decode b_J_groupOf 2 = .ok (.invokevirtual 51, 3) := by decide +kernel
theorem d_J_groupOf_5 : decode b_J_groupOf 5 = .ok (.ifCond .ne 5, 3) := by decide +kernel
theorem d_J_groupOf_8 : decode b_J_groupOf 8 = .ok (.iconst (-1), 1) := by decide +kernel
theorem d_J_groupOf_9 : decode b_J_groupOf 9 = .ok (.ireturn, 1) := by decide +kernel
theorem d_J_groupOf_10 : decode b_J_groupOf 10 = .ok (.aload_n 0, 1) := by decide +kernel
theorem d_J_groupOf_11 : decode b_J_groupOf 11 = .ok (.invokevirtual 61, 3) := by decide +kernel
theorem d_J_groupOf_14 : decode b_J_groupOf 14 = .ok (.aload_n 0, 1) := by decide +kernel
theorem d_J_groupOf_15 : decode b_J_groupOf 15 = .ok (.iload_n 1, 1) := by decide +kernel
theorem d_J_groupOf_16 : decode b_J_groupOf 16 = .ok (.invokevirtual 72, 3) := by decide +kernel
theorem d_J_groupOf_19 : decode b_J_groupOf 19 = .ok (.ireturn, 1) := by decide +kernel
theorem d_J_groupSize_0 : decode b_J_groupSize 0 = .ok (.aload_n 0, 1) := by decide +kernel
theorem d_J_groupSize_1 : decode b_J_groupSize 1 = .ok (.iload_n 1, 1) := by decide +kernel
theorem d_J_groupSize_2 : decode b_J_groupSize 2 = .ok (.invokevirtual 51, 3) := by decide +kernel
theorem d_J_groupSize_5 : decode b_J_groupSize 5 = .ok (.ifCond .ne 5, 3) := by decide +kernel
theorem d_J_groupSize_8 : decode b_J_groupSize 8 = .ok (.iconst (-1), 1) := by decide +kernel
theorem d_J_groupSize_9 : decode b_J_groupSize 9 = .ok (.ireturn, 1) := by decide +kernel
theorem d_J_groupSize_10 : decode b_J_groupSize 10 = .ok (.aload_n 0, 1) := by decide +kernel
theorem d_J_groupSize_11 : decode b_J_groupSize 11 = .ok (.invokevirtual 61, 3) := by decide +kernel
theorem d_J_groupSize_14 : decode b_J_groupSize 14 = .ok (.aload_n 0, 1) := by decide +kernel
theorem d_J_groupSize_15 : decode b_J_groupSize 15 = .ok (.iload_n 1, 1) := by decide +kernel
theorem d_J_groupSize_16 : decode b_J_groupSize 16 = .ok (.invokevirtual 72, 3) := by decide +kernel
theorem d_J_groupSize_19 : decode b_J_groupSize 19 = .ok (.istore_n 2, 1) := by decide +kernel
theorem d_J_groupSize_20 : decode b_J_groupSize 20 = .ok (.iconst 0, 1) := by decide +kernel
theorem d_J_groupSize_21 : decode b_J_groupSize 21 = .ok (.istore_n 3, 1) := by decide +kernel
theorem d_J_groupSize_22 : decode b_J_groupSize 22 = .ok (.iconst 0, 1) := by decide +kernel
theorem d_J_groupSize_23 : decode b_J_groupSize 23 = .ok (.istore 4, 2) := by decide +kernel
theorem d_J_groupSize_25 : decode b_J_groupSize 25 = .ok (.iload 4, 2) := by decide +kernel
theorem d_J_groupSize_27 : decode b_J_groupSize 27 = .ok (.aload_n 0, 1) := by decide +kernel
theorem d_J_groupSize_28 : decode b_J_groupSize 28 = .ok (.getfield 54, 3) := by decide +kernel
theorem d_J_groupSize_31 : decode b_J_groupSize 31 = .ok (.if_icmp .ge 22, 3) := by decide +kernel
theorem d_J_groupSize_34 : decode b_J_groupSize 34 = .ok (.aload_n 0, 1) := by decide +kernel
theorem d_J_groupSize_35 : decode b_J_groupSize 35 = .ok (.iload 4, 2) := by decide +kernel
theorem d_J_groupSize_37 : decode b_J_groupSize 37 = .ok (.invokevirtual 72, 3) := by decide +kernel
theorem d_J_groupSize_40 : decode b_J_groupSize 40 = .ok (.iload_n 2, 1) := by decide +kernel
theorem d_J_groupSize_41 : decode b_J_groupSize 41 = .ok (.if_icmp .ne 6, 3) := by decide +kernel
theorem d_J_groupSize_44 : decode b_J_groupSize 44 = .ok (.iinc 3 1, 3) := by decide +kernel
theorem d_J_groupSize_47 : decode b_J_groupSize 47 = .ok (.iinc 4 1, 3) := by decide +kernel
theorem d_J_groupSize_50 : decode b_J_groupSize 50 = .ok (.goto (-25), 3) := by decide +kernel
theorem d_J_groupSize_53 : decode b_J_groupSize 53 = .ok (.iload_n 3, 1) := by decide +kernel
theorem d_J_groupSize_54 : decode b_J_groupSize 54 = .ok (.ireturn, 1) := by decide +kernel
end
section
theorem d_M_init_0 : decode b_M_init 0 = .ok (.aload_n 0, 1) := by decide +kernel
theorem d_M_init_1 : decode b_M_init 1 = .ok (.invokespecial 1, 3) := by decide +kernel
theorem d_M_init_4 : decode b_M_init 4 = .ok (.aload_n 0, 1) := by decide +kernel
theorem d_M_init_5 : decode b_M_init 5 = .ok (.sipush 630, 3) := by decide +kernel
theorem d_M_init_8 : decode b_M_init 8 = .ok (.newarray .boolean, 2) := by decide +kernel
theorem d_M_init_10 : decode b_M_init 10 = .ok (.putfield 7, 3) := by decide +kernel
theorem d_M_init_13 : decode b_M_init 13 = .ok (.aload_n 0, 1) := by decide +kernel
theorem d_M_init_14 : decode b_M_init 14 = .ok (.iconst 1, 1) := by decide +kernel
theorem d_M_init_15 : decode b_M_init 15 = .ok (.putfield 13, 3) := by decide +kernel
theorem d_M_init_18 : decode b_M_init 18 = .ok (.aload_n 0, 1) := by decide +kernel
theorem d_M_init_19 : decode b_M_init 19 = .ok (.iconst 2, 1) := by decide +kernel
theorem d_M_init_20 : decode b_M_init 20 = .ok (.putfield 17, 3) := by decide +kernel
theorem d_M_init_23 : decode b_M_init 23 = .ok (.aload_n 0, 1) := by decide +kernel
theorem d_M_init_24 : decode b_M_init 24 = .ok (.bipush 20, 2) := by decide +kernel
theorem d_M_init_26 : decode b_M_init 26 = .ok (.newarray .int, 2) := by decide +kernel
theorem d_M_init_28 : decode b_M_init 28 = .ok (.putfield 20, 3) := by decide +kernel
theorem d_M_init_31 : decode b_M_init 31 = .ok (.return_, 1) := by decide +kernel
theorem d_M_token_0 : decode b_M_token 0 = .ok (.aload_n 0, 1) := by decide +kernel
theorem d_M_token_1 : decode b_M_token 1 = .ok (.iload_n 1, 1) := by decide +kernel
theorem d_M_token_2 : decode b_M_token 2 = .ok (.invokevirtual 27, 3) := by decide +kernel
theorem d_M_token_5 : decode b_M_token 5 = .ok (.ifCond .eq 5, 3) := by decide +kernel
theorem d_M_token_8 : decode b_M_token 8 = .ok (.iconst (-1), 1) := by decide +kernel
theorem d_M_token_9 : decode b_M_token 9 = .ok (.ireturn, 1) := by decide +kernel
theorem d_M_token_10 : decode b_M_token 10 = .ok (.aload_n 0, 1) := by decide +kernel
theorem d_M_token_11 : decode b_M_token 11 = .ok (.bipush 20, 2) := by decide +kernel
theorem d_M_token_13 : decode b_M_token 13 = .ok (.invokevirtual 31, 3) := by decide +kernel
theorem d_M_token_16 : decode b_M_token 16 = .ok (.bipush 12, 2) := by decide +kernel
theorem d_M_token_18 : decode b_M_token 18 = .ok (.if_icmp .ne 19, 3) := by decide +kernel
theorem d_M_token_21 : decode b_M_token 21 = .ok (.aload_n 0, 1) := by decide +kernel
theorem d_M_token_22 : decode b_M_token 22 = .ok (.getfield 7, 3) := by decide +kernel
theorem d_M_token_25 : decode b_M_token 25 = .ok (.sipush 600, 3) := by decide +kernel
theorem d_M_token_28 : decode b_M_token 28 = .ok (.iload_n 1, 1) := by decide +kernel
theorem d_M_token_29 : decode b_M_token 29 = .ok (.iadd, 1) := by decide +kernel
theorem d_M_token_30 : decode b_M_token 30 = .ok (.baload, 1) := by decide +kernel
theorem d_M_token_31 : decode b_M_token 31 = .ok (.ifCond .ne 6, 3) := by decide +kernel
theorem d_M_token_34 : decode b_M_token 34 = .ok (.bipush (-2), 2) := by decide +kernel
theorem d_M_token_36 : decode b_M_token 36 = .ok (.ireturn, 1) := by decide +kernel
theorem d_M_token_37 : decode b_M_token 37 = .ok (.aload_n 0, 1) := by decide +kernel
theorem d_M_token_38 : decode b_M_token 38 = .ok (.getfield 7, 3) := by decide +kernel
theorem d_M_token_41 : decode b_M_token 41 = .ok (.sipush 600, 3) := by decide +kernel
theorem d_M_token_44 : decode b_M_token 44 = .ok (.iload_n 1, 1) := by decide +kernel
theorem d_M_token_45 : decode b_M_token 45 = .ok (.iadd, 1) := by decide +kernel
theorem d_M_token_46 : decode b_M_token 46 = .ok (.iconst 1, 1) := by decide +kernel
theorem d_M_token_47 : decode b_M_token 47 = .ok (.bastore, 1) := by decide +kernel
theorem d_M_token_48 : decode b_M_token 48 = .ok (.aload_n 0, 1) := by decide +kernel
theorem d_M_token_49 : decode b_M_token 49 = .ok (.bipush 20, 2) := by decide +kernel
theorem d_M_token_51 : decode b_M_token 51 = .ok (.invokevirtual 31, 3) := by decide +kernel
theorem d_M_token_54 : decode b_M_token 54 = .ok (.ireturn, 1) := by decide +kernel
theorem d_M_badToken_0 : decode b_M_badToken 0 = .ok (.iload_n 1, 1) := by decide +kernel
theorem d_M_badToken_1 : decode b_M_badToken 1 = .ok (.ifCond .lt 9, 3) := by decide +kernel
theorem d_M_badToken_4 : decode b_M_badToken 4 = .ok (.iload_n 1, 1) := by decide +kernel
theorem d_M_badToken_5 : decode b_M_badToken 5 = .ok (.bipush 29, 2) := by decide +kernel
theorem d_M_badToken_7 : decode b_M_badToken 7 = .ok (.if_icmp .le 7, 3) := by decide +kernel
theorem d_M_badToken_10 : decode b_M_badToken 10 = .ok (.iconst 1, 1) := by decide +kernel
theorem d_M_badToken_11 : decode b_M_badToken 11 = .ok (.goto 4, 3) := by decide +kernel
theorem d_M_badToken_14 : decode b_M_badToken 14 = .ok (.iconst 0, 1) := by decide +kernel
theorem d_M_badToken_15 : decode b_M_badToken 15 = .ok (.ireturn, 1) := by decide +kernel
theorem d_M_sizeOf_0 : decode b_M_sizeOf 0 = .ok (.iconst 0, 1) := by decide +kernel
theorem d_M_sizeOf_1 : decode b_M_sizeOf 1 = .ok (.istore_n 2, 1) := by decide +kernel
theorem d_M_sizeOf_2 : decode b_M_sizeOf 2 = .ok (.iconst 0, 1) := by decide +kernel
theorem d_M_sizeOf_3 : decode b_M_sizeOf 3 = .ok (.istore_n 3, 1) := by decide +kernel
theorem d_M_sizeOf_4 : decode b_M_sizeOf 4 = .ok (.iload_n 3, 1) := by decide +kernel
theorem d_M_sizeOf_5 : decode b_M_sizeOf 5 = .ok (.bipush 30, 2) := by decide +kernel
theorem d_M_sizeOf_7 : decode b_M_sizeOf 7 = .ok (.if_icmp .ge 26, 3) := by decide +kernel
theorem d_M_sizeOf_10 : decode b_M_sizeOf 10 = .ok (.aload_n 0, 1) := by decide +kernel
theorem d_M_sizeOf_11 : decode b_M_sizeOf 11 = .ok (.getfield 7, 3) := by decide +kernel
theorem d_M_sizeOf_14 : decode b_M_sizeOf 14 = .ok (.bipush 30, 2) := by decide +kernel
theorem d_M_sizeOf_16 : decode b_M_sizeOf 16 = .ok (.iload_n 1, 1) := by decide +kernel
theorem d_M_sizeOf_17 : decode b_M_sizeOf 17 = .ok (.imul, 1) := by decide +kernel
theorem d_M_sizeOf_18 : decode b_M_sizeOf 18 = .ok (.iload_n 3, 1) := by decide +kernel
theorem d_M_sizeOf_19 : decode b_M_sizeOf 19 = .ok (.iadd, 1) := by decide +kernel
theorem d_M_sizeOf_20 : decode b_M_sizeOf 20 = .ok (.baload, 1) := by decide +kernel
theorem d_M_sizeOf_21 : decode b_M_sizeOf 21 = .ok (.ifCond .eq 6, 3) := by decide +kernel
theorem d_M_sizeOf_24 : decode b_M_sizeOf 24 = .ok (.iinc 2 1, 3) := by decide +kernel
theorem d_M_sizeOf_27 : decode b_M_sizeOf 27 = .ok (.iinc 3 1, 3) := by decide +kernel
theorem d_M_sizeOf_30 : decode b_M_sizeOf 30 = .ok (.goto (-26), 3) := by decide +kernel
theorem d_M_sizeOf_33 : decode b_M_sizeOf 33 = .ok (.iload_n 2, 1) := by decide +kernel
theorem d_M_sizeOf_34 : decode b_M_sizeOf 34 = .ok (.ireturn, 1) := by decide +kernel
theorem d_M_drop_0 : decode b_M_drop 0 = .ok (.aload_n 0, 1) := by decide +kernel
theorem d_M_drop_1 : decode b_M_drop 1 = .ok (.iload_n 1, 1) := by decide +kernel
theorem d_M_drop_2 : decode b_M_drop 2 = .ok (.invokevirtual 27, 3) := by decide +kernel
theorem d_M_drop_5 : decode b_M_drop 5 = .ok (.ifCond .eq 5, 3) := by decide +kernel
theorem d_M_drop_8 : decode b_M_drop 8 = .ok (.iconst (-1), 1) := by decide +kernel
theorem d_M_drop_9 : decode b_M_drop 9 = .ok (.ireturn, 1) := by decide +kernel
theorem d_M_drop_10 : decode b_M_drop 10 = .ok (.aload_n 0, 1) := by decide +kernel
theorem d_M_drop_11 : decode b_M_drop 11 = .ok (.getfield 7, 3) := by decide +kernel
theorem d_M_drop_14 : decode b_M_drop 14 = .ok (.sipush 600, 3) := by decide +kernel
theorem d_M_drop_17 : decode b_M_drop 17 = .ok (.iload_n 1, 1) := by decide +kernel
theorem d_M_drop_18 : decode b_M_drop 18 = .ok (.iadd, 1) := by decide +kernel
theorem d_M_drop_19 : decode b_M_drop 19 = .ok (.iconst 0, 1) := by decide +kernel
theorem d_M_drop_20 : decode b_M_drop 20 = .ok (.bastore, 1) := by decide +kernel
theorem d_M_drop_21 : decode b_M_drop 21 = .ok (.aload_n 0, 1) := by decide +kernel
theorem d_M_drop_22 : decode b_M_drop 22 = .ok (.bipush 20, 2) := by decide +kernel
theorem d_M_drop_24 : decode b_M_drop 24 = .ok (.invokevirtual 31, 3) := by decide +kernel
theorem d_M_drop_27 : decode b_M_drop 27 = .ok (.ireturn, 1) := by decide +kernel
theorem d_M_clear_0 : decode b_M_clear 0 = .ok (.aload_n 0, 1) := by decide +kernel
theorem d_M_clear_1 : decode b_M_clear 1 = .ok (.bipush 20, 2) := by decide +kernel
theorem d_M_clear_3 : decode b_M_clear 3 = .ok (.invokevirtual 31, 3) := by decide +kernel
theorem d_M_clear_6 : decode b_M_clear 6 = .ok (.istore_n 1, 1) := by decide +kernel
theorem d_M_clear_7 : decode b_M_clear 7 = .ok (.iconst 0, 1) := by decide +kernel
theorem d_M_clear_8 : decode b_M_clear 8 = .ok (.istore_n 2, 1) := by decide +kernel
theorem d_M_clear_9 : decode b_M_clear 9 = .ok (.iload_n 2, 1) := by decide +kernel
theorem d_M_clear_10 : decode b_M_clear 10 = .ok (.bipush 30, 2) := by decide +kernel
theorem d_M_clear_12 : decode b_M_clear 12 = .ok (.if_icmp .ge 20, 3) := by decide +kernel
theorem d_M_clear_15 : decode b_M_clear 15 = .ok (.aload_n 0, 1) := by decide +kernel
theorem d_M_clear_16 : decode b_M_clear 16 = .ok (.getfield 7, 3) := by decide +kernel
theorem d_M_clear_19 : decode b_M_clear 19 = .ok (.sipush 600, 3) := by decide +kernel
theorem d_M_clear_22 : decode b_M_clear 22 = .ok (.iload_n 2, 1) := by decide +kernel
theorem d_M_clear_23 : decode b_M_clear 23 = .ok (.iadd, 1) := by decide +kernel
theorem d_M_clear_24 : decode b_M_clear 24 = .ok (.iconst 0, 1) := by decide +kernel
theorem d_M_clear_25 : decode b_M_clear 25 = .ok (.bastore, 1) := by decide +kernel
theorem d_M_clear_26 : decode b_M_clear 26 = .ok (.iinc 2 1, 3) := by decide +kernel
theorem d_M_clear_29 : decode b_M_clear 29 = .ok (.goto (-20), 3) := by decide +kernel
theorem d_M_clear_32 : decode b_M_clear 32 = .ok (.iload_n 1, 1) := by decide +kernel
theorem d_M_clear_33 : decode b_M_clear 33 = .ok (.ireturn, 1) := by decide +kernel
theorem d_M_recall_0 : decode b_M_recall 0 = .ok (.aload_n 0, 1) := by decide +kernel
theorem d_M_recall_1 : decode b_M_recall 1 = .ok (.iload_n 1, 1) := by decide +kernel
theorem d_M_recall_2 : decode b_M_recall 2 = .ok (.invokevirtual 35, 3) := by decide +kernel
theorem d_M_recall_5 : decode b_M_recall 5 = .ok (.ifCond .eq 5, 3) := by decide +kernel
theorem d_M_recall_8 : decode b_M_recall 8 = .ok (.iconst (-1), 1) := by decide +kernel
theorem d_M_recall_9 : decode b_M_recall 9 = .ok (.ireturn, 1) := by decide +kernel
theorem d_M_recall_10 : decode b_M_recall 10 = .ok (.aload_n 0, 1) := by decide +kernel
theorem d_M_recall_11 : decode b_M_recall 11 = .ok (.iload_n 1, 1) := by decide +kernel
theorem d_M_recall_12 : decode b_M_recall 12 = .ok (.bipush 20, 2) := by decide +kernel
theorem d_M_recall_14 : decode b_M_recall 14 = .ok (.invokevirtual 38, 3) := by decide +kernel
theorem d_M_recall_17 : decode b_M_recall 17 = .ok (.aload_n 0, 1) := by decide +kernel
theorem d_M_recall_18 : decode b_M_recall 18 = .ok (.bipush 20, 2) := by decide +kernel
theorem d_M_recall_20 : decode b_M_recall 20 = .ok (.invokevirtual 31, 3) := by decide +kernel
theorem d_M_recall_23 : decode b_M_recall 23 = .ok (.ireturn, 1) := by decide +kernel
theorem d_M_bad_0 : decode b_M_bad 0 = .ok (.iload_n 1, 1) := by decide +kernel
theorem d_M_bad_1 : decode b_M_bad 1 = .ok (.ifCond .lt 17, 3) := by decide +kernel
theorem d_M_bad_4 : decode b_M_bad 4 = .ok (.iload_n 1, 1) := by decide +kernel
theorem d_M_bad_5 : decode b_M_bad 5 = .ok (.aload_n 0, 1) := by decide +kernel
theorem d_M_bad_6 : decode b_M_bad 6 = .ok (.getfield 24, 3) := by decide +kernel
theorem d_M_bad_9 : decode b_M_bad 9 = .ok (.if_icmp .ge 9, 3) := by decide +kernel
theorem d_M_bad_12 : decode b_M_bad 12 = .ok (.iload_n 1, 1) := by decide +kernel
theorem d_M_bad_13 : decode b_M_bad 13 = .ok (.bipush 20, 2) := by decide +kernel
theorem d_M_bad_15 : decode b_M_bad 15 = .ok (.if_icmp .lt 7, 3) := by decide +kernel
theorem d_M_bad_18 : decode b_M_bad 18 = .ok (.iconst 1, 1) := by decide +kernel
theorem d_M_bad_19 : decode b_M_bad 19 = .ok (.goto 4, 3) := by decide +kernel
theorem d_M_bad_22 : decode b_M_bad 22 = .ok (.iconst 0, 1) := by decide +kernel
theorem d_M_bad_23 : decode b_M_bad 23 = .ok (.ireturn, 1) := by decide +kernel
theorem d_M_copy_0 : decode b_M_copy 0 = .ok (.iconst 0, 1) := by decide +kernel
theorem d_M_copy_1 : decode b_M_copy 1 = .ok (.istore_n 3, 1) := by decide +kernel
theorem d_M_copy_2 : decode b_M_copy 2 = .ok (.iload_n 3, 1) := by decide +kernel
theorem d_M_copy_3 : decode b_M_copy 3 = .ok (.bipush 30, 2) := by decide +kernel
theorem d_M_copy_5 : decode b_M_copy 5 = .ok (.if_icmp .ge 31, 3) := by decide +kernel
theorem d_M_copy_8 : decode b_M_copy 8 = .ok (.aload_n 0, 1) := by decide +kernel
theorem d_M_copy_9 : decode b_M_copy 9 = .ok (.getfield 7, 3) := by decide +kernel
theorem d_M_copy_12 : decode b_M_copy 12 = .ok (.bipush 30, 2) := by decide +kernel
theorem d_M_copy_14 : decode b_M_copy 14 = .ok (.iload_n 2, 1) := by decide +kernel
theorem d_M_copy_15 : decode b_M_copy 15 = .ok (.imul, 1) := by decide +kernel
theorem d_M_copy_16 : decode b_M_copy 16 = .ok (.iload_n 3, 1) := by decide +kernel
theorem d_M_copy_17 : decode b_M_copy 17 = .ok (.iadd, 1) := by decide +kernel
theorem d_M_copy_18 : decode b_M_copy 18 = .ok (.aload_n 0, 1) := by decide +kernel
theorem d_M_copy_19 : decode b_M_copy 19 = .ok (.getfield 7, 3) := by decide +kernel
theorem d_M_copy_22 : decode b_M_copy 22 = .ok (.bipush 30, 2) := by decide +kernel
theorem d_M_copy_24 : decode b_M_copy 24 = .ok (.iload_n 1, 1) := by decide +kernel
theorem d_M_copy_25 : decode b_M_copy 25 = .ok (.imul, 1) := by decide +kernel
theorem d_M_copy_26 : decode b_M_copy 26 = .ok (.iload_n 3, 1) := by decide +kernel
theorem d_M_copy_27 : decode b_M_copy 27 = .ok (.iadd, 1) := by decide +kernel
theorem d_M_copy_28 : decode b_M_copy 28 = .ok (.baload, 1) := by decide +kernel
theorem d_M_copy_29 : decode b_M_copy 29 = .ok (.bastore, 1) := by decide +kernel
theorem d_M_copy_30 : decode b_M_copy 30 = .ok (.iinc 3 1, 3) := by decide +kernel
theorem d_M_copy_33 : decode b_M_copy 33 = .ok (.goto (-31), 3) := by decide +kernel
theorem d_M_copy_36 : decode b_M_copy 36 = .ok (.return_, 1) := by decide +kernel
theorem d_M_store_0 : decode b_M_store 0 = .ok (.aload_n 0, 1) := by decide +kernel
theorem d_M_store_1 : decode b_M_store 1 = .ok (.bipush 20, 2) := by decide +kernel
theorem d_M_store_3 : decode b_M_store 3 = .ok (.invokevirtual 31, 3) := by decide +kernel
theorem d_M_store_6 : decode b_M_store 6 = .ok (.ifCond .ne 5, 3) := by decide +kernel
theorem d_M_store_9 : decode b_M_store 9 = .ok (.iconst (-1), 1) := by decide +kernel
theorem d_M_store_10 : decode b_M_store 10 = .ok (.ireturn, 1) := by decide +kernel
theorem d_M_store_11 : decode b_M_store 11 = .ok (.aload_n 0, 1) := by decide +kernel
theorem d_M_store_12 : decode b_M_store 12 = .ok (.getfield 24, 3) := by decide +kernel
theorem d_M_store_15 : decode b_M_store 15 = .ok (.istore_n 1, 1) := by decide +kernel
theorem d_M_store_16 : decode b_M_store 16 = .ok (.iload_n 1, 1) := by decide +kernel
theorem d_M_store_17 : decode b_M_store 17 = .ok (.bipush 20, 2) := by decide +kernel
theorem d_M_store_19 : decode b_M_store 19 = .ok (.if_icmp .lt 6, 3) := by decide +kernel
theorem d_M_store_22 : decode b_M_store 22 = .ok (.bipush (-2), 2) := by decide +kernel
theorem d_M_store_24 : decode b_M_store 24 = .ok (.ireturn, 1) := by decide +kernel
theorem d_M_store_25 : decode b_M_store 25 = .ok (.aload_n 0, 1) := by decide +kernel
theorem d_M_store_26 : decode b_M_store 26 = .ok (.bipush 20, 2) := by decide +kernel
theorem d_M_store_28 : decode b_M_store 28 = .ok (.iload_n 1, 1) := by decide +kernel
theorem d_M_store_29 : decode b_M_store 29 = .ok (.invokevirtual 38, 3) := by decide +kernel
theorem d_M_store_32 : decode b_M_store 32 = .ok (.aload_n 0, 1) := by decide +kernel
theorem d_M_store_33 : decode b_M_store 33 = .ok (.iload_n 1, 1) := by decide +kernel
theorem d_M_store_34 : decode b_M_store 34 = .ok (.iconst 1, 1) := by decide +kernel
theorem d_M_store_35 : decode b_M_store 35 = .ok (.iadd, 1) := by decide +kernel
theorem d_M_store_36 : decode b_M_store 36 = .ok (.putfield 24, 3) := by decide +kernel
theorem d_M_store_39 : decode b_M_store 39 = .ok (.iload_n 1, 1) := by decide +kernel
theorem d_M_store_40 : decode b_M_store 40 = .ok (.ireturn, 1) := by decide +kernel
theorem d_M_remove_0 : decode b_M_remove 0 = .ok (.aload_n 0, 1) := by decide +kernel
theorem d_M_remove_1 : decode b_M_remove 1 = .ok (.iload_n 1, 1) := by decide +kernel
theorem d_M_remove_2 : decode b_M_remove 2 = .ok (.invokevirtual 35, 3) := by decide +kernel
theorem d_M_remove_5 : decode b_M_remove 5 = .ok (.ifCond .eq 5, 3) := by decide +kernel
theorem d_M_remove_8 : decode b_M_remove 8 = .ok (.iconst (-1), 1) := by decide +kernel
theorem d_M_remove_9 : decode b_M_remove 9 = .ok (.ireturn, 1) := by decide +kernel
theorem d_M_remove_10 : decode b_M_remove 10 = .ok (.iload_n 1, 1) := by decide +kernel
theorem d_M_remove_11 : decode b_M_remove 11 = .ok (.istore_n 2, 1) := by decide +kernel
theorem d_M_remove_12 : decode b_M_remove 12 = .ok (.iload_n 2, 1) := by decide +kernel
theorem d_M_remove_13 : decode b_M_remove 13 = .ok (.aload_n 0, 1) := by decide +kernel
theorem d_M_remove_14 : decode b_M_remove 14 = .ok (.getfield 24, 3) := by decide +kernel
theorem d_M_remove_17 : decode b_M_remove 17 = .ok (.iconst 1, 1) := by decide +kernel
theorem d_M_remove_18 : decode b_M_remove 18 = .ok (.isub, 1) := by decide +kernel
theorem d_M_remove_19 : decode b_M_remove 19 = .ok (.if_icmp .ge 23, 3) := by decide +kernel
theorem d_M_remove_22 : decode b_M_remove 22 = .ok (.iload_n 2, 1) := by decide +kernel
theorem d_M_remove_23 : decode b_M_remove 23 = .ok (.bipush 19, 2) := by decide +kernel
theorem d_M_remove_25 : decode b_M_remove 25 = .ok (.if_icmp .ge 17, 3) := by decide +kernel
theorem d_M_remove_28 : decode b_M_remove 28 = .ok (.aload_n 0, 1) := by decide +kernel
theorem d_M_remove_29 : decode b_M_remove 29 = .ok (.iload_n 2, 1) := by decide +kernel
theorem d_M_remove_30 : decode b_M_remove 30 = .ok (.iconst 1, 1) := by decide +kernel
theorem d_M_remove_31 : decode b_M_remove 31 = .ok (.iadd, 1) := by decide +kernel
theorem d_M_remove_32 : decode b_M_remove 32 = .ok (.iload_n 2, 1) := by decide +kernel
theorem d_M_remove_33 : decode b_M_remove 33 = .ok (.invokevirtual 38, 3) := by decide +kernel
theorem d_M_remove_36 : decode b_M_remove 36 = .ok (.iinc 2 1, 3) := by decide +kernel
theorem d_M_remove_39 : decode b_M_remove 39 = .ok (.goto (-27), 3) := by decide +kernel
theorem d_M_remove_42 : decode b_M_remove 42 = .ok (.aload_n 0, 1) := by decide +kernel
theorem d_M_remove_43 : decode b_M_remove 43 = .ok (.dup, 1) := by decide +kernel
theorem d_M_remove_44 : decode b_M_remove 44 = .ok (.getfield 24, 3) := by decide +kernel
theorem d_M_remove_47 : decode b_M_remove 47 = .ok (.iconst 1, 1) := by decide +kernel
theorem d_M_remove_48 : decode b_M_remove 48 = .ok (.isub, 1) := by decide +kernel
theorem d_M_remove_49 : decode b_M_remove 49 = .ok (.putfield 24, 3) := by decide +kernel
theorem d_M_remove_52 : decode b_M_remove 52 = .ok (.aload_n 0, 1) := by decide +kernel
theorem d_M_remove_53 : decode b_M_remove 53 = .ok (.getfield 24, 3) := by decide +kernel
theorem d_M_remove_56 : decode b_M_remove 56 = .ok (.ireturn, 1) := by decide +kernel
theorem d_M_threshold_0 : decode b_M_threshold 0 = .ok (.iload_n 1, 1) := by decide +kernel
theorem d_M_threshold_1 : decode b_M_threshold 1 = .ok (.iconst 1, 1) := by decide +kernel
theorem d_M_threshold_2 : decode b_M_threshold 2 = .ok (.if_icmp .lt 20, 3) := by decide +kernel
theorem d_M_threshold_5 : decode b_M_threshold 5 = .ok (.iload_n 1, 1) := by decide +kernel
theorem d_M_threshold_6 : decode b_M_threshold 6 = .ok (.bipush 12, 2) := by decide +kernel
theorem d_M_threshold_8 : decode b_M_threshold 8 = .ok (.if_icmp .gt 14, 3) := by decide +kernel
theorem d_M_threshold_11 : decode b_M_threshold 11 = .ok (.iload_n 2, 1) := by decide +kernel
theorem d_M_threshold_12 : decode b_M_threshold 12 = .ok (.iconst 1, 1) := by decide +kernel
theorem d_M_threshold_13 : decode b_M_threshold 13 = .ok (.if_icmp .lt 9, 3) := by decide +kernel
theorem d_M_threshold_16 : decode b_M_threshold 16 = .ok (.iload_n 2, 1) := by decide +kernel
theorem d_M_threshold_17 : decode b_M_threshold 17 = .ok (.bipush 12, 2) := by decide +kernel
theorem d_M_threshold_19 : decode b_M_threshold 19 = .ok (.if_icmp .le 5, 3) := by decide +kernel
theorem d_M_threshold_22 : decode b_M_threshold 22 = .ok (.iconst (-1), 1) := by decide +kernel
theorem d_M_threshold_23 : decode b_M_threshold 23 = .ok (.ireturn, 1) := by decide +kernel
theorem d_M_threshold_24 : decode b_M_threshold 24 = .ok (.iload_n 1, 1) := by decide +kernel
theorem d_M_threshold_25 : decode b_M_threshold 25 = .ok (.iload_n 2, 1) := by decide +kernel
theorem d_M_threshold_26 : decode b_M_threshold 26 = .ok (.if_icmp .le 6, 3) := by decide +kernel
theorem d_M_threshold_29 : decode b_M_threshold 29 = .ok (.bipush (-2), 2) := by decide +kernel
theorem d_M_threshold_31 : decode b_M_threshold 31 = .ok (.ireturn, 1) := by decide +kernel
theorem d_M_threshold_32 : decode b_M_threshold 32 = .ok (.aload_n 0, 1) := by decide +kernel
theorem d_M_threshold_33 : decode b_M_threshold 33 = .ok (.iload_n 1, 1) := by decide +kernel
theorem d_M_threshold_34 : decode b_M_threshold 34 = .ok (.putfield 13, 3) := by decide +kernel
theorem d_M_threshold_37 : decode b_M_threshold 37 = .ok (.aload_n 0, 1) := by decide +kernel
theorem d_M_threshold_38 : decode b_M_threshold 38 = .ok (.iload_n 2, 1) := by decide +kernel
theorem d_M_threshold_39 : decode b_M_threshold 39 = .ok (.putfield 17, 3) := by decide +kernel
theorem d_M_threshold_42 : decode b_M_threshold 42 = .ok (.iconst 0, 1) := by decide +kernel
theorem d_M_threshold_43 : decode b_M_threshold 43 = .ok (.ireturn, 1) := by decide +kernel
theorem d_M_records_0 : decode b_M_records 0 = .ok (.aload_n 0, 1) := by decide +kernel
theorem d_M_records_1 : decode b_M_records 1 = .ok (.getfield 24, 3) := by decide +kernel
theorem d_M_records_4 : decode b_M_records 4 = .ok (.ireturn, 1) := by decide +kernel
theorem d_M_size_0 : decode b_M_size 0 = .ok (.aload_n 0, 1) := by decide +kernel
theorem d_M_size_1 : decode b_M_size 1 = .ok (.iload_n 1, 1) := by decide +kernel
theorem d_M_size_2 : decode b_M_size 2 = .ok (.invokevirtual 35, 3) := by decide +kernel
theorem d_M_size_5 : decode b_M_size 5 = .ok (.ifCond .eq 7, 3) := by decide +kernel
theorem d_M_size_8 : decode b_M_size 8 = .ok (.iconst (-1), 1) := by decide +kernel
theorem d_M_size_9 : decode b_M_size 9 = .ok (.goto 8, 3) := by decide +kernel
theorem d_M_size_12 : decode b_M_size 12 = .ok (.aload_n 0, 1) := by decide +kernel
theorem d_M_size_13 : decode b_M_size 13 = .ok (.iload_n 1, 1) := by decide +kernel
theorem d_M_size_14 : decode b_M_size 14 = .ok (.invokevirtual 31, 3) := by decide +kernel
theorem d_M_size_17 : decode b_M_size 17 = .ok (.ireturn, 1) := by decide +kernel
theorem d_M_has_0 : decode b_M_has 0 = .ok (.aload_n 0, 1) := by decide +kernel
theorem d_M_has_1 : decode b_M_has 1 = .ok (.iload_n 1, 1) := by decide +kernel
theorem d_M_has_2 : decode b_M_has 2 = .ok (.invokevirtual 35, 3) := by decide +kernel
theorem d_M_has_5 : decode b_M_has 5 = .ok (.ifCond .eq 5, 3) := by decide +kernel
theorem d_M_has_8 : decode b_M_has 8 = .ok (.iconst (-1), 1) := by decide +kernel
theorem d_M_has_9 : decode b_M_has 9 = .ok (.ireturn, 1) := by decide +kernel
theorem d_M_has_10 : decode b_M_has 10 = .ok (.aload_n 0, 1) := by decide +kernel
theorem d_M_has_11 : decode b_M_has 11 = .ok (.iload_n 2, 1) := by decide +kernel
theorem d_M_has_12 : decode b_M_has 12 = .ok (.invokevirtual 27, 3) := by decide +kernel
theorem d_M_has_15 : decode b_M_has 15 = .ok (.ifCond .eq 6, 3) := by decide +kernel
theorem d_M_has_18 : decode b_M_has 18 = .ok (.bipush (-2), 2) := by decide +kernel
theorem d_M_has_20 : decode b_M_has 20 = .ok (.ireturn, 1) := by decide +kernel
theorem d_M_has_21 : decode b_M_has 21 = .ok (.aload_n 0, 1) := by decide +kernel
theorem d_M_has_22 : decode b_M_has 22 = .ok (.getfield 7, 3) := by decide +kernel
theorem d_M_has_25 : decode b_M_has 25 = .ok (.bipush 30, 2) := by decide +kernel
theorem d_M_has_27 : decode b_M_has 27 = .ok (.iload_n 1, 1) := by decide +kernel
theorem d_M_has_28 : decode b_M_has 28 = .ok (.imul, 1) := by decide +kernel
theorem d_M_has_29 : decode b_M_has 29 = .ok (.iload_n 2, 1) := by decide +kernel
theorem d_M_has_30 : decode b_M_has 30 = .ok (.iadd, 1) := by decide +kernel
theorem d_M_has_31 : decode b_M_has 31 = .ok (.baload, 1) := by decide +kernel
theorem d_M_has_32 : decode b_M_has 32 = .ok (.ifCond .eq 7, 3) := by decide +kernel
theorem d_M_has_35 : decode b_M_has 35 = .ok (.iconst 1, 1) := by decide +kernel
theorem d_M_has_36 : decode b_M_has 36 = .ok (.goto 4, 3) := by decide +kernel
theorem d_M_has_39 : decode b_M_has 39 = .ok (.iconst 0, 1) := by decide +kernel
theorem d_M_has_40 : decode b_M_has 40 = .ok (.ireturn, 1) := by decide +kernel
theorem d_M_frequency_0 : decode b_M_frequency 0 = .ok (.aload_n 0, 1) := by decide +kernel
theorem d_M_frequency_1 : decode b_M_frequency 1 = .ok (.iload_n 1, 1) := by decide +kernel
theorem d_M_frequency_2 : decode b_M_frequency 2 = .ok (.invokevirtual 27, 3) := by decide +kernel
theorem d_M_frequency_5 : decode b_M_frequency 5 = .ok (.ifCond .eq 5, 3) := by decide +kernel
theorem d_M_frequency_8 : decode b_M_frequency 8 = .ok (.iconst (-1), 1) := by decide +kernel
theorem d_M_frequency_9 : decode b_M_frequency 9 = .ok (.ireturn, 1) := by decide +kernel
theorem d_M_frequency_10 : decode b_M_frequency 10 = .ok (.iconst 0, 1) := by decide +kernel
theorem d_M_frequency_11 : decode b_M_frequency 11 = .ok (.istore_n 2, 1) := by decide +kernel
theorem d_M_frequency_12 : decode b_M_frequency 12 = .ok (.iconst 0, 1) := by decide +kernel
theorem d_M_frequency_13 : decode b_M_frequency 13 = .ok (.istore_n 3, 1) := by decide +kernel
theorem d_M_frequency_14 : decode b_M_frequency 14 = .ok (.iload_n 3, 1) := by decide +kernel
theorem d_M_frequency_15 : decode b_M_frequency 15 = .ok (.aload_n 0, 1) := by decide +kernel
theorem d_M_frequency_16 : decode b_M_frequency 16 = .ok (.getfield 24, 3) := by decide +kernel
theorem d_M_frequency_19 : decode b_M_frequency 19 = .ok (.if_icmp .ge 32, 3) := by decide +kernel
theorem d_M_frequency_22 : decode b_M_frequency 22 = .ok (.iload_n 3, 1) := by decide +kernel
theorem d_M_frequency_23 : decode b_M_frequency 23 = .ok (.bipush 20, 2) := by decide +kernel
theorem d_M_frequency_25 : decode b_M_frequency 25 = .ok (.if_icmp .ge 26, 3) := by decide +kernel
theorem d_M_frequency_28 : decode b_M_frequency 28 = .ok (.aload_n 0, 1) := by decide +kernel
theorem d_M_frequency_29 : decode b_M_frequency 29 = .ok (.getfield 7, 3) := by decide +kernel
theorem d_M_frequency_32 : decode b_M_frequency 32 = .ok (.bipush 30, 2) := by decide +kernel
theorem d_M_frequency_34 : decode b_M_frequency 34 = .ok (.iload_n 3, 1) := by decide +kernel
theorem d_M_frequency_35 : decode b_M_frequency 35 = .ok (.imul, 1) := by decide +kernel
theorem d_M_frequency_36 : decode b_M_frequency 36 = .ok (.iload_n 1, 1) := by decide +kernel
theorem d_M_frequency_37 : decode b_M_frequency 37 = .ok (.iadd, 1) := by decide +kernel
theorem d_M_frequency_38 : decode b_M_frequency 38 = .ok (.baload, 1) := by decide +kernel
theorem d_M_frequency_39 : decode b_M_frequency 39 = .ok (.ifCond .eq 6, 3) := by decide +kernel
theorem d_M_frequency_42 : decode b_M_frequency 42 = .ok (.iinc 2 1, 3) := by decide +kernel
theorem d_M_frequency_45 : decode b_M_frequency 45 = .ok (.iinc 3 1, 3) := by decide +kernel
theorem d_M_frequency_48 : decode b_M_frequency 48 = .ok (.goto (-34), 3) := by decide +kernel
theorem d_M_frequency_51 : decode b_M_frequency 51 = .ok (.iload_n 2, 1) := by decide +kernel
theorem d_M_frequency_52 : decode b_M_frequency 52 = .ok (.ireturn, 1) := by decide +kernel
theorem d_M_common_0 : decode b_M_common 0 = .ok (.aload_n 0, 1) := by decide +kernel
theorem d_M_common_1 : decode b_M_common 1 = .ok (.iload_n 1, 1) := by decide +kernel
theorem d_M_common_2 : decode b_M_common 2 = .ok (.invokevirtual 35, 3) := by decide +kernel
theorem d_M_common_5 : decode b_M_common 5 = .ok (.ifCond .ne 11, 3) := by decide +kernel
theorem d_M_common_8 : decode b_M_common 8 = .ok (.aload_n 0, 1) := by decide +kernel
theorem d_M_common_9 : decode b_M_common 9 = .ok (.iload_n 2, 1) := by decide +kernel
theorem d_M_common_10 : decode b_M_common 10 = .ok (.invokevirtual 35, 3) := by decide +kernel
theorem d_M_common_13 : decode b_M_common 13 = .ok (.ifCond .eq 7, 3) := by decide +kernel
theorem d_M_common_16 : decode b_M_common 16 = .ok (.iconst (-1), 1) := by decide +kernel
theorem d_M_common_17 : decode b_M_common 17 = .ok (.goto 9, 3) := by decide +kernel
theorem d_M_common_20 : decode b_M_common 20 = .ok (.aload_n 0, 1) := by decide +kernel
theorem d_M_common_21 : decode b_M_common 21 = .ok (.iload_n 1, 1) := by decide +kernel
theorem d_M_common_22 : decode b_M_common 22 = .ok (.iload_n 2, 1) := by decide +kernel
theorem d_M_common_23 : decode b_M_common 23 = .ok (.invokevirtual 42, 3) := by decide +kernel
theorem d_M_common_26 : decode b_M_common 26 = .ok (.ireturn, 1) := by decide +kernel
theorem d_M_both_0 : decode b_M_both 0 = .ok (.iconst 0, 1) := by decide +kernel
theorem d_M_both_1 : decode b_M_both 1 = .ok (.istore_n 3, 1) := by decide +kernel
theorem d_M_both_2 : decode b_M_both 2 = .ok (.iconst 0, 1) := by decide +kernel
theorem d_M_both_3 : decode b_M_both 3 = .ok (.istore 4, 2) := by decide +kernel
theorem d_M_both_5 : decode b_M_both 5 = .ok (.iload 4, 2) := by decide +kernel
theorem d_M_both_7 : decode b_M_both 7 = .ok (.bipush 30, 2) := by decide +kernel
theorem d_M_both_9 : decode b_M_both 9 = .ok (.if_icmp .ge 42, 3) := by decide +kernel
theorem d_M_both_12 : decode b_M_both 12 = .ok (.aload_n 0, 1) := by decide +kernel
theorem d_M_both_13 : decode b_M_both 13 = .ok (.getfield 7, 3) := by decide +kernel
theorem d_M_both_16 : decode b_M_both 16 = .ok (.bipush 30, 2) := by decide +kernel
theorem d_M_both_18 : decode b_M_both 18 = .ok (.iload_n 1, 1) := by decide +kernel
theorem d_M_both_19 : decode b_M_both 19 = .ok (.imul, 1) := by decide +kernel
theorem d_M_both_20 : decode b_M_both 20 = .ok (.iload 4, 2) := by decide +kernel
theorem d_M_both_22 : decode b_M_both 22 = .ok (.iadd, 1) := by decide +kernel
theorem d_M_both_23 : decode b_M_both 23 = .ok (.baload, 1) := by decide +kernel
theorem d_M_both_24 : decode b_M_both 24 = .ok (.ifCond .eq 21, 3) := by decide +kernel
theorem d_M_both_27 : decode b_M_both 27 = .ok (.aload_n 0, 1) := by decide +kernel
theorem d_M_both_28 : decode b_M_both 28 = .ok (.getfield 7, 3) := by decide +kernel
theorem d_M_both_31 : decode b_M_both 31 = .ok (.bipush 30, 2) := by decide +kernel
theorem d_M_both_33 : decode b_M_both 33 = .ok (.iload_n 2, 1) := by decide +kernel
theorem d_M_both_34 : decode b_M_both 34 = .ok (.imul, 1) := by decide +kernel
theorem d_M_both_35 : decode b_M_both 35 = .ok (.iload 4, 2) := by decide +kernel
theorem d_M_both_37 : decode b_M_both 37 = .ok (.iadd, 1) := by decide +kernel
theorem d_M_both_38 : decode b_M_both 38 = .ok (.baload, 1) := by decide +kernel
theorem d_M_both_39 : decode b_M_both 39 = .ok (.ifCond .eq 6, 3) := by decide +kernel
theorem d_M_both_42 : decode b_M_both 42 = .ok (.iinc 3 1, 3) := by decide +kernel
theorem d_M_both_45 : decode b_M_both 45 = .ok (.iinc 4 1, 3) := by decide +kernel
theorem d_M_both_48 : decode b_M_both 48 = .ok (.goto (-43), 3) := by decide +kernel
theorem d_M_both_51 : decode b_M_both 51 = .ok (.iload_n 3, 1) := by decide +kernel
theorem d_M_both_52 : decode b_M_both 52 = .ok (.ireturn, 1) := by decide +kernel
theorem d_M_similar_0 : decode b_M_similar 0 = .ok (.aload_n 0, 1) := by decide +kernel
theorem d_M_similar_1 : decode b_M_similar 1 = .ok (.iload_n 1, 1) := by decide +kernel
theorem d_M_similar_2 : decode b_M_similar 2 = .ok (.invokevirtual 35, 3) := by decide +kernel
theorem d_M_similar_5 : decode b_M_similar 5 = .ok (.ifCond .ne 11, 3) := by decide +kernel
theorem d_M_similar_8 : decode b_M_similar 8 = .ok (.aload_n 0, 1) := by decide +kernel
theorem d_M_similar_9 : decode b_M_similar 9 = .ok (.iload_n 2, 1) := by decide +kernel
theorem d_M_similar_10 : decode b_M_similar 10 = .ok (.invokevirtual 35, 3) := by decide +kernel
theorem d_M_similar_13 : decode b_M_similar 13 = .ok (.ifCond .eq 5, 3) := by decide +kernel
theorem d_M_similar_16 : decode b_M_similar 16 = .ok (.iconst (-1), 1) := by decide +kernel
theorem d_M_similar_17 : decode b_M_similar 17 = .ok (.ireturn, 1) := by decide +kernel
theorem d_M_similar_18 : decode b_M_similar 18 = .ok (.aload_n 0, 1) := by decide +kernel
theorem d_M_similar_19 : decode b_M_similar 19 = .ok (.iload_n 1, 1) := by decide +kernel
theorem d_M_similar_20 : decode b_M_similar 20 = .ok (.iload_n 2, 1) := by decide +kernel
theorem d_M_similar_21 : decode b_M_similar 21 = .ok (.invokevirtual 49, 3) := by decide +kernel
theorem d_M_similar_24 : decode b_M_similar 24 = .ok (.ifCond .eq 7, 3) := by decide +kernel
theorem d_M_similar_27 : decode b_M_similar 27 = .ok (.iconst 1, 1) := by decide +kernel
theorem d_M_similar_28 : decode b_M_similar 28 = .ok (.goto 4, 3) := by decide +kernel
theorem d_M_similar_31 : decode b_M_similar 31 = .ok (.iconst 0, 1) := by decide +kernel
theorem d_M_similar_32 : decode b_M_similar 32 = .ok (.ireturn, 1) := by decide +kernel
theorem d_M_alike_0 : decode b_M_alike 0 = .ok (.aload_n 0, 1) := by decide +kernel
theorem d_M_alike_1 : decode b_M_alike 1 = .ok (.iload_n 1, 1) := by decide +kernel
theorem d_M_alike_2 : decode b_M_alike 2 = .ok (.iload_n 2, 1) := by decide +kernel
theorem d_M_alike_3 : decode b_M_alike 3 = .ok (.invokevirtual 42, 3) := by decide +kernel
theorem d_M_alike_6 : decode b_M_alike 6 = .ok (.istore_n 3, 1) := by decide +kernel
theorem d_M_alike_7 : decode b_M_alike 7 = .ok (.aload_n 0, 1) := by decide +kernel
theorem d_M_alike_8 : decode b_M_alike 8 = .ok (.iload_n 1, 1) := by decide +kernel
theorem d_M_alike_9 : decode b_M_alike 9 = .ok (.iload_n 2, 1) := by decide +kernel
theorem d_M_alike_10 : decode b_M_alike 10 = .ok (.invokevirtual 46, 3) := by decide +kernel
theorem d_M_alike_13 : decode b_M_alike 13 = .ok (.istore 4, 2) := by decide +kernel
theorem d_M_alike_15 : decode b_M_alike 15 = .ok (.aload_n 0, 1) := by decide +kernel
theorem d_M_alike_16 : decode b_M_alike 16 = .ok (.getfield 17, 3) := by decide +kernel
theorem d_M_alike_19 : decode b_M_alike 19 = .ok (.iload_n 3, 1) := by decide +kernel
theorem d_M_alike_20 : decode b_M_alike 20 = .ok (.imul, 1) := by decide +kernel
theorem d_M_alike_21 : decode b_M_alike 21 = .ok (.aload_n 0, 1) := by decide +kernel
theorem d_M_alike_22 : decode b_M_alike 22 = .ok (.getfield 13, 3) := by decide +kernel
theorem d_M_alike_25 : decode b_M_alike 25 = .ok (.iload 4, 2) := by decide +kernel
theorem d_M_alike_27 : decode b_M_alike 27 = .ok (.imul, 1) := by decide +kernel
theorem d_M_alike_28 : decode b_M_alike 28 = .ok (.if_icmp .lt 7, 3) := by decide +kernel
theorem d_M_alike_31 : decode b_M_alike 31 = .ok (.iconst 1, 1) := by decide +kernel
theorem d_M_alike_32 : decode b_M_alike 32 = .ok (.goto 4, 3) := by decide +kernel
theorem d_M_alike_35 : decode b_M_alike 35 = .ok (.iconst 0, 1) := by decide +kernel
theorem d_M_alike_36 : decode b_M_alike 36 = .ok (.ireturn, 1) := by decide +kernel
theorem d_M_either_0 : decode b_M_either 0 = .ok (.iconst 0, 1) := by decide +kernel
theorem d_M_either_1 : decode b_M_either 1 = .ok (.istore_n 3, 1) := by decide +kernel
theorem d_M_either_2 : decode b_M_either 2 = .ok (.iconst 0, 1) := by decide +kernel
theorem d_M_either_3 : decode b_M_either 3 = .ok (.istore 4, 2) := by decide +kernel
theorem d_M_either_5 : decode b_M_either 5 = .ok (.iload 4, 2) := by decide +kernel
theorem d_M_either_7 : decode b_M_either 7 = .ok (.bipush 30, 2) := by decide +kernel
theorem d_M_either_9 : decode b_M_either 9 = .ok (.if_icmp .ge 42, 3) := by decide +kernel
theorem d_M_either_12 : decode b_M_either 12 = .ok (.aload_n 0, 1) := by decide +kernel
theorem d_M_either_13 : decode b_M_either 13 = .ok (.getfield 7, 3) := by decide +kernel
theorem d_M_either_16 : decode b_M_either 16 = .ok (.bipush 30, 2) := by decide +kernel
theorem d_M_either_18 : decode b_M_either 18 = .ok (.iload_n 1, 1) := by decide +kernel
theorem d_M_either_19 : decode b_M_either 19 = .ok (.imul, 1) := by decide +kernel
theorem d_M_either_20 : decode b_M_either 20 = .ok (.iload 4, 2) := by decide +kernel
theorem d_M_either_22 : decode b_M_either 22 = .ok (.iadd, 1) := by decide +kernel
theorem d_M_either_23 : decode b_M_either 23 = .ok (.baload, 1) := by decide +kernel
theorem d_M_either_24 : decode b_M_either 24 = .ok (.ifCond .ne 18, 3) := by decide +kernel
theorem d_M_either_27 : decode b_M_either 27 = .ok (.aload_n 0, 1) := by decide +kernel
theorem d_M_either_28 : decode b_M_either 28 = .ok (.getfield 7, 3) := by decide +kernel
theorem d_M_either_31 : decode b_M_either 31 = .ok (.bipush 30, 2) := by decide +kernel
theorem d_M_either_33 : decode b_M_either 33 = .ok (.iload_n 2, 1) := by decide +kernel
theorem d_M_either_34 : decode b_M_either 34 = .ok (.imul, 1) := by decide +kernel
theorem d_M_either_35 : decode b_M_either 35 = .ok (.iload 4, 2) := by decide +kernel
theorem d_M_either_37 : decode b_M_either 37 = .ok (.iadd, 1) := by decide +kernel
theorem d_M_either_38 : decode b_M_either 38 = .ok (.baload, 1) := by decide +kernel
theorem d_M_either_39 : decode b_M_either 39 = .ok (.ifCond .eq 6, 3) := by decide +kernel
theorem d_M_either_42 : decode b_M_either 42 = .ok (.iinc 3 1, 3) := by decide +kernel
theorem d_M_either_45 : decode b_M_either 45 = .ok (.iinc 4 1, 3) := by decide +kernel
theorem d_M_either_48 : decode b_M_either 48 = .ok (.goto (-43), 3) := by decide +kernel
theorem d_M_either_51 : decode b_M_either 51 = .ok (.iload_n 3, 1) := by decide +kernel
theorem d_M_either_52 : decode b_M_either 52 = .ok (.ireturn, 1) := by decide +kernel
theorem d_M_pairs_0 : decode b_M_pairs 0 = .ok (.iconst 0, 1) := by decide +kernel
theorem d_M_pairs_1 : decode b_M_pairs 1 = .ok (.istore_n 1, 1) := by decide +kernel
theorem d_M_pairs_2 : decode b_M_pairs 2 = .ok (.iconst 0, 1) := by decide +kernel
theorem d_M_pairs_3 : decode b_M_pairs 3 = .ok (.istore_n 2, 1) := by decide +kernel
theorem d_M_pairs_4 : decode b_M_pairs 4 = .ok (.iload_n 2, 1) := by decide +kernel
theorem d_M_pairs_5 : decode b_M_pairs 5 = .ok (.aload_n 0, 1) := by decide +kernel
theorem d_M_pairs_6 : decode b_M_pairs 6 = .ok (.getfield 24, 3) := by decide +kernel
theorem d_M_pairs_9 : decode b_M_pairs 9 = .ok (.if_icmp .ge 51, 3) := by decide +kernel
theorem d_M_pairs_12 : decode b_M_pairs 12 = .ok (.iload_n 2, 1) := by decide +kernel
theorem d_M_pairs_13 : decode b_M_pairs 13 = .ok (.bipush 20, 2) := by decide +kernel
theorem d_M_pairs_15 : decode b_M_pairs 15 = .ok (.if_icmp .ge 45, 3) := by decide +kernel
theorem d_M_pairs_18 : decode b_M_pairs 18 = .ok (.iload_n 2, 1) := by decide +kernel
theorem d_M_pairs_19 : decode b_M_pairs 19 = .ok (.iconst 1, 1) := by decide +kernel
theorem d_M_pairs_20 : decode b_M_pairs 20 = .ok (.iadd, 1) := by decide +kernel
theorem d_M_pairs_21 : decode b_M_pairs 21 = .ok (.istore_n 3, 1) := by decide +kernel
theorem d_M_pairs_22 : decode b_M_pairs 22 = .ok (.iload_n 3, 1) := by decide +kernel
theorem d_M_pairs_23 : decode b_M_pairs 23 = .ok (.aload_n 0, 1) := by decide +kernel
theorem d_M_pairs_24 : decode b_M_pairs 24 = .ok (.getfield 24, 3) := by decide +kernel
theorem d_M_pairs_27 : decode b_M_pairs 27 = .ok (.if_icmp .ge 27, 3) := by decide +kernel
theorem d_M_pairs_30 : decode b_M_pairs 30 = .ok (.iload_n 3, 1) := by decide +kernel
theorem d_M_pairs_31 : decode b_M_pairs 31 = .ok (.bipush 20, 2) := by decide +kernel
theorem d_M_pairs_33 : decode b_M_pairs 33 = .ok (.if_icmp .ge 21, 3) := by decide +kernel
theorem d_M_pairs_36 : decode b_M_pairs 36 = .ok (.aload_n 0, 1) := by decide +kernel
theorem d_M_pairs_37 : decode b_M_pairs 37 = .ok (.iload_n 2, 1) := by decide +kernel
theorem d_M_pairs_38 : decode b_M_pairs 38 = .ok (.iload_n 3, 1) := by decide +kernel
theorem d_M_pairs_39 : decode b_M_pairs 39 = .ok (.invokevirtual 49, 3) := by decide +kernel
theorem d_M_pairs_42 : decode b_M_pairs 42 = .ok (.ifCond .eq 6, 3) := by decide +kernel
theorem d_M_pairs_45 : decode b_M_pairs 45 = .ok (.iinc 1 1, 3) := by decide +kernel
theorem d_M_pairs_48 : decode b_M_pairs 48 = .ok (.iinc 3 1, 3) := by decide +kernel
theorem d_M_pairs_51 : decode b_M_pairs 51 = .ok (.goto (-29), 3) := by decide +kernel
theorem d_M_pairs_54 : decode b_M_pairs 54 = .ok (.iinc 2 1, 3) := by decide +kernel
theorem d_M_pairs_57 : decode b_M_pairs 57 = .ok (.goto (-53), 3) := by decide +kernel
theorem d_M_pairs_60 : decode b_M_pairs 60 = .ok (.iload_n 1, 1) := by decide +kernel
theorem d_M_pairs_61 : decode b_M_pairs 61 = .ok (.ireturn, 1) := by decide +kernel
theorem d_M_degree_0 : decode b_M_degree 0 = .ok (.aload_n 0, 1) := by decide +kernel
theorem d_M_degree_1 : decode b_M_degree 1 = .ok (.iload_n 1, 1) := by decide +kernel
theorem d_M_degree_2 : decode b_M_degree 2 = .ok (.invokevirtual 35, 3) := by decide +kernel
theorem d_M_degree_5 : decode b_M_degree 5 = .ok (.ifCond .eq 5, 3) := by decide +kernel
theorem d_M_degree_8 : decode b_M_degree 8 = .ok (.iconst (-1), 1) := by decide +kernel
theorem d_M_degree_9 : decode b_M_degree 9 = .ok (.ireturn, 1) := by decide +kernel
theorem d_M_degree_10 : decode b_M_degree 10 = .ok (.iconst 0, 1) := by decide +kernel
theorem d_M_degree_11 : decode b_M_degree 11 = .ok (.istore_n 2, 1) := by decide +kernel
theorem d_M_degree_12 : decode b_M_degree 12 = .ok (.iconst 0, 1) := by decide +kernel
theorem d_M_degree_13 : decode b_M_degree 13 = .ok (.istore_n 3, 1) := by decide +kernel
theorem d_M_degree_14 : decode b_M_degree 14 = .ok (.iload_n 3, 1) := by decide +kernel
theorem d_M_degree_15 : decode b_M_degree 15 = .ok (.aload_n 0, 1) := by decide +kernel
theorem d_M_degree_16 : decode b_M_degree 16 = .ok (.getfield 24, 3) := by decide +kernel
theorem d_M_degree_19 : decode b_M_degree 19 = .ok (.if_icmp .ge 32, 3) := by decide +kernel
theorem d_M_degree_22 : decode b_M_degree 22 = .ok (.iload_n 3, 1) := by decide +kernel
theorem d_M_degree_23 : decode b_M_degree 23 = .ok (.bipush 20, 2) := by decide +kernel
theorem d_M_degree_25 : decode b_M_degree 25 = .ok (.if_icmp .ge 26, 3) := by decide +kernel
theorem d_M_degree_28 : decode b_M_degree 28 = .ok (.iload_n 3, 1) := by decide +kernel
theorem d_M_degree_29 : decode b_M_degree 29 = .ok (.iload_n 1, 1) := by decide +kernel
theorem d_M_degree_30 : decode b_M_degree 30 = .ok (.if_icmp .eq 15, 3) := by decide +kernel
theorem d_M_degree_33 : decode b_M_degree 33 = .ok (.aload_n 0, 1) := by decide +kernel
theorem d_M_degree_34 : decode b_M_degree 34 = .ok (.iload_n 3, 1) := by decide +kernel
theorem d_M_degree_35 : decode b_M_degree 35 = .ok (.iload_n 1, 1) := by decide +kernel
theorem d_M_degree_36 : decode b_M_degree 36 = .ok (.invokevirtual 49, 3) := by decide +kernel
theorem d_M_degree_39 : decode b_M_degree 39 = .ok (.ifCond .eq 6, 3) := by decide +kernel
theorem d_M_degree_42 : decode b_M_degree 42 = .ok (.iinc 2 1, 3) := by decide +kernel
theorem d_M_degree_45 : decode b_M_degree 45 = .ok (.iinc 3 1, 3) := by decide +kernel
theorem d_M_degree_48 : decode b_M_degree 48 = .ok (.goto (-34), 3) := by decide +kernel
theorem d_M_degree_51 : decode b_M_degree 51 = .ok (.iload_n 2, 1) := by decide +kernel
theorem d_M_degree_52 : decode b_M_degree 52 = .ok (.ireturn, 1) := by decide +kernel
theorem d_M_partner_0 : decode b_M_partner 0 = .ok (.aload_n 0, 1) := by decide +kernel
theorem d_M_partner_1 : decode b_M_partner 1 = .ok (.iload_n 1, 1) := by decide +kernel
theorem d_M_partner_2 : decode b_M_partner 2 = .ok (.invokevirtual 35, 3) := by decide +kernel
theorem d_M_partner_5 : decode b_M_partner 5 = .ok (.ifCond .eq 5, 3) := by decide +kernel
theorem d_M_partner_8 : decode b_M_partner 8 = .ok (.iconst (-1), 1) := by decide +kernel
theorem d_M_partner_9 : decode b_M_partner 9 = .ok (.ireturn, 1) := by decide +kernel
theorem d_M_partner_10 : decode b_M_partner 10 = .ok (.iconst 0, 1) := by decide +kernel
theorem d_M_partner_11 : decode b_M_partner 11 = .ok (.istore_n 3, 1) := by decide +kernel
theorem d_M_partner_12 : decode b_M_partner 12 = .ok (.iconst 0, 1) := by decide +kernel
theorem d_M_partner_13 : decode b_M_partner 13 = .ok (.istore 4, 2) := by decide +kernel
theorem d_M_partner_15 : decode b_M_partner 15 = .ok (.iload 4, 2) := by decide +kernel
theorem d_M_partner_17 : decode b_M_partner 17 = .ok (.aload_n 0, 1) := by decide +kernel
theorem d_M_partner_18 : decode b_M_partner 18 = .ok (.getfield 24, 3) := by decide +kernel
theorem d_M_partner_21 : decode b_M_partner 21 = .ok (.if_icmp .ge 43, 3) := by decide +kernel
theorem d_M_partner_24 : decode b_M_partner 24 = .ok (.iload 4, 2) := by decide +kernel
theorem d_M_partner_26 : decode b_M_partner 26 = .ok (.bipush 20, 2) := by decide +kernel
theorem d_M_partner_28 : decode b_M_partner 28 = .ok (.if_icmp .ge 36, 3) := by decide +kernel
theorem d_M_partner_31 : decode b_M_partner 31 = .ok (.iload 4, 2) := by decide +kernel
theorem d_M_partner_33 : decode b_M_partner 33 = .ok (.iload_n 1, 1) := by decide +kernel
theorem d_M_partner_34 : decode b_M_partner 34 = .ok (.if_icmp .eq 24, 3) := by decide +kernel
theorem d_M_partner_37 : decode b_M_partner 37 = .ok (.aload_n 0, 1) := by decide +kernel
theorem d_M_partner_38 : decode b_M_partner 38 = .ok (.iload 4, 2) := by decide +kernel
theorem d_M_partner_40 : decode b_M_partner 40 = .ok (.iload_n 1, 1) := by decide +kernel
theorem d_M_partner_41 : decode b_M_partner 41 = .ok (.invokevirtual 49, 3) := by decide +kernel
theorem d_M_partner_44 : decode b_M_partner 44 = .ok (.ifCond .eq 14, 3) := by decide +kernel
theorem d_M_partner_47 : decode b_M_partner 47 = .ok (.iload_n 3, 1) := by decide +kernel
theorem d_M_partner_48 : decode b_M_partner 48 = .ok (.iload_n 2, 1) := by decide +kernel
theorem d_M_partner_49 : decode b_M_partner 49 = .ok (.if_icmp .ne 6, 3) := by decide +kernel
theorem d_M_partner_52 : decode b_M_partner 52 = .ok (.iload 4, 2) := by decide +kernel
theorem d_M_partner_54 : decode b_M_partner 54 = .ok (.ireturn, 1) := by decide +kernel
theorem d_M_partner_55 : decode b_M_partner 55 = .ok (.iinc 3 1, 3) := by decide +kernel
theorem d_M_partner_58 : decode b_M_partner 58 = .ok (.iinc 4 1, 3) := by decide +kernel
theorem d_M_partner_61 : decode b_M_partner 61 = .ok (.goto (-46), 3) := by decide +kernel
theorem d_M_partner_64 : decode b_M_partner 64 = .ok (.bipush (-2), 2) := by decide +kernel
theorem d_M_partner_66 : decode b_M_partner 66 = .ok (.ireturn, 1) := by decide +kernel
theorem d_M_nearest_0 : decode b_M_nearest 0 = .ok (.aload_n 0, 1) := by decide +kernel
theorem d_M_nearest_1 : decode b_M_nearest 1 = .ok (.iload_n 1, 1) := by decide +kernel
theorem d_M_nearest_2 : decode b_M_nearest 2 = .ok (.invokevirtual 35, 3) := by decide +kernel
theorem d_M_nearest_5 : decode b_M_nearest 5 = .ok (.ifCond .eq 5, 3) := by decide +kernel
theorem d_M_nearest_8 : decode b_M_nearest 8 = .ok (.iconst (-1), 1) := by decide +kernel
theorem d_M_nearest_9 : decode b_M_nearest 9 = .ok (.ireturn, 1) := by decide +kernel
theorem d_M_nearest_10 : decode b_M_nearest 10 = .ok (.bipush (-2), 2) := by decide +kernel
theorem d_M_nearest_12 : decode b_M_nearest 12 = .ok (.istore_n 2, 1) := by decide +kernel
theorem d_M_nearest_13 : decode b_M_nearest 13 = .ok (.iconst 0, 1) := by decide +kernel
theorem d_M_nearest_14 : decode b_M_nearest 14 = .ok (.istore_n 3, 1) := by decide +kernel
theorem d_M_nearest_15 : decode b_M_nearest 15 = .ok (.iconst 1, 1) := by decide +kernel
theorem d_M_nearest_16 : decode b_M_nearest 16 = .ok (.istore 4, 2) := by decide +kernel
theorem d_M_nearest_18 : decode b_M_nearest 18 = .ok (.iconst 0, 1) := by decide +kernel
theorem d_M_nearest_19 : decode b_M_nearest 19 = .ok (.istore 5, 2) := by decide +kernel
theorem d_M_nearest_21 : decode b_M_nearest 21 = .ok (.iload 5, 2) := by decide +kernel
theorem d_M_nearest_23 : decode b_M_nearest 23 = .ok (.aload_n 0, 1) := by decide +kernel
theorem d_M_nearest_24 : decode b_M_nearest 24 = .ok (.getfield 24, 3) := by decide +kernel
theorem d_M_nearest_27 : decode b_M_nearest 27 = .ok (.if_icmp .ge 66, 3) := by decide +kernel
theorem d_M_nearest_30 : decode b_M_nearest 30 = .ok (.iload 5, 2) := by decide +kernel
theorem d_M_nearest_32 : decode b_M_nearest 32 = .ok (.bipush 20, 2) := by decide +kernel
theorem d_M_nearest_34 : decode b_M_nearest 34 = .ok (.if_icmp .ge 59, 3) := by decide +kernel
theorem d_M_nearest_37 : decode b_M_nearest 37 = .ok (.iload 5, 2) := by decide +kernel
theorem d_M_nearest_39 : decode b_M_nearest 39 = .ok (.iload_n 1, 1) := by decide +kernel
theorem d_M_nearest_40 : decode b_M_nearest 40 = .ok (.if_icmp .eq 47, 3) := by decide +kernel
theorem d_M_nearest_43 : decode b_M_nearest 43 = .ok (.aload_n 0, 1) := by decide +kernel
theorem d_M_nearest_44 : decode b_M_nearest 44 = .ok (.iload 5, 2) := by decide +kernel
theorem d_M_nearest_46 : decode b_M_nearest 46 = .ok (.iload_n 1, 1) := by decide +kernel
theorem d_M_nearest_47 : decode b_M_nearest 47 = .ok (.invokevirtual 42, 3) := by decide +kernel
theorem d_M_nearest_50 : decode b_M_nearest 50 = .ok (.istore 6, 2) := by decide +kernel
theorem d_M_nearest_52 : decode b_M_nearest 52 = .ok (.aload_n 0, 1) := by decide +kernel
theorem d_M_nearest_53 : decode b_M_nearest 53 = .ok (.iload 5, 2) := by decide +kernel
theorem d_M_nearest_55 : decode b_M_nearest 55 = .ok (.iload_n 1, 1) := by decide +kernel
theorem d_M_nearest_56 : decode b_M_nearest 56 = .ok (.invokevirtual 46, 3) := by decide +kernel
theorem d_M_nearest_59 : decode b_M_nearest 59 = .ok (.istore 7, 2) := by decide +kernel
theorem d_M_nearest_61 : decode b_M_nearest 61 = .ok (.iload_n 2, 1) := by decide +kernel
theorem d_M_nearest_62 : decode b_M_nearest 62 = .ok (.ifCond .lt 15, 3) := by decide +kernel
theorem d_M_nearest_65 : decode b_M_nearest 65 = .ok (.iload 6, 2) := by decide +kernel
theorem d_M_nearest_67 : decode b_M_nearest 67 = .ok (.iload 4, 2) := by decide +kernel
theorem d_M_nearest_69 : decode b_M_nearest 69 = .ok (.imul, 1) := by decide +kernel
theorem d_M_nearest_70 : decode b_M_nearest 70 = .ok (.iload_n 3, 1) := by decide +kernel
theorem d_M_nearest_71 : decode b_M_nearest 71 = .ok (.iload 7, 2) := by decide +kernel
theorem d_M_nearest_73 : decode b_M_nearest 73 = .ok (.imul, 1) := by decide +kernel
theorem d_M_nearest_74 : decode b_M_nearest 74 = .ok (.if_icmp .le 13, 3) := by decide +kernel
theorem d_M_nearest_77 : decode b_M_nearest 77 = .ok (.iload 5, 2) := by decide +kernel
theorem d_M_nearest_79 : decode b_M_nearest 79 = .ok (.istore_n 2, 1) := by decide +kernel
theorem d_M_nearest_80 : decode b_M_nearest 80 = .ok (.iload 6, 2) := by decide +kernel
theorem d_M_nearest_82 : decode b_M_nearest 82 = .ok (.istore_n 3, 1) := by decide +kernel
theorem d_M_nearest_83 : decode b_M_nearest 83 = .ok (.iload 7, 2) := by decide +kernel
theorem d_M_nearest_85 : decode b_M_nearest 85 = .ok (.istore 4, 2) := by decide +kernel
theorem d_M_nearest_87 : decode b_M_nearest 87 = .ok (.iinc 5 1, 3) := by decide +kernel
theorem d_M_nearest_90 : decode b_M_nearest 90 = .ok (.goto (-69), 3) := by decide +kernel
theorem d_M_nearest_93 : decode b_M_nearest 93 = .ok (.iload_n 2, 1) := by decide +kernel
theorem d_M_nearest_94 : decode b_M_nearest 94 = .ok (.ireturn, 1) := by decide +kernel
theorem d_M_matches_0 : decode b_M_matches 0 = .ok (.iconst 0, 1) := by decide +kernel
theorem d_M_matches_1 : decode b_M_matches 1 = .ok (.istore_n 1, 1) := by decide +kernel
theorem d_M_matches_2 : decode b_M_matches 2 = .ok (.iconst 0, 1) := by decide +kernel
theorem d_M_matches_3 : decode b_M_matches 3 = .ok (.istore_n 2, 1) := by decide +kernel
theorem d_M_matches_4 : decode b_M_matches 4 = .ok (.iload_n 2, 1) := by decide +kernel
theorem d_M_matches_5 : decode b_M_matches 5 = .ok (.aload_n 0, 1) := by decide +kernel
theorem d_M_matches_6 : decode b_M_matches 6 = .ok (.getfield 24, 3) := by decide +kernel
theorem d_M_matches_9 : decode b_M_matches 9 = .ok (.if_icmp .ge 28, 3) := by decide +kernel
theorem d_M_matches_12 : decode b_M_matches 12 = .ok (.iload_n 2, 1) := by decide +kernel
theorem d_M_matches_13 : decode b_M_matches 13 = .ok (.bipush 20, 2) := by decide +kernel
theorem d_M_matches_15 : decode b_M_matches 15 = .ok (.if_icmp .ge 22, 3) := by decide +kernel
theorem d_M_matches_18 : decode b_M_matches 18 = .ok (.aload_n 0, 1) := by decide +kernel
theorem d_M_matches_19 : decode b_M_matches 19 = .ok (.iload_n 2, 1) := by decide +kernel
theorem d_M_matches_20 : decode b_M_matches 20 = .ok (.bipush 20, 2) := by decide +kernel
theorem d_M_matches_22 : decode b_M_matches 22 = .ok (.invokevirtual 49, 3) := by decide +kernel
theorem d_M_matches_25 : decode b_M_matches 25 = .ok (.ifCond .eq 6, 3) := by decide +kernel
theorem d_M_matches_28 : decode b_M_matches 28 = .ok (.iinc 1 1, 3) := by decide +kernel
theorem d_M_matches_31 : decode b_M_matches 31 = .ok (.iinc 2 1, 3) := by decide +kernel
theorem d_M_matches_34 : decode b_M_matches 34 = .ok (.goto (-30), 3) := by decide +kernel
theorem d_M_matches_37 : decode b_M_matches 37 = .ok (.iload_n 1, 1) := by decide +kernel
theorem d_M_matches_38 : decode b_M_matches 38 = .ok (.ireturn, 1) := by decide +kernel
theorem d_M_match_0 : decode b_M_match 0 = .ok (.iload_n 1, 1) := by decide +kernel
theorem d_M_match_1 : decode b_M_match 1 = .ok (.ifCond .lt 9, 3) := by decide +kernel
theorem d_M_match_4 : decode b_M_match 4 = .ok (.iload_n 1, 1) := by decide +kernel
theorem d_M_match_5 : decode b_M_match 5 = .ok (.bipush 19, 2) := by decide +kernel
theorem d_M_match_7 : decode b_M_match 7 = .ok (.if_icmp .le 5, 3) := by decide +kernel
theorem d_M_match_10 : decode b_M_match 10 = .ok (.iconst (-1), 1) := by decide +kernel
theorem d_M_match_11 : decode b_M_match 11 = .ok (.ireturn, 1) := by decide +kernel
theorem d_M_match_12 : decode b_M_match 12 = .ok (.iload_n 1, 1) := by decide +kernel
theorem d_M_match_13 : decode b_M_match 13 = .ok (.istore_n 2, 1) := by decide +kernel
theorem d_M_match_14 : decode b_M_match 14 = .ok (.iload_n 2, 1) := by decide +kernel
theorem d_M_match_15 : decode b_M_match 15 = .ok (.aload_n 0, 1) := by decide +kernel
theorem d_M_match_16 : decode b_M_match 16 = .ok (.getfield 24, 3) := by decide +kernel
theorem d_M_match_19 : decode b_M_match 19 = .ok (.if_icmp .ge 27, 3) := by decide +kernel
theorem d_M_match_22 : decode b_M_match 22 = .ok (.iload_n 2, 1) := by decide +kernel
theorem d_M_match_23 : decode b_M_match 23 = .ok (.bipush 20, 2) := by decide +kernel
theorem d_M_match_25 : decode b_M_match 25 = .ok (.if_icmp .ge 21, 3) := by decide +kernel
theorem d_M_match_28 : decode b_M_match 28 = .ok (.aload_n 0, 1) := by decide +kernel
theorem d_M_match_29 : decode b_M_match 29 = .ok (.iload_n 2, 1) := by decide +kernel
theorem d_M_match_30 : decode b_M_match 30 = .ok (.bipush 20, 2) := by decide +kernel
theorem d_M_match_32 : decode b_M_match 32 = .ok (.invokevirtual 49, 3) := by decide +kernel
theorem d_M_match_35 : decode b_M_match 35 = .ok (.ifCond .eq 5, 3) := by decide +kernel
theorem d_M_match_38 : decode b_M_match 38 = .ok (.iload_n 2, 1) := by decide +kernel
theorem d_M_match_39 : decode b_M_match 39 = .ok (.ireturn, 1) := by decide +kernel
theorem d_M_match_40 : decode b_M_match 40 = .ok (.iinc 2 1, 3) := by decide +kernel
theorem d_M_match_43 : decode b_M_match 43 = .ok (.goto (-29), 3) := by decide +kernel
theorem d_M_match_46 : decode b_M_match 46 = .ok (.bipush (-2), 2) := by decide +kernel
theorem d_M_match_48 : decode b_M_match 48 = .ok (.ireturn, 1) := by decide +kernel
theorem d_M_containing_0 : decode b_M_containing 0 = .ok (.iconst 0, 1) := by decide +kernel
theorem d_M_containing_1 : decode b_M_containing 1 = .ok (.istore_n 1, 1) := by decide +kernel
theorem d_M_containing_2 : decode b_M_containing 2 = .ok (.aload_n 0, 1) := by decide +kernel
theorem d_M_containing_3 : decode b_M_containing 3 = .ok (.bipush 20, 2) := by decide +kernel
theorem d_M_containing_5 : decode b_M_containing 5 = .ok (.invokevirtual 31, 3) := by decide +kernel
theorem d_M_containing_8 : decode b_M_containing 8 = .ok (.istore_n 2, 1) := by decide +kernel
theorem d_M_containing_9 : decode b_M_containing 9 = .ok (.iconst 0, 1) := by decide +kernel
theorem d_M_containing_10 : decode b_M_containing 10 = .ok (.istore_n 3, 1) := by decide +kernel
theorem d_M_containing_11 : decode b_M_containing 11 = .ok (.iload_n 3, 1) := by decide +kernel
theorem d_M_containing_12 : decode b_M_containing 12 = .ok (.aload_n 0, 1) := by decide +kernel
theorem d_M_containing_13 : decode b_M_containing 13 = .ok (.getfield 24, 3) := by decide +kernel
theorem d_M_containing_16 : decode b_M_containing 16 = .ok (.if_icmp .ge 29, 3) := by decide +kernel
theorem d_M_containing_19 : decode b_M_containing 19 = .ok (.iload_n 3, 1) := by decide +kernel
theorem d_M_containing_20 : decode b_M_containing 20 = .ok (.bipush 20, 2) := by decide +kernel
theorem d_M_containing_22 : decode b_M_containing 22 = .ok (.if_icmp .ge 23, 3) := by decide +kernel
theorem d_M_containing_25 : decode b_M_containing 25 = .ok (.aload_n 0, 1) := by decide +kernel
theorem d_M_containing_26 : decode b_M_containing 26 = .ok (.iload_n 3, 1) := by decide +kernel
theorem d_M_containing_27 : decode b_M_containing 27 = .ok (.bipush 20, 2) := by decide +kernel
theorem d_M_containing_29 : decode b_M_containing 29 = .ok (.invokevirtual 42, 3) := by decide +kernel
theorem d_M_containing_32 : decode b_M_containing 32 = .ok (.iload_n 2, 1) := by decide +kernel
theorem d_M_containing_33 : decode b_M_containing 33 = .ok (.if_icmp .ne 6, 3) := by decide +kernel
theorem d_M_containing_36 : decode b_M_containing 36 = .ok (.iinc 1 1, 3) := by decide +kernel
theorem d_M_containing_39 : decode b_M_containing 39 = .ok (.iinc 3 1, 3) := by decide +kernel
theorem d_M_containing_42 : decode b_M_containing 42 = .ok (.goto (-31), 3) := by decide +kernel
theorem d_M_containing_45 : decode b_M_containing 45 = .ok (.iload_n 1, 1) := by decide +kernel
theorem d_M_containing_46 : decode b_M_containing 46 = .ok (.ireturn, 1) := by decide +kernel
theorem d_M_groups_0 : decode b_M_groups 0 = .ok (.aload_n 0, 1) := by decide +kernel
theorem d_M_groups_1 : decode b_M_groups 1 = .ok (.invokevirtual 57, 3) := by decide +kernel
theorem d_M_groups_4 : decode b_M_groups 4 = .ok (.iconst 0, 1) := by decide +kernel
theorem d_M_groups_5 : decode b_M_groups 5 = .ok (.istore_n 1, 1) := by decide +kernel
theorem d_M_groups_6 : decode b_M_groups 6 = .ok (.iconst 0, 1) := by decide +kernel
theorem d_M_groups_7 : decode b_M_groups 7 = .ok (.istore_n 2, 1) := by decide +kernel
theorem d_M_groups_8 : decode b_M_groups 8 = .ok (.iload_n 2, 1) := by decide +kernel
theorem d_M_groups_9 : decode b_M_groups 9 = .ok (.aload_n 0, 1) := by decide +kernel
theorem d_M_groups_10 : decode b_M_groups 10 = .ok (.getfield 24, 3) := by decide +kernel
theorem d_M_groups_13 : decode b_M_groups 13 = .ok (.if_icmp .ge 28, 3) := by decide +kernel
theorem d_M_groups_16 : decode b_M_groups 16 = .ok (.iload_n 2, 1) := by decide +kernel
theorem d_M_groups_17 : decode b_M_groups 17 = .ok (.bipush 20, 2) := by decide +kernel
theorem d_M_groups_19 : decode b_M_groups 19 = .ok (.if_icmp .ge 22, 3) := by decide +kernel
theorem d_M_groups_22 : decode b_M_groups 22 = .ok (.aload_n 0, 1) := by decide +kernel
theorem d_M_groups_23 : decode b_M_groups 23 = .ok (.getfield 20, 3) := by decide +kernel
theorem d_M_groups_26 : decode b_M_groups 26 = .ok (.iload_n 2, 1) := by decide +kernel
theorem d_M_groups_27 : decode b_M_groups 27 = .ok (.iaload, 1) := by decide +kernel
theorem d_M_groups_28 : decode b_M_groups 28 = .ok (.iload_n 2, 1) := by decide +kernel
theorem d_M_groups_29 : decode b_M_groups 29 = .ok (.if_icmp .ne 6, 3) := by decide +kernel
theorem d_M_groups_32 : decode b_M_groups 32 = .ok (.iinc 1 1, 3) := by decide +kernel
theorem d_M_groups_35 : decode b_M_groups 35 = .ok (.iinc 2 1, 3) := by decide +kernel
theorem d_M_groups_38 : decode b_M_groups 38 = .ok (.goto (-30), 3) := by decide +kernel
theorem d_M_groups_41 : decode b_M_groups 41 = .ok (.iload_n 1, 1) := by decide +kernel
theorem d_M_groups_42 : decode b_M_groups 42 = .ok (.ireturn, 1) := by decide +kernel
theorem d_M_join_0 : decode b_M_join 0 = .ok (.iconst 0, 1) := by decide +kernel
theorem d_M_join_1 : decode b_M_join 1 = .ok (.istore_n 1, 1) := by decide +kernel
theorem d_M_join_2 : decode b_M_join 2 = .ok (.iload_n 1, 1) := by decide +kernel
theorem d_M_join_3 : decode b_M_join 3 = .ok (.bipush 20, 2) := by decide +kernel
theorem d_M_join_5 : decode b_M_join 5 = .ok (.if_icmp .ge 16, 3) := by decide +kernel
theorem d_M_join_8 : decode b_M_join 8 = .ok (.aload_n 0, 1) := by decide +kernel
theorem d_M_join_9 : decode b_M_join 9 = .ok (.getfield 20, 3) := by decide +kernel
theorem d_M_join_12 : decode b_M_join 12 = .ok (.iload_n 1, 1) := by decide +kernel
theorem d_M_join_13 : decode b_M_join 13 = .ok (.iload_n 1, 1) := by decide +kernel
theorem d_M_join_14 : decode b_M_join 14 = .ok (.iastore, 1) := by decide +kernel
theorem d_M_join_15 : decode b_M_join 15 = .ok (.iinc 1 1, 3) := by decide +kernel
theorem d_M_join_18 : decode b_M_join 18 = .ok (.goto (-16), 3) := by decide +kernel
theorem d_M_join_21 : decode b_M_join 21 = .ok (.iconst 1, 1) := by decide +kernel
theorem d_M_join_22 : decode b_M_join 22 = .ok (.istore_n 1, 1) := by decide +kernel
theorem d_M_join_23 : decode b_M_join 23 = .ok (.iconst 0, 1) := by decide +kernel
theorem d_M_join_24 : decode b_M_join 24 = .ok (.istore_n 2, 1) := by decide +kernel
theorem d_M_join_25 : decode b_M_join 25 = .ok (.iload_n 2, 1) := by decide +kernel
theorem d_M_join_26 : decode b_M_join 26 = .ok (.bipush 20, 2) := by decide +kernel
theorem d_M_join_28 : decode b_M_join 28 = .ok (.if_icmp .ge 18, 3) := by decide +kernel
theorem d_M_join_31 : decode b_M_join 31 = .ok (.iload_n 1, 1) := by decide +kernel
theorem d_M_join_32 : decode b_M_join 32 = .ok (.ifCond .eq 14, 3) := by decide +kernel
theorem d_M_join_35 : decode b_M_join 35 = .ok (.aload_n 0, 1) := by decide +kernel
theorem d_M_join_36 : decode b_M_join 36 = .ok (.invokevirtual 53, 3) := by decide +kernel
theorem d_M_join_39 : decode b_M_join 39 = .ok (.istore_n 1, 1) := by decide +kernel
theorem d_M_join_40 : decode b_M_join 40 = .ok (.iinc 2 1, 3) := by decide +kernel
theorem d_M_join_43 : decode b_M_join 43 = .ok (.goto (-18), 3) := by decide +kernel
theorem d_M_join_46 : decode b_M_join 46 = .ok (.return_, 1) := by decide +kernel
theorem d_M_lower_0 : decode b_M_lower 0 = .ok (.iconst 0, 1) := by decide +kernel
theorem d_M_lower_1 : decode b_M_lower 1 = .ok (.istore_n 1, 1) := by decide +kernel
theorem d_M_lower_2 : decode b_M_lower 2 = .ok (.iconst 0, 1) := by decide +kernel
theorem d_M_lower_3 : decode b_M_lower 3 = .ok (.istore_n 2, 1) := by decide +kernel
theorem d_M_lower_4 : decode b_M_lower 4 = .ok (.iload_n 2, 1) := by decide +kernel
theorem d_M_lower_5 : decode b_M_lower 5 = .ok (.aload_n 0, 1) := by decide +kernel
theorem d_M_lower_6 : decode b_M_lower 6 = .ok (.getfield 24, 3) := by decide +kernel
theorem d_M_lower_9 : decode b_M_lower 9 = .ok (.if_icmp .ge 75, 3) := by decide +kernel
theorem d_M_lower_12 : decode b_M_lower 12 = .ok (.iload_n 2, 1) := by decide +kernel
theorem d_M_lower_13 : decode b_M_lower 13 = .ok (.bipush 20, 2) := by decide +kernel
theorem d_M_lower_15 : decode b_M_lower 15 = .ok (.if_icmp .ge 69, 3) := by decide +kernel
theorem d_M_lower_18 : decode b_M_lower 18 = .ok (.iconst 0, 1) := by decide +kernel
theorem d_M_lower_19 : decode b_M_lower 19 = .ok (.istore_n 3, 1) := by decide +kernel
theorem d_M_lower_20 : decode b_M_lower 20 = .ok (.iload_n 3, 1) := by decide +kernel
theorem d_M_lower_21 : decode b_M_lower 21 = .ok (.aload_n 0, 1) := by decide +kernel
theorem d_M_lower_22 : decode b_M_lower 22 = .ok (.getfield 24, 3) := by decide +kernel
theorem d_M_lower_25 : decode b_M_lower 25 = .ok (.if_icmp .ge 53, 3) := by decide +kernel
theorem d_M_lower_28 : decode b_M_lower 28 = .ok (.iload_n 3, 1) := by decide +kernel
theorem d_M_lower_29 : decode b_M_lower 29 = .ok (.bipush 20, 2) := by decide +kernel
theorem d_M_lower_31 : decode b_M_lower 31 = .ok (.if_icmp .ge 47, 3) := by decide +kernel
theorem d_M_lower_34 : decode b_M_lower 34 = .ok (.aload_n 0, 1) := by decide +kernel
theorem d_M_lower_35 : decode b_M_lower 35 = .ok (.getfield 20, 3) := by decide +kernel
theorem d_M_lower_38 : decode b_M_lower 38 = .ok (.iload_n 3, 1) := by decide +kernel
theorem d_M_lower_39 : decode b_M_lower 39 = .ok (.iaload, 1) := by decide +kernel
theorem d_M_lower_40 : decode b_M_lower 40 = .ok (.aload_n 0, 1) := by decide +kernel
theorem d_M_lower_41 : decode b_M_lower 41 = .ok (.getfield 20, 3) := by decide +kernel
theorem d_M_lower_44 : decode b_M_lower 44 = .ok (.iload_n 2, 1) := by decide +kernel
theorem d_M_lower_45 : decode b_M_lower 45 = .ok (.iaload, 1) := by decide +kernel
theorem d_M_lower_46 : decode b_M_lower 46 = .ok (.if_icmp .ge 26, 3) := by decide +kernel
theorem d_M_lower_49 : decode b_M_lower 49 = .ok (.aload_n 0, 1) := by decide +kernel
theorem d_M_lower_50 : decode b_M_lower 50 = .ok (.iload_n 2, 1) := by decide +kernel
theorem d_M_lower_51 : decode b_M_lower 51 = .ok (.iload_n 3, 1) := by decide +kernel
theorem d_M_lower_52 : decode b_M_lower 52 = .ok (.invokevirtual 49, 3) := by decide +kernel
theorem d_M_lower_55 : decode b_M_lower 55 = .ok (.ifCond .eq 17, 3) := by decide +kernel
theorem d_M_lower_58 : decode b_M_lower 58 = .ok (.aload_n 0, 1) := by decide +kernel
theorem d_M_lower_59 : decode b_M_lower 59 = .ok (.getfield 20, 3) := by decide +kernel
theorem d_M_lower_62 : decode b_M_lower 62 = .ok (.iload_n 2, 1) := by decide +kernel
theorem d_M_lower_63 : decode b_M_lower 63 = .ok (.aload_n 0, 1) := by decide +kernel
theorem d_M_lower_64 : decode b_M_lower 64 = .ok (.getfield 20, 3) := by decide +kernel
theorem d_M_lower_67 : decode b_M_lower 67 = .ok (.iload_n 3, 1) := by decide +kernel
theorem d_M_lower_68 : decode b_M_lower 68 = .ok (.iaload, 1) := by decide +kernel
theorem d_M_lower_69 : decode b_M_lower 69 = .ok (.iastore, 1) := by decide +kernel
theorem d_M_lower_70 : decode b_M_lower 70 = .ok (.iconst 1, 1) := by decide +kernel
theorem d_M_lower_71 : decode b_M_lower 71 = .ok (.istore_n 1, 1) := by decide +kernel
theorem d_M_lower_72 : decode b_M_lower 72 = .ok (.iinc 3 1, 3) := by decide +kernel
theorem d_M_lower_75 : decode b_M_lower 75 = .ok (.goto (-55), 3) := by decide +kernel
theorem d_M_lower_78 : decode b_M_lower 78 = .ok (.iinc 2 1, 3) := by decide +kernel
theorem d_M_lower_81 : decode b_M_lower 81 = .ok (.goto (-77), 3) := by decide +kernel
theorem d_M_lower_84 : decode b_M_lower 84 = .ok (.iload_n 1, 1) := by decide +kernel
theorem d_M_lower_85 : decode b_M_lower 85 = .ok (.ireturn, 1) := by decide +kernel
theorem d_M_groupOf_0 : decode b_M_groupOf 0 = .ok (.aload_n 0, 1) := by decide +kernel
theorem d_M_groupOf_1 : decode b_M_groupOf 1 = .ok (.iload_n 1, 1) := by decide +kernel
theorem d_M_groupOf_2 : decode b_M_groupOf 2 = .ok (.invokevirtual 35, 3) := by decide +kernel
theorem d_M_groupOf_5 : decode b_M_groupOf 5 = .ok (.ifCond .eq 5, 3) := by decide +kernel
theorem d_M_groupOf_8 : decode b_M_groupOf 8 = .ok (.iconst (-1), 1) := by decide +kernel
theorem d_M_groupOf_9 : decode b_M_groupOf 9 = .ok (.ireturn, 1) := by decide +kernel
theorem d_M_groupOf_10 : decode b_M_groupOf 10 = .ok (.aload_n 0, 1) := by decide +kernel
theorem d_M_groupOf_11 : decode b_M_groupOf 11 = .ok (.invokevirtual 57, 3) := by decide +kernel
theorem d_M_groupOf_14 : decode b_M_groupOf 14 = .ok (.aload_n 0, 1) := by decide +kernel
theorem d_M_groupOf_15 : decode b_M_groupOf 15 = .ok (.getfield 20, 3) := by decide +kernel
theorem d_M_groupOf_18 : decode b_M_groupOf 18 = .ok (.iload_n 1, 1) := by decide +kernel
theorem d_M_groupOf_19 : decode b_M_groupOf 19 = .ok (.iaload, 1) := by decide +kernel
theorem d_M_groupOf_20 : decode b_M_groupOf 20 = .ok (.ireturn, 1) := by decide +kernel
theorem d_M_groupSize_0 : decode b_M_groupSize 0 = .ok (.aload_n 0, 1) := by decide +kernel
theorem d_M_groupSize_1 : decode b_M_groupSize 1 = .ok (.iload_n 1, 1) := by decide +kernel
theorem d_M_groupSize_2 : decode b_M_groupSize 2 = .ok (.invokevirtual 35, 3) := by decide +kernel
theorem d_M_groupSize_5 : decode b_M_groupSize 5 = .ok (.ifCond .eq 5, 3) := by decide +kernel
theorem d_M_groupSize_8 : decode b_M_groupSize 8 = .ok (.iconst (-1), 1) := by decide +kernel
theorem d_M_groupSize_9 : decode b_M_groupSize 9 = .ok (.ireturn, 1) := by decide +kernel
theorem d_M_groupSize_10 : decode b_M_groupSize 10 = .ok (.aload_n 0, 1) := by decide +kernel
theorem d_M_groupSize_11 : decode b_M_groupSize 11 = .ok (.invokevirtual 57, 3) := by decide +kernel
theorem d_M_groupSize_14 : decode b_M_groupSize 14 = .ok (.iconst 0, 1) := by decide +kernel
theorem d_M_groupSize_15 : decode b_M_groupSize 15 = .ok (.istore_n 2, 1) := by decide +kernel
theorem d_M_groupSize_16 : decode b_M_groupSize 16 = .ok (.iconst 0, 1) := by decide +kernel
theorem d_M_groupSize_17 : decode b_M_groupSize 17 = .ok (.istore_n 3, 1) := by decide +kernel
theorem d_M_groupSize_18 : decode b_M_groupSize 18 = .ok (.iload_n 3, 1) := by decide +kernel
theorem d_M_groupSize_19 : decode b_M_groupSize 19 = .ok (.aload_n 0, 1) := by decide +kernel
theorem d_M_groupSize_20 : decode b_M_groupSize 20 = .ok (.getfield 24, 3) := by decide +kernel
theorem d_M_groupSize_23 : decode b_M_groupSize 23 = .ok (.if_icmp .ge 33, 3) := by decide +kernel
theorem d_M_groupSize_26 : decode b_M_groupSize 26 = .ok (.iload_n 3, 1) := by decide +kernel
theorem d_M_groupSize_27 : decode b_M_groupSize 27 = .ok (.bipush 20, 2) := by decide +kernel
theorem d_M_groupSize_29 : decode b_M_groupSize 29 = .ok (.if_icmp .ge 27, 3) := by decide +kernel
theorem d_M_groupSize_32 : decode b_M_groupSize 32 = .ok (.aload_n 0, 1) := by decide +kernel
theorem d_M_groupSize_33 : decode b_M_groupSize 33 = .ok (.getfield 20, 3) := by decide +kernel
theorem d_M_groupSize_36 : decode b_M_groupSize 36 = .ok (.iload_n 3, 1) := by decide +kernel
theorem d_M_groupSize_37 : decode b_M_groupSize 37 = .ok (.iaload, 1) := by decide +kernel
theorem d_M_groupSize_38 : decode b_M_groupSize 38 = .ok (.aload_n 0, 1) := by decide +kernel
theorem d_M_groupSize_39 : decode b_M_groupSize 39 = .ok (.getfield 20, 3) := by decide +kernel
theorem d_M_groupSize_42 : decode b_M_groupSize 42 = .ok (.iload_n 1, 1) := by decide +kernel
theorem d_M_groupSize_43 : decode b_M_groupSize 43 = .ok (.iaload, 1) := by decide +kernel
theorem d_M_groupSize_44 : decode b_M_groupSize 44 = .ok (.if_icmp .ne 6, 3) := by decide +kernel
theorem d_M_groupSize_47 : decode b_M_groupSize 47 = .ok (.iinc 2 1, 3) := by decide +kernel
theorem d_M_groupSize_50 : decode b_M_groupSize 50 = .ok (.iinc 3 1, 3) := by decide +kernel
theorem d_M_groupSize_53 : decode b_M_groupSize 53 = .ok (.goto (-35), 3) := by decide +kernel
theorem d_M_groupSize_56 : decode b_M_groupSize 56 = .ok (.iload_n 2, 1) := by decide +kernel
theorem d_M_groupSize_57 : decode b_M_groupSize 57 = .ok (.ireturn, 1) := by decide +kernel
end
section
theorem d_law_0 : decode code 0 = .ok (.new 7, 3) := by decide +kernel
theorem d_law_3 : decode code 3 = .ok (.dup, 1) := by decide +kernel
theorem d_law_4 : decode code 4 = .ok (.invokespecial 9, 3) := by decide +kernel
theorem d_law_7 : decode code 7 = .ok (.astore_n 1, 1) := by decide +kernel
theorem d_law_8 : decode code 8 = .ok (.new 10, 3) := by decide +kernel
theorem d_law_11 : decode code 11 = .ok (.dup, 1) := by decide +kernel
theorem d_law_12 : decode code 12 = .ok (.invokespecial 12, 3) := by decide +kernel
theorem d_law_15 : decode code 15 = .ok (.astore_n 2, 1) := by decide +kernel
theorem d_law_16 : decode code 16 = .ok (.iconst 0, 1) := by decide +kernel
theorem d_law_17 : decode code 17 = .ok (.istore_n 3, 1) := by decide +kernel
theorem d_law_18 : decode code 18 = .ok (.iload_n 3, 1) := by decide +kernel
theorem d_law_19 : decode code 19 = .ok (.aload_n 0, 1) := by decide +kernel
theorem d_law_20 : decode code 20 = .ok (.arraylength, 1) := by decide +kernel
theorem d_law_21 : decode code 21 = .ok (.iconst 3, 1) := by decide +kernel
theorem d_law_22 : decode code 22 = .ok (.isub, 1) := by decide +kernel
theorem d_law_23 : decode code 23 = .ok (.if_icmp .gt 632, 3) := by decide +kernel
theorem d_law_26 : decode code 26 = .ok (.aload_n 0, 1) := by decide +kernel
theorem d_law_27 : decode code 27 = .ok (.iload_n 3, 1) := by decide +kernel
theorem d_law_28 : decode code 28 = .ok (.iaload, 1) := by decide +kernel
theorem d_law_29 : decode code 29 = .ok (.bipush 31, 2) := by decide +kernel
theorem d_law_31 : decode code 31 = .ok (.iand, 1) := by decide +kernel
theorem d_law_32 : decode code 32 = .ok (.tableswitch 617 0 22 #[108, 131, 154, 167, 190, 203, 226, 259, 272, 295, 328, 351, 384, 417, 430, 453, 486, 509, 522, 545, 558, 571, 594], 108) := by decide +kernel
theorem d_law_140 : decode code 140 = .ok (.aload_n 1, 1) := by decide +kernel
theorem d_law_141 : decode code 141 = .ok (.aload_n 0, 1) := by decide +kernel
theorem d_law_142 : decode code 142 = .ok (.iload_n 3, 1) := by decide +kernel
theorem d_law_143 : decode code 143 = .ok (.iconst 1, 1) := by decide +kernel
theorem d_law_144 : decode code 144 = .ok (.iadd, 1) := by decide +kernel
theorem d_law_145 : decode code 145 = .ok (.iaload, 1) := by decide +kernel
theorem d_law_146 : decode code 146 = .ok (.invokevirtual 13, 3) := by decide +kernel
theorem d_law_149 : decode code 149 = .ok (.aload_n 2, 1) := by decide +kernel
theorem d_law_150 : decode code 150 = .ok (.aload_n 0, 1) := by decide +kernel
theorem d_law_151 : decode code 151 = .ok (.iload_n 3, 1) := by decide +kernel
theorem d_law_152 : decode code 152 = .ok (.iconst 1, 1) := by decide +kernel
theorem d_law_153 : decode code 153 = .ok (.iadd, 1) := by decide +kernel
theorem d_law_154 : decode code 154 = .ok (.iaload, 1) := by decide +kernel
theorem d_law_155 : decode code 155 = .ok (.invokevirtual 17, 3) := by decide +kernel
theorem d_law_158 : decode code 158 = .ok (.if_icmp .eq 491, 3) := by decide +kernel
theorem d_law_161 : decode code 161 = .ok (.iconst 0, 1) := by decide +kernel
theorem d_law_162 : decode code 162 = .ok (.ireturn, 1) := by decide +kernel
theorem d_law_163 : decode code 163 = .ok (.aload_n 1, 1) := by decide +kernel
theorem d_law_164 : decode code 164 = .ok (.aload_n 0, 1) := by decide +kernel
theorem d_law_165 : decode code 165 = .ok (.iload_n 3, 1) := by decide +kernel
theorem d_law_166 : decode code 166 = .ok (.iconst 1, 1) := by decide +kernel
theorem d_law_167 : decode code 167 = .ok (.iadd, 1) := by decide +kernel
theorem d_law_168 : decode code 168 = .ok (.iaload, 1) := by decide +kernel
theorem d_law_169 : decode code 169 = .ok (.invokevirtual 18, 3) := by decide +kernel
theorem d_law_172 : decode code 172 = .ok (.aload_n 2, 1) := by decide +kernel
theorem d_law_173 : decode code 173 = .ok (.aload_n 0, 1) := by decide +kernel
theorem d_law_174 : decode code 174 = .ok (.iload_n 3, 1) := by decide +kernel
theorem d_law_175 : decode code 175 = .ok (.iconst 1, 1) := by decide +kernel
theorem d_law_176 : decode code 176 = .ok (.iadd, 1) := by decide +kernel
theorem d_law_177 : decode code 177 = .ok (.iaload, 1) := by decide +kernel
theorem d_law_178 : decode code 178 = .ok (.invokevirtual 21, 3) := by decide +kernel
theorem d_law_181 : decode code 181 = .ok (.if_icmp .eq 468, 3) := by decide +kernel
theorem d_law_184 : decode code 184 = .ok (.iconst 0, 1) := by decide +kernel
theorem d_law_185 : decode code 185 = .ok (.ireturn, 1) := by decide +kernel
theorem d_law_186 : decode code 186 = .ok (.aload_n 1, 1) := by decide +kernel
theorem d_law_187 : decode code 187 = .ok (.invokevirtual 22, 3) := by decide +kernel
theorem d_law_190 : decode code 190 = .ok (.aload_n 2, 1) := by decide +kernel
theorem d_law_191 : decode code 191 = .ok (.invokevirtual 26, 3) := by decide +kernel
theorem d_law_194 : decode code 194 = .ok (.if_icmp .eq 455, 3) := by decide +kernel
theorem d_law_197 : decode code 197 = .ok (.iconst 0, 1) := by decide +kernel
theorem d_law_198 : decode code 198 = .ok (.ireturn, 1) := by decide +kernel
theorem d_law_199 : decode code 199 = .ok (.aload_n 1, 1) := by decide +kernel
theorem d_law_200 : decode code 200 = .ok (.aload_n 0, 1) := by decide +kernel
theorem d_law_201 : decode code 201 = .ok (.iload_n 3, 1) := by decide +kernel
theorem d_law_202 : decode code 202 = .ok (.iconst 1, 1) := by decide +kernel
theorem d_law_203 : decode code 203 = .ok (.iadd, 1) := by decide +kernel
theorem d_law_204 : decode code 204 = .ok (.iaload, 1) := by decide +kernel
theorem d_law_205 : decode code 205 = .ok (.invokevirtual 27, 3) := by decide +kernel
theorem d_law_208 : decode code 208 = .ok (.aload_n 2, 1) := by decide +kernel
theorem d_law_209 : decode code 209 = .ok (.aload_n 0, 1) := by decide +kernel
theorem d_law_210 : decode code 210 = .ok (.iload_n 3, 1) := by decide +kernel
theorem d_law_211 : decode code 211 = .ok (.iconst 1, 1) := by decide +kernel
theorem d_law_212 : decode code 212 = .ok (.iadd, 1) := by decide +kernel
theorem d_law_213 : decode code 213 = .ok (.iaload, 1) := by decide +kernel
theorem d_law_214 : decode code 214 = .ok (.invokevirtual 30, 3) := by decide +kernel
theorem d_law_217 : decode code 217 = .ok (.if_icmp .eq 432, 3) := by decide +kernel
theorem d_law_220 : decode code 220 = .ok (.iconst 0, 1) := by decide +kernel
theorem d_law_221 : decode code 221 = .ok (.ireturn, 1) := by decide +kernel
theorem d_law_222 : decode code 222 = .ok (.aload_n 1, 1) := by decide +kernel
theorem d_law_223 : decode code 223 = .ok (.invokevirtual 31, 3) := by decide +kernel
theorem d_law_226 : decode code 226 = .ok (.aload_n 2, 1) := by decide +kernel
theorem d_law_227 : decode code 227 = .ok (.invokevirtual 34, 3) := by decide +kernel
theorem d_law_230 : decode code 230 = .ok (.if_icmp .eq 419, 3) := by decide +kernel
theorem d_law_233 : decode code 233 = .ok (.iconst 0, 1) := by decide +kernel
theorem d_law_234 : decode code 234 = .ok (.ireturn, 1) := by decide +kernel
theorem d_law_235 : decode code 235 = .ok (.aload_n 1, 1) := by decide +kernel
theorem d_law_236 : decode code 236 = .ok (.aload_n 0, 1) := by decide +kernel
theorem d_law_237 : decode code 237 = .ok (.iload_n 3, 1) := by decide +kernel
theorem d_law_238 : decode code 238 = .ok (.iconst 1, 1) := by decide +kernel
theorem d_law_239 : decode code 239 = .ok (.iadd, 1) := by decide +kernel
theorem d_law_240 : decode code 240 = .ok (.iaload, 1) := by decide +kernel
theorem d_law_241 : decode code 241 = .ok (.invokevirtual 35, 3) := by decide +kernel
theorem d_law_244 : decode code 244 = .ok (.aload_n 2, 1) := by decide +kernel
theorem d_law_245 : decode code 245 = .ok (.aload_n 0, 1) := by decide +kernel
theorem d_law_246 : decode code 246 = .ok (.iload_n 3, 1) := by decide +kernel
theorem d_law_247 : decode code 247 = .ok (.iconst 1, 1) := by decide +kernel
theorem d_law_248 : decode code 248 = .ok (.iadd, 1) := by decide +kernel
theorem d_law_249 : decode code 249 = .ok (.iaload, 1) := by decide +kernel
theorem d_law_250 : decode code 250 = .ok (.invokevirtual 38, 3) := by decide +kernel
theorem d_law_253 : decode code 253 = .ok (.if_icmp .eq 396, 3) := by decide +kernel
theorem d_law_256 : decode code 256 = .ok (.iconst 0, 1) := by decide +kernel
theorem d_law_257 : decode code 257 = .ok (.ireturn, 1) := by decide +kernel
theorem d_law_258 : decode code 258 = .ok (.aload_n 1, 1) := by decide +kernel
theorem d_law_259 : decode code 259 = .ok (.aload_n 0, 1) := by decide +kernel
theorem d_law_260 : decode code 260 = .ok (.iload_n 3, 1) := by decide +kernel
theorem d_law_261 : decode code 261 = .ok (.iconst 1, 1) := by decide +kernel
theorem d_law_262 : decode code 262 = .ok (.iadd, 1) := by decide +kernel
theorem d_law_263 : decode code 263 = .ok (.iaload, 1) := by decide +kernel
theorem d_law_264 : decode code 264 = .ok (.aload_n 0, 1) := by decide +kernel
theorem d_law_265 : decode code 265 = .ok (.iload_n 3, 1) := by decide +kernel
theorem d_law_266 : decode code 266 = .ok (.iconst 2, 1) := by decide +kernel
theorem d_law_267 : decode code 267 = .ok (.iadd, 1) := by decide +kernel
theorem d_law_268 : decode code 268 = .ok (.iaload, 1) := by decide +kernel
theorem d_law_269 : decode code 269 = .ok (.invokevirtual 39, 3) := by decide +kernel
theorem d_law_272 : decode code 272 = .ok (.aload_n 2, 1) := by decide +kernel
theorem d_law_273 : decode code 273 = .ok (.aload_n 0, 1) := by decide +kernel
theorem d_law_274 : decode code 274 = .ok (.iload_n 3, 1) := by decide +kernel
theorem d_law_275 : decode code 275 = .ok (.iconst 1, 1) := by decide +kernel
theorem d_law_276 : decode code 276 = .ok (.iadd, 1) := by decide +kernel
theorem d_law_277 : decode code 277 = .ok (.iaload, 1) := by decide +kernel
theorem d_law_278 : decode code 278 = .ok (.aload_n 0, 1) := by decide +kernel
theorem d_law_279 : decode code 279 = .ok (.iload_n 3, 1) := by decide +kernel
theorem d_law_280 : decode code 280 = .ok (.iconst 2, 1) := by decide +kernel
theorem d_law_281 : decode code 281 = .ok (.iadd, 1) := by decide +kernel
theorem d_law_282 : decode code 282 = .ok (.iaload, 1) := by decide +kernel
theorem d_law_283 : decode code 283 = .ok (.invokevirtual 43, 3) := by decide +kernel
theorem d_law_286 : decode code 286 = .ok (.if_icmp .eq 363, 3) := by decide +kernel
theorem d_law_289 : decode code 289 = .ok (.iconst 0, 1) := by decide +kernel
theorem d_law_290 : decode code 290 = .ok (.ireturn, 1) := by decide +kernel
theorem d_law_291 : decode code 291 = .ok (.aload_n 1, 1) := by decide +kernel
theorem d_law_292 : decode code 292 = .ok (.invokevirtual 44, 3) := by decide +kernel
theorem d_law_295 : decode code 295 = .ok (.aload_n 2, 1) := by decide +kernel
theorem d_law_296 : decode code 296 = .ok (.invokevirtual 47, 3) := by decide +kernel
theorem d_law_299 : decode code 299 = .ok (.if_icmp .eq 350, 3) := by decide +kernel
theorem d_law_302 : decode code 302 = .ok (.iconst 0, 1) := by decide +kernel
theorem d_law_303 : decode code 303 = .ok (.ireturn, 1) := by decide +kernel
theorem d_law_304 : decode code 304 = .ok (.aload_n 1, 1) := by decide +kernel
theorem d_law_305 : decode code 305 = .ok (.aload_n 0, 1) := by decide +kernel
theorem d_law_306 : decode code 306 = .ok (.iload_n 3, 1) := by decide +kernel
theorem d_law_307 : decode code 307 = .ok (.iconst 1, 1) := by decide +kernel
theorem d_law_308 : decode code 308 = .ok (.iadd, 1) := by decide +kernel
theorem d_law_309 : decode code 309 = .ok (.iaload, 1) := by decide +kernel
theorem d_law_310 : decode code 310 = .ok (.invokevirtual 48, 3) := by decide +kernel
theorem d_law_313 : decode code 313 = .ok (.aload_n 2, 1) := by decide +kernel
theorem d_law_314 : decode code 314 = .ok (.aload_n 0, 1) := by decide +kernel
theorem d_law_315 : decode code 315 = .ok (.iload_n 3, 1) := by decide +kernel
theorem d_law_316 : decode code 316 = .ok (.iconst 1, 1) := by decide +kernel
theorem d_law_317 : decode code 317 = .ok (.iadd, 1) := by decide +kernel
theorem d_law_318 : decode code 318 = .ok (.iaload, 1) := by decide +kernel
theorem d_law_319 : decode code 319 = .ok (.invokevirtual 51, 3) := by decide +kernel
theorem d_law_322 : decode code 322 = .ok (.if_icmp .eq 327, 3) := by decide +kernel
theorem d_law_325 : decode code 325 = .ok (.iconst 0, 1) := by decide +kernel
theorem d_law_326 : decode code 326 = .ok (.ireturn, 1) := by decide +kernel
theorem d_law_327 : decode code 327 = .ok (.aload_n 1, 1) := by decide +kernel
theorem d_law_328 : decode code 328 = .ok (.aload_n 0, 1) := by decide +kernel
theorem d_law_329 : decode code 329 = .ok (.iload_n 3, 1) := by decide +kernel
theorem d_law_330 : decode code 330 = .ok (.iconst 1, 1) := by decide +kernel
theorem d_law_331 : decode code 331 = .ok (.iadd, 1) := by decide +kernel
theorem d_law_332 : decode code 332 = .ok (.iaload, 1) := by decide +kernel
theorem d_law_333 : decode code 333 = .ok (.aload_n 0, 1) := by decide +kernel
theorem d_law_334 : decode code 334 = .ok (.iload_n 3, 1) := by decide +kernel
theorem d_law_335 : decode code 335 = .ok (.iconst 2, 1) := by decide +kernel
theorem d_law_336 : decode code 336 = .ok (.iadd, 1) := by decide +kernel
theorem d_law_337 : decode code 337 = .ok (.iaload, 1) := by decide +kernel
theorem d_law_338 : decode code 338 = .ok (.invokevirtual 52, 3) := by decide +kernel
theorem d_law_341 : decode code 341 = .ok (.aload_n 2, 1) := by decide +kernel
theorem d_law_342 : decode code 342 = .ok (.aload_n 0, 1) := by decide +kernel
theorem d_law_343 : decode code 343 = .ok (.iload_n 3, 1) := by decide +kernel
theorem d_law_344 : decode code 344 = .ok (.iconst 1, 1) := by decide +kernel
theorem d_law_345 : decode code 345 = .ok (.iadd, 1) := by decide +kernel
theorem d_law_346 : decode code 346 = .ok (.iaload, 1) := by decide +kernel
theorem d_law_347 : decode code 347 = .ok (.aload_n 0, 1) := by decide +kernel
theorem d_law_348 : decode code 348 = .ok (.iload_n 3, 1) := by decide +kernel
theorem d_law_349 : decode code 349 = .ok (.iconst 2, 1) := by decide +kernel
theorem d_law_350 : decode code 350 = .ok (.iadd, 1) := by decide +kernel
theorem d_law_351 : decode code 351 = .ok (.iaload, 1) := by decide +kernel
theorem d_law_352 : decode code 352 = .ok (.invokevirtual 55, 3) := by decide +kernel
theorem d_law_355 : decode code 355 = .ok (.if_icmp .eq 294, 3) := by decide +kernel
theorem d_law_358 : decode code 358 = .ok (.iconst 0, 1) := by decide +kernel
theorem d_law_359 : decode code 359 = .ok (.ireturn, 1) := by decide +kernel
theorem d_law_360 : decode code 360 = .ok (.aload_n 1, 1) := by decide +kernel
theorem d_law_361 : decode code 361 = .ok (.aload_n 0, 1) := by decide +kernel
theorem d_law_362 : decode code 362 = .ok (.iload_n 3, 1) := by decide +kernel
theorem d_law_363 : decode code 363 = .ok (.iconst 1, 1) := by decide +kernel
theorem d_law_364 : decode code 364 = .ok (.iadd, 1) := by decide +kernel
theorem d_law_365 : decode code 365 = .ok (.iaload, 1) := by decide +kernel
theorem d_law_366 : decode code 366 = .ok (.invokevirtual 56, 3) := by decide +kernel
theorem d_law_369 : decode code 369 = .ok (.aload_n 2, 1) := by decide +kernel
theorem d_law_370 : decode code 370 = .ok (.aload_n 0, 1) := by decide +kernel
theorem d_law_371 : decode code 371 = .ok (.iload_n 3, 1) := by decide +kernel
theorem d_law_372 : decode code 372 = .ok (.iconst 1, 1) := by decide +kernel
theorem d_law_373 : decode code 373 = .ok (.iadd, 1) := by decide +kernel
theorem d_law_374 : decode code 374 = .ok (.iaload, 1) := by decide +kernel
theorem d_law_375 : decode code 375 = .ok (.invokevirtual 59, 3) := by decide +kernel
theorem d_law_378 : decode code 378 = .ok (.if_icmp .eq 271, 3) := by decide +kernel
theorem d_law_381 : decode code 381 = .ok (.iconst 0, 1) := by decide +kernel
end
section
theorem d_law_382 : decode code 382 = .ok (.ireturn, 1) := by decide +kernel
theorem d_law_383 : decode code 383 = .ok (.aload_n 1, 1) := by decide +kernel
theorem d_law_384 : decode code 384 = .ok (.aload_n 0, 1) := by decide +kernel
theorem d_law_385 : decode code 385 = .ok (.iload_n 3, 1) := by decide +kernel
theorem d_law_386 : decode code 386 = .ok (.iconst 1, 1) := by decide +kernel
theorem d_law_387 : decode code 387 = .ok (.iadd, 1) := by decide +kernel
theorem d_law_388 : decode code 388 = .ok (.iaload, 1) := by decide +kernel
theorem d_law_389 : decode code 389 = .ok (.aload_n 0, 1) := by decide +kernel
theorem d_law_390 : decode code 390 = .ok (.iload_n 3, 1) := by decide +kernel
theorem d_law_391 : decode code 391 = .ok (.iconst 2, 1) := by decide +kernel
theorem d_law_392 : decode code 392 = .ok (.iadd, 1) := by decide +kernel
theorem d_law_393 : decode code 393 = .ok (.iaload, 1) := by decide +kernel
theorem d_law_394 : decode code 394 = .ok (.invokevirtual 60, 3) := by decide +kernel
theorem d_law_397 : decode code 397 = .ok (.aload_n 2, 1) := by decide +kernel
theorem d_law_398 : decode code 398 = .ok (.aload_n 0, 1) := by decide +kernel
theorem d_law_399 : decode code 399 = .ok (.iload_n 3, 1) := by decide +kernel
theorem d_law_400 : decode code 400 = .ok (.iconst 1, 1) := by decide +kernel
theorem d_law_401 : decode code 401 = .ok (.iadd, 1) := by decide +kernel
theorem d_law_402 : decode code 402 = .ok (.iaload, 1) := by decide +kernel
theorem d_law_403 : decode code 403 = .ok (.aload_n 0, 1) := by decide +kernel
theorem d_law_404 : decode code 404 = .ok (.iload_n 3, 1) := by decide +kernel
theorem d_law_405 : decode code 405 = .ok (.iconst 2, 1) := by decide +kernel
theorem d_law_406 : decode code 406 = .ok (.iadd, 1) := by decide +kernel
theorem d_law_407 : decode code 407 = .ok (.iaload, 1) := by decide +kernel
theorem d_law_408 : decode code 408 = .ok (.invokevirtual 63, 3) := by decide +kernel
theorem d_law_411 : decode code 411 = .ok (.if_icmp .eq 238, 3) := by decide +kernel
theorem d_law_414 : decode code 414 = .ok (.iconst 0, 1) := by decide +kernel
theorem d_law_415 : decode code 415 = .ok (.ireturn, 1) := by decide +kernel
theorem d_law_416 : decode code 416 = .ok (.aload_n 1, 1) := by decide +kernel
theorem d_law_417 : decode code 417 = .ok (.aload_n 0, 1) := by decide +kernel
theorem d_law_418 : decode code 418 = .ok (.iload_n 3, 1) := by decide +kernel
theorem d_law_419 : decode code 419 = .ok (.iconst 1, 1) := by decide +kernel
theorem d_law_420 : decode code 420 = .ok (.iadd, 1) := by decide +kernel
theorem d_law_421 : decode code 421 = .ok (.iaload, 1) := by decide +kernel
theorem d_law_422 : decode code 422 = .ok (.aload_n 0, 1) := by decide +kernel
theorem d_law_423 : decode code 423 = .ok (.iload_n 3, 1) := by decide +kernel
theorem d_law_424 : decode code 424 = .ok (.iconst 2, 1) := by decide +kernel
theorem d_law_425 : decode code 425 = .ok (.iadd, 1) := by decide +kernel
theorem d_law_426 : decode code 426 = .ok (.iaload, 1) := by decide +kernel
theorem d_law_427 : decode code 427 = .ok (.invokevirtual 64, 3) := by decide +kernel
theorem d_law_430 : decode code 430 = .ok (.aload_n 2, 1) := by decide +kernel
theorem d_law_431 : decode code 431 = .ok (.aload_n 0, 1) := by decide +kernel
theorem d_law_432 : decode code 432 = .ok (.iload_n 3, 1) := by decide +kernel
theorem d_law_433 : decode code 433 = .ok (.iconst 1, 1) := by decide +kernel
theorem d_law_434 : decode code 434 = .ok (.iadd, 1) := by decide +kernel
theorem d_law_435 : decode code 435 = .ok (.iaload, 1) := by decide +kernel
theorem d_law_436 : decode code 436 = .ok (.aload_n 0, 1) := by decide +kernel
theorem d_law_437 : decode code 437 = .ok (.iload_n 3, 1) := by decide +kernel
theorem d_law_438 : decode code 438 = .ok (.iconst 2, 1) := by decide +kernel
theorem d_law_439 : decode code 439 = .ok (.iadd, 1) := by decide +kernel
theorem d_law_440 : decode code 440 = .ok (.iaload, 1) := by decide +kernel
theorem d_law_441 : decode code 441 = .ok (.invokevirtual 67, 3) := by decide +kernel
theorem d_law_444 : decode code 444 = .ok (.if_icmp .eq 205, 3) := by decide +kernel
theorem d_law_447 : decode code 447 = .ok (.iconst 0, 1) := by decide +kernel
theorem d_law_448 : decode code 448 = .ok (.ireturn, 1) := by decide +kernel
theorem d_law_449 : decode code 449 = .ok (.aload_n 1, 1) := by decide +kernel
theorem d_law_450 : decode code 450 = .ok (.invokevirtual 68, 3) := by decide +kernel
theorem d_law_453 : decode code 453 = .ok (.aload_n 2, 1) := by decide +kernel
theorem d_law_454 : decode code 454 = .ok (.invokevirtual 71, 3) := by decide +kernel
theorem d_law_457 : decode code 457 = .ok (.if_icmp .eq 192, 3) := by decide +kernel
theorem d_law_460 : decode code 460 = .ok (.iconst 0, 1) := by decide +kernel
theorem d_law_461 : decode code 461 = .ok (.ireturn, 1) := by decide +kernel
theorem d_law_462 : decode code 462 = .ok (.aload_n 1, 1) := by decide +kernel
theorem d_law_463 : decode code 463 = .ok (.aload_n 0, 1) := by decide +kernel
theorem d_law_464 : decode code 464 = .ok (.iload_n 3, 1) := by decide +kernel
theorem d_law_465 : decode code 465 = .ok (.iconst 1, 1) := by decide +kernel
theorem d_law_466 : decode code 466 = .ok (.iadd, 1) := by decide +kernel
theorem d_law_467 : decode code 467 = .ok (.iaload, 1) := by decide +kernel
theorem d_law_468 : decode code 468 = .ok (.invokevirtual 72, 3) := by decide +kernel
theorem d_law_471 : decode code 471 = .ok (.aload_n 2, 1) := by decide +kernel
theorem d_law_472 : decode code 472 = .ok (.aload_n 0, 1) := by decide +kernel
theorem d_law_473 : decode code 473 = .ok (.iload_n 3, 1) := by decide +kernel
theorem d_law_474 : decode code 474 = .ok (.iconst 1, 1) := by decide +kernel
theorem d_law_475 : decode code 475 = .ok (.iadd, 1) := by decide +kernel
theorem d_law_476 : decode code 476 = .ok (.iaload, 1) := by decide +kernel
theorem d_law_477 : decode code 477 = .ok (.invokevirtual 75, 3) := by decide +kernel
theorem d_law_480 : decode code 480 = .ok (.if_icmp .eq 169, 3) := by decide +kernel
theorem d_law_483 : decode code 483 = .ok (.iconst 0, 1) := by decide +kernel
theorem d_law_484 : decode code 484 = .ok (.ireturn, 1) := by decide +kernel
theorem d_law_485 : decode code 485 = .ok (.aload_n 1, 1) := by decide +kernel
theorem d_law_486 : decode code 486 = .ok (.aload_n 0, 1) := by decide +kernel
theorem d_law_487 : decode code 487 = .ok (.iload_n 3, 1) := by decide +kernel
theorem d_law_488 : decode code 488 = .ok (.iconst 1, 1) := by decide +kernel
theorem d_law_489 : decode code 489 = .ok (.iadd, 1) := by decide +kernel
theorem d_law_490 : decode code 490 = .ok (.iaload, 1) := by decide +kernel
theorem d_law_491 : decode code 491 = .ok (.aload_n 0, 1) := by decide +kernel
theorem d_law_492 : decode code 492 = .ok (.iload_n 3, 1) := by decide +kernel
theorem d_law_493 : decode code 493 = .ok (.iconst 2, 1) := by decide +kernel
theorem d_law_494 : decode code 494 = .ok (.iadd, 1) := by decide +kernel
theorem d_law_495 : decode code 495 = .ok (.iaload, 1) := by decide +kernel
theorem d_law_496 : decode code 496 = .ok (.invokevirtual 76, 3) := by decide +kernel
theorem d_law_499 : decode code 499 = .ok (.aload_n 2, 1) := by decide +kernel
theorem d_law_500 : decode code 500 = .ok (.aload_n 0, 1) := by decide +kernel
theorem d_law_501 : decode code 501 = .ok (.iload_n 3, 1) := by decide +kernel
theorem d_law_502 : decode code 502 = .ok (.iconst 1, 1) := by decide +kernel
theorem d_law_503 : decode code 503 = .ok (.iadd, 1) := by decide +kernel
theorem d_law_504 : decode code 504 = .ok (.iaload, 1) := by decide +kernel
theorem d_law_505 : decode code 505 = .ok (.aload_n 0, 1) := by decide +kernel
theorem d_law_506 : decode code 506 = .ok (.iload_n 3, 1) := by decide +kernel
theorem d_law_507 : decode code 507 = .ok (.iconst 2, 1) := by decide +kernel
theorem d_law_508 : decode code 508 = .ok (.iadd, 1) := by decide +kernel
theorem d_law_509 : decode code 509 = .ok (.iaload, 1) := by decide +kernel
theorem d_law_510 : decode code 510 = .ok (.invokevirtual 79, 3) := by decide +kernel
theorem d_law_513 : decode code 513 = .ok (.if_icmp .eq 136, 3) := by decide +kernel
theorem d_law_516 : decode code 516 = .ok (.iconst 0, 1) := by decide +kernel
theorem d_law_517 : decode code 517 = .ok (.ireturn, 1) := by decide +kernel
theorem d_law_518 : decode code 518 = .ok (.aload_n 1, 1) := by decide +kernel
theorem d_law_519 : decode code 519 = .ok (.aload_n 0, 1) := by decide +kernel
theorem d_law_520 : decode code 520 = .ok (.iload_n 3, 1) := by decide +kernel
theorem d_law_521 : decode code 521 = .ok (.iconst 1, 1) := by decide +kernel
theorem d_law_522 : decode code 522 = .ok (.iadd, 1) := by decide +kernel
theorem d_law_523 : decode code 523 = .ok (.iaload, 1) := by decide +kernel
theorem d_law_524 : decode code 524 = .ok (.invokevirtual 80, 3) := by decide +kernel
theorem d_law_527 : decode code 527 = .ok (.aload_n 2, 1) := by decide +kernel
theorem d_law_528 : decode code 528 = .ok (.aload_n 0, 1) := by decide +kernel
theorem d_law_529 : decode code 529 = .ok (.iload_n 3, 1) := by decide +kernel
theorem d_law_530 : decode code 530 = .ok (.iconst 1, 1) := by decide +kernel
theorem d_law_531 : decode code 531 = .ok (.iadd, 1) := by decide +kernel
theorem d_law_532 : decode code 532 = .ok (.iaload, 1) := by decide +kernel
theorem d_law_533 : decode code 533 = .ok (.invokevirtual 83, 3) := by decide +kernel
theorem d_law_536 : decode code 536 = .ok (.if_icmp .eq 113, 3) := by decide +kernel
theorem d_law_539 : decode code 539 = .ok (.iconst 0, 1) := by decide +kernel
theorem d_law_540 : decode code 540 = .ok (.ireturn, 1) := by decide +kernel
theorem d_law_541 : decode code 541 = .ok (.aload_n 1, 1) := by decide +kernel
theorem d_law_542 : decode code 542 = .ok (.invokevirtual 84, 3) := by decide +kernel
theorem d_law_545 : decode code 545 = .ok (.aload_n 2, 1) := by decide +kernel
theorem d_law_546 : decode code 546 = .ok (.invokevirtual 87, 3) := by decide +kernel
theorem d_law_549 : decode code 549 = .ok (.if_icmp .eq 100, 3) := by decide +kernel
theorem d_law_552 : decode code 552 = .ok (.iconst 0, 1) := by decide +kernel
theorem d_law_553 : decode code 553 = .ok (.ireturn, 1) := by decide +kernel
theorem d_law_554 : decode code 554 = .ok (.aload_n 1, 1) := by decide +kernel
theorem d_law_555 : decode code 555 = .ok (.aload_n 0, 1) := by decide +kernel
theorem d_law_556 : decode code 556 = .ok (.iload_n 3, 1) := by decide +kernel
theorem d_law_557 : decode code 557 = .ok (.iconst 1, 1) := by decide +kernel
theorem d_law_558 : decode code 558 = .ok (.iadd, 1) := by decide +kernel
theorem d_law_559 : decode code 559 = .ok (.iaload, 1) := by decide +kernel
theorem d_law_560 : decode code 560 = .ok (.invokevirtual 88, 3) := by decide +kernel
theorem d_law_563 : decode code 563 = .ok (.aload_n 2, 1) := by decide +kernel
theorem d_law_564 : decode code 564 = .ok (.aload_n 0, 1) := by decide +kernel
theorem d_law_565 : decode code 565 = .ok (.iload_n 3, 1) := by decide +kernel
theorem d_law_566 : decode code 566 = .ok (.iconst 1, 1) := by decide +kernel
theorem d_law_567 : decode code 567 = .ok (.iadd, 1) := by decide +kernel
theorem d_law_568 : decode code 568 = .ok (.iaload, 1) := by decide +kernel
theorem d_law_569 : decode code 569 = .ok (.invokevirtual 91, 3) := by decide +kernel
theorem d_law_572 : decode code 572 = .ok (.if_icmp .eq 77, 3) := by decide +kernel
theorem d_law_575 : decode code 575 = .ok (.iconst 0, 1) := by decide +kernel
theorem d_law_576 : decode code 576 = .ok (.ireturn, 1) := by decide +kernel
theorem d_law_577 : decode code 577 = .ok (.aload_n 1, 1) := by decide +kernel
theorem d_law_578 : decode code 578 = .ok (.invokevirtual 92, 3) := by decide +kernel
theorem d_law_581 : decode code 581 = .ok (.aload_n 2, 1) := by decide +kernel
theorem d_law_582 : decode code 582 = .ok (.invokevirtual 95, 3) := by decide +kernel
theorem d_law_585 : decode code 585 = .ok (.if_icmp .eq 64, 3) := by decide +kernel
theorem d_law_588 : decode code 588 = .ok (.iconst 0, 1) := by decide +kernel
theorem d_law_589 : decode code 589 = .ok (.ireturn, 1) := by decide +kernel
theorem d_law_590 : decode code 590 = .ok (.aload_n 1, 1) := by decide +kernel
theorem d_law_591 : decode code 591 = .ok (.invokevirtual 96, 3) := by decide +kernel
theorem d_law_594 : decode code 594 = .ok (.aload_n 2, 1) := by decide +kernel
theorem d_law_595 : decode code 595 = .ok (.invokevirtual 99, 3) := by decide +kernel
theorem d_law_598 : decode code 598 = .ok (.if_icmp .eq 51, 3) := by decide +kernel
theorem d_law_601 : decode code 601 = .ok (.iconst 0, 1) := by decide +kernel
theorem d_law_602 : decode code 602 = .ok (.ireturn, 1) := by decide +kernel
theorem d_law_603 : decode code 603 = .ok (.aload_n 1, 1) := by decide +kernel
theorem d_law_604 : decode code 604 = .ok (.aload_n 0, 1) := by decide +kernel
theorem d_law_605 : decode code 605 = .ok (.iload_n 3, 1) := by decide +kernel
theorem d_law_606 : decode code 606 = .ok (.iconst 1, 1) := by decide +kernel
theorem d_law_607 : decode code 607 = .ok (.iadd, 1) := by decide +kernel
theorem d_law_608 : decode code 608 = .ok (.iaload, 1) := by decide +kernel
theorem d_law_609 : decode code 609 = .ok (.invokevirtual 100, 3) := by decide +kernel
theorem d_law_612 : decode code 612 = .ok (.aload_n 2, 1) := by decide +kernel
theorem d_law_613 : decode code 613 = .ok (.aload_n 0, 1) := by decide +kernel
theorem d_law_614 : decode code 614 = .ok (.iload_n 3, 1) := by decide +kernel
theorem d_law_615 : decode code 615 = .ok (.iconst 1, 1) := by decide +kernel
theorem d_law_616 : decode code 616 = .ok (.iadd, 1) := by decide +kernel
theorem d_law_617 : decode code 617 = .ok (.iaload, 1) := by decide +kernel
theorem d_law_618 : decode code 618 = .ok (.invokevirtual 103, 3) := by decide +kernel
theorem d_law_621 : decode code 621 = .ok (.if_icmp .eq 28, 3) := by decide +kernel
theorem d_law_624 : decode code 624 = .ok (.iconst 0, 1) := by decide +kernel
theorem d_law_625 : decode code 625 = .ok (.ireturn, 1) := by decide +kernel
theorem d_law_626 : decode code 626 = .ok (.aload_n 1, 1) := by decide +kernel
theorem d_law_627 : decode code 627 = .ok (.aload_n 0, 1) := by decide +kernel
theorem d_law_628 : decode code 628 = .ok (.iload_n 3, 1) := by decide +kernel
theorem d_law_629 : decode code 629 = .ok (.iconst 1, 1) := by decide +kernel
theorem d_law_630 : decode code 630 = .ok (.iadd, 1) := by decide +kernel
theorem d_law_631 : decode code 631 = .ok (.iaload, 1) := by decide +kernel
theorem d_law_632 : decode code 632 = .ok (.invokevirtual 104, 3) := by decide +kernel
theorem d_law_635 : decode code 635 = .ok (.aload_n 2, 1) := by decide +kernel
theorem d_law_636 : decode code 636 = .ok (.aload_n 0, 1) := by decide +kernel
theorem d_law_637 : decode code 637 = .ok (.iload_n 3, 1) := by decide +kernel
theorem d_law_638 : decode code 638 = .ok (.iconst 1, 1) := by decide +kernel
theorem d_law_639 : decode code 639 = .ok (.iadd, 1) := by decide +kernel
theorem d_law_640 : decode code 640 = .ok (.iaload, 1) := by decide +kernel
theorem d_law_641 : decode code 641 = .ok (.invokevirtual 107, 3) := by decide +kernel
theorem d_law_644 : decode code 644 = .ok (.if_icmp .eq 5, 3) := by decide +kernel
theorem d_law_647 : decode code 647 = .ok (.iconst 0, 1) := by decide +kernel
theorem d_law_648 : decode code 648 = .ok (.ireturn, 1) := by decide +kernel
theorem d_law_649 : decode code 649 = .ok (.iinc 3 3, 3) := by decide +kernel
theorem d_law_652 : decode code 652 = .ok (.goto (-634), 3) := by decide +kernel
theorem d_law_655 : decode code 655 = .ok (.iconst 1, 1) := by decide +kernel
theorem d_law_656 : decode code 656 = .ok (.ireturn, 1) := by decide +kernel
end
section
/-! the standing facts of a method, its world, its contract; rows for numbers that are naturals -/
def zZ (own : String) (p : Program) (s : State) (m : MethodId) (c : Code) (args : Array Value) (cc : ByteArray) (nL : Nat) (D : va_G) (cI cZ : ClassId) : Prop :=
  p.tables.exec = Jvm.exec ∧ c.code = cc ∧ c.maxLocals = nL ∧ s.vm.findClass own = some m.cls ∧ (∀ w ∈ zw_tbl, w.before args s = true) ∧ va_K D zcl [(cI, .int), (cZ, .boolean)] s
def zH (D : va_G) (A : Nat → Prop) (H0 : Heap) (ws : va_W) (H : Heap) (locs : List Loc) : Prop := va_P D zcl ws H ∧ va_D A ws ∧ va_S A H0 H locs
def zB (D : va_G) (cI cZ : ClassId) {S : Type} (wf : S → va_W) (A : Nat → Prop) (σ : S) (t : State) : Prop := va_P D zcl (wf σ) t.heap ∧ va_K D zcl [(cI, .int), (cZ, .boolean)] t ∧ va_D A (wf σ)
def zPc (D : va_G) (cI cZ : ClassId) (ws : va_W) (sz : Nat) (av : List Value) : Array Value → State → Prop := va_Pc av (fun U => U.heap.size = sz ∧ va_P D zcl ws U.heap ∧ va_K D zcl [(cI, .int), (cZ, .boolean)] U ∧ va_D (fun _ => True) ws)
/-- the contract of a method that answers an int (or a boolean): over the world wf σ it comes back with 'post answer σ'' over wf σ' -/
def zMi (l : Launch) (y : MethodName) (b : ByteArray) (n : Nat) (ret : Option FieldType) (rm : Room) (D : va_G) (cI cZ : ClassId) {S : Type} (wf : S → va_W) (av : List Value) (σ : S) (post : Int32 → S → Prop) : Prop :=
  ∀ sz : Nat, Met l y (.code y b n ret :: zw_tbl) rm (zPc D cI cZ (wf σ) sz av) (va_Qi post (zB D cI cZ wf (va_A (wf σ) sz)) (va_A (wf σ) sz)) 0 0 (va_A (wf σ) sz)
/-- the same of a void method -/
def zMv (l : Launch) (y : MethodName) (b : ByteArray) (n : Nat) (ret : Option FieldType) (rm : Room) (D : va_G) (cI cZ : ClassId) {S : Type} (wf : S → va_W) (av : List Value) (σ : S) (post : S → Prop) : Prop :=
  ∀ sz : Nat, Met l y (.code y b n ret :: zw_tbl) rm (zPc D cI cZ (wf σ) sz av) (va_Qv post (zB D cI cZ wf (va_A (wf σ) sz)) (va_A (wf σ) sz)) 0 0 (va_A (wf σ) sz)
theorem zMi.of {l : Launch} {y : MethodName} {b : ByteArray} {n : Nat} {ret : Option FieldType} {rm : Room} {D : va_G} {cI cZ : ClassId} {S : Type} {wf : S → va_W} {av : List Value} {σ : S} {post : Int32 → S → Prop} (own : String) (hc : y.cls = own) (hy : plainName y.cls = true) (hav : (lg_sl av).length ≤ n)
    (body : ∀ (p : Program) (e : Env) (s : State) (m : MethodId) (args : Array Value) (below : List Frame) (meth : Method) (c : Code) (A : Nat → Prop) (ls : Array Slot), zZ own p s m c args b n D cI cZ → meth.sig.returnType = ret → meth.locks = false → (∀ q, s.heap.size ≤ q → A q) → zH D A s.heap (wf σ) s.heap [] → lv_has ls n (lv_args 0 av) →
      W p l e rm s m args below meth c s.heap [] 0 0 (MQ below (va_Qi post (zB D cI cZ wf A) A) args s 0 0 A) (F0 m 0 ls [])) : zMi l y b n ret rm D cI cZ wf av σ post := by
  intro sz
  refine Met.ofW (cc := b) (maxL := n) (ret := ret) hy rfl ?_
  intro p e s m args below meth c s₁ B hml hv
  obtain ⟨rfl, hsz, hP, hK, hD0⟩ := hv
  subst hsz
  have hts := atoms_spec (ws := .code y b n ret :: zw_tbl) B.pre
  have hown : s.vm.findClass own = some m.cls := hc ▸ findClass_of_methodNamed B.named
  have hl := lv_entry av (n := n) hav
  rw [lg_entry_eq]
  exact body p e s m _ below meth c _ _ ⟨B.exec, B.bytes, hml, hown, fun w hw => hts w (List.mem_cons_of_mem _ hw), hK⟩ B.returns B.notSynchronized (fun q h => Or.inr h) ⟨hP, hD0.self, va_S.rf⟩ hl
theorem zMv.of {l : Launch} {y : MethodName} {b : ByteArray} {n : Nat} {ret : Option FieldType} {rm : Room} {D : va_G} {cI cZ : ClassId} {S : Type} {wf : S → va_W} {av : List Value} {σ : S} {post : S → Prop} (own : String) (hc : y.cls = own) (hy : plainName y.cls = true) (hav : (lg_sl av).length ≤ n)
    (body : ∀ (p : Program) (e : Env) (s : State) (m : MethodId) (args : Array Value) (below : List Frame) (meth : Method) (c : Code) (A : Nat → Prop) (ls : Array Slot), zZ own p s m c args b n D cI cZ → meth.sig.returnType = ret → meth.locks = false → (∀ q, s.heap.size ≤ q → A q) → zH D A s.heap (wf σ) s.heap [] → lv_has ls n (lv_args 0 av) →
      W p l e rm s m args below meth c s.heap [] 0 0 (MQ below (va_Qv post (zB D cI cZ wf A) A) args s 0 0 A) (F0 m 0 ls [])) : zMv l y b n ret rm D cI cZ wf av σ post := by
  intro sz
  refine Met.ofW (cc := b) (maxL := n) (ret := ret) hy rfl ?_
  intro p e s m args below meth c s₁ B hml hv
  obtain ⟨rfl, hsz, hP, hK, hD0⟩ := hv
  subst hsz
  have hts := atoms_spec (ws := .code y b n ret :: zw_tbl) B.pre
  have hown : s.vm.findClass own = some m.cls := hc ▸ findClass_of_methodNamed B.named
  have hl := lv_entry av (n := n) hav
  rw [lg_entry_eq]
  exact body p e s m _ below meth c _ _ ⟨B.exec, B.bytes, hml, hown, fun w hw => hts w (List.mem_cons_of_mem _ hw), hK⟩ B.returns B.notSynchronized (fun q h => Or.inr h) ⟨hP, hD0.self, va_S.rf⟩ hl
/-- what a call of y at the pool's entry idx of class own stands on -/
def zOk (own : String) (idx : Nat) (y : MethodName) (b : ByteArray) (n : Nat) (ret : Option FieldType) (k : Nat) : Prop :=
  Cond.methodLink own idx y ∈ zw_tbl ∧ Cond.instanceMethod y ∈ zw_tbl ∧ Cond.selects y.cls y y ∈ zw_tbl ∧ Cond.initialized y.cls ∈ zw_tbl ∧ Cond.code y b n ret ∈ zw_tbl ∧ (y.cls ≠ "java/lang/invoke/MethodHandle" ∧ y.cls ≠ "java/lang/invoke/VarHandle" ∧ (parseMethodDescriptor y.desc).map (fun d => d.parameters.length) = some k)
def zOkS (own : String) (idx : Nat) (y : MethodName) (b : ByteArray) (n : Nat) (ret : Option FieldType) (k : Nat) : Prop :=
  Cond.methodLink own idx y ∈ zw_tbl ∧ Cond.static y ∈ zw_tbl ∧ Cond.initialized y.cls ∈ zw_tbl ∧ Cond.code y b n ret ∈ zw_tbl ∧ (y.cls ≠ "java/lang/invoke/MethodHandle" ∧ y.cls ≠ "java/lang/invoke/VarHandle" ∧ (parseMethodDescriptor y.desc).map (fun d => d.parameters.length) = some k)
/-- the callee's room fits the caller's -/
def zRm (rm : Room) (n : Nat) (R : Room) : Prop := rm.cells = 0 ∧ rm.slots = 0 ∧ rm.frames + 1 ≤ R.frames ∧ 8 + (n + 11) + rm.locals ≤ R.locals
theorem zw_goodIn {y : MethodName} {b : ByteArray} {n : Nat} {ret : Option FieldType} (h : Cond.code y b n ret ∈ zw_tbl) : GoodIn zw_tbl (.code y b n ret :: zw_tbl) := fun w hw => by
  rcases List.mem_cons.mp hw with rfl | hw
  · exact ⟨h, (zw_good h).2⟩
  · exact ⟨hw, (zw_good hw).2⟩
theorem z_fm {is : List Nat} {ws wc : va_W} (h : is.map (fun i => ws[i]?) = wc.map some) : is.filterMap (fun i => ws[i]?) = wc := by
  have h1 : is.filterMap (fun i => ws[i]?) = (is.map (fun i => ws[i]?)).filterMap id := by rw [List.filterMap_map]; rfl
  rw [h1, h, List.filterMap_map]
  show wc.filterMap some = wc
  exact List.filterMap_some
section ZR
variable {p : Program} {l : Launch} {e : Env} {R : Room} {s : State} {m : MethodId} {args : Array Value} {below : List Frame} {meth : Method} {c : Code} {H : Heap} {locs : List Loc} {cells slots : Nat} {Q : State → Prop}
variable {cc : ByteArray} {pc : Nat} {ls : Array Slot} {rest : List Value} {D : va_G} {cI cZ : ClassId} {A : Nat → Prop} {own : String} {nL : Nat} {S : Type}
theorem zret_i (Z : zZ own p s m c args cc nL D cI cZ) (hr : meth.sig.returnType = some .int) (hlocks : meth.locks = false) {wf : S → va_W} (σ' : S) (hH : zH D A s.heap (wf σ') H locs) {post : Int32 → S → Prop} {r : Int32} (hdg : decode cc pc = .ok (.ireturn, 1)) (hp : post r σ') : W p l e R s m args below meth c H locs 0 0 (MQ below (va_Qi post (zB D cI cZ wf A) A) args s 0 0 A) (F0 m pc ls [.int r]) :=
  W.iret Z.1 Z.2.1 hr (fun t ht hW => ⟨⟨r, σ', rfl, hp, by rw [ht]; exact hH.1, va_K.moved hW.alike Z.2.2.2.2.2, hH.2.1⟩, hH.2.2.F ht⟩) hH.2.2.2.2 hdg hlocks
theorem zret_z (Z : zZ own p s m c args cc nL D cI cZ) (hr : meth.sig.returnType = some .boolean) (hlocks : meth.locks = false) {wf : S → va_W} (σ' : S) (hH : zH D A s.heap (wf σ') H locs) {post : Int32 → S → Prop} {r : Int32} (hdg : decode cc pc = .ok (.ireturn, 1)) (hv : narrow .boolean (.int r) = .int r) (hp : post r σ') : W p l e R s m args below meth c H locs 0 0 (MQ below (va_Qi post (zB D cI cZ wf A) A) args s 0 0 A) (F0 m pc ls [.int r]) :=
  W.zret Z.1 Z.2.1 hr hv (fun t ht hW => ⟨⟨r, σ', rfl, hp, by rw [ht]; exact hH.1, va_K.moved hW.alike Z.2.2.2.2.2, hH.2.1⟩, hH.2.2.F ht⟩) hH.2.2.2.2 hdg hlocks
theorem zret_v (Z : zZ own p s m c args cc nL D cI cZ) (hr : meth.sig.returnType = none) (hlocks : meth.locks = false) {wf : S → va_W} (σ' : S) (hH : zH D A s.heap (wf σ') H locs) {post : S → Prop} (hdg : decode cc pc = .ok (.return_, 1)) (hp : post σ') : W p l e R s m args below meth c H locs 0 0 (MQ below (va_Qv post (zB D cI cZ wf A) A) args s 0 0 A) (F0 m pc ls []) :=
  W.vret Z.1 Z.2.1 hr (fun t ht hW => ⟨⟨σ', rfl, hp, by rw [ht]; exact hH.1, va_K.moved hW.alike Z.2.2.2.2.2, hH.2.1⟩, hH.2.2.F ht⟩) hH.2.2.2.2 hdg hlocks
theorem zt {x : Int32} (y : Int32) (h : x = y) (kk : W p l e R s m args below meth c H locs cells slots Q (F0 m pc ls (.int y :: rest))) : W p l e R s m args below meth c H locs cells slots Q (F0 m pc ls (.int x :: rest)) := h ▸ kk
/-- a call, generally: the callee's cells are those at isC, the rest's at isR -/
theorem zcallG_i (Z : zZ own p s m c args cc nL D cI cZ) {y : MethodName} {b : ByteArray} {n idx : Nat} {ret : Option FieldType} {rm : Room} {wf : S → va_W} {As : List Value} {a : Nat} {σ : S} {post : Int32 → S → Prop} (hM : zMi l y b n ret rm D cI cZ wf (.ref a :: As) σ post) (ok : zOk own idx y b n ret As.length) (hrm : zRm rm n R)
    (h0 : ∃ (ci : Nat) (q : vw_C) (fs : List Value), zcl[ci]? = some q ∧ q.1 = y.cls ∧ (wf σ)[0]? = some (a, .inr (ci, fs))) (hA : ∀ q, s.heap.size ≤ q → A q) {ws wr : va_W} (hH : zH D A s.heap ws H locs) (isC isR : List Nat) (hC : isC.map (fun i => ws[i]?) = (wf σ).map some) (hR : isR.map (fun i => ws[i]?) = wr.map some) (hnC : va_nd isC = true) (hnR : va_nd isR = true) (hdis : ∀ i ∈ isR, i ∉ isC)
    (hl : ls.size = nL) (hrest : (rest.map fun v => v.category).sum ≤ 8) (hcs : cells ≤ R.cells ∧ slots ≤ R.slots) (hdg : decode cc pc = .ok (.invokevirtual idx, 3)) {st0 : List Value} (hst : st0 = As.reverse ++ .ref a :: rest)
    (kk : ∀ (r : Int32) (σ' : S) (H' : Heap) (locs' : List Loc), post r σ' → zH D A s.heap (wr ++ wf σ') H' locs' → W p l e R s m args below meth c H' locs' cells slots Q (F0 m (pc + 3) ls (.int r :: rest))) : W p l e R s m args below meth c H locs cells slots Q (F0 m pc ls st0) := by
  subst hst
  obtain ⟨hx, hb, hml, hown, hts, hK⟩ := Z
  obtain ⟨o1, o2, o3, o4, o5, o6⟩ := ok
  obtain ⟨r1, r2, r3, r4⟩ := hrm
  obtain ⟨hP, hD, hS⟩ := hH
  obtain ⟨ci, q, fs, z1, z2, z3⟩ := h0
  have hPc : va_P D zcl (wf σ) H := hP.sub isC (z_fm hC)
  have hDc : va_D A (wf σ) := hD.sub isC hnC hC
  have hFc := va_free hD hS hA isC hC
  have hrecv := va_recv hK hPc z1 z3
  rw [z2] at hrecv
  have cb := callB_of (own := own) (index := idx) (R := R) (mc := 0) (ms := 0) As.length hts (zw_goodIn o5) rfl r1 r2 (hts _ o4) (hts _ o1) o6 ⟨r3, r4⟩
  refine va_calli (va_runV (As := As) (rest := rest) (C := y.cls) ⟨hx, hb, hml, hown, hts⟩ (hM H.size) ⟨cb, hts _ o2, hts _ o3⟩ ⟨fun a U g mk q => by obtain ⟨q0, q1, qP, qK, qD⟩ := q; exact ⟨q0, q1, qP, va_K.moved (u := U) (U := U.calling g mk a) (Vm.Alike.refl U.vm) qK, qD⟩, hrecv, fun U hU hW => ⟨rfl, by rw [hU], by rw [hU]; exact hPc, va_K.moved hW.alike hK, hDc.weaken (fun _ _ _ _ => trivial)⟩⟩ rfl rfl hl rfl (lv_room hrest) hdg hcs) hS (fun q _ h => hFc q h) hFc (fun r u t H1 locs1 ht hvm hw hB hz1 hk1 hS1 => ?_)
  obtain ⟨hP1, hK1, hD1⟩ := hB
  rw [ht] at hP1
  obtain ⟨hP2, hD2⟩ := va_join hP hD isC isR hC hR hnR hdis hk1 hFc hP1 hD1
  exact kk r u H1 locs1 hw ⟨hP2, hD2, hS1⟩
theorem zcallG_v (Z : zZ own p s m c args cc nL D cI cZ) {y : MethodName} {b : ByteArray} {n idx : Nat} {ret : Option FieldType} {rm : Room} {wf : S → va_W} {As : List Value} {a : Nat} {σ : S} {post : S → Prop} (hM : zMv l y b n ret rm D cI cZ wf (.ref a :: As) σ post) (ok : zOk own idx y b n ret As.length) (hrm : zRm rm n R)
    (h0 : ∃ (ci : Nat) (q : vw_C) (fs : List Value), zcl[ci]? = some q ∧ q.1 = y.cls ∧ (wf σ)[0]? = some (a, .inr (ci, fs))) (hA : ∀ q, s.heap.size ≤ q → A q) {ws wr : va_W} (hH : zH D A s.heap ws H locs) (isC isR : List Nat) (hC : isC.map (fun i => ws[i]?) = (wf σ).map some) (hR : isR.map (fun i => ws[i]?) = wr.map some) (hnC : va_nd isC = true) (hnR : va_nd isR = true) (hdis : ∀ i ∈ isR, i ∉ isC)
    (hl : ls.size = nL) (hrest : (rest.map fun v => v.category).sum ≤ 8) (hcs : cells ≤ R.cells ∧ slots ≤ R.slots) (hdg : decode cc pc = .ok (.invokevirtual idx, 3)) {st0 : List Value} (hst : st0 = As.reverse ++ .ref a :: rest)
    (kk : ∀ (σ' : S) (H' : Heap) (locs' : List Loc), post σ' → zH D A s.heap (wr ++ wf σ') H' locs' → W p l e R s m args below meth c H' locs' cells slots Q (F0 m (pc + 3) ls rest)) : W p l e R s m args below meth c H locs cells slots Q (F0 m pc ls st0) := by
  subst hst
  obtain ⟨hx, hb, hml, hown, hts, hK⟩ := Z
  obtain ⟨o1, o2, o3, o4, o5, o6⟩ := ok
  obtain ⟨r1, r2, r3, r4⟩ := hrm
  obtain ⟨hP, hD, hS⟩ := hH
  obtain ⟨ci, q, fs, z1, z2, z3⟩ := h0
  have hPc : va_P D zcl (wf σ) H := hP.sub isC (z_fm hC)
  have hDc : va_D A (wf σ) := hD.sub isC hnC hC
  have hFc := va_free hD hS hA isC hC
  have hrecv := va_recv hK hPc z1 z3
  rw [z2] at hrecv
  have cb := callB_of (own := own) (index := idx) (R := R) (mc := 0) (ms := 0) As.length hts (zw_goodIn o5) rfl r1 r2 (hts _ o4) (hts _ o1) o6 ⟨r3, r4⟩
  refine va_callv (va_runV (As := As) (rest := rest) (C := y.cls) ⟨hx, hb, hml, hown, hts⟩ (hM H.size) ⟨cb, hts _ o2, hts _ o3⟩ ⟨fun a U g mk q => by obtain ⟨q0, q1, qP, qK, qD⟩ := q; exact ⟨q0, q1, qP, va_K.moved (u := U) (U := U.calling g mk a) (Vm.Alike.refl U.vm) qK, qD⟩, hrecv, fun U hU hW => ⟨rfl, by rw [hU], by rw [hU]; exact hPc, va_K.moved hW.alike hK, hDc.weaken (fun _ _ _ _ => trivial)⟩⟩ rfl rfl hl rfl (lv_room hrest) hdg hcs) hS (fun q _ h => hFc q h) hFc (fun u t H1 locs1 ht hvm hw hB hz1 hk1 hS1 => ?_)
  obtain ⟨hP1, hK1, hD1⟩ := hB
  rw [ht] at hP1
  obtain ⟨hP2, hD2⟩ := va_join hP hD isC isR hC hR hnR hdis hk1 hFc hP1 hD1
  exact kk u H1 locs1 hw ⟨hP2, hD2, hS1⟩
/-- a static call: the callee has no world -/
theorem zcallS_i (Z : zZ own p s m c args cc nL D cI cZ) {y : MethodName} {b : ByteArray} {n idx : Nat} {ret : Option FieldType} {rm : Room} {As : List Value} {post : Int32 → Unit → Prop} (hM : zMi l y b n ret rm D cI cZ (fun _ : Unit => []) As () post) (ok : zOkS own idx y b n ret As.length) (hrm : zRm rm n R)
    (hA : ∀ q, s.heap.size ≤ q → A q) {ws : va_W} (hH : zH D A s.heap ws H locs) (isR : List Nat) (hR : isR.map (fun i => ws[i]?) = ws.map some) (hnR : va_nd isR = true)
    (hl : ls.size = nL) (hrest : (rest.map fun v => v.category).sum ≤ 8) (hcs : cells ≤ R.cells ∧ slots ≤ R.slots) (hdg : decode cc pc = .ok (.invokestatic idx, 3)) {st0 : List Value} (hst : st0 = As.reverse ++ rest)
    (kk : ∀ (r : Int32) (H' : Heap) (locs' : List Loc), post r () → zH D A s.heap ws H' locs' → W p l e R s m args below meth c H' locs' cells slots Q (F0 m (pc + 3) ls (.int r :: rest))) : W p l e R s m args below meth c H locs cells slots Q (F0 m pc ls st0) := by
  subst hst
  obtain ⟨hx, hb, hml, hown, hts, hK⟩ := Z
  obtain ⟨o1, o2, o4, o5, o6⟩ := ok
  obtain ⟨r1, r2, r3, r4⟩ := hrm
  obtain ⟨hP, hD, hS⟩ := hH
  have hPc : va_P D zcl [] H := hP.sub [] rfl
  have hDc : va_D A [] := hD.sub [] rfl rfl
  have hFc := va_free (wc := []) hD hS hA [] rfl
  have cb := callB_of (own := own) (index := idx) (R := R) (mc := 0) (ms := 0) As.length hts (zw_goodIn o5) rfl r1 r2 (hts _ o4) (hts _ o1) o6 ⟨r3, r4⟩
  refine va_calli (va_runS (As := As) (rest := rest) ⟨hx, hb, hml, hown, hts⟩ (hM H.size) ⟨cb, hts _ o2⟩ ⟨fun a U g mk q => by obtain ⟨q0, q1, qP, qK, qD⟩ := q; exact ⟨q0, q1, qP, va_K.moved (u := U) (U := U.calling g mk a) (Vm.Alike.refl U.vm) qK, qD⟩, fun U hU hW => ⟨rfl, by rw [hU], by rw [hU]; exact hPc, va_K.moved hW.alike hK, hDc.weaken (fun _ _ _ _ => trivial)⟩⟩ rfl rfl hl rfl (lv_room hrest) hdg hcs) hS (fun q _ h => hFc q h) hFc (fun r u t H1 locs1 ht hvm hw hB hz1 hk1 hS1 => ?_)
  obtain ⟨hP1, hK1, hD1⟩ := hB
  rw [ht] at hP1
  obtain ⟨hP2, hD2⟩ := va_join (wc := []) (wr := ws) (w1 := []) hP hD [] isR rfl hR hnR (fun _ _ h => by cases h) hk1 hFc hP1 hD1
  rw [List.append_nil] at hP2 hD2
  exact kk r H1 locs1 hw ⟨hP2, hD2, hS1⟩
/-- a loop: a measure that falls -/
theorem w_loop {pc : Nat} (I : Nat → Heap → List Loc → Array Slot → Prop)
    (step : ∀ (n : Nat) (H : Heap) (locs : List Loc) (ls : Array Slot), I n H locs ls → (∀ (n' : Nat) (H' : Heap) (locs' : List Loc) (ls' : Array Slot), n' < n → I n' H' locs' ls' → W p l e R s m args below meth c H' locs' cells slots Q (F0 m pc ls' [])) → W p l e R s m args below meth c H locs cells slots Q (F0 m pc ls [])) :
    ∀ (n : Nat) (H : Heap) (locs : List Loc) (ls : Array Slot), I n H locs ls → W p l e R s m args below meth c H locs cells slots Q (F0 m pc ls []) := by
  intro n
  induction n using Nat.strongRecOn with
  | ind n ih => exact fun H locs ls h => step n H locs ls h (fun n' H' locs' ls' hn h' => ih n' hn H' locs' ls' h')
/-! rows over nI -/
theorem zn_iadd (hx : p.tables.exec = Jvm.exec) (hb : c.code = cc) {a b : Nat} (hdg : decode cc pc = .ok (.iadd, 1)) (k : W p l e R s m args below meth c H locs cells slots Q (F0 m (pc + 1) ls (.int (nI (a + b)) :: rest))) : W p l e R s m args below meth c H locs cells slots Q (F0 m pc ls (.int (nI b) :: .int (nI a) :: rest)) := lv_iadd hx hb hdg (by rw [nI_add]; exact k)
theorem zn_isub (hx : p.tables.exec = Jvm.exec) (hb : c.code = cc) {a b : Nat} (hdg : decode cc pc = .ok (.isub, 1)) (h : b ≤ a) (k : W p l e R s m args below meth c H locs cells slots Q (F0 m (pc + 1) ls (.int (nI (a - b)) :: rest))) : W p l e R s m args below meth c H locs cells slots Q (F0 m pc ls (.int (nI b) :: .int (nI a) :: rest)) := lv_isub hx hb hdg (by rw [pk_sub h]; exact k)
theorem zn_imul (hx : p.tables.exec = Jvm.exec) (hb : c.code = cc) {a b : Nat} (hdg : decode cc pc = .ok (.imul, 1)) (k : W p l e R s m args below meth c H locs cells slots Q (F0 m (pc + 1) ls (.int (nI (a * b)) :: rest))) : W p l e R s m args below meth c H locs cells slots Q (F0 m pc ls (.int (nI b) :: .int (nI a) :: rest)) := lv_imul hx hb hdg (by rw [pk_mul]; exact k)
theorem zn_icmp_eq (hx : p.tables.exec = Jvm.exec) (hb : c.code = cc) {a b : Nat} {off : Int} {tgt : Nat} (hdg : decode cc pc = .ok (.if_icmp .eq off, 3)) (ht : (pc : Int) + off = (tgt : Int)) (h1 : a < 2 ^ 31) (h2 : b < 2 ^ 31) (kt : a = b → W p l e R s m args below meth c H locs cells slots Q (F0 m tgt ls rest)) (kf : a ≠ b → W p l e R s m args below meth c H locs cells slots Q (F0 m (pc + 3) ls rest)) : W p l e R s m args below meth c H locs cells slots Q (F0 m pc ls (.int (nI b) :: .int (nI a) :: rest)) := lv_icmp_eq hx hb hdg ht (fun q => kt ((nI_eq h1 h2).mp q)) (fun q => kf (fun z => q ((nI_eq h1 h2).mpr z)))
theorem zn_icmp_ne (hx : p.tables.exec = Jvm.exec) (hb : c.code = cc) {a b : Nat} {off : Int} {tgt : Nat} (hdg : decode cc pc = .ok (.if_icmp .ne off, 3)) (ht : (pc : Int) + off = (tgt : Int)) (h1 : a < 2 ^ 31) (h2 : b < 2 ^ 31) (kt : a ≠ b → W p l e R s m args below meth c H locs cells slots Q (F0 m tgt ls rest)) (kf : a = b → W p l e R s m args below meth c H locs cells slots Q (F0 m (pc + 3) ls rest)) : W p l e R s m args below meth c H locs cells slots Q (F0 m pc ls (.int (nI b) :: .int (nI a) :: rest)) := lv_icmp_ne hx hb hdg ht (fun q => kt (fun z => q ((nI_eq h1 h2).mpr z))) (fun q => kf ((nI_eq h1 h2).mp q))
theorem zn_icmp_lt (hx : p.tables.exec = Jvm.exec) (hb : c.code = cc) {a b : Nat} {off : Int} {tgt : Nat} (hdg : decode cc pc = .ok (.if_icmp .lt off, 3)) (ht : (pc : Int) + off = (tgt : Int)) (h1 : a < 2 ^ 31) (h2 : b < 2 ^ 31) (kt : a < b → W p l e R s m args below meth c H locs cells slots Q (F0 m tgt ls rest)) (kf : b ≤ a → W p l e R s m args below meth c H locs cells slots Q (F0 m (pc + 3) ls rest)) : W p l e R s m args below meth c H locs cells slots Q (F0 m pc ls (.int (nI b) :: .int (nI a) :: rest)) := lv_icmp_lt hx hb hdg ht (fun q => kt ((nI_ltI h1 h2).mp q)) (fun q => kf (Nat.not_lt.mp (fun z => q ((nI_ltI h1 h2).mpr z))))
theorem zn_icmp_ge (hx : p.tables.exec = Jvm.exec) (hb : c.code = cc) {a b : Nat} {off : Int} {tgt : Nat} (hdg : decode cc pc = .ok (.if_icmp .ge off, 3)) (ht : (pc : Int) + off = (tgt : Int)) (h1 : a < 2 ^ 31) (h2 : b < 2 ^ 31) (kt : b ≤ a → W p l e R s m args below meth c H locs cells slots Q (F0 m tgt ls rest)) (kf : a < b → W p l e R s m args below meth c H locs cells slots Q (F0 m (pc + 3) ls rest)) : W p l e R s m args below meth c H locs cells slots Q (F0 m pc ls (.int (nI b) :: .int (nI a) :: rest)) := lv_icmp_ge hx hb hdg ht (fun q => kt ((nI_leI h2 h1).mp q)) (fun q => kf (Nat.not_le.mp (fun z => q ((nI_leI h2 h1).mpr z))))
theorem zn_icmp_gt (hx : p.tables.exec = Jvm.exec) (hb : c.code = cc) {a b : Nat} {off : Int} {tgt : Nat} (hdg : decode cc pc = .ok (.if_icmp .gt off, 3)) (ht : (pc : Int) + off = (tgt : Int)) (h1 : a < 2 ^ 31) (h2 : b < 2 ^ 31) (kt : b < a → W p l e R s m args below meth c H locs cells slots Q (F0 m tgt ls rest)) (kf : a ≤ b → W p l e R s m args below meth c H locs cells slots Q (F0 m (pc + 3) ls rest)) : W p l e R s m args below meth c H locs cells slots Q (F0 m pc ls (.int (nI b) :: .int (nI a) :: rest)) := lv_icmp_gt hx hb hdg ht (fun q => kt ((nI_ltI h2 h1).mp q)) (fun q => kf (Nat.not_lt.mp (fun z => q ((nI_ltI h2 h1).mpr z))))
theorem zn_icmp_le (hx : p.tables.exec = Jvm.exec) (hb : c.code = cc) {a b : Nat} {off : Int} {tgt : Nat} (hdg : decode cc pc = .ok (.if_icmp .le off, 3)) (ht : (pc : Int) + off = (tgt : Int)) (h1 : a < 2 ^ 31) (h2 : b < 2 ^ 31) (kt : a ≤ b → W p l e R s m args below meth c H locs cells slots Q (F0 m tgt ls rest)) (kf : b < a → W p l e R s m args below meth c H locs cells slots Q (F0 m (pc + 3) ls rest)) : W p l e R s m args below meth c H locs cells slots Q (F0 m pc ls (.int (nI b) :: .int (nI a) :: rest)) := lv_icmp_le hx hb hdg ht (fun q => kt ((nI_leI h1 h2).mp q)) (fun q => kf (Nat.not_le.mp (fun z => q ((nI_leI h1 h2).mpr z))))
theorem zn_if_eq (hx : p.tables.exec = Jvm.exec) (hb : c.code = cc) {a : Nat} {off : Int} {tgt : Nat} (hdg : decode cc pc = .ok (.ifCond .eq off, 3)) (ht : (pc : Int) + off = (tgt : Int)) (h1 : a < 2 ^ 31) (kt : a = 0 → W p l e R s m args below meth c H locs cells slots Q (F0 m tgt ls rest)) (kf : a ≠ 0 → W p l e R s m args below meth c H locs cells slots Q (F0 m (pc + 3) ls rest)) : W p l e R s m args below meth c H locs cells slots Q (F0 m pc ls (.int (nI a) :: rest)) := lv_if_eq hx hb hdg ht (fun q => kt ((nI_eq h1 (by decide)).mp (q.trans nI_0.symm))) (fun q => kf (fun z => q (by rw [z]; exact nI_0)))
theorem zn_if_ne (hx : p.tables.exec = Jvm.exec) (hb : c.code = cc) {a : Nat} {off : Int} {tgt : Nat} (hdg : decode cc pc = .ok (.ifCond .ne off, 3)) (ht : (pc : Int) + off = (tgt : Int)) (h1 : a < 2 ^ 31) (kt : a ≠ 0 → W p l e R s m args below meth c H locs cells slots Q (F0 m tgt ls rest)) (kf : a = 0 → W p l e R s m args below meth c H locs cells slots Q (F0 m (pc + 3) ls rest)) : W p l e R s m args below meth c H locs cells slots Q (F0 m pc ls (.int (nI a) :: rest)) := lv_if_ne hx hb hdg ht (fun q => kt (fun z => q (by rw [z]; exact nI_0))) (fun q => kf ((nI_eq h1 (by decide)).mp (q.trans nI_0.symm)))
theorem zn_if_le (hx : p.tables.exec = Jvm.exec) (hb : c.code = cc) {a : Nat} {off : Int} {tgt : Nat} (hdg : decode cc pc = .ok (.ifCond .le off, 3)) (ht : (pc : Int) + off = (tgt : Int)) (h1 : a < 2 ^ 31) (kt : a = 0 → W p l e R s m args below meth c H locs cells slots Q (F0 m tgt ls rest)) (kf : 0 < a → W p l e R s m args below meth c H locs cells slots Q (F0 m (pc + 3) ls rest)) : W p l e R s m args below meth c H locs cells slots Q (F0 m pc ls (.int (nI a) :: rest)) := lv_if_le hx hb hdg ht (fun q => kt (Nat.le_zero.mp ((nI_leI h1 (by decide)).mp (by rw [nI_0]; exact q)))) (fun q => kf (Nat.pos_of_ne_zero (fun z => q (by rw [z, nI_0]; exact Int32.le_refl 0))))
end ZR
end
section
/-! the worlds: of the class (nine cells: the object, eight int arrays) and of the reference (three) -/
abbrev JS : Type := (Nat → Int32) × (Nat → Int32) × (Nat → Int32) × (Nat → Int32) × (Nat → Int32) × (Nat → Int32) × (Nat → Int32) × (Nat → Int32) × Int32 × Int32 × Int32 × Int32 × Int32 × Int32
abbrev jw (h : Nat → Nat) (cI : ClassId) (σ : JS) : va_W := [(h 0, .inr (0, [.ref (h 1), .ref (h 2), .ref (h 3), .ref (h 4), .ref (h 5), .ref (h 6), .ref (h 7), .ref (h 8), .int σ.2.2.2.2.2.2.2.2.1, .int σ.2.2.2.2.2.2.2.2.2.1, .int σ.2.2.2.2.2.2.2.2.2.2.1, .int σ.2.2.2.2.2.2.2.2.2.2.2.1, .int σ.2.2.2.2.2.2.2.2.2.2.2.2.1, .int σ.2.2.2.2.2.2.2.2.2.2.2.2.2])), (h 1, .inl (cI, 20, .inl σ.1)), (h 2, .inl (cI, 20, .inl σ.2.1)), (h 3, .inl (cI, 252, .inl σ.2.2.1)), (h 4, .inl (cI, 30, .inl σ.2.2.2.1)), (h 5, .inl (cI, 30, .inl σ.2.2.2.2.1)), (h 6, .inl (cI, 30, .inl σ.2.2.2.2.2.1)), (h 7, .inl (cI, 20, .inl σ.2.2.2.2.2.2.1)), (h 8, .inl (cI, 20, .inl σ.2.2.2.2.2.2.2.1))]
abbrev MS : Type := (Nat → Int32) × (Nat → Int32) × Int32 × Int32 × Int32
abbrev mw (h : Nat → Nat) (cI cZ : ClassId) (σ : MS) : va_W := [(h 0, .inr (1, [.ref (h 1), .int σ.2.2.1, .int σ.2.2.2.1, .int σ.2.2.2.2, .ref (h 2)])), (h 1, .inl (cZ, 630, .inl σ.1)), (h 2, .inl (cI, 20, .inl σ.2.1))]
section ZW
variable {p : Program} {l : Launch} {e : Env} {R : Room} {s : State} {m : MethodId} {args : Array Value} {below : List Frame} {meth : Method} {c : Code} {H H0 : Heap} {locs : List Loc} {cells slots : Nat} {Q : State → Prop}
variable {cc : ByteArray} {pc : Nat} {ls : Array Slot} {rest : List Value} {D : va_G} {cI cZ : ClassId} {A : Nat → Prop} {own : String} {nL : Nat} {S : Type} {h : Nat → Nat}
variable {mk sz rk ro ct ix rw pa iN la : Nat → Int32} {d ds cn tp bo cu : Int32}
theorem jg_mk (Z : zZ R_J p s m c args cc nL D cI cZ) (hH : zH D A H0 (jw h cI (mk, sz, rk, ro, ct, ix, rw, pa, d, ds, cn, tp, bo, cu)) H locs) (hdg : decode cc pc = .ok (.getfield 7, 3)) (kk : W p l e R s m args below meth c H locs cells slots Q (F0 m (pc + 3) ls (.ref (h 1) :: rest))) : W p l e R s m args below meth c H locs cells slots Q (F0 m pc ls (.ref (h 0) :: rest)) :=
  va_get (D := D) (ci := 0) (v := .ref (h 1)) (C := R_J) (T := F_J) (N := 14) Z.1 Z.2.1 Z.2.2.2.2.1 i_J Z.2.2.2.1 Z.2.2.2.2.2 hH.1 0 rfl rfl 0 (by decide) (Z.2.2.2.2.1 _ mf_J_masks) (fun _ h9 => h9) rfl hdg kk
theorem jg_sz (Z : zZ R_J p s m c args cc nL D cI cZ) (hH : zH D A H0 (jw h cI (mk, sz, rk, ro, ct, ix, rw, pa, d, ds, cn, tp, bo, cu)) H locs) (hdg : decode cc pc = .ok (.getfield 13, 3)) (kk : W p l e R s m args below meth c H locs cells slots Q (F0 m (pc + 3) ls (.ref (h 2) :: rest))) : W p l e R s m args below meth c H locs cells slots Q (F0 m pc ls (.ref (h 0) :: rest)) :=
  va_get (D := D) (ci := 0) (v := .ref (h 2)) (C := R_J) (T := F_J) (N := 14) Z.1 Z.2.1 Z.2.2.2.2.1 i_J Z.2.2.2.1 Z.2.2.2.2.2 hH.1 0 rfl rfl 1 (by decide) (Z.2.2.2.2.1 _ mf_J_sizes) (fun _ h9 => h9) rfl hdg kk
theorem jg_rk (Z : zZ R_J p s m c args cc nL D cI cZ) (hH : zH D A H0 (jw h cI (mk, sz, rk, ro, ct, ix, rw, pa, d, ds, cn, tp, bo, cu)) H locs) (hdg : decode cc pc = .ok (.getfield 16, 3)) (kk : W p l e R s m args below meth c H locs cells slots Q (F0 m (pc + 3) ls (.ref (h 3) :: rest))) : W p l e R s m args below meth c H locs cells slots Q (F0 m pc ls (.ref (h 0) :: rest)) :=
  va_get (D := D) (ci := 0) (v := .ref (h 3)) (C := R_J) (T := F_J) (N := 14) Z.1 Z.2.1 Z.2.2.2.2.1 i_J Z.2.2.2.1 Z.2.2.2.2.2 hH.1 0 rfl rfl 2 (by decide) (Z.2.2.2.2.1 _ mf_J_ranks) (fun _ h9 => h9) rfl hdg kk
theorem jg_ro (Z : zZ R_J p s m c args cc nL D cI cZ) (hH : zH D A H0 (jw h cI (mk, sz, rk, ro, ct, ix, rw, pa, d, ds, cn, tp, bo, cu)) H locs) (hdg : decode cc pc = .ok (.getfield 19, 3)) (kk : W p l e R s m args below meth c H locs cells slots Q (F0 m (pc + 3) ls (.ref (h 4) :: rest))) : W p l e R s m args below meth c H locs cells slots Q (F0 m pc ls (.ref (h 0) :: rest)) :=
  va_get (D := D) (ci := 0) (v := .ref (h 4)) (C := R_J) (T := F_J) (N := 14) Z.1 Z.2.1 Z.2.2.2.2.1 i_J Z.2.2.2.1 Z.2.2.2.2.2 hH.1 0 rfl rfl 3 (by decide) (Z.2.2.2.2.1 _ mf_J_rankOf) (fun _ h9 => h9) rfl hdg kk
theorem jg_ct (Z : zZ R_J p s m c args cc nL D cI cZ) (hH : zH D A H0 (jw h cI (mk, sz, rk, ro, ct, ix, rw, pa, d, ds, cn, tp, bo, cu)) H locs) (hdg : decode cc pc = .ok (.getfield 22, 3)) (kk : W p l e R s m args below meth c H locs cells slots Q (F0 m (pc + 3) ls (.ref (h 5) :: rest))) : W p l e R s m args below meth c H locs cells slots Q (F0 m pc ls (.ref (h 0) :: rest)) :=
  va_get (D := D) (ci := 0) (v := .ref (h 5)) (C := R_J) (T := F_J) (N := 14) Z.1 Z.2.1 Z.2.2.2.2.1 i_J Z.2.2.2.1 Z.2.2.2.2.2 hH.1 0 rfl rfl 4 (by decide) (Z.2.2.2.2.1 _ mf_J_counts) (fun _ h9 => h9) rfl hdg kk
theorem jg_ix (Z : zZ R_J p s m c args cc nL D cI cZ) (hH : zH D A H0 (jw h cI (mk, sz, rk, ro, ct, ix, rw, pa, d, ds, cn, tp, bo, cu)) H locs) (hdg : decode cc pc = .ok (.getfield 25, 3)) (kk : W p l e R s m args below meth c H locs cells slots Q (F0 m (pc + 3) ls (.ref (h 6) :: rest))) : W p l e R s m args below meth c H locs cells slots Q (F0 m pc ls (.ref (h 0) :: rest)) :=
  va_get (D := D) (ci := 0) (v := .ref (h 6)) (C := R_J) (T := F_J) (N := 14) Z.1 Z.2.1 Z.2.2.2.2.1 i_J Z.2.2.2.1 Z.2.2.2.2.2 hH.1 0 rfl rfl 5 (by decide) (Z.2.2.2.2.1 _ mf_J_index) (fun _ h9 => h9) rfl hdg kk
theorem jg_rw (Z : zZ R_J p s m c args cc nL D cI cZ) (hH : zH D A H0 (jw h cI (mk, sz, rk, ro, ct, ix, rw, pa, d, ds, cn, tp, bo, cu)) H locs) (hdg : decode cc pc = .ok (.getfield 28, 3)) (kk : W p l e R s m args below meth c H locs cells slots Q (F0 m (pc + 3) ls (.ref (h 7) :: rest))) : W p l e R s m args below meth c H locs cells slots Q (F0 m pc ls (.ref (h 0) :: rest)) :=
  va_get (D := D) (ci := 0) (v := .ref (h 7)) (C := R_J) (T := F_J) (N := 14) Z.1 Z.2.1 Z.2.2.2.2.1 i_J Z.2.2.2.1 Z.2.2.2.2.2 hH.1 0 rfl rfl 6 (by decide) (Z.2.2.2.2.1 _ mf_J_rows) (fun _ h9 => h9) rfl hdg kk
theorem jg_pa (Z : zZ R_J p s m c args cc nL D cI cZ) (hH : zH D A H0 (jw h cI (mk, sz, rk, ro, ct, ix, rw, pa, d, ds, cn, tp, bo, cu)) H locs) (hdg : decode cc pc = .ok (.getfield 31, 3)) (kk : W p l e R s m args below meth c H locs cells slots Q (F0 m (pc + 3) ls (.ref (h 8) :: rest))) : W p l e R s m args below meth c H locs cells slots Q (F0 m pc ls (.ref (h 0) :: rest)) :=
  va_get (D := D) (ci := 0) (v := .ref (h 8)) (C := R_J) (T := F_J) (N := 14) Z.1 Z.2.1 Z.2.2.2.2.1 i_J Z.2.2.2.1 Z.2.2.2.2.2 hH.1 0 rfl rfl 7 (by decide) (Z.2.2.2.2.1 _ mf_J_parent) (fun _ h9 => h9) rfl hdg kk
theorem jg_d (Z : zZ R_J p s m c args cc nL D cI cZ) (hH : zH D A H0 (jw h cI (mk, sz, rk, ro, ct, ix, rw, pa, d, ds, cn, tp, bo, cu)) H locs) (hdg : decode cc pc = .ok (.getfield 45, 3)) (kk : W p l e R s m args below meth c H locs cells slots Q (F0 m (pc + 3) ls (.int d :: rest))) : W p l e R s m args below meth c H locs cells slots Q (F0 m pc ls (.ref (h 0) :: rest)) :=
  va_get (D := D) (ci := 0) (v := .int d) (C := R_J) (T := F_J) (N := 14) Z.1 Z.2.1 Z.2.2.2.2.1 i_J Z.2.2.2.1 Z.2.2.2.2.2 hH.1 0 rfl rfl 8 (by decide) (Z.2.2.2.2.1 _ mf_J_draft) (fun _ h9 => h9) rfl hdg kk
theorem jg_ds (Z : zZ R_J p s m c args cc nL D cI cZ) (hH : zH D A H0 (jw h cI (mk, sz, rk, ro, ct, ix, rw, pa, d, ds, cn, tp, bo, cu)) H locs) (hdg : decode cc pc = .ok (.getfield 48, 3)) (kk : W p l e R s m args below meth c H locs cells slots Q (F0 m (pc + 3) ls (.int ds :: rest))) : W p l e R s m args below meth c H locs cells slots Q (F0 m pc ls (.ref (h 0) :: rest)) :=
  va_get (D := D) (ci := 0) (v := .int ds) (C := R_J) (T := F_J) (N := 14) Z.1 Z.2.1 Z.2.2.2.2.1 i_J Z.2.2.2.1 Z.2.2.2.2.2 hH.1 0 rfl rfl 9 (by decide) (Z.2.2.2.2.1 _ mf_J_draftSize) (fun _ h9 => h9) rfl hdg kk
theorem jg_cn (Z : zZ R_J p s m c args cc nL D cI cZ) (hH : zH D A H0 (jw h cI (mk, sz, rk, ro, ct, ix, rw, pa, d, ds, cn, tp, bo, cu)) H locs) (hdg : decode cc pc = .ok (.getfield 54, 3)) (kk : W p l e R s m args below meth c H locs cells slots Q (F0 m (pc + 3) ls (.int cn :: rest))) : W p l e R s m args below meth c H locs cells slots Q (F0 m pc ls (.ref (h 0) :: rest)) :=
  va_get (D := D) (ci := 0) (v := .int cn) (C := R_J) (T := F_J) (N := 14) Z.1 Z.2.1 Z.2.2.2.2.1 i_J Z.2.2.2.1 Z.2.2.2.2.2 hH.1 0 rfl rfl 10 (by decide) (Z.2.2.2.2.1 _ mf_J_count) (fun _ h9 => h9) rfl hdg kk
theorem jg_tp (Z : zZ R_J p s m c args cc nL D cI cZ) (hH : zH D A H0 (jw h cI (mk, sz, rk, ro, ct, ix, rw, pa, d, ds, cn, tp, bo, cu)) H locs) (hdg : decode cc pc = .ok (.getfield 34, 3)) (kk : W p l e R s m args below meth c H locs cells slots Q (F0 m (pc + 3) ls (.int tp :: rest))) : W p l e R s m args below meth c H locs cells slots Q (F0 m pc ls (.ref (h 0) :: rest)) :=
  va_get (D := D) (ci := 0) (v := .int tp) (C := R_J) (T := F_J) (N := 14) Z.1 Z.2.1 Z.2.2.2.2.1 i_J Z.2.2.2.1 Z.2.2.2.2.2 hH.1 0 rfl rfl 11 (by decide) (Z.2.2.2.2.1 _ mf_J_top) (fun _ h9 => h9) rfl hdg kk
theorem jg_bo (Z : zZ R_J p s m c args cc nL D cI cZ) (hH : zH D A H0 (jw h cI (mk, sz, rk, ro, ct, ix, rw, pa, d, ds, cn, tp, bo, cu)) H locs) (hdg : decode cc pc = .ok (.getfield 38, 3)) (kk : W p l e R s m args below meth c H locs cells slots Q (F0 m (pc + 3) ls (.int bo :: rest))) : W p l e R s m args below meth c H locs cells slots Q (F0 m pc ls (.ref (h 0) :: rest)) :=
  va_get (D := D) (ci := 0) (v := .int bo) (C := R_J) (T := F_J) (N := 14) Z.1 Z.2.1 Z.2.2.2.2.1 i_J Z.2.2.2.1 Z.2.2.2.2.2 hH.1 0 rfl rfl 12 (by decide) (Z.2.2.2.2.1 _ mf_J_bottom) (fun _ h9 => h9) rfl hdg kk
theorem jg_cu (Z : zZ R_J p s m c args cc nL D cI cZ) (hH : zH D A H0 (jw h cI (mk, sz, rk, ro, ct, ix, rw, pa, d, ds, cn, tp, bo, cu)) H locs) (hdg : decode cc pc = .ok (.getfield 57, 3)) (kk : W p l e R s m args below meth c H locs cells slots Q (F0 m (pc + 3) ls (.int cu :: rest))) : W p l e R s m args below meth c H locs cells slots Q (F0 m pc ls (.ref (h 0) :: rest)) :=
  va_get (D := D) (ci := 0) (v := .int cu) (C := R_J) (T := F_J) (N := 14) Z.1 Z.2.1 Z.2.2.2.2.1 i_J Z.2.2.2.1 Z.2.2.2.2.2 hH.1 0 rfl rfl 13 (by decide) (Z.2.2.2.2.1 _ mf_J_current) (fun _ h9 => h9) rfl hdg kk
theorem jp_d (Z : zZ R_J p s m c args cc nL D cI cZ) (hH : zH D A H0 (jw h cI (mk, sz, rk, ro, ct, ix, rw, pa, d, ds, cn, tp, bo, cu)) H locs) (x : Int32) (hdg : decode cc pc = .ok (.putfield 45, 3)) (kk : ∀ (H : Heap) (locs : List Loc), zH D A H0 (jw h cI (mk, sz, rk, ro, ct, ix, rw, pa, x, ds, cn, tp, bo, cu)) H locs → W p l e R s m args below meth c H locs cells slots Q (F0 m (pc + 3) ls rest)) : W p l e R s m args below meth c H locs cells slots Q (F0 m pc ls (.int x :: .ref (h 0) :: rest)) :=
  va_put (D := D) (ci := 0) (v := .int x) (ty := .int) (C := R_J) (T := F_J) (N := 14) Z.1 Z.2.1 Z.2.2.2.2.1 i_J t_J t_J_ok n_J Z.2.2.2.1 Z.2.2.2.2.2 hH.1 hH.2.1 hH.2.2 0 rfl rfl 8 (by decide) (Z.2.2.2.2.1 _ mf_J_draft) (fun _ h9 => h9) rfl (by decide +kernel) (by rfl) (by rfl) (Nat.le_of_ble_eq_true rfl) hdg (fun H locs h1 h2 h3 => kk H locs ⟨h1, h2, h3⟩)
theorem jp_ds (Z : zZ R_J p s m c args cc nL D cI cZ) (hH : zH D A H0 (jw h cI (mk, sz, rk, ro, ct, ix, rw, pa, d, ds, cn, tp, bo, cu)) H locs) (x : Int32) (hdg : decode cc pc = .ok (.putfield 48, 3)) (kk : ∀ (H : Heap) (locs : List Loc), zH D A H0 (jw h cI (mk, sz, rk, ro, ct, ix, rw, pa, d, x, cn, tp, bo, cu)) H locs → W p l e R s m args below meth c H locs cells slots Q (F0 m (pc + 3) ls rest)) : W p l e R s m args below meth c H locs cells slots Q (F0 m pc ls (.int x :: .ref (h 0) :: rest)) :=
  va_put (D := D) (ci := 0) (v := .int x) (ty := .int) (C := R_J) (T := F_J) (N := 14) Z.1 Z.2.1 Z.2.2.2.2.1 i_J t_J t_J_ok n_J Z.2.2.2.1 Z.2.2.2.2.2 hH.1 hH.2.1 hH.2.2 0 rfl rfl 9 (by decide) (Z.2.2.2.2.1 _ mf_J_draftSize) (fun _ h9 => h9) rfl (by decide +kernel) (by rfl) (by rfl) (Nat.le_of_ble_eq_true rfl) hdg (fun H locs h1 h2 h3 => kk H locs ⟨h1, h2, h3⟩)
theorem jp_cn (Z : zZ R_J p s m c args cc nL D cI cZ) (hH : zH D A H0 (jw h cI (mk, sz, rk, ro, ct, ix, rw, pa, d, ds, cn, tp, bo, cu)) H locs) (x : Int32) (hdg : decode cc pc = .ok (.putfield 54, 3)) (kk : ∀ (H : Heap) (locs : List Loc), zH D A H0 (jw h cI (mk, sz, rk, ro, ct, ix, rw, pa, d, ds, x, tp, bo, cu)) H locs → W p l e R s m args below meth c H locs cells slots Q (F0 m (pc + 3) ls rest)) : W p l e R s m args below meth c H locs cells slots Q (F0 m pc ls (.int x :: .ref (h 0) :: rest)) :=
  va_put (D := D) (ci := 0) (v := .int x) (ty := .int) (C := R_J) (T := F_J) (N := 14) Z.1 Z.2.1 Z.2.2.2.2.1 i_J t_J t_J_ok n_J Z.2.2.2.1 Z.2.2.2.2.2 hH.1 hH.2.1 hH.2.2 0 rfl rfl 10 (by decide) (Z.2.2.2.2.1 _ mf_J_count) (fun _ h9 => h9) rfl (by decide +kernel) (by rfl) (by rfl) (Nat.le_of_ble_eq_true rfl) hdg (fun H locs h1 h2 h3 => kk H locs ⟨h1, h2, h3⟩)
theorem jp_tp (Z : zZ R_J p s m c args cc nL D cI cZ) (hH : zH D A H0 (jw h cI (mk, sz, rk, ro, ct, ix, rw, pa, d, ds, cn, tp, bo, cu)) H locs) (x : Int32) (hdg : decode cc pc = .ok (.putfield 34, 3)) (kk : ∀ (H : Heap) (locs : List Loc), zH D A H0 (jw h cI (mk, sz, rk, ro, ct, ix, rw, pa, d, ds, cn, x, bo, cu)) H locs → W p l e R s m args below meth c H locs cells slots Q (F0 m (pc + 3) ls rest)) : W p l e R s m args below meth c H locs cells slots Q (F0 m pc ls (.int x :: .ref (h 0) :: rest)) :=
  va_put (D := D) (ci := 0) (v := .int x) (ty := .int) (C := R_J) (T := F_J) (N := 14) Z.1 Z.2.1 Z.2.2.2.2.1 i_J t_J t_J_ok n_J Z.2.2.2.1 Z.2.2.2.2.2 hH.1 hH.2.1 hH.2.2 0 rfl rfl 11 (by decide) (Z.2.2.2.2.1 _ mf_J_top) (fun _ h9 => h9) rfl (by decide +kernel) (by rfl) (by rfl) (Nat.le_of_ble_eq_true rfl) hdg (fun H locs h1 h2 h3 => kk H locs ⟨h1, h2, h3⟩)
theorem jp_bo (Z : zZ R_J p s m c args cc nL D cI cZ) (hH : zH D A H0 (jw h cI (mk, sz, rk, ro, ct, ix, rw, pa, d, ds, cn, tp, bo, cu)) H locs) (x : Int32) (hdg : decode cc pc = .ok (.putfield 38, 3)) (kk : ∀ (H : Heap) (locs : List Loc), zH D A H0 (jw h cI (mk, sz, rk, ro, ct, ix, rw, pa, d, ds, cn, tp, x, cu)) H locs → W p l e R s m args below meth c H locs cells slots Q (F0 m (pc + 3) ls rest)) : W p l e R s m args below meth c H locs cells slots Q (F0 m pc ls (.int x :: .ref (h 0) :: rest)) :=
  va_put (D := D) (ci := 0) (v := .int x) (ty := .int) (C := R_J) (T := F_J) (N := 14) Z.1 Z.2.1 Z.2.2.2.2.1 i_J t_J t_J_ok n_J Z.2.2.2.1 Z.2.2.2.2.2 hH.1 hH.2.1 hH.2.2 0 rfl rfl 12 (by decide) (Z.2.2.2.2.1 _ mf_J_bottom) (fun _ h9 => h9) rfl (by decide +kernel) (by rfl) (by rfl) (Nat.le_of_ble_eq_true rfl) hdg (fun H locs h1 h2 h3 => kk H locs ⟨h1, h2, h3⟩)
theorem jp_cu (Z : zZ R_J p s m c args cc nL D cI cZ) (hH : zH D A H0 (jw h cI (mk, sz, rk, ro, ct, ix, rw, pa, d, ds, cn, tp, bo, cu)) H locs) (x : Int32) (hv : narrow .boolean (.int x) = .int x ∧ fits .boolean (.int x) = true) (hdg : decode cc pc = .ok (.putfield 57, 3)) (kk : ∀ (H : Heap) (locs : List Loc), zH D A H0 (jw h cI (mk, sz, rk, ro, ct, ix, rw, pa, d, ds, cn, tp, bo, x)) H locs → W p l e R s m args below meth c H locs cells slots Q (F0 m (pc + 3) ls rest)) : W p l e R s m args below meth c H locs cells slots Q (F0 m pc ls (.int x :: .ref (h 0) :: rest)) :=
  va_put (D := D) (ci := 0) (v := .int x) (ty := .boolean) (C := R_J) (T := F_J) (N := 14) Z.1 Z.2.1 Z.2.2.2.2.1 i_J t_J t_J_ok n_J Z.2.2.2.1 Z.2.2.2.2.2 hH.1 hH.2.1 hH.2.2 0 rfl rfl 13 (by decide) (Z.2.2.2.2.1 _ mf_J_current) (fun _ h9 => h9) rfl (by decide +kernel) hv.1 hv.2 (Nat.le_of_ble_eq_true rfl) hdg (fun H locs h1 h2 h3 => kk H locs ⟨h1, h2, h3⟩)
theorem mg_iN (Z : zZ R_M p s m c args cc nL D cI cZ) (hH : zH D A H0 (mw h cI cZ (iN, la, cn, tp, bo)) H locs) (hdg : decode cc pc = .ok (.getfield 7, 3)) (kk : W p l e R s m args below meth c H locs cells slots Q (F0 m (pc + 3) ls (.ref (h 1) :: rest))) : W p l e R s m args below meth c H locs cells slots Q (F0 m pc ls (.ref (h 0) :: rest)) :=
  va_get (D := D) (ci := 1) (v := .ref (h 1)) (C := R_M) (T := F_M) (N := 5) Z.1 Z.2.1 Z.2.2.2.2.1 i_M Z.2.2.2.1 Z.2.2.2.2.2 hH.1 0 rfl rfl 0 (by decide) (Z.2.2.2.2.1 _ mf_M_in) (fun _ h9 => h9) rfl hdg kk
theorem mg_la (Z : zZ R_M p s m c args cc nL D cI cZ) (hH : zH D A H0 (mw h cI cZ (iN, la, cn, tp, bo)) H locs) (hdg : decode cc pc = .ok (.getfield 20, 3)) (kk : W p l e R s m args below meth c H locs cells slots Q (F0 m (pc + 3) ls (.ref (h 2) :: rest))) : W p l e R s m args below meth c H locs cells slots Q (F0 m pc ls (.ref (h 0) :: rest)) :=
  va_get (D := D) (ci := 1) (v := .ref (h 2)) (C := R_M) (T := F_M) (N := 5) Z.1 Z.2.1 Z.2.2.2.2.1 i_M Z.2.2.2.1 Z.2.2.2.2.2 hH.1 0 rfl rfl 4 (by decide) (Z.2.2.2.2.1 _ mf_M_label) (fun _ h9 => h9) rfl hdg kk
theorem mg_cn (Z : zZ R_M p s m c args cc nL D cI cZ) (hH : zH D A H0 (mw h cI cZ (iN, la, cn, tp, bo)) H locs) (hdg : decode cc pc = .ok (.getfield 24, 3)) (kk : W p l e R s m args below meth c H locs cells slots Q (F0 m (pc + 3) ls (.int cn :: rest))) : W p l e R s m args below meth c H locs cells slots Q (F0 m pc ls (.ref (h 0) :: rest)) :=
  va_get (D := D) (ci := 1) (v := .int cn) (C := R_M) (T := F_M) (N := 5) Z.1 Z.2.1 Z.2.2.2.2.1 i_M Z.2.2.2.1 Z.2.2.2.2.2 hH.1 0 rfl rfl 1 (by decide) (Z.2.2.2.2.1 _ mf_M_count) (fun _ h9 => h9) rfl hdg kk
theorem mg_tp (Z : zZ R_M p s m c args cc nL D cI cZ) (hH : zH D A H0 (mw h cI cZ (iN, la, cn, tp, bo)) H locs) (hdg : decode cc pc = .ok (.getfield 13, 3)) (kk : W p l e R s m args below meth c H locs cells slots Q (F0 m (pc + 3) ls (.int tp :: rest))) : W p l e R s m args below meth c H locs cells slots Q (F0 m pc ls (.ref (h 0) :: rest)) :=
  va_get (D := D) (ci := 1) (v := .int tp) (C := R_M) (T := F_M) (N := 5) Z.1 Z.2.1 Z.2.2.2.2.1 i_M Z.2.2.2.1 Z.2.2.2.2.2 hH.1 0 rfl rfl 2 (by decide) (Z.2.2.2.2.1 _ mf_M_t) (fun _ h9 => h9) rfl hdg kk
theorem mg_bo (Z : zZ R_M p s m c args cc nL D cI cZ) (hH : zH D A H0 (mw h cI cZ (iN, la, cn, tp, bo)) H locs) (hdg : decode cc pc = .ok (.getfield 17, 3)) (kk : W p l e R s m args below meth c H locs cells slots Q (F0 m (pc + 3) ls (.int bo :: rest))) : W p l e R s m args below meth c H locs cells slots Q (F0 m pc ls (.ref (h 0) :: rest)) :=
  va_get (D := D) (ci := 1) (v := .int bo) (C := R_M) (T := F_M) (N := 5) Z.1 Z.2.1 Z.2.2.2.2.1 i_M Z.2.2.2.1 Z.2.2.2.2.2 hH.1 0 rfl rfl 3 (by decide) (Z.2.2.2.2.1 _ mf_M_u) (fun _ h9 => h9) rfl hdg kk
theorem mp_cn (Z : zZ R_M p s m c args cc nL D cI cZ) (hH : zH D A H0 (mw h cI cZ (iN, la, cn, tp, bo)) H locs) (x : Int32) (hdg : decode cc pc = .ok (.putfield 24, 3)) (kk : ∀ (H : Heap) (locs : List Loc), zH D A H0 (mw h cI cZ (iN, la, x, tp, bo)) H locs → W p l e R s m args below meth c H locs cells slots Q (F0 m (pc + 3) ls rest)) : W p l e R s m args below meth c H locs cells slots Q (F0 m pc ls (.int x :: .ref (h 0) :: rest)) :=
  va_put (D := D) (ci := 1) (v := .int x) (ty := .int) (C := R_M) (T := F_M) (N := 5) Z.1 Z.2.1 Z.2.2.2.2.1 i_M t_M t_M_ok n_M Z.2.2.2.1 Z.2.2.2.2.2 hH.1 hH.2.1 hH.2.2 0 rfl rfl 1 (by decide) (Z.2.2.2.2.1 _ mf_M_count) (fun _ h9 => h9) rfl (by decide +kernel) (by rfl) (by rfl) (Nat.le_of_ble_eq_true rfl) hdg (fun H locs h1 h2 h3 => kk H locs ⟨h1, h2, h3⟩)
theorem mp_tp (Z : zZ R_M p s m c args cc nL D cI cZ) (hH : zH D A H0 (mw h cI cZ (iN, la, cn, tp, bo)) H locs) (x : Int32) (hdg : decode cc pc = .ok (.putfield 13, 3)) (kk : ∀ (H : Heap) (locs : List Loc), zH D A H0 (mw h cI cZ (iN, la, cn, x, bo)) H locs → W p l e R s m args below meth c H locs cells slots Q (F0 m (pc + 3) ls rest)) : W p l e R s m args below meth c H locs cells slots Q (F0 m pc ls (.int x :: .ref (h 0) :: rest)) :=
  va_put (D := D) (ci := 1) (v := .int x) (ty := .int) (C := R_M) (T := F_M) (N := 5) Z.1 Z.2.1 Z.2.2.2.2.1 i_M t_M t_M_ok n_M Z.2.2.2.1 Z.2.2.2.2.2 hH.1 hH.2.1 hH.2.2 0 rfl rfl 2 (by decide) (Z.2.2.2.2.1 _ mf_M_t) (fun _ h9 => h9) rfl (by decide +kernel) (by rfl) (by rfl) (Nat.le_of_ble_eq_true rfl) hdg (fun H locs h1 h2 h3 => kk H locs ⟨h1, h2, h3⟩)
theorem mp_bo (Z : zZ R_M p s m c args cc nL D cI cZ) (hH : zH D A H0 (mw h cI cZ (iN, la, cn, tp, bo)) H locs) (x : Int32) (hdg : decode cc pc = .ok (.putfield 17, 3)) (kk : ∀ (H : Heap) (locs : List Loc), zH D A H0 (mw h cI cZ (iN, la, cn, tp, x)) H locs → W p l e R s m args below meth c H locs cells slots Q (F0 m (pc + 3) ls rest)) : W p l e R s m args below meth c H locs cells slots Q (F0 m pc ls (.int x :: .ref (h 0) :: rest)) :=
  va_put (D := D) (ci := 1) (v := .int x) (ty := .int) (C := R_M) (T := F_M) (N := 5) Z.1 Z.2.1 Z.2.2.2.2.1 i_M t_M t_M_ok n_M Z.2.2.2.1 Z.2.2.2.2.2 hH.1 hH.2.1 hH.2.2 0 rfl rfl 3 (by decide) (Z.2.2.2.2.1 _ mf_M_u) (fun _ h9 => h9) rfl (by decide +kernel) (by rfl) (by rfl) (Nat.le_of_ble_eq_true rfl) hdg (fun H locs h1 h2 h3 => kk H locs ⟨h1, h2, h3⟩)
theorem ja_mk (Z : zZ R_J p s m c args cc nL D cI cZ) (hH : zH D A H0 (jw h cI (mk, sz, rk, ro, ct, ix, rw, pa, d, ds, cn, tp, bo, cu)) H locs) {k : Nat} (hdg : decode cc pc = .ok (.iaload, 1)) (hk : k < 20) (kk : W p l e R s m args below meth c H locs cells slots Q (F0 m (pc + 1) ls (.int (mk k) :: rest))) : W p l e R s m args below meth c H locs cells slots Q (F0 m pc ls (.int (nI k) :: .ref (h 1) :: rest)) := by
  have e : (nI k).toNatClampNeg = k := nI_clamp (by omega)
  refine va_iald (D := D) Z.1 Z.2.1 Z.2.2.2.2.2 hH.1 1 0 (cA := cI) (n := 20) (f := mk) rfl rfl (vp_in_nI hk (by decide)) hdg ?_
  rw [e]
  exact kk
theorem js_mk (Z : zZ R_J p s m c args cc nL D cI cZ) (hH : zH D A H0 (jw h cI (mk, sz, rk, ro, ct, ix, rw, pa, d, ds, cn, tp, bo, cu)) H locs) {k : Nat} {x : Int32} (hdg : decode cc pc = .ok (.iastore, 1)) (hk : k < 20) (kk : ∀ (H : Heap) (locs : List Loc), zH D A H0 (jw h cI ((upd mk k x), sz, rk, ro, ct, ix, rw, pa, d, ds, cn, tp, bo, cu)) H locs → W p l e R s m args below meth c H locs cells slots Q (F0 m (pc + 1) ls rest)) : W p l e R s m args below meth c H locs cells slots Q (F0 m pc ls (.int x :: .int (nI k) :: .ref (h 1) :: rest)) := by
  have e : (nI k).toNatClampNeg = k := nI_clamp (by omega)
  refine va_iast (D := D) Z.1 Z.2.1 Z.2.2.2.2.2 hH.1 hH.2.1 hH.2.2 1 0 (cA := cI) (n := 20) (f := mk) rfl rfl (vp_in_nI hk (by decide)) hdg (fun H locs h1 h2 h3 => ?_)
  rw [e] at h1 h2
  exact kk H locs ⟨h1, h2, h3⟩
theorem ja_sz (Z : zZ R_J p s m c args cc nL D cI cZ) (hH : zH D A H0 (jw h cI (mk, sz, rk, ro, ct, ix, rw, pa, d, ds, cn, tp, bo, cu)) H locs) {k : Nat} (hdg : decode cc pc = .ok (.iaload, 1)) (hk : k < 20) (kk : W p l e R s m args below meth c H locs cells slots Q (F0 m (pc + 1) ls (.int (sz k) :: rest))) : W p l e R s m args below meth c H locs cells slots Q (F0 m pc ls (.int (nI k) :: .ref (h 2) :: rest)) := by
  have e : (nI k).toNatClampNeg = k := nI_clamp (by omega)
  refine va_iald (D := D) Z.1 Z.2.1 Z.2.2.2.2.2 hH.1 2 0 (cA := cI) (n := 20) (f := sz) rfl rfl (vp_in_nI hk (by decide)) hdg ?_
  rw [e]
  exact kk
theorem js_sz (Z : zZ R_J p s m c args cc nL D cI cZ) (hH : zH D A H0 (jw h cI (mk, sz, rk, ro, ct, ix, rw, pa, d, ds, cn, tp, bo, cu)) H locs) {k : Nat} {x : Int32} (hdg : decode cc pc = .ok (.iastore, 1)) (hk : k < 20) (kk : ∀ (H : Heap) (locs : List Loc), zH D A H0 (jw h cI (mk, (upd sz k x), rk, ro, ct, ix, rw, pa, d, ds, cn, tp, bo, cu)) H locs → W p l e R s m args below meth c H locs cells slots Q (F0 m (pc + 1) ls rest)) : W p l e R s m args below meth c H locs cells slots Q (F0 m pc ls (.int x :: .int (nI k) :: .ref (h 2) :: rest)) := by
  have e : (nI k).toNatClampNeg = k := nI_clamp (by omega)
  refine va_iast (D := D) Z.1 Z.2.1 Z.2.2.2.2.2 hH.1 hH.2.1 hH.2.2 2 0 (cA := cI) (n := 20) (f := sz) rfl rfl (vp_in_nI hk (by decide)) hdg (fun H locs h1 h2 h3 => ?_)
  rw [e] at h1 h2
  exact kk H locs ⟨h1, h2, h3⟩
theorem ja_rk (Z : zZ R_J p s m c args cc nL D cI cZ) (hH : zH D A H0 (jw h cI (mk, sz, rk, ro, ct, ix, rw, pa, d, ds, cn, tp, bo, cu)) H locs) {k : Nat} (hdg : decode cc pc = .ok (.iaload, 1)) (hk : k < 252) (kk : W p l e R s m args below meth c H locs cells slots Q (F0 m (pc + 1) ls (.int (rk k) :: rest))) : W p l e R s m args below meth c H locs cells slots Q (F0 m pc ls (.int (nI k) :: .ref (h 3) :: rest)) := by
  have e : (nI k).toNatClampNeg = k := nI_clamp (by omega)
  refine va_iald (D := D) Z.1 Z.2.1 Z.2.2.2.2.2 hH.1 3 0 (cA := cI) (n := 252) (f := rk) rfl rfl (vp_in_nI hk (by decide)) hdg ?_
  rw [e]
  exact kk
theorem js_rk (Z : zZ R_J p s m c args cc nL D cI cZ) (hH : zH D A H0 (jw h cI (mk, sz, rk, ro, ct, ix, rw, pa, d, ds, cn, tp, bo, cu)) H locs) {k : Nat} {x : Int32} (hdg : decode cc pc = .ok (.iastore, 1)) (hk : k < 252) (kk : ∀ (H : Heap) (locs : List Loc), zH D A H0 (jw h cI (mk, sz, (upd rk k x), ro, ct, ix, rw, pa, d, ds, cn, tp, bo, cu)) H locs → W p l e R s m args below meth c H locs cells slots Q (F0 m (pc + 1) ls rest)) : W p l e R s m args below meth c H locs cells slots Q (F0 m pc ls (.int x :: .int (nI k) :: .ref (h 3) :: rest)) := by
  have e : (nI k).toNatClampNeg = k := nI_clamp (by omega)
  refine va_iast (D := D) Z.1 Z.2.1 Z.2.2.2.2.2 hH.1 hH.2.1 hH.2.2 3 0 (cA := cI) (n := 252) (f := rk) rfl rfl (vp_in_nI hk (by decide)) hdg (fun H locs h1 h2 h3 => ?_)
  rw [e] at h1 h2
  exact kk H locs ⟨h1, h2, h3⟩
theorem ja_ro (Z : zZ R_J p s m c args cc nL D cI cZ) (hH : zH D A H0 (jw h cI (mk, sz, rk, ro, ct, ix, rw, pa, d, ds, cn, tp, bo, cu)) H locs) {k : Nat} (hdg : decode cc pc = .ok (.iaload, 1)) (hk : k < 30) (kk : W p l e R s m args below meth c H locs cells slots Q (F0 m (pc + 1) ls (.int (ro k) :: rest))) : W p l e R s m args below meth c H locs cells slots Q (F0 m pc ls (.int (nI k) :: .ref (h 4) :: rest)) := by
  have e : (nI k).toNatClampNeg = k := nI_clamp (by omega)
  refine va_iald (D := D) Z.1 Z.2.1 Z.2.2.2.2.2 hH.1 4 0 (cA := cI) (n := 30) (f := ro) rfl rfl (vp_in_nI hk (by decide)) hdg ?_
  rw [e]
  exact kk
theorem js_ro (Z : zZ R_J p s m c args cc nL D cI cZ) (hH : zH D A H0 (jw h cI (mk, sz, rk, ro, ct, ix, rw, pa, d, ds, cn, tp, bo, cu)) H locs) {k : Nat} {x : Int32} (hdg : decode cc pc = .ok (.iastore, 1)) (hk : k < 30) (kk : ∀ (H : Heap) (locs : List Loc), zH D A H0 (jw h cI (mk, sz, rk, (upd ro k x), ct, ix, rw, pa, d, ds, cn, tp, bo, cu)) H locs → W p l e R s m args below meth c H locs cells slots Q (F0 m (pc + 1) ls rest)) : W p l e R s m args below meth c H locs cells slots Q (F0 m pc ls (.int x :: .int (nI k) :: .ref (h 4) :: rest)) := by
  have e : (nI k).toNatClampNeg = k := nI_clamp (by omega)
  refine va_iast (D := D) Z.1 Z.2.1 Z.2.2.2.2.2 hH.1 hH.2.1 hH.2.2 4 0 (cA := cI) (n := 30) (f := ro) rfl rfl (vp_in_nI hk (by decide)) hdg (fun H locs h1 h2 h3 => ?_)
  rw [e] at h1 h2
  exact kk H locs ⟨h1, h2, h3⟩
theorem ja_ct (Z : zZ R_J p s m c args cc nL D cI cZ) (hH : zH D A H0 (jw h cI (mk, sz, rk, ro, ct, ix, rw, pa, d, ds, cn, tp, bo, cu)) H locs) {k : Nat} (hdg : decode cc pc = .ok (.iaload, 1)) (hk : k < 30) (kk : W p l e R s m args below meth c H locs cells slots Q (F0 m (pc + 1) ls (.int (ct k) :: rest))) : W p l e R s m args below meth c H locs cells slots Q (F0 m pc ls (.int (nI k) :: .ref (h 5) :: rest)) := by
  have e : (nI k).toNatClampNeg = k := nI_clamp (by omega)
  refine va_iald (D := D) Z.1 Z.2.1 Z.2.2.2.2.2 hH.1 5 0 (cA := cI) (n := 30) (f := ct) rfl rfl (vp_in_nI hk (by decide)) hdg ?_
  rw [e]
  exact kk
theorem js_ct (Z : zZ R_J p s m c args cc nL D cI cZ) (hH : zH D A H0 (jw h cI (mk, sz, rk, ro, ct, ix, rw, pa, d, ds, cn, tp, bo, cu)) H locs) {k : Nat} {x : Int32} (hdg : decode cc pc = .ok (.iastore, 1)) (hk : k < 30) (kk : ∀ (H : Heap) (locs : List Loc), zH D A H0 (jw h cI (mk, sz, rk, ro, (upd ct k x), ix, rw, pa, d, ds, cn, tp, bo, cu)) H locs → W p l e R s m args below meth c H locs cells slots Q (F0 m (pc + 1) ls rest)) : W p l e R s m args below meth c H locs cells slots Q (F0 m pc ls (.int x :: .int (nI k) :: .ref (h 5) :: rest)) := by
  have e : (nI k).toNatClampNeg = k := nI_clamp (by omega)
  refine va_iast (D := D) Z.1 Z.2.1 Z.2.2.2.2.2 hH.1 hH.2.1 hH.2.2 5 0 (cA := cI) (n := 30) (f := ct) rfl rfl (vp_in_nI hk (by decide)) hdg (fun H locs h1 h2 h3 => ?_)
  rw [e] at h1 h2
  exact kk H locs ⟨h1, h2, h3⟩
theorem ja_ix (Z : zZ R_J p s m c args cc nL D cI cZ) (hH : zH D A H0 (jw h cI (mk, sz, rk, ro, ct, ix, rw, pa, d, ds, cn, tp, bo, cu)) H locs) {k : Nat} (hdg : decode cc pc = .ok (.iaload, 1)) (hk : k < 30) (kk : W p l e R s m args below meth c H locs cells slots Q (F0 m (pc + 1) ls (.int (ix k) :: rest))) : W p l e R s m args below meth c H locs cells slots Q (F0 m pc ls (.int (nI k) :: .ref (h 6) :: rest)) := by
  have e : (nI k).toNatClampNeg = k := nI_clamp (by omega)
  refine va_iald (D := D) Z.1 Z.2.1 Z.2.2.2.2.2 hH.1 6 0 (cA := cI) (n := 30) (f := ix) rfl rfl (vp_in_nI hk (by decide)) hdg ?_
  rw [e]
  exact kk
theorem js_ix (Z : zZ R_J p s m c args cc nL D cI cZ) (hH : zH D A H0 (jw h cI (mk, sz, rk, ro, ct, ix, rw, pa, d, ds, cn, tp, bo, cu)) H locs) {k : Nat} {x : Int32} (hdg : decode cc pc = .ok (.iastore, 1)) (hk : k < 30) (kk : ∀ (H : Heap) (locs : List Loc), zH D A H0 (jw h cI (mk, sz, rk, ro, ct, (upd ix k x), rw, pa, d, ds, cn, tp, bo, cu)) H locs → W p l e R s m args below meth c H locs cells slots Q (F0 m (pc + 1) ls rest)) : W p l e R s m args below meth c H locs cells slots Q (F0 m pc ls (.int x :: .int (nI k) :: .ref (h 6) :: rest)) := by
  have e : (nI k).toNatClampNeg = k := nI_clamp (by omega)
  refine va_iast (D := D) Z.1 Z.2.1 Z.2.2.2.2.2 hH.1 hH.2.1 hH.2.2 6 0 (cA := cI) (n := 30) (f := ix) rfl rfl (vp_in_nI hk (by decide)) hdg (fun H locs h1 h2 h3 => ?_)
  rw [e] at h1 h2
  exact kk H locs ⟨h1, h2, h3⟩
theorem ja_rw (Z : zZ R_J p s m c args cc nL D cI cZ) (hH : zH D A H0 (jw h cI (mk, sz, rk, ro, ct, ix, rw, pa, d, ds, cn, tp, bo, cu)) H locs) {k : Nat} (hdg : decode cc pc = .ok (.iaload, 1)) (hk : k < 20) (kk : W p l e R s m args below meth c H locs cells slots Q (F0 m (pc + 1) ls (.int (rw k) :: rest))) : W p l e R s m args below meth c H locs cells slots Q (F0 m pc ls (.int (nI k) :: .ref (h 7) :: rest)) := by
  have e : (nI k).toNatClampNeg = k := nI_clamp (by omega)
  refine va_iald (D := D) Z.1 Z.2.1 Z.2.2.2.2.2 hH.1 7 0 (cA := cI) (n := 20) (f := rw) rfl rfl (vp_in_nI hk (by decide)) hdg ?_
  rw [e]
  exact kk
theorem js_rw (Z : zZ R_J p s m c args cc nL D cI cZ) (hH : zH D A H0 (jw h cI (mk, sz, rk, ro, ct, ix, rw, pa, d, ds, cn, tp, bo, cu)) H locs) {k : Nat} {x : Int32} (hdg : decode cc pc = .ok (.iastore, 1)) (hk : k < 20) (kk : ∀ (H : Heap) (locs : List Loc), zH D A H0 (jw h cI (mk, sz, rk, ro, ct, ix, (upd rw k x), pa, d, ds, cn, tp, bo, cu)) H locs → W p l e R s m args below meth c H locs cells slots Q (F0 m (pc + 1) ls rest)) : W p l e R s m args below meth c H locs cells slots Q (F0 m pc ls (.int x :: .int (nI k) :: .ref (h 7) :: rest)) := by
  have e : (nI k).toNatClampNeg = k := nI_clamp (by omega)
  refine va_iast (D := D) Z.1 Z.2.1 Z.2.2.2.2.2 hH.1 hH.2.1 hH.2.2 7 0 (cA := cI) (n := 20) (f := rw) rfl rfl (vp_in_nI hk (by decide)) hdg (fun H locs h1 h2 h3 => ?_)
  rw [e] at h1 h2
  exact kk H locs ⟨h1, h2, h3⟩
theorem ja_pa (Z : zZ R_J p s m c args cc nL D cI cZ) (hH : zH D A H0 (jw h cI (mk, sz, rk, ro, ct, ix, rw, pa, d, ds, cn, tp, bo, cu)) H locs) {k : Nat} (hdg : decode cc pc = .ok (.iaload, 1)) (hk : k < 20) (kk : W p l e R s m args below meth c H locs cells slots Q (F0 m (pc + 1) ls (.int (pa k) :: rest))) : W p l e R s m args below meth c H locs cells slots Q (F0 m pc ls (.int (nI k) :: .ref (h 8) :: rest)) := by
  have e : (nI k).toNatClampNeg = k := nI_clamp (by omega)
  refine va_iald (D := D) Z.1 Z.2.1 Z.2.2.2.2.2 hH.1 8 0 (cA := cI) (n := 20) (f := pa) rfl rfl (vp_in_nI hk (by decide)) hdg ?_
  rw [e]
  exact kk
theorem js_pa (Z : zZ R_J p s m c args cc nL D cI cZ) (hH : zH D A H0 (jw h cI (mk, sz, rk, ro, ct, ix, rw, pa, d, ds, cn, tp, bo, cu)) H locs) {k : Nat} {x : Int32} (hdg : decode cc pc = .ok (.iastore, 1)) (hk : k < 20) (kk : ∀ (H : Heap) (locs : List Loc), zH D A H0 (jw h cI (mk, sz, rk, ro, ct, ix, rw, (upd pa k x), d, ds, cn, tp, bo, cu)) H locs → W p l e R s m args below meth c H locs cells slots Q (F0 m (pc + 1) ls rest)) : W p l e R s m args below meth c H locs cells slots Q (F0 m pc ls (.int x :: .int (nI k) :: .ref (h 8) :: rest)) := by
  have e : (nI k).toNatClampNeg = k := nI_clamp (by omega)
  refine va_iast (D := D) Z.1 Z.2.1 Z.2.2.2.2.2 hH.1 hH.2.1 hH.2.2 8 0 (cA := cI) (n := 20) (f := pa) rfl rfl (vp_in_nI hk (by decide)) hdg (fun H locs h1 h2 h3 => ?_)
  rw [e] at h1 h2
  exact kk H locs ⟨h1, h2, h3⟩
theorem ma_iN (Z : zZ R_M p s m c args cc nL D cI cZ) (hH : zH D A H0 (mw h cI cZ (iN, la, cn, tp, bo)) H locs) {k : Nat} (hdg : decode cc pc = .ok (.baload, 1)) (hk : k < 630) (kk : W p l e R s m args below meth c H locs cells slots Q (F0 m (pc + 1) ls (.int (iN k) :: rest))) : W p l e R s m args below meth c H locs cells slots Q (F0 m pc ls (.int (nI k) :: .ref (h 1) :: rest)) := by
  have e : (nI k).toNatClampNeg = k := nI_clamp (by omega)
  refine va_zald (D := D) Z.1 Z.2.1 Z.2.2.2.2.2 hH.1 1 1 (cA := cZ) (n := 630) (f := iN) rfl rfl (vp_in_nI hk (by decide)) hdg ?_
  rw [e]
  exact kk
theorem ms_iN (Z : zZ R_M p s m c args cc nL D cI cZ) (hH : zH D A H0 (mw h cI cZ (iN, la, cn, tp, bo)) H locs) {k : Nat} {x : Int32} (hdg : decode cc pc = .ok (.bastore, 1)) (hk : k < 630) (hv : vp_nar .boolean x = x) (kk : ∀ (H : Heap) (locs : List Loc), zH D A H0 (mw h cI cZ ((upd iN k x), la, cn, tp, bo)) H locs → W p l e R s m args below meth c H locs cells slots Q (F0 m (pc + 1) ls rest)) : W p l e R s m args below meth c H locs cells slots Q (F0 m pc ls (.int x :: .int (nI k) :: .ref (h 1) :: rest)) := by
  have e : (nI k).toNatClampNeg = k := nI_clamp (by omega)
  refine va_zast (D := D) Z.1 Z.2.1 Z.2.2.2.2.2 hH.1 hH.2.1 hH.2.2 1 1 (cA := cZ) (n := 630) (f := iN) rfl rfl (vp_in_nI hk (by decide)) hdg (fun H locs h1 h2 h3 => ?_)
  rw [e, hv] at h1 h2
  exact kk H locs ⟨h1, h2, h3⟩
theorem ma_la (Z : zZ R_M p s m c args cc nL D cI cZ) (hH : zH D A H0 (mw h cI cZ (iN, la, cn, tp, bo)) H locs) {k : Nat} (hdg : decode cc pc = .ok (.iaload, 1)) (hk : k < 20) (kk : W p l e R s m args below meth c H locs cells slots Q (F0 m (pc + 1) ls (.int (la k) :: rest))) : W p l e R s m args below meth c H locs cells slots Q (F0 m pc ls (.int (nI k) :: .ref (h 2) :: rest)) := by
  have e : (nI k).toNatClampNeg = k := nI_clamp (by omega)
  refine va_iald (D := D) Z.1 Z.2.1 Z.2.2.2.2.2 hH.1 2 0 (cA := cI) (n := 20) (f := la) rfl rfl (vp_in_nI hk (by decide)) hdg ?_
  rw [e]
  exact kk
theorem ms_la (Z : zZ R_M p s m c args cc nL D cI cZ) (hH : zH D A H0 (mw h cI cZ (iN, la, cn, tp, bo)) H locs) {k : Nat} {x : Int32} (hdg : decode cc pc = .ok (.iastore, 1)) (hk : k < 20) (kk : ∀ (H : Heap) (locs : List Loc), zH D A H0 (mw h cI cZ (iN, (upd la k x), cn, tp, bo)) H locs → W p l e R s m args below meth c H locs cells slots Q (F0 m (pc + 1) ls rest)) : W p l e R s m args below meth c H locs cells slots Q (F0 m pc ls (.int x :: .int (nI k) :: .ref (h 2) :: rest)) := by
  have e : (nI k).toNatClampNeg = k := nI_clamp (by omega)
  refine va_iast (D := D) Z.1 Z.2.1 Z.2.2.2.2.2 hH.1 hH.2.1 hH.2.2 2 0 (cA := cI) (n := 20) (f := la) rfl rfl (vp_in_nI hk (by decide)) hdg (fun H locs h1 h2 h3 => ?_)
  rw [e] at h1 h2
  exact kk H locs ⟨h1, h2, h3⟩
theorem jc_i (Z : zZ R_J p s m c args cc nL D cI cZ) {y : MethodName} {b : ByteArray} {n idx : Nat} {ret : Option FieldType} {rm : Room} {As : List Value} {σ : JS} {post : Int32 → JS → Prop} (hA : ∀ q, s.heap.size ≤ q → A q) (hH : zH D A s.heap (jw h cI σ) H locs) (hdg : decode cc pc = .ok (.invokevirtual idx, 3)) (ok : zOk R_J idx y b n ret As.length) (hc : y.cls = R_J) (hM : zMi l y b n ret rm D cI cZ (jw h cI) (.ref (h 0) :: As) σ post) (hrm : zRm rm n R) (hl : ls.size = nL) (hrest : (rest.map fun v => v.category).sum ≤ 8) {st0 : List Value} (hst : st0 = As.reverse ++ .ref (h 0) :: rest) (kk : ∀ (r : Int32) (σ' : JS) (H : Heap) (locs : List Loc), post r σ' → zH D A s.heap (jw h cI σ') H locs → W p l e R s m args below meth c H locs 0 0 Q (F0 m (pc + 3) ls (.int r :: rest))) : W p l e R s m args below meth c H locs 0 0 Q (F0 m pc ls st0) :=
  zcallG_i Z hM ok hrm ⟨0, _, _, rfl, hc.symm, rfl⟩ hA hH [0, 1, 2, 3, 4, 5, 6, 7, 8] [] rfl rfl (by decide) (by decide) (fun _ h => by cases h) hl hrest ⟨Nat.zero_le _, Nat.zero_le _⟩ hdg hst (wr := []) kk
theorem jc_v (Z : zZ R_J p s m c args cc nL D cI cZ) {y : MethodName} {b : ByteArray} {n idx : Nat} {ret : Option FieldType} {rm : Room} {As : List Value} {σ : JS} {post : JS → Prop} (hA : ∀ q, s.heap.size ≤ q → A q) (hH : zH D A s.heap (jw h cI σ) H locs) (hdg : decode cc pc = .ok (.invokevirtual idx, 3)) (ok : zOk R_J idx y b n ret As.length) (hc : y.cls = R_J) (hM : zMv l y b n ret rm D cI cZ (jw h cI) (.ref (h 0) :: As) σ post) (hrm : zRm rm n R) (hl : ls.size = nL) (hrest : (rest.map fun v => v.category).sum ≤ 8) {st0 : List Value} (hst : st0 = As.reverse ++ .ref (h 0) :: rest) (kk : ∀ (σ' : JS) (H : Heap) (locs : List Loc), post σ' → zH D A s.heap (jw h cI σ') H locs → W p l e R s m args below meth c H locs 0 0 Q (F0 m (pc + 3) ls rest)) : W p l e R s m args below meth c H locs 0 0 Q (F0 m pc ls st0) :=
  zcallG_v Z hM ok hrm ⟨0, _, _, rfl, hc.symm, rfl⟩ hA hH [0, 1, 2, 3, 4, 5, 6, 7, 8] [] rfl rfl (by decide) (by decide) (fun _ h => by cases h) hl hrest ⟨Nat.zero_le _, Nat.zero_le _⟩ hdg hst (wr := []) kk
theorem mc_i (Z : zZ R_M p s m c args cc nL D cI cZ) {y : MethodName} {b : ByteArray} {n idx : Nat} {ret : Option FieldType} {rm : Room} {As : List Value} {σ : MS} {post : Int32 → MS → Prop} (hA : ∀ q, s.heap.size ≤ q → A q) (hH : zH D A s.heap (mw h cI cZ σ) H locs) (hdg : decode cc pc = .ok (.invokevirtual idx, 3)) (ok : zOk R_M idx y b n ret As.length) (hc : y.cls = R_M) (hM : zMi l y b n ret rm D cI cZ (mw h cI cZ) (.ref (h 0) :: As) σ post) (hrm : zRm rm n R) (hl : ls.size = nL) (hrest : (rest.map fun v => v.category).sum ≤ 8) {st0 : List Value} (hst : st0 = As.reverse ++ .ref (h 0) :: rest) (kk : ∀ (r : Int32) (σ' : MS) (H : Heap) (locs : List Loc), post r σ' → zH D A s.heap (mw h cI cZ σ') H locs → W p l e R s m args below meth c H locs 0 0 Q (F0 m (pc + 3) ls (.int r :: rest))) : W p l e R s m args below meth c H locs 0 0 Q (F0 m pc ls st0) :=
  zcallG_i Z hM ok hrm ⟨1, _, _, rfl, hc.symm, rfl⟩ hA hH [0, 1, 2] [] rfl rfl (by decide) (by decide) (fun _ h => by cases h) hl hrest ⟨Nat.zero_le _, Nat.zero_le _⟩ hdg hst (wr := []) kk
theorem mc_v (Z : zZ R_M p s m c args cc nL D cI cZ) {y : MethodName} {b : ByteArray} {n idx : Nat} {ret : Option FieldType} {rm : Room} {As : List Value} {σ : MS} {post : MS → Prop} (hA : ∀ q, s.heap.size ≤ q → A q) (hH : zH D A s.heap (mw h cI cZ σ) H locs) (hdg : decode cc pc = .ok (.invokevirtual idx, 3)) (ok : zOk R_M idx y b n ret As.length) (hc : y.cls = R_M) (hM : zMv l y b n ret rm D cI cZ (mw h cI cZ) (.ref (h 0) :: As) σ post) (hrm : zRm rm n R) (hl : ls.size = nL) (hrest : (rest.map fun v => v.category).sum ≤ 8) {st0 : List Value} (hst : st0 = As.reverse ++ .ref (h 0) :: rest) (kk : ∀ (σ' : MS) (H : Heap) (locs : List Loc), post σ' → zH D A s.heap (mw h cI cZ σ') H locs → W p l e R s m args below meth c H locs 0 0 Q (F0 m (pc + 3) ls rest)) : W p l e R s m args below meth c H locs 0 0 Q (F0 m pc ls st0) :=
  zcallG_v Z hM ok hrm ⟨1, _, _, rfl, hc.symm, rfl⟩ hA hH [0, 1, 2] [] rfl rfl (by decide) (by decide) (fun _ h => by cases h) hl hrest ⟨Nat.zero_le _, Nat.zero_le _⟩ hdg hst (wr := []) kk
theorem jc_s (Z : zZ R_J p s m c args cc nL D cI cZ) {y : MethodName} {b : ByteArray} {n idx : Nat} {ret : Option FieldType} {rm : Room} {As : List Value} {σ : JS} {post : Int32 → Unit → Prop} (hA : ∀ q, s.heap.size ≤ q → A q) (hH : zH D A s.heap (jw h cI σ) H locs) (hdg : decode cc pc = .ok (.invokestatic idx, 3)) (ok : zOkS R_J idx y b n ret As.length) (hM : zMi l y b n ret rm D cI cZ (fun _ : Unit => []) As () post) (hrm : zRm rm n R) (hl : ls.size = nL) (hrest : (rest.map fun v => v.category).sum ≤ 8) {st0 : List Value} (hst : st0 = As.reverse ++ rest) (kk : ∀ (r : Int32) (H : Heap) (locs : List Loc), post r () → zH D A s.heap (jw h cI σ) H locs → W p l e R s m args below meth c H locs 0 0 Q (F0 m (pc + 3) ls (.int r :: rest))) : W p l e R s m args below meth c H locs 0 0 Q (F0 m pc ls st0) :=
  zcallS_i Z hM ok hrm hA hH [0, 1, 2, 3, 4, 5, 6, 7, 8] rfl (by decide) hl hrest ⟨Nat.zero_le _, Nat.zero_le _⟩ hdg hst kk
end ZW
theorem ok_J_isToken : zOkS R_J 41 y_J_isToken b_J_isToken 1 (some .boolean) 1 := ⟨ml_J_41, mt_J_isToken, mi_J, mc_J_isToken, by decide +kernel⟩
theorem ok_J_isRecord : zOk R_J 51 y_J_isRecord b_J_isRecord 2 (some .boolean) 1 := ⟨ml_J_51, mn_J_isRecord, ms_J_isRecord, mi_J, mc_J_isRecord, by decide +kernel⟩
theorem ok_J_refresh : zOk R_J 61 y_J_refresh b_J_refresh 5 none 0 := ⟨ml_J_61, mn_J_refresh, ms_J_refresh, mi_J, mc_J_refresh, by decide +kernel⟩
theorem ok_J_ones : zOkS R_J 64 y_J_ones b_J_ones 2 (some .int) 1 := ⟨ml_J_64, mt_J_ones, mi_J, mc_J_ones, by decide +kernel⟩
theorem ok_J_probeDraft : zOk R_J 68 y_J_probeDraft b_J_probeDraft 1 (some .int) 0 := ⟨ml_J_68, mn_J_probeDraft, ms_J_probeDraft, mi_J, mc_J_probeDraft, by decide +kernel⟩
theorem ok_J_root : zOk R_J 72 y_J_root b_J_root 4 (some .int) 1 := ⟨ml_J_72, mn_J_root, ms_J_root, mi_J, mc_J_root, by decide +kernel⟩
theorem ok_J_rankTokens : zOk R_J 79 y_J_rankTokens b_J_rankTokens 4 none 0 := ⟨ml_J_79, mn_J_rankTokens, ms_J_rankTokens, mi_J, mc_J_rankTokens, by decide +kernel⟩
theorem ok_J_spell : zOk R_J 82 y_J_spell b_J_spell 6 none 2 := ⟨ml_J_82, mn_J_spell, ms_J_spell, mi_J, mc_J_spell, by decide +kernel⟩
theorem ok_J_prefixLength : zOk R_J 86 y_J_prefixLength b_J_prefixLength 3 (some .int) 1 := ⟨ml_J_86, mn_J_prefixLength, ms_J_prefixLength, mi_J, mc_J_prefixLength, by decide +kernel⟩
theorem ok_J_probe : zOk R_J 89 y_J_probe b_J_probe 8 (some .int) 2 := ⟨ml_J_89, mn_J_probe, ms_J_probe, mi_J, mc_J_probe, by decide +kernel⟩
theorem ok_J_joinRow : zOk R_J 93 y_J_joinRow b_J_joinRow 6 none 1 := ⟨ml_J_93, mn_J_joinRow, ms_J_joinRow, mi_J, mc_J_joinRow, by decide +kernel⟩
theorem ok_J_verify : zOk R_J 97 y_J_verify b_J_verify 13 (some .boolean) 3 := ⟨ml_J_97, mn_J_verify, ms_J_verify, mi_J, mc_J_verify, by decide +kernel⟩
theorem okl_J_token : zOk R_law 13 y_J_token b_J_token 3 (some .int) 1 := ⟨ml_law_13, mn_J_token, ms_J_token, mi_J, mc_J_token, by decide +kernel⟩
theorem okl_M_token : zOk R_law 17 y_M_token b_M_token 2 (some .int) 1 := ⟨ml_law_17, mn_M_token, ms_M_token, mi_M, mc_M_token, by decide +kernel⟩
theorem okl_J_drop : zOk R_law 18 y_J_drop b_J_drop 3 (some .int) 1 := ⟨ml_law_18, mn_J_drop, ms_J_drop, mi_J, mc_J_drop, by decide +kernel⟩
theorem okl_M_drop : zOk R_law 21 y_M_drop b_M_drop 2 (some .int) 1 := ⟨ml_law_21, mn_M_drop, ms_M_drop, mi_M, mc_M_drop, by decide +kernel⟩
theorem okl_J_clear : zOk R_law 22 y_J_clear b_J_clear 2 (some .int) 0 := ⟨ml_law_22, mn_J_clear, ms_J_clear, mi_J, mc_J_clear, by decide +kernel⟩
theorem okl_M_clear : zOk R_law 26 y_M_clear b_M_clear 3 (some .int) 0 := ⟨ml_law_26, mn_M_clear, ms_M_clear, mi_M, mc_M_clear, by decide +kernel⟩
theorem okl_J_recall : zOk R_law 27 y_J_recall b_J_recall 2 (some .int) 1 := ⟨ml_law_27, mn_J_recall, ms_J_recall, mi_J, mc_J_recall, by decide +kernel⟩
theorem okl_M_recall : zOk R_law 30 y_M_recall b_M_recall 2 (some .int) 1 := ⟨ml_law_30, mn_M_recall, ms_M_recall, mi_M, mc_M_recall, by decide +kernel⟩
theorem okl_J_store : zOk R_law 31 y_J_store b_J_store 1 (some .int) 0 := ⟨ml_law_31, mn_J_store, ms_J_store, mi_J, mc_J_store, by decide +kernel⟩
theorem okl_M_store : zOk R_law 34 y_M_store b_M_store 2 (some .int) 0 := ⟨ml_law_34, mn_M_store, ms_M_store, mi_M, mc_M_store, by decide +kernel⟩
theorem okl_J_remove : zOk R_law 35 y_J_remove b_J_remove 3 (some .int) 1 := ⟨ml_law_35, mn_J_remove, ms_J_remove, mi_J, mc_J_remove, by decide +kernel⟩
theorem okl_M_remove : zOk R_law 38 y_M_remove b_M_remove 3 (some .int) 1 := ⟨ml_law_38, mn_M_remove, ms_M_remove, mi_M, mc_M_remove, by decide +kernel⟩
theorem okl_J_threshold : zOk R_law 39 y_J_threshold b_J_threshold 3 (some .int) 2 := ⟨ml_law_39, mn_J_threshold, ms_J_threshold, mi_J, mc_J_threshold, by decide +kernel⟩
theorem okl_M_threshold : zOk R_law 43 y_M_threshold b_M_threshold 3 (some .int) 2 := ⟨ml_law_43, mn_M_threshold, ms_M_threshold, mi_M, mc_M_threshold, by decide +kernel⟩
theorem okl_J_records : zOk R_law 44 y_J_records b_J_records 1 (some .int) 0 := ⟨ml_law_44, mn_J_records, ms_J_records, mi_J, mc_J_records, by decide +kernel⟩
theorem okl_M_records : zOk R_law 47 y_M_records b_M_records 1 (some .int) 0 := ⟨ml_law_47, mn_M_records, ms_M_records, mi_M, mc_M_records, by decide +kernel⟩
theorem okl_J_size : zOk R_law 48 y_J_size b_J_size 2 (some .int) 1 := ⟨ml_law_48, mn_J_size, ms_J_size, mi_J, mc_J_size, by decide +kernel⟩
theorem okl_M_size : zOk R_law 51 y_M_size b_M_size 2 (some .int) 1 := ⟨ml_law_51, mn_M_size, ms_M_size, mi_M, mc_M_size, by decide +kernel⟩
theorem okl_J_has : zOk R_law 52 y_J_has b_J_has 3 (some .int) 2 := ⟨ml_law_52, mn_J_has, ms_J_has, mi_J, mc_J_has, by decide +kernel⟩
theorem okl_M_has : zOk R_law 55 y_M_has b_M_has 3 (some .int) 2 := ⟨ml_law_55, mn_M_has, ms_M_has, mi_M, mc_M_has, by decide +kernel⟩
theorem okl_J_frequency : zOk R_law 56 y_J_frequency b_J_frequency 2 (some .int) 1 := ⟨ml_law_56, mn_J_frequency, ms_J_frequency, mi_J, mc_J_frequency, by decide +kernel⟩
theorem okl_M_frequency : zOk R_law 59 y_M_frequency b_M_frequency 4 (some .int) 1 := ⟨ml_law_59, mn_M_frequency, ms_M_frequency, mi_M, mc_M_frequency, by decide +kernel⟩
theorem okl_J_common : zOk R_law 60 y_J_common b_J_common 3 (some .int) 2 := ⟨ml_law_60, mn_J_common, ms_J_common, mi_J, mc_J_common, by decide +kernel⟩
theorem okl_M_common : zOk R_law 63 y_M_common b_M_common 3 (some .int) 2 := ⟨ml_law_63, mn_M_common, ms_M_common, mi_M, mc_M_common, by decide +kernel⟩
theorem okl_J_similar : zOk R_law 64 y_J_similar b_J_similar 3 (some .int) 2 := ⟨ml_law_64, mn_J_similar, ms_J_similar, mi_J, mc_J_similar, by decide +kernel⟩
theorem okl_M_similar : zOk R_law 67 y_M_similar b_M_similar 3 (some .int) 2 := ⟨ml_law_67, mn_M_similar, ms_M_similar, mi_M, mc_M_similar, by decide +kernel⟩
theorem okl_J_pairs : zOk R_law 68 y_J_pairs b_J_pairs 3 (some .int) 0 := ⟨ml_law_68, mn_J_pairs, ms_J_pairs, mi_J, mc_J_pairs, by decide +kernel⟩
theorem okl_M_pairs : zOk R_law 71 y_M_pairs b_M_pairs 4 (some .int) 0 := ⟨ml_law_71, mn_M_pairs, ms_M_pairs, mi_M, mc_M_pairs, by decide +kernel⟩
theorem okl_J_degree : zOk R_law 72 y_J_degree b_J_degree 2 (some .int) 1 := ⟨ml_law_72, mn_J_degree, ms_J_degree, mi_J, mc_J_degree, by decide +kernel⟩
theorem okl_M_degree : zOk R_law 75 y_M_degree b_M_degree 4 (some .int) 1 := ⟨ml_law_75, mn_M_degree, ms_M_degree, mi_M, mc_M_degree, by decide +kernel⟩
theorem okl_J_partner : zOk R_law 76 y_J_partner b_J_partner 5 (some .int) 2 := ⟨ml_law_76, mn_J_partner, ms_J_partner, mi_J, mc_J_partner, by decide +kernel⟩
theorem okl_M_partner : zOk R_law 79 y_M_partner b_M_partner 5 (some .int) 2 := ⟨ml_law_79, mn_M_partner, ms_M_partner, mi_M, mc_M_partner, by decide +kernel⟩
theorem okl_J_nearest : zOk R_law 80 y_J_nearest b_J_nearest 8 (some .int) 1 := ⟨ml_law_80, mn_J_nearest, ms_J_nearest, mi_J, mc_J_nearest, by decide +kernel⟩
theorem okl_M_nearest : zOk R_law 83 y_M_nearest b_M_nearest 8 (some .int) 1 := ⟨ml_law_83, mn_M_nearest, ms_M_nearest, mi_M, mc_M_nearest, by decide +kernel⟩
theorem okl_J_matches : zOk R_law 84 y_J_matches b_J_matches 2 (some .int) 0 := ⟨ml_law_84, mn_J_matches, ms_J_matches, mi_J, mc_J_matches, by decide +kernel⟩
theorem okl_M_matches : zOk R_law 87 y_M_matches b_M_matches 3 (some .int) 0 := ⟨ml_law_87, mn_M_matches, ms_M_matches, mi_M, mc_M_matches, by decide +kernel⟩
theorem okl_J_match : zOk R_law 88 y_J_match b_J_match 4 (some .int) 1 := ⟨ml_law_88, mn_J_match, ms_J_match, mi_J, mc_J_match, by decide +kernel⟩
theorem okl_M_match : zOk R_law 91 y_M_match b_M_match 3 (some .int) 1 := ⟨ml_law_91, mn_M_match, ms_M_match, mi_M, mc_M_match, by decide +kernel⟩
theorem okl_J_containing : zOk R_law 92 y_J_containing b_J_containing 3 (some .int) 0 := ⟨ml_law_92, mn_J_containing, ms_J_containing, mi_J, mc_J_containing, by decide +kernel⟩
theorem okl_M_containing : zOk R_law 95 y_M_containing b_M_containing 4 (some .int) 0 := ⟨ml_law_95, mn_M_containing, ms_M_containing, mi_M, mc_M_containing, by decide +kernel⟩
theorem okl_J_groups : zOk R_law 96 y_J_groups b_J_groups 3 (some .int) 0 := ⟨ml_law_96, mn_J_groups, ms_J_groups, mi_J, mc_J_groups, by decide +kernel⟩
theorem okl_M_groups : zOk R_law 99 y_M_groups b_M_groups 3 (some .int) 0 := ⟨ml_law_99, mn_M_groups, ms_M_groups, mi_M, mc_M_groups, by decide +kernel⟩
theorem okl_J_groupOf : zOk R_law 100 y_J_groupOf b_J_groupOf 2 (some .int) 1 := ⟨ml_law_100, mn_J_groupOf, ms_J_groupOf, mi_J, mc_J_groupOf, by decide +kernel⟩
theorem okl_M_groupOf : zOk R_law 103 y_M_groupOf b_M_groupOf 2 (some .int) 1 := ⟨ml_law_103, mn_M_groupOf, ms_M_groupOf, mi_M, mc_M_groupOf, by decide +kernel⟩
theorem okl_J_groupSize : zOk R_law 104 y_J_groupSize b_J_groupSize 5 (some .int) 1 := ⟨ml_law_104, mn_J_groupSize, ms_J_groupSize, mi_J, mc_J_groupSize, by decide +kernel⟩
theorem okl_M_groupSize : zOk R_law 107 y_M_groupSize b_M_groupSize 4 (some .int) 1 := ⟨ml_law_107, mn_M_groupSize, ms_M_groupSize, mi_M, mc_M_groupSize, by decide +kernel⟩
theorem ok_M_badToken : zOk R_M 27 y_M_badToken b_M_badToken 2 (some .boolean) 1 := ⟨ml_M_27, mn_M_badToken, ms_M_badToken, mi_M, mc_M_badToken, by decide +kernel⟩
theorem ok_M_sizeOf : zOk R_M 31 y_M_sizeOf b_M_sizeOf 4 (some .int) 1 := ⟨ml_M_31, mn_M_sizeOf, ms_M_sizeOf, mi_M, mc_M_sizeOf, by decide +kernel⟩
theorem ok_M_bad : zOk R_M 35 y_M_bad b_M_bad 2 (some .boolean) 1 := ⟨ml_M_35, mn_M_bad, ms_M_bad, mi_M, mc_M_bad, by decide +kernel⟩
theorem ok_M_copy : zOk R_M 38 y_M_copy b_M_copy 4 none 2 := ⟨ml_M_38, mn_M_copy, ms_M_copy, mi_M, mc_M_copy, by decide +kernel⟩
theorem ok_M_both : zOk R_M 42 y_M_both b_M_both 5 (some .int) 2 := ⟨ml_M_42, mn_M_both, ms_M_both, mi_M, mc_M_both, by decide +kernel⟩
theorem ok_M_either : zOk R_M 46 y_M_either b_M_either 5 (some .int) 2 := ⟨ml_M_46, mn_M_either, ms_M_either, mi_M, mc_M_either, by decide +kernel⟩
theorem ok_M_alike : zOk R_M 49 y_M_alike b_M_alike 5 (some .boolean) 2 := ⟨ml_M_49, mn_M_alike, ms_M_alike, mi_M, mc_M_alike, by decide +kernel⟩
theorem ok_M_lower : zOk R_M 53 y_M_lower b_M_lower 4 (some .boolean) 0 := ⟨ml_M_53, mn_M_lower, ms_M_lower, mi_M, mc_M_lower, by decide +kernel⟩
theorem ok_M_join : zOk R_M 57 y_M_join b_M_join 3 none 0 := ⟨ml_M_57, mn_M_join, ms_M_join, mi_M, mc_M_join, by decide +kernel⟩
end
section
/-! how many of 0 .. n-1; bits; the sum of a word's bits -/
def cnt (f : Nat → Bool) : Nat → Nat
  | 0 => 0
  | n + 1 => cnt f n + (f n).toNat
theorem cnt_0 (f : Nat → Bool) : cnt f 0 = 0 := rfl
theorem cnt_s (f : Nat → Bool) (n : Nat) : cnt f (n + 1) = cnt f n + (f n).toNat := rfl
theorem cnt_t {f : Nat → Bool} {n : Nat} (h : f n = true) : cnt f (n + 1) = cnt f n + 1 := by rw [cnt_s, h]; rfl
theorem cnt_f {f : Nat → Bool} {n : Nat} (h : f n = false) : cnt f (n + 1) = cnt f n := by rw [cnt_s, h]; rfl
theorem tn_le (b : Bool) : b.toNat ≤ 1 := by cases b <;> decide
theorem tn_1 {b : Bool} : b.toNat = 1 ↔ b = true := by cases b <;> decide
theorem tn_0 {b : Bool} : b.toNat = 0 ↔ b = false := by cases b <;> decide
theorem tn_n1 {b : Bool} : b.toNat ≠ 1 ↔ b = false := by cases b <;> decide
theorem tn_n0 {b : Bool} : b.toNat ≠ 0 ↔ b = true := by cases b <;> decide
theorem cnt_le (f : Nat → Bool) (n : Nat) : cnt f n ≤ n := by
  induction n with
  | zero => exact Nat.le_refl 0
  | succ n ih => rw [cnt_s]; have := tn_le (f n); omega
theorem cnt_congr {f g : Nat → Bool} {n : Nat} (h : ∀ i, i < n → f i = g i) : cnt f n = cnt g n := by
  induction n with
  | zero => rfl
  | succ n ih => rw [cnt_s, cnt_s, ih (fun i hi => h i (by omega)), h n (by omega)]
theorem cnt_add (f : Nat → Bool) (a b : Nat) : cnt f (a + b) = cnt f a + cnt (fun i => f (a + i)) b := by
  induction b with
  | zero => rfl
  | succ b ih => rw [← Nat.add_assoc, cnt_s, cnt_s, ih]; omega
theorem cnt_mono (f : Nat → Bool) {a b : Nat} (h : a ≤ b) : cnt f a ≤ cnt f b := by
  obtain ⟨k, rfl⟩ := Nat.le.dest h
  rw [cnt_add]; omega
theorem cnt_gap (f : Nat → Bool) {a b : Nat} (h : a ≤ b) : cnt f b ≤ cnt f a + (b - a) := by
  obtain ⟨k, rfl⟩ := Nat.le.dest h
  rw [cnt_add]
  have := cnt_le (fun i => f (a + i)) k
  omega
theorem cnt_lt {f : Nat → Bool} {i n : Nat} (h : f i = true) (hi : i < n) : cnt f i < cnt f n := by
  have h1 := cnt_mono f (show i + 1 ≤ n from hi)
  rw [cnt_t h] at h1
  omega
theorem cnt_imp {f g : Nat → Bool} {n : Nat} (h : ∀ i, i < n → f i = true → g i = true) : cnt f n ≤ cnt g n := by
  induction n with
  | zero => exact Nat.le_refl 0
  | succ n ih =>
    have h1 := ih (fun i hi => h i (by omega))
    have h2 := h n (by omega)
    rw [cnt_s, cnt_s]
    cases hf : f n with
    | false => simp; omega
    | true => rw [h2 hf]; simp; omega
theorem cnt_pos {f : Nat → Bool} {n : Nat} (h : 0 < cnt f n) : ∃ i, i < n ∧ f i = true := by
  induction n with
  | zero => exact absurd h (Nat.lt_irrefl 0)
  | succ n ih =>
    cases hf : f n with
    | true => exact ⟨n, by omega, hf⟩
    | false =>
      rw [cnt_f hf] at h
      obtain ⟨i, h1, h2⟩ := ih h
      exact ⟨i, by omega, h2⟩
theorem cnt_zero {f : Nat → Bool} {n : Nat} (h : ∀ i, i < n → f i = false) : cnt f n = 0 := by
  rcases Nat.eq_zero_or_pos (cnt f n) with h1 | h1
  · exact h1
  · obtain ⟨i, h2, h3⟩ := cnt_pos h1
    rw [h i h2] at h3
    cases h3
theorem cnt_full {f : Nat → Bool} {n : Nat} (h : n ≤ cnt f n) : ∀ i, i < n → f i = true := by
  intro i hi
  cases hf : f i with
  | true => rfl
  | false =>
    have h1 := cnt_gap f (show i + 1 ≤ n from hi)
    rw [cnt_f hf] at h1
    have h2 := cnt_le f i
    omega
theorem cnt_all {f : Nat → Bool} {n : Nat} (h : ∀ i, i < n → f i = true) : cnt f n = n := by
  induction n with
  | zero => rfl
  | succ n ih => rw [cnt_t (h n (by omega)), ih (fun i hi => h i (by omega))]
theorem cnt_or_and (f g : Nat → Bool) (n : Nat) : cnt (fun i => f i || g i) n + cnt (fun i => f i && g i) n = cnt f n + cnt g n := by
  induction n with
  | zero => rfl
  | succ n ih =>
    simp only [cnt_s]
    cases f n <;> cases g n <;> simp <;> omega
theorem cnt_sub (f g : Nat → Bool) (n : Nat) (h : cnt (fun i => f i && g i) n = cnt f n) : ∀ i, i < n → f i = true → g i = true := by
  induction n with
  | zero => intro i hi; omega
  | succ n ih =>
    have hle : cnt (fun i => f i && g i) n ≤ cnt f n := cnt_imp (fun i _ q => (Bool.and_eq_true_iff.mp q).1)
    rw [cnt_s, cnt_s] at h
    have h2 : (f n && g n).toNat ≤ (f n).toNat := by cases f n <;> cases g n <;> decide
    intro i hi hf
    rcases Nat.lt_or_ge i n with q | q
    · exact ih (by omega) i q hf
    · have e : i = n := by omega
      subst e
      have h3 : (f i && g i).toNat = (f i).toNat := by omega
      rw [hf] at h3
      revert h3
      cases g i <;> decide
theorem cnt_set_t {f g : Nat → Bool} {k n : Nat} (hk : k < n) (h : f k = false) (hg : g k = true) (ho : ∀ i, i < n → i ≠ k → g i = f i) : cnt g n = cnt f n + 1 := by
  induction n with
  | zero => omega
  | succ n ih =>
    rcases Nat.lt_or_ge k n with q | q
    · rw [cnt_s, cnt_s, ih q (fun i hi => ho i (by omega)), ho n (by omega) (by omega)]; omega
    · have e : k = n := by omega
      subst e
      rw [cnt_t hg, cnt_f h, cnt_congr (fun i hi => ho i (by omega) (by omega))]
/-! bits of an int -/
def bt (x : Int32) (i : Nat) : Bool := x.toBitVec.getLsbD i
theorem b_ext {x y : Int32} (h : ∀ i, i < 32 → bt x i = bt y i) : x = y := Int32.toBitVec_inj.mp (BitVec.eq_of_getLsbD_eq (fun i hi => h i hi))
theorem b_or (x y : Int32) (i : Nat) : bt (x ||| y) i = (bt x i || bt y i) := by unfold bt; rw [Int32.toBitVec_or, BitVec.getLsbD_or]
theorem b_and (x y : Int32) (i : Nat) : bt (x &&& y) i = (bt x i && bt y i) := by unfold bt; rw [Int32.toBitVec_and, BitVec.getLsbD_and]
theorem b_xor (x y : Int32) (i : Nat) : bt (x ^^^ y) i = (bt x i ^^ bt y i) := by unfold bt; rw [Int32.toBitVec_xor, BitVec.getLsbD_xor]
theorem b_big {x : Int32} {i : Nat} (h : 32 ≤ i) : bt x i = false := BitVec.getLsbD_of_ge _ _ h
theorem b_m1 : ∀ i, i < 32 → bt (-1) i = true := by decide +kernel
theorem b_0 (i : Nat) : bt 0 i = false := BitVec.getLsbD_zero
theorem b_n0 (i : Nat) : bt (nI 0) i = false := BitVec.getLsbD_zero
theorem b_n1 : ∀ i, i < 32 → bt (nI 1) i = decide (i = 0) := by decide +kernel
theorem s_l : ∀ n, n < 32 → ((nI n &&& 31).toBitVec.smod 32).toNat = n := by decide +kernel
theorem s_u : ∀ n, n < 32 → (((nI n).toUInt32 &&& Int32.toUInt32 31).toBitVec % 32).toNat = n := by decide +kernel
theorem b_ushr (n : Nat) (hn : n < 32) (x : Int32) (i : Nat) : bt ((x.toUInt32 >>> ((nI n).toUInt32 &&& Int32.toUInt32 31)).toInt32) i = bt x (n + i) := by
  show (x.toUInt32 >>> ((nI n).toUInt32 &&& Int32.toUInt32 31)).toBitVec.getLsbD i = x.toUInt32.toBitVec.getLsbD (n + i)
  rw [UInt32.toBitVec_shiftRight]
  show (x.toUInt32.toBitVec >>> (((nI n).toUInt32 &&& Int32.toUInt32 31).toBitVec % 32).toNat).getLsbD i = _
  rw [s_u n hn, BitVec.getLsbD_ushiftRight]
theorem b_sshr (n : Nat) (hn : n < 32) (x : Int32) {i : Nat} (hi : i < 32) : bt (x >>> (nI n &&& 31)) i = if n + i < 32 then bt x (n + i) else bt x 31 := by
  unfold bt
  rw [Int32.toBitVec_shiftRight]
  show (x.toBitVec.sshiftRight ((nI n &&& 31).toBitVec.smod 32).toNat).getLsbD i = _
  rw [s_l n hn, BitVec.getLsbD_sshiftRight, BitVec.msb_eq_getLsbD_last]
  simp [hi]
/-- one bit, by a shift and a mask -/
theorem z_bit (x : Int32) {t : Nat} (ht : t < 32) : (x >>> (nI t &&& 31)) &&& nI 1 = nI (bt x t).toNat := by
  apply b_ext
  intro i hi
  rw [b_and, b_n1 i hi]
  rcases Nat.eq_zero_or_pos i with rfl | h
  · rw [b_sshr t ht x (by omega)]
    simp only [Nat.add_zero, ht, if_true, decide_true, Bool.and_true]
    cases bt x t <;> decide
  · rw [decide_eq_false (by omega), Bool.and_false]
    cases bt x t
    · exact (b_n0 i).symm
    · rw [show (true).toNat = 1 from rfl, b_n1 i hi, decide_eq_false (by omega)]
/-- 1 shifted to the place t -/
theorem z_one : ∀ t, t < 32 → ∀ i, i < 32 → bt (nI 1 <<< (nI t &&& 31)) i = decide (i = t) := by decide +kernel
theorem z_and0 (x : Int32) {t : Nat} (ht : t < 32) : x &&& (nI 1 <<< (nI t &&& 31)) = 0 ↔ bt x t = false := by
  constructor
  · intro h
    have h1 : bt (x &&& (nI 1 <<< (nI t &&& 31))) t = false := by rw [h]; exact b_0 t
    rw [b_and, z_one t ht t ht] at h1
    simpa using h1
  · intro h
    apply b_ext
    intro i hi
    rw [b_and, z_one t ht i hi, b_0]
    by_cases e : i = t
    · subst e; rw [h]; rfl
    · simp [e]
theorem z_andn0 (x y : Int32) : x &&& (y ^^^ (-1)) = 0 ↔ ∀ i, i < 32 → bt x i = true → bt y i = true := by
  constructor
  · intro h i hi hb
    have h1 : bt (x &&& (y ^^^ (-1))) i = false := by rw [h]; exact b_0 i
    rw [b_and, b_xor, b_m1 i hi, hb] at h1
    revert h1
    cases bt y i <;> decide
  · intro h
    apply b_ext
    intro i hi
    rw [b_and, b_xor, b_m1 i hi, b_0]
    cases hb : bt x i with
    | false => rfl
    | true => rw [h i hi hb]; rfl
/-- a word holds the set f of numbers below 30 -/
def msk (x : Int32) (f : Nat → Bool) : Prop := ∀ i, i < 32 → bt x i = (decide (i < 30) && f i)
theorem msk_at {x : Int32} {f : Nat → Bool} (h : msk x f) {i : Nat} (hi : i < 30) : bt x i = f i := by rw [h i (by omega), decide_eq_true hi, Bool.true_and]
theorem msk_0 {f : Nat → Bool} (h : ∀ i, i < 30 → f i = false) : msk (nI 0) f := fun i hi => by
  rw [b_n0]
  by_cases q : i < 30
  · rw [h i q, Bool.and_false]
  · rw [decide_eq_false q, Bool.false_and]
theorem msk_congr {x : Int32} {f g : Nat → Bool} (h : msk x f) (e : ∀ i, i < 30 → f i = g i) : msk x g := fun i hi => by
  rw [h i hi]
  by_cases q : i < 30
  · rw [e i q]
  · rw [decide_eq_false q, Bool.false_and, Bool.false_and]
theorem msk_and {x y : Int32} {f g : Nat → Bool} (h : msk x f) (k : msk y g) : msk (x &&& y) (fun i => f i && g i) := fun i hi => by
  rw [b_and, h i hi, k i hi]
  show _ = (decide (i < 30) && (f i && g i))
  cases decide (i < 30) <;> cases f i <;> cases g i <;> rfl
theorem msk_set {x : Int32} {f g : Nat → Bool} {k : Nat} (hk : k < 30) (h : msk x f) (hg : g k = true) (ho : ∀ i, i < 30 → i ≠ k → g i = f i) : msk (x ||| (nI 1 <<< (nI k &&& 31))) g := fun i hi => by
  rw [b_or, z_one k (by omega) i hi, h i hi]
  by_cases e : i = k
  · subst e; rw [hg, decide_eq_true hk]; simp
  · by_cases q : i < 30
    · rw [ho i q e]; simp [e]
    · simp [q, e]
theorem msk_clr {x : Int32} {f g : Nat → Bool} {k : Nat} (hk : k < 30) (h : msk x f) (hg : g k = false) (ho : ∀ i, i < 30 → i ≠ k → g i = f i) : msk (x &&& ((nI 1 <<< (nI k &&& 31)) ^^^ (-1))) g := fun i hi => by
  rw [b_and, b_xor, b_m1 i hi, z_one k (by omega) i hi, h i hi]
  by_cases e : i = k
  · subst e; rw [hg]; simp
  · by_cases q : i < 30
    · rw [ho i q e]; simp [e]
    · simp [q]
theorem msk_cnt {x : Int32} {f : Nat → Bool} (h : msk x f) : cnt (bt x) 32 = cnt f 30 := by
  rw [show (32 : Nat) = 30 + 2 from rfl, cnt_add, cnt_congr (fun i hi => msk_at h hi), cnt_zero (n := 2) (fun i hi => by rw [h (30 + i) (by omega), decide_eq_false (by omega), Bool.false_and])]
  rfl
end
section
/-! the sum of a word's bits, by bytes -/
theorem po_and8 (u v : Nat) : u &&& v = ((u % 256) &&& (v % 256)) + 256 * ((u / 256) &&& (v / 256)) := by
  have h1 : (u &&& v) % 2 ^ 8 = (u % 2 ^ 8) &&& (v % 2 ^ 8) := Nat.and_mod_two_pow ..
  have h2 : (u &&& v) / 2 ^ 8 = (u / 2 ^ 8) &&& (v / 2 ^ 8) := Nat.and_div_two_pow ..
  have h3 := Nat.mod_add_div (u &&& v) 256
  rw [← h3]
  rw [show (256 : Nat) = 2 ^ 8 from rfl, h1, h2]
theorem po_and2 {a y k z : Nat} (ha : a < 256) (hk : k < 256) : (a + 256 * y) &&& (k + 256 * z) = (a &&& k) + 256 * (y &&& z) := by
  rw [po_and8, show (a + 256 * y) % 256 = a by omega, show (k + 256 * z) % 256 = k by omega, show (a + 256 * y) / 256 = y by omega, show (k + 256 * z) / 256 = z by omega]
theorem po_and32 {a b c d k : Nat} (ha : a < 256) (hb : b < 256) (hc : c < 256) (hk : k < 256) : (a + 256 * (b + 256 * (c + 256 * d))) &&& (k + 256 * (k + 256 * (k + 256 * k))) = (a &&& k) + 256 * ((b &&& k) + 256 * ((c &&& k) + 256 * (d &&& k))) := by
  rw [po_and2 ha hk, po_and2 hb hk, po_and2 hc hk]
def po_1 (a : Nat) : Nat := a - ((a / 2) &&& 85)
def po_2 (a : Nat) : Nat := (a &&& 51) + ((a / 4) &&& 51)
def po_3 (a : Nat) : Nat := (a + a / 16) % 16
theorem po_b1 : ∀ a, a < 256 → ∀ e, e < 2 → (a / 2 + 128 * e) &&& 85 = (a / 2) &&& 85 := by decide +kernel
theorem po_b1l : ∀ a, a < 256 → (a / 2) &&& 85 ≤ a := by decide +kernel
theorem po_b2 : ∀ a, a < 256 → ∀ e, e < 4 → (a / 4 + 64 * e) &&& 51 = (a / 4) &&& 51 := by decide +kernel
theorem po_b2l : ∀ a, a < 256 → a &&& 51 ≤ 51 ∧ (a / 4) &&& 51 ≤ 51 := by decide +kernel
theorem po_b3 : ∀ a, a < 256 → po_1 a < 256 ∧ po_2 (po_1 a) ≤ 68 ∧ po_2 (po_1 a) % 16 ≤ 4 ∧ po_3 (po_2 (po_1 a)) ≤ 8 ∧ cnt a.testBit 8 = po_3 (po_2 (po_1 a)) := by decide +kernel
theorem po_b4 : ∀ a, a ≤ 68 → a % 16 ≤ 4 → ∀ e, e ≤ 4 → (a + a / 16 + 16 * e) &&& 15 = po_3 a := by decide +kernel
theorem po_n (x y : Int32) : (x &&& y).toBitVec.toNat = x.toBitVec.toNat &&& y.toBitVec.toNat := by rw [Int32.toBitVec_and, BitVec.toNat_and]
theorem po_add (x y : Int32) : (x + y).toBitVec.toNat = (x.toBitVec.toNat + y.toBitVec.toNat) % 4294967296 := by rw [Int32.toBitVec_add, BitVec.toNat_add]
theorem po_mul (x y : Int32) : (x * y).toBitVec.toNat = (x.toBitVec.toNat * y.toBitVec.toNat) % 4294967296 := by rw [Int32.toBitVec_mul, BitVec.toNat_mul]
theorem po_sub {x y : Int32} (h : y.toBitVec.toNat ≤ x.toBitVec.toNat) : (x - y).toBitVec.toNat = x.toBitVec.toNat - y.toBitVec.toNat := by rw [Int32.toBitVec_sub]; exact BitVec.toNat_sub_of_le h
theorem po_of (x : Int32) : x = nI x.toBitVec.toNat := by
  apply Int32.toBitVec_inj.mp
  show x.toBitVec = BitVec.ofNat 32 x.toBitVec.toNat
  exact (BitVec.ofNat_toNat 32 x.toBitVec).symm.trans rfl |>.symm ▸ (by simp)
def po_u (x : Int32) (k : Nat) : Int32 := (x.toUInt32 >>> ((nI k).toUInt32 &&& Int32.toUInt32 31)).toInt32
theorem po_un (x : Int32) (k : Nat) (hk : k < 32) : (po_u x k).toBitVec.toNat = x.toBitVec.toNat / 2 ^ k := pk_ushr x (nI k) k (s_u k hk)
theorem po_cnt (X a b c d : Nat) (ha : a < 256) (hb : b < 256) (hc : c < 256) (hd : d < 256) (hX : X = a + 256 * (b + 256 * (c + 256 * d))) : cnt X.testBit 32 = cnt a.testBit 8 + cnt b.testBit 8 + cnt c.testBit 8 + cnt d.testBit 8 := by
  have hd8 : ∀ (y z : Nat), y < 256 → ∀ k, cnt (y + 256 * z).testBit (8 + k) = cnt y.testBit 8 + cnt z.testBit k := by
    intro y z hy k
    rw [cnt_add]
    congr 1
    · refine cnt_congr (fun i hi => ?_)
      have h1 : ((y + 256 * z) % 2 ^ 8).testBit i = (y + 256 * z).testBit i := by rw [Nat.testBit_mod_two_pow, decide_eq_true hi, Bool.true_and]
      rw [← h1, show (y + 256 * z) % 2 ^ 8 = y by omega]
    · refine cnt_congr (fun i hi => ?_)
      have h1 : ((y + 256 * z) / 2 ^ 8).testBit i = (y + 256 * z).testBit (8 + i) := by rw [Nat.testBit_div_two_pow]; congr 1; omega
      rw [← h1, show (y + 256 * z) / 2 ^ 8 = z by omega]
  subst hX
  rw [show (32 : Nat) = 8 + (8 + (8 + 8)) from rfl, hd8 _ _ ha, hd8 _ _ hb, hd8 _ _ hc]
  omega
theorem po_end {A B C E : Nat} (hA : A ≤ 8) (hB : B ≤ 8) (hC : C ≤ 8) (hE : E ≤ 8) : (A + 256 * (B + 256 * (C + 256 * E))) * 16843009 % 4294967296 / 2 ^ 24 = A + B + C + E := by
  have e4 : (A + 256 * (B + 256 * (C + 256 * E))) * 16843009 = (A + 256 * (A + B) + 65536 * (A + B + C) + 16777216 * (A + B + C + E)) + 4294967296 * (B + C + E + 256 * (C + E) + 65536 * E) := by omega
  rw [e4, Nat.add_mul_mod_self_left, Nat.mod_eq_of_lt (by omega)]
  omega
/-- what 'ones' computes -/
theorem po_ones (x x1 x2 x3 : Int32) (h1 : x1 = x - (po_u x 1 &&& 1431655765)) (h2 : x2 = (x1 &&& 858993459) + (po_u x1 2 &&& 858993459)) (h3 : x3 = (x2 + po_u x2 4) &&& 252645135) : po_u (x3 * 16843009) 24 = nI (cnt (bt x) 32) := by
  have hX := x.toBitVec.isLt
  obtain ⟨a, b, c, d, ha, hb, hc, hd, e0⟩ : ∃ a b c d : Nat, a < 256 ∧ b < 256 ∧ c < 256 ∧ d < 256 ∧ x.toBitVec.toNat = a + 256 * (b + 256 * (c + 256 * d)) := ⟨x.toBitVec.toNat % 256, x.toBitVec.toNat / 256 % 256, x.toBitVec.toNat / 65536 % 256, x.toBitVec.toNat / 16777216, by omega, by omega, by omega, by omega, by omega⟩
  have k1 : (1431655765 : Int32).toBitVec.toNat = 85 + 256 * (85 + 256 * (85 + 256 * 85)) := by decide +kernel
  have k2 : (858993459 : Int32).toBitVec.toNat = 51 + 256 * (51 + 256 * (51 + 256 * 51)) := by decide +kernel
  have k3 : (252645135 : Int32).toBitVec.toNat = 15 + 256 * (15 + 256 * (15 + 256 * 15)) := by decide +kernel
  have k4 : (16843009 : Int32).toBitVec.toNat = 16843009 := by decide +kernel
  obtain ⟨pa1, pa2, pa3, pa4, pa5⟩ := po_b3 a ha
  obtain ⟨pb1, pb2, pb3, pb4, pb5⟩ := po_b3 b hb
  obtain ⟨pc1, pc2, pc3, pc4, pc5⟩ := po_b3 c hc
  obtain ⟨pd1, pd2, pd3, pd4, pd5⟩ := po_b3 d hd
  have hcn : cnt (bt x) 32 = po_3 (po_2 (po_1 a)) + po_3 (po_2 (po_1 b)) + po_3 (po_2 (po_1 c)) + po_3 (po_2 (po_1 d)) := by
    rw [← pa5, ← pb5, ← pc5, ← pd5, ← po_cnt x.toBitVec.toNat a b c d ha hb hc hd e0]
    rfl
  have s1 : (po_u x 1 &&& 1431655765).toBitVec.toNat = ((a / 2) &&& 85) + 256 * (((b / 2) &&& 85) + 256 * (((c / 2) &&& 85) + 256 * ((d / 2) &&& 85))) := by
    rw [po_n, po_un x 1 (by omega), e0, k1, show (a + 256 * (b + 256 * (c + 256 * d))) / 2 ^ 1 = (a / 2 + 128 * (b % 2)) + 256 * ((b / 2 + 128 * (c % 2)) + 256 * ((c / 2 + 128 * (d % 2)) + 256 * (d / 2))) by omega,
      po_and32 (by omega) (by omega) (by omega) (by omega), po_b1 a ha _ (by omega), po_b1 b hb _ (by omega), po_b1 c hc _ (by omega)]
  have e1 : x1.toBitVec.toNat = po_1 a + 256 * (po_1 b + 256 * (po_1 c + 256 * po_1 d)) := by
    have q1 := po_b1l a ha
    have q2 := po_b1l b hb
    have q3 := po_b1l c hc
    have q4 := po_b1l d hd
    rw [h1, po_sub (by rw [s1, e0]; omega), s1, e0]
    unfold po_1
    omega
  have s2 : (po_u x1 2 &&& 858993459).toBitVec.toNat = ((po_1 a / 4) &&& 51) + 256 * (((po_1 b / 4) &&& 51) + 256 * (((po_1 c / 4) &&& 51) + 256 * ((po_1 d / 4) &&& 51))) := by
    rw [po_n, po_un x1 2 (by omega), e1, k2, show (po_1 a + 256 * (po_1 b + 256 * (po_1 c + 256 * po_1 d))) / 2 ^ 2 = (po_1 a / 4 + 64 * (po_1 b % 4)) + 256 * ((po_1 b / 4 + 64 * (po_1 c % 4)) + 256 * ((po_1 c / 4 + 64 * (po_1 d % 4)) + 256 * (po_1 d / 4))) by omega,
      po_and32 (by omega) (by omega) (by omega) (by omega), po_b2 _ pa1 _ (by omega), po_b2 _ pb1 _ (by omega), po_b2 _ pc1 _ (by omega)]
  have e2 : x2.toBitVec.toNat = po_2 (po_1 a) + 256 * (po_2 (po_1 b) + 256 * (po_2 (po_1 c) + 256 * po_2 (po_1 d))) := by
    rw [h2, po_add, s2, po_n, e1, k2, po_and32 pa1 pb1 pc1 (by omega)]
    unfold po_2 at *
    omega
  generalize po_2 (po_1 a) = A at *
  generalize po_2 (po_1 b) = B at *
  generalize po_2 (po_1 c) = C at *
  generalize po_2 (po_1 d) = E at *
  have e3 : x3.toBitVec.toNat = po_3 A + 256 * (po_3 B + 256 * (po_3 C + 256 * po_3 E)) := by
    rw [h3, po_n, po_add, po_un x2 4 (by omega), e2, k3]
    rw [show (A + 256 * (B + 256 * (C + 256 * E)) + (A + 256 * (B + 256 * (C + 256 * E))) / 2 ^ 4) % 4294967296 = (A + A / 16 + 16 * (B % 16)) + 256 * ((B + B / 16 + 16 * (C % 16)) + 256 * ((C + C / 16 + 16 * (E % 16)) + 256 * (E + E / 16 + 16 * 0))) by omega,
      po_and32 (by omega) (by omega) (by omega) (by omega), po_b4 A pa2 pa3 _ pb3, po_b4 B pb2 pb3 _ pc3, po_b4 C pc2 pc3 _ pd3, po_b4 E pd2 pd3 _ (by omega)]
  generalize po_3 A = A at *
  generalize po_3 B = B at *
  generalize po_3 C = C at *
  generalize po_3 E = E at *
  rw [po_of (po_u (x3 * 16843009) 24), po_un _ 24 (by omega), po_mul, e3, k4, hcn, po_end (by omega) (by omega) (by omega) (by omega)]
end
section
/-! the state of the system as mathematics: n records, thresholds t / u, sets S r (record r; the draft is set 20) -/
abbrev SS : Type := Nat → Nat → Bool
/-- an int as a place below N -/
def zix (x : Int32) (N : Nat) : Option Nat := if 0 ≤ x.toInt ∧ x.toInt < N then some x.toInt.toNat else none
theorem zix_s {j N : Nat} (h : j < N) (hN : N < 2 ^ 31) : zix (nI j) N = some j := by
  unfold zix
  rw [nI_toInt (by omega), if_pos ⟨by omega, by omega⟩]
  rfl
theorem zix_n {x : Int32} {N : Nat} (h : ¬ ∃ j : Nat, j < N ∧ x = nI j) : zix x N = none := by
  unfold zix
  rw [if_neg]
  rintro ⟨h1, h2⟩
  apply h
  have h3 : ¬ x < 0 := by
    intro q
    have := Int32.lt_iff_toInt_lt.mp q
    simp at this
    omega
  obtain ⟨j, hj, rfl⟩ := nI_of h3
  rw [nI_toInt hj] at h2
  exact ⟨j, by omega, rfl⟩
def sput (S : SS) (r : Nat) (T : Nat → Bool) : SS := fun s => if s = r then T else S s
def tput (T : Nat → Bool) (k : Nat) (b : Bool) : Nat → Bool := fun i => if i = k then b else T i
theorem sput_s (S : SS) (r : Nat) (T : Nat → Bool) : sput S r T r = T := if_pos rfl
theorem sput_n (S : SS) {r s : Nat} (T : Nat → Bool) (h : s ≠ r) : sput S r T s = S s := if_neg h
theorem tput_s (T : Nat → Bool) (k : Nat) (b : Bool) : tput T k b k = b := if_pos rfl
theorem tput_n (T : Nat → Bool) {k i : Nat} (b : Bool) (h : i ≠ k) : tput T k b i = T i := if_neg h
def cBo (T U : Nat → Bool) : Nat := cnt (fun x => T x && U x) 30
def cEi (T U : Nat → Bool) : Nat := cnt (fun x => T x || U x) 30
def alT (t u : Nat) (T U : Nat → Bool) : Bool := decide (t * cEi T U ≤ u * cBo T U)
/-- records a and b are alike -/
def al (t u : Nat) (S : SS) (a b : Nat) : Bool := alT t u (S a) (S b)
theorem cBo_comm (T U : Nat → Bool) : cBo T U = cBo U T := cnt_congr (fun i _ => Bool.and_comm _ _)
theorem cEi_comm (T U : Nat → Bool) : cEi T U = cEi U T := cnt_congr (fun i _ => Bool.or_comm _ _)
theorem alT_comm (t u : Nat) (T U : Nat → Bool) : alT t u T U = alT t u U T := by unfold alT; rw [cBo_comm, cEi_comm]
theorem al_comm (t u : Nat) (S : SS) (a b : Nat) : al t u S a b = al t u S b a := alT_comm t u _ _
theorem cEi_Bo (T U : Nat → Bool) : cEi T U + cBo T U = cnt T 30 + cnt U 30 := cnt_or_and T U 30
theorem cBo_self (T : Nat → Bool) : cBo T T = cnt T 30 := cnt_congr (fun i _ => Bool.and_self _)
theorem cEi_self (T : Nat → Bool) : cEi T T = cnt T 30 := cnt_congr (fun i _ => Bool.or_self _)
theorem al_self {t u : Nat} (h : t ≤ u) (S : SS) (a : Nat) : al t u S a a = true := by
  unfold al alT
  rw [cBo_self, cEi_self]
  exact decide_eq_true (Nat.mul_le_mul_right _ h)
theorem cBo_le (T U : Nat → Bool) : cBo T U ≤ 30 := cnt_le _ _
theorem cEi_le (T U : Nat → Bool) : cEi T U ≤ 30 := cnt_le _ _
theorem cBo_l (T U : Nat → Bool) : cBo T U ≤ cnt T 30 := cnt_imp (fun i _ q => (Bool.and_eq_true_iff.mp q).1)
theorem cBo_r (T U : Nat → Bool) : cBo T U ≤ cnt U 30 := cnt_imp (fun i _ q => (Bool.and_eq_true_iff.mp q).2)
/-- some of 0 .. m-1 -/
def hasK (f : Nat → Bool) (m : Nat) : Bool := decide (0 < cnt f m)
theorem hasK_0 (f : Nat → Bool) : hasK f 0 = false := rfl
theorem hasK_s (f : Nat → Bool) (m : Nat) : hasK f (m + 1) = (hasK f m || f m) := by
  unfold hasK
  rw [cnt_s]
  cases f m <;> simp
theorem hasK_t {f : Nat → Bool} {m : Nat} : hasK f m = true ↔ ∃ k, k < m ∧ f k = true := by
  unfold hasK
  rw [decide_eq_true_iff]
  constructor
  · exact cnt_pos
  · rintro ⟨k, h1, h2⟩
    have := cnt_lt h2 h1
    omega
theorem hasK_f {f : Nat → Bool} {m : Nat} : hasK f m = false ↔ ∀ k, k < m → f k = false := by
  constructor
  · intro h k hk
    cases e : f k with
    | false => rfl
    | true => rw [hasK_t.mpr ⟨k, hk, e⟩] at h; cases h
  · intro h
    cases e : hasK f m with
    | false => rfl
    | true =>
      obtain ⟨k, h1, h2⟩ := hasK_t.mp e
      rw [h k h1] at h2
      cases h2
theorem hasK_congr {f g : Nat → Bool} {m : Nat} (h : ∀ k, k < m → f k = g k) : hasK f m = hasK g m := by unfold hasK; rw [cnt_congr h]
/-- the least s of a .. a + k - 1 with p -/
def lfind (p : Nat → Bool) : Nat → Nat → Option Nat
  | _, 0 => none
  | a, k + 1 => if p a = true then some a else lfind p (a + 1) k
theorem lfind_congr {p q : Nat → Bool} : ∀ (k a : Nat), (∀ s, a ≤ s → s < a + k → p s = q s) → lfind p a k = lfind q a k
  | 0, a, _ => rfl
  | k + 1, a, h => by
    show (if p a = true then some a else lfind p (a + 1) k) = (if q a = true then some a else lfind q (a + 1) k)
    rw [h a (by omega) (by omega), lfind_congr k (a + 1) (fun s h1 h2 => h s (by omega) (by omega))]
/-- a prefix's length -/
def plen (t u p : Nat) : Nat := p - (t * p + u - 1) / u + 1
/-- the ranks: a numbering of the 30 tokens -/
def rankOk (ρ : Nat → Nat) (ro : Nat → Int32) : Prop := (∀ x, x < 30 → ro x = nI (ρ x) ∧ ρ x < 30) ∧ ∀ x y, x < 30 → y < 30 → ρ x = ρ y → x = y
/-- f lists the ranks of the set T, rising -/
def lineOk (ρ : Nat → Nat) (T : Nat → Bool) (f : Nat → Nat) : Prop := (∀ i j, i < j → j < cnt T 30 → f i < f j) ∧ ∀ G : Nat → Bool, cnt (fun k => G (f k)) (cnt T 30) = cnt (fun x => T x && G (ρ x)) 30
/-- lb labels the groups of the relation q on 0 .. n-1, each by a member -/
def isLab (n : Nat) (q : Nat → Nat → Bool) (lb : Nat → Nat) : Prop := (∀ a b, a < n → b < n → q a b = true → lb a = lb b) ∧ (∀ φ : Nat → Nat, (∀ a b, a < n → b < n → q a b = true → φ a = φ b) → ∀ r, r < n → φ (lb r) = φ r) ∧ ∀ r, r < n → lb r ≤ r
/-- a forest of parents whose roots are the labels -/
def frst (n : Nat) (lb pr : Nat → Nat) : Prop := ∀ r, r < n → pr r ≤ r ∧ lb (pr r) = lb r ∧ (pr r = r → lb r = r)
def linesOk (n : Nat) (S : SS) (ρ : Nat → Nat) (F : Nat → Nat → Nat) (rk : Nat → Int32) : Prop := ∀ r, r < n → lineOk ρ (S r) (F r) ∧ ∀ k, k < cnt (S r) 30 → rk (12 * r + k) = nI (F r k)
def ixOk (n t u : Nat) (S : SS) (F : Nat → Nat → Nat) (ix : Nat → Int32) : Prop := ∀ q, q < 30 → ∀ b, b < 32 → bt (ix q) b = (decide (b < n) && hasK (fun k => decide (F b k = q)) (plen t u (cnt (S b) 30)))
def rwOk (n t u : Nat) (S : SS) (rw : Nat → Int32) : Prop := ∀ a, a < n → ∀ b, b < 32 → bt (rw a) b = (decide (b < n) && al t u S a b)
def paOk (n t u : Nat) (S : SS) (pa : Nat → Int32) : Prop := ∃ lb pr : Nat → Nat, isLab n (al t u S) lb ∧ frst n lb pr ∧ ∀ r, r < n → pa r = nI (pr r)
def ctOk (n : Nat) (S : SS) (ct : Nat → Int32) : Prop := ∀ x, x < 30 → ct x = nI (cnt (fun r => S r x) n)
/-- what a refresh leaves -/
def jV (n t u : Nat) (S : SS) (rk ro ct ix rw pa : Nat → Int32) : Prop := ∃ (ρ : Nat → Nat) (F : Nat → Nat → Nat), rankOk ρ ro ∧ ctOk n S ct ∧ linesOk n S ρ F rk ∧ ixOk n t u S F ix ∧ rwOk n t u S rw ∧ paOk n t u S pa
def thOk (t u : Nat) : Prop := 1 ≤ t ∧ t ≤ u ∧ u ≤ 12
def reOk (n : Nat) (S : SS) (mk sz : Nat → Int32) : Prop := n ≤ 20 ∧ ∀ r, r < n → msk (mk r) (S r) ∧ sz r = nI (cnt (S r) 30) ∧ 1 ≤ cnt (S r) 30 ∧ cnt (S r) 30 ≤ 12
def drOk (S : SS) (d ds : Int32) : Prop := msk d (S 20) ∧ ds = nI (cnt (S 20) 30) ∧ cnt (S 20) 30 ≤ 12
/-- THE CLASS holds the state -/
def jInv (n t u : Nat) (S : SS) (σ : JS) : Prop := match σ with
  | (m0, s0, rk, ro, ct, ix, rw, pa, d, ds, cn, tp, bo, cu) => reOk n S m0 s0 ∧ thOk t u ∧ drOk S d ds ∧ cn = nI n ∧ tp = nI t ∧ bo = nI u ∧ (cu = nI 0 ∨ cu = nI 1 ∧ jV n t u S rk ro ct ix rw pa)
/-- THE REFERENCE holds it -/
def mIn (n : Nat) (S : SS) (iN : Nat → Int32) : Prop := ∀ r, r < n ∨ r = 20 → ∀ x, x < 30 → iN (30 * r + x) = nI (S r x).toNat
def mInv (n t u : Nat) (S : SS) (τ : MS) : Prop := match τ with
  | (iN, la, cn, tp, bo) => n ≤ 20 ∧ thOk t u ∧ mIn n S iN ∧ cn = nI n ∧ tp = nI t ∧ bo = nI u
/-! what each call answers, and what the sets are behind it -/
def aTok (S : SS) (x : Int32) : Int32 × SS := match zix x 30 with
  | none => (-1, S)
  | some j => if cnt (S 20) 30 = 12 ∧ S 20 j = false then (-2, S) else (nI (cnt (tput (S 20) j true) 30), sput S 20 (tput (S 20) j true))
def aDrop (S : SS) (x : Int32) : Int32 × SS := match zix x 30 with
  | none => (-1, S)
  | some j => (nI (cnt (tput (S 20) j false) 30), sput S 20 (tput (S 20) j false))
def aRec (n : Nat) (S : SS) (x : Int32) : Int32 × SS := match zix x n with
  | none => (-1, S)
  | some j => (nI (cnt (S j) 30), sput S 20 (S j))
def aSto (n : Nat) (S : SS) : Int32 × Nat × SS := if cnt (S 20) 30 = 0 then (-1, n, S) else if n = 20 then (-2, n, S) else (nI n, n + 1, sput S n (S 20))
def sRem (S : SS) (j : Nat) : SS := fun s => if s = 20 then S 20 else if j ≤ s then S (s + 1) else S s
def aRem (n : Nat) (S : SS) (x : Int32) : Int32 × Nat × SS := match zix x n with
  | none => (-1, n, S)
  | some j => (nI (n - 1), n - 1, sRem S j)
def aThr (t u : Nat) (x y : Int32) : Int32 × Nat × Nat := match zix x 13, zix y 13 with
  | some a, some b => if a = 0 ∨ b = 0 then (-1, t, u) else if b < a then (-2, t, u) else (nI 0, a, b)
  | _, _ => (-1, t, u)
def aSize (n : Nat) (S : SS) (x : Int32) : Int32 := match zix x n with
  | none => -1
  | some j => nI (cnt (S j) 30)
def aHas (n : Nat) (S : SS) (x y : Int32) : Int32 := match zix x n, zix y 30 with
  | none, _ => -1
  | some _, none => -2
  | some j, some k => nI (S j k).toNat
def aFreq (n : Nat) (S : SS) (x : Int32) : Int32 := match zix x 30 with
  | none => -1
  | some k => nI (cnt (fun r => S r k) n)
def a2 (n : Nat) (f : Nat → Nat → Nat) (x y : Int32) : Int32 := match zix x n, zix y n with
  | some a, some b => nI (f a b)
  | _, _ => -1
def a1 (n : Nat) (f : Nat → Int32) (x : Int32) : Int32 := match zix x n with
  | some a => f a
  | none => -1
def nsum (f : Nat → Nat) : Nat → Nat
  | 0 => 0
  | n + 1 => nsum f n + f n
def vPairs (n t u : Nat) (S : SS) : Nat := nsum (fun a => cnt (fun b => decide (a < b) && al t u S a b) n) n
/-- b is another record, alike to w -/
def nbr (t u : Nat) (S : SS) (w b : Nat) : Bool := decide (b ≠ w) && al t u S b w
def oI (o : Option Nat) : Int32 := match o with
  | some s => nI s
  | none => -2
def vPart (n t u : Nat) (S : SS) (i : Int32) (w : Nat) : Int32 := oI (lfind (fun b => nbr t u S w b && decide (i = nI (cnt (nbr t u S w) b))) 0 n)
def vNear (S : SS) (w : Nat) : Nat → Int32 × Nat × Nat
  | 0 => (-2, 0, 1)
  | b + 1 => if b ≠ w ∧ ((vNear S w b).1 < 0 ∨ (vNear S w b).2.1 * cEi (S w) (S b) < cBo (S w) (S b) * (vNear S w b).2.2) then (nI b, cBo (S w) (S b), cEi (S w) (S b)) else vNear S w b
def vMat (n t u : Nat) (S : SS) (j : Nat) : Int32 := oI (lfind (fun s => al t u S s 20) j (n - j))
def vCont (n : Nat) (S : SS) : Nat := cnt (fun s => decide (cBo (S s) (S 20) = cnt (S 20) 30)) n
def vGrp (n : Nat) (lb : Nat → Nat) : Nat := cnt (fun r => decide (lb r = r)) n
def vGsz (n : Nat) (lb : Nat → Nat) (w : Nat) : Int32 := nI (cnt (fun r => decide (lb r = lb w)) n)
end
section
/-! the state's changes -/
theorem reOk_congr {n : Nat} {S S' : SS} {mk sz : Nat → Int32} (h : reOk n S mk sz) (e : ∀ r, r < n → S' r = S r) : reOk n S' mk sz := ⟨h.1, fun r hr => by rw [e r hr]; exact h.2 r hr⟩
theorem isLab_congr {n : Nat} {q q' : Nat → Nat → Bool} {lb : Nat → Nat} (h : isLab n q lb) (e : ∀ a b, a < n → b < n → q' a b = q a b) : isLab n q' lb :=
  ⟨fun a b ha hb hq => h.1 a b ha hb (by rw [← e a b ha hb]; exact hq), fun φ hφ => h.2.1 φ (fun a b ha hb hq => hφ a b ha hb (by rw [e a b ha hb]; exact hq)), h.2.2⟩
theorem al_congr {t u : Nat} {S S' : SS} {a b : Nat} (ha : S' a = S a) (hb : S' b = S b) : al t u S' a b = al t u S a b := by unfold al; rw [ha, hb]
theorem jV_congr {n t u : Nat} {S S' : SS} {rk ro ct ix rw_ pa : Nat → Int32} (h : jV n t u S rk ro ct ix rw_ pa) (e : ∀ r, r < n → S' r = S r) : jV n t u S' rk ro ct ix rw_ pa := by
  obtain ⟨ρ, F, h1, h2, h3, h4, h5, lb, pr, h6, h7, h8⟩ := h
  refine ⟨ρ, F, h1, fun x hx => ?_, fun r hr => ?_, fun q hq b hb => ?_, fun a ha b hb => ?_, lb, pr, isLab_congr h6 (fun a b ha hb => al_congr (e a ha) (e b hb)), h7, h8⟩
  · rw [h2 x hx]; congr 1; exact cnt_congr (fun r hr => by rw [e r hr])
  · rw [e r hr]; exact h3 r hr
  · rw [h4 q hq b hb]
    by_cases q : b < n
    · rw [e b q]
    · simp [q]
  · rw [h5 a ha b hb]
    by_cases q : b < n
    · rw [al_congr (e a ha) (e b q)]
    · simp [q]
theorem cu_congr {n t u : Nat} {S S' : SS} {rk ro ct ix rw_ pa : Nat → Int32} {cu : Int32} (h : cu = nI 0 ∨ cu = nI 1 ∧ jV n t u S rk ro ct ix rw_ pa) (e : ∀ r, r < n → S' r = S r) : cu = nI 0 ∨ cu = nI 1 ∧ jV n t u S' rk ro ct ix rw_ pa := by
  rcases h with h | ⟨h1, h2⟩
  · exact Or.inl h
  · exact Or.inr ⟨h1, jV_congr h2 e⟩
theorem sput_re {n : Nat} (hn : n ≤ 20) (S : SS) (T : Nat → Bool) : ∀ r, r < n → sput S 20 T r = S r := fun r hr => sput_n S T (by omega)
/-- the draft's set is replaced: all else stays -/
theorem jInv_dr {n t u : Nat} {S : SS} {T : Nat → Bool} {mk sz rk ro ct ix rw_ pa : Nat → Int32} {d ds cu d' ds' : Int32} (h : jInv n t u S (mk, sz, rk, ro, ct, ix, rw_, pa, d, ds, nI n, nI t, nI u, cu)) (h1 : msk d' T) (h2 : ds' = nI (cnt T 30)) (h3 : cnt T 30 ≤ 12) : jInv n t u (sput S 20 T) (mk, sz, rk, ro, ct, ix, rw_, pa, d', ds', nI n, nI t, nI u, cu) := by
  obtain ⟨a1, a2, a3, -, -, -, a4⟩ := h
  exact ⟨reOk_congr a1 (sput_re a1.1 S T), a2, ⟨by rw [sput_s]; exact h1, by rw [sput_s]; exact h2, by rw [sput_s]; exact h3⟩, rfl, rfl, rfl, cu_congr a4 (sput_re a1.1 S T)⟩
theorem tput_id {T : Nat → Bool} {j : Nat} {b : Bool} (h : T j = b) : tput T j b = T := by
  funext i
  by_cases q : i = j
  · subst q; rw [tput_s, h]
  · rw [tput_n T b q]
theorem cnt_tput_t {T : Nat → Bool} {j : Nat} (hj : j < 30) (h : T j = false) : cnt (tput T j true) 30 = cnt T 30 + 1 := cnt_set_t hj h (tput_s T j true) (fun i _ q => tput_n T true q)
theorem cnt_tput_f {T : Nat → Bool} {j : Nat} (hj : j < 30) (h : T j = true) : cnt T 30 = cnt (tput T j false) 30 + 1 := cnt_set_t hj (tput_s T j false) h (fun i _ q => (tput_n T false q).symm)
theorem msk_tput_t {d : Int32} {T : Nat → Bool} {j : Nat} (hj : j < 30) (h : msk d T) : msk (d ||| (nI 1 <<< (nI j &&& 31))) (tput T j true) := msk_set hj h (tput_s T j true) (fun i _ q => tput_n T true q)
theorem msk_tput_f {d : Int32} {T : Nat → Bool} {j : Nat} (hj : j < 30) (h : msk d T) : msk (d &&& ((nI 1 <<< (nI j &&& 31)) ^^^ (-1))) (tput T j false) := msk_clr hj h (tput_s T j false) (fun i _ q => tput_n T false q)
theorem aTok_n {S : SS} {x : Int32} (h : ¬ ∃ j : Nat, j < 30 ∧ x = nI j) : aTok S x = (-1, S) := by unfold aTok; rw [zix_n h]
theorem aTok_s {S : SS} {j : Nat} (h : j < 30) : aTok S (nI j) = if cnt (S 20) 30 = 12 ∧ S 20 j = false then (-2, S) else (nI (cnt (tput (S 20) j true) 30), sput S 20 (tput (S 20) j true)) := by unfold aTok; rw [zix_s h (by omega)]
theorem aDrop_n {S : SS} {x : Int32} (h : ¬ ∃ j : Nat, j < 30 ∧ x = nI j) : aDrop S x = (-1, S) := by unfold aDrop; rw [zix_n h]
theorem aDrop_s {S : SS} {j : Nat} (h : j < 30) : aDrop S (nI j) = (nI (cnt (tput (S 20) j false) 30), sput S 20 (tput (S 20) j false)) := by unfold aDrop; rw [zix_s h (by omega)]
theorem aRec_n {n : Nat} {S : SS} {x : Int32} (h : ¬ ∃ j : Nat, j < n ∧ x = nI j) : aRec n S x = (-1, S) := by unfold aRec; rw [zix_n h]
theorem aRec_s {n : Nat} (hn : n ≤ 20) {S : SS} {j : Nat} (h : j < n) : aRec n S (nI j) = (nI (cnt (S j) 30), sput S 20 (S j)) := by unfold aRec; rw [zix_s h (by omega)]
theorem aRem_n {n : Nat} {S : SS} {x : Int32} (h : ¬ ∃ j : Nat, j < n ∧ x = nI j) : aRem n S x = (-1, n, S) := by unfold aRem; rw [zix_n h]
theorem aRem_s {n : Nat} (hn : n ≤ 20) {S : SS} {j : Nat} (h : j < n) : aRem n S (nI j) = (nI (n - 1), n - 1, sRem S j) := by unfold aRem; rw [zix_s h (by omega)]
theorem aSize_n {n : Nat} {S : SS} {x : Int32} (h : ¬ ∃ j : Nat, j < n ∧ x = nI j) : aSize n S x = -1 := by unfold aSize; rw [zix_n h]
theorem aSize_s {n : Nat} (hn : n ≤ 20) {S : SS} {j : Nat} (h : j < n) : aSize n S (nI j) = nI (cnt (S j) 30) := by unfold aSize; rw [zix_s h (by omega)]
theorem aHas_n {n : Nat} {S : SS} {x y : Int32} (h : ¬ ∃ j : Nat, j < n ∧ x = nI j) : aHas n S x y = -1 := by unfold aHas; rw [zix_n h]
theorem aHas_m {n : Nat} (hn : n ≤ 20) {S : SS} {j : Nat} {y : Int32} (hj : j < n) (h : ¬ ∃ j : Nat, j < 30 ∧ y = nI j) : aHas n S (nI j) y = -2 := by unfold aHas; rw [zix_s hj (by omega), zix_n h]
theorem aHas_s {n : Nat} (hn : n ≤ 20) {S : SS} {j k : Nat} (hj : j < n) (hk : k < 30) : aHas n S (nI j) (nI k) = nI (S j k).toNat := by unfold aHas; rw [zix_s hj (by omega), zix_s hk (by omega)]
theorem aFreq_n {n : Nat} {S : SS} {x : Int32} (h : ¬ ∃ j : Nat, j < 30 ∧ x = nI j) : aFreq n S x = -1 := by unfold aFreq; rw [zix_n h]
theorem aFreq_s {n : Nat} {S : SS} {j : Nat} (h : j < 30) : aFreq n S (nI j) = nI (cnt (fun r => S r j) n) := by unfold aFreq; rw [zix_s h (by omega)]
theorem a2_n {n : Nat} {f : Nat → Nat → Nat} {x y : Int32} (h : ¬ ∃ j : Nat, j < n ∧ x = nI j) : a2 n f x y = -1 := by unfold a2; rw [zix_n h]
theorem a2_m {n : Nat} {f : Nat → Nat → Nat} {x y : Int32} (h : ¬ ∃ j : Nat, j < n ∧ y = nI j) : a2 n f x y = -1 := by unfold a2; rw [zix_n h]; cases zix x n <;> rfl
theorem a2_s {n : Nat} (hn : n ≤ 20) {f : Nat → Nat → Nat} {a b : Nat} (ha : a < n) (hb : b < n) : a2 n f (nI a) (nI b) = nI (f a b) := by unfold a2; rw [zix_s ha (by omega), zix_s hb (by omega)]
theorem a1_n {n : Nat} {f : Nat → Int32} {x : Int32} (h : ¬ ∃ j : Nat, j < n ∧ x = nI j) : a1 n f x = -1 := by unfold a1; rw [zix_n h]
theorem a1_s {n : Nat} (hn : n ≤ 20) {f : Nat → Int32} {j : Nat} (h : j < n) : a1 n f (nI j) = f j := by unfold a1; rw [zix_s h (by omega)]
/-- a remove: the records behind j move up by one -/
theorem sRem_lo {S : SS} {j s : Nat} (h : s < j) (hs : s ≠ 20) : sRem S j s = S s := by unfold sRem; rw [if_neg hs, if_neg (by omega)]
theorem sRem_hi {S : SS} {j s : Nat} (h : j ≤ s) (hs : s ≠ 20) : sRem S j s = S (s + 1) := by unfold sRem; rw [if_neg hs, if_pos h]
theorem sRem_20 {S : SS} {j : Nat} : sRem S j 20 = S 20 := if_pos rfl
end
section
/-! ranks, lines, prefixes -/
theorem cnt_strict {f g : Nat → Bool} {n k : Nat} (h : ∀ i, i < n → f i = true → g i = true) (hk : k < n) (hf : f k = false) (hg : g k = true) : cnt f n < cnt g n := by
  induction n with
  | zero => omega
  | succ n ih =>
    rcases Nat.lt_or_ge k n with q | q
    · have h1 := ih (fun i hi => h i (by omega)) q
      have h2 := h n (by omega)
      rw [cnt_s, cnt_s]
      cases e : f n with
      | false => simp; omega
      | true => rw [h2 e]; simp; omega
    · have e : k = n := by omega
      subst e
      have h1 := cnt_imp (n := k) (fun i hi => h i (by omega))
      rw [cnt_f hf, cnt_t hg]
      omega
def rkb (fr : Nat → Nat) (x s : Nat) : Bool := decide (fr s < fr x) || (decide (fr s = fr x) && decide (s < x))
def rkf (fr : Nat → Nat) (x : Nat) : Nat := cnt (rkb fr x) 30
theorem rkb_iff {fr : Nat → Nat} {x s : Nat} : rkb fr x s = true ↔ fr s < fr x ∨ (fr s = fr x ∧ s < x) := by unfold rkb; simp
theorem rkb_self (fr : Nat → Nat) (x : Nat) : rkb fr x x = false := by
  cases e : rkb fr x x with
  | false => rfl
  | true => have := rkb_iff.mp e; omega
theorem rkf_lt (fr : Nat → Nat) {x : Nat} (hx : x < 30) : rkf fr x < 30 := by
  rcases Nat.lt_or_ge (rkf fr x) 30 with q | q
  · exact q
  · have := cnt_full q x hx
    rw [rkb_self] at this
    cases this
theorem rkf_mono (fr : Nat → Nat) {x y : Nat} (hx : x < 30) (h : rkb fr y x = true) : rkf fr x < rkf fr y := by
  refine cnt_strict (fun i _ q => ?_) hx (rkb_self fr x) h
  have h1 := rkb_iff.mp h
  have h2 := rkb_iff.mp q
  exact rkb_iff.mpr (by omega)
theorem rkf_inj (fr : Nat → Nat) {x y : Nat} (hx : x < 30) (hy : y < 30) (h : rkf fr x = rkf fr y) : x = y := by
  rcases Nat.lt_trichotomy (fr x) (fr y) with q | q | q
  · have := rkf_mono fr hx (rkb_iff.mpr (Or.inl q) : rkb fr y x = true); omega
  · rcases Nat.lt_trichotomy x y with z | z | z
    · have := rkf_mono fr hx (rkb_iff.mpr (Or.inr ⟨q, z⟩) : rkb fr y x = true); omega
    · exact z
    · have := rkf_mono fr hy (rkb_iff.mpr (Or.inr ⟨q.symm, z⟩) : rkb fr x y = true); omega
  · have := rkf_mono fr hy (rkb_iff.mpr (Or.inl q) : rkb fr x y = true); omega
/-! a line in the making: the tokens below t -/
def lineP (ρ : Nat → Nat) (T : Nat → Bool) (f : Nat → Nat) (t : Nat) : Prop := (∀ i j, i < j → j < cnt T t → f i < f j) ∧ ∀ G : Nat → Bool, cnt (fun k => G (f k)) (cnt T t) = cnt (fun x => T x && G (ρ x)) t
def insf (f : Nat → Nat) (a v : Nat) : Nat → Nat := fun k => if k < a then f k else if k = a then v else f (k - 1)
theorem insf_lo {f : Nat → Nat} {a v k : Nat} (h : k < a) : insf f a v k = f k := if_pos h
theorem insf_at {f : Nat → Nat} {a v : Nat} : insf f a v a = v := by unfold insf; rw [if_neg (by omega), if_pos rfl]
theorem insf_hi {f : Nat → Nat} {a v k : Nat} (h : a < k) : insf f a v k = f (k - 1) := by unfold insf; rw [if_neg (by omega), if_neg (by omega)]
theorem cnt_ins (G : Nat → Bool) (f : Nat → Nat) (a v : Nat) : ∀ m, a ≤ m → cnt (fun k => G (insf f a v k)) (m + 1) = cnt (fun k => G (f k)) m + (G v).toNat := by
  intro m hm
  obtain ⟨d, rfl⟩ := Nat.le.dest hm
  clear hm
  induction d with
  | zero =>
    rw [Nat.add_zero, cnt_s, cnt_congr (fun k hk => by rw [insf_lo hk] : ∀ k, k < a → G (insf f a v k) = G (f k))]
    rw [insf_at]
    rfl
  | succ d ih =>
    rw [cnt_s, show a + (d + 1) = a + d + 1 from rfl, ih, cnt_s]
    rw [insf_hi (by omega), show a + d + 1 - 1 = a + d by omega]
    omega
theorem lineP_0 (ρ : Nat → Nat) (T : Nat → Bool) (f : Nat → Nat) : lineP ρ T f 0 := ⟨fun i j _ h => by rw [cnt_0] at h; omega, fun G => rfl⟩
theorem lineP_skip {ρ : Nat → Nat} {T : Nat → Bool} {f : Nat → Nat} {t : Nat} (h : lineP ρ T f t) (ht : T t = false) : lineP ρ T f (t + 1) := by
  unfold lineP
  rw [cnt_f ht]
  refine ⟨h.1, fun G => ?_⟩
  rw [h.2 G, cnt_f (by rw [ht]; rfl)]
theorem lineP_new {ρ : Nat → Nat} {T : Nat → Bool} {f : Nat → Nat} {t : Nat} (h : lineP ρ T f t) (hi : ∀ x, x < t → ρ x ≠ ρ t) : ∀ k, k < cnt T t → f k ≠ ρ t := by
  intro k hk e
  have h1 := h.2 (fun v => decide (v = ρ t))
  rw [cnt_zero (f := fun x => T x && decide (ρ x = ρ t)) (fun x hx => by simp [hi x hx])] at h1
  have h2 := cnt_lt (f := fun k => decide (f k = ρ t)) (i := k) (n := cnt T t) (decide_eq_true e) hk
  omega
theorem lineP_bd {ρ : Nat → Nat} {T : Nat → Bool} {f : Nat → Nat} {t : Nat} (h : lineP ρ T f t) (hb : ∀ x, x < t → ρ x < 30) : ∀ k, k < cnt T t → f k < 30 := by
  intro k hk
  rcases Nat.lt_or_ge (f k) 30 with q | q
  · exact q
  · have h1 := h.2 (fun v => decide (30 ≤ v))
    rw [cnt_zero (f := fun x => T x && decide (30 ≤ ρ x)) (fun x hx => by have := hb x hx; simp; intro _; omega)] at h1
    have h2 := cnt_lt (f := fun k => decide (30 ≤ f k)) (i := k) (n := cnt T t) (decide_eq_true q) hk
    omega
theorem lineP_ins {ρ : Nat → Nat} {T : Nat → Bool} {f : Nat → Nat} {t a : Nat} (h : lineP ρ T f t) (ht : T t = true) (ha : a ≤ cnt T t) (h1 : ∀ k, k < a → f k < ρ t) (h2 : ∀ k, a ≤ k → k < cnt T t → ρ t < f k) : lineP ρ T (insf f a (ρ t)) (t + 1) := by
  unfold lineP
  rw [cnt_t ht]
  refine ⟨fun i j hij hj => ?_, fun G => ?_⟩
  · rcases Nat.lt_trichotomy j a with q | q | q
    · rw [insf_lo q, insf_lo (by omega)]
      exact h.1 i j hij (by omega)
    · subst q
      rw [insf_at, insf_lo hij]
      exact h1 i hij
    · rw [insf_hi q]
      rcases Nat.lt_trichotomy i a with z | z | z
      · rw [insf_lo z]
        exact Nat.lt_trans (h1 i z) (h2 (j - 1) (by omega) (by omega))
      · subst z
        rw [insf_at]
        exact h2 (j - 1) (by omega) (by omega)
      · rw [insf_hi z]
        exact h.1 (i - 1) (j - 1) (by omega) (by omega)
  · rw [cnt_ins G f a (ρ t) _ ha, h.2 G, cnt_s]
    rw [ht, Bool.true_and]
/-! merging two lines -/
def srt (f : Nat → Nat) (p : Nat) : Prop := ∀ i j, i < j → j < p → f i < f j
def mem2 (f g : Nat → Nat) (q i : Nat) : Bool := hasK (fun j => decide (g j = f i)) q
theorem srt_le {f : Nat → Nat} {p : Nat} (h : srt f p) {i j : Nat} (hij : i ≤ j) (hj : j < p) : f i ≤ f j := by
  rcases Nat.lt_or_ge i j with q | q
  · exact Nat.le_of_lt (h i j q hj)
  · rw [show i = j by omega]; exact Nat.le_refl _
theorem mem2_t {f g : Nat → Nat} {q i : Nat} : mem2 f g q i = true ↔ ∃ j, j < q ∧ g j = f i := by
  unfold mem2
  rw [hasK_t]
  constructor
  · rintro ⟨j, h1, h2⟩; exact ⟨j, h1, of_decide_eq_true h2⟩
  · rintro ⟨j, h1, h2⟩; exact ⟨j, h1, decide_eq_true h2⟩
theorem cnt_one {P P' : Nat → Bool} {n : Nat} (h : ∀ a b, a < n → b < n → P a = true → P' a = false → P b = true → P' b = false → a = b) : cnt P n ≤ cnt P' n + 1 := by
  induction n with
  | zero => exact Nat.zero_le _
  | succ n ih =>
    by_cases z : P n = true ∧ P' n = false
    · have h1 : cnt P n ≤ cnt P' n := cnt_imp (fun i hi hp => by
        cases e : P' i with
        | true => rfl
        | false => have := h i n (by omega) (by omega) hp e z.1 z.2; omega)
      rw [cnt_t z.1, cnt_f z.2]
      omega
    · have h1 := ih (fun a b ha hb => h a b (by omega) (by omega))
      rw [cnt_s, cnt_s]
      cases e1 : P n with
      | false => simp; omega
      | true =>
        cases e2 : P' n with
        | false => exact absurd ⟨e1, e2⟩ z
        | true => omega
/-- each match of the rest of f is in the rest of g, each with another -/
theorem cnt_hole {f : Nat → Nat} {g : Nat → Nat} {p i j : Nat} (hf : srt f p) : ∀ (d : Nat) (P : Nat → Bool), (∀ k, i ≤ k → k < p → P k = true → ∃ k', j ≤ k' ∧ k' < j + d ∧ g k' = f k) → i ≤ p → cnt P p ≤ cnt P i + d := by
  intro d
  induction d with
  | zero =>
    intro P h hip
    obtain ⟨r, rfl⟩ := Nat.le.dest hip
    rw [cnt_add, cnt_zero (f := fun x => P (i + x)) (fun x hx => by
      cases e : P (i + x) with
      | false => rfl
      | true => obtain ⟨k', h1, h2, -⟩ := h (i + x) (by omega) (by omega) e; omega)]
    omega
  | succ d ih =>
    intro P h hip
    have h1 := ih (fun k => P k && (decide (k < i) || decide (f k ≠ g (j + d)))) (fun k hk hkp hP => by
      obtain ⟨hP1, hP2⟩ := Bool.and_eq_true_iff.mp hP
      obtain ⟨k', a1, a2, a3⟩ := h k hk hkp hP1
      refine ⟨k', a1, ?_, a3⟩
      by_cases z : k' = j + d
      · subst z
        simp at hP2
        omega
      · omega) hip
    have h2 : cnt P p ≤ cnt (fun k => P k && (decide (k < i) || decide (f k ≠ g (j + d)))) p + 1 := by
      refine cnt_one (fun a b ha hb hPa hPa' hPb hPb' => ?_)
      have a1 : i ≤ a ∧ f a = g (j + d) := by simpa [hPa] using hPa'
      have b1 : i ≤ b ∧ f b = g (j + d) := by simpa [hPb] using hPb'
      rcases Nat.lt_trichotomy a b with z | z | z
      · have := hf a b z hb; omega
      · exact z
      · have := hf b a z ha; omega
    have h3 : cnt (fun k => P k && (decide (k < i) || decide (f k ≠ g (j + d)))) i = cnt P i := cnt_congr (fun k hk => by simp [hk])
    omega
theorem mg_le {f g : Nat → Nat} {p q i j : Nat} (hf : srt f p) (hi : i ≤ p) (hj : j ≤ q) (h : ∀ j' i', j' < j → i ≤ i' → i' < p → g j' < f i') : cnt (mem2 f g q) p ≤ cnt (mem2 f g q) i + (q - j) := by
  refine cnt_hole (g := g) (j := j) hf (q - j) _ (fun k hk hkp hP => ?_) hi
  obtain ⟨j', h1, h2⟩ := mem2_t.mp hP
  refine ⟨j', ?_, by omega, h2⟩
  rcases Nat.lt_or_ge j' j with z | z
  · have := h j' k z hk hkp; omega
  · exact z
theorem mg_end {f g : Nat → Nat} {p q i : Nat} (hf : srt f p) (hi : i ≤ p) (h : ∀ j' i', j' < q → i ≤ i' → i' < p → g j' < f i') : cnt (mem2 f g q) p = cnt (mem2 f g q) i := by
  have h1 := mg_le hf hi (Nat.le_refl q) h
  have h2 := cnt_mono (mem2 f g q) hi
  omega
theorem mg_lt {f g : Nat → Nat} {p q i j : Nat} (hg : srt g q) (hi : i < p) (hj : j < q) (h : ∀ j' i', j' < j → i ≤ i' → i' < p → g j' < f i') (hl : f i < g j) : mem2 f g q i = false := by
  cases e : mem2 f g q i with
  | false => rfl
  | true =>
    obtain ⟨j', h1, h2⟩ := mem2_t.mp e
    rcases Nat.lt_or_ge j' j with z | z
    · have := h j' i z (Nat.le_refl i) hi; omega
    · have := srt_le hg z h1; omega
/-- the prefixes of two lines that share enough meet -/
theorem mg_pre {f g : Nat → Nat} {p q oa ob : Nat} (hf : srt f p) (hg : srt g q) (h1 : 1 ≤ cnt (mem2 f g q) p) (ha : oa ≤ cnt (mem2 f g q) p) (hb : ob ≤ cnt (mem2 f g q) p) : ∃ k k', k < p - oa + 1 ∧ k' < q - ob + 1 ∧ k < p ∧ k' < q ∧ g k' = f k := by
  obtain ⟨k, ⟨hk, hm⟩, hmin⟩ := pk_least (fun k => k < p ∧ mem2 f g q k = true) (cnt_pos h1)
  obtain ⟨k', hk', he⟩ := mem2_t.mp hm
  have z0 : cnt (mem2 f g q) k = 0 := cnt_zero (fun i hi => by
    cases e : mem2 f g q i with
    | false => rfl
    | true => exact absurd ⟨by omega, e⟩ (hmin i hi))
  have h2 := cnt_gap (mem2 f g q) (Nat.le_of_lt hk)
  have h3 := mg_le (g := g) (j := k') hf (Nat.le_of_lt hk) (Nat.le_of_lt hk') (fun j' i' hj' hi' hp' => by
    have a1 := hg j' k' hj' hk'
    have a2 := srt_le hf hi' hp'
    omega)
  exact ⟨k, k', by omega, by omega, hk, hk', he⟩
theorem hasK_line {ρ : Nat → Nat} {U : Nat → Bool} {g : Nat → Nat} (hg : lineOk ρ U g) (hi : ∀ x y, x < 30 → y < 30 → ρ x = ρ y → x = y) {x : Nat} (hx : x < 30) : hasK (fun j => decide (g j = ρ x)) (cnt U 30) = U x := by
  unfold hasK
  rw [hg.2 (fun v => decide (v = ρ x))]
  cases e : U x with
  | false =>
    rw [cnt_zero (fun y hy => ?_)]
    · rfl
    · by_cases z : ρ y = ρ x
      · rw [hi y x hy hx z, e]; rfl
      · simp [z]
  | true => exact decide_eq_true (Nat.lt_of_le_of_lt (Nat.zero_le _) (cnt_lt (i := x) (f := fun y => U y && decide (ρ y = ρ x)) (by simp [e]) hx))
theorem mem2_cnt {ρ : Nat → Nat} {T U : Nat → Bool} {f g : Nat → Nat} (hf : lineOk ρ T f) (hg : lineOk ρ U g) (hi : ∀ x y, x < 30 → y < 30 → ρ x = ρ y → x = y) : cnt (mem2 f g (cnt U 30)) (cnt T 30) = cBo T U := by
  have h1 := hf.2 (fun v => hasK (fun j => decide (g j = v)) (cnt U 30))
  have h2 : cnt (mem2 f g (cnt U 30)) (cnt T 30) = cnt (fun k => (fun v => hasK (fun j => decide (g j = v)) (cnt U 30)) (f k)) (cnt T 30) := rfl
  rw [h2, h1]
  exact cnt_congr (fun x hx => by rw [hasK_line hg hi hx])
/-! thresholds -/
theorem ceil_le {A B c : Nat} (hB : 0 < B) : (A + B - 1) / B ≤ c ↔ A ≤ B * c := by
  rw [← Nat.lt_succ_iff, Nat.div_lt_iff_lt_mul hB, Nat.succ_mul, Nat.mul_comm c B]
  omega
/-- how many shared tokens a verify asks for -/
def need (t u p q : Nat) : Nat := (t * (p + q) + (t + u) - 1) / (t + u)
theorem need_al {t u : Nat} (h : thOk t u) (T U : Nat → Bool) : need t u (cnt T 30) (cnt U 30) ≤ cBo T U ↔ alT t u T U = true := by
  have h1 := cEi_Bo T U
  unfold need alT
  rw [ceil_le (by have := h.1; omega), decide_eq_true_iff, ← h1, Nat.mul_add, Nat.add_mul]
  omega
theorem al_facts {t u : Nat} (h : thOk t u) {T U : Nat → Bool} (ha : alT t u T U = true) : t * cnt T 30 ≤ u * cnt U 30 ∧ t * cnt U 30 ≤ u * cnt T 30 ∧ (t * cnt T 30 + u - 1) / u ≤ cBo T U ∧ (t * cnt U 30 + u - 1) / u ≤ cBo T U := by
  have h1 := cEi_Bo T U
  have h2 := cBo_l T U
  have h3 := cBo_r T U
  have h4 : t * cEi T U ≤ u * cBo T U := of_decide_eq_true ha
  have a1 : t * cnt T 30 ≤ t * cEi T U := Nat.mul_le_mul_left t (by omega)
  have a2 : t * cnt U 30 ≤ t * cEi T U := Nat.mul_le_mul_left t (by omega)
  have a3 : u * cBo T U ≤ u * cnt U 30 := Nat.mul_le_mul_left u h3
  have a4 : u * cBo T U ≤ u * cnt T 30 := Nat.mul_le_mul_left u h2
  have hu : 0 < u := by have := h.1; have := h.2.1; omega
  exact ⟨by omega, by omega, (ceil_le hu).mpr (by omega), (ceil_le hu).mpr (by omega)⟩
theorem plen_le {t u p : Nat} (h : thOk t u) (hp : 1 ≤ p) : plen t u p ≤ p := by
  have hu : 0 < u := by have := h.1; have := h.2.1; omega
  have h1 : ¬ (t * p + u - 1) / u ≤ 0 := by
    rw [ceil_le hu]
    have : 1 * 1 ≤ t * p := Nat.mul_le_mul h.1 hp
    omega
  unfold plen
  omega
theorem plen_need {t u p : Nat} (h : thOk t u) : (t * p + u - 1) / u ≤ p := by
  have hu : 0 < u := by have := h.1; have := h.2.1; omega
  rw [ceil_le hu]
  exact Nat.mul_le_mul_right p h.2.1
/-- WHAT A PROBE'S THREE LOOKS SAY TOGETHER: the prefixes meet, the sizes are near, the merge finds enough: that is, alike -/
theorem probe_al {t u : Nat} (h : thOk t u) {ρ : Nat → Nat} {T U : Nat → Bool} {f g : Nat → Nat} (hf : lineOk ρ T f) (hg : lineOk ρ U g) (hi : ∀ x y, x < 30 → y < 30 → ρ x = ρ y → x = y) (hT : 1 ≤ cnt T 30) :
    (hasK (fun k => hasK (fun k' => decide (g k' = f k)) (plen t u (cnt U 30))) (plen t u (cnt T 30)) = true ∧ (t * cnt T 30 ≤ u * cnt U 30 ∧ t * cnt U 30 ≤ u * cnt T 30) ∧ need t u (cnt T 30) (cnt U 30) ≤ cnt (mem2 f g (cnt U 30)) (cnt T 30)) ↔ alT t u T U = true := by
  rw [mem2_cnt hf hg hi]
  constructor
  · rintro ⟨-, -, h3⟩
    exact (need_al h T U).mp h3
  · intro ha
    obtain ⟨b1, b2, b3, b4⟩ := al_facts h ha
    refine ⟨?_, ⟨b1, b2⟩, (need_al h T U).mpr ha⟩
    have e1 := mem2_cnt hf hg hi
    have hpos : 1 ≤ cBo T U := by
      have h5 : ¬ (t * cnt T 30 + u - 1) / u ≤ 0 := by
        rw [ceil_le (by have := h.1; have := h.2.1; omega)]
        have : 1 * 1 ≤ t * cnt T 30 := Nat.mul_le_mul h.1 hT
        omega
      omega
    obtain ⟨k, k', h1, h2, -, -, h5⟩ := mg_pre (p := cnt T 30) (q := cnt U 30) hf.1 hg.1 (by rw [e1]; exact hpos) (by rw [e1]; exact b3) (by rw [e1]; exact b4)
    exact hasK_t.mpr ⟨k, h1, hasK_t.mpr ⟨k', h2, decide_eq_true h5⟩⟩
end
section
/-! groups -/
theorem lab_idem {n : Nat} {q : Nat → Nat → Bool} {lb : Nat → Nat} (h : isLab n q lb) {r : Nat} (hr : r < n) : lb (lb r) = lb r := h.2.1 lb h.1 r hr
theorem lab_unique {n : Nat} {q : Nat → Nat → Bool} {lb lb' : Nat → Nat} (h : isLab n q lb) (h' : isLab n q lb') {r : Nat} (hr : r < n) : lb r = lb' r := by
  have a1 := h.2.1 lb' h'.1 r hr
  have a2 := h'.2.1 lb h.1 r hr
  have b1 := h'.2.2 (lb r) (Nat.lt_of_le_of_lt (h.2.2 r hr) hr)
  have b2 := h.2.2 (lb' r) (Nat.lt_of_le_of_lt (h'.2.2 r hr) hr)
  omega
def lmrg (lb : Nat → Nat) (x y z : Nat) : Nat → Nat := fun s => if lb s = x ∨ lb s = y then z else lb s
theorem lmrg_in {lb : Nat → Nat} {x y z s : Nat} (h : lb s = x ∨ lb s = y) : lmrg lb x y z s = z := if_pos h
theorem lmrg_out {lb : Nat → Nat} {x y z s : Nat} (h : ¬ (lb s = x ∨ lb s = y)) : lmrg lb x y z s = lb s := if_neg h
/-- an edge more -/
theorem lab_merge {n : Nat} {q q' : Nat → Nat → Bool} {lb : Nat → Nat} {a b z : Nat} (h : isLab n q lb) (ha : a < n) (hb : b < n) (hz : z = lb a ∨ z = lb b) (hza : z ≤ lb a) (hzb : z ≤ lb b)
    (hq : ∀ i j, i < n → j < n → (q' i j = true ↔ q i j = true ∨ (i = a ∧ j = b))) : isLab n q' (lmrg lb (lb a) (lb b) z) := by
  refine ⟨fun i j hi hj e => ?_, fun φ hφ r hr => ?_, fun r hr => ?_⟩
  · rcases (hq i j hi hj).mp e with e | ⟨rfl, rfl⟩
    · have e1 := h.1 i j hi hj e
      unfold lmrg
      rw [e1]
    · rw [lmrg_in (Or.inl rfl), lmrg_in (Or.inr rfl)]
  · have h1 := h.2.1 φ (fun i j hi hj e => hφ i j hi hj ((hq i j hi hj).mpr (Or.inl e)))
    have h2 : φ a = φ b := hφ a b ha hb ((hq a b ha hb).mpr (Or.inr ⟨rfl, rfl⟩))
    have h3 := h1 a ha
    have h4 := h1 b hb
    have h5 : φ z = φ a := by rcases hz with rfl | rfl <;> omega
    by_cases e : lb r = lb a ∨ lb r = lb b
    · rw [lmrg_in e, h5]
      have h6 := h1 r hr
      rcases e with e | e <;> rw [e] at h6 <;> omega
    · rw [lmrg_out e]
      exact h1 r hr
  · have h1 := h.2.2 r hr
    by_cases e : lb r = lb a ∨ lb r = lb b
    · rw [lmrg_in e]
      rcases e with e | e <;> omega
    · rw [lmrg_out e]
      exact h1
/-- the edges of the rows below r, and of row r below b -/
def qrb (q : Nat → Nat → Bool) (r b : Nat) (i j : Nat) : Bool := (decide (i < r) || (decide (i = r) && decide (j < b))) && (decide (i < j) && q i j)
theorem qrb_iff {q : Nat → Nat → Bool} {r b i j : Nat} : qrb q r b i j = true ↔ (i < r ∨ (i = r ∧ j < b)) ∧ i < j ∧ q i j = true := by unfold qrb; simp
theorem qrb_next {q : Nat → Nat → Bool} {n r : Nat} {lb : Nat → Nat} (h : isLab n (qrb q r n) lb) : isLab n (qrb q (r + 1) (r + 2)) lb := isLab_congr h (fun i j hi hj => by
  rw [Bool.eq_iff_iff, qrb_iff, qrb_iff]
  constructor
  · rintro ⟨h1, h2, h3⟩; exact ⟨by omega, h2, h3⟩
  · rintro ⟨h1, h2, h3⟩; exact ⟨by omega, h2, h3⟩)
theorem qrb_skip {q : Nat → Nat → Bool} {n r b : Nat} {lb : Nat → Nat} (h : isLab n (qrb q r b) lb) (hq : q r b = false) : isLab n (qrb q r (b + 1)) lb := isLab_congr h (fun i j hi hj => by
  rw [Bool.eq_iff_iff, qrb_iff, qrb_iff]
  constructor
  · rintro ⟨h1, h2, h3⟩
    refine ⟨?_, h2, h3⟩
    rcases h1 with h1 | ⟨rfl, h1⟩
    · exact Or.inl h1
    · by_cases e : j = b
      · subst e; rw [hq] at h3; cases h3
      · exact Or.inr ⟨rfl, by omega⟩
  · rintro ⟨h1, h2, h3⟩; exact ⟨by omega, h2, h3⟩)
theorem qrb_add {q : Nat → Nat → Bool} {n r b z : Nat} {lb : Nat → Nat} (h : isLab n (qrb q r b) lb) (hr : r < b) (hb : b < n) (hq : q r b = true) (hz : z = lb r ∨ z = lb b) (hza : z ≤ lb r) (hzb : z ≤ lb b) : isLab n (qrb q r (b + 1)) (lmrg lb (lb r) (lb b) z) := by
  refine lab_merge h (by omega) hb hz hza hzb (fun i j hi hj => ?_)
  rw [qrb_iff, qrb_iff]
  constructor
  · rintro ⟨h1, h2, h3⟩
    by_cases e : i = r ∧ j = b
    · exact Or.inr e
    · exact Or.inl ⟨by omega, h2, h3⟩
  · rintro (⟨h1, h2, h3⟩ | ⟨rfl, rfl⟩)
    · exact ⟨by omega, h2, h3⟩
    · exact ⟨Or.inr ⟨rfl, by omega⟩, hr, hq⟩
theorem qrb_start (q : Nat → Nat → Bool) (n : Nat) : isLab n (qrb q 0 1) (fun r => r) := ⟨fun i j _ _ e => by have := qrb_iff.mp e; omega, fun φ _ r _ => rfl, fun r _ => Nat.le_refl r⟩
/-- all rows are through: that's the whole relation -/
theorem qrb_full {q : Nat → Nat → Bool} {n b : Nat} {lb : Nat → Nat} (hs : ∀ i j, q i j = q j i) (h : isLab n (qrb q n b) lb) : isLab n q lb := by
  refine ⟨fun i j hi hj e => ?_, fun φ hφ => h.2.1 φ (fun i j hi hj e => hφ i j hi hj (qrb_iff.mp e).2.2), h.2.2⟩
  rcases Nat.lt_trichotomy i j with z | z | z
  · exact h.1 i j hi hj (qrb_iff.mpr ⟨Or.inl hi, z, e⟩)
  · rw [z]
  · exact (h.1 j i hj hi (qrb_iff.mpr ⟨Or.inl hj, z, by rw [hs]; exact e⟩)).symm
theorem lab_ex_row {q : Nat → Nat → Bool} {n r : Nat} (hr : r < n) {lb : Nat → Nat} (h : isLab n (qrb q r (r + 1)) lb) : ∀ d, r + 1 + d ≤ n → ∃ lb, isLab n (qrb q r (r + 1 + d)) lb := by
  intro d
  induction d with
  | zero => intro _; exact ⟨lb, h⟩
  | succ d ih =>
    intro hd
    obtain ⟨lb, h⟩ := ih (by omega)
    cases e : q r (r + 1 + d) with
    | false => exact ⟨lb, qrb_skip h e⟩
    | true =>
      rcases Nat.le_total (lb r) (lb (r + 1 + d)) with z | z
      · exact ⟨_, qrb_add (b := r + 1 + d) (z := lb r) h (by omega) (by omega) e (Or.inl rfl) (Nat.le_refl _) z⟩
      · exact ⟨_, qrb_add (b := r + 1 + d) (z := lb (r + 1 + d)) h (by omega) (by omega) e (Or.inr rfl) z (Nat.le_refl _)⟩
theorem lab_ex {q : Nat → Nat → Bool} (hs : ∀ i j, q i j = q j i) (n : Nat) : ∃ lb, isLab n q lb := by
  have h : ∀ r, r ≤ n → ∃ lb, isLab n (qrb q r (r + 1)) lb := by
    intro r
    induction r with
    | zero => intro _; exact ⟨_, qrb_start q n⟩
    | succ r ih =>
      intro hr
      obtain ⟨lb, h⟩ := ih (by omega)
      obtain ⟨lb, h⟩ := lab_ex_row (by omega) h (n - (r + 1)) (by omega)
      rw [show r + 1 + (n - (r + 1)) = n by omega] at h
      exact ⟨lb, qrb_next h⟩
  obtain ⟨lb, h⟩ := h n (Nat.le_refl n)
  exact ⟨lb, qrb_full hs h⟩
/-! forests -/
theorem frst_le {n : Nat} {lb pr : Nat → Nat} (h : frst n lb pr) : ∀ r, r < n → lb r ≤ r := by
  intro r
  induction r using Nat.strongRecOn with
  | ind r ih =>
    intro hr
    obtain ⟨h1, h2, h3⟩ := h r hr
    by_cases e : pr r = r
    · rw [h3 e]; exact Nat.le_refl r
    · have := ih (pr r) (by omega) (by omega)
      omega
theorem frst_root {n : Nat} {lb pr : Nat → Nat} (h : frst n lb pr) {r : Nat} (hr : r < n) : pr r = r ↔ lb r = r := by
  obtain ⟨h1, h2, h3⟩ := h r hr
  constructor
  · exact h3
  · intro e
    by_cases z : pr r = r
    · exact z
    · have := frst_le h (pr r) (by omega)
      omega
theorem frst_0 (n : Nat) : frst n (fun r => r) (fun r => r) := fun r _ => ⟨Nat.le_refl r, rfl, fun _ => rfl⟩
def nup (f : Nat → Nat) (k v : Nat) : Nat → Nat := fun j => if j = k then v else f j
theorem nup_s {f : Nat → Nat} {k v : Nat} : nup f k v k = v := if_pos rfl
theorem nup_n {f : Nat → Nat} {k v j : Nat} (h : j ≠ k) : nup f k v j = f j := if_neg h
theorem frst_half {n : Nat} {lb pr : Nat → Nat} (h : frst n lb pr) {a : Nat} (ha : a < n) : frst n lb (nup pr a (pr (pr a))) := by
  intro r hr
  by_cases e : r = a
  · subst e
    obtain ⟨h1, h2, h3⟩ := h r hr
    obtain ⟨g1, g2, g3⟩ := h (pr r) (by omega)
    rw [nup_s]
    exact ⟨by omega, by rw [g2, h2], fun z => h3 (by omega)⟩
  · rw [nup_n e]
    exact h r hr
theorem frst_merge {n : Nat} {lb pr : Nat → Nat} (h : frst n lb pr) {x y z : Nat} (hx : lb x = x) (hy : lb y = y) (hz : z = x ∨ z = y) (hzx : z ≤ x) (hzy : z ≤ y) : frst n (lmrg lb x y z) (nup (nup pr x z) y z) := by
  have hlz : lmrg lb x y z z = z := lmrg_in (by rcases hz with rfl | rfl <;> omega)
  intro r hr
  by_cases e : r = x ∨ r = y
  · have e1 : nup (nup pr x z) y z r = z := by
      by_cases e2 : r = y
      · subst e2; exact nup_s
      · rw [nup_n e2]
        rcases e with rfl | e
        · exact nup_s
        · exact absurd e e2
    have e3 : lmrg lb x y z r = z := lmrg_in (by rcases e with rfl | rfl <;> omega)
    rw [e1, e3, hlz]
    exact ⟨by rcases e with rfl | rfl <;> omega, rfl, fun q => q⟩
  · have e1 : nup (nup pr x z) y z r = pr r := by rw [nup_n (fun q => e (Or.inr q)), nup_n (fun q => e (Or.inl q))]
    rw [e1]
    obtain ⟨h1, h2, h3⟩ := h r hr
    refine ⟨h1, by unfold lmrg; rw [h2], fun q => ?_⟩
    have h4 := h3 q
    rw [lmrg_out (by rw [h4]; exact e)]
    exact h4
theorem nup_upd {pa : Nat → Int32} {pr : Nat → Nat} {n k v : Nat} (h : ∀ r, r < n → pa r = nI (pr r)) : ∀ r, r < n → upd pa k (nI v) r = nI (nup pr k v r) := by
  intro r hr
  by_cases e : r = k
  · subst e; rw [pk_us, nup_s]
  · rw [pk_un e, nup_n e]; exact h r hr
end
section
/-! small facts for the walks -/
theorem thr_in {x : Int32} (h1 : ¬ x < nI 1) (h2 : ¬ nI 12 < x) : ∃ a : Nat, 1 ≤ a ∧ a ≤ 12 ∧ x = nI a := by
  have h0 : ¬ x < 0 := fun q => h1 (Int32.lt_of_lt_of_le q (by decide))
  obtain ⟨j, hj, rfl⟩ := nI_of h0
  refine ⟨j, ?_, ?_, rfl⟩
  · exact Nat.not_lt.mp fun q => h1 ((nI_ltI hj (by omega)).mpr q)
  · exact Nat.not_lt.mp fun q => h2 ((nI_ltI (by omega) hj).mpr q)
theorem thr_bad {x : Int32} (h : x < nI 1 ∨ nI 12 < x) : zix x 13 = none ∨ zix x 13 = some 0 := by
  by_cases q : ∃ j : Nat, j < 13 ∧ x = nI j
  · obtain ⟨j, hj, rfl⟩ := q
    right
    rw [zix_s hj (by omega)]
    rcases h with h | h
    · have := (nI_ltI (by omega) (by omega)).mp h
      rw [show j = 0 by omega]
    · have := (nI_ltI (by omega) (by omega)).mp h
      omega
  · exact Or.inl (zix_n q)
theorem aThr_x {t u : Nat} {x y : Int32} (h : x < nI 1 ∨ nI 12 < x) : aThr t u x y = (-1, t, u) := by
  unfold aThr
  rcases thr_bad h with e | e <;> rw [e] <;> cases zix y 13 <;> simp
theorem aThr_y {t u : Nat} {x y : Int32} (h : y < nI 1 ∨ nI 12 < y) : aThr t u x y = (-1, t, u) := by
  unfold aThr
  rcases thr_bad h with e | e <;> rw [e] <;> cases zix x 13 <;> simp
theorem aThr_s {t u a b : Nat} (h1 : 1 ≤ a) (h2 : a ≤ 12) (h3 : 1 ≤ b) (h4 : b ≤ 12) : aThr t u (nI a) (nI b) = if b < a then (-2, t, u) else (nI 0, a, b) := by
  unfold aThr
  rw [zix_s (by omega) (by omega), zix_s (by omega) (by omega)]
  show (if a = 0 ∨ b = 0 then _ else _) = _
  rw [if_neg (by omega)]
theorem cont_iff {d m : Int32} {T U : Nat → Bool} (h1 : msk d T) (h2 : msk m U) : d &&& (m ^^^ (-1)) = 0 ↔ cBo U T = cnt T 30 := by
  rw [z_andn0]
  constructor
  · intro h
    refine cnt_congr (fun i hi => ?_)
    cases e : T i with
    | false => rw [Bool.and_false]
    | true => rw [← msk_at h2 hi, h i (by omega) (by rw [msk_at h1 hi, e])]; rfl
  · intro h i hi hb
    rw [cBo_comm] at h
    rw [h1 i hi] at hb
    obtain ⟨b1, b2⟩ := Bool.and_eq_true_iff.mp hb
    have b1 := of_decide_eq_true b1
    rw [msk_at h2 b1]
    exact cnt_sub T U 30 h i b1 b2
theorem vNear_y {S : SS} {w b bc ba : Nat} {bs : Int32} (h : vNear S w b = (bs, bc, ba)) (hb : b ≠ w) (hc : bs < 0 ∨ bc * cEi (S w) (S b) < cBo (S w) (S b) * ba) : vNear S w (b + 1) = (nI b, cBo (S w) (S b), cEi (S w) (S b)) := by
  show (if b ≠ w ∧ ((vNear S w b).1 < 0 ∨ (vNear S w b).2.1 * cEi (S w) (S b) < cBo (S w) (S b) * (vNear S w b).2.2) then _ else _) = _
  rw [h, if_pos ⟨hb, hc⟩]
theorem vNear_n {S : SS} {w b bc ba : Nat} {bs : Int32} (h : vNear S w b = (bs, bc, ba)) (hc : b = w ∨ (¬ bs < 0 ∧ cBo (S w) (S b) * ba ≤ bc * cEi (S w) (S b))) : vNear S w (b + 1) = (bs, bc, ba) := by
  show (if b ≠ w ∧ ((vNear S w b).1 < 0 ∨ (vNear S w b).2.1 * cEi (S w) (S b) < cBo (S w) (S b) * (vNear S w b).2.2) then _ else _) = _
  rw [h, if_neg]
  rintro ⟨h1, h2⟩
  rcases hc with hc | ⟨h3, h4⟩
  · exact h1 hc
  · rcases h2 with h2 | h2
    · exact h3 h2
    · have h2 : bc * cEi (S w) (S b) < cBo (S w) (S b) * ba := h2
      omega
theorem mul_bd {a b A B : Nat} (ha : a ≤ A) (hb : b ≤ B) : a * b ≤ A * B := Nat.mul_le_mul ha hb
section ZN
variable {p : Program} {l : Launch} {e : Env} {R : Room} {s : State} {m : MethodId} {args : Array Value} {below : List Frame} {meth : Method} {c : Code} {H : Heap} {locs : List Loc} {cells slots : Nat} {Q : State → Prop}
variable {cc : ByteArray} {pc : Nat} {ls : Array Slot} {rest : List Value}
theorem zn_idiv (hx : p.tables.exec = Jvm.exec) (hb : c.code = cc) {a b : Nat} (hdg : decode cc pc = .ok (.idiv, 1)) (ha : a < 2 ^ 31) (h0 : 0 < b) (hb2 : b < 2 ^ 31) (k : W p l e R s m args below meth c H locs cells slots Q (F0 m (pc + 1) ls (.int (nI (a / b)) :: rest))) : W p l e R s m args below meth c H locs cells slots Q (F0 m pc ls (.int (nI b) :: .int (nI a) :: rest)) :=
  lv_idiv hx hb hdg (fun q => nI_ne0 h0 hb2 q) (by rw [pk_div ha h0 hb2]; exact k)
end ZN
def frq (n : Nat) (S : SS) (x : Nat) : Nat := cnt (fun r => S r x) n
theorem rank_ok {n : Nat} {S : SS} {ro : Nat → Int32} (h : ∀ x, x < 30 → ro x = nI (rkf (frq n S) x)) : rankOk (rkf (frq n S)) ro := ⟨fun x hx => ⟨h x hx, rkf_lt _ hx⟩, fun x y hx hy e => rkf_inj _ hx hy e⟩
theorem rkb_f {fr : Nat → Nat} {x s : Nat} (h : ¬ (fr s < fr x ∨ (fr s = fr x ∧ s < x))) : rkb fr x s = false := by
  cases e : rkb fr x s with
  | false => rfl
  | true => exact absurd (rkb_iff.mp e) h
theorem al_empty {t u : Nat} (h : thOk t u) {T U : Nat → Bool} (hT : cnt T 30 = 0) (hU : 1 ≤ cnt U 30) : alT t u T U = false := by
  have h1 := cEi_Bo T U
  have h2 := cBo_l T U
  unfold alT
  refine decide_eq_false ?_
  have h3 : cBo T U = 0 := by omega
  rw [h3]
  have h4 : 1 * 1 ≤ t * cEi T U := Nat.mul_le_mul h.1 (by omega)
  omega
theorem nat_bool {b : Bool} {P : Prop} (h : b = true ↔ P) (hP : P) : b = true := h.mpr hP
theorem bool_f {b : Bool} {P : Prop} (h : P ↔ b = true) (hP : ¬ P) : b = false := by
  cases e : b with
  | false => rfl
  | true => exact absurd (h.mpr e) hP
def fput (F : Nat → Nat → Nat) (r : Nat) (f : Nat → Nat) : Nat → Nat → Nat := fun s => if s = r then f else F s
theorem fput_s {F : Nat → Nat → Nat} {r : Nat} {f : Nat → Nat} : fput F r f r = f := if_pos rfl
theorem fput_n {F : Nat → Nat → Nat} {r s : Nat} {f : Nat → Nat} (h : ¬ s = r) : fput F r f s = F s := if_neg h
end
section
/-! facts behind a refresh -/
theorem cnt_bits {x : Int32} {n : Nat} {g : Nat → Bool} (hn : n ≤ 32) (h : ∀ b, b < 32 → bt x b = (decide (b < n) && g b)) : cnt (bt x) 32 = cnt g n := by
  obtain ⟨d, hd⟩ := Nat.le.dest hn
  rw [← hd, cnt_add, cnt_congr (g := g) (fun i hi => by rw [h i (by omega), decide_eq_true hi, Bool.true_and]), cnt_zero (n := d) (fun i hi => by rw [h (n + i) (by omega), decide_eq_false (by omega), Bool.false_and])]
  rfl
theorem pairs_row {x : Int32} {n a : Nat} {g : Nat → Bool} (hn : n ≤ 20) (ha : a < n) (h : ∀ b, b < 32 → bt x b = (decide (b < n) && g b)) : cnt (bt ((x.toUInt32 >>> ((nI (a + 1)).toUInt32 &&& Int32.toUInt32 31)).toInt32)) 32 = cnt (fun b => decide (a < b) && g b) n := by
  have e1 : cnt (bt ((x.toUInt32 >>> ((nI (a + 1)).toUInt32 &&& Int32.toUInt32 31)).toInt32)) 32 = cnt (fun i => g (a + 1 + i)) (n - (a + 1)) := by
    rw [show (32 : Nat) = (n - (a + 1)) + (32 - (n - (a + 1))) by omega, cnt_add, cnt_congr (g := fun i => g (a + 1 + i)) (fun i hi => by rw [b_ushr (a + 1) (by omega), h _ (by omega), decide_eq_true (by omega), Bool.true_and]), cnt_zero (n := 32 - (n - (a + 1))) (fun i hi => by
      rw [b_ushr (a + 1) (by omega)]
      by_cases q : a + 1 + (n - (a + 1) + i) < 32
      · rw [h _ q, decide_eq_false (by omega), Bool.false_and]
      · exact b_big (by omega))]
    rfl
  have e2 : cnt (fun b => decide (a < b) && g b) n = cnt (fun i => g (a + 1 + i)) (n - (a + 1)) := by
    have e3 : n = (a + 1) + (n - (a + 1)) := by omega
    have e4 := cnt_add (fun b => decide (a < b) && g b) (a + 1) (n - (a + 1))
    rw [← e3] at e4
    rw [e4, cnt_zero (n := a + 1) (fun i hi => by rw [decide_eq_false (by omega), Bool.false_and]), Nat.zero_add]
    exact cnt_congr (fun i hi => by rw [decide_eq_true (by omega), Bool.true_and])
  rw [e1, e2]
theorem nbr_cnt {t u n : Nat} (h : t ≤ u) (S : SS) {w : Nat} (hw : w < n) : cnt (al t u S w) n = cnt (nbr t u S w) n + 1 := by
  refine cnt_set_t hw (by unfold nbr; simp) (al_self h S w) (fun i hi q => ?_)
  unfold nbr
  rw [decide_eq_true q, Bool.true_and, al_comm]
theorem lfind_no {P : Nat → Bool} {b n : Nat} (h : b < n) (hp : P b = false) : lfind P b (n - b) = lfind P (b + 1) (n - (b + 1)) := by
  rw [show n - b = (n - (b + 1)) + 1 by omega]
  show (if P b = true then some b else lfind P (b + 1) (n - (b + 1))) = _
  rw [hp]
  rfl
theorem lfind_yes {P : Nat → Bool} {b n : Nat} (h : b < n) (hp : P b = true) : lfind P b (n - b) = some b := by
  rw [show n - b = (n - (b + 1)) + 1 by omega]
  show (if P b = true then some b else lfind P (b + 1) (n - (b + 1))) = _
  rw [hp]
  rfl
theorem lfind_end {P : Nat → Bool} {b n : Nat} (h : n ≤ b) : lfind P b (n - b) = none := by
  rw [show n - b = 0 by omega]
  rfl
theorem i32_sub0 {x a : Int32} : x - a = 0 ↔ x = a := by
  constructor
  · intro h
    have := Int32.sub_add_cancel x a
    rw [h, Int32.zero_add] at this
    exact this.symm
  · rintro rfl
    exact Int32.sub_self _
theorem i32_dec (y : Int32) (k : Nat) : y - nI k + (-1) = y - nI (k + 1) := by
  rw [nI_succ, Int32.sub_eq_add_neg, Int32.sub_eq_add_neg, Int32.neg_add, Int32.sub_eq_add_neg, Int32.add_assoc]
theorem paOk_lab {n t u : Nat} {S : SS} {pa : Nat → Int32} {lb : Nat → Nat} (h : paOk n t u S pa) (hl : isLab n (al t u S) lb) : ∃ pr : Nat → Nat, frst n lb pr ∧ ∀ r, r < n → pa r = nI (pr r) := by
  obtain ⟨lb', pr, h1, h2, h3⟩ := h
  refine ⟨pr, fun r hr => ?_, h3⟩
  obtain ⟨a1, a2, a3⟩ := h2 r hr
  rw [lab_unique hl h1 hr, lab_unique hl h1 (show pr r < n by omega)]
  exact ⟨a1, a2, a3⟩
theorem jV_pa {n t u : Nat} {S : SS} {rk ro ct ix rw_ pa pa' : Nat → Int32} {lb pr : Nat → Nat} (h : jV n t u S rk ro ct ix rw_ pa) (hl : isLab n (al t u S) lb) (hf : frst n lb pr) (hp : ∀ r, r < n → pa' r = nI (pr r)) : jV n t u S rk ro ct ix rw_ pa' := by
  obtain ⟨ρ, F, h1, h2, h3, h4, h5, h6⟩ := h
  exact ⟨ρ, F, h1, h2, h3, h4, h5, lb, pr, hl, hf, hp⟩
theorem lines_rk {n : Nat} (hn : n ≤ 20) {S : SS} (h12 : ∀ r, r < n → cnt (S r) 30 ≤ 12) {ρ : Nat → Nat} {F : Nat → Nat → Nat} {rk rk' : Nat → Int32} (h : linesOk n S ρ F rk) (e : ∀ i, i < 240 → rk' i = rk i) : linesOk n S ρ F rk' := fun r hr => ⟨(h r hr).1, fun k hk => by have := h12 r hr; rw [e _ (by omega)]; exact (h r hr).2 k hk⟩
end
section
/-! the reference's sets and labels -/
theorem nar_b (b : Bool) : vp_nar .boolean (nI b.toNat) = nI b.toNat := by cases b <;> rfl
/-- one line of the reference holds the set T -/
def mLn (iN : Nat → Int32) (r : Nat) (T : Nat → Bool) : Prop := ∀ x, x < 30 → iN (30 * r + x) = nI (T x).toNat
theorem mIn_ln {n : Nat} {S : SS} {iN : Nat → Int32} (h : mIn n S iN) {r : Nat} (hr : r < n ∨ r = 20) : mLn iN r (S r) := fun x hx => h r hr x hx
/-- the line k is replaced -/
theorem mIn_set {n n' k : Nat} {S : SS} {iN iN' : Nat → Int32} {T : Nat → Bool} (h : mIn n S iN) (hk : mLn iN' k T) (ho : ∀ i, i < 30 * k ∨ 30 * k + 30 ≤ i → iN' i = iN i) (hn : ∀ r, r < n' ∨ r = 20 → r ≠ k → r < n ∨ r = 20) : mIn n' (sput S k T) iN' := by
  intro r hr x hx
  by_cases q : r = k
  · subst q
    rw [sput_s]
    exact hk x hx
  · rw [sput_n S T q, ho _ (by omega)]
    exact h r (hn r hr q) x hx
theorem mLn_upd {iN : Nat → Int32} {k j : Nat} {T : Nat → Bool} {b : Bool} (h : mLn iN k T) (hj : j < 30) : mLn (upd iN (30 * k + j) (nI b.toNat)) k (tput T j b) := by
  intro x hx
  by_cases q : x = j
  · subst q
    rw [pk_us, tput_s]
  · rw [pk_un (by omega), tput_n T b q]
    exact h x hx
theorem mIn_tok {n j : Nat} {S : SS} {iN : Nat → Int32} (b : Bool) (h : mIn n S iN) (hj : j < 30) : mIn n (sput S 20 (tput (S 20) j b)) (upd iN (600 + j) (nI b.toNat)) :=
  mIn_set h (mLn_upd (k := 20) (mIn_ln h (Or.inr rfl)) hj) (fun i hi => pk_un (by omega)) (fun r hr _ => hr)
/-! labels that go down: L is between the labels lb and the names -/
def okL (n : Nat) (lb L : Nat → Nat) : Prop := ∀ r, r < n → L r ≤ r ∧ lb (L r) = lb r
theorem okL_ge {n : Nat} {q : Nat → Nat → Bool} {lb L : Nat → Nat} (hl : isLab n q lb) (h : okL n lb L) {r : Nat} (hr : r < n) : lb r ≤ L r := by
  obtain ⟨h1, h2⟩ := h r hr
  have := hl.2.2 (L r) (by omega)
  omega
theorem okL_id {n : Nat} {lb : Nat → Nat} : okL n lb (fun r => r) := fun r _ => ⟨Nat.le_refl r, rfl⟩
def stl (lb L : Nat → Nat) (r : Nat) : Bool := decide (L r = lb r)
/-- where not all is settled there is an edge from what is to what isn't -/
theorem okL_edge {n : Nat} {q : Nat → Nat → Bool} {lb L : Nat → Nat} (hs : ∀ i j, q i j = q j i) (hl : isLab n q lb) (h : okL n lb L) {r : Nat} (hr : r < n) (hu : L r ≠ lb r) : ∃ v w, v < n ∧ w < n ∧ L v = lb v ∧ L w ≠ lb w ∧ q w v = true := by
  refine Classical.byContradiction (fun no => ?_)
  have hc : ∀ a b, a < n → b < n → q a b = true → (stl lb L a).toNat = (stl lb L b).toNat := by
    intro a b ha hb e
    unfold stl
    by_cases h1 : L a = lb a
    · by_cases h2 : L b = lb b
      · rw [decide_eq_true h1, decide_eq_true h2]
      · exact absurd ⟨a, b, ha, hb, h1, h2, by rw [hs]; exact e⟩ no
    · by_cases h2 : L b = lb b
      · exact absurd ⟨b, a, hb, ha, h2, h1, e⟩ no
      · rw [decide_eq_false h1, decide_eq_false h2]
  have h1 := hl.2.1 (fun r => (stl lb L r).toNat) hc r hr
  have h2 : lb r < n := Nat.lt_of_le_of_lt (hl.2.2 r hr) hr
  have h3 : L (lb r) = lb (lb r) := by
    have a1 := okL_ge hl h h2
    have a2 := (h (lb r) h2).1
    have a3 := lab_idem hl hr
    omega
  have e1 : stl lb L (lb r) = true := decide_eq_true h3
  have e2 : stl lb L r = false := decide_eq_false hu
  have h1 : (stl lb L (lb r)).toNat = (stl lb L r).toNat := h1
  rw [e1, e2] at h1
  cases h1
def allS (n : Nat) (lb L : Nat → Nat) : Prop := ∀ r, r < n → L r = lb r
/-- a round settles something -/
theorem okL_round {n : Nat} {q : Nat → Nat → Bool} {lb L L' : Nat → Nat} (hs : ∀ i j, q i j = q j i) (hl : isLab n q lb) (h : okL n lb L) (h1 : ∀ r, r < n → L r = lb r → L' r = lb r) (h2 : ∀ w, w < n → ∀ v, v < n → L v = lb v → q w v = true → L' w = lb w) : allS n lb L' ∨ cnt (stl lb L) n < cnt (stl lb L') n := by
  by_cases z : allS n lb L
  · exact Or.inl (fun r hr => h1 r hr (z r hr))
  · right
    obtain ⟨r, hr, hu⟩ : ∃ r, r < n ∧ L r ≠ lb r := Classical.byContradiction (fun no => z (fun r hr => Classical.byContradiction (fun e => no ⟨r, hr, e⟩)))
    obtain ⟨v, w, hv, hw, b1, b2, b3⟩ := okL_edge hs hl h hr hu
    exact cnt_strict (fun i hi e => decide_eq_true (h1 i hi (of_decide_eq_true e))) hw (decide_eq_false b2) (decide_eq_true (h2 w hw v hv b1 b3))
theorem allS_cnt {n : Nat} {lb L : Nat → Nat} (h : allS n lb L) : cnt (stl lb L) n = n := cnt_all (fun r hr => decide_eq_true (h r hr))
theorem cnt_allS {n : Nat} {lb L : Nat → Nat} (h : n ≤ cnt (stl lb L) n) : allS n lb L := fun r hr => of_decide_eq_true (cnt_full h r hr)
theorem okL_put {n a v : Nat} {lb L : Nat → Nat} (h : okL n lb L) (hv : v ≤ a) (hl : lb v = lb a) : okL n lb (nup L a v) := by
  intro r hr
  by_cases q : r = a
  · subst q; rw [nup_s]; exact ⟨hv, hl⟩
  · rw [nup_n q]; exact h r hr
end
section
set_option maxHeartbeats 4000000 in
set_option maxRecDepth 100000 in
/-- isToken(x): whether x is 0 .. 29 -/
theorem c_J_isToken {l : Launch} {D : va_G} {cI cZ : ClassId} (x : Int32)  : zMi l y_J_isToken b_J_isToken 1 (some .boolean) { frames := 0, cells := 0, slots := 0, locals := 0 } D cI cZ (fun _ : Unit => []) [.int x] () (fun r _ => (r = nI 1 ∧ ∃ j : Nat, j < 30 ∧ x = nI j) ∨ (r = nI 0 ∧ ¬ ∃ j : Nat, j < 30 ∧ x = nI j)) := by
  refine zMi.of R_J rfl (by decide) (Nat.le_of_ble_eq_true rfl) ?_
  intro p e s m args below meth c A ls Z hr hlk hA hH hl
  obtain ⟨hx, hb, hml, hown, hts, hK⟩ := id Z
  have hl : lv_has ls 1 [(0, .int x)] := hl
  refine lv_iload_n hx hb d_J_isToken_0 rfl (lv_at hl 0 rfl) ?_
  refine lv_if_lt (tgt := 14) hx hb d_J_isToken_1 (by decide) (fun c => ?_) (fun c => ?_)
  · refine lv_iconst (v := nI 0) hx hb d_J_isToken_14 (by decide) ?_
    exact zret_z Z hr hlk () hH d_J_isToken_15 rfl (Or.inr ⟨rfl, fun ⟨j, hj, e⟩ => absurd (e ▸ c) (nI_pos (by omega))⟩)
  · refine lv_iload_n hx hb d_J_isToken_4 rfl (lv_at hl 0 rfl) ?_
    refine lv_bipush (v := nI 30) hx hb d_J_isToken_5 (by decide) ?_
    refine lv_icmp_ge (tgt := 14) hx hb d_J_isToken_7 (by decide) (fun c1 => ?_) (fun c1 => ?_)
    · refine lv_iconst (v := nI 0) hx hb d_J_isToken_14 (by decide) ?_
      exact zret_z Z hr hlk () hH d_J_isToken_15 rfl (Or.inr ⟨rfl, fun ⟨j, hj, e⟩ => absurd (e ▸ c1) (nI_ge hj (by omega))⟩)
    · refine lv_iconst (v := nI 1) hx hb d_J_isToken_10 (by decide) ?_
      refine lv_goto (tgt := 15) hx hb d_J_isToken_11 (by decide) ?_
      exact zret_z Z hr hlk () hH d_J_isToken_15 rfl (Or.inl ⟨rfl, by obtain ⟨j, hj, rfl⟩ := nI_of c; exact ⟨j, Nat.not_le.mp fun z => c1 (nI_le z (by omega)), rfl⟩⟩)
set_option maxHeartbeats 4000000 in
set_option maxRecDepth 100000 in
/-- isRecord(x): whether x is below the count -/
theorem c_J_isRecord {l : Launch} {D : va_G} {cI cZ : ClassId} {h : Nat → Nat} {mk sz rk ro ct ix rw pa : Nat → Int32} {d ds tp bo cu : Int32} {n : Nat} (x : Int32) (hn : n ≤ 20) : zMi l y_J_isRecord b_J_isRecord 2 (some .boolean) { frames := 0, cells := 0, slots := 0, locals := 0 } D cI cZ (jw h cI) [.ref (h 0), .int x] (mk, sz, rk, ro, ct, ix, rw, pa, d, ds, nI n, tp, bo, cu) (fun r σ' => σ' = (mk, sz, rk, ro, ct, ix, rw, pa, d, ds, nI n, tp, bo, cu) ∧ ((r = nI 1 ∧ ∃ j : Nat, j < n ∧ x = nI j) ∨ (r = nI 0 ∧ ¬ ∃ j : Nat, j < n ∧ x = nI j))) := by
  refine zMi.of R_J rfl (by decide) (Nat.le_of_ble_eq_true rfl) ?_
  intro p e s m args below meth c A ls Z hr hlk hA hH hl
  obtain ⟨hx, hb, hml, hown, hts, hK⟩ := id Z
  have hl : lv_has ls 2 [(0, .ref (h 0)), (1, .int x)] := hl
  refine lv_iload_n hx hb d_J_isRecord_0 rfl (lv_at hl 1 rfl) ?_
  refine lv_if_lt (tgt := 16) hx hb d_J_isRecord_1 (by decide) (fun c => ?_) (fun c => ?_)
  · refine lv_iconst (v := nI 0) hx hb d_J_isRecord_16 (by decide) ?_
    exact zret_z Z hr hlk (mk, sz, rk, ro, ct, ix, rw, pa, d, ds, nI n, tp, bo, cu) hH d_J_isRecord_17 rfl (⟨rfl, Or.inr ⟨rfl, fun ⟨j, hj, e⟩ => absurd (e ▸ c) (nI_pos (by omega))⟩⟩)
  · refine lv_iload_n hx hb d_J_isRecord_4 rfl (lv_at hl 1 rfl) ?_
    refine lv_aload_n hx hb d_J_isRecord_5 rfl (lv_at hl 0 rfl) ?_
    refine jg_cn Z hH d_J_isRecord_6 ?_
    refine lv_icmp_ge (tgt := 16) hx hb d_J_isRecord_9 (by decide) (fun c1 => ?_) (fun c1 => ?_)
    · refine lv_iconst (v := nI 0) hx hb d_J_isRecord_16 (by decide) ?_
      exact zret_z Z hr hlk (mk, sz, rk, ro, ct, ix, rw, pa, d, ds, nI n, tp, bo, cu) hH d_J_isRecord_17 rfl (⟨rfl, Or.inr ⟨rfl, fun ⟨j, hj, e⟩ => absurd (e ▸ c1) (nI_ge hj (by omega))⟩⟩)
    · refine lv_iconst (v := nI 1) hx hb d_J_isRecord_12 (by decide) ?_
      refine lv_goto (tgt := 17) hx hb d_J_isRecord_13 (by decide) ?_
      exact zret_z Z hr hlk (mk, sz, rk, ro, ct, ix, rw, pa, d, ds, nI n, tp, bo, cu) hH d_J_isRecord_17 rfl (⟨rfl, Or.inl ⟨rfl, by obtain ⟨j, hj, rfl⟩ := nI_of c; exact ⟨j, Nat.not_le.mp fun z => c1 (nI_le z (by omega)), rfl⟩⟩⟩)
set_option maxHeartbeats 4000000 in
set_option maxRecDepth 100000 in
/-- ones(x): how many bits of x are set -/
theorem c_J_ones {l : Launch} {D : va_G} {cI cZ : ClassId} (x : Int32)  : zMi l y_J_ones b_J_ones 2 (some .int) { frames := 0, cells := 0, slots := 0, locals := 0 } D cI cZ (fun _ : Unit => []) [.int x] () (fun r _ => r = nI (cnt (bt x) 32)) := by
  refine zMi.of R_J rfl (by decide) (Nat.le_of_ble_eq_true rfl) ?_
  intro p e s m args below meth c A ls Z hr hlk hA hH hl
  obtain ⟨hx, hb, hml, hown, hts, hK⟩ := id Z
  have hl : lv_has ls 2 [(0, .int x)] := hl
  refine lv_iload_n hx hb d_J_ones_0 rfl (lv_at hl 0 rfl) ?_
  refine lv_iload_n hx hb d_J_ones_1 rfl (lv_at hl 0 rfl) ?_
  refine lv_iconst (v := nI 1) hx hb d_J_ones_2 (by decide) ?_
  refine lv_iushr hx hb d_J_ones_3 rfl ?_
  refine lv_ldc (v := 1431655765) hx hb hown (hts _ mk_75) d_J_ones_4 ?_
  refine lv_iand hx hb d_J_ones_6 ?_
  refine lv_isub hx hb d_J_ones_7 ?_
  refine lv_istore_n (lv' := [(1, .int (x - (((x.toUInt32 >>> ((nI 1).toUInt32 &&& Int32.toUInt32 31)).toInt32) &&& 1431655765))), (0, .int x)]) hx hb d_J_ones_8 rfl hl (by decide) rfl (fun ls hl => ?_)
  refine lv_iload_n hx hb d_J_ones_9 rfl (lv_at hl 0 rfl) ?_
  refine lv_ldc (v := 858993459) hx hb hown (hts _ mk_76) d_J_ones_10 ?_
  refine lv_iand hx hb d_J_ones_12 ?_
  refine lv_iload_n hx hb d_J_ones_13 rfl (lv_at hl 0 rfl) ?_
  refine lv_iconst (v := nI 2) hx hb d_J_ones_14 (by decide) ?_
  refine lv_iushr hx hb d_J_ones_15 rfl ?_
  refine lv_ldc (v := 858993459) hx hb hown (hts _ mk_76) d_J_ones_16 ?_
  refine lv_iand hx hb d_J_ones_18 ?_
  refine lv_iadd hx hb d_J_ones_19 ?_
  refine lv_istore_n (lv' := [(1, .int (((x - (((x.toUInt32 >>> ((nI 1).toUInt32 &&& Int32.toUInt32 31)).toInt32) &&& 1431655765)) &&& 858993459) + ((((x - (((x.toUInt32 >>> ((nI 1).toUInt32 &&& Int32.toUInt32 31)).toInt32) &&& 1431655765)).toUInt32 >>> ((nI 2).toUInt32 &&& Int32.toUInt32 31)).toInt32) &&& 858993459))), (0, .int x)]) hx hb d_J_ones_20 rfl hl (by decide) rfl (fun ls hl => ?_)
  refine lv_iload_n hx hb d_J_ones_21 rfl (lv_at hl 0 rfl) ?_
  refine lv_iload_n hx hb d_J_ones_22 rfl (lv_at hl 0 rfl) ?_
  refine lv_iconst (v := nI 4) hx hb d_J_ones_23 (by decide) ?_
  refine lv_iushr hx hb d_J_ones_24 rfl ?_
  refine lv_iadd hx hb d_J_ones_25 ?_
  refine lv_ldc (v := 252645135) hx hb hown (hts _ mk_77) d_J_ones_26 ?_
  refine lv_iand hx hb d_J_ones_28 ?_
  refine lv_istore_n (lv' := [(1, .int (((((x - (((x.toUInt32 >>> ((nI 1).toUInt32 &&& Int32.toUInt32 31)).toInt32) &&& 1431655765)) &&& 858993459) + ((((x - (((x.toUInt32 >>> ((nI 1).toUInt32 &&& Int32.toUInt32 31)).toInt32) &&& 1431655765)).toUInt32 >>> ((nI 2).toUInt32 &&& Int32.toUInt32 31)).toInt32) &&& 858993459)) + (((((x - (((x.toUInt32 >>> ((nI 1).toUInt32 &&& Int32.toUInt32 31)).toInt32) &&& 1431655765)) &&& 858993459) + ((((x - (((x.toUInt32 >>> ((nI 1).toUInt32 &&& Int32.toUInt32 31)).toInt32) &&& 1431655765)).toUInt32 >>> ((nI 2).toUInt32 &&& Int32.toUInt32 31)).toInt32) &&& 858993459)).toUInt32 >>> ((nI 4).toUInt32 &&& Int32.toUInt32 31)).toInt32)) &&& 252645135)), (0, .int x)]) hx hb d_J_ones_29 rfl hl (by decide) rfl (fun ls hl => ?_)
  refine lv_iload_n hx hb d_J_ones_30 rfl (lv_at hl 0 rfl) ?_
  refine lv_ldc (v := 16843009) hx hb hown (hts _ mk_78) d_J_ones_31 ?_
  refine lv_imul hx hb d_J_ones_33 ?_
  refine lv_bipush (v := nI 24) hx hb d_J_ones_34 (by decide) ?_
  refine lv_iushr hx hb d_J_ones_36 rfl ?_
  exact zret_i Z hr hlk () hH d_J_ones_37 (po_ones x _ _ _ rfl rfl rfl)
set_option maxHeartbeats 4000000 in
set_option maxRecDepth 100000 in
/-- token(x) -/
theorem c_J_token {l : Launch} {D : va_G} {cI cZ : ClassId} {h : Nat → Nat} {mk sz rk ro ct ix rw pa : Nat → Int32} {d ds cu : Int32} {n t u : Nat} {S : SS} (x : Int32) (hI : jInv n t u S (mk, sz, rk, ro, ct, ix, rw, pa, d, ds, nI n, nI t, nI u, cu)) : zMi l y_J_token b_J_token 3 (some .int) { frames := 1, cells := 0, slots := 0, locals := 20 } D cI cZ (jw h cI) [.ref (h 0), .int x] (mk, sz, rk, ro, ct, ix, rw, pa, d, ds, nI n, nI t, nI u, cu) (fun r σ' => r = (aTok S x).1 ∧ jInv n t u (aTok S x).2 σ') := by
  refine zMi.of R_J rfl (by decide) (Nat.le_of_ble_eq_true rfl) ?_
  intro p e s m args below meth c A ls Z hr hlk hA hH hl
  obtain ⟨hx, hb, hml, hown, hts, hK⟩ := id Z
  have hl : lv_has ls 3 [(0, .ref (h 0)), (1, .int x)] := hl
  obtain ⟨hre, hth, ⟨hmd, rfl, hc12⟩, -, -, -, hcu⟩ := id hI
  have hn := hre.1
  refine lv_iload_n hx hb d_J_token_0 rfl (lv_at hl 1 rfl) ?_
  refine jc_s (As := [.int x]) (rest := []) Z hA hH d_J_token_1 ok_J_isToken (c_J_isToken x) ⟨rfl, rfl, Nat.le_of_ble_eq_true rfl, Nat.le_of_ble_eq_true rfl⟩ hl.1 (Nat.le_of_ble_eq_true rfl) rfl (fun r H locs hp hH => ?_)
  rcases hp with ⟨rfl, j, hj, rfl⟩ | ⟨rfl, hq⟩
  · refine zn_if_ne (tgt := 9) hx hb d_J_token_4 (by decide) (by omega) (fun c0 => ?_) (fun c0 => ?_)
    · refine lv_iconst (v := nI 1) hx hb d_J_token_9 (by decide) ?_
      refine lv_iload_n hx hb d_J_token_10 rfl (lv_at hl 1 rfl) ?_
      refine lv_ishl hx hb d_J_token_11 ?_
      refine lv_istore_n (lv' := [(2, .int ((nI 1) <<< (nI j &&& 31))), (0, .ref (h 0)), (1, .int (nI j))]) hx hb d_J_token_12 rfl hl (by decide) rfl (fun ls hl => ?_)
      refine lv_aload_n hx hb d_J_token_13 rfl (lv_at hl 1 rfl) ?_
      refine jg_d Z hH d_J_token_14 ?_
      refine lv_iload_n hx hb d_J_token_17 rfl (lv_at hl 0 rfl) ?_
      refine lv_iand hx hb d_J_token_18 ?_
      refine lv_if_ne (tgt := 54) hx hb d_J_token_19 (by decide) (fun c => ?_) (fun c => ?_)
      · have hb0 : S 20 j = true := by rw [← msk_at hmd hj]; exact Bool.of_not_eq_false (fun z => c ((z_and0 d (by omega)).mpr z))
        refine lv_aload_n hx hb d_J_token_54 rfl (lv_at hl 1 rfl) ?_
        refine jg_ds Z hH d_J_token_55 ?_
        refine zret_i Z hr hlk (mk, sz, rk, ro, ct, ix, rw, pa, d, nI (cnt (S 20) 30), nI n, nI t, nI u, cu) hH d_J_token_58 ?_
        rw [aTok_s hj, if_neg (fun z => by rw [hb0] at z; cases z.2), tput_id hb0]
        exact ⟨rfl, jInv_dr hI hmd rfl hc12⟩
      · have hb0 : S 20 j = false := by rw [← msk_at hmd hj]; exact (z_and0 d (by omega)).mp c
        refine lv_aload_n hx hb d_J_token_22 rfl (lv_at hl 1 rfl) ?_
        refine jg_ds Z hH d_J_token_23 ?_
        refine lv_bipush (v := nI 12) hx hb d_J_token_26 (by decide) ?_
        refine zn_icmp_ne (tgt := 34) hx hb d_J_token_28 (by decide) (by omega) (by omega) (fun c2 => ?_) (fun c2 => ?_)
        · have e1 := cnt_tput_t hj hb0
          refine lv_aload_n hx hb d_J_token_34 rfl (lv_at hl 1 rfl) ?_
          refine lv_aload_n hx hb d_J_token_35 rfl (lv_at hl 1 rfl) ?_
          refine jg_d Z hH d_J_token_36 ?_
          refine lv_iload_n hx hb d_J_token_39 rfl (lv_at hl 0 rfl) ?_
          refine lv_ior hx hb d_J_token_40 ?_
          refine jp_d Z hH _ d_J_token_41 (fun H locs hH => ?_)
          refine lv_aload_n hx hb d_J_token_44 rfl (lv_at hl 1 rfl) ?_
          refine lv_dup hx hb d_J_token_45 rfl ?_
          refine jg_ds Z hH d_J_token_46 ?_
          refine lv_iconst (v := nI 1) hx hb d_J_token_49 (by decide) ?_
          refine zn_iadd hx hb d_J_token_50 ?_
          refine jp_ds Z hH _ d_J_token_51 (fun H locs hH => ?_)
          refine lv_aload_n hx hb d_J_token_54 rfl (lv_at hl 1 rfl) ?_
          refine jg_ds Z hH d_J_token_55 ?_
          refine zret_i Z hr hlk (mk, sz, rk, ro, ct, ix, rw, pa, (d ||| ((nI 1) <<< (nI j &&& 31))), nI ((cnt (S 20) 30) + 1), nI n, nI t, nI u, cu) hH d_J_token_58 ?_
          rw [aTok_s hj, if_neg (fun z => c2 z.1), e1]
          exact ⟨rfl, jInv_dr hI (msk_tput_t hj hmd) (by rw [e1]) (by rw [e1]; omega)⟩
        · refine lv_bipush (v := (-2)) hx hb d_J_token_31 (by decide) ?_
          refine zret_i Z hr hlk (mk, sz, rk, ro, ct, ix, rw, pa, d, nI (cnt (S 20) 30), nI n, nI t, nI u, cu) hH d_J_token_33 ?_
          rw [aTok_s hj, if_pos ⟨c2, hb0⟩]
          exact ⟨rfl, hI⟩
    · omega
  · refine zn_if_ne (tgt := 9) hx hb d_J_token_4 (by decide) (by omega) (fun c0 => ?_) (fun c0 => ?_)
    · omega
    · refine lv_iconst (v := (-1)) hx hb d_J_token_7 (by decide) ?_
      refine zret_i Z hr hlk (mk, sz, rk, ro, ct, ix, rw, pa, d, nI (cnt (S 20) 30), nI n, nI t, nI u, cu) hH d_J_token_8 ?_
      rw [aTok_n hq]
      exact ⟨rfl, hI⟩
set_option maxHeartbeats 4000000 in
set_option maxRecDepth 100000 in
/-- drop(x) -/
theorem c_J_drop {l : Launch} {D : va_G} {cI cZ : ClassId} {h : Nat → Nat} {mk sz rk ro ct ix rw pa : Nat → Int32} {d ds cu : Int32} {n t u : Nat} {S : SS} (x : Int32) (hI : jInv n t u S (mk, sz, rk, ro, ct, ix, rw, pa, d, ds, nI n, nI t, nI u, cu)) : zMi l y_J_drop b_J_drop 3 (some .int) { frames := 1, cells := 0, slots := 0, locals := 20 } D cI cZ (jw h cI) [.ref (h 0), .int x] (mk, sz, rk, ro, ct, ix, rw, pa, d, ds, nI n, nI t, nI u, cu) (fun r σ' => r = (aDrop S x).1 ∧ jInv n t u (aDrop S x).2 σ') := by
  refine zMi.of R_J rfl (by decide) (Nat.le_of_ble_eq_true rfl) ?_
  intro p e s m args below meth c A ls Z hr hlk hA hH hl
  obtain ⟨hx, hb, hml, hown, hts, hK⟩ := id Z
  have hl : lv_has ls 3 [(0, .ref (h 0)), (1, .int x)] := hl
  obtain ⟨hre, hth, ⟨hmd, rfl, hc12⟩, -, -, -, hcu⟩ := id hI
  have hn := hre.1
  refine lv_iload_n hx hb d_J_drop_0 rfl (lv_at hl 1 rfl) ?_
  refine jc_s (As := [.int x]) (rest := []) Z hA hH d_J_drop_1 ok_J_isToken (c_J_isToken x) ⟨rfl, rfl, Nat.le_of_ble_eq_true rfl, Nat.le_of_ble_eq_true rfl⟩ hl.1 (Nat.le_of_ble_eq_true rfl) rfl (fun r H locs hp hH => ?_)
  rcases hp with ⟨rfl, j, hj, rfl⟩ | ⟨rfl, hq⟩
  · refine zn_if_ne (tgt := 9) hx hb d_J_drop_4 (by decide) (by omega) (fun c0 => ?_) (fun c0 => ?_)
    · refine lv_iconst (v := nI 1) hx hb d_J_drop_9 (by decide) ?_
      refine lv_iload_n hx hb d_J_drop_10 rfl (lv_at hl 1 rfl) ?_
      refine lv_ishl hx hb d_J_drop_11 ?_
      refine lv_istore_n (lv' := [(2, .int ((nI 1) <<< (nI j &&& 31))), (0, .ref (h 0)), (1, .int (nI j))]) hx hb d_J_drop_12 rfl hl (by decide) rfl (fun ls hl => ?_)
      refine lv_aload_n hx hb d_J_drop_13 rfl (lv_at hl 1 rfl) ?_
      refine jg_d Z hH d_J_drop_14 ?_
      refine lv_iload_n hx hb d_J_drop_17 rfl (lv_at hl 0 rfl) ?_
      refine lv_iand hx hb d_J_drop_18 ?_
      refine lv_if_eq (tgt := 44) hx hb d_J_drop_19 (by decide) (fun c => ?_) (fun c => ?_)
      · have hb0 : S 20 j = false := by rw [← msk_at hmd hj]; exact (z_and0 d (by omega)).mp c
        refine lv_aload_n hx hb d_J_drop_44 rfl (lv_at hl 1 rfl) ?_
        refine jg_ds Z hH d_J_drop_45 ?_
        refine zret_i Z hr hlk (mk, sz, rk, ro, ct, ix, rw, pa, d, nI (cnt (S 20) 30), nI n, nI t, nI u, cu) hH d_J_drop_48 ?_
        rw [aDrop_s hj, tput_id hb0]
        exact ⟨rfl, jInv_dr hI hmd rfl hc12⟩
      · have hb0 : S 20 j = true := by rw [← msk_at hmd hj]; exact Bool.of_not_eq_false (fun z => c ((z_and0 d (by omega)).mpr z))
        have e1 := cnt_tput_f hj hb0
        refine lv_aload_n hx hb d_J_drop_22 rfl (lv_at hl 1 rfl) ?_
        refine lv_aload_n hx hb d_J_drop_23 rfl (lv_at hl 1 rfl) ?_
        refine jg_d Z hH d_J_drop_24 ?_
        refine lv_iload_n hx hb d_J_drop_27 rfl (lv_at hl 0 rfl) ?_
        refine lv_iconst (v := (-1)) hx hb d_J_drop_28 (by decide) ?_
        refine lv_ixor hx hb d_J_drop_29 ?_
        refine lv_iand hx hb d_J_drop_30 ?_
        refine jp_d Z hH _ d_J_drop_31 (fun H locs hH => ?_)
        refine lv_aload_n hx hb d_J_drop_34 rfl (lv_at hl 1 rfl) ?_
        refine lv_dup hx hb d_J_drop_35 rfl ?_
        refine jg_ds Z hH d_J_drop_36 ?_
        refine lv_iconst (v := nI 1) hx hb d_J_drop_39 (by decide) ?_
        refine zn_isub hx hb d_J_drop_40 (by omega) ?_
        refine jp_ds Z hH _ d_J_drop_41 (fun H locs hH => ?_)
        refine lv_aload_n hx hb d_J_drop_44 rfl (lv_at hl 1 rfl) ?_
        refine jg_ds Z hH d_J_drop_45 ?_
        refine zret_i Z hr hlk (mk, sz, rk, ro, ct, ix, rw, pa, (d &&& (((nI 1) <<< (nI j &&& 31)) ^^^ (-1))), nI ((cnt (S 20) 30) - 1), nI n, nI t, nI u, cu) hH d_J_drop_48 ?_
        rw [aDrop_s hj, show cnt (S 20) 30 - 1 = cnt (tput (S 20) j false) 30 by omega]
        exact ⟨rfl, jInv_dr hI (msk_tput_f hj hmd) rfl (by omega)⟩
    · omega
  · refine zn_if_ne (tgt := 9) hx hb d_J_drop_4 (by decide) (by omega) (fun c0 => ?_) (fun c0 => ?_)
    · omega
    · refine lv_iconst (v := (-1)) hx hb d_J_drop_7 (by decide) ?_
      refine zret_i Z hr hlk (mk, sz, rk, ro, ct, ix, rw, pa, d, nI (cnt (S 20) 30), nI n, nI t, nI u, cu) hH d_J_drop_8 ?_
      rw [aDrop_n hq]
      exact ⟨rfl, hI⟩
set_option maxHeartbeats 4000000 in
set_option maxRecDepth 100000 in
/-- clear() -/
theorem c_J_clear {l : Launch} {D : va_G} {cI cZ : ClassId} {h : Nat → Nat} {mk sz rk ro ct ix rw pa : Nat → Int32} {d ds cu : Int32} {n t u : Nat} {S : SS}  (hI : jInv n t u S (mk, sz, rk, ro, ct, ix, rw, pa, d, ds, nI n, nI t, nI u, cu)) : zMi l y_J_clear b_J_clear 2 (some .int) { frames := 0, cells := 0, slots := 0, locals := 0 } D cI cZ (jw h cI) [.ref (h 0)] (mk, sz, rk, ro, ct, ix, rw, pa, d, ds, nI n, nI t, nI u, cu) (fun r σ' => r = nI (cnt (S 20) 30) ∧ jInv n t u (sput S 20 (fun _ => false)) σ') := by
  refine zMi.of R_J rfl (by decide) (Nat.le_of_ble_eq_true rfl) ?_
  intro p e s m args below meth c A ls Z hr hlk hA hH hl
  obtain ⟨hx, hb, hml, hown, hts, hK⟩ := id Z
  have hl : lv_has ls 2 [(0, .ref (h 0))] := hl
  obtain ⟨hre, hth, ⟨hmd, rfl, hc12⟩, -, -, -, hcu⟩ := id hI
  have hn := hre.1
  refine lv_aload_n hx hb d_J_clear_0 rfl (lv_at hl 0 rfl) ?_
  refine jg_ds Z hH d_J_clear_1 ?_
  refine lv_istore_n (lv' := [(1, .int (nI (cnt (S 20) 30))), (0, .ref (h 0))]) hx hb d_J_clear_4 rfl hl (by decide) rfl (fun ls hl => ?_)
  refine lv_aload_n hx hb d_J_clear_5 rfl (lv_at hl 1 rfl) ?_
  refine lv_iconst (v := nI 0) hx hb d_J_clear_6 (by decide) ?_
  refine jp_d Z hH _ d_J_clear_7 (fun H locs hH => ?_)
  refine lv_aload_n hx hb d_J_clear_10 rfl (lv_at hl 1 rfl) ?_
  refine lv_iconst (v := nI 0) hx hb d_J_clear_11 (by decide) ?_
  refine jp_ds Z hH _ d_J_clear_12 (fun H locs hH => ?_)
  refine lv_iload_n hx hb d_J_clear_15 rfl (lv_at hl 0 rfl) ?_
  refine zret_i Z hr hlk (mk, sz, rk, ro, ct, ix, rw, pa, nI 0, nI 0, nI n, nI t, nI u, cu) hH d_J_clear_16 ?_
  exact ⟨rfl, jInv_dr hI (msk_0 (fun _ _ => rfl)) (by rw [cnt_zero (fun _ _ => rfl)]) (by rw [cnt_zero (fun _ _ => rfl)]; omega)⟩
set_option maxHeartbeats 4000000 in
set_option maxRecDepth 100000 in
/-- recall(x) -/
theorem c_J_recall {l : Launch} {D : va_G} {cI cZ : ClassId} {h : Nat → Nat} {mk sz rk ro ct ix rw pa : Nat → Int32} {d ds cu : Int32} {n t u : Nat} {S : SS} (x : Int32) (hI : jInv n t u S (mk, sz, rk, ro, ct, ix, rw, pa, d, ds, nI n, nI t, nI u, cu)) : zMi l y_J_recall b_J_recall 2 (some .int) { frames := 1, cells := 0, slots := 0, locals := 21 } D cI cZ (jw h cI) [.ref (h 0), .int x] (mk, sz, rk, ro, ct, ix, rw, pa, d, ds, nI n, nI t, nI u, cu) (fun r σ' => r = (aRec n S x).1 ∧ jInv n t u (aRec n S x).2 σ') := by
  refine zMi.of R_J rfl (by decide) (Nat.le_of_ble_eq_true rfl) ?_
  intro p e s m args below meth c A ls Z hr hlk hA hH hl
  obtain ⟨hx, hb, hml, hown, hts, hK⟩ := id Z
  have hl : lv_has ls 2 [(0, .ref (h 0)), (1, .int x)] := hl
  obtain ⟨hre, hth, ⟨hmd, rfl, hc12⟩, -, -, -, hcu⟩ := id hI
  have hn := hre.1
  refine lv_aload_n hx hb d_J_recall_0 rfl (lv_at hl 0 rfl) ?_
  refine lv_iload_n hx hb d_J_recall_1 rfl (lv_at hl 1 rfl) ?_
  refine jc_i (As := [.int x]) (rest := []) Z hA hH d_J_recall_2 ok_J_isRecord rfl (c_J_isRecord x hn) ⟨rfl, rfl, Nat.le_of_ble_eq_true rfl, Nat.le_of_ble_eq_true rfl⟩ hl.1 (Nat.le_of_ble_eq_true rfl) rfl (fun r σ' H locs hp hH => ?_)
  obtain ⟨rfl, hp⟩ := hp
  rcases hp with ⟨rfl, j, hj, rfl⟩ | ⟨rfl, hq⟩
  · refine zn_if_ne (tgt := 10) hx hb d_J_recall_5 (by decide) (by omega) (fun c0 => ?_) (fun c0 => ?_)
    · obtain ⟨h1, h2, h3, h4⟩ := hre.2 j hj
      refine lv_aload_n hx hb d_J_recall_10 rfl (lv_at hl 0 rfl) ?_
      refine lv_aload_n hx hb d_J_recall_11 rfl (lv_at hl 0 rfl) ?_
      refine jg_mk Z hH d_J_recall_12 ?_
      refine lv_iload_n hx hb d_J_recall_15 rfl (lv_at hl 1 rfl) ?_
      refine ja_mk Z hH d_J_recall_16 (by omega) ?_
      refine jp_d Z hH _ d_J_recall_17 (fun H locs hH => ?_)
      refine lv_aload_n hx hb d_J_recall_20 rfl (lv_at hl 0 rfl) ?_
      refine lv_aload_n hx hb d_J_recall_21 rfl (lv_at hl 0 rfl) ?_
      refine jg_sz Z hH d_J_recall_22 ?_
      refine lv_iload_n hx hb d_J_recall_25 rfl (lv_at hl 1 rfl) ?_
      refine ja_sz Z hH d_J_recall_26 (by omega) ?_
      refine jp_ds Z hH _ d_J_recall_27 (fun H locs hH => ?_)
      refine lv_aload_n hx hb d_J_recall_30 rfl (lv_at hl 0 rfl) ?_
      refine jg_ds Z hH d_J_recall_31 ?_
      refine zret_i Z hr hlk (mk, sz, rk, ro, ct, ix, rw, pa, (mk j), (sz j), nI n, nI t, nI u, cu) hH d_J_recall_34 ?_
      rw [aRec_s hn hj, h2]
      exact ⟨rfl, jInv_dr hI h1 rfl h4⟩
    · omega
  · refine zn_if_ne (tgt := 10) hx hb d_J_recall_5 (by decide) (by omega) (fun c0 => ?_) (fun c0 => ?_)
    · omega
    · refine lv_iconst (v := (-1)) hx hb d_J_recall_8 (by decide) ?_
      refine zret_i Z hr hlk (mk, sz, rk, ro, ct, ix, rw, pa, d, nI (cnt (S 20) 30), nI n, nI t, nI u, cu) hH d_J_recall_9 ?_
      rw [aRec_n hq]
      exact ⟨rfl, hI⟩
set_option maxHeartbeats 4000000 in
set_option maxRecDepth 100000 in
/-- store() -/
theorem c_J_store {l : Launch} {D : va_G} {cI cZ : ClassId} {h : Nat → Nat} {mk sz rk ro ct ix rw pa : Nat → Int32} {d ds cu : Int32} {n t u : Nat} {S : SS}  (hI : jInv n t u S (mk, sz, rk, ro, ct, ix, rw, pa, d, ds, nI n, nI t, nI u, cu)) : zMi l y_J_store b_J_store 1 (some .int) { frames := 0, cells := 0, slots := 0, locals := 0 } D cI cZ (jw h cI) [.ref (h 0)] (mk, sz, rk, ro, ct, ix, rw, pa, d, ds, nI n, nI t, nI u, cu) (fun r σ' => r = (aSto n S).1 ∧ jInv (aSto n S).2.1 t u (aSto n S).2.2 σ') := by
  refine zMi.of R_J rfl (by decide) (Nat.le_of_ble_eq_true rfl) ?_
  intro p e s m args below meth c A ls Z hr hlk hA hH hl
  obtain ⟨hx, hb, hml, hown, hts, hK⟩ := id Z
  have hl : lv_has ls 1 [(0, .ref (h 0))] := hl
  obtain ⟨hre, hth, ⟨hmd, rfl, hc12⟩, -, -, -, hcu⟩ := id hI
  have hn := hre.1
  refine lv_aload_n hx hb d_J_store_0 rfl (lv_at hl 0 rfl) ?_
  refine jg_ds Z hH d_J_store_1 ?_
  refine zn_if_ne (tgt := 9) hx hb d_J_store_4 (by decide) (by have := hc12; omega) (fun c => ?_) (fun c => ?_)
  · refine lv_aload_n hx hb d_J_store_9 rfl (lv_at hl 0 rfl) ?_
    refine jg_cn Z hH d_J_store_10 ?_
    refine lv_bipush (v := nI 20) hx hb d_J_store_13 (by decide) ?_
    refine zn_icmp_ne (tgt := 21) hx hb d_J_store_15 (by decide) (by omega) (by omega) (fun c1 => ?_) (fun c1 => ?_)
    · refine lv_aload_n hx hb d_J_store_21 rfl (lv_at hl 0 rfl) ?_
      refine jg_mk Z hH d_J_store_22 ?_
      refine lv_aload_n hx hb d_J_store_25 rfl (lv_at hl 0 rfl) ?_
      refine jg_cn Z hH d_J_store_26 ?_
      refine lv_aload_n hx hb d_J_store_29 rfl (lv_at hl 0 rfl) ?_
      refine jg_d Z hH d_J_store_30 ?_
      refine js_mk Z hH d_J_store_33 (by omega) (fun H locs hH => ?_)
      refine lv_aload_n hx hb d_J_store_34 rfl (lv_at hl 0 rfl) ?_
      refine jg_sz Z hH d_J_store_35 ?_
      refine lv_aload_n hx hb d_J_store_38 rfl (lv_at hl 0 rfl) ?_
      refine jg_cn Z hH d_J_store_39 ?_
      refine lv_aload_n hx hb d_J_store_42 rfl (lv_at hl 0 rfl) ?_
      refine jg_ds Z hH d_J_store_43 ?_
      refine js_sz Z hH d_J_store_46 (by omega) (fun H locs hH => ?_)
      refine lv_aload_n hx hb d_J_store_47 rfl (lv_at hl 0 rfl) ?_
      refine lv_dup hx hb d_J_store_48 rfl ?_
      refine jg_cn Z hH d_J_store_49 ?_
      refine lv_iconst (v := nI 1) hx hb d_J_store_52 (by decide) ?_
      refine zn_iadd hx hb d_J_store_53 ?_
      refine jp_cn Z hH _ d_J_store_54 (fun H locs hH => ?_)
      refine lv_aload_n hx hb d_J_store_57 rfl (lv_at hl 0 rfl) ?_
      refine lv_iconst (v := nI 0) hx hb d_J_store_58 (by decide) ?_
      refine jp_cu Z hH _ ⟨rfl, rfl⟩ d_J_store_59 (fun H locs hH => ?_)
      refine lv_aload_n hx hb d_J_store_62 rfl (lv_at hl 0 rfl) ?_
      refine jg_cn Z hH d_J_store_63 ?_
      refine lv_iconst (v := nI 1) hx hb d_J_store_66 (by decide) ?_
      refine zn_isub hx hb d_J_store_67 (by omega) ?_
      refine zret_i Z hr hlk ((upd mk n d), (upd sz n (nI (cnt (S 20) 30))), rk, ro, ct, ix, rw, pa, d, nI (cnt (S 20) 30), nI (n + 1), nI t, nI u, nI 0) hH d_J_store_68 ?_
      unfold aSto
      rw [if_neg c, if_neg c1]
      dsimp only
      refine ⟨by rw [show n + 1 - 1 = n by omega], ⟨by show n + 1 ≤ 20; omega, fun r hr => ?_⟩, hth, ⟨by rw [sput_n S _ (by omega)]; exact hmd, by rw [sput_n S _ (by omega)], by rw [sput_n S _ (by omega)]; exact hc12⟩, rfl, rfl, rfl, Or.inl rfl⟩
      by_cases q : r = n
      · subst q
        rw [sput_s, pk_us, pk_us]
        exact ⟨hmd, rfl, by omega, hc12⟩
      · rw [sput_n S _ q, pk_un q, pk_un q]
        exact hre.2 r (by have : r < n + 1 := hr; omega)
    · refine lv_bipush (v := (-2)) hx hb d_J_store_18 (by decide) ?_
      refine zret_i Z hr hlk (mk, sz, rk, ro, ct, ix, rw, pa, d, nI (cnt (S 20) 30), nI n, nI t, nI u, cu) hH d_J_store_20 ?_
      unfold aSto
      rw [if_neg c, if_pos c1]
      exact ⟨rfl, hI⟩
  · refine lv_iconst (v := (-1)) hx hb d_J_store_7 (by decide) ?_
    refine zret_i Z hr hlk (mk, sz, rk, ro, ct, ix, rw, pa, d, nI (cnt (S 20) 30), nI n, nI t, nI u, cu) hH d_J_store_8 ?_
    unfold aSto
    rw [if_pos c]
    exact ⟨rfl, hI⟩
set_option maxHeartbeats 4000000 in
set_option maxRecDepth 100000 in
/-- remove(x) -/
theorem c_J_remove {l : Launch} {D : va_G} {cI cZ : ClassId} {h : Nat → Nat} {mk sz rk ro ct ix rw pa : Nat → Int32} {d ds cu : Int32} {n t u : Nat} {S : SS} (x : Int32) (hI : jInv n t u S (mk, sz, rk, ro, ct, ix, rw, pa, d, ds, nI n, nI t, nI u, cu)) : zMi l y_J_remove b_J_remove 3 (some .int) { frames := 1, cells := 0, slots := 0, locals := 21 } D cI cZ (jw h cI) [.ref (h 0), .int x] (mk, sz, rk, ro, ct, ix, rw, pa, d, ds, nI n, nI t, nI u, cu) (fun r σ' => r = (aRem n S x).1 ∧ jInv (aRem n S x).2.1 t u (aRem n S x).2.2 σ') := by
  refine zMi.of R_J rfl (by decide) (Nat.le_of_ble_eq_true rfl) ?_
  intro p e s m args below meth c A ls Z hr hlk hA hH hl
  obtain ⟨hx, hb, hml, hown, hts, hK⟩ := id Z
  have hl : lv_has ls 3 [(0, .ref (h 0)), (1, .int x)] := hl
  obtain ⟨hre, hth, ⟨hmd, rfl, hc12⟩, -, -, -, hcu⟩ := id hI
  have hn := hre.1
  refine lv_aload_n hx hb d_J_remove_0 rfl (lv_at hl 0 rfl) ?_
  refine lv_iload_n hx hb d_J_remove_1 rfl (lv_at hl 1 rfl) ?_
  refine jc_i (As := [.int x]) (rest := []) Z hA hH d_J_remove_2 ok_J_isRecord rfl (c_J_isRecord x hn) ⟨rfl, rfl, Nat.le_of_ble_eq_true rfl, Nat.le_of_ble_eq_true rfl⟩ hl.1 (Nat.le_of_ble_eq_true rfl) rfl (fun r σ' H locs hp hH => ?_)
  obtain ⟨rfl, hp⟩ := hp
  rcases hp with ⟨rfl, j, hj, rfl⟩ | ⟨rfl, hq⟩
  · refine zn_if_ne (tgt := 10) hx hb d_J_remove_5 (by decide) (by omega) (fun c0 => ?_) (fun c0 => ?_)
    · refine lv_iload_n hx hb d_J_remove_10 rfl (lv_at hl 1 rfl) ?_
      refine lv_iconst (v := nI 1) hx hb d_J_remove_11 (by decide) ?_
      refine zn_iadd hx hb d_J_remove_12 ?_
      refine lv_istore_n (lv' := [(2, .int (nI (j + 1))), (0, .ref (h 0)), (1, .int (nI j))]) hx hb d_J_remove_13 rfl hl (by decide) rfl (fun ls hl => ?_)
      refine w_loop (pc := 14) (fun n_ H locs ls => ∃ (i : Nat) (mk2 : Nat → Int32) (sz2 : Nat → Int32), n_ = 20 - i ∧ j + 1 ≤ i ∧ i ≤ n ∧ (∀ r, r < n → r < j ∨ i - 1 ≤ r → mk2 r = mk r ∧ sz2 r = sz r) ∧ (∀ r, j ≤ r → r < i - 1 → mk2 r = mk (r + 1) ∧ sz2 r = sz (r + 1)) ∧ zH D A s.heap (jw h cI (mk2, sz2, rk, ro, ct, ix, rw, pa, d, nI (cnt (S 20) 30), nI n, nI t, nI u, cu)) H locs ∧ lv_has ls 3 [(0, .ref (h 0)), (2, .int (nI i))]) ?_ _ _ _ _ ⟨j + 1, mk, sz, rfl, Nat.le_refl _, hj, fun _ _ _ => ⟨rfl, rfl⟩, fun r h1 h2 => by omega, hH, lv_sub hl [1, 0] rfl⟩
      rintro _ H locs ls ⟨i, mk2, sz2, rfl, g1, g2, g3, g4, hH, hl⟩ ih0
      refine lv_iload_n hx hb d_J_remove_14 rfl (lv_at hl 1 rfl) ?_
      refine lv_aload_n hx hb d_J_remove_15 rfl (lv_at hl 0 rfl) ?_
      refine jg_cn Z hH d_J_remove_16 ?_
      refine zn_icmp_ge (tgt := 56) hx hb d_J_remove_19 (by decide) (by omega) (by omega) (fun c => ?_) (fun c => ?_)
      · refine lv_aload_n hx hb d_J_remove_56 rfl (lv_at hl 0 rfl) ?_
        refine lv_dup hx hb d_J_remove_57 rfl ?_
        refine jg_cn Z hH d_J_remove_58 ?_
        refine lv_iconst (v := nI 1) hx hb d_J_remove_61 (by decide) ?_
        refine zn_isub hx hb d_J_remove_62 (by omega) ?_
        refine jp_cn Z hH _ d_J_remove_63 (fun H locs hH => ?_)
        refine lv_aload_n hx hb d_J_remove_66 rfl (lv_at hl 0 rfl) ?_
        refine lv_iconst (v := nI 0) hx hb d_J_remove_67 (by decide) ?_
        refine jp_cu Z hH _ ⟨rfl, rfl⟩ d_J_remove_68 (fun H locs hH => ?_)
        refine lv_aload_n hx hb d_J_remove_71 rfl (lv_at hl 0 rfl) ?_
        refine jg_cn Z hH d_J_remove_72 ?_
        refine zret_i Z hr hlk (mk2, sz2, rk, ro, ct, ix, rw, pa, d, nI (cnt (S 20) 30), nI (n - 1), nI t, nI u, nI 0) hH d_J_remove_75 ?_
        have ei : i = n := by omega
        subst ei
        rw [aRem_s hn hj]
        dsimp only
        refine ⟨rfl, ⟨by show i - 1 ≤ 20; omega, fun r hr => ?_⟩, hth, ⟨by rw [sRem_20]; exact hmd, by rw [sRem_20], by rw [sRem_20]; exact hc12⟩, rfl, rfl, rfl, Or.inl rfl⟩
        have hr : r < i - 1 := hr
        by_cases q : r < j
        · obtain ⟨e1, e2⟩ := g3 r (by omega) (Or.inl q)
          rw [sRem_lo q (by omega), e1, e2]
          exact hre.2 r (by omega)
        · obtain ⟨e1, e2⟩ := g4 r (by omega) hr
          rw [sRem_hi (by omega) (by omega), e1, e2]
          exact hre.2 (r + 1) (by omega)
      · refine lv_aload_n hx hb d_J_remove_22 rfl (lv_at hl 0 rfl) ?_
        refine jg_mk Z hH d_J_remove_23 ?_
        refine lv_iload_n hx hb d_J_remove_26 rfl (lv_at hl 1 rfl) ?_
        refine lv_iconst (v := nI 1) hx hb d_J_remove_27 (by decide) ?_
        refine zn_isub hx hb d_J_remove_28 (by omega) ?_
        refine lv_aload_n hx hb d_J_remove_29 rfl (lv_at hl 0 rfl) ?_
        refine jg_mk Z hH d_J_remove_30 ?_
        refine lv_iload_n hx hb d_J_remove_33 rfl (lv_at hl 1 rfl) ?_
        refine ja_mk Z hH d_J_remove_34 (by omega) ?_
        refine js_mk Z hH d_J_remove_35 (by omega) (fun H locs hH => ?_)
        refine lv_aload_n hx hb d_J_remove_36 rfl (lv_at hl 0 rfl) ?_
        refine jg_sz Z hH d_J_remove_37 ?_
        refine lv_iload_n hx hb d_J_remove_40 rfl (lv_at hl 1 rfl) ?_
        refine lv_iconst (v := nI 1) hx hb d_J_remove_41 (by decide) ?_
        refine zn_isub hx hb d_J_remove_42 (by omega) ?_
        refine lv_aload_n hx hb d_J_remove_43 rfl (lv_at hl 0 rfl) ?_
        refine jg_sz Z hH d_J_remove_44 ?_
        refine lv_iload_n hx hb d_J_remove_47 rfl (lv_at hl 1 rfl) ?_
        refine ja_sz Z hH d_J_remove_48 (by omega) ?_
        refine js_sz Z hH d_J_remove_49 (by omega) (fun H locs hH => ?_)
        refine lv_iinc (v := nI (i + 1)) (lv' := [(2, .int (nI (i + 1))), (0, .ref (h 0))]) hx hb d_J_remove_50 hl (k := 1) rfl (nI_1 _) (by decide) rfl (fun ls hl => ?_)
        refine lv_goto (tgt := 14) hx hb d_J_remove_53 (by decide) ?_
        refine ih0 _ _ _ _ (by omega) ⟨i + 1, (upd mk2 (i - 1) (mk2 i)), (upd sz2 (i - 1) (sz2 i)), rfl, by omega, by omega, fun r hr h1 => ?_, fun r h1 h2 => ?_, hH, lv_sub hl [1, 0] rfl⟩
        · rw [pk_un (by omega), pk_un (by omega)]
          exact g3 r hr (by omega)
        · by_cases q : r = i - 1
          · subst q
            rw [pk_us, pk_us, show i - 1 + 1 = i by omega]
            exact g3 i (by omega) (by omega)
          · rw [pk_un q, pk_un q]
            exact g4 r h1 (by omega)
    · omega
  · refine zn_if_ne (tgt := 10) hx hb d_J_remove_5 (by decide) (by omega) (fun c0 => ?_) (fun c0 => ?_)
    · omega
    · refine lv_iconst (v := (-1)) hx hb d_J_remove_8 (by decide) ?_
      refine zret_i Z hr hlk (mk, sz, rk, ro, ct, ix, rw, pa, d, nI (cnt (S 20) 30), nI n, nI t, nI u, cu) hH d_J_remove_9 ?_
      rw [aRem_n hq]
      exact ⟨rfl, hI⟩
set_option maxHeartbeats 4000000 in
set_option maxRecDepth 100000 in
/-- records() -/
theorem c_J_records {l : Launch} {D : va_G} {cI cZ : ClassId} {h : Nat → Nat} {mk sz rk ro ct ix rw pa : Nat → Int32} {d ds cu : Int32} {n t u : Nat} {S : SS}  (hI : jInv n t u S (mk, sz, rk, ro, ct, ix, rw, pa, d, ds, nI n, nI t, nI u, cu)) : zMi l y_J_records b_J_records 1 (some .int) { frames := 0, cells := 0, slots := 0, locals := 0 } D cI cZ (jw h cI) [.ref (h 0)] (mk, sz, rk, ro, ct, ix, rw, pa, d, ds, nI n, nI t, nI u, cu) (fun r σ' => r = nI n ∧ jInv n t u S σ') := by
  refine zMi.of R_J rfl (by decide) (Nat.le_of_ble_eq_true rfl) ?_
  intro p e s m args below meth c A ls Z hr hlk hA hH hl
  obtain ⟨hx, hb, hml, hown, hts, hK⟩ := id Z
  have hl : lv_has ls 1 [(0, .ref (h 0))] := hl
  refine lv_aload_n hx hb d_J_records_0 rfl (lv_at hl 0 rfl) ?_
  refine jg_cn Z hH d_J_records_1 ?_
  refine zret_i Z hr hlk (mk, sz, rk, ro, ct, ix, rw, pa, d, ds, nI n, nI t, nI u, cu) hH d_J_records_4 ?_
  exact ⟨rfl, hI⟩
set_option maxHeartbeats 4000000 in
set_option maxRecDepth 100000 in
/-- size(x) -/
theorem c_J_size {l : Launch} {D : va_G} {cI cZ : ClassId} {h : Nat → Nat} {mk sz rk ro ct ix rw pa : Nat → Int32} {d ds cu : Int32} {n t u : Nat} {S : SS} (x : Int32) (hI : jInv n t u S (mk, sz, rk, ro, ct, ix, rw, pa, d, ds, nI n, nI t, nI u, cu)) : zMi l y_J_size b_J_size 2 (some .int) { frames := 1, cells := 0, slots := 0, locals := 21 } D cI cZ (jw h cI) [.ref (h 0), .int x] (mk, sz, rk, ro, ct, ix, rw, pa, d, ds, nI n, nI t, nI u, cu) (fun r σ' => r = aSize n S x ∧ jInv n t u S σ') := by
  refine zMi.of R_J rfl (by decide) (Nat.le_of_ble_eq_true rfl) ?_
  intro p e s m args below meth c A ls Z hr hlk hA hH hl
  obtain ⟨hx, hb, hml, hown, hts, hK⟩ := id Z
  have hl : lv_has ls 2 [(0, .ref (h 0)), (1, .int x)] := hl
  obtain ⟨hre, hth, ⟨hmd, rfl, hc12⟩, -, -, -, hcu⟩ := id hI
  have hn := hre.1
  refine lv_aload_n hx hb d_J_size_0 rfl (lv_at hl 0 rfl) ?_
  refine lv_iload_n hx hb d_J_size_1 rfl (lv_at hl 1 rfl) ?_
  refine jc_i (As := [.int x]) (rest := []) Z hA hH d_J_size_2 ok_J_isRecord rfl (c_J_isRecord x hn) ⟨rfl, rfl, Nat.le_of_ble_eq_true rfl, Nat.le_of_ble_eq_true rfl⟩ hl.1 (Nat.le_of_ble_eq_true rfl) rfl (fun r σ' H locs hp hH => ?_)
  obtain ⟨rfl, hp⟩ := hp
  rcases hp with ⟨rfl, j, hj, rfl⟩ | ⟨rfl, hq⟩
  · refine zn_if_eq (tgt := 17) hx hb d_J_size_5 (by decide) (by omega) (fun c0 => ?_) (fun c0 => ?_)
    · omega
    · refine lv_aload_n hx hb d_J_size_8 rfl (lv_at hl 0 rfl) ?_
      refine jg_sz Z hH d_J_size_9 ?_
      refine lv_iload_n hx hb d_J_size_12 rfl (lv_at hl 1 rfl) ?_
      refine ja_sz Z hH d_J_size_13 (by omega) ?_
      refine lv_goto (tgt := 18) hx hb d_J_size_14 (by decide) ?_
      refine zret_i Z hr hlk (mk, sz, rk, ro, ct, ix, rw, pa, d, nI (cnt (S 20) 30), nI n, nI t, nI u, cu) hH d_J_size_18 ?_
      rw [aSize_s hn hj]
      exact ⟨(hre.2 j hj).2.1, hI⟩
  · refine zn_if_eq (tgt := 17) hx hb d_J_size_5 (by decide) (by omega) (fun c0 => ?_) (fun c0 => ?_)
    · refine lv_iconst (v := (-1)) hx hb d_J_size_17 (by decide) ?_
      refine zret_i Z hr hlk (mk, sz, rk, ro, ct, ix, rw, pa, d, nI (cnt (S 20) 30), nI n, nI t, nI u, cu) hH d_J_size_18 ?_
      rw [aSize_n hq]
      exact ⟨rfl, hI⟩
    · omega
set_option maxHeartbeats 4000000 in
set_option maxRecDepth 100000 in
/-- has(x, y) -/
theorem c_J_has {l : Launch} {D : va_G} {cI cZ : ClassId} {h : Nat → Nat} {mk sz rk ro ct ix rw pa : Nat → Int32} {d ds cu : Int32} {n t u : Nat} {S : SS} (x y : Int32) (hI : jInv n t u S (mk, sz, rk, ro, ct, ix, rw, pa, d, ds, nI n, nI t, nI u, cu)) : zMi l y_J_has b_J_has 3 (some .int) { frames := 1, cells := 0, slots := 0, locals := 21 } D cI cZ (jw h cI) [.ref (h 0), .int x, .int y] (mk, sz, rk, ro, ct, ix, rw, pa, d, ds, nI n, nI t, nI u, cu) (fun r σ' => r = aHas n S x y ∧ jInv n t u S σ') := by
  refine zMi.of R_J rfl (by decide) (Nat.le_of_ble_eq_true rfl) ?_
  intro p e s m args below meth c A ls Z hr hlk hA hH hl
  obtain ⟨hx, hb, hml, hown, hts, hK⟩ := id Z
  have hl : lv_has ls 3 [(0, .ref (h 0)), (1, .int x), (2, .int y)] := hl
  obtain ⟨hre, hth, ⟨hmd, rfl, hc12⟩, -, -, -, hcu⟩ := id hI
  have hn := hre.1
  refine lv_aload_n hx hb d_J_has_0 rfl (lv_at hl 0 rfl) ?_
  refine lv_iload_n hx hb d_J_has_1 rfl (lv_at hl 1 rfl) ?_
  refine jc_i (As := [.int x]) (rest := []) Z hA hH d_J_has_2 ok_J_isRecord rfl (c_J_isRecord x hn) ⟨rfl, rfl, Nat.le_of_ble_eq_true rfl, Nat.le_of_ble_eq_true rfl⟩ hl.1 (Nat.le_of_ble_eq_true rfl) rfl (fun r σ' H locs hp hH => ?_)
  obtain ⟨rfl, hp⟩ := hp
  rcases hp with ⟨rfl, j, hj, rfl⟩ | ⟨rfl, hq⟩
  · refine zn_if_ne (tgt := 10) hx hb d_J_has_5 (by decide) (by omega) (fun c0 => ?_) (fun c0 => ?_)
    · refine lv_iload_n hx hb d_J_has_10 rfl (lv_at hl 2 rfl) ?_
      refine jc_s (As := [.int y]) (rest := []) Z hA hH d_J_has_11 ok_J_isToken (c_J_isToken y) ⟨rfl, rfl, Nat.le_of_ble_eq_true rfl, Nat.le_of_ble_eq_true rfl⟩ hl.1 (Nat.le_of_ble_eq_true rfl) rfl (fun r H locs hp hH => ?_)
      rcases hp with ⟨rfl, k, hk, rfl⟩ | ⟨rfl, hq⟩
      · refine zn_if_eq (tgt := 30) hx hb d_J_has_14 (by decide) (by omega) (fun c1 => ?_) (fun c1 => ?_)
        · omega
        · refine lv_aload_n hx hb d_J_has_17 rfl (lv_at hl 0 rfl) ?_
          refine jg_mk Z hH d_J_has_18 ?_
          refine lv_iload_n hx hb d_J_has_21 rfl (lv_at hl 1 rfl) ?_
          refine ja_mk Z hH d_J_has_22 (by omega) ?_
          refine lv_iload_n hx hb d_J_has_23 rfl (lv_at hl 2 rfl) ?_
          refine lv_ishr hx hb d_J_has_24 ?_
          refine lv_iconst (v := nI 1) hx hb d_J_has_25 (by decide) ?_
          refine lv_iand hx hb d_J_has_26 ?_
          refine zt (nI (bt (mk j) k).toNat) (z_bit _ (by omega)) ?_
          refine lv_goto (tgt := 32) hx hb d_J_has_27 (by decide) ?_
          refine zret_i Z hr hlk (mk, sz, rk, ro, ct, ix, rw, pa, d, nI (cnt (S 20) 30), nI n, nI t, nI u, cu) hH d_J_has_32 ?_
          rw [aHas_s hn hj hk, msk_at (hre.2 j hj).1 hk]
          exact ⟨rfl, hI⟩
      · refine zn_if_eq (tgt := 30) hx hb d_J_has_14 (by decide) (by omega) (fun c1 => ?_) (fun c1 => ?_)
        · refine lv_bipush (v := (-2)) hx hb d_J_has_30 (by decide) ?_
          refine zret_i Z hr hlk (mk, sz, rk, ro, ct, ix, rw, pa, d, nI (cnt (S 20) 30), nI n, nI t, nI u, cu) hH d_J_has_32 ?_
          rw [aHas_m hn hj hq]
          exact ⟨rfl, hI⟩
        · omega
    · omega
  · refine zn_if_ne (tgt := 10) hx hb d_J_has_5 (by decide) (by omega) (fun c0 => ?_) (fun c0 => ?_)
    · omega
    · refine lv_iconst (v := (-1)) hx hb d_J_has_8 (by decide) ?_
      refine zret_i Z hr hlk (mk, sz, rk, ro, ct, ix, rw, pa, d, nI (cnt (S 20) 30), nI n, nI t, nI u, cu) hH d_J_has_9 ?_
      rw [aHas_n hq]
      exact ⟨rfl, hI⟩
set_option maxHeartbeats 4000000 in
set_option maxRecDepth 100000 in
/-- common(x, y) -/
theorem c_J_common {l : Launch} {D : va_G} {cI cZ : ClassId} {h : Nat → Nat} {mk sz rk ro ct ix rw pa : Nat → Int32} {d ds cu : Int32} {n t u : Nat} {S : SS} (x y : Int32) (hI : jInv n t u S (mk, sz, rk, ro, ct, ix, rw, pa, d, ds, nI n, nI t, nI u, cu)) : zMi l y_J_common b_J_common 3 (some .int) { frames := 1, cells := 0, slots := 0, locals := 21 } D cI cZ (jw h cI) [.ref (h 0), .int x, .int y] (mk, sz, rk, ro, ct, ix, rw, pa, d, ds, nI n, nI t, nI u, cu) (fun r σ' => r = a2 n (fun a b => cBo (S a) (S b)) x y ∧ jInv n t u S σ') := by
  refine zMi.of R_J rfl (by decide) (Nat.le_of_ble_eq_true rfl) ?_
  intro p e s m args below meth c A ls Z hr hlk hA hH hl
  obtain ⟨hx, hb, hml, hown, hts, hK⟩ := id Z
  have hl : lv_has ls 3 [(0, .ref (h 0)), (1, .int x), (2, .int y)] := hl
  obtain ⟨hre, hth, ⟨hmd, rfl, hc12⟩, -, -, -, hcu⟩ := id hI
  have hn := hre.1
  refine lv_aload_n hx hb d_J_common_0 rfl (lv_at hl 0 rfl) ?_
  refine lv_iload_n hx hb d_J_common_1 rfl (lv_at hl 1 rfl) ?_
  refine jc_i (As := [.int x]) (rest := []) Z hA hH d_J_common_2 ok_J_isRecord rfl (c_J_isRecord x hn) ⟨rfl, rfl, Nat.le_of_ble_eq_true rfl, Nat.le_of_ble_eq_true rfl⟩ hl.1 (Nat.le_of_ble_eq_true rfl) rfl (fun r σ' H locs hp hH => ?_)
  obtain ⟨rfl, hp⟩ := hp
  rcases hp with ⟨rfl, j, hj, rfl⟩ | ⟨rfl, hq⟩
  · refine zn_if_eq (tgt := 35) hx hb d_J_common_5 (by decide) (by omega) (fun c0 => ?_) (fun c0 => ?_)
    · omega
    · refine lv_aload_n hx hb d_J_common_8 rfl (lv_at hl 0 rfl) ?_
      refine lv_iload_n hx hb d_J_common_9 rfl (lv_at hl 2 rfl) ?_
      refine jc_i (As := [.int y]) (rest := []) Z hA hH d_J_common_10 ok_J_isRecord rfl (c_J_isRecord y hn) ⟨rfl, rfl, Nat.le_of_ble_eq_true rfl, Nat.le_of_ble_eq_true rfl⟩ hl.1 (Nat.le_of_ble_eq_true rfl) rfl (fun r σ' H locs hp hH => ?_)
      obtain ⟨rfl, hp⟩ := hp
      rcases hp with ⟨rfl, k, hk, rfl⟩ | ⟨rfl, hq⟩
      · refine zn_if_eq (tgt := 35) hx hb d_J_common_13 (by decide) (by omega) (fun c1 => ?_) (fun c1 => ?_)
        · omega
        · refine lv_aload_n hx hb d_J_common_16 rfl (lv_at hl 0 rfl) ?_
          refine jg_mk Z hH d_J_common_17 ?_
          refine lv_iload_n hx hb d_J_common_20 rfl (lv_at hl 1 rfl) ?_
          refine ja_mk Z hH d_J_common_21 (by omega) ?_
          refine lv_aload_n hx hb d_J_common_22 rfl (lv_at hl 0 rfl) ?_
          refine jg_mk Z hH d_J_common_23 ?_
          refine lv_iload_n hx hb d_J_common_26 rfl (lv_at hl 2 rfl) ?_
          refine ja_mk Z hH d_J_common_27 (by omega) ?_
          refine lv_iand hx hb d_J_common_28 ?_
          refine jc_s (As := [.int ((mk j) &&& (mk k))]) (rest := []) Z hA hH d_J_common_29 ok_J_ones (c_J_ones _) ⟨rfl, rfl, Nat.le_of_ble_eq_true rfl, Nat.le_of_ble_eq_true rfl⟩ hl.1 (Nat.le_of_ble_eq_true rfl) rfl (fun r H locs hp hH => ?_)
          subst hp
          refine lv_goto (tgt := 36) hx hb d_J_common_32 (by decide) ?_
          refine zret_i Z hr hlk (mk, sz, rk, ro, ct, ix, rw, pa, d, nI (cnt (S 20) 30), nI n, nI t, nI u, cu) hH d_J_common_36 ?_
          rw [a2_s hn hj hk, msk_cnt (msk_and (hre.2 j hj).1 (hre.2 k hk).1)]
          exact ⟨rfl, hI⟩
      · refine zn_if_eq (tgt := 35) hx hb d_J_common_13 (by decide) (by omega) (fun c1 => ?_) (fun c1 => ?_)
        · refine lv_iconst (v := (-1)) hx hb d_J_common_35 (by decide) ?_
          refine zret_i Z hr hlk (mk, sz, rk, ro, ct, ix, rw, pa, d, nI (cnt (S 20) 30), nI n, nI t, nI u, cu) hH d_J_common_36 ?_
          rw [a2_m hq]
          exact ⟨rfl, hI⟩
        · omega
  · refine zn_if_eq (tgt := 35) hx hb d_J_common_5 (by decide) (by omega) (fun c0 => ?_) (fun c0 => ?_)
    · refine lv_iconst (v := (-1)) hx hb d_J_common_35 (by decide) ?_
      refine zret_i Z hr hlk (mk, sz, rk, ro, ct, ix, rw, pa, d, nI (cnt (S 20) 30), nI n, nI t, nI u, cu) hH d_J_common_36 ?_
      rw [a2_n hq]
      exact ⟨rfl, hI⟩
    · omega
end
section
set_option maxHeartbeats 4000000 in
set_option maxRecDepth 100000 in
/-- threshold(x, y) -/
theorem c_J_threshold {l : Launch} {D : va_G} {cI cZ : ClassId} {h : Nat → Nat} {mk sz rk ro ct ix rw pa : Nat → Int32} {d ds cu : Int32} {n t u : Nat} {S : SS} (x y : Int32) (hI : jInv n t u S (mk, sz, rk, ro, ct, ix, rw, pa, d, ds, nI n, nI t, nI u, cu)) : zMi l y_J_threshold b_J_threshold 3 (some .int) { frames := 0, cells := 0, slots := 0, locals := 0 } D cI cZ (jw h cI) [.ref (h 0), .int x, .int y] (mk, sz, rk, ro, ct, ix, rw, pa, d, ds, nI n, nI t, nI u, cu) (fun r σ' => r = (aThr t u x y).1 ∧ jInv n (aThr t u x y).2.1 (aThr t u x y).2.2 S σ') := by
  refine zMi.of R_J rfl (by decide) (Nat.le_of_ble_eq_true rfl) ?_
  intro p e s m args below meth c A ls Z hr hlk hA hH hl
  obtain ⟨hx, hb, hml, hown, hts, hK⟩ := id Z
  have hl : lv_has ls 3 [(0, .ref (h 0)), (1, .int x), (2, .int y)] := hl
  obtain ⟨hre, hth, ⟨hmd, rfl, hc12⟩, -, -, -, hcu⟩ := id hI
  have hn := hre.1
  refine lv_iload_n hx hb d_J_threshold_0 rfl (lv_at hl 1 rfl) ?_
  refine lv_iconst (v := nI 1) hx hb d_J_threshold_1 (by decide) ?_
  refine lv_icmp_lt (tgt := 22) hx hb d_J_threshold_2 (by decide) (fun c0 => ?_) (fun c0 => ?_)
  · refine lv_iconst (v := (-1)) hx hb d_J_threshold_22 (by decide) ?_
    refine zret_i Z hr hlk (mk, sz, rk, ro, ct, ix, rw, pa, d, nI (cnt (S 20) 30), nI n, nI t, nI u, cu) hH d_J_threshold_23 ?_
    rw [aThr_x (Or.inl c0)]
    exact ⟨rfl, hI⟩
  · refine lv_iload_n hx hb d_J_threshold_5 rfl (lv_at hl 1 rfl) ?_
    refine lv_bipush (v := nI 12) hx hb d_J_threshold_6 (by decide) ?_
    refine lv_icmp_gt (tgt := 22) hx hb d_J_threshold_8 (by decide) (fun c1 => ?_) (fun c1 => ?_)
    · refine lv_iconst (v := (-1)) hx hb d_J_threshold_22 (by decide) ?_
      refine zret_i Z hr hlk (mk, sz, rk, ro, ct, ix, rw, pa, d, nI (cnt (S 20) 30), nI n, nI t, nI u, cu) hH d_J_threshold_23 ?_
      rw [aThr_x (Or.inr c1)]
      exact ⟨rfl, hI⟩
    · refine lv_iload_n hx hb d_J_threshold_11 rfl (lv_at hl 2 rfl) ?_
      refine lv_iconst (v := nI 1) hx hb d_J_threshold_12 (by decide) ?_
      refine lv_icmp_lt (tgt := 22) hx hb d_J_threshold_13 (by decide) (fun c2 => ?_) (fun c2 => ?_)
      · refine lv_iconst (v := (-1)) hx hb d_J_threshold_22 (by decide) ?_
        refine zret_i Z hr hlk (mk, sz, rk, ro, ct, ix, rw, pa, d, nI (cnt (S 20) 30), nI n, nI t, nI u, cu) hH d_J_threshold_23 ?_
        rw [aThr_y (Or.inl c2)]
        exact ⟨rfl, hI⟩
      · refine lv_iload_n hx hb d_J_threshold_16 rfl (lv_at hl 2 rfl) ?_
        refine lv_bipush (v := nI 12) hx hb d_J_threshold_17 (by decide) ?_
        refine lv_icmp_le (tgt := 24) hx hb d_J_threshold_19 (by decide) (fun c3 => ?_) (fun c3 => ?_)
        · obtain ⟨a, ha1, ha2, rfl⟩ := thr_in c0 c1
          obtain ⟨b, hb1, hb2, rfl⟩ := thr_in c2 (Int32.not_lt.mpr c3)
          refine lv_iload_n hx hb d_J_threshold_24 rfl (lv_at hl 1 rfl) ?_
          refine lv_iload_n hx hb d_J_threshold_25 rfl (lv_at hl 2 rfl) ?_
          refine zn_icmp_le (tgt := 32) hx hb d_J_threshold_26 (by decide) (by omega) (by omega) (fun c4 => ?_) (fun c4 => ?_)
          · refine lv_aload_n hx hb d_J_threshold_32 rfl (lv_at hl 0 rfl) ?_
            refine lv_iload_n hx hb d_J_threshold_33 rfl (lv_at hl 1 rfl) ?_
            refine jp_tp Z hH _ d_J_threshold_34 (fun H locs hH => ?_)
            refine lv_aload_n hx hb d_J_threshold_37 rfl (lv_at hl 0 rfl) ?_
            refine lv_iload_n hx hb d_J_threshold_38 rfl (lv_at hl 2 rfl) ?_
            refine jp_bo Z hH _ d_J_threshold_39 (fun H locs hH => ?_)
            refine lv_aload_n hx hb d_J_threshold_42 rfl (lv_at hl 0 rfl) ?_
            refine lv_iconst (v := nI 0) hx hb d_J_threshold_43 (by decide) ?_
            refine jp_cu Z hH _ ⟨rfl, rfl⟩ d_J_threshold_44 (fun H locs hH => ?_)
            refine lv_iconst (v := nI 0) hx hb d_J_threshold_47 (by decide) ?_
            refine zret_i Z hr hlk (mk, sz, rk, ro, ct, ix, rw, pa, d, nI (cnt (S 20) 30), nI n, nI a, nI b, nI 0) hH d_J_threshold_48 ?_
            rw [aThr_s ha1 ha2 hb1 hb2, if_neg (by omega)]
            exact ⟨rfl, hre, ⟨ha1, c4, hb2⟩, ⟨hmd, rfl, hc12⟩, rfl, rfl, rfl, Or.inl rfl⟩
          · refine lv_bipush (v := (-2)) hx hb d_J_threshold_29 (by decide) ?_
            refine zret_i Z hr hlk (mk, sz, rk, ro, ct, ix, rw, pa, d, nI (cnt (S 20) 30), nI n, nI t, nI u, cu) hH d_J_threshold_31 ?_
            rw [aThr_s ha1 ha2 hb1 hb2, if_pos c4]
            exact ⟨rfl, hI⟩
        · refine lv_iconst (v := (-1)) hx hb d_J_threshold_22 (by decide) ?_
          refine zret_i Z hr hlk (mk, sz, rk, ro, ct, ix, rw, pa, d, nI (cnt (S 20) 30), nI n, nI t, nI u, cu) hH d_J_threshold_23 ?_
          rw [aThr_y (Or.inr (Int32.not_le.mp c3))]
          exact ⟨rfl, hI⟩
set_option maxHeartbeats 4000000 in
set_option maxRecDepth 100000 in
/-- containing() -/
theorem c_J_containing {l : Launch} {D : va_G} {cI cZ : ClassId} {h : Nat → Nat} {mk sz rk ro ct ix rw pa : Nat → Int32} {d ds cu : Int32} {n t u : Nat} {S : SS}  (hI : jInv n t u S (mk, sz, rk, ro, ct, ix, rw, pa, d, ds, nI n, nI t, nI u, cu)) : zMi l y_J_containing b_J_containing 3 (some .int) { frames := 0, cells := 0, slots := 0, locals := 0 } D cI cZ (jw h cI) [.ref (h 0)] (mk, sz, rk, ro, ct, ix, rw, pa, d, ds, nI n, nI t, nI u, cu) (fun r σ' => r = nI (vCont n S) ∧ jInv n t u S σ') := by
  refine zMi.of R_J rfl (by decide) (Nat.le_of_ble_eq_true rfl) ?_
  intro p e s m args below meth c A ls Z hr hlk hA hH hl
  obtain ⟨hx, hb, hml, hown, hts, hK⟩ := id Z
  have hl : lv_has ls 3 [(0, .ref (h 0))] := hl
  obtain ⟨hre, hth, ⟨hmd, rfl, hc12⟩, -, -, -, hcu⟩ := id hI
  have hn := hre.1
  refine lv_iconst (v := nI 0) hx hb d_J_containing_0 (by decide) ?_
  refine lv_istore_n (lv' := [(1, .int (nI 0)), (0, .ref (h 0))]) hx hb d_J_containing_1 rfl hl (by decide) rfl (fun ls hl => ?_)
  refine lv_iconst (v := nI 0) hx hb d_J_containing_2 (by decide) ?_
  refine lv_istore_n (lv' := [(2, .int (nI 0)), (1, .int (nI 0)), (0, .ref (h 0))]) hx hb d_J_containing_3 rfl hl (by decide) rfl (fun ls hl => ?_)
  refine w_loop (pc := 4) (fun n_ H locs ls => ∃ (i : Nat) (k : Nat), n_ = 20 - i ∧ i ≤ n ∧ k = cnt (fun s => decide (cBo (S s) (S 20) = cnt (S 20) 30)) i ∧ zH D A s.heap (jw h cI (mk, sz, rk, ro, ct, ix, rw, pa, d, nI (cnt (S 20) 30), nI n, nI t, nI u, cu)) H locs ∧ lv_has ls 3 [(0, .ref (h 0)), (1, .int (nI k)), (2, .int (nI i))]) ?_ _ _ _ _ ⟨0, 0, rfl, Nat.zero_le _, rfl, hH, lv_sub hl [2, 1, 0] rfl⟩
  rintro _ H locs ls ⟨i, k, rfl, g1, g2, hH, hl⟩ ih0
  refine lv_iload_n hx hb d_J_containing_4 rfl (lv_at hl 2 rfl) ?_
  refine lv_aload_n hx hb d_J_containing_5 rfl (lv_at hl 0 rfl) ?_
  refine jg_cn Z hH d_J_containing_6 ?_
  refine zn_icmp_ge (tgt := 37) hx hb d_J_containing_9 (by decide) (by omega) (by omega) (fun c => ?_) (fun c => ?_)
  · refine lv_iload_n hx hb d_J_containing_37 rfl (lv_at hl 1 rfl) ?_
    refine zret_i Z hr hlk (mk, sz, rk, ro, ct, ix, rw, pa, d, nI (cnt (S 20) 30), nI n, nI t, nI u, cu) hH d_J_containing_38 ?_
    have ei : i = n := by omega
    subst ei
    exact ⟨by rw [g2]; rfl, hI⟩
  · have hci := cont_iff hmd (hre.2 i c).1
    refine lv_aload_n hx hb d_J_containing_12 rfl (lv_at hl 0 rfl) ?_
    refine jg_d Z hH d_J_containing_13 ?_
    refine lv_aload_n hx hb d_J_containing_16 rfl (lv_at hl 0 rfl) ?_
    refine jg_mk Z hH d_J_containing_17 ?_
    refine lv_iload_n hx hb d_J_containing_20 rfl (lv_at hl 2 rfl) ?_
    refine ja_mk Z hH d_J_containing_21 (by omega) ?_
    refine lv_iconst (v := (-1)) hx hb d_J_containing_22 (by decide) ?_
    refine lv_ixor hx hb d_J_containing_23 ?_
    refine lv_iand hx hb d_J_containing_24 ?_
    refine lv_if_ne (tgt := 31) hx hb d_J_containing_25 (by decide) (fun c1 => ?_) (fun c1 => ?_)
    · refine lv_iinc (v := nI (i + 1)) (lv' := [(2, .int (nI (i + 1))), (0, .ref (h 0)), (1, .int (nI k))]) hx hb d_J_containing_31 hl (k := 2) rfl (nI_1 _) (by decide) rfl (fun ls hl => ?_)
      refine lv_goto (tgt := 4) hx hb d_J_containing_34 (by decide) ?_
      exact ih0 _ _ _ _ (by omega) ⟨i + 1, k, rfl, by omega, by rw [cnt_f (decide_eq_false (fun z => c1 (hci.mpr z))), g2], hH, lv_sub hl [1, 2, 0] rfl⟩
    · refine lv_iinc (v := nI (k + 1)) (lv' := [(1, .int (nI (k + 1))), (0, .ref (h 0)), (2, .int (nI i))]) hx hb d_J_containing_28 hl (k := 1) rfl (nI_1 _) (by decide) rfl (fun ls hl => ?_)
      refine lv_iinc (v := nI (i + 1)) (lv' := [(2, .int (nI (i + 1))), (1, .int (nI (k + 1))), (0, .ref (h 0))]) hx hb d_J_containing_31 hl (k := 2) rfl (nI_1 _) (by decide) rfl (fun ls hl => ?_)
      refine lv_goto (tgt := 4) hx hb d_J_containing_34 (by decide) ?_
      exact ih0 _ _ _ _ (by omega) ⟨i + 1, k + 1, rfl, by omega, by rw [cnt_t (decide_eq_true (hci.mp c1)), g2], hH, lv_sub hl [2, 1, 0] rfl⟩
set_option maxHeartbeats 4000000 in
set_option maxRecDepth 100000 in
/-- nearest(x) -/
theorem c_J_nearest {l : Launch} {D : va_G} {cI cZ : ClassId} {h : Nat → Nat} {mk sz rk ro ct ix rw pa : Nat → Int32} {d ds cu : Int32} {n t u : Nat} {S : SS} (x : Int32) (hI : jInv n t u S (mk, sz, rk, ro, ct, ix, rw, pa, d, ds, nI n, nI t, nI u, cu)) : zMi l y_J_nearest b_J_nearest 8 (some .int) { frames := 1, cells := 0, slots := 0, locals := 21 } D cI cZ (jw h cI) [.ref (h 0), .int x] (mk, sz, rk, ro, ct, ix, rw, pa, d, ds, nI n, nI t, nI u, cu) (fun r σ' => r = a1 n (fun w => (vNear S w n).1) x ∧ jInv n t u S σ') := by
  refine zMi.of R_J rfl (by decide) (Nat.le_of_ble_eq_true rfl) ?_
  intro p e s m args below meth c A ls Z hr hlk hA hH hl
  obtain ⟨hx, hb, hml, hown, hts, hK⟩ := id Z
  have hl : lv_has ls 8 [(0, .ref (h 0)), (1, .int x)] := hl
  obtain ⟨hre, hth, ⟨hmd, rfl, hc12⟩, -, -, -, hcu⟩ := id hI
  have hn := hre.1
  refine lv_aload_n hx hb d_J_nearest_0 rfl (lv_at hl 0 rfl) ?_
  refine lv_iload_n hx hb d_J_nearest_1 rfl (lv_at hl 1 rfl) ?_
  refine jc_i (As := [.int x]) (rest := []) Z hA hH d_J_nearest_2 ok_J_isRecord rfl (c_J_isRecord x hn) ⟨rfl, rfl, Nat.le_of_ble_eq_true rfl, Nat.le_of_ble_eq_true rfl⟩ hl.1 (Nat.le_of_ble_eq_true rfl) rfl (fun r σ' H locs hp hH => ?_)
  obtain ⟨rfl, hp⟩ := hp
  rcases hp with ⟨rfl, j, hj, rfl⟩ | ⟨rfl, hq⟩
  · refine zn_if_ne (tgt := 10) hx hb d_J_nearest_5 (by decide) (by omega) (fun c0 => ?_) (fun c0 => ?_)
    · refine lv_bipush (v := (-2)) hx hb d_J_nearest_10 (by decide) ?_
      refine lv_istore_n (lv' := [(2, .int (-2)), (0, .ref (h 0)), (1, .int (nI j))]) hx hb d_J_nearest_12 rfl hl (by decide) rfl (fun ls hl => ?_)
      refine lv_iconst (v := nI 0) hx hb d_J_nearest_13 (by decide) ?_
      refine lv_istore_n (lv' := [(3, .int (nI 0)), (2, .int (-2)), (0, .ref (h 0)), (1, .int (nI j))]) hx hb d_J_nearest_14 rfl hl (by decide) rfl (fun ls hl => ?_)
      refine lv_iconst (v := nI 1) hx hb d_J_nearest_15 (by decide) ?_
      refine lv_istore (lv' := [(4, .int (nI 1)), (3, .int (nI 0)), (2, .int (-2)), (0, .ref (h 0)), (1, .int (nI j))]) hx hb d_J_nearest_16 hl (by decide) rfl (fun ls hl => ?_)
      refine lv_iconst (v := nI 0) hx hb d_J_nearest_18 (by decide) ?_
      refine lv_istore (lv' := [(5, .int (nI 0)), (4, .int (nI 1)), (3, .int (nI 0)), (2, .int (-2)), (0, .ref (h 0)), (1, .int (nI j))]) hx hb d_J_nearest_19 hl (by decide) rfl (fun ls hl => ?_)
      refine w_loop (pc := 21) (fun n_ H locs ls => ∃ (i : Nat) (bs : Int32) (bc : Nat) (ba : Nat), n_ = 20 - i ∧ i ≤ n ∧ vNear S j i = (bs, bc, ba) ∧ bc ≤ 30 ∧ ba ≤ 30 ∧ zH D A s.heap (jw h cI (mk, sz, rk, ro, ct, ix, rw, pa, d, nI (cnt (S 20) 30), nI n, nI t, nI u, cu)) H locs ∧ lv_has ls 8 [(0, .ref (h 0)), (1, .int (nI j)), (2, .int bs), (3, .int (nI bc)), (4, .int (nI ba)), (5, .int (nI i))]) ?_ _ _ _ _ ⟨0, (-2), 0, 1, rfl, Nat.zero_le _, rfl, by omega, by omega, hH, lv_sub hl [4, 5, 3, 2, 1, 0] rfl⟩
      rintro _ H locs ls ⟨i, bs, bc, ba, rfl, g1, g2, g3, g4, hH, hl⟩ ih0
      refine lv_iload hx hb d_J_nearest_21 (lv_at hl 5 rfl) ?_
      refine lv_aload_n hx hb d_J_nearest_23 rfl (lv_at hl 0 rfl) ?_
      refine jg_cn Z hH d_J_nearest_24 ?_
      refine zn_icmp_ge (tgt := 106) hx hb d_J_nearest_27 (by decide) (by omega) (by omega) (fun c => ?_) (fun c => ?_)
      · refine lv_iload_n hx hb d_J_nearest_106 rfl (lv_at hl 2 rfl) ?_
        refine zret_i Z hr hlk (mk, sz, rk, ro, ct, ix, rw, pa, d, nI (cnt (S 20) 30), nI n, nI t, nI u, cu) hH d_J_nearest_107 ?_
        have ei : i = n := by omega
        subst ei
        rw [a1_s hn hj, g2]
        exact ⟨rfl, hI⟩
      · refine lv_iload hx hb d_J_nearest_30 (lv_at hl 5 rfl) ?_
        refine lv_iload_n hx hb d_J_nearest_32 rfl (lv_at hl 1 rfl) ?_
        refine zn_icmp_eq (tgt := 100) hx hb d_J_nearest_33 (by decide) (by omega) (by omega) (fun c1 => ?_) (fun c1 => ?_)
        · refine lv_iinc (v := nI (i + 1)) (lv' := [(5, .int (nI (i + 1))), (0, .ref (h 0)), (1, .int (nI j)), (2, .int bs), (3, .int (nI bc)), (4, .int (nI ba))]) hx hb d_J_nearest_100 hl (k := 5) rfl (nI_1 _) (by decide) rfl (fun ls hl => ?_)
          refine lv_goto (tgt := 21) hx hb d_J_nearest_103 (by decide) ?_
          exact ih0 _ _ _ _ (by omega) ⟨i + 1, bs, bc, ba, rfl, by omega, vNear_n g2 (Or.inl c1), g3, g4, hH, lv_sub hl [1, 2, 3, 4, 5, 0] rfl⟩
        · refine lv_aload_n hx hb d_J_nearest_36 rfl (lv_at hl 0 rfl) ?_
          refine jg_mk Z hH d_J_nearest_37 ?_
          refine lv_iload_n hx hb d_J_nearest_40 rfl (lv_at hl 1 rfl) ?_
          refine ja_mk Z hH d_J_nearest_41 (by omega) ?_
          refine lv_aload_n hx hb d_J_nearest_42 rfl (lv_at hl 0 rfl) ?_
          refine jg_mk Z hH d_J_nearest_43 ?_
          refine lv_iload hx hb d_J_nearest_46 (lv_at hl 5 rfl) ?_
          refine ja_mk Z hH d_J_nearest_48 (by omega) ?_
          refine lv_iand hx hb d_J_nearest_49 ?_
          refine jc_s (As := [.int ((mk j) &&& (mk i))]) (rest := []) Z hA hH d_J_nearest_50 ok_J_ones (c_J_ones _) ⟨rfl, rfl, Nat.le_of_ble_eq_true rfl, Nat.le_of_ble_eq_true rfl⟩ hl.1 (Nat.le_of_ble_eq_true rfl) rfl (fun r H locs hp hH => ?_)
          subst hp
          refine zt (nI (cBo (S j) (S i))) (by rw [msk_cnt (msk_and (hre.2 j hj).1 (hre.2 i c).1)]; rfl) ?_
          refine lv_istore (lv' := [(6, .int (nI (cBo (S j) (S i)))), (0, .ref (h 0)), (1, .int (nI j)), (2, .int bs), (3, .int (nI bc)), (4, .int (nI ba)), (5, .int (nI i))]) hx hb d_J_nearest_53 hl (by decide) rfl (fun ls hl => ?_)
          refine lv_aload_n hx hb d_J_nearest_55 rfl (lv_at hl 1 rfl) ?_
          refine jg_sz Z hH d_J_nearest_56 ?_
          refine lv_iload_n hx hb d_J_nearest_59 rfl (lv_at hl 2 rfl) ?_
          refine ja_sz Z hH d_J_nearest_60 (by omega) ?_
          refine zt (nI (cnt (S j) 30)) ((hre.2 j hj).2.1) ?_
          refine lv_aload_n hx hb d_J_nearest_61 rfl (lv_at hl 1 rfl) ?_
          refine jg_sz Z hH d_J_nearest_62 ?_
          refine lv_iload hx hb d_J_nearest_65 (lv_at hl 6 rfl) ?_
          refine ja_sz Z hH d_J_nearest_67 (by omega) ?_
          refine zt (nI (cnt (S i) 30)) ((hre.2 i c).2.1) ?_
          refine zn_iadd hx hb d_J_nearest_68 ?_
          refine lv_iload hx hb d_J_nearest_69 (lv_at hl 0 rfl) ?_
          have q1 := cEi_Bo (S j) (S i)
          have q2 := cBo_le (S j) (S i)
          have q3 := cEi_le (S j) (S i)
          have q4 := mul_bd q2 g4
          have q5 := mul_bd g3 q3
          refine zn_isub hx hb d_J_nearest_71 (by omega) ?_
          refine zt (nI (cEi (S j) (S i))) (by congr 1; omega) ?_
          refine lv_istore (lv' := [(7, .int (nI (cEi (S j) (S i)))), (6, .int (nI (cBo (S j) (S i)))), (0, .ref (h 0)), (1, .int (nI j)), (2, .int bs), (3, .int (nI bc)), (4, .int (nI ba)), (5, .int (nI i))]) hx hb d_J_nearest_72 hl (by decide) rfl (fun ls hl => ?_)
          refine lv_iload_n hx hb d_J_nearest_74 rfl (lv_at hl 4 rfl) ?_
          refine lv_if_lt (tgt := 90) hx hb d_J_nearest_75 (by decide) (fun c2 => ?_) (fun c2 => ?_)
          · refine lv_iload hx hb d_J_nearest_90 (lv_at hl 7 rfl) ?_
            refine lv_istore_n (lv' := [(2, .int (nI i)), (7, .int (nI (cEi (S j) (S i)))), (6, .int (nI (cBo (S j) (S i)))), (0, .ref (h 0)), (1, .int (nI j)), (3, .int (nI bc)), (4, .int (nI ba)), (5, .int (nI i))]) hx hb d_J_nearest_92 rfl hl (by decide) rfl (fun ls hl => ?_)
            refine lv_iload hx hb d_J_nearest_93 (lv_at hl 2 rfl) ?_
            refine lv_istore_n (lv' := [(3, .int (nI (cBo (S j) (S i)))), (2, .int (nI i)), (7, .int (nI (cEi (S j) (S i)))), (6, .int (nI (cBo (S j) (S i)))), (0, .ref (h 0)), (1, .int (nI j)), (4, .int (nI ba)), (5, .int (nI i))]) hx hb d_J_nearest_95 rfl hl (by decide) rfl (fun ls hl => ?_)
            refine lv_iload hx hb d_J_nearest_96 (lv_at hl 2 rfl) ?_
            refine lv_istore (lv' := [(4, .int (nI (cEi (S j) (S i)))), (3, .int (nI (cBo (S j) (S i)))), (2, .int (nI i)), (7, .int (nI (cEi (S j) (S i)))), (6, .int (nI (cBo (S j) (S i)))), (0, .ref (h 0)), (1, .int (nI j)), (5, .int (nI i))]) hx hb d_J_nearest_98 hl (by decide) rfl (fun ls hl => ?_)
            refine lv_iinc (v := nI (i + 1)) (lv' := [(5, .int (nI (i + 1))), (4, .int (nI (cEi (S j) (S i)))), (3, .int (nI (cBo (S j) (S i)))), (2, .int (nI i)), (7, .int (nI (cEi (S j) (S i)))), (6, .int (nI (cBo (S j) (S i)))), (0, .ref (h 0)), (1, .int (nI j))]) hx hb d_J_nearest_100 hl (k := 7) rfl (nI_1 _) (by decide) rfl (fun ls hl => ?_)
            refine lv_goto (tgt := 21) hx hb d_J_nearest_103 (by decide) ?_
            exact ih0 _ _ _ _ (by omega) ⟨i + 1, nI i, cBo (S j) (S i), cEi (S j) (S i), rfl, by omega, vNear_y g2 c1 (Or.inl c2), q2, q3, hH, lv_sub hl [6, 7, 3, 2, 1, 0] rfl⟩
          · refine lv_iload hx hb d_J_nearest_78 (lv_at hl 1 rfl) ?_
            refine lv_iload hx hb d_J_nearest_80 (lv_at hl 6 rfl) ?_
            refine zn_imul hx hb d_J_nearest_82 ?_
            refine lv_iload_n hx hb d_J_nearest_83 rfl (lv_at hl 5 rfl) ?_
            refine lv_iload hx hb d_J_nearest_84 (lv_at hl 0 rfl) ?_
            refine zn_imul hx hb d_J_nearest_86 ?_
            refine zn_icmp_le (tgt := 100) hx hb d_J_nearest_87 (by decide) (by omega) (by omega) (fun c3 => ?_) (fun c3 => ?_)
            · refine lv_iinc (v := nI (i + 1)) (lv' := [(5, .int (nI (i + 1))), (7, .int (nI (cEi (S j) (S i)))), (6, .int (nI (cBo (S j) (S i)))), (0, .ref (h 0)), (1, .int (nI j)), (2, .int bs), (3, .int (nI bc)), (4, .int (nI ba))]) hx hb d_J_nearest_100 hl (k := 7) rfl (nI_1 _) (by decide) rfl (fun ls hl => ?_)
              refine lv_goto (tgt := 21) hx hb d_J_nearest_103 (by decide) ?_
              exact ih0 _ _ _ _ (by omega) ⟨i + 1, bs, bc, ba, rfl, by omega, vNear_n g2 (Or.inr ⟨c2, c3⟩), g3, g4, hH, lv_sub hl [3, 4, 5, 6, 7, 0] rfl⟩
            · refine lv_iload hx hb d_J_nearest_90 (lv_at hl 7 rfl) ?_
              refine lv_istore_n (lv' := [(2, .int (nI i)), (7, .int (nI (cEi (S j) (S i)))), (6, .int (nI (cBo (S j) (S i)))), (0, .ref (h 0)), (1, .int (nI j)), (3, .int (nI bc)), (4, .int (nI ba)), (5, .int (nI i))]) hx hb d_J_nearest_92 rfl hl (by decide) rfl (fun ls hl => ?_)
              refine lv_iload hx hb d_J_nearest_93 (lv_at hl 2 rfl) ?_
              refine lv_istore_n (lv' := [(3, .int (nI (cBo (S j) (S i)))), (2, .int (nI i)), (7, .int (nI (cEi (S j) (S i)))), (6, .int (nI (cBo (S j) (S i)))), (0, .ref (h 0)), (1, .int (nI j)), (4, .int (nI ba)), (5, .int (nI i))]) hx hb d_J_nearest_95 rfl hl (by decide) rfl (fun ls hl => ?_)
              refine lv_iload hx hb d_J_nearest_96 (lv_at hl 2 rfl) ?_
              refine lv_istore (lv' := [(4, .int (nI (cEi (S j) (S i)))), (3, .int (nI (cBo (S j) (S i)))), (2, .int (nI i)), (7, .int (nI (cEi (S j) (S i)))), (6, .int (nI (cBo (S j) (S i)))), (0, .ref (h 0)), (1, .int (nI j)), (5, .int (nI i))]) hx hb d_J_nearest_98 hl (by decide) rfl (fun ls hl => ?_)
              refine lv_iinc (v := nI (i + 1)) (lv' := [(5, .int (nI (i + 1))), (4, .int (nI (cEi (S j) (S i)))), (3, .int (nI (cBo (S j) (S i)))), (2, .int (nI i)), (7, .int (nI (cEi (S j) (S i)))), (6, .int (nI (cBo (S j) (S i)))), (0, .ref (h 0)), (1, .int (nI j))]) hx hb d_J_nearest_100 hl (k := 7) rfl (nI_1 _) (by decide) rfl (fun ls hl => ?_)
              refine lv_goto (tgt := 21) hx hb d_J_nearest_103 (by decide) ?_
              exact ih0 _ _ _ _ (by omega) ⟨i + 1, nI i, cBo (S j) (S i), cEi (S j) (S i), rfl, by omega, vNear_y g2 c1 (Or.inr c3), q2, q3, hH, lv_sub hl [6, 7, 3, 2, 1, 0] rfl⟩
    · omega
  · refine zn_if_ne (tgt := 10) hx hb d_J_nearest_5 (by decide) (by omega) (fun c0 => ?_) (fun c0 => ?_)
    · omega
    · refine lv_iconst (v := (-1)) hx hb d_J_nearest_8 (by decide) ?_
      refine zret_i Z hr hlk (mk, sz, rk, ro, ct, ix, rw, pa, d, nI (cnt (S 20) 30), nI n, nI t, nI u, cu) hH d_J_nearest_9 ?_
      rw [a1_n hq]
      exact ⟨rfl, hI⟩
set_option maxHeartbeats 4000000 in
set_option maxRecDepth 100000 in
/-- rankTokens(): counts, and a numbering of the tokens -/
theorem c_J_rankTokens {l : Launch} {D : va_G} {cI cZ : ClassId} {h : Nat → Nat} {mk sz rk ro ct ix rw pa : Nat → Int32} {d ds tp bo cu : Int32} {n : Nat} {S : SS} (hn : n ≤ 20) (hm : ∀ r, r < n → msk (mk r) (S r)) : zMv l y_J_rankTokens b_J_rankTokens 4 none { frames := 0, cells := 0, slots := 0, locals := 0 } D cI cZ (jw h cI) [.ref (h 0)] (mk, sz, rk, ro, ct, ix, rw, pa, d, ds, nI n, tp, bo, cu) (fun σ' => ∃ ro' ct' : Nat → Int32, σ' = (mk, sz, rk, ro', ct', ix, rw, pa, d, ds, nI n, tp, bo, cu) ∧ ctOk n S ct' ∧ rankOk (rkf (frq n S)) ro') := by
  refine zMv.of R_J rfl (by decide) (Nat.le_of_ble_eq_true rfl) ?_
  intro p e s m args below meth c A ls Z hr hlk hA hH hl
  obtain ⟨hx, hb, hml, hown, hts, hK⟩ := id Z
  have hl : lv_has ls 4 [(0, .ref (h 0))] := hl
  have hf : ∀ x, frq n S x ≤ n := fun x => cnt_le _ _
  refine lv_iconst (v := nI 0) hx hb d_J_rankTokens_0 (by decide) ?_
  refine lv_istore_n (lv' := [(1, .int (nI 0)), (0, .ref (h 0))]) hx hb d_J_rankTokens_1 rfl hl (by decide) rfl (fun ls hl => ?_)
  refine w_loop (pc := 2) (fun n_ H locs ls => ∃ (i : Nat) (ct2 : Nat → Int32), n_ = 30 - i ∧ i ≤ 30 ∧ (∀ x, x < i → ct2 x = nI (frq n S x)) ∧ zH D A s.heap (jw h cI (mk, sz, rk, ro, ct2, ix, rw, pa, d, ds, nI n, tp, bo, cu)) H locs ∧ lv_has ls 4 [(0, .ref (h 0)), (1, .int (nI i))]) ?_ _ _ _ _ ⟨0, ct, rfl, by omega, fun x hx => by omega, hH, lv_sub hl [1, 0] rfl⟩
  rintro _ H locs ls ⟨i, ct2, rfl, g1, g2, hH, hl⟩ ih0
  refine lv_iload_n hx hb d_J_rankTokens_2 rfl (lv_at hl 1 rfl) ?_
  refine lv_bipush (v := nI 30) hx hb d_J_rankTokens_3 (by decide) ?_
  refine zn_icmp_ge (tgt := 56) hx hb d_J_rankTokens_5 (by decide) (by omega) (by omega) (fun c => ?_) (fun c => ?_)
  · have ei : i = 30 := by omega
    subst ei
    refine lv_iconst (v := nI 0) hx hb d_J_rankTokens_56 (by decide) ?_
    refine lv_istore_n (lv' := [(1, .int (nI 0)), (0, .ref (h 0))]) hx hb d_J_rankTokens_57 rfl hl (by decide) rfl (fun ls hl => ?_)
    refine w_loop (pc := 58) (fun n_ H locs ls => ∃ (i : Nat) (ro2 : Nat → Int32), n_ = 30 - i ∧ i ≤ 30 ∧ (∀ x, x < i → ro2 x = nI (rkf (frq n S) x)) ∧ zH D A s.heap (jw h cI (mk, sz, rk, ro2, ct2, ix, rw, pa, d, ds, nI n, tp, bo, cu)) H locs ∧ lv_has ls 4 [(0, .ref (h 0)), (1, .int (nI i))]) ?_ _ _ _ _ ⟨0, ro, rfl, by omega, fun x hx => by omega, hH, lv_sub hl [1, 0] rfl⟩
    rintro _ H locs ls ⟨i, ro2, rfl, m1, m2, hH, hl⟩ ih1
    refine lv_iload_n hx hb d_J_rankTokens_58 rfl (lv_at hl 1 rfl) ?_
    refine lv_bipush (v := nI 30) hx hb d_J_rankTokens_59 (by decide) ?_
    refine zn_icmp_ge (tgt := 131) hx hb d_J_rankTokens_61 (by decide) (by omega) (by omega) (fun c => ?_) (fun c => ?_)
    · refine zret_v Z hr hlk (mk, sz, rk, ro2, ct2, ix, rw, pa, d, ds, nI n, tp, bo, cu) hH d_J_rankTokens_131 ?_
      exact ⟨_, _, rfl, fun x hx => g2 x hx, rank_ok (fun x hx => m2 x (by omega))⟩
    · refine lv_iconst (v := nI 0) hx hb d_J_rankTokens_64 (by decide) ?_
      refine lv_istore_n (lv' := [(2, .int (nI 0)), (0, .ref (h 0)), (1, .int (nI i))]) hx hb d_J_rankTokens_65 rfl hl (by decide) rfl (fun ls hl => ?_)
      refine lv_iconst (v := nI 0) hx hb d_J_rankTokens_66 (by decide) ?_
      refine lv_istore_n (lv' := [(3, .int (nI 0)), (2, .int (nI 0)), (0, .ref (h 0)), (1, .int (nI i))]) hx hb d_J_rankTokens_67 rfl hl (by decide) rfl (fun ls hl => ?_)
      refine w_loop (pc := 68) (fun n_ H locs ls => ∃ (x : Nat) (k : Nat), n_ = 30 - x ∧ x ≤ 30 ∧ k = cnt (rkb (frq n S) i) x ∧ zH D A s.heap (jw h cI (mk, sz, rk, ro2, ct2, ix, rw, pa, d, ds, nI n, tp, bo, cu)) H locs ∧ lv_has ls 4 [(0, .ref (h 0)), (1, .int (nI i)), (2, .int (nI k)), (3, .int (nI x))]) ?_ _ _ _ _ ⟨0, 0, rfl, by omega, rfl, hH, lv_sub hl [2, 3, 1, 0] rfl⟩
      rintro _ H locs ls ⟨x, k, rfl, p1, p2, hH, hl⟩ ih2
      refine lv_iload_n hx hb d_J_rankTokens_68 rfl (lv_at hl 3 rfl) ?_
      refine lv_bipush (v := nI 30) hx hb d_J_rankTokens_69 (by decide) ?_
      refine zn_icmp_ge (tgt := 118) hx hb d_J_rankTokens_71 (by decide) (by omega) (by omega) (fun c1 => ?_) (fun c1 => ?_)
      · have ex30 : x = 30 := by omega
        refine lv_aload_n hx hb d_J_rankTokens_118 rfl (lv_at hl 0 rfl) ?_
        refine jg_ro Z hH d_J_rankTokens_119 ?_
        refine lv_iload_n hx hb d_J_rankTokens_122 rfl (lv_at hl 1 rfl) ?_
        refine lv_iload_n hx hb d_J_rankTokens_123 rfl (lv_at hl 2 rfl) ?_
        refine js_ro Z hH d_J_rankTokens_124 (by omega) (fun H locs hH => ?_)
        refine lv_iinc (v := nI (i + 1)) (lv' := [(1, .int (nI (i + 1))), (0, .ref (h 0)), (2, .int (nI k)), (3, .int (nI x))]) hx hb d_J_rankTokens_125 hl (k := 1) rfl (nI_1 _) (by decide) rfl (fun ls hl => ?_)
        refine lv_goto (tgt := 58) hx hb d_J_rankTokens_128 (by decide) ?_
        refine ih1 _ _ _ _ (by omega) ⟨i + 1, (upd ro2 i (nI k)), rfl, by omega, fun y hy => ?_, hH, lv_sub hl [1, 0] rfl⟩
        by_cases q : y = i
        · subst q
          rw [pk_us, p2, ex30]
          rfl
        · rw [pk_un q]
          exact m2 y (by omega)
      · have f1 := hf x
        have f2 := hf i
        refine lv_aload_n hx hb d_J_rankTokens_74 rfl (lv_at hl 0 rfl) ?_
        refine jg_ct Z hH d_J_rankTokens_75 ?_
        refine lv_iload_n hx hb d_J_rankTokens_78 rfl (lv_at hl 3 rfl) ?_
        refine ja_ct Z hH d_J_rankTokens_79 (by omega) ?_
        refine zt (nI (frq n S x)) (g2 x c1) ?_
        refine lv_aload_n hx hb d_J_rankTokens_80 rfl (lv_at hl 0 rfl) ?_
        refine jg_ct Z hH d_J_rankTokens_81 ?_
        refine lv_iload_n hx hb d_J_rankTokens_84 rfl (lv_at hl 1 rfl) ?_
        refine ja_ct Z hH d_J_rankTokens_85 (by omega) ?_
        refine zt (nI (frq n S i)) (g2 i c) ?_
        refine zn_icmp_lt (tgt := 109) hx hb d_J_rankTokens_86 (by decide) (by omega) (by omega) (fun c2 => ?_) (fun c2 => ?_)
        · refine lv_iinc (v := nI (k + 1)) (lv' := [(2, .int (nI (k + 1))), (0, .ref (h 0)), (1, .int (nI i)), (3, .int (nI x))]) hx hb d_J_rankTokens_109 hl (k := 2) rfl (nI_1 _) (by decide) rfl (fun ls hl => ?_)
          refine lv_iinc (v := nI (x + 1)) (lv' := [(3, .int (nI (x + 1))), (2, .int (nI (k + 1))), (0, .ref (h 0)), (1, .int (nI i))]) hx hb d_J_rankTokens_112 hl (k := 3) rfl (nI_1 _) (by decide) rfl (fun ls hl => ?_)
          refine lv_goto (tgt := 68) hx hb d_J_rankTokens_115 (by decide) ?_
          exact ih2 _ _ _ _ (by omega) ⟨x + 1, k + 1, rfl, by omega, by rw [cnt_t (rkb_iff.mpr (Or.inl c2)), p2], hH, lv_sub hl [2, 3, 1, 0] rfl⟩
        · refine lv_aload_n hx hb d_J_rankTokens_89 rfl (lv_at hl 0 rfl) ?_
          refine jg_ct Z hH d_J_rankTokens_90 ?_
          refine lv_iload_n hx hb d_J_rankTokens_93 rfl (lv_at hl 3 rfl) ?_
          refine ja_ct Z hH d_J_rankTokens_94 (by omega) ?_
          refine zt (nI (frq n S x)) (g2 x c1) ?_
          refine lv_aload_n hx hb d_J_rankTokens_95 rfl (lv_at hl 0 rfl) ?_
          refine jg_ct Z hH d_J_rankTokens_96 ?_
          refine lv_iload_n hx hb d_J_rankTokens_99 rfl (lv_at hl 1 rfl) ?_
          refine ja_ct Z hH d_J_rankTokens_100 (by omega) ?_
          refine zt (nI (frq n S i)) (g2 i c) ?_
          refine zn_icmp_ne (tgt := 112) hx hb d_J_rankTokens_101 (by decide) (by omega) (by omega) (fun c3 => ?_) (fun c3 => ?_)
          · refine lv_iinc (v := nI (x + 1)) (lv' := [(3, .int (nI (x + 1))), (0, .ref (h 0)), (1, .int (nI i)), (2, .int (nI k))]) hx hb d_J_rankTokens_112 hl (k := 3) rfl (nI_1 _) (by decide) rfl (fun ls hl => ?_)
            refine lv_goto (tgt := 68) hx hb d_J_rankTokens_115 (by decide) ?_
            exact ih2 _ _ _ _ (by omega) ⟨x + 1, k, rfl, by omega, by rw [cnt_f (rkb_f (by omega)), p2], hH, lv_sub hl [1, 2, 3, 0] rfl⟩
          · refine lv_iload_n hx hb d_J_rankTokens_104 rfl (lv_at hl 3 rfl) ?_
            refine lv_iload_n hx hb d_J_rankTokens_105 rfl (lv_at hl 1 rfl) ?_
            refine zn_icmp_ge (tgt := 112) hx hb d_J_rankTokens_106 (by decide) (by omega) (by omega) (fun c4 => ?_) (fun c4 => ?_)
            · refine lv_iinc (v := nI (x + 1)) (lv' := [(3, .int (nI (x + 1))), (0, .ref (h 0)), (1, .int (nI i)), (2, .int (nI k))]) hx hb d_J_rankTokens_112 hl (k := 3) rfl (nI_1 _) (by decide) rfl (fun ls hl => ?_)
              refine lv_goto (tgt := 68) hx hb d_J_rankTokens_115 (by decide) ?_
              exact ih2 _ _ _ _ (by omega) ⟨x + 1, k, rfl, by omega, by rw [cnt_f (rkb_f (by omega)), p2], hH, lv_sub hl [1, 2, 3, 0] rfl⟩
            · refine lv_iinc (v := nI (k + 1)) (lv' := [(2, .int (nI (k + 1))), (0, .ref (h 0)), (1, .int (nI i)), (3, .int (nI x))]) hx hb d_J_rankTokens_109 hl (k := 2) rfl (nI_1 _) (by decide) rfl (fun ls hl => ?_)
              refine lv_iinc (v := nI (x + 1)) (lv' := [(3, .int (nI (x + 1))), (2, .int (nI (k + 1))), (0, .ref (h 0)), (1, .int (nI i))]) hx hb d_J_rankTokens_112 hl (k := 3) rfl (nI_1 _) (by decide) rfl (fun ls hl => ?_)
              refine lv_goto (tgt := 68) hx hb d_J_rankTokens_115 (by decide) ?_
              exact ih2 _ _ _ _ (by omega) ⟨x + 1, k + 1, rfl, by omega, by rw [cnt_t (rkb_iff.mpr (Or.inr ⟨c3, c4⟩)), p2], hH, lv_sub hl [2, 3, 1, 0] rfl⟩
  · refine lv_aload_n hx hb d_J_rankTokens_8 rfl (lv_at hl 0 rfl) ?_
    refine jg_ct Z hH d_J_rankTokens_9 ?_
    refine lv_iload_n hx hb d_J_rankTokens_12 rfl (lv_at hl 1 rfl) ?_
    refine lv_iconst (v := nI 0) hx hb d_J_rankTokens_13 (by decide) ?_
    refine js_ct Z hH d_J_rankTokens_14 (by omega) (fun H locs hH => ?_)
    refine lv_iconst (v := nI 0) hx hb d_J_rankTokens_15 (by decide) ?_
    refine lv_istore_n (lv' := [(2, .int (nI 0)), (0, .ref (h 0)), (1, .int (nI i))]) hx hb d_J_rankTokens_16 rfl hl (by decide) rfl (fun ls hl => ?_)
    refine w_loop (pc := 17) (fun n_ H locs ls => ∃ (r : Nat) (ct3 : Nat → Int32), n_ = 20 - r ∧ r ≤ n ∧ (∀ x, x < i → ct3 x = nI (frq n S x)) ∧ ct3 i = nI (cnt (fun r => S r i) r) ∧ zH D A s.heap (jw h cI (mk, sz, rk, ro, ct3, ix, rw, pa, d, ds, nI n, tp, bo, cu)) H locs ∧ lv_has ls 4 [(0, .ref (h 0)), (1, .int (nI i)), (2, .int (nI r))]) ?_ _ _ _ _ ⟨0, (upd ct2 i (nI 0)), rfl, by omega, fun x hx => by rw [pk_un (by omega)]; exact g2 x hx, by rw [pk_us]; rfl, hH, lv_sub hl [1, 2, 0] rfl⟩
    rintro _ H locs ls ⟨r, ct3, rfl, k1, k2, k3, hH, hl⟩ ih1
    refine lv_iload_n hx hb d_J_rankTokens_17 rfl (lv_at hl 2 rfl) ?_
    refine lv_aload_n hx hb d_J_rankTokens_18 rfl (lv_at hl 0 rfl) ?_
    refine jg_cn Z hH d_J_rankTokens_19 ?_
    refine zn_icmp_ge (tgt := 50) hx hb d_J_rankTokens_22 (by decide) (by omega) (by omega) (fun c1 => ?_) (fun c1 => ?_)
    · refine lv_iinc (v := nI (i + 1)) (lv' := [(1, .int (nI (i + 1))), (0, .ref (h 0)), (2, .int (nI r))]) hx hb d_J_rankTokens_50 hl (k := 1) rfl (nI_1 _) (by decide) rfl (fun ls hl => ?_)
      refine lv_goto (tgt := 2) hx hb d_J_rankTokens_53 (by decide) ?_
      refine ih0 _ _ _ _ (by omega) ⟨i + 1, ct3, rfl, by omega, fun x hx => ?_, hH, lv_sub hl [1, 0] rfl⟩
      by_cases q : x = i
      · subst q
        rw [k3, show r = n by omega]
        rfl
      · exact k2 x (by omega)
    · refine lv_aload_n hx hb d_J_rankTokens_25 rfl (lv_at hl 0 rfl) ?_
      refine jg_ct Z hH d_J_rankTokens_26 ?_
      refine lv_iload_n hx hb d_J_rankTokens_29 rfl (lv_at hl 1 rfl) ?_
      refine lv_dup2_11 hx hb d_J_rankTokens_30 rfl rfl ?_
      refine ja_ct Z hH d_J_rankTokens_31 (by omega) ?_
      refine zt (nI (cnt (fun r => S r i) r)) (k3) ?_
      refine lv_aload_n hx hb d_J_rankTokens_32 rfl (lv_at hl 0 rfl) ?_
      refine jg_mk Z hH d_J_rankTokens_33 ?_
      refine lv_iload_n hx hb d_J_rankTokens_36 rfl (lv_at hl 2 rfl) ?_
      refine ja_mk Z hH d_J_rankTokens_37 (by omega) ?_
      refine lv_iload_n hx hb d_J_rankTokens_38 rfl (lv_at hl 1 rfl) ?_
      refine lv_ishr hx hb d_J_rankTokens_39 ?_
      refine lv_iconst (v := nI 1) hx hb d_J_rankTokens_40 (by decide) ?_
      refine lv_iand hx hb d_J_rankTokens_41 ?_
      refine zt (nI (bt (mk r) i).toNat) (z_bit _ (by omega)) ?_
      refine zn_iadd hx hb d_J_rankTokens_42 ?_
      refine js_ct Z hH d_J_rankTokens_43 (by omega) (fun H locs hH => ?_)
      refine lv_iinc (v := nI (r + 1)) (lv' := [(2, .int (nI (r + 1))), (0, .ref (h 0)), (1, .int (nI i))]) hx hb d_J_rankTokens_44 hl (k := 2) rfl (nI_1 _) (by decide) rfl (fun ls hl => ?_)
      refine lv_goto (tgt := 17) hx hb d_J_rankTokens_47 (by decide) ?_
      exact ih1 _ _ _ _ (by omega) ⟨r + 1, (upd ct3 i (nI ((cnt (fun r => S r i) r) + ((bt (mk r) i).toNat)))), rfl, by omega, fun x hx => by rw [pk_un (by omega)]; exact k2 x hx, by rw [pk_us, cnt_s, msk_at (hm r c1) c], hH, lv_sub hl [1, 2, 0] rfl⟩
set_option maxHeartbeats 4000000 in
set_option maxRecDepth 100000 in
/-- spell(line, set): the ranks of the set, rising, in that line -/
theorem c_J_spell {l : Launch} {D : va_G} {cI cZ : ClassId} {h : Nat → Nat} {mk sz rk ro ct ix rw pa : Nat → Int32} {d ds cn tp bo cu : Int32} {L : Nat} {x : Int32} {T : Nat → Bool} {ρ : Nat → Nat} (hL : L ≤ 20) (hT : msk x T) (h12 : cnt T 30 ≤ 12) (hro : rankOk ρ ro) : zMv l y_J_spell b_J_spell 6 none { frames := 0, cells := 0, slots := 0, locals := 0 } D cI cZ (jw h cI) [.ref (h 0), .int (nI L), .int x] (mk, sz, rk, ro, ct, ix, rw, pa, d, ds, cn, tp, bo, cu) (fun σ' => ∃ rk' : Nat → Int32, σ' = (mk, sz, rk', ro, ct, ix, rw, pa, d, ds, cn, tp, bo, cu) ∧ (∀ i, i < 12 * L ∨ 12 * L + 12 ≤ i → rk' i = rk i) ∧ ∃ f : Nat → Nat, lineOk ρ T f ∧ ∀ k, k < cnt T 30 → rk' (12 * L + k) = nI (f k)) := by
  refine zMv.of R_J rfl (by decide) (Nat.le_of_ble_eq_true rfl) ?_
  intro p e s m args below meth c A ls Z hr hlk hA hH hl
  obtain ⟨hx, hb, hml, hown, hts, hK⟩ := id Z
  have hl : lv_has ls 6 [(0, .ref (h 0)), (1, .int (nI L)), (2, .int x)] := hl
  refine lv_iconst (v := nI 0) hx hb d_J_spell_0 (by decide) ?_
  refine lv_istore_n (lv' := [(3, .int (nI 0)), (0, .ref (h 0)), (1, .int (nI L)), (2, .int x)]) hx hb d_J_spell_1 rfl hl (by decide) rfl (fun ls hl => ?_)
  refine lv_iconst (v := nI 0) hx hb d_J_spell_2 (by decide) ?_
  refine lv_istore (lv' := [(4, .int (nI 0)), (3, .int (nI 0)), (0, .ref (h 0)), (1, .int (nI L)), (2, .int x)]) hx hb d_J_spell_3 hl (by decide) rfl (fun ls hl => ?_)
  refine w_loop (pc := 5) (fun n_ H locs ls => ∃ (i : Nat) (z : Nat) (f : Nat → Nat) (rk2 : Nat → Int32), n_ = 30 - i ∧ i ≤ 30 ∧ z = cnt T i ∧ lineP ρ T f i ∧ (∀ k, k < z → rk2 (12 * L + k) = nI (f k)) ∧ (∀ y, y < 12 * L ∨ 12 * L + 12 ≤ y → rk2 y = rk y) ∧ zH D A s.heap (jw h cI (mk, sz, rk2, ro, ct, ix, rw, pa, d, ds, cn, tp, bo, cu)) H locs ∧ lv_has ls 6 [(0, .ref (h 0)), (1, .int (nI L)), (2, .int x), (3, .int (nI z)), (4, .int (nI i))]) ?_ _ _ _ _ ⟨0, 0, (fun _ => 0), rk, rfl, by omega, rfl, lineP_0 _ _ _, fun k hk => by omega, fun _ _ => rfl, hH, lv_sub hl [2, 3, 4, 1, 0] rfl⟩
  rintro _ H locs ls ⟨i, z, f, rk2, rfl, g1, g2, g3, g4, g5, hH, hl⟩ ih0
  refine lv_iload hx hb d_J_spell_5 (lv_at hl 4 rfl) ?_
  refine lv_bipush (v := nI 30) hx hb d_J_spell_7 (by decide) ?_
  refine zn_icmp_ge (tgt := 120) hx hb d_J_spell_9 (by decide) (by omega) (by omega) (fun c => ?_) (fun c => ?_)
  · refine zret_v Z hr hlk (mk, sz, rk2, ro, ct, ix, rw, pa, d, ds, cn, tp, bo, cu) hH d_J_spell_120 ?_
    have ei : i = 30 := by omega
    subst ei
    exact ⟨_, rfl, g5, f, g3, fun k hk => g4 k (by omega)⟩
  · have hz := cnt_mono T g1
    have hbt := msk_at hT c
    refine lv_iload_n hx hb d_J_spell_12 rfl (lv_at hl 2 rfl) ?_
    refine lv_iload hx hb d_J_spell_13 (lv_at hl 4 rfl) ?_
    refine lv_ishr hx hb d_J_spell_15 ?_
    refine lv_iconst (v := nI 1) hx hb d_J_spell_16 (by decide) ?_
    refine lv_iand hx hb d_J_spell_17 ?_
    refine zt (nI (bt x i).toNat) (z_bit _ (by omega)) ?_
    refine lv_iconst (v := nI 1) hx hb d_J_spell_18 (by decide) ?_
    refine zn_icmp_ne (tgt := 114) hx hb d_J_spell_19 (by decide) (by have := tn_le (bt x i); omega) (by omega) (fun c1 => ?_) (fun c1 => ?_)
    · refine lv_iinc (v := nI (i + 1)) (lv' := [(4, .int (nI (i + 1))), (0, .ref (h 0)), (1, .int (nI L)), (2, .int x), (3, .int (nI z))]) hx hb d_J_spell_114 hl (k := 4) rfl (nI_1 _) (by decide) rfl (fun ls hl => ?_)
      refine lv_goto (tgt := 5) hx hb d_J_spell_117 (by decide) ?_
      exact ih0 _ _ _ _ (by omega) ⟨i + 1, z, f, rk2, rfl, by omega, by rw [cnt_f (by rw [← hbt]; exact tn_n1.mp c1), g2], lineP_skip g3 (by rw [← hbt]; exact tn_n1.mp c1), g4, g5, hH, lv_sub hl [1, 2, 3, 4, 0] rfl⟩
    · have hti : T i = true := by rw [← hbt]; exact tn_1.mp c1
      have hz1 := cnt_lt hti c
      have hfb := lineP_bd g3 (fun y hy => (hro.1 y (by omega)).2)
      have hfn := lineP_new g3 (fun y hy e => by have := hro.2 y i (by omega) c e; omega)
      have hri := hro.1 i c
      refine lv_iload_n hx hb d_J_spell_22 rfl (lv_at hl 3 rfl) ?_
      refine lv_bipush (v := nI 12) hx hb d_J_spell_23 (by decide) ?_
      refine zn_icmp_ge (tgt := 114) hx hb d_J_spell_25 (by decide) (by omega) (by omega) (fun c2 => ?_) (fun c2 => ?_)
      · omega
      · refine lv_iload_n hx hb d_J_spell_28 rfl (lv_at hl 3 rfl) ?_
        refine lv_istore (lv' := [(5, .int (nI z)), (0, .ref (h 0)), (1, .int (nI L)), (2, .int x), (3, .int (nI z)), (4, .int (nI i))]) hx hb d_J_spell_29 hl (by decide) rfl (fun ls hl => ?_)
        refine w_loop (pc := 31) (fun n_ H locs ls => ∃ (a : Nat) (rk3 : Nat → Int32), n_ = 2 * a ∧ a ≤ z ∧ (∀ k, k < a → rk3 (12 * L + k) = nI (f k)) ∧ (∀ k, a < k → k ≤ z → rk3 (12 * L + k) = nI (f (k - 1))) ∧ (∀ k, a ≤ k → k < z → ρ i < f k) ∧ (∀ y, y < 12 * L ∨ 12 * L + 12 ≤ y → rk3 y = rk y) ∧ zH D A s.heap (jw h cI (mk, sz, rk3, ro, ct, ix, rw, pa, d, ds, cn, tp, bo, cu)) H locs ∧ lv_has ls 6 [(0, .ref (h 0)), (1, .int (nI L)), (2, .int x), (3, .int (nI z)), (4, .int (nI i)), (5, .int (nI a))]) ?_ _ _ _ _ ⟨z, rk2, rfl, Nat.le_refl _, g4, fun k h1 h2 => by omega, fun k h1 h2 => by omega, g5, hH, lv_sub hl [1, 2, 3, 4, 5, 0] rfl⟩
        rintro _ H locs ls ⟨a, rk3, rfl, k1, k2, k3, k4, k5, hH, hl⟩ ih1
        refine lv_iload hx hb d_J_spell_31 (lv_at hl 5 rfl) ?_
        refine zn_if_le (tgt := 92) hx hb d_J_spell_33 (by decide) (by omega) (fun c3 => ?_) (fun c3 => ?_)
        · have hlo : ∀ k, k < a → f k < ρ i := fun k hk => by omega
          refine lv_aload_n hx hb d_J_spell_92 rfl (lv_at hl 0 rfl) ?_
          refine jg_rk Z hH d_J_spell_93 ?_
          refine lv_bipush (v := nI 12) hx hb d_J_spell_96 (by decide) ?_
          refine lv_iload_n hx hb d_J_spell_98 rfl (lv_at hl 1 rfl) ?_
          refine zn_imul hx hb d_J_spell_99 ?_
          refine lv_iload hx hb d_J_spell_100 (lv_at hl 5 rfl) ?_
          refine zn_iadd hx hb d_J_spell_102 ?_
          refine lv_aload_n hx hb d_J_spell_103 rfl (lv_at hl 0 rfl) ?_
          refine jg_ro Z hH d_J_spell_104 ?_
          refine lv_iload hx hb d_J_spell_107 (lv_at hl 4 rfl) ?_
          refine ja_ro Z hH d_J_spell_109 (by omega) ?_
          refine zt (nI (ρ i)) (hri.1) ?_
          refine js_rk Z hH d_J_spell_110 (by omega) (fun H locs hH => ?_)
          refine lv_iinc (v := nI (z + 1)) (lv' := [(3, .int (nI (z + 1))), (0, .ref (h 0)), (1, .int (nI L)), (2, .int x), (4, .int (nI i)), (5, .int (nI a))]) hx hb d_J_spell_111 hl (k := 3) rfl (nI_1 _) (by decide) rfl (fun ls hl => ?_)
          refine lv_iinc (v := nI (i + 1)) (lv' := [(4, .int (nI (i + 1))), (3, .int (nI (z + 1))), (0, .ref (h 0)), (1, .int (nI L)), (2, .int x), (5, .int (nI a))]) hx hb d_J_spell_114 hl (k := 4) rfl (nI_1 _) (by decide) rfl (fun ls hl => ?_)
          refine lv_goto (tgt := 5) hx hb d_J_spell_117 (by decide) ?_
          refine ih0 _ _ _ _ (by omega) ⟨i + 1, z + 1, insf f a (ρ i), (upd rk3 ((12 * L) + a) (nI (ρ i))), rfl, by omega, by rw [cnt_t hti, g2], lineP_ins g3 hti (by omega) hlo (fun k h1 h2 => k4 k h1 (by omega)), fun k hk => ?_, fun y hy => by rw [pk_un (by omega)]; exact k5 y hy, hH, lv_sub hl [2, 3, 4, 1, 0] rfl⟩
          rcases Nat.lt_trichotomy k a with q | q | q
          · rw [pk_un (by omega), insf_lo q]
            exact k2 k q
          · subst q
            rw [pk_us, insf_at]
          · rw [pk_un (by omega), insf_hi q]
            exact k3 k q (by omega)
        · have hrd : rk3 (12 * L + a - 1) = nI (f (a - 1)) := by rw [show 12 * L + a - 1 = 12 * L + (a - 1) by omega]; exact k2 (a - 1) (by omega)
          have hfa := hfb (a - 1) (by omega)
          refine lv_aload_n hx hb d_J_spell_36 rfl (lv_at hl 0 rfl) ?_
          refine jg_rk Z hH d_J_spell_37 ?_
          refine lv_bipush (v := nI 12) hx hb d_J_spell_40 (by decide) ?_
          refine lv_iload_n hx hb d_J_spell_42 rfl (lv_at hl 1 rfl) ?_
          refine zn_imul hx hb d_J_spell_43 ?_
          refine lv_iload hx hb d_J_spell_44 (lv_at hl 5 rfl) ?_
          refine zn_iadd hx hb d_J_spell_46 ?_
          refine lv_iconst (v := nI 1) hx hb d_J_spell_47 (by decide) ?_
          refine zn_isub hx hb d_J_spell_48 (by omega) ?_
          refine ja_rk Z hH d_J_spell_49 (by omega) ?_
          refine zt (nI (f (a - 1))) (hrd) ?_
          refine lv_aload_n hx hb d_J_spell_50 rfl (lv_at hl 0 rfl) ?_
          refine jg_ro Z hH d_J_spell_51 ?_
          refine lv_iload hx hb d_J_spell_54 (lv_at hl 4 rfl) ?_
          refine ja_ro Z hH d_J_spell_56 (by omega) ?_
          refine zt (nI (ρ i)) (hri.1) ?_
          refine zn_icmp_le (tgt := 92) hx hb d_J_spell_57 (by decide) (by omega) (by omega) (fun c4 => ?_) (fun c4 => ?_)
          · have hlo : ∀ k, k < a → f k < ρ i := fun k hk => by have h1 := hfn (a - 1) (by omega); exact Nat.lt_of_le_of_lt (srt_le (f := f) (p := cnt T i) g3.1 (show k ≤ a - 1 by omega) (by omega)) (by omega)
            refine lv_aload_n hx hb d_J_spell_92 rfl (lv_at hl 0 rfl) ?_
            refine jg_rk Z hH d_J_spell_93 ?_
            refine lv_bipush (v := nI 12) hx hb d_J_spell_96 (by decide) ?_
            refine lv_iload_n hx hb d_J_spell_98 rfl (lv_at hl 1 rfl) ?_
            refine zn_imul hx hb d_J_spell_99 ?_
            refine lv_iload hx hb d_J_spell_100 (lv_at hl 5 rfl) ?_
            refine zn_iadd hx hb d_J_spell_102 ?_
            refine lv_aload_n hx hb d_J_spell_103 rfl (lv_at hl 0 rfl) ?_
            refine jg_ro Z hH d_J_spell_104 ?_
            refine lv_iload hx hb d_J_spell_107 (lv_at hl 4 rfl) ?_
            refine ja_ro Z hH d_J_spell_109 (by omega) ?_
            refine zt (nI (ρ i)) (hri.1) ?_
            refine js_rk Z hH d_J_spell_110 (by omega) (fun H locs hH => ?_)
            refine lv_iinc (v := nI (z + 1)) (lv' := [(3, .int (nI (z + 1))), (0, .ref (h 0)), (1, .int (nI L)), (2, .int x), (4, .int (nI i)), (5, .int (nI a))]) hx hb d_J_spell_111 hl (k := 3) rfl (nI_1 _) (by decide) rfl (fun ls hl => ?_)
            refine lv_iinc (v := nI (i + 1)) (lv' := [(4, .int (nI (i + 1))), (3, .int (nI (z + 1))), (0, .ref (h 0)), (1, .int (nI L)), (2, .int x), (5, .int (nI a))]) hx hb d_J_spell_114 hl (k := 4) rfl (nI_1 _) (by decide) rfl (fun ls hl => ?_)
            refine lv_goto (tgt := 5) hx hb d_J_spell_117 (by decide) ?_
            refine ih0 _ _ _ _ (by omega) ⟨i + 1, z + 1, insf f a (ρ i), (upd rk3 ((12 * L) + a) (nI (ρ i))), rfl, by omega, by rw [cnt_t hti, g2], lineP_ins g3 hti (by omega) hlo (fun k h1 h2 => k4 k h1 (by omega)), fun k hk => ?_, fun y hy => by rw [pk_un (by omega)]; exact k5 y hy, hH, lv_sub hl [2, 3, 4, 1, 0] rfl⟩
            rcases Nat.lt_trichotomy k a with q | q | q
            · rw [pk_un (by omega), insf_lo q]
              exact k2 k q
            · subst q
              rw [pk_us, insf_at]
            · rw [pk_un (by omega), insf_hi q]
              exact k3 k q (by omega)
          · refine lv_aload_n hx hb d_J_spell_60 rfl (lv_at hl 0 rfl) ?_
            refine jg_rk Z hH d_J_spell_61 ?_
            refine lv_bipush (v := nI 12) hx hb d_J_spell_64 (by decide) ?_
            refine lv_iload_n hx hb d_J_spell_66 rfl (lv_at hl 1 rfl) ?_
            refine zn_imul hx hb d_J_spell_67 ?_
            refine lv_iload hx hb d_J_spell_68 (lv_at hl 5 rfl) ?_
            refine zn_iadd hx hb d_J_spell_70 ?_
            refine lv_aload_n hx hb d_J_spell_71 rfl (lv_at hl 0 rfl) ?_
            refine jg_rk Z hH d_J_spell_72 ?_
            refine lv_bipush (v := nI 12) hx hb d_J_spell_75 (by decide) ?_
            refine lv_iload_n hx hb d_J_spell_77 rfl (lv_at hl 1 rfl) ?_
            refine zn_imul hx hb d_J_spell_78 ?_
            refine lv_iload hx hb d_J_spell_79 (lv_at hl 5 rfl) ?_
            refine zn_iadd hx hb d_J_spell_81 ?_
            refine lv_iconst (v := nI 1) hx hb d_J_spell_82 (by decide) ?_
            refine zn_isub hx hb d_J_spell_83 (by omega) ?_
            refine ja_rk Z hH d_J_spell_84 (by omega) ?_
            refine zt (nI (f (a - 1))) (hrd) ?_
            refine js_rk Z hH d_J_spell_85 (by omega) (fun H locs hH => ?_)
            refine lv_iinc (v := nI (a - 1)) (lv' := [(5, .int (nI (a - 1))), (0, .ref (h 0)), (1, .int (nI L)), (2, .int x), (3, .int (nI z)), (4, .int (nI i))]) hx hb d_J_spell_86 hl (k := 5) rfl (sb_m1 (by omega)) (by decide) rfl (fun ls hl => ?_)
            refine lv_goto (tgt := 31) hx hb d_J_spell_89 (by decide) ?_
            refine ih1 _ _ _ _ (by omega) ⟨a - 1, (upd rk3 ((12 * L) + a) (nI (f (a - 1)))), rfl, by omega, fun k hk => by rw [pk_un (by omega)]; exact k2 k (by omega), fun k h1 h2 => ?_, fun k h1 h2 => ?_, fun y hy => by rw [pk_un (by omega)]; exact k5 y hy, hH, lv_sub hl [1, 2, 3, 4, 5, 0] rfl⟩
            · by_cases q : k = a
              · subst q
                rw [pk_us]
              · rw [pk_un (by omega)]
                exact k3 k (by omega) h2
            · by_cases q : k = a - 1
              · subst q
                exact c4
              · exact k4 k (by omega) h2
set_option maxHeartbeats 4000000 in
set_option maxRecDepth 100000 in
/-- prefixLength(size) -/
theorem c_J_prefixLength {l : Launch} {D : va_G} {cI cZ : ClassId} {h : Nat → Nat} {mk sz rk ro ct ix rw pa : Nat → Int32} {d ds cn cu : Int32} {t u p : Nat} (hth : thOk t u) (hp : p ≤ 12) : zMi l y_J_prefixLength b_J_prefixLength 3 (some .int) { frames := 0, cells := 0, slots := 0, locals := 0 } D cI cZ (jw h cI) [.ref (h 0), .int (nI p)] (mk, sz, rk, ro, ct, ix, rw, pa, d, ds, cn, nI t, nI u, cu) (fun r σ' => σ' = (mk, sz, rk, ro, ct, ix, rw, pa, d, ds, cn, nI t, nI u, cu) ∧ r = nI (plen t u p)) := by
  refine zMi.of R_J rfl (by decide) (Nat.le_of_ble_eq_true rfl) ?_
  intro p_ e s m args below meth c A ls Z hr hlk hA hH hl
  obtain ⟨hx, hb, hml, hown, hts, hK⟩ := id Z
  have hl : lv_has ls 3 [(0, .ref (h 0)), (1, .int (nI p))] := hl
  obtain ⟨h1, h2, h3⟩ := id hth
  have hb1 : t * p ≤ 12 * 12 := mul_bd (by omega) hp
  have hb2 := plen_need (p := p) hth
  refine lv_aload_n hx hb d_J_prefixLength_0 rfl (lv_at hl 0 rfl) ?_
  refine jg_tp Z hH d_J_prefixLength_1 ?_
  refine lv_iload_n hx hb d_J_prefixLength_4 rfl (lv_at hl 1 rfl) ?_
  refine zn_imul hx hb d_J_prefixLength_5 ?_
  refine lv_aload_n hx hb d_J_prefixLength_6 rfl (lv_at hl 0 rfl) ?_
  refine jg_bo Z hH d_J_prefixLength_7 ?_
  refine zn_iadd hx hb d_J_prefixLength_10 ?_
  refine lv_iconst (v := nI 1) hx hb d_J_prefixLength_11 (by decide) ?_
  refine zn_isub hx hb d_J_prefixLength_12 (by omega) ?_
  refine lv_aload_n hx hb d_J_prefixLength_13 rfl (lv_at hl 0 rfl) ?_
  refine jg_bo Z hH d_J_prefixLength_14 ?_
  refine zn_if_le (tgt := 27) hx hb d_J_prefixLength_17 (by decide) (by omega) (fun c => ?_) (fun c => ?_)
  · omega
  · refine lv_aload_n hx hb d_J_prefixLength_20 rfl (lv_at hl 0 rfl) ?_
    refine jg_bo Z hH d_J_prefixLength_21 ?_
    refine lv_goto (tgt := 28) hx hb d_J_prefixLength_24 (by decide) ?_
    refine zn_idiv hx hb d_J_prefixLength_28 (by omega) (by omega) (by omega) ?_
    refine lv_istore_n (lv' := [(2, .int (nI ((((t * p) + u) - 1) / u))), (0, .ref (h 0)), (1, .int (nI p))]) hx hb d_J_prefixLength_29 rfl hl (by decide) rfl (fun ls hl => ?_)
    refine lv_iload_n hx hb d_J_prefixLength_30 rfl (lv_at hl 2 rfl) ?_
    refine lv_iload_n hx hb d_J_prefixLength_31 rfl (lv_at hl 0 rfl) ?_
    refine zn_isub hx hb d_J_prefixLength_32 (by omega) ?_
    refine lv_iconst (v := nI 1) hx hb d_J_prefixLength_33 (by decide) ?_
    refine zn_iadd hx hb d_J_prefixLength_34 ?_
    refine zret_i Z hr hlk (mk, sz, rk, ro, ct, ix, rw, pa, d, ds, cn, nI t, nI u, cu) hH d_J_prefixLength_35 ?_
    exact ⟨rfl, rfl⟩
set_option maxHeartbeats 4000000 in
set_option maxRecDepth 100000 in
/-- verify(line, size, b): whether the two lines share enough -/
theorem c_J_verify {l : Launch} {D : va_G} {cI cZ : ClassId} {h : Nat → Nat} {mk sz rk ro ct ix rw pa : Nat → Int32} {d ds cn cu : Int32} {t u L p q b : Nat} {f g : Nat → Nat} (hth : thOk t u) (hL : L ≤ 20) (hp : p ≤ 12) (hb20 : b < 20) (hq : q ≤ 12) (hsz : sz b = nI q) (hf : ∀ k, k < p → rk (12 * L + k) = nI (f k) ∧ f k < 30) (hg : ∀ k, k < q → rk (12 * b + k) = nI (g k) ∧ g k < 30) (sf : srt f p) (sg : srt g q) : zMi l y_J_verify b_J_verify 13 (some .boolean) { frames := 0, cells := 0, slots := 0, locals := 0 } D cI cZ (jw h cI) [.ref (h 0), .int (nI L), .int (nI p), .int (nI b)] (mk, sz, rk, ro, ct, ix, rw, pa, d, ds, cn, nI t, nI u, cu) (fun r σ' => σ' = (mk, sz, rk, ro, ct, ix, rw, pa, d, ds, cn, nI t, nI u, cu) ∧ r = nI (decide (need t u p q ≤ cnt (mem2 f g q) p)).toNat) := by
  refine zMi.of R_J rfl (by decide) (Nat.le_of_ble_eq_true rfl) ?_
  intro p_ e s m args below meth c A ls Z hr hlk hA hH hl
  obtain ⟨hx, hb, hml, hown, hts, hK⟩ := id Z
  have hl : lv_has ls 13 [(0, .ref (h 0)), (1, .int (nI L)), (2, .int (nI p)), (3, .int (nI b))] := hl
  obtain ⟨h1, h2, h3⟩ := id hth
  have hb1 : t * (p + q) ≤ 12 * 24 := mul_bd (by omega) (by omega)
  refine lv_aload_n hx hb d_J_verify_0 rfl (lv_at hl 0 rfl) ?_
  refine jg_tp Z hH d_J_verify_1 ?_
  refine lv_aload_n hx hb d_J_verify_4 rfl (lv_at hl 0 rfl) ?_
  refine jg_bo Z hH d_J_verify_5 ?_
  refine zn_iadd hx hb d_J_verify_8 ?_
  refine lv_istore (lv' := [(4, .int (nI (t + u))), (0, .ref (h 0)), (1, .int (nI L)), (2, .int (nI p)), (3, .int (nI b))]) hx hb d_J_verify_9 hl (by decide) rfl (fun ls hl => ?_)
  refine lv_aload_n hx hb d_J_verify_11 rfl (lv_at hl 1 rfl) ?_
  refine jg_tp Z hH d_J_verify_12 ?_
  refine lv_iload_n hx hb d_J_verify_15 rfl (lv_at hl 3 rfl) ?_
  refine lv_aload_n hx hb d_J_verify_16 rfl (lv_at hl 1 rfl) ?_
  refine jg_sz Z hH d_J_verify_17 ?_
  refine lv_iload_n hx hb d_J_verify_20 rfl (lv_at hl 4 rfl) ?_
  refine ja_sz Z hH d_J_verify_21 (by omega) ?_
  refine zt (nI q) (hsz) ?_
  refine zn_iadd hx hb d_J_verify_22 ?_
  refine zn_imul hx hb d_J_verify_23 ?_
  refine lv_iload hx hb d_J_verify_24 (lv_at hl 0 rfl) ?_
  refine zn_iadd hx hb d_J_verify_26 ?_
  refine lv_iconst (v := nI 1) hx hb d_J_verify_27 (by decide) ?_
  refine zn_isub hx hb d_J_verify_28 (by omega) ?_
  refine lv_iload hx hb d_J_verify_29 (lv_at hl 0 rfl) ?_
  refine zn_if_le (tgt := 39) hx hb d_J_verify_31 (by decide) (by omega) (fun c => ?_) (fun c => ?_)
  · omega
  · refine lv_iload hx hb d_J_verify_34 (lv_at hl 0 rfl) ?_
    refine lv_goto (tgt := 40) hx hb d_J_verify_36 (by decide) ?_
    refine zn_idiv hx hb d_J_verify_40 (by omega) (by omega) (by omega) ?_
    refine zt (nI (need t u p q)) (rfl) ?_
    have hnd : need t u p q ≤ 24 := (ceil_le (by omega)).mpr (by have := Nat.mul_le_mul_left (t + u) (show p + q ≤ 24 by omega); have := Nat.mul_le_mul_right (p + q) (show t ≤ t + u by omega); omega)
    refine lv_istore (lv' := [(5, .int (nI (need t u p q))), (4, .int (nI (t + u))), (0, .ref (h 0)), (1, .int (nI L)), (2, .int (nI p)), (3, .int (nI b))]) hx hb d_J_verify_41 hl (by decide) rfl (fun ls hl => ?_)
    refine lv_iconst (v := nI 0) hx hb d_J_verify_43 (by decide) ?_
    refine lv_istore (lv' := [(6, .int (nI 0)), (5, .int (nI (need t u p q))), (4, .int (nI (t + u))), (0, .ref (h 0)), (1, .int (nI L)), (2, .int (nI p)), (3, .int (nI b))]) hx hb d_J_verify_44 hl (by decide) rfl (fun ls hl => ?_)
    refine lv_iconst (v := nI 0) hx hb d_J_verify_46 (by decide) ?_
    refine lv_istore (lv' := [(7, .int (nI 0)), (6, .int (nI 0)), (5, .int (nI (need t u p q))), (4, .int (nI (t + u))), (0, .ref (h 0)), (1, .int (nI L)), (2, .int (nI p)), (3, .int (nI b))]) hx hb d_J_verify_47 hl (by decide) rfl (fun ls hl => ?_)
    refine lv_iconst (v := nI 0) hx hb d_J_verify_49 (by decide) ?_
    refine lv_istore (lv' := [(8, .int (nI 0)), (7, .int (nI 0)), (6, .int (nI 0)), (5, .int (nI (need t u p q))), (4, .int (nI (t + u))), (0, .ref (h 0)), (1, .int (nI L)), (2, .int (nI p)), (3, .int (nI b))]) hx hb d_J_verify_50 hl (by decide) rfl (fun ls hl => ?_)
    refine lv_iconst (v := nI 0) hx hb d_J_verify_52 (by decide) ?_
    refine lv_istore (lv' := [(9, .int (nI 0)), (8, .int (nI 0)), (7, .int (nI 0)), (6, .int (nI 0)), (5, .int (nI (need t u p q))), (4, .int (nI (t + u))), (0, .ref (h 0)), (1, .int (nI L)), (2, .int (nI p)), (3, .int (nI b))]) hx hb d_J_verify_53 hl (by decide) rfl (fun ls hl => ?_)
    refine w_loop (pc := 55) (fun n_ H locs ls => ∃ (i : Nat) (j : Nat) (k : Nat) (sh : Nat), n_ = p + q - i - j ∧ i ≤ p ∧ j ≤ q ∧ k ≤ i + j ∧ sh = cnt (mem2 f g q) i ∧ (∀ j' i', j' < j → i ≤ i' → i' < p → g j' < f i') ∧ zH D A s.heap (jw h cI (mk, sz, rk, ro, ct, ix, rw, pa, d, ds, cn, nI t, nI u, cu)) H locs ∧ lv_has ls 13 [(0, .ref (h 0)), (1, .int (nI L)), (2, .int (nI p)), (3, .int (nI b)), (5, .int (nI (need t u p q))), (6, .int (nI i)), (7, .int (nI j)), (8, .int (nI sh)), (9, .int (nI k))]) ?_ _ _ _ _ ⟨0, 0, 0, 0, rfl, by omega, by omega, by omega, rfl, fun j' i' h1 => by omega, hH, lv_sub hl [6, 7, 8, 9, 4, 3, 2, 1, 0] rfl⟩
    rintro _ H locs ls ⟨i, j, k, sh, rfl, g1, g2, g3, g4, g5, hH, hl⟩ ih0
    have hsh := cnt_le (mem2 f g q) i
    refine lv_iload hx hb d_J_verify_55 (lv_at hl 8 rfl) ?_
    refine lv_bipush (v := nI 24) hx hb d_J_verify_57 (by decide) ?_
    refine zn_icmp_ge (tgt := 203) hx hb d_J_verify_59 (by decide) (by omega) (by omega) (fun c0 => ?_) (fun c0 => ?_)
    · have htot : cnt (mem2 f g q) p = sh := by rw [g4, show i = p by omega]
      refine lv_iload hx hb d_J_verify_203 (lv_at hl 7 rfl) ?_
      refine lv_iload hx hb d_J_verify_205 (lv_at hl 4 rfl) ?_
      refine zn_icmp_lt (tgt := 214) hx hb d_J_verify_207 (by decide) (by omega) (by omega) (fun c9 => ?_) (fun c9 => ?_)
      · refine lv_iconst (v := nI 0) hx hb d_J_verify_214 (by decide) ?_
        refine zret_z Z hr hlk (mk, sz, rk, ro, ct, ix, rw, pa, d, ds, cn, nI t, nI u, cu) hH d_J_verify_215 rfl ?_
        exact ⟨rfl, by rw [decide_eq_false (by omega)]; rfl⟩
      · refine lv_iconst (v := nI 1) hx hb d_J_verify_210 (by decide) ?_
        refine lv_goto (tgt := 215) hx hb d_J_verify_211 (by decide) ?_
        refine zret_z Z hr hlk (mk, sz, rk, ro, ct, ix, rw, pa, d, ds, cn, nI t, nI u, cu) hH d_J_verify_215 rfl ?_
        exact ⟨rfl, by rw [decide_eq_true (by omega)]; rfl⟩
    · refine lv_iload hx hb d_J_verify_62 (lv_at hl 5 rfl) ?_
      refine lv_iload_n hx hb d_J_verify_64 rfl (lv_at hl 2 rfl) ?_
      refine zn_icmp_ge (tgt := 203) hx hb d_J_verify_65 (by decide) (by omega) (by omega) (fun c1 => ?_) (fun c1 => ?_)
      · have htot : cnt (mem2 f g q) p = sh := by rw [g4, show i = p by omega]
        refine lv_iload hx hb d_J_verify_203 (lv_at hl 7 rfl) ?_
        refine lv_iload hx hb d_J_verify_205 (lv_at hl 4 rfl) ?_
        refine zn_icmp_lt (tgt := 214) hx hb d_J_verify_207 (by decide) (by omega) (by omega) (fun c9 => ?_) (fun c9 => ?_)
        · refine lv_iconst (v := nI 0) hx hb d_J_verify_214 (by decide) ?_
          refine zret_z Z hr hlk (mk, sz, rk, ro, ct, ix, rw, pa, d, ds, cn, nI t, nI u, cu) hH d_J_verify_215 rfl ?_
          exact ⟨rfl, by rw [decide_eq_false (by omega)]; rfl⟩
        · refine lv_iconst (v := nI 1) hx hb d_J_verify_210 (by decide) ?_
          refine lv_goto (tgt := 215) hx hb d_J_verify_211 (by decide) ?_
          refine zret_z Z hr hlk (mk, sz, rk, ro, ct, ix, rw, pa, d, ds, cn, nI t, nI u, cu) hH d_J_verify_215 rfl ?_
          exact ⟨rfl, by rw [decide_eq_true (by omega)]; rfl⟩
      · refine lv_iload hx hb d_J_verify_68 (lv_at hl 6 rfl) ?_
        refine lv_aload_n hx hb d_J_verify_70 rfl (lv_at hl 0 rfl) ?_
        refine jg_sz Z hH d_J_verify_71 ?_
        refine lv_iload_n hx hb d_J_verify_74 rfl (lv_at hl 3 rfl) ?_
        refine ja_sz Z hH d_J_verify_75 (by omega) ?_
        refine zt (nI q) (hsz) ?_
        refine zn_icmp_ge (tgt := 203) hx hb d_J_verify_76 (by decide) (by omega) (by omega) (fun c2 => ?_) (fun c2 => ?_)
        · have htot : cnt (mem2 f g q) p = sh := by rw [g4]; exact mg_end sf g1 (fun j' i' h1 h2 h3 => g5 j' i' (by omega) h2 h3)
          refine lv_iload hx hb d_J_verify_203 (lv_at hl 7 rfl) ?_
          refine lv_iload hx hb d_J_verify_205 (lv_at hl 4 rfl) ?_
          refine zn_icmp_lt (tgt := 214) hx hb d_J_verify_207 (by decide) (by omega) (by omega) (fun c9 => ?_) (fun c9 => ?_)
          · refine lv_iconst (v := nI 0) hx hb d_J_verify_214 (by decide) ?_
            refine zret_z Z hr hlk (mk, sz, rk, ro, ct, ix, rw, pa, d, ds, cn, nI t, nI u, cu) hH d_J_verify_215 rfl ?_
            exact ⟨rfl, by rw [decide_eq_false (by omega)]; rfl⟩
          · refine lv_iconst (v := nI 1) hx hb d_J_verify_210 (by decide) ?_
            refine lv_goto (tgt := 215) hx hb d_J_verify_211 (by decide) ?_
            refine zret_z Z hr hlk (mk, sz, rk, ro, ct, ix, rw, pa, d, ds, cn, nI t, nI u, cu) hH d_J_verify_215 rfl ?_
            exact ⟨rfl, by rw [decide_eq_true (by omega)]; rfl⟩
        · have hfi := (hf i c1).2
          have hgj := (hg j c2).2
          refine lv_iload_n hx hb d_J_verify_79 rfl (lv_at hl 2 rfl) ?_
          refine lv_iload hx hb d_J_verify_80 (lv_at hl 5 rfl) ?_
          refine zn_isub hx hb d_J_verify_82 (by omega) ?_
          refine lv_aload_n hx hb d_J_verify_83 rfl (lv_at hl 0 rfl) ?_
          refine jg_sz Z hH d_J_verify_84 ?_
          refine lv_iload_n hx hb d_J_verify_87 rfl (lv_at hl 3 rfl) ?_
          refine ja_sz Z hH d_J_verify_88 (by omega) ?_
          refine zt (nI q) (hsz) ?_
          refine lv_iload hx hb d_J_verify_89 (lv_at hl 6 rfl) ?_
          refine zn_isub hx hb d_J_verify_91 (by omega) ?_
          refine zn_icmp_ge (tgt := 102) hx hb d_J_verify_92 (by decide) (by omega) (by omega) (fun c3 => ?_) (fun c3 => ?_)
          · have hle : cnt (mem2 f g q) p ≤ sh + (q - j) := by rw [g4]; exact mg_le sf g1 g2 g5
            refine lv_aload_n hx hb d_J_verify_102 rfl (lv_at hl 0 rfl) ?_
            refine jg_sz Z hH d_J_verify_103 ?_
            refine lv_iload_n hx hb d_J_verify_106 rfl (lv_at hl 3 rfl) ?_
            refine ja_sz Z hH d_J_verify_107 (by omega) ?_
            refine zt (nI q) (hsz) ?_
            refine lv_iload hx hb d_J_verify_108 (lv_at hl 6 rfl) ?_
            refine zn_isub hx hb d_J_verify_110 (by omega) ?_
            refine lv_istore (lv' := [(10, .int (nI (q - j))), (0, .ref (h 0)), (1, .int (nI L)), (2, .int (nI p)), (3, .int (nI b)), (5, .int (nI (need t u p q))), (6, .int (nI i)), (7, .int (nI j)), (8, .int (nI sh)), (9, .int (nI k))]) hx hb d_J_verify_111 hl (by decide) rfl (fun ls hl => ?_)
            refine lv_iload hx hb d_J_verify_113 (lv_at hl 8 rfl) ?_
            refine lv_iload hx hb d_J_verify_115 (lv_at hl 0 rfl) ?_
            refine zn_iadd hx hb d_J_verify_117 ?_
            refine lv_iload hx hb d_J_verify_118 (lv_at hl 5 rfl) ?_
            refine zn_icmp_ge (tgt := 125) hx hb d_J_verify_120 (by decide) (by omega) (by omega) (fun c4 => ?_) (fun c4 => ?_)
            · refine lv_aload_n hx hb d_J_verify_125 rfl (lv_at hl 1 rfl) ?_
              refine jg_rk Z hH d_J_verify_126 ?_
              refine lv_bipush (v := nI 12) hx hb d_J_verify_129 (by decide) ?_
              refine lv_iload_n hx hb d_J_verify_131 rfl (lv_at hl 2 rfl) ?_
              refine zn_imul hx hb d_J_verify_132 ?_
              refine lv_iload hx hb d_J_verify_133 (lv_at hl 6 rfl) ?_
              refine zn_iadd hx hb d_J_verify_135 ?_
              refine ja_rk Z hH d_J_verify_136 (by omega) ?_
              refine zt (nI (f i)) ((hf i (by omega)).1) ?_
              refine lv_istore (lv' := [(11, .int (nI (f i))), (10, .int (nI (q - j))), (0, .ref (h 0)), (1, .int (nI L)), (2, .int (nI p)), (3, .int (nI b)), (5, .int (nI (need t u p q))), (6, .int (nI i)), (7, .int (nI j)), (8, .int (nI sh)), (9, .int (nI k))]) hx hb d_J_verify_137 hl (by decide) rfl (fun ls hl => ?_)
              refine lv_aload_n hx hb d_J_verify_139 rfl (lv_at hl 2 rfl) ?_
              refine jg_rk Z hH d_J_verify_140 ?_
              refine lv_bipush (v := nI 12) hx hb d_J_verify_143 (by decide) ?_
              refine lv_iload_n hx hb d_J_verify_145 rfl (lv_at hl 5 rfl) ?_
              refine zn_imul hx hb d_J_verify_146 ?_
              refine lv_iload hx hb d_J_verify_147 (lv_at hl 8 rfl) ?_
              refine zn_iadd hx hb d_J_verify_149 ?_
              refine ja_rk Z hH d_J_verify_150 (by omega) ?_
              refine zt (nI (g j)) ((hg j (by omega)).1) ?_
              refine lv_istore (lv' := [(12, .int (nI (g j))), (11, .int (nI (f i))), (10, .int (nI (q - j))), (0, .ref (h 0)), (1, .int (nI L)), (2, .int (nI p)), (3, .int (nI b)), (5, .int (nI (need t u p q))), (6, .int (nI i)), (7, .int (nI j)), (8, .int (nI sh)), (9, .int (nI k))]) hx hb d_J_verify_151 hl (by decide) rfl (fun ls hl => ?_)
              refine lv_iload hx hb d_J_verify_153 (lv_at hl 1 rfl) ?_
              refine lv_iload hx hb d_J_verify_155 (lv_at hl 0 rfl) ?_
              refine zn_icmp_ne (tgt := 163) hx hb d_J_verify_157 (by decide) (by omega) (by omega) (fun c5 => ?_) (fun c5 => ?_)
              · refine lv_iload hx hb d_J_verify_163 (lv_at hl 8 rfl) ?_
                refine lv_iload hx hb d_J_verify_165 (lv_at hl 1 rfl) ?_
                refine lv_iload hx hb d_J_verify_167 (lv_at hl 0 rfl) ?_
                refine zn_icmp_gt (tgt := 176) hx hb d_J_verify_169 (by decide) (by omega) (by omega) (fun c6 => ?_) (fun c6 => ?_)
                · refine lv_iconst (v := nI 0) hx hb d_J_verify_176 (by decide) ?_
                  refine zn_iadd hx hb d_J_verify_177 ?_
                  refine lv_istore (lv' := [(6, .int (nI (i + 0))), (12, .int (nI (g j))), (11, .int (nI (f i))), (10, .int (nI (q - j))), (0, .ref (h 0)), (1, .int (nI L)), (2, .int (nI p)), (3, .int (nI b)), (5, .int (nI (need t u p q))), (7, .int (nI j)), (8, .int (nI sh)), (9, .int (nI k))]) hx hb d_J_verify_178 hl (by decide) rfl (fun ls hl => ?_)
                  refine lv_iload hx hb d_J_verify_180 (lv_at hl 9 rfl) ?_
                  refine lv_iload hx hb d_J_verify_182 (lv_at hl 1 rfl) ?_
                  refine lv_iload hx hb d_J_verify_184 (lv_at hl 2 rfl) ?_
                  refine zn_icmp_gt (tgt := 193) hx hb d_J_verify_186 (by decide) (by omega) (by omega) (fun c7 => ?_) (fun c7 => ?_)
                  · omega
                  · refine lv_iconst (v := nI 1) hx hb d_J_verify_189 (by decide) ?_
                    refine lv_goto (tgt := 194) hx hb d_J_verify_190 (by decide) ?_
                    refine zn_iadd hx hb d_J_verify_194 ?_
                    refine lv_istore (lv' := [(7, .int (nI (j + 1))), (6, .int (nI (i + 0))), (12, .int (nI (g j))), (11, .int (nI (f i))), (10, .int (nI (q - j))), (0, .ref (h 0)), (1, .int (nI L)), (2, .int (nI p)), (3, .int (nI b)), (5, .int (nI (need t u p q))), (8, .int (nI sh)), (9, .int (nI k))]) hx hb d_J_verify_195 hl (by decide) rfl (fun ls hl => ?_)
                    refine lv_iinc (v := nI (k + 1)) (lv' := [(9, .int (nI (k + 1))), (7, .int (nI (j + 1))), (6, .int (nI (i + 0))), (12, .int (nI (g j))), (11, .int (nI (f i))), (10, .int (nI (q - j))), (0, .ref (h 0)), (1, .int (nI L)), (2, .int (nI p)), (3, .int (nI b)), (5, .int (nI (need t u p q))), (8, .int (nI sh))]) hx hb d_J_verify_197 hl (k := 11) rfl (nI_1 _) (by decide) rfl (fun ls hl => ?_)
                    refine lv_goto (tgt := 55) hx hb d_J_verify_200 (by decide) ?_
                    refine ih0 _ _ _ _ (by omega) ⟨i, j + 1, k + 1, sh, rfl, by omega, by omega, by omega, g4, fun j' i' q1 q2 q3 => ?_, hH, lv_sub hl [6, 7, 8, 9, 10, 2, 1, 11, 0] rfl⟩
                    have a1 := srt_le sf q2 q3
                    rcases Nat.lt_or_ge j' j with y | y
                    · exact g5 j' i' y q2 q3
                    · have e1 : j' = j := by omega
                      subst e1
                      omega
                · refine lv_iconst (v := nI 1) hx hb d_J_verify_172 (by decide) ?_
                  refine lv_goto (tgt := 177) hx hb d_J_verify_173 (by decide) ?_
                  refine zn_iadd hx hb d_J_verify_177 ?_
                  refine lv_istore (lv' := [(6, .int (nI (i + 1))), (12, .int (nI (g j))), (11, .int (nI (f i))), (10, .int (nI (q - j))), (0, .ref (h 0)), (1, .int (nI L)), (2, .int (nI p)), (3, .int (nI b)), (5, .int (nI (need t u p q))), (7, .int (nI j)), (8, .int (nI sh)), (9, .int (nI k))]) hx hb d_J_verify_178 hl (by decide) rfl (fun ls hl => ?_)
                  refine lv_iload hx hb d_J_verify_180 (lv_at hl 9 rfl) ?_
                  refine lv_iload hx hb d_J_verify_182 (lv_at hl 1 rfl) ?_
                  refine lv_iload hx hb d_J_verify_184 (lv_at hl 2 rfl) ?_
                  refine zn_icmp_gt (tgt := 193) hx hb d_J_verify_186 (by decide) (by omega) (by omega) (fun c7 => ?_) (fun c7 => ?_)
                  · refine lv_iconst (v := nI 0) hx hb d_J_verify_193 (by decide) ?_
                    refine zn_iadd hx hb d_J_verify_194 ?_
                    refine lv_istore (lv' := [(7, .int (nI (j + 0))), (6, .int (nI (i + 1))), (12, .int (nI (g j))), (11, .int (nI (f i))), (10, .int (nI (q - j))), (0, .ref (h 0)), (1, .int (nI L)), (2, .int (nI p)), (3, .int (nI b)), (5, .int (nI (need t u p q))), (8, .int (nI sh)), (9, .int (nI k))]) hx hb d_J_verify_195 hl (by decide) rfl (fun ls hl => ?_)
                    refine lv_iinc (v := nI (k + 1)) (lv' := [(9, .int (nI (k + 1))), (7, .int (nI (j + 0))), (6, .int (nI (i + 1))), (12, .int (nI (g j))), (11, .int (nI (f i))), (10, .int (nI (q - j))), (0, .ref (h 0)), (1, .int (nI L)), (2, .int (nI p)), (3, .int (nI b)), (5, .int (nI (need t u p q))), (8, .int (nI sh))]) hx hb d_J_verify_197 hl (k := 11) rfl (nI_1 _) (by decide) rfl (fun ls hl => ?_)
                    refine lv_goto (tgt := 55) hx hb d_J_verify_200 (by decide) ?_
                    exact ih0 _ _ _ _ (by omega) ⟨i + 1, j, k + 1, sh, rfl, by omega, by omega, by omega, by rw [cnt_f (mg_lt sg c1 c2 g5 (by omega)), g4], fun j' i' q1 q2 q3 => g5 j' i' q1 (by omega) q3, hH, lv_sub hl [6, 7, 8, 9, 10, 2, 1, 11, 0] rfl⟩
                  · omega
              · refine lv_iinc (v := nI (sh + 1)) (lv' := [(8, .int (nI (sh + 1))), (12, .int (nI (g j))), (11, .int (nI (f i))), (10, .int (nI (q - j))), (0, .ref (h 0)), (1, .int (nI L)), (2, .int (nI p)), (3, .int (nI b)), (5, .int (nI (need t u p q))), (6, .int (nI i)), (7, .int (nI j)), (9, .int (nI k))]) hx hb d_J_verify_160 hl (k := 10) rfl (nI_1 _) (by decide) rfl (fun ls hl => ?_)
                refine lv_iload hx hb d_J_verify_163 (lv_at hl 9 rfl) ?_
                refine lv_iload hx hb d_J_verify_165 (lv_at hl 2 rfl) ?_
                refine lv_iload hx hb d_J_verify_167 (lv_at hl 1 rfl) ?_
                refine zn_icmp_gt (tgt := 176) hx hb d_J_verify_169 (by decide) (by omega) (by omega) (fun c6 => ?_) (fun c6 => ?_)
                · omega
                · refine lv_iconst (v := nI 1) hx hb d_J_verify_172 (by decide) ?_
                  refine lv_goto (tgt := 177) hx hb d_J_verify_173 (by decide) ?_
                  refine zn_iadd hx hb d_J_verify_177 ?_
                  refine lv_istore (lv' := [(6, .int (nI (i + 1))), (8, .int (nI (sh + 1))), (12, .int (nI (g j))), (11, .int (nI (f i))), (10, .int (nI (q - j))), (0, .ref (h 0)), (1, .int (nI L)), (2, .int (nI p)), (3, .int (nI b)), (5, .int (nI (need t u p q))), (7, .int (nI j)), (9, .int (nI k))]) hx hb d_J_verify_178 hl (by decide) rfl (fun ls hl => ?_)
                  refine lv_iload hx hb d_J_verify_180 (lv_at hl 10 rfl) ?_
                  refine lv_iload hx hb d_J_verify_182 (lv_at hl 2 rfl) ?_
                  refine lv_iload hx hb d_J_verify_184 (lv_at hl 3 rfl) ?_
                  refine zn_icmp_gt (tgt := 193) hx hb d_J_verify_186 (by decide) (by omega) (by omega) (fun c7 => ?_) (fun c7 => ?_)
                  · omega
                  · refine lv_iconst (v := nI 1) hx hb d_J_verify_189 (by decide) ?_
                    refine lv_goto (tgt := 194) hx hb d_J_verify_190 (by decide) ?_
                    refine zn_iadd hx hb d_J_verify_194 ?_
                    refine lv_istore (lv' := [(7, .int (nI (j + 1))), (6, .int (nI (i + 1))), (8, .int (nI (sh + 1))), (12, .int (nI (g j))), (11, .int (nI (f i))), (10, .int (nI (q - j))), (0, .ref (h 0)), (1, .int (nI L)), (2, .int (nI p)), (3, .int (nI b)), (5, .int (nI (need t u p q))), (9, .int (nI k))]) hx hb d_J_verify_195 hl (by decide) rfl (fun ls hl => ?_)
                    refine lv_iinc (v := nI (k + 1)) (lv' := [(9, .int (nI (k + 1))), (7, .int (nI (j + 1))), (6, .int (nI (i + 1))), (8, .int (nI (sh + 1))), (12, .int (nI (g j))), (11, .int (nI (f i))), (10, .int (nI (q - j))), (0, .ref (h 0)), (1, .int (nI L)), (2, .int (nI p)), (3, .int (nI b)), (5, .int (nI (need t u p q)))]) hx hb d_J_verify_197 hl (k := 11) rfl (nI_1 _) (by decide) rfl (fun ls hl => ?_)
                    refine lv_goto (tgt := 55) hx hb d_J_verify_200 (by decide) ?_
                    refine ih0 _ _ _ _ (by omega) ⟨i + 1, j + 1, k + 1, sh + 1, rfl, by omega, by omega, by omega, by rw [cnt_t (mem2_t.mpr ⟨j, c2, c5.symm⟩), g4], fun j' i' q1 q2 q3 => ?_, hH, lv_sub hl [7, 8, 9, 10, 11, 2, 1, 3, 0] rfl⟩
                    have a1 := sf i i' (by omega) q3
                    rcases Nat.lt_or_ge j' j with y | y
                    · exact g5 j' i' y (by omega) q3
                    · have e1 : j' = j := by omega
                      subst e1
                      omega
            · refine lv_iconst (v := nI 0) hx hb d_J_verify_123 (by decide) ?_
              refine zret_z Z hr hlk (mk, sz, rk, ro, ct, ix, rw, pa, d, ds, cn, nI t, nI u, cu) hH d_J_verify_124 rfl ?_
              exact ⟨rfl, by rw [decide_eq_false (by omega)]; rfl⟩
          · have hle : cnt (mem2 f g q) p ≤ sh + (p - i) := by rw [g4]; exact cnt_gap _ g1
            refine lv_iload_n hx hb d_J_verify_95 rfl (lv_at hl 2 rfl) ?_
            refine lv_iload hx hb d_J_verify_96 (lv_at hl 5 rfl) ?_
            refine zn_isub hx hb d_J_verify_98 (by omega) ?_
            refine lv_goto (tgt := 111) hx hb d_J_verify_99 (by decide) ?_
            refine lv_istore (lv' := [(10, .int (nI (p - i))), (0, .ref (h 0)), (1, .int (nI L)), (2, .int (nI p)), (3, .int (nI b)), (5, .int (nI (need t u p q))), (6, .int (nI i)), (7, .int (nI j)), (8, .int (nI sh)), (9, .int (nI k))]) hx hb d_J_verify_111 hl (by decide) rfl (fun ls hl => ?_)
            refine lv_iload hx hb d_J_verify_113 (lv_at hl 8 rfl) ?_
            refine lv_iload hx hb d_J_verify_115 (lv_at hl 0 rfl) ?_
            refine zn_iadd hx hb d_J_verify_117 ?_
            refine lv_iload hx hb d_J_verify_118 (lv_at hl 5 rfl) ?_
            refine zn_icmp_ge (tgt := 125) hx hb d_J_verify_120 (by decide) (by omega) (by omega) (fun c4 => ?_) (fun c4 => ?_)
            · refine lv_aload_n hx hb d_J_verify_125 rfl (lv_at hl 1 rfl) ?_
              refine jg_rk Z hH d_J_verify_126 ?_
              refine lv_bipush (v := nI 12) hx hb d_J_verify_129 (by decide) ?_
              refine lv_iload_n hx hb d_J_verify_131 rfl (lv_at hl 2 rfl) ?_
              refine zn_imul hx hb d_J_verify_132 ?_
              refine lv_iload hx hb d_J_verify_133 (lv_at hl 6 rfl) ?_
              refine zn_iadd hx hb d_J_verify_135 ?_
              refine ja_rk Z hH d_J_verify_136 (by omega) ?_
              refine zt (nI (f i)) ((hf i (by omega)).1) ?_
              refine lv_istore (lv' := [(11, .int (nI (f i))), (10, .int (nI (p - i))), (0, .ref (h 0)), (1, .int (nI L)), (2, .int (nI p)), (3, .int (nI b)), (5, .int (nI (need t u p q))), (6, .int (nI i)), (7, .int (nI j)), (8, .int (nI sh)), (9, .int (nI k))]) hx hb d_J_verify_137 hl (by decide) rfl (fun ls hl => ?_)
              refine lv_aload_n hx hb d_J_verify_139 rfl (lv_at hl 2 rfl) ?_
              refine jg_rk Z hH d_J_verify_140 ?_
              refine lv_bipush (v := nI 12) hx hb d_J_verify_143 (by decide) ?_
              refine lv_iload_n hx hb d_J_verify_145 rfl (lv_at hl 5 rfl) ?_
              refine zn_imul hx hb d_J_verify_146 ?_
              refine lv_iload hx hb d_J_verify_147 (lv_at hl 8 rfl) ?_
              refine zn_iadd hx hb d_J_verify_149 ?_
              refine ja_rk Z hH d_J_verify_150 (by omega) ?_
              refine zt (nI (g j)) ((hg j (by omega)).1) ?_
              refine lv_istore (lv' := [(12, .int (nI (g j))), (11, .int (nI (f i))), (10, .int (nI (p - i))), (0, .ref (h 0)), (1, .int (nI L)), (2, .int (nI p)), (3, .int (nI b)), (5, .int (nI (need t u p q))), (6, .int (nI i)), (7, .int (nI j)), (8, .int (nI sh)), (9, .int (nI k))]) hx hb d_J_verify_151 hl (by decide) rfl (fun ls hl => ?_)
              refine lv_iload hx hb d_J_verify_153 (lv_at hl 1 rfl) ?_
              refine lv_iload hx hb d_J_verify_155 (lv_at hl 0 rfl) ?_
              refine zn_icmp_ne (tgt := 163) hx hb d_J_verify_157 (by decide) (by omega) (by omega) (fun c5 => ?_) (fun c5 => ?_)
              · refine lv_iload hx hb d_J_verify_163 (lv_at hl 8 rfl) ?_
                refine lv_iload hx hb d_J_verify_165 (lv_at hl 1 rfl) ?_
                refine lv_iload hx hb d_J_verify_167 (lv_at hl 0 rfl) ?_
                refine zn_icmp_gt (tgt := 176) hx hb d_J_verify_169 (by decide) (by omega) (by omega) (fun c6 => ?_) (fun c6 => ?_)
                · refine lv_iconst (v := nI 0) hx hb d_J_verify_176 (by decide) ?_
                  refine zn_iadd hx hb d_J_verify_177 ?_
                  refine lv_istore (lv' := [(6, .int (nI (i + 0))), (12, .int (nI (g j))), (11, .int (nI (f i))), (10, .int (nI (p - i))), (0, .ref (h 0)), (1, .int (nI L)), (2, .int (nI p)), (3, .int (nI b)), (5, .int (nI (need t u p q))), (7, .int (nI j)), (8, .int (nI sh)), (9, .int (nI k))]) hx hb d_J_verify_178 hl (by decide) rfl (fun ls hl => ?_)
                  refine lv_iload hx hb d_J_verify_180 (lv_at hl 9 rfl) ?_
                  refine lv_iload hx hb d_J_verify_182 (lv_at hl 1 rfl) ?_
                  refine lv_iload hx hb d_J_verify_184 (lv_at hl 2 rfl) ?_
                  refine zn_icmp_gt (tgt := 193) hx hb d_J_verify_186 (by decide) (by omega) (by omega) (fun c7 => ?_) (fun c7 => ?_)
                  · omega
                  · refine lv_iconst (v := nI 1) hx hb d_J_verify_189 (by decide) ?_
                    refine lv_goto (tgt := 194) hx hb d_J_verify_190 (by decide) ?_
                    refine zn_iadd hx hb d_J_verify_194 ?_
                    refine lv_istore (lv' := [(7, .int (nI (j + 1))), (6, .int (nI (i + 0))), (12, .int (nI (g j))), (11, .int (nI (f i))), (10, .int (nI (p - i))), (0, .ref (h 0)), (1, .int (nI L)), (2, .int (nI p)), (3, .int (nI b)), (5, .int (nI (need t u p q))), (8, .int (nI sh)), (9, .int (nI k))]) hx hb d_J_verify_195 hl (by decide) rfl (fun ls hl => ?_)
                    refine lv_iinc (v := nI (k + 1)) (lv' := [(9, .int (nI (k + 1))), (7, .int (nI (j + 1))), (6, .int (nI (i + 0))), (12, .int (nI (g j))), (11, .int (nI (f i))), (10, .int (nI (p - i))), (0, .ref (h 0)), (1, .int (nI L)), (2, .int (nI p)), (3, .int (nI b)), (5, .int (nI (need t u p q))), (8, .int (nI sh))]) hx hb d_J_verify_197 hl (k := 11) rfl (nI_1 _) (by decide) rfl (fun ls hl => ?_)
                    refine lv_goto (tgt := 55) hx hb d_J_verify_200 (by decide) ?_
                    refine ih0 _ _ _ _ (by omega) ⟨i, j + 1, k + 1, sh, rfl, by omega, by omega, by omega, g4, fun j' i' q1 q2 q3 => ?_, hH, lv_sub hl [6, 7, 8, 9, 10, 2, 1, 11, 0] rfl⟩
                    have a1 := srt_le sf q2 q3
                    rcases Nat.lt_or_ge j' j with y | y
                    · exact g5 j' i' y q2 q3
                    · have e1 : j' = j := by omega
                      subst e1
                      omega
                · refine lv_iconst (v := nI 1) hx hb d_J_verify_172 (by decide) ?_
                  refine lv_goto (tgt := 177) hx hb d_J_verify_173 (by decide) ?_
                  refine zn_iadd hx hb d_J_verify_177 ?_
                  refine lv_istore (lv' := [(6, .int (nI (i + 1))), (12, .int (nI (g j))), (11, .int (nI (f i))), (10, .int (nI (p - i))), (0, .ref (h 0)), (1, .int (nI L)), (2, .int (nI p)), (3, .int (nI b)), (5, .int (nI (need t u p q))), (7, .int (nI j)), (8, .int (nI sh)), (9, .int (nI k))]) hx hb d_J_verify_178 hl (by decide) rfl (fun ls hl => ?_)
                  refine lv_iload hx hb d_J_verify_180 (lv_at hl 9 rfl) ?_
                  refine lv_iload hx hb d_J_verify_182 (lv_at hl 1 rfl) ?_
                  refine lv_iload hx hb d_J_verify_184 (lv_at hl 2 rfl) ?_
                  refine zn_icmp_gt (tgt := 193) hx hb d_J_verify_186 (by decide) (by omega) (by omega) (fun c7 => ?_) (fun c7 => ?_)
                  · refine lv_iconst (v := nI 0) hx hb d_J_verify_193 (by decide) ?_
                    refine zn_iadd hx hb d_J_verify_194 ?_
                    refine lv_istore (lv' := [(7, .int (nI (j + 0))), (6, .int (nI (i + 1))), (12, .int (nI (g j))), (11, .int (nI (f i))), (10, .int (nI (p - i))), (0, .ref (h 0)), (1, .int (nI L)), (2, .int (nI p)), (3, .int (nI b)), (5, .int (nI (need t u p q))), (8, .int (nI sh)), (9, .int (nI k))]) hx hb d_J_verify_195 hl (by decide) rfl (fun ls hl => ?_)
                    refine lv_iinc (v := nI (k + 1)) (lv' := [(9, .int (nI (k + 1))), (7, .int (nI (j + 0))), (6, .int (nI (i + 1))), (12, .int (nI (g j))), (11, .int (nI (f i))), (10, .int (nI (p - i))), (0, .ref (h 0)), (1, .int (nI L)), (2, .int (nI p)), (3, .int (nI b)), (5, .int (nI (need t u p q))), (8, .int (nI sh))]) hx hb d_J_verify_197 hl (k := 11) rfl (nI_1 _) (by decide) rfl (fun ls hl => ?_)
                    refine lv_goto (tgt := 55) hx hb d_J_verify_200 (by decide) ?_
                    exact ih0 _ _ _ _ (by omega) ⟨i + 1, j, k + 1, sh, rfl, by omega, by omega, by omega, by rw [cnt_f (mg_lt sg c1 c2 g5 (by omega)), g4], fun j' i' q1 q2 q3 => g5 j' i' q1 (by omega) q3, hH, lv_sub hl [6, 7, 8, 9, 10, 2, 1, 11, 0] rfl⟩
                  · omega
              · refine lv_iinc (v := nI (sh + 1)) (lv' := [(8, .int (nI (sh + 1))), (12, .int (nI (g j))), (11, .int (nI (f i))), (10, .int (nI (p - i))), (0, .ref (h 0)), (1, .int (nI L)), (2, .int (nI p)), (3, .int (nI b)), (5, .int (nI (need t u p q))), (6, .int (nI i)), (7, .int (nI j)), (9, .int (nI k))]) hx hb d_J_verify_160 hl (k := 10) rfl (nI_1 _) (by decide) rfl (fun ls hl => ?_)
                refine lv_iload hx hb d_J_verify_163 (lv_at hl 9 rfl) ?_
                refine lv_iload hx hb d_J_verify_165 (lv_at hl 2 rfl) ?_
                refine lv_iload hx hb d_J_verify_167 (lv_at hl 1 rfl) ?_
                refine zn_icmp_gt (tgt := 176) hx hb d_J_verify_169 (by decide) (by omega) (by omega) (fun c6 => ?_) (fun c6 => ?_)
                · omega
                · refine lv_iconst (v := nI 1) hx hb d_J_verify_172 (by decide) ?_
                  refine lv_goto (tgt := 177) hx hb d_J_verify_173 (by decide) ?_
                  refine zn_iadd hx hb d_J_verify_177 ?_
                  refine lv_istore (lv' := [(6, .int (nI (i + 1))), (8, .int (nI (sh + 1))), (12, .int (nI (g j))), (11, .int (nI (f i))), (10, .int (nI (p - i))), (0, .ref (h 0)), (1, .int (nI L)), (2, .int (nI p)), (3, .int (nI b)), (5, .int (nI (need t u p q))), (7, .int (nI j)), (9, .int (nI k))]) hx hb d_J_verify_178 hl (by decide) rfl (fun ls hl => ?_)
                  refine lv_iload hx hb d_J_verify_180 (lv_at hl 10 rfl) ?_
                  refine lv_iload hx hb d_J_verify_182 (lv_at hl 2 rfl) ?_
                  refine lv_iload hx hb d_J_verify_184 (lv_at hl 3 rfl) ?_
                  refine zn_icmp_gt (tgt := 193) hx hb d_J_verify_186 (by decide) (by omega) (by omega) (fun c7 => ?_) (fun c7 => ?_)
                  · omega
                  · refine lv_iconst (v := nI 1) hx hb d_J_verify_189 (by decide) ?_
                    refine lv_goto (tgt := 194) hx hb d_J_verify_190 (by decide) ?_
                    refine zn_iadd hx hb d_J_verify_194 ?_
                    refine lv_istore (lv' := [(7, .int (nI (j + 1))), (6, .int (nI (i + 1))), (8, .int (nI (sh + 1))), (12, .int (nI (g j))), (11, .int (nI (f i))), (10, .int (nI (p - i))), (0, .ref (h 0)), (1, .int (nI L)), (2, .int (nI p)), (3, .int (nI b)), (5, .int (nI (need t u p q))), (9, .int (nI k))]) hx hb d_J_verify_195 hl (by decide) rfl (fun ls hl => ?_)
                    refine lv_iinc (v := nI (k + 1)) (lv' := [(9, .int (nI (k + 1))), (7, .int (nI (j + 1))), (6, .int (nI (i + 1))), (8, .int (nI (sh + 1))), (12, .int (nI (g j))), (11, .int (nI (f i))), (10, .int (nI (p - i))), (0, .ref (h 0)), (1, .int (nI L)), (2, .int (nI p)), (3, .int (nI b)), (5, .int (nI (need t u p q)))]) hx hb d_J_verify_197 hl (k := 11) rfl (nI_1 _) (by decide) rfl (fun ls hl => ?_)
                    refine lv_goto (tgt := 55) hx hb d_J_verify_200 (by decide) ?_
                    refine ih0 _ _ _ _ (by omega) ⟨i + 1, j + 1, k + 1, sh + 1, rfl, by omega, by omega, by omega, by rw [cnt_t (mem2_t.mpr ⟨j, c2, c5.symm⟩), g4], fun j' i' q1 q2 q3 => ?_, hH, lv_sub hl [7, 8, 9, 10, 11, 2, 1, 3, 0] rfl⟩
                    have a1 := sf i i' (by omega) q3
                    rcases Nat.lt_or_ge j' j with y | y
                    · exact g5 j' i' y (by omega) q3
                    · have e1 : j' = j := by omega
                      subst e1
                      omega
            · refine lv_iconst (v := nI 0) hx hb d_J_verify_123 (by decide) ?_
              refine zret_z Z hr hlk (mk, sz, rk, ro, ct, ix, rw, pa, d, ds, cn, nI t, nI u, cu) hH d_J_verify_124 rfl ?_
              exact ⟨rfl, by rw [decide_eq_false (by omega)]; rfl⟩
end
section
set_option maxHeartbeats 4000000 in
set_option maxRecDepth 100000 in
/-- probe(line, size): the records that are alike to the set of that line -/
theorem c_J_probe {l : Launch} {D : va_G} {cI cZ : ClassId} {h : Nat → Nat} {mk sz rk ro ct ix rw pa : Nat → Int32} {d ds cu : Int32} {n t u L : Nat} {S : SS} {T : Nat → Bool} {ρ f : Nat → Nat} {F : Nat → Nat → Nat} (hth : thOk t u) (hL : L ≤ 20) (h12 : cnt T 30 ≤ 12) (hre : reOk n S mk sz) (hro : rankOk ρ ro) (hln : linesOk n S ρ F rk) (hix : ixOk n t u S F ix) (hf : lineOk ρ T f) (hfl : ∀ k, k < cnt T 30 → rk (12 * L + k) = nI (f k)) : zMi l y_J_probe b_J_probe 8 (some .int) { frames := 1, cells := 0, slots := 0, locals := 32 } D cI cZ (jw h cI) [.ref (h 0), .int (nI L), .int (nI (cnt T 30))] (mk, sz, rk, ro, ct, ix, rw, pa, d, ds, nI n, nI t, nI u, cu) (fun r σ' => σ' = (mk, sz, rk, ro, ct, ix, rw, pa, d, ds, nI n, nI t, nI u, cu) ∧ ∀ b, b < 32 → bt r b = (decide (b < n) && alT t u T (S b))) := by
  refine zMi.of R_J rfl (by decide) (Nat.le_of_ble_eq_true rfl) ?_
  intro p e s m args below meth c A ls Z hr hlk hA hH hl
  obtain ⟨hx, hb, hml, hown, hts, hK⟩ := id Z
  have hl : lv_has ls 8 [(0, .ref (h 0)), (1, .int (nI L)), (2, .int (nI (cnt T 30)))] := hl
  have hn := hre.1
  obtain ⟨h1, h2, h3⟩ := id hth
  have hfb := lineP_bd (t := 30) hf (fun y hy => (hro.1 y hy).2)
  refine lv_iload_n hx hb d_J_probe_0 rfl (lv_at hl 2 rfl) ?_
  refine zn_if_ne (tgt := 6) hx hb d_J_probe_1 (by decide) (by omega) (fun c0 => ?_) (fun c0 => ?_)
  · have hpl := plen_le (u := u) (t := t) hth (show 1 ≤ cnt T 30 by omega)
    refine lv_iconst (v := nI 0) hx hb d_J_probe_6 (by decide) ?_
    refine lv_istore_n (lv' := [(3, .int (nI 0)), (0, .ref (h 0)), (1, .int (nI L)), (2, .int (nI (cnt T 30)))]) hx hb d_J_probe_7 rfl hl (by decide) rfl (fun ls hl => ?_)
    refine lv_aload_n hx hb d_J_probe_8 rfl (lv_at hl 1 rfl) ?_
    refine lv_iload_n hx hb d_J_probe_9 rfl (lv_at hl 3 rfl) ?_
    refine jc_i (As := [.int (nI (cnt T 30))]) (rest := []) Z hA hH d_J_probe_10 ok_J_prefixLength rfl (c_J_prefixLength hth h12) ⟨rfl, rfl, Nat.le_of_ble_eq_true rfl, Nat.le_of_ble_eq_true rfl⟩ hl.1 (Nat.le_of_ble_eq_true rfl) rfl (fun r σ' H locs hp hH => ?_)
    obtain ⟨rfl, rfl⟩ := hp
    refine lv_istore (lv' := [(4, .int (nI (plen t u (cnt T 30)))), (3, .int (nI 0)), (0, .ref (h 0)), (1, .int (nI L)), (2, .int (nI (cnt T 30)))]) hx hb d_J_probe_13 hl (by decide) rfl (fun ls hl => ?_)
    refine lv_iconst (v := nI 0) hx hb d_J_probe_15 (by decide) ?_
    refine lv_istore (lv' := [(5, .int (nI 0)), (4, .int (nI (plen t u (cnt T 30)))), (3, .int (nI 0)), (0, .ref (h 0)), (1, .int (nI L)), (2, .int (nI (cnt T 30)))]) hx hb d_J_probe_16 hl (by decide) rfl (fun ls hl => ?_)
    refine w_loop (pc := 18) (fun n_ H locs ls => ∃ (k : Nat) (cd : Int32), n_ = 12 - k ∧ k ≤ plen t u (cnt T 30) ∧ (∀ b, b < 32 → bt cd b = hasK (fun k => bt (ix (f k)) b) k) ∧ zH D A s.heap (jw h cI (mk, sz, rk, ro, ct, ix, rw, pa, d, ds, nI n, nI t, nI u, cu)) H locs ∧ lv_has ls 8 [(0, .ref (h 0)), (1, .int (nI L)), (2, .int (nI (cnt T 30))), (3, .int cd), (4, .int (nI (plen t u (cnt T 30)))), (5, .int (nI k))]) ?_ _ _ _ _ ⟨0, nI 0, rfl, Nat.zero_le _, fun b hb => by rw [b_n0]; rfl, hH, lv_sub hl [3, 4, 5, 2, 1, 0] rfl⟩
    rintro _ H locs ls ⟨k, cd, rfl, g1, g2, hH, hl⟩ ih0
    refine lv_iload hx hb d_J_probe_18 (lv_at hl 5 rfl) ?_
    refine lv_iload hx hb d_J_probe_20 (lv_at hl 4 rfl) ?_
    refine zn_icmp_ge (tgt := 51) hx hb d_J_probe_22 (by decide) (by omega) (by omega) (fun c => ?_) (fun c => ?_)
    · have ek : k = plen t u (cnt T 30) := by omega
      have hcd : ∀ b, b < n → bt cd b = hasK (fun k => hasK (fun k' => decide (F b k' = f k)) (plen t u (cnt (S b) 30))) (plen t u (cnt T 30)) := by
        intro b hb
        rw [g2 b (by omega), ek]
        exact hasK_congr (fun k hk => by rw [hix (f k) (hfb k (by omega)) b (by omega), decide_eq_true hb, Bool.true_and])
      refine lv_iconst (v := nI 0) hx hb d_J_probe_51 (by decide) ?_
      refine lv_istore (lv' := [(5, .int (nI 0)), (0, .ref (h 0)), (1, .int (nI L)), (2, .int (nI (cnt T 30))), (3, .int cd), (4, .int (nI (plen t u (cnt T 30))))]) hx hb d_J_probe_52 hl (by decide) rfl (fun ls hl => ?_)
      refine lv_iconst (v := nI 0) hx hb d_J_probe_54 (by decide) ?_
      refine lv_istore (lv' := [(6, .int (nI 0)), (5, .int (nI 0)), (0, .ref (h 0)), (1, .int (nI L)), (2, .int (nI (cnt T 30))), (3, .int cd), (4, .int (nI (plen t u (cnt T 30))))]) hx hb d_J_probe_55 hl (by decide) rfl (fun ls hl => ?_)
      refine w_loop (pc := 57) (fun n_ H locs ls => ∃ (b : Nat) (fo : Int32), n_ = 20 - b ∧ b ≤ n ∧ (∀ b', b' < 32 → bt fo b' = (decide (b' < b) && alT t u T (S b'))) ∧ zH D A s.heap (jw h cI (mk, sz, rk, ro, ct, ix, rw, pa, d, ds, nI n, nI t, nI u, cu)) H locs ∧ lv_has ls 8 [(0, .ref (h 0)), (1, .int (nI L)), (2, .int (nI (cnt T 30))), (3, .int cd), (5, .int fo), (6, .int (nI b))]) ?_ _ _ _ _ ⟨0, nI 0, rfl, Nat.zero_le _, fun b hb => by rw [b_n0]; simp, hH, lv_sub hl [2, 3, 4, 5, 1, 0] rfl⟩
      rintro _ H locs ls ⟨b, fo, rfl, m1, m2, hH, hl⟩ ih1
      refine lv_iload hx hb d_J_probe_57 (lv_at hl 5 rfl) ?_
      refine lv_aload_n hx hb d_J_probe_59 rfl (lv_at hl 0 rfl) ?_
      refine jg_cn Z hH d_J_probe_60 ?_
      refine zn_icmp_ge (tgt := 156) hx hb d_J_probe_63 (by decide) (by omega) (by omega) (fun c1 => ?_) (fun c1 => ?_)
      · refine lv_iload hx hb d_J_probe_156 (lv_at hl 4 rfl) ?_
        refine zret_i Z hr hlk (mk, sz, rk, ro, ct, ix, rw, pa, d, ds, nI n, nI t, nI u, cu) hH d_J_probe_158 ?_
        exact ⟨rfl, fun b' hb' => by rw [m2 b' hb', show b = n by omega]⟩
      · obtain ⟨a1, a2, a3, a4⟩ := hre.2 b c1
        have key := probe_al hth hf (hln b c1).1 hro.2 (by omega)
        have hb1 : t * cnt T 30 ≤ 12 * 12 := mul_bd (by omega) h12
        have hb2 : u * cnt (S b) 30 ≤ 12 * 12 := mul_bd (by omega) a4
        have hb3 : t * cnt (S b) 30 ≤ 12 * 12 := mul_bd (by omega) a4
        have hb4 : u * cnt T 30 ≤ 12 * 12 := mul_bd (by omega) h12
        have hbit := tn_le (bt cd b)
        refine lv_aload_n hx hb d_J_probe_66 rfl (lv_at hl 0 rfl) ?_
        refine jg_tp Z hH d_J_probe_67 ?_
        refine lv_iload_n hx hb d_J_probe_70 rfl (lv_at hl 2 rfl) ?_
        refine zn_imul hx hb d_J_probe_71 ?_
        refine lv_aload_n hx hb d_J_probe_72 rfl (lv_at hl 0 rfl) ?_
        refine jg_bo Z hH d_J_probe_73 ?_
        refine lv_aload_n hx hb d_J_probe_76 rfl (lv_at hl 0 rfl) ?_
        refine jg_sz Z hH d_J_probe_77 ?_
        refine lv_iload hx hb d_J_probe_80 (lv_at hl 5 rfl) ?_
        refine ja_sz Z hH d_J_probe_82 (by omega) ?_
        refine zt (nI (cnt (S b) 30)) (a2) ?_
        refine zn_imul hx hb d_J_probe_83 ?_
        refine zn_icmp_gt (tgt := 112) hx hb d_J_probe_84 (by decide) (by omega) (by omega) (fun c2 => ?_) (fun c2 => ?_)
        · refine lv_iconst (v := nI 0) hx hb d_J_probe_112 (by decide) ?_
          refine lv_istore (lv' := [(7, .int (nI 0)), (0, .ref (h 0)), (1, .int (nI L)), (2, .int (nI (cnt T 30))), (3, .int cd), (5, .int fo), (6, .int (nI b))]) hx hb d_J_probe_113 hl (by decide) rfl (fun ls hl => ?_)
          refine lv_iload_n hx hb d_J_probe_115 rfl (lv_at hl 4 rfl) ?_
          refine lv_iload hx hb d_J_probe_116 (lv_at hl 6 rfl) ?_
          refine lv_ishr hx hb d_J_probe_118 ?_
          refine lv_iconst (v := nI 1) hx hb d_J_probe_119 (by decide) ?_
          refine lv_iand hx hb d_J_probe_120 ?_
          refine zt (nI (bt cd b).toNat) (z_bit _ (by omega)) ?_
          refine lv_iconst (v := nI 1) hx hb d_J_probe_121 (by decide) ?_
          refine zn_icmp_ne (tgt := 150) hx hb d_J_probe_122 (by decide) (by omega) (by omega) (fun c3 => ?_) (fun c3 => ?_)
          · have hal : alT t u T (S b) = false := bool_f key (fun z => by have := z.2.1.1; omega)
            refine lv_iinc (v := nI (b + 1)) (lv' := [(6, .int (nI (b + 1))), (7, .int (nI 0)), (0, .ref (h 0)), (1, .int (nI L)), (2, .int (nI (cnt T 30))), (3, .int cd), (5, .int fo)]) hx hb d_J_probe_150 hl (k := 6) rfl (nI_1 _) (by decide) rfl (fun ls hl => ?_)
            refine lv_goto (tgt := 57) hx hb d_J_probe_153 (by decide) ?_
            refine ih1 _ _ _ _ (by omega) ⟨b + 1, fo, rfl, by omega, fun b' hb' => ?_, hH, lv_sub hl [2, 3, 4, 5, 6, 0] rfl⟩
            rw [m2 b' hb']
            by_cases q : b' = b
            · subst q; rw [hal, Bool.and_false, Bool.and_false]
            · rw [show decide (b' < b + 1) = decide (b' < b) from decide_eq_decide.mpr (by omega)]
          · refine lv_iload hx hb d_J_probe_125 (lv_at hl 0 rfl) ?_
            refine zn_if_eq (tgt := 150) hx hb d_J_probe_127 (by decide) (by omega) (fun c4 => ?_) (fun c4 => ?_)
            · have hal : alT t u T (S b) = false := bool_f key (fun z => by have := z.2.1.1; omega)
              refine lv_iinc (v := nI (b + 1)) (lv' := [(6, .int (nI (b + 1))), (7, .int (nI 0)), (0, .ref (h 0)), (1, .int (nI L)), (2, .int (nI (cnt T 30))), (3, .int cd), (5, .int fo)]) hx hb d_J_probe_150 hl (k := 6) rfl (nI_1 _) (by decide) rfl (fun ls hl => ?_)
              refine lv_goto (tgt := 57) hx hb d_J_probe_153 (by decide) ?_
              refine ih1 _ _ _ _ (by omega) ⟨b + 1, fo, rfl, by omega, fun b' hb' => ?_, hH, lv_sub hl [2, 3, 4, 5, 6, 0] rfl⟩
              rw [m2 b' hb']
              by_cases q : b' = b
              · subst q; rw [hal, Bool.and_false, Bool.and_false]
              · rw [show decide (b' < b + 1) = decide (b' < b) from decide_eq_decide.mpr (by omega)]
            · omega
        · refine lv_aload_n hx hb d_J_probe_87 rfl (lv_at hl 0 rfl) ?_
          refine jg_tp Z hH d_J_probe_88 ?_
          refine lv_aload_n hx hb d_J_probe_91 rfl (lv_at hl 0 rfl) ?_
          refine jg_sz Z hH d_J_probe_92 ?_
          refine lv_iload hx hb d_J_probe_95 (lv_at hl 5 rfl) ?_
          refine ja_sz Z hH d_J_probe_97 (by omega) ?_
          refine zt (nI (cnt (S b) 30)) (a2) ?_
          refine zn_imul hx hb d_J_probe_98 ?_
          refine lv_aload_n hx hb d_J_probe_99 rfl (lv_at hl 0 rfl) ?_
          refine jg_bo Z hH d_J_probe_100 ?_
          refine lv_iload_n hx hb d_J_probe_103 rfl (lv_at hl 2 rfl) ?_
          refine zn_imul hx hb d_J_probe_104 ?_
          refine zn_icmp_gt (tgt := 112) hx hb d_J_probe_105 (by decide) (by omega) (by omega) (fun c3 => ?_) (fun c3 => ?_)
          · refine lv_iconst (v := nI 0) hx hb d_J_probe_112 (by decide) ?_
            refine lv_istore (lv' := [(7, .int (nI 0)), (0, .ref (h 0)), (1, .int (nI L)), (2, .int (nI (cnt T 30))), (3, .int cd), (5, .int fo), (6, .int (nI b))]) hx hb d_J_probe_113 hl (by decide) rfl (fun ls hl => ?_)
            refine lv_iload_n hx hb d_J_probe_115 rfl (lv_at hl 4 rfl) ?_
            refine lv_iload hx hb d_J_probe_116 (lv_at hl 6 rfl) ?_
            refine lv_ishr hx hb d_J_probe_118 ?_
            refine lv_iconst (v := nI 1) hx hb d_J_probe_119 (by decide) ?_
            refine lv_iand hx hb d_J_probe_120 ?_
            refine zt (nI (bt cd b).toNat) (z_bit _ (by omega)) ?_
            refine lv_iconst (v := nI 1) hx hb d_J_probe_121 (by decide) ?_
            refine zn_icmp_ne (tgt := 150) hx hb d_J_probe_122 (by decide) (by omega) (by omega) (fun c3 => ?_) (fun c3 => ?_)
            · have hal : alT t u T (S b) = false := bool_f key (fun z => by have := z.2.1.2; omega)
              refine lv_iinc (v := nI (b + 1)) (lv' := [(6, .int (nI (b + 1))), (7, .int (nI 0)), (0, .ref (h 0)), (1, .int (nI L)), (2, .int (nI (cnt T 30))), (3, .int cd), (5, .int fo)]) hx hb d_J_probe_150 hl (k := 6) rfl (nI_1 _) (by decide) rfl (fun ls hl => ?_)
              refine lv_goto (tgt := 57) hx hb d_J_probe_153 (by decide) ?_
              refine ih1 _ _ _ _ (by omega) ⟨b + 1, fo, rfl, by omega, fun b' hb' => ?_, hH, lv_sub hl [2, 3, 4, 5, 6, 0] rfl⟩
              rw [m2 b' hb']
              by_cases q : b' = b
              · subst q; rw [hal, Bool.and_false, Bool.and_false]
              · rw [show decide (b' < b + 1) = decide (b' < b) from decide_eq_decide.mpr (by omega)]
            · refine lv_iload hx hb d_J_probe_125 (lv_at hl 0 rfl) ?_
              refine zn_if_eq (tgt := 150) hx hb d_J_probe_127 (by decide) (by omega) (fun c4 => ?_) (fun c4 => ?_)
              · have hal : alT t u T (S b) = false := bool_f key (fun z => by have := z.2.1.2; omega)
                refine lv_iinc (v := nI (b + 1)) (lv' := [(6, .int (nI (b + 1))), (7, .int (nI 0)), (0, .ref (h 0)), (1, .int (nI L)), (2, .int (nI (cnt T 30))), (3, .int cd), (5, .int fo)]) hx hb d_J_probe_150 hl (k := 6) rfl (nI_1 _) (by decide) rfl (fun ls hl => ?_)
                refine lv_goto (tgt := 57) hx hb d_J_probe_153 (by decide) ?_
                refine ih1 _ _ _ _ (by omega) ⟨b + 1, fo, rfl, by omega, fun b' hb' => ?_, hH, lv_sub hl [2, 3, 4, 5, 6, 0] rfl⟩
                rw [m2 b' hb']
                by_cases q : b' = b
                · subst q; rw [hal, Bool.and_false, Bool.and_false]
                · rw [show decide (b' < b + 1) = decide (b' < b) from decide_eq_decide.mpr (by omega)]
              · omega
          · refine lv_iconst (v := nI 1) hx hb d_J_probe_108 (by decide) ?_
            refine lv_goto (tgt := 113) hx hb d_J_probe_109 (by decide) ?_
            refine lv_istore (lv' := [(7, .int (nI 1)), (0, .ref (h 0)), (1, .int (nI L)), (2, .int (nI (cnt T 30))), (3, .int cd), (5, .int fo), (6, .int (nI b))]) hx hb d_J_probe_113 hl (by decide) rfl (fun ls hl => ?_)
            refine lv_iload_n hx hb d_J_probe_115 rfl (lv_at hl 4 rfl) ?_
            refine lv_iload hx hb d_J_probe_116 (lv_at hl 6 rfl) ?_
            refine lv_ishr hx hb d_J_probe_118 ?_
            refine lv_iconst (v := nI 1) hx hb d_J_probe_119 (by decide) ?_
            refine lv_iand hx hb d_J_probe_120 ?_
            refine zt (nI (bt cd b).toNat) (z_bit _ (by omega)) ?_
            refine lv_iconst (v := nI 1) hx hb d_J_probe_121 (by decide) ?_
            refine zn_icmp_ne (tgt := 150) hx hb d_J_probe_122 (by decide) (by omega) (by omega) (fun c4 => ?_) (fun c4 => ?_)
            · have hal : alT t u T (S b) = false := bool_f key (fun z => c4 (tn_1.mpr (by rw [hcd b c1]; exact z.1)))
              refine lv_iinc (v := nI (b + 1)) (lv' := [(6, .int (nI (b + 1))), (7, .int (nI 1)), (0, .ref (h 0)), (1, .int (nI L)), (2, .int (nI (cnt T 30))), (3, .int cd), (5, .int fo)]) hx hb d_J_probe_150 hl (k := 6) rfl (nI_1 _) (by decide) rfl (fun ls hl => ?_)
              refine lv_goto (tgt := 57) hx hb d_J_probe_153 (by decide) ?_
              refine ih1 _ _ _ _ (by omega) ⟨b + 1, fo, rfl, by omega, fun b' hb' => ?_, hH, lv_sub hl [2, 3, 4, 5, 6, 0] rfl⟩
              rw [m2 b' hb']
              by_cases q : b' = b
              · subst q; rw [hal, Bool.and_false, Bool.and_false]
              · rw [show decide (b' < b + 1) = decide (b' < b) from decide_eq_decide.mpr (by omega)]
            · refine lv_iload hx hb d_J_probe_125 (lv_at hl 0 rfl) ?_
              refine zn_if_eq (tgt := 150) hx hb d_J_probe_127 (by decide) (by omega) (fun c5 => ?_) (fun c5 => ?_)
              · omega
              · refine lv_aload_n hx hb d_J_probe_130 rfl (lv_at hl 1 rfl) ?_
                refine lv_iload_n hx hb d_J_probe_131 rfl (lv_at hl 2 rfl) ?_
                refine lv_iload_n hx hb d_J_probe_132 rfl (lv_at hl 3 rfl) ?_
                refine lv_iload hx hb d_J_probe_133 (lv_at hl 6 rfl) ?_
                refine jc_i (As := [.int (nI L), .int (nI (cnt T 30)), .int (nI b)]) (rest := []) Z hA hH d_J_probe_135 ok_J_verify rfl (c_J_verify (f := f) (g := F b) hth hL h12 (by omega) a4 a2 (fun k hk => ⟨hfl k hk, hfb k hk⟩) (fun k hk => ⟨(hln b c1).2 k hk, lineP_bd (t := 30) (hln b c1).1 (fun y hy => (hro.1 y hy).2) k hk⟩) hf.1 (hln b c1).1.1) ⟨rfl, rfl, Nat.le_of_ble_eq_true rfl, Nat.le_of_ble_eq_true rfl⟩ hl.1 (Nat.le_of_ble_eq_true rfl) rfl (fun r σ' H locs hp hH => ?_)
                obtain ⟨rfl, rfl⟩ := hp
                have hvb := tn_le (decide (need t u (cnt T 30) (cnt (S b) 30) ≤ cnt (mem2 f (F b) (cnt (S b) 30)) (cnt T 30)))
                refine zn_if_eq (tgt := 150) hx hb d_J_probe_138 (by decide) (by omega) (fun c6 => ?_) (fun c6 => ?_)
                · have hal : alT t u T (S b) = false := bool_f key (fun z => of_decide_eq_false (tn_0.mp c6) z.2.2)
                  refine lv_iinc (v := nI (b + 1)) (lv' := [(6, .int (nI (b + 1))), (7, .int (nI 1)), (0, .ref (h 0)), (1, .int (nI L)), (2, .int (nI (cnt T 30))), (3, .int cd), (5, .int fo)]) hx hb d_J_probe_150 hl (k := 6) rfl (nI_1 _) (by decide) rfl (fun ls hl => ?_)
                  refine lv_goto (tgt := 57) hx hb d_J_probe_153 (by decide) ?_
                  refine ih1 _ _ _ _ (by omega) ⟨b + 1, fo, rfl, by omega, fun b' hb' => ?_, hH, lv_sub hl [2, 3, 4, 5, 6, 0] rfl⟩
                  rw [m2 b' hb']
                  by_cases q : b' = b
                  · subst q; rw [hal, Bool.and_false, Bool.and_false]
                  · rw [show decide (b' < b + 1) = decide (b' < b) from decide_eq_decide.mpr (by omega)]
                · have hal : alT t u T (S b) = true := key.mp ⟨by rw [← hcd b c1]; exact tn_1.mp c4, ⟨c2, c3⟩, of_decide_eq_true (tn_n0.mp c6)⟩
                  refine lv_iload hx hb d_J_probe_141 (lv_at hl 5 rfl) ?_
                  refine lv_iconst (v := nI 1) hx hb d_J_probe_143 (by decide) ?_
                  refine lv_iload hx hb d_J_probe_144 (lv_at hl 6 rfl) ?_
                  refine lv_ishl hx hb d_J_probe_146 ?_
                  refine lv_ior hx hb d_J_probe_147 ?_
                  refine lv_istore (lv' := [(5, .int (fo ||| ((nI 1) <<< (nI b &&& 31)))), (7, .int (nI 1)), (0, .ref (h 0)), (1, .int (nI L)), (2, .int (nI (cnt T 30))), (3, .int cd), (6, .int (nI b))]) hx hb d_J_probe_148 hl (by decide) rfl (fun ls hl => ?_)
                  refine lv_iinc (v := nI (b + 1)) (lv' := [(6, .int (nI (b + 1))), (5, .int (fo ||| ((nI 1) <<< (nI b &&& 31)))), (7, .int (nI 1)), (0, .ref (h 0)), (1, .int (nI L)), (2, .int (nI (cnt T 30))), (3, .int cd)]) hx hb d_J_probe_150 hl (k := 6) rfl (nI_1 _) (by decide) rfl (fun ls hl => ?_)
                  refine lv_goto (tgt := 57) hx hb d_J_probe_153 (by decide) ?_
                  refine ih1 _ _ _ _ (by omega) ⟨b + 1, fo ||| (nI 1 <<< (nI b &&& 31)), rfl, by omega, fun b' hb' => ?_, hH, lv_sub hl [3, 4, 5, 6, 1, 0] rfl⟩
                  rw [b_or, z_one b (by omega) b' hb', m2 b' hb']
                  by_cases q : b' = b
                  · subst q; simp [hal]
                  · rw [show decide (b' < b + 1) = decide (b' < b) from decide_eq_decide.mpr (by omega)]; simp [q]
    · have hfk := hfb k (by omega)
      refine lv_iload_n hx hb d_J_probe_25 rfl (lv_at hl 3 rfl) ?_
      refine lv_aload_n hx hb d_J_probe_26 rfl (lv_at hl 0 rfl) ?_
      refine jg_ix Z hH d_J_probe_27 ?_
      refine lv_aload_n hx hb d_J_probe_30 rfl (lv_at hl 0 rfl) ?_
      refine jg_rk Z hH d_J_probe_31 ?_
      refine lv_bipush (v := nI 12) hx hb d_J_probe_34 (by decide) ?_
      refine lv_iload_n hx hb d_J_probe_36 rfl (lv_at hl 1 rfl) ?_
      refine zn_imul hx hb d_J_probe_37 ?_
      refine lv_iload hx hb d_J_probe_38 (lv_at hl 5 rfl) ?_
      refine zn_iadd hx hb d_J_probe_40 ?_
      refine ja_rk Z hH d_J_probe_41 (by omega) ?_
      refine zt (nI (f k)) (hfl k (by omega)) ?_
      refine ja_ix Z hH d_J_probe_42 (by omega) ?_
      refine lv_ior hx hb d_J_probe_43 ?_
      refine lv_istore_n (lv' := [(3, .int (cd ||| (ix (f k)))), (0, .ref (h 0)), (1, .int (nI L)), (2, .int (nI (cnt T 30))), (4, .int (nI (plen t u (cnt T 30)))), (5, .int (nI k))]) hx hb d_J_probe_44 rfl hl (by decide) rfl (fun ls hl => ?_)
      refine lv_iinc (v := nI (k + 1)) (lv' := [(5, .int (nI (k + 1))), (3, .int (cd ||| (ix (f k)))), (0, .ref (h 0)), (1, .int (nI L)), (2, .int (nI (cnt T 30))), (4, .int (nI (plen t u (cnt T 30))))]) hx hb d_J_probe_45 hl (k := 5) rfl (nI_1 _) (by decide) rfl (fun ls hl => ?_)
      refine lv_goto (tgt := 18) hx hb d_J_probe_48 (by decide) ?_
      exact ih0 _ _ _ _ (by omega) ⟨k + 1, cd ||| ix (f k), rfl, by omega, fun b hb => by rw [b_or, g2 b hb, hasK_s], hH, lv_sub hl [2, 3, 4, 1, 5, 0] rfl⟩
  · refine lv_iconst (v := nI 0) hx hb d_J_probe_4 (by decide) ?_
    refine zret_i Z hr hlk (mk, sz, rk, ro, ct, ix, rw, pa, d, ds, nI n, nI t, nI u, cu) hH d_J_probe_5 ?_
    refine ⟨rfl, fun b hb => ?_⟩
    rw [b_n0]
    by_cases q : b < n
    · rw [al_empty hth c0 (hre.2 b q).2.2.1, Bool.and_false]
    · rw [decide_eq_false q, Bool.false_and]
set_option maxHeartbeats 4000000 in
set_option maxRecDepth 100000 in
/-- root(r): the label of r's group; the forest keeps its labels -/
theorem c_J_root {l : Launch} {D : va_G} {cI cZ : ClassId} {h : Nat → Nat} {mk sz rk ro ct ix rw pa : Nat → Int32} {d ds cn tp bo cu : Int32} {n r0 : Nat} {lb pr : Nat → Nat} (hn : n ≤ 20) (hr0 : r0 < n) (hfr : frst n lb pr) (hpa : ∀ r, r < n → pa r = nI (pr r)) : zMi l y_J_root b_J_root 4 (some .int) { frames := 0, cells := 0, slots := 0, locals := 0 } D cI cZ (jw h cI) [.ref (h 0), .int (nI r0)] (mk, sz, rk, ro, ct, ix, rw, pa, d, ds, cn, tp, bo, cu) (fun r σ' => r = nI (lb r0) ∧ ∃ pa' : Nat → Int32, σ' = (mk, sz, rk, ro, ct, ix, rw, pa', d, ds, cn, tp, bo, cu) ∧ ∃ pr' : Nat → Nat, frst n lb pr' ∧ ∀ r, r < n → pa' r = nI (pr' r)) := by
  refine zMi.of R_J rfl (by decide) (Nat.le_of_ble_eq_true rfl) ?_
  intro p e s m args below meth c A ls Z hr hlk hA hH hl
  obtain ⟨hx, hb, hml, hown, hts, hK⟩ := id Z
  have hl : lv_has ls 4 [(0, .ref (h 0)), (1, .int (nI r0))] := hl
  refine lv_iload_n hx hb d_J_root_0 rfl (lv_at hl 1 rfl) ?_
  refine lv_istore_n (lv' := [(2, .int (nI r0)), (0, .ref (h 0)), (1, .int (nI r0))]) hx hb d_J_root_1 rfl hl (by decide) rfl (fun ls hl => ?_)
  refine lv_iconst (v := nI 0) hx hb d_J_root_2 (by decide) ?_
  refine lv_istore_n (lv' := [(3, .int (nI 0)), (2, .int (nI r0)), (0, .ref (h 0)), (1, .int (nI r0))]) hx hb d_J_root_3 rfl hl (by decide) rfl (fun ls hl => ?_)
  refine w_loop (pc := 4) (fun n_ H locs ls => ∃ (a : Nat) (k : Nat) (pa2 : Nat → Int32) (pr2 : Nat → Nat), n_ = 20 - k ∧ a + k ≤ r0 ∧ lb a = lb r0 ∧ frst n lb pr2 ∧ (∀ r, r < n → pa2 r = nI (pr2 r)) ∧ zH D A s.heap (jw h cI (mk, sz, rk, ro, ct, ix, rw, pa2, d, ds, cn, tp, bo, cu)) H locs ∧ lv_has ls 4 [(0, .ref (h 0)), (2, .int (nI a)), (3, .int (nI k))]) ?_ _ _ _ _ ⟨r0, 0, pa, pr, rfl, Nat.le_refl _, rfl, hfr, hpa, hH, lv_sub hl [2, 1, 0] rfl⟩
  rintro _ H locs ls ⟨a, k, pa2, pr2, rfl, g1, g2, g3, g4, hH, hl⟩ ih0
  have hp1 := (g3 a (by omega)).1
  have hp2 := (g3 (pr2 a) (by omega)).1
  refine lv_iload_n hx hb d_J_root_4 rfl (lv_at hl 2 rfl) ?_
  refine lv_bipush (v := nI 20) hx hb d_J_root_5 (by decide) ?_
  refine zn_icmp_ge (tgt := 50) hx hb d_J_root_7 (by decide) (by omega) (by omega) (fun c => ?_) (fun c => ?_)
  · omega
  · refine lv_aload_n hx hb d_J_root_10 rfl (lv_at hl 0 rfl) ?_
    refine jg_pa Z hH d_J_root_11 ?_
    refine lv_iload_n hx hb d_J_root_14 rfl (lv_at hl 1 rfl) ?_
    refine ja_pa Z hH d_J_root_15 (by omega) ?_
    refine zt (nI (pr2 a)) (g4 a (by omega)) ?_
    refine lv_iload_n hx hb d_J_root_16 rfl (lv_at hl 1 rfl) ?_
    refine zn_icmp_eq (tgt := 50) hx hb d_J_root_17 (by decide) (by omega) (by omega) (fun c1 => ?_) (fun c1 => ?_)
    · refine lv_iload_n hx hb d_J_root_50 rfl (lv_at hl 1 rfl) ?_
      refine zret_i Z hr hlk (mk, sz, rk, ro, ct, ix, rw, pa2, d, ds, cn, tp, bo, cu) hH d_J_root_51 ?_
      exact ⟨by rw [← g2, (g3 a (by omega)).2.2 c1], _, rfl, pr2, g3, g4⟩
    · refine lv_aload_n hx hb d_J_root_20 rfl (lv_at hl 0 rfl) ?_
      refine jg_pa Z hH d_J_root_21 ?_
      refine lv_iload_n hx hb d_J_root_24 rfl (lv_at hl 1 rfl) ?_
      refine lv_aload_n hx hb d_J_root_25 rfl (lv_at hl 0 rfl) ?_
      refine jg_pa Z hH d_J_root_26 ?_
      refine lv_aload_n hx hb d_J_root_29 rfl (lv_at hl 0 rfl) ?_
      refine jg_pa Z hH d_J_root_30 ?_
      refine lv_iload_n hx hb d_J_root_33 rfl (lv_at hl 1 rfl) ?_
      refine ja_pa Z hH d_J_root_34 (by omega) ?_
      refine zt (nI (pr2 a)) (g4 a (by omega)) ?_
      refine ja_pa Z hH d_J_root_35 (by omega) ?_
      refine zt (nI (pr2 (pr2 a))) (g4 _ (by omega)) ?_
      refine js_pa Z hH d_J_root_36 (by omega) (fun H locs hH => ?_)
      refine lv_aload_n hx hb d_J_root_37 rfl (lv_at hl 0 rfl) ?_
      refine jg_pa Z hH d_J_root_38 ?_
      refine lv_iload_n hx hb d_J_root_41 rfl (lv_at hl 1 rfl) ?_
      refine ja_pa Z hH d_J_root_42 (by omega) ?_
      refine zt (nI (pr2 (pr2 a))) (pk_us) ?_
      refine lv_istore_n (lv' := [(2, .int (nI (pr2 (pr2 a)))), (0, .ref (h 0)), (3, .int (nI k))]) hx hb d_J_root_43 rfl hl (by decide) rfl (fun ls hl => ?_)
      refine lv_iinc (v := nI (k + 1)) (lv' := [(3, .int (nI (k + 1))), (2, .int (nI (pr2 (pr2 a)))), (0, .ref (h 0))]) hx hb d_J_root_44 hl (k := 2) rfl (nI_1 _) (by decide) rfl (fun ls hl => ?_)
      refine lv_goto (tgt := 4) hx hb d_J_root_47 (by decide) ?_
      exact ih0 _ _ _ _ (by omega) ⟨pr2 (pr2 a), k + 1, upd pa2 a (nI (pr2 (pr2 a))), nup pr2 a (pr2 (pr2 a)), rfl, by omega, by rw [(g3 (pr2 a) (by omega)).2.1, (g3 a (by omega)).2.1, g2], frst_half g3 (by omega), nup_upd g4, hH, lv_sub hl [2, 1, 0] rfl⟩
set_option maxHeartbeats 4000000 in
set_option maxRecDepth 100000 in
/-- joinRow(r): the groups of r and of its later neighbours become one -/
theorem c_J_joinRow {l : Launch} {D : va_G} {cI cZ : ClassId} {h : Nat → Nat} {mk sz rk ro ct ix rw pa : Nat → Int32} {d ds tp bo cu : Int32} {n r0 : Nat} {q : Nat → Nat → Bool} {lb pr : Nat → Nat} (hn : n ≤ 20) (hr0 : r0 < n) (hrw : ∀ b, b < n → bt (rw r0) b = q r0 b) (hlb : isLab n (qrb q r0 (r0 + 1)) lb) (hfr : frst n lb pr) (hpa : ∀ r, r < n → pa r = nI (pr r)) : zMv l y_J_joinRow b_J_joinRow 6 none { frames := 1, cells := 0, slots := 0, locals := 23 } D cI cZ (jw h cI) [.ref (h 0), .int (nI r0)] (mk, sz, rk, ro, ct, ix, rw, pa, d, ds, nI n, tp, bo, cu) (fun σ' => ∃ pa' : Nat → Int32, σ' = (mk, sz, rk, ro, ct, ix, rw, pa', d, ds, nI n, tp, bo, cu) ∧ ∃ lb' pr' : Nat → Nat, isLab n (qrb q (r0 + 1) (r0 + 2)) lb' ∧ frst n lb' pr' ∧ ∀ r, r < n → pa' r = nI (pr' r)) := by
  refine zMv.of R_J rfl (by decide) (Nat.le_of_ble_eq_true rfl) ?_
  intro p e s m args below meth c A ls Z hr hlk hA hH hl
  obtain ⟨hx, hb, hml, hown, hts, hK⟩ := id Z
  have hl : lv_has ls 6 [(0, .ref (h 0)), (1, .int (nI r0))] := hl
  refine lv_iload_n hx hb d_J_joinRow_0 rfl (lv_at hl 1 rfl) ?_
  refine lv_iconst (v := nI 1) hx hb d_J_joinRow_1 (by decide) ?_
  refine zn_iadd hx hb d_J_joinRow_2 ?_
  refine lv_istore_n (lv' := [(2, .int (nI (r0 + 1))), (0, .ref (h 0)), (1, .int (nI r0))]) hx hb d_J_joinRow_3 rfl hl (by decide) rfl (fun ls hl => ?_)
  refine w_loop (pc := 4) (fun n_ H locs ls => ∃ (b : Nat) (lb2 : Nat → Nat) (pr2 : Nat → Nat) (pa2 : Nat → Int32), n_ = 20 - b ∧ r0 < b ∧ b ≤ n ∧ isLab n (qrb q r0 b) lb2 ∧ frst n lb2 pr2 ∧ (∀ r, r < n → pa2 r = nI (pr2 r)) ∧ zH D A s.heap (jw h cI (mk, sz, rk, ro, ct, ix, rw, pa2, d, ds, nI n, tp, bo, cu)) H locs ∧ lv_has ls 6 [(0, .ref (h 0)), (1, .int (nI r0)), (2, .int (nI b))]) ?_ _ _ _ _ ⟨r0 + 1, lb, pr, pa, rfl, by omega, by omega, hlb, hfr, hpa, hH, lv_sub hl [1, 2, 0] rfl⟩
  rintro _ H locs ls ⟨b, lb2, pr2, pa2, rfl, g0, g1, g2, g3, g4, hH, hl⟩ ih0
  refine lv_iload_n hx hb d_J_joinRow_4 rfl (lv_at hl 2 rfl) ?_
  refine lv_aload_n hx hb d_J_joinRow_5 rfl (lv_at hl 0 rfl) ?_
  refine jg_cn Z hH d_J_joinRow_6 ?_
  refine zn_icmp_ge (tgt := 76) hx hb d_J_joinRow_9 (by decide) (by omega) (by omega) (fun c => ?_) (fun c => ?_)
  · refine zret_v Z hr hlk (mk, sz, rk, ro, ct, ix, rw, pa2, d, ds, nI n, tp, bo, cu) hH d_J_joinRow_76 ?_
    have eb : b = n := by omega
    subst eb
    exact ⟨_, rfl, lb2, pr2, qrb_next g2, g3, g4⟩
  · have hbit := tn_le (bt (rw r0) b)
    refine lv_aload_n hx hb d_J_joinRow_12 rfl (lv_at hl 0 rfl) ?_
    refine jg_rw Z hH d_J_joinRow_13 ?_
    refine lv_iload_n hx hb d_J_joinRow_16 rfl (lv_at hl 1 rfl) ?_
    refine ja_rw Z hH d_J_joinRow_17 (by omega) ?_
    refine lv_iload_n hx hb d_J_joinRow_18 rfl (lv_at hl 2 rfl) ?_
    refine lv_ishr hx hb d_J_joinRow_19 ?_
    refine lv_iconst (v := nI 1) hx hb d_J_joinRow_20 (by decide) ?_
    refine lv_iand hx hb d_J_joinRow_21 ?_
    refine zt (nI (bt (rw r0) b).toNat) (z_bit _ (by omega)) ?_
    refine lv_iconst (v := nI 1) hx hb d_J_joinRow_22 (by decide) ?_
    refine zn_icmp_ne (tgt := 70) hx hb d_J_joinRow_23 (by decide) (by omega) (by omega) (fun c1 => ?_) (fun c1 => ?_)
    · refine lv_iinc (v := nI (b + 1)) (lv' := [(2, .int (nI (b + 1))), (0, .ref (h 0)), (1, .int (nI r0))]) hx hb d_J_joinRow_70 hl (k := 2) rfl (nI_1 _) (by decide) rfl (fun ls hl => ?_)
      refine lv_goto (tgt := 4) hx hb d_J_joinRow_73 (by decide) ?_
      exact ih0 _ _ _ _ (by omega) ⟨b + 1, lb2, pr2, pa2, rfl, by omega, by omega, qrb_skip g2 (by rw [← hrw b c]; exact tn_n1.mp c1), g3, g4, hH, lv_sub hl [1, 2, 0] rfl⟩
    · have hq : q r0 b = true := by rw [← hrw b c]; exact tn_1.mp c1
      have hl1 := frst_le g3 r0 hr0
      have hl2 := frst_le g3 b c
      refine lv_aload_n hx hb d_J_joinRow_26 rfl (lv_at hl 0 rfl) ?_
      refine lv_iload_n hx hb d_J_joinRow_27 rfl (lv_at hl 1 rfl) ?_
      refine jc_i (As := [.int (nI r0)]) (rest := []) Z hA hH d_J_joinRow_28 ok_J_root rfl (c_J_root hn hr0 g3 g4) ⟨rfl, rfl, Nat.le_of_ble_eq_true rfl, Nat.le_of_ble_eq_true rfl⟩ hl.1 (Nat.le_of_ble_eq_true rfl) rfl (fun r σ' H locs hp hH => ?_)
      obtain ⟨rfl, pa3, rfl, pr3, g5, g6⟩ := hp
      refine lv_istore_n (lv' := [(3, .int (nI (lb2 r0))), (0, .ref (h 0)), (1, .int (nI r0)), (2, .int (nI b))]) hx hb d_J_joinRow_31 rfl hl (by decide) rfl (fun ls hl => ?_)
      refine lv_aload_n hx hb d_J_joinRow_32 rfl (lv_at hl 1 rfl) ?_
      refine lv_iload_n hx hb d_J_joinRow_33 rfl (lv_at hl 3 rfl) ?_
      refine jc_i (As := [.int (nI b)]) (rest := []) Z hA hH d_J_joinRow_34 ok_J_root rfl (c_J_root hn c g5 g6) ⟨rfl, rfl, Nat.le_of_ble_eq_true rfl, Nat.le_of_ble_eq_true rfl⟩ hl.1 (Nat.le_of_ble_eq_true rfl) rfl (fun r σ' H locs hp hH => ?_)
      obtain ⟨rfl, pa4, rfl, pr4, g7, g8⟩ := hp
      refine lv_istore (lv' := [(4, .int (nI (lb2 b))), (3, .int (nI (lb2 r0))), (0, .ref (h 0)), (1, .int (nI r0)), (2, .int (nI b))]) hx hb d_J_joinRow_37 hl (by decide) rfl (fun ls hl => ?_)
      refine lv_iload_n hx hb d_J_joinRow_39 rfl (lv_at hl 1 rfl) ?_
      refine lv_iload hx hb d_J_joinRow_40 (lv_at hl 0 rfl) ?_
      refine zn_icmp_ge (tgt := 49) hx hb d_J_joinRow_42 (by decide) (by omega) (by omega) (fun c2 => ?_) (fun c2 => ?_)
      · refine lv_iload hx hb d_J_joinRow_49 (lv_at hl 0 rfl) ?_
        refine lv_istore (lv' := [(5, .int (nI (lb2 b))), (4, .int (nI (lb2 b))), (3, .int (nI (lb2 r0))), (0, .ref (h 0)), (1, .int (nI r0)), (2, .int (nI b))]) hx hb d_J_joinRow_51 hl (by decide) rfl (fun ls hl => ?_)
        refine lv_aload_n hx hb d_J_joinRow_53 rfl (lv_at hl 3 rfl) ?_
        refine jg_pa Z hH d_J_joinRow_54 ?_
        refine lv_iload_n hx hb d_J_joinRow_57 rfl (lv_at hl 2 rfl) ?_
        refine lv_iload hx hb d_J_joinRow_58 (lv_at hl 0 rfl) ?_
        refine js_pa Z hH d_J_joinRow_60 (by omega) (fun H locs hH => ?_)
        refine lv_aload_n hx hb d_J_joinRow_61 rfl (lv_at hl 3 rfl) ?_
        refine jg_pa Z hH d_J_joinRow_62 ?_
        refine lv_iload hx hb d_J_joinRow_65 (lv_at hl 1 rfl) ?_
        refine lv_iload hx hb d_J_joinRow_67 (lv_at hl 0 rfl) ?_
        refine js_pa Z hH d_J_joinRow_69 (by omega) (fun H locs hH => ?_)
        refine lv_iinc (v := nI (b + 1)) (lv' := [(2, .int (nI (b + 1))), (5, .int (nI (lb2 b))), (4, .int (nI (lb2 b))), (3, .int (nI (lb2 r0))), (0, .ref (h 0)), (1, .int (nI r0))]) hx hb d_J_joinRow_70 hl (k := 5) rfl (nI_1 _) (by decide) rfl (fun ls hl => ?_)
        refine lv_goto (tgt := 4) hx hb d_J_joinRow_73 (by decide) ?_
        exact ih0 _ _ _ _ (by omega) ⟨b + 1, lmrg lb2 (lb2 r0) (lb2 b) (lb2 b), nup (nup pr4 (lb2 r0) (lb2 b)) (lb2 b) (lb2 b), (upd (upd pa4 (lb2 r0) (nI (lb2 b))) (lb2 b) (nI (lb2 b))), rfl, by omega, by omega, qrb_add g2 g0 c hq (Or.inr rfl) (by omega) (by omega), frst_merge g7 (lab_idem g2 hr0) (lab_idem g2 c) (Or.inr rfl) (by omega) (by omega), nup_upd (nup_upd g8), hH, lv_sub hl [4, 5, 0] rfl⟩
      · refine lv_iload_n hx hb d_J_joinRow_45 rfl (lv_at hl 1 rfl) ?_
        refine lv_goto (tgt := 51) hx hb d_J_joinRow_46 (by decide) ?_
        refine lv_istore (lv' := [(5, .int (nI (lb2 r0))), (4, .int (nI (lb2 b))), (3, .int (nI (lb2 r0))), (0, .ref (h 0)), (1, .int (nI r0)), (2, .int (nI b))]) hx hb d_J_joinRow_51 hl (by decide) rfl (fun ls hl => ?_)
        refine lv_aload_n hx hb d_J_joinRow_53 rfl (lv_at hl 3 rfl) ?_
        refine jg_pa Z hH d_J_joinRow_54 ?_
        refine lv_iload_n hx hb d_J_joinRow_57 rfl (lv_at hl 2 rfl) ?_
        refine lv_iload hx hb d_J_joinRow_58 (lv_at hl 0 rfl) ?_
        refine js_pa Z hH d_J_joinRow_60 (by omega) (fun H locs hH => ?_)
        refine lv_aload_n hx hb d_J_joinRow_61 rfl (lv_at hl 3 rfl) ?_
        refine jg_pa Z hH d_J_joinRow_62 ?_
        refine lv_iload hx hb d_J_joinRow_65 (lv_at hl 1 rfl) ?_
        refine lv_iload hx hb d_J_joinRow_67 (lv_at hl 0 rfl) ?_
        refine js_pa Z hH d_J_joinRow_69 (by omega) (fun H locs hH => ?_)
        refine lv_iinc (v := nI (b + 1)) (lv' := [(2, .int (nI (b + 1))), (5, .int (nI (lb2 r0))), (4, .int (nI (lb2 b))), (3, .int (nI (lb2 r0))), (0, .ref (h 0)), (1, .int (nI r0))]) hx hb d_J_joinRow_70 hl (k := 5) rfl (nI_1 _) (by decide) rfl (fun ls hl => ?_)
        refine lv_goto (tgt := 4) hx hb d_J_joinRow_73 (by decide) ?_
        exact ih0 _ _ _ _ (by omega) ⟨b + 1, lmrg lb2 (lb2 r0) (lb2 b) (lb2 r0), nup (nup pr4 (lb2 r0) (lb2 r0)) (lb2 b) (lb2 r0), (upd (upd pa4 (lb2 r0) (nI (lb2 r0))) (lb2 b) (nI (lb2 r0))), rfl, by omega, by omega, qrb_add g2 g0 c hq (Or.inl rfl) (by omega) (by omega), frst_merge g7 (lab_idem g2 hr0) (lab_idem g2 c) (Or.inl rfl) (by omega) (by omega), nup_upd (nup_upd g8), hH, lv_sub hl [4, 5, 0] rfl⟩
set_option maxHeartbeats 4000000 in
set_option maxRecDepth 100000 in
/-- refresh(): what is derived from the records is as they say -/
theorem c_J_refresh {l : Launch} {D : va_G} {cI cZ : ClassId} {h : Nat → Nat} {mk sz rk ro ct ix rw pa : Nat → Int32} {d ds cu : Int32} {n t u : Nat} {S : SS} (hre : reOk n S mk sz) (hth : thOk t u) (hcu : cu = nI 0 ∨ cu = nI 1 ∧ jV n t u S rk ro ct ix rw pa) : zMv l y_J_refresh b_J_refresh 5 none { frames := 2, cells := 0, slots := 0, locals := 59 } D cI cZ (jw h cI) [.ref (h 0)] (mk, sz, rk, ro, ct, ix, rw, pa, d, ds, nI n, nI t, nI u, cu) (fun σ' => ∃ rk' ro' ct' ix' rw' pa' : Nat → Int32, σ' = (mk, sz, rk', ro', ct', ix', rw', pa', d, ds, nI n, nI t, nI u, nI 1) ∧ jV n t u S rk' ro' ct' ix' rw' pa') := by
  refine zMv.of R_J rfl (by decide) (Nat.le_of_ble_eq_true rfl) ?_
  intro p e s m args below meth c A ls Z hr hlk hA hH hl
  obtain ⟨hx, hb, hml, hown, hts, hK⟩ := id Z
  have hl : lv_has ls 5 [(0, .ref (h 0))] := hl
  have hn := hre.1
  rcases hcu with rfl | ⟨rfl, hV⟩
  · refine lv_aload_n hx hb d_J_refresh_0 rfl (lv_at hl 0 rfl) ?_
    refine jg_cu Z hH d_J_refresh_1 ?_
    refine zn_if_eq (tgt := 8) hx hb d_J_refresh_4 (by decide) (by omega) (fun c0 => ?_) (fun c0 => ?_)
    · refine lv_aload_n hx hb d_J_refresh_8 rfl (lv_at hl 0 rfl) ?_
      refine lv_iconst (v := nI 1) hx hb d_J_refresh_9 (by decide) ?_
      refine jp_cu Z hH _ ⟨rfl, rfl⟩ d_J_refresh_10 (fun H locs hH => ?_)
      refine lv_aload_n hx hb d_J_refresh_13 rfl (lv_at hl 0 rfl) ?_
      refine jc_v (As := []) (rest := []) Z hA hH d_J_refresh_14 ok_J_rankTokens rfl (c_J_rankTokens hn (fun r hr => (hre.2 r hr).1)) ⟨rfl, rfl, Nat.le_of_ble_eq_true rfl, Nat.le_of_ble_eq_true rfl⟩ hl.1 (Nat.le_of_ble_eq_true rfl) rfl (fun σ' H locs hp hH => ?_)
      obtain ⟨ro1, ct1, rfl, hct, hro⟩ := hp
      generalize rkf (frq n S) = ρ at hro
      refine lv_iconst (v := nI 0) hx hb d_J_refresh_17 (by decide) ?_
      refine lv_istore_n (lv' := [(1, .int (nI 0)), (0, .ref (h 0))]) hx hb d_J_refresh_18 rfl hl (by decide) rfl (fun ls hl => ?_)
      refine w_loop (pc := 19) (fun n_ H locs ls => ∃ (i : Nat) (ix2 : Nat → Int32), n_ = 30 - i ∧ i ≤ 30 ∧ (∀ q, q < i → ix2 q = nI 0) ∧ zH D A s.heap (jw h cI (mk, sz, rk, ro1, ct1, ix2, rw, pa, d, ds, nI n, nI t, nI u, nI 1)) H locs ∧ lv_has ls 5 [(0, .ref (h 0)), (1, .int (nI i))]) ?_ _ _ _ _ ⟨0, ix, rfl, by omega, fun q hq => by omega, hH, lv_sub hl [1, 0] rfl⟩
      rintro _ H locs ls ⟨i, ix2, rfl, g1, g2, hH, hl⟩ ih0
      refine lv_iload_n hx hb d_J_refresh_19 rfl (lv_at hl 1 rfl) ?_
      refine lv_bipush (v := nI 30) hx hb d_J_refresh_20 (by decide) ?_
      refine zn_icmp_ge (tgt := 38) hx hb d_J_refresh_22 (by decide) (by omega) (by omega) (fun c => ?_) (fun c => ?_)
      · refine lv_iconst (v := nI 0) hx hb d_J_refresh_38 (by decide) ?_
        refine lv_istore_n (lv' := [(1, .int (nI 0)), (0, .ref (h 0))]) hx hb d_J_refresh_39 rfl hl (by decide) rfl (fun ls hl => ?_)
        refine w_loop (pc := 40) (fun n_ H locs ls => ∃ (r : Nat) (F : Nat → Nat → Nat) (rk2 : Nat → Int32) (ix3 : Nat → Int32), n_ = 20 - r ∧ r ≤ n ∧ linesOk r S ρ F rk2 ∧ ixOk r t u S F ix3 ∧ zH D A s.heap (jw h cI (mk, sz, rk2, ro1, ct1, ix3, rw, pa, d, ds, nI n, nI t, nI u, nI 1)) H locs ∧ lv_has ls 5 [(0, .ref (h 0)), (1, .int (nI r))]) ?_ _ _ _ _ ⟨0, (fun _ _ => 0), rk, ix2, rfl, Nat.zero_le _, fun r hr => by omega, fun q hq b hb => by rw [g2 q (by omega), b_n0]; simp, hH, lv_sub hl [1, 0] rfl⟩
        rintro _ H locs ls ⟨r, F, rk2, ix3, rfl, k1, k2, k3, hH, hl⟩ ih1
        refine lv_iload_n hx hb d_J_refresh_40 rfl (lv_at hl 1 rfl) ?_
        refine lv_aload_n hx hb d_J_refresh_41 rfl (lv_at hl 0 rfl) ?_
        refine jg_cn Z hH d_J_refresh_42 ?_
        refine zn_icmp_ge (tgt := 120) hx hb d_J_refresh_45 (by decide) (by omega) (by omega) (fun c1 => ?_) (fun c1 => ?_)
        · have er : r = n := by omega
          subst er
          refine lv_iconst (v := nI 0) hx hb d_J_refresh_120 (by decide) ?_
          refine lv_istore_n (lv' := [(1, .int (nI 0)), (0, .ref (h 0))]) hx hb d_J_refresh_121 rfl hl (by decide) rfl (fun ls hl => ?_)
          refine w_loop (pc := 122) (fun n_ H locs ls => ∃ (a : Nat) (rw2 : Nat → Int32) (pa2 : Nat → Int32), n_ = 20 - a ∧ a ≤ r ∧ (∀ i, i < a → ∀ b, b < 32 → bt (rw2 i) b = (decide (b < r) && al t u S i b)) ∧ (∀ i, i < a → pa2 i = nI i) ∧ zH D A s.heap (jw h cI (mk, sz, rk2, ro1, ct1, ix3, rw2, pa2, d, ds, nI r, nI t, nI u, nI 1)) H locs ∧ lv_has ls 5 [(0, .ref (h 0)), (1, .int (nI a))]) ?_ _ _ _ _ ⟨0, rw, pa, rfl, Nat.zero_le _, fun i hi => by omega, fun i hi => by omega, hH, lv_sub hl [1, 0] rfl⟩
          rintro _ H locs ls ⟨a, rw2, pa2, rfl, m1, m2, m3, hH, hl⟩ ih2
          refine lv_iload_n hx hb d_J_refresh_122 rfl (lv_at hl 1 rfl) ?_
          refine lv_aload_n hx hb d_J_refresh_123 rfl (lv_at hl 0 rfl) ?_
          refine jg_cn Z hH d_J_refresh_124 ?_
          refine zn_icmp_ge (tgt := 160) hx hb d_J_refresh_127 (by decide) (by omega) (by omega) (fun c2 => ?_) (fun c2 => ?_)
          · have ea : a = r := by omega
            refine lv_iconst (v := nI 0) hx hb d_J_refresh_160 (by decide) ?_
            refine lv_istore_n (lv' := [(1, .int (nI 0)), (0, .ref (h 0))]) hx hb d_J_refresh_161 rfl hl (by decide) rfl (fun ls hl => ?_)
            refine w_loop (pc := 162) (fun n_ H locs ls => ∃ (b : Nat) (lb : Nat → Nat) (pr : Nat → Nat) (pa3 : Nat → Int32), n_ = 20 - b ∧ b ≤ r ∧ isLab r (qrb (al t u S) b (b + 1)) lb ∧ frst r lb pr ∧ (∀ i, i < r → pa3 i = nI (pr i)) ∧ zH D A s.heap (jw h cI (mk, sz, rk2, ro1, ct1, ix3, rw2, pa3, d, ds, nI r, nI t, nI u, nI 1)) H locs ∧ lv_has ls 5 [(0, .ref (h 0)), (1, .int (nI b))]) ?_ _ _ _ _ ⟨0, (fun i => i), (fun i => i), pa2, rfl, Nat.zero_le _, qrb_start _ _, frst_0 _, fun i hi => m3 i (by omega), hH, lv_sub hl [1, 0] rfl⟩
            rintro _ H locs ls ⟨b, lb, pr, pa3, rfl, w1, w2, w3, w4, hH, hl⟩ ih3
            refine lv_iload_n hx hb d_J_refresh_162 rfl (lv_at hl 1 rfl) ?_
            refine lv_aload_n hx hb d_J_refresh_163 rfl (lv_at hl 0 rfl) ?_
            refine jg_cn Z hH d_J_refresh_164 ?_
            refine zn_icmp_ge (tgt := 181) hx hb d_J_refresh_167 (by decide) (by omega) (by omega) (fun c3 => ?_) (fun c3 => ?_)
            · refine zret_v Z hr hlk (mk, sz, rk2, ro1, ct1, ix3, rw2, pa3, d, ds, nI r, nI t, nI u, nI 1) hH d_J_refresh_181 ?_
              have eb : b = r := by omega
              subst eb
              exact ⟨_, _, _, _, _, _, rfl, ρ, F, hro, hct, k2, k3, fun i hi b hb => m2 i (by omega) b hb, lb, pr, qrb_full (al_comm t u S) w2, w3, w4⟩
            · refine lv_aload_n hx hb d_J_refresh_170 rfl (lv_at hl 0 rfl) ?_
              refine lv_iload_n hx hb d_J_refresh_171 rfl (lv_at hl 1 rfl) ?_
              refine jc_v (As := [.int (nI b)]) (rest := []) Z hA hH d_J_refresh_172 ok_J_joinRow rfl (c_J_joinRow (q := al t u S) hn c3 (fun b2 hb2 => by rw [m2 b (by omega) b2 (by omega), decide_eq_true hb2, Bool.true_and]) w2 w3 w4) ⟨rfl, rfl, Nat.le_of_ble_eq_true rfl, Nat.le_of_ble_eq_true rfl⟩ hl.1 (Nat.le_of_ble_eq_true rfl) rfl (fun σ' H locs hp hH => ?_)
              obtain ⟨pa4, rfl, lb2, pr2, w5, w6, w7⟩ := hp
              refine lv_iinc (v := nI (b + 1)) (lv' := [(1, .int (nI (b + 1))), (0, .ref (h 0))]) hx hb d_J_refresh_175 hl (k := 1) rfl (nI_1 _) (by decide) rfl (fun ls hl => ?_)
              refine lv_goto (tgt := 162) hx hb d_J_refresh_178 (by decide) ?_
              exact ih3 _ _ _ _ (by omega) ⟨b + 1, lb2, pr2, pa4, rfl, by omega, w5, w6, w7, hH, lv_sub hl [1, 0] rfl⟩
          · obtain ⟨a1, a2, a3, a4⟩ := hre.2 a c2
            refine lv_aload_n hx hb d_J_refresh_130 rfl (lv_at hl 0 rfl) ?_
            refine jg_rw Z hH d_J_refresh_131 ?_
            refine lv_iload_n hx hb d_J_refresh_134 rfl (lv_at hl 1 rfl) ?_
            refine lv_aload_n hx hb d_J_refresh_135 rfl (lv_at hl 0 rfl) ?_
            refine lv_iload_n hx hb d_J_refresh_136 rfl (lv_at hl 1 rfl) ?_
            refine lv_aload_n hx hb d_J_refresh_137 rfl (lv_at hl 0 rfl) ?_
            refine jg_sz Z hH d_J_refresh_138 ?_
            refine lv_iload_n hx hb d_J_refresh_141 rfl (lv_at hl 1 rfl) ?_
            refine ja_sz Z hH d_J_refresh_142 (by omega) ?_
            refine zt (nI (cnt (S a) 30)) (a2) ?_
            refine jc_i (As := [.int (nI a), .int (nI (cnt (S a) 30))]) (rest := [.int (nI a), .ref (h 7)]) Z hA hH d_J_refresh_143 ok_J_probe rfl (c_J_probe (T := S a) hth (by omega) a4 hre hro k2 k3 (k2 a c2).1 (k2 a c2).2) ⟨rfl, rfl, Nat.le_of_ble_eq_true rfl, Nat.le_of_ble_eq_true rfl⟩ hl.1 (Nat.le_of_ble_eq_true rfl) rfl (fun fo σ' H locs hp hH => ?_)
            obtain ⟨rfl, hfo⟩ := hp
            skip
            refine js_rw Z hH d_J_refresh_146 (by omega) (fun H locs hH => ?_)
            refine lv_aload_n hx hb d_J_refresh_147 rfl (lv_at hl 0 rfl) ?_
            refine jg_pa Z hH d_J_refresh_148 ?_
            refine lv_iload_n hx hb d_J_refresh_151 rfl (lv_at hl 1 rfl) ?_
            refine lv_iload_n hx hb d_J_refresh_152 rfl (lv_at hl 1 rfl) ?_
            refine js_pa Z hH d_J_refresh_153 (by omega) (fun H locs hH => ?_)
            refine lv_iinc (v := nI (a + 1)) (lv' := [(1, .int (nI (a + 1))), (0, .ref (h 0))]) hx hb d_J_refresh_154 hl (k := 1) rfl (nI_1 _) (by decide) rfl (fun ls hl => ?_)
            refine lv_goto (tgt := 122) hx hb d_J_refresh_157 (by decide) ?_
            refine ih2 _ _ _ _ (by omega) ⟨a + 1, (upd rw2 a fo), (upd pa2 a (nI a)), rfl, by omega, fun i hi b hb => ?_, fun i hi => ?_, hH, lv_sub hl [1, 0] rfl⟩
            · by_cases z : i = a
              · subst z; rw [pk_us, hfo b hb]; rfl
              · rw [pk_un z]; exact m2 i (by omega) b hb
            · by_cases z : i = a
              · subst z; rw [pk_us]
              · rw [pk_un z]; exact m3 i (by omega)
        · obtain ⟨a1, a2, a3, a4⟩ := hre.2 r c1
          refine lv_aload_n hx hb d_J_refresh_48 rfl (lv_at hl 0 rfl) ?_
          refine lv_iload_n hx hb d_J_refresh_49 rfl (lv_at hl 1 rfl) ?_
          refine lv_aload_n hx hb d_J_refresh_50 rfl (lv_at hl 0 rfl) ?_
          refine jg_mk Z hH d_J_refresh_51 ?_
          refine lv_iload_n hx hb d_J_refresh_54 rfl (lv_at hl 1 rfl) ?_
          refine ja_mk Z hH d_J_refresh_55 (by omega) ?_
          refine jc_v (As := [.int (nI r), .int (mk r)]) (rest := []) Z hA hH d_J_refresh_56 ok_J_spell rfl (c_J_spell (L := r) (ρ := ρ) (by omega) a1 a4 hro) ⟨rfl, rfl, Nat.le_of_ble_eq_true rfl, Nat.le_of_ble_eq_true rfl⟩ hl.1 (Nat.le_of_ble_eq_true rfl) rfl (fun σ' H locs hp hH => ?_)
          obtain ⟨rk4, rfl, hrk4, f, hf, hfl⟩ := hp
          have hpl := plen_le (u := u) (t := t) hth a3
          have hfb := lineP_bd (t := 30) hf (fun y hy => (hro.1 y hy).2)
          refine lv_aload_n hx hb d_J_refresh_59 rfl (lv_at hl 0 rfl) ?_
          refine lv_aload_n hx hb d_J_refresh_60 rfl (lv_at hl 0 rfl) ?_
          refine jg_sz Z hH d_J_refresh_61 ?_
          refine lv_iload_n hx hb d_J_refresh_64 rfl (lv_at hl 1 rfl) ?_
          refine ja_sz Z hH d_J_refresh_65 (by omega) ?_
          refine zt (nI (cnt (S r) 30)) (a2) ?_
          refine jc_i (As := [.int (nI (cnt (S r) 30))]) (rest := []) Z hA hH d_J_refresh_66 ok_J_prefixLength rfl (c_J_prefixLength hth a4) ⟨rfl, rfl, Nat.le_of_ble_eq_true rfl, Nat.le_of_ble_eq_true rfl⟩ hl.1 (Nat.le_of_ble_eq_true rfl) rfl (fun r σ' H locs hp hH => ?_)
          obtain ⟨rfl, rfl⟩ := hp
          refine lv_istore_n (lv' := [(2, .int (nI (plen t u (cnt (S r) 30)))), (0, .ref (h 0)), (1, .int (nI r))]) hx hb d_J_refresh_69 rfl hl (by decide) rfl (fun ls hl => ?_)
          refine lv_iconst (v := nI 0) hx hb d_J_refresh_70 (by decide) ?_
          refine lv_istore_n (lv' := [(3, .int (nI 0)), (2, .int (nI (plen t u (cnt (S r) 30)))), (0, .ref (h 0)), (1, .int (nI r))]) hx hb d_J_refresh_71 rfl hl (by decide) rfl (fun ls hl => ?_)
          refine w_loop (pc := 72) (fun n_ H locs ls => ∃ (k : Nat) (ix4 : Nat → Int32), n_ = 12 - k ∧ k ≤ plen t u (cnt (S r) 30) ∧ (∀ q, q < 30 → ∀ b, b < 32 → bt (ix4 q) b = if b = r then hasK (fun k => decide (f k = q)) k else bt (ix3 q) b) ∧ zH D A s.heap (jw h cI (mk, sz, rk4, ro1, ct1, ix4, rw, pa, d, ds, nI n, nI t, nI u, nI 1)) H locs ∧ lv_has ls 5 [(0, .ref (h 0)), (1, .int (nI r)), (2, .int (nI (plen t u (cnt (S r) 30)))), (3, .int (nI k))]) ?_ _ _ _ _ ⟨0, ix3, rfl, Nat.zero_le _, fun q hq b hb => by rw [hasK_0]; by_cases z : b = r; (· rw [if_pos z, z, k3 q hq r (by omega), decide_eq_false (by omega), Bool.false_and]); (· rw [if_neg z]), hH, lv_sub hl [2, 3, 1, 0] rfl⟩
          rintro _ H locs ls ⟨k, ix4, rfl, p1, p2, hH, hl⟩ ih2
          refine lv_iload_n hx hb d_J_refresh_72 rfl (lv_at hl 3 rfl) ?_
          refine lv_iload_n hx hb d_J_refresh_73 rfl (lv_at hl 2 rfl) ?_
          refine zn_icmp_ge (tgt := 114) hx hb d_J_refresh_74 (by decide) (by omega) (by omega) (fun c2 => ?_) (fun c2 => ?_)
          · refine lv_iinc (v := nI (r + 1)) (lv' := [(1, .int (nI (r + 1))), (0, .ref (h 0)), (2, .int (nI (plen t u (cnt (S r) 30)))), (3, .int (nI k))]) hx hb d_J_refresh_114 hl (k := 1) rfl (nI_1 _) (by decide) rfl (fun ls hl => ?_)
            refine lv_goto (tgt := 40) hx hb d_J_refresh_117 (by decide) ?_
            refine ih1 _ _ _ _ (by omega) ⟨r + 1, fput F r f, rk4, ix4, rfl, by omega, fun s hs => ?_, fun q hq b hb => ?_, hH, lv_sub hl [1, 0] rfl⟩
            · by_cases z : s = r
              · subst z
                rw [fput_s]
                exact ⟨hf, hfl⟩
              · rw [fput_n z]
                have hs2 : s < r := by omega
                refine ⟨(k2 s hs2).1, fun k hk => ?_⟩
                have h12 := (hre.2 s (by omega)).2.2.2
                rw [hrk4 _ (Or.inl (by omega))]
                exact (k2 s hs2).2 k hk
            · rw [p2 q hq b hb]
              by_cases z : b = r
              · subst z
                rw [if_pos rfl, decide_eq_true (by omega), Bool.true_and, show k = plen t u (cnt (S b) 30) by omega]
                exact hasK_congr (fun k hk => by rw [fput_s])
              · rw [if_neg z, k3 q hq b hb, show decide (b < r + 1) = decide (b < r) from decide_eq_decide.mpr (by omega)]
                by_cases y : b < r
                · congr 1; exact hasK_congr (fun k hk => by rw [fput_n z])
                · simp [y]
          · have hfk := hfb k (by omega)
            refine lv_aload_n hx hb d_J_refresh_77 rfl (lv_at hl 0 rfl) ?_
            refine jg_rk Z hH d_J_refresh_78 ?_
            refine lv_bipush (v := nI 12) hx hb d_J_refresh_81 (by decide) ?_
            refine lv_iload_n hx hb d_J_refresh_83 rfl (lv_at hl 1 rfl) ?_
            refine zn_imul hx hb d_J_refresh_84 ?_
            refine lv_iload_n hx hb d_J_refresh_85 rfl (lv_at hl 3 rfl) ?_
            refine zn_iadd hx hb d_J_refresh_86 ?_
            refine ja_rk Z hH d_J_refresh_87 (by omega) ?_
            refine zt (nI (f k)) (hfl k (by omega)) ?_
            refine lv_istore (lv' := [(4, .int (nI (f k))), (0, .ref (h 0)), (1, .int (nI r)), (2, .int (nI (plen t u (cnt (S r) 30)))), (3, .int (nI k))]) hx hb d_J_refresh_88 hl (by decide) rfl (fun ls hl => ?_)
            refine lv_aload_n hx hb d_J_refresh_90 rfl (lv_at hl 1 rfl) ?_
            refine jg_ix Z hH d_J_refresh_91 ?_
            refine lv_iload hx hb d_J_refresh_94 (lv_at hl 0 rfl) ?_
            refine lv_aload_n hx hb d_J_refresh_96 rfl (lv_at hl 1 rfl) ?_
            refine jg_ix Z hH d_J_refresh_97 ?_
            refine lv_iload hx hb d_J_refresh_100 (lv_at hl 0 rfl) ?_
            refine ja_ix Z hH d_J_refresh_102 (by omega) ?_
            refine lv_iconst (v := nI 1) hx hb d_J_refresh_103 (by decide) ?_
            refine lv_iload_n hx hb d_J_refresh_104 rfl (lv_at hl 2 rfl) ?_
            refine lv_ishl hx hb d_J_refresh_105 ?_
            refine lv_ior hx hb d_J_refresh_106 ?_
            refine js_ix Z hH d_J_refresh_107 (by omega) (fun H locs hH => ?_)
            refine lv_iinc (v := nI (k + 1)) (lv' := [(3, .int (nI (k + 1))), (4, .int (nI (f k))), (0, .ref (h 0)), (1, .int (nI r)), (2, .int (nI (plen t u (cnt (S r) 30))))]) hx hb d_J_refresh_108 hl (k := 4) rfl (nI_1 _) (by decide) rfl (fun ls hl => ?_)
            refine lv_goto (tgt := 72) hx hb d_J_refresh_111 (by decide) ?_
            refine ih2 _ _ _ _ (by omega) ⟨k + 1, (upd ix4 (f k) ((ix4 (f k)) ||| ((nI 1) <<< (nI r &&& 31)))), rfl, by omega, fun q hq b hb => ?_, hH, lv_sub hl [2, 3, 4, 0] rfl⟩
            by_cases z : q = f k
            · subst z
              rw [pk_us, b_or, z_one r (by omega) b hb, p2 _ hq b hb, hasK_s]
              by_cases y : b = r
              · subst y; simp
              · simp [y]
            · rw [pk_un z, p2 q hq b hb, hasK_s]
              by_cases y : b = r
              · subst y; simp; intro z2; exact absurd z2.symm z
              · simp [y]
      · refine lv_aload_n hx hb d_J_refresh_25 rfl (lv_at hl 0 rfl) ?_
        refine jg_ix Z hH d_J_refresh_26 ?_
        refine lv_iload_n hx hb d_J_refresh_29 rfl (lv_at hl 1 rfl) ?_
        refine lv_iconst (v := nI 0) hx hb d_J_refresh_30 (by decide) ?_
        refine js_ix Z hH d_J_refresh_31 (by omega) (fun H locs hH => ?_)
        refine lv_iinc (v := nI (i + 1)) (lv' := [(1, .int (nI (i + 1))), (0, .ref (h 0))]) hx hb d_J_refresh_32 hl (k := 1) rfl (nI_1 _) (by decide) rfl (fun ls hl => ?_)
        refine lv_goto (tgt := 19) hx hb d_J_refresh_35 (by decide) ?_
        refine ih0 _ _ _ _ (by omega) ⟨i + 1, (upd ix2 i (nI 0)), rfl, by omega, fun q hq => ?_, hH, lv_sub hl [1, 0] rfl⟩
        by_cases z : q = i
        · subst z; rw [pk_us]
        · rw [pk_un z]; exact g2 q (by omega)
    · omega
  · refine lv_aload_n hx hb d_J_refresh_0 rfl (lv_at hl 0 rfl) ?_
    refine jg_cu Z hH d_J_refresh_1 ?_
    refine zn_if_eq (tgt := 8) hx hb d_J_refresh_4 (by decide) (by omega) (fun c => ?_) (fun c => ?_)
    · omega
    · refine zret_v Z hr hlk (mk, sz, rk, ro, ct, ix, rw, pa, d, ds, nI n, nI t, nI u, nI 1) hH d_J_refresh_7 ?_
      exact ⟨_, _, _, _, _, _, rfl, hV⟩
end
section
set_option maxHeartbeats 4000000 in
set_option maxRecDepth 100000 in
/-- frequency(x) -/
theorem c_J_frequency {l : Launch} {D : va_G} {cI cZ : ClassId} {h : Nat → Nat} {mk sz rk ro ct ix rw pa : Nat → Int32} {d ds cu : Int32} {n t u : Nat} {S : SS} (x : Int32) (hI : jInv n t u S (mk, sz, rk, ro, ct, ix, rw, pa, d, ds, nI n, nI t, nI u, cu)) : zMi l y_J_frequency b_J_frequency 2 (some .int) { frames := 3, cells := 0, slots := 0, locals := 83 } D cI cZ (jw h cI) [.ref (h 0), .int x] (mk, sz, rk, ro, ct, ix, rw, pa, d, ds, nI n, nI t, nI u, cu) (fun r σ' => r = aFreq n S x ∧ jInv n t u S σ') := by
  refine zMi.of R_J rfl (by decide) (Nat.le_of_ble_eq_true rfl) ?_
  intro p e s m args below meth c A ls Z hr hlk hA hH hl
  obtain ⟨hx, hb, hml, hown, hts, hK⟩ := id Z
  have hl : lv_has ls 2 [(0, .ref (h 0)), (1, .int x)] := hl
  obtain ⟨hre, hth, ⟨hmd, rfl, hc12⟩, -, -, -, hcu⟩ := id hI
  have hn := hre.1
  refine lv_iload_n hx hb d_J_frequency_0 rfl (lv_at hl 1 rfl) ?_
  refine jc_s (As := [.int x]) (rest := []) Z hA hH d_J_frequency_1 ok_J_isToken (c_J_isToken x) ⟨rfl, rfl, Nat.le_of_ble_eq_true rfl, Nat.le_of_ble_eq_true rfl⟩ hl.1 (Nat.le_of_ble_eq_true rfl) rfl (fun r H locs hp hH => ?_)
  rcases hp with ⟨rfl, j, hj, rfl⟩ | ⟨rfl, hq⟩
  · refine zn_if_ne (tgt := 9) hx hb d_J_frequency_4 (by decide) (by omega) (fun c0 => ?_) (fun c0 => ?_)
    · refine lv_aload_n hx hb d_J_frequency_9 rfl (lv_at hl 0 rfl) ?_
      refine jc_v (As := []) (rest := []) Z hA hH d_J_frequency_10 ok_J_refresh rfl (c_J_refresh hre hth hcu) ⟨rfl, rfl, Nat.le_of_ble_eq_true rfl, Nat.le_of_ble_eq_true rfl⟩ hl.1 (Nat.le_of_ble_eq_true rfl) rfl (fun σ' H locs hp hH => ?_)
      obtain ⟨rk1, ro1, ct1, ix1, rw1, pa1, rfl, hV⟩ := hp
      have hI : jInv n t u S (mk, sz, rk1, ro1, ct1, ix1, rw1, pa1, d, nI (cnt (S 20) 30), nI n, nI t, nI u, nI 1) := ⟨hre, hth, ⟨hmd, rfl, hc12⟩, rfl, rfl, rfl, Or.inr ⟨rfl, hV⟩⟩
      obtain ⟨ρ, F, hro, hct, hln, hix, hrw, hpk⟩ := id hV
      refine lv_aload_n hx hb d_J_frequency_13 rfl (lv_at hl 0 rfl) ?_
      refine jg_ct Z hH d_J_frequency_14 ?_
      refine lv_iload_n hx hb d_J_frequency_17 rfl (lv_at hl 1 rfl) ?_
      refine ja_ct Z hH d_J_frequency_18 (by omega) ?_
      refine zret_i Z hr hlk (mk, sz, rk1, ro1, ct1, ix1, rw1, pa1, d, nI (cnt (S 20) 30), nI n, nI t, nI u, nI 1) hH d_J_frequency_19 ?_
      rw [aFreq_s hj]
      exact ⟨hct j hj, hI⟩
    · omega
  · refine zn_if_ne (tgt := 9) hx hb d_J_frequency_4 (by decide) (by omega) (fun c0 => ?_) (fun c0 => ?_)
    · omega
    · refine lv_iconst (v := (-1)) hx hb d_J_frequency_7 (by decide) ?_
      refine zret_i Z hr hlk (mk, sz, rk, ro, ct, ix, rw, pa, d, nI (cnt (S 20) 30), nI n, nI t, nI u, cu) hH d_J_frequency_8 ?_
      rw [aFreq_n hq]
      exact ⟨rfl, hI⟩
set_option maxHeartbeats 4000000 in
set_option maxRecDepth 100000 in
/-- similar(x, y) -/
theorem c_J_similar {l : Launch} {D : va_G} {cI cZ : ClassId} {h : Nat → Nat} {mk sz rk ro ct ix rw pa : Nat → Int32} {d ds cu : Int32} {n t u : Nat} {S : SS} (x y : Int32) (hI : jInv n t u S (mk, sz, rk, ro, ct, ix, rw, pa, d, ds, nI n, nI t, nI u, cu)) : zMi l y_J_similar b_J_similar 3 (some .int) { frames := 3, cells := 0, slots := 0, locals := 83 } D cI cZ (jw h cI) [.ref (h 0), .int x, .int y] (mk, sz, rk, ro, ct, ix, rw, pa, d, ds, nI n, nI t, nI u, cu) (fun r σ' => r = a2 n (fun a b => (al t u S a b).toNat) x y ∧ jInv n t u S σ') := by
  refine zMi.of R_J rfl (by decide) (Nat.le_of_ble_eq_true rfl) ?_
  intro p e s m args below meth c A ls Z hr hlk hA hH hl
  obtain ⟨hx, hb, hml, hown, hts, hK⟩ := id Z
  have hl : lv_has ls 3 [(0, .ref (h 0)), (1, .int x), (2, .int y)] := hl
  obtain ⟨hre, hth, ⟨hmd, rfl, hc12⟩, -, -, -, hcu⟩ := id hI
  have hn := hre.1
  refine lv_aload_n hx hb d_J_similar_0 rfl (lv_at hl 0 rfl) ?_
  refine lv_iload_n hx hb d_J_similar_1 rfl (lv_at hl 1 rfl) ?_
  refine jc_i (As := [.int x]) (rest := []) Z hA hH d_J_similar_2 ok_J_isRecord rfl (c_J_isRecord x hn) ⟨rfl, rfl, Nat.le_of_ble_eq_true rfl, Nat.le_of_ble_eq_true rfl⟩ hl.1 (Nat.le_of_ble_eq_true rfl) rfl (fun r σ' H locs hp hH => ?_)
  obtain ⟨rfl, hp⟩ := hp
  rcases hp with ⟨rfl, j, hj, rfl⟩ | ⟨rfl, hq⟩
  · refine zn_if_eq (tgt := 16) hx hb d_J_similar_5 (by decide) (by omega) (fun c0 => ?_) (fun c0 => ?_)
    · omega
    · refine lv_aload_n hx hb d_J_similar_8 rfl (lv_at hl 0 rfl) ?_
      refine lv_iload_n hx hb d_J_similar_9 rfl (lv_at hl 2 rfl) ?_
      refine jc_i (As := [.int y]) (rest := []) Z hA hH d_J_similar_10 ok_J_isRecord rfl (c_J_isRecord y hn) ⟨rfl, rfl, Nat.le_of_ble_eq_true rfl, Nat.le_of_ble_eq_true rfl⟩ hl.1 (Nat.le_of_ble_eq_true rfl) rfl (fun r σ' H locs hp hH => ?_)
      obtain ⟨rfl, hp⟩ := hp
      rcases hp with ⟨rfl, k, hk, rfl⟩ | ⟨rfl, hq⟩
      · refine zn_if_ne (tgt := 18) hx hb d_J_similar_13 (by decide) (by omega) (fun c1 => ?_) (fun c1 => ?_)
        · refine lv_aload_n hx hb d_J_similar_18 rfl (lv_at hl 0 rfl) ?_
          refine jc_v (As := []) (rest := []) Z hA hH d_J_similar_19 ok_J_refresh rfl (c_J_refresh hre hth hcu) ⟨rfl, rfl, Nat.le_of_ble_eq_true rfl, Nat.le_of_ble_eq_true rfl⟩ hl.1 (Nat.le_of_ble_eq_true rfl) rfl (fun σ' H locs hp hH => ?_)
          obtain ⟨rk1, ro1, ct1, ix1, rw1, pa1, rfl, hV⟩ := hp
          have hI : jInv n t u S (mk, sz, rk1, ro1, ct1, ix1, rw1, pa1, d, nI (cnt (S 20) 30), nI n, nI t, nI u, nI 1) := ⟨hre, hth, ⟨hmd, rfl, hc12⟩, rfl, rfl, rfl, Or.inr ⟨rfl, hV⟩⟩
          obtain ⟨ρ, F, hro, hct, hln, hix, hrw, hpk⟩ := id hV
          refine lv_aload_n hx hb d_J_similar_22 rfl (lv_at hl 0 rfl) ?_
          refine jg_rw Z hH d_J_similar_23 ?_
          refine lv_iload_n hx hb d_J_similar_26 rfl (lv_at hl 1 rfl) ?_
          refine ja_rw Z hH d_J_similar_27 (by omega) ?_
          refine lv_iload_n hx hb d_J_similar_28 rfl (lv_at hl 2 rfl) ?_
          refine lv_ishr hx hb d_J_similar_29 ?_
          refine lv_iconst (v := nI 1) hx hb d_J_similar_30 (by decide) ?_
          refine lv_iand hx hb d_J_similar_31 ?_
          refine zt (nI (bt (rw1 j) k).toNat) (z_bit _ (by omega)) ?_
          refine zret_i Z hr hlk (mk, sz, rk1, ro1, ct1, ix1, rw1, pa1, d, nI (cnt (S 20) 30), nI n, nI t, nI u, nI 1) hH d_J_similar_32 ?_
          rw [a2_s hn hj hk, hrw j hj k (by omega), decide_eq_true hk, Bool.true_and]
          exact ⟨rfl, hI⟩
        · omega
      · refine zn_if_ne (tgt := 18) hx hb d_J_similar_13 (by decide) (by omega) (fun c1 => ?_) (fun c1 => ?_)
        · omega
        · refine lv_iconst (v := (-1)) hx hb d_J_similar_16 (by decide) ?_
          refine zret_i Z hr hlk (mk, sz, rk, ro, ct, ix, rw, pa, d, nI (cnt (S 20) 30), nI n, nI t, nI u, cu) hH d_J_similar_17 ?_
          rw [a2_m hq]
          exact ⟨rfl, hI⟩
  · refine zn_if_eq (tgt := 16) hx hb d_J_similar_5 (by decide) (by omega) (fun c0 => ?_) (fun c0 => ?_)
    · refine lv_iconst (v := (-1)) hx hb d_J_similar_16 (by decide) ?_
      refine zret_i Z hr hlk (mk, sz, rk, ro, ct, ix, rw, pa, d, nI (cnt (S 20) 30), nI n, nI t, nI u, cu) hH d_J_similar_17 ?_
      rw [a2_n hq]
      exact ⟨rfl, hI⟩
    · omega
set_option maxHeartbeats 4000000 in
set_option maxRecDepth 100000 in
/-- pairs() -/
theorem c_J_pairs {l : Launch} {D : va_G} {cI cZ : ClassId} {h : Nat → Nat} {mk sz rk ro ct ix rw pa : Nat → Int32} {d ds cu : Int32} {n t u : Nat} {S : SS}  (hI : jInv n t u S (mk, sz, rk, ro, ct, ix, rw, pa, d, ds, nI n, nI t, nI u, cu)) : zMi l y_J_pairs b_J_pairs 3 (some .int) { frames := 3, cells := 0, slots := 0, locals := 83 } D cI cZ (jw h cI) [.ref (h 0)] (mk, sz, rk, ro, ct, ix, rw, pa, d, ds, nI n, nI t, nI u, cu) (fun r σ' => r = nI (vPairs n t u S) ∧ jInv n t u S σ') := by
  refine zMi.of R_J rfl (by decide) (Nat.le_of_ble_eq_true rfl) ?_
  intro p e s m args below meth c A ls Z hr hlk hA hH hl
  obtain ⟨hx, hb, hml, hown, hts, hK⟩ := id Z
  have hl : lv_has ls 3 [(0, .ref (h 0))] := hl
  obtain ⟨hre, hth, ⟨hmd, rfl, hc12⟩, -, -, -, hcu⟩ := id hI
  have hn := hre.1
  refine lv_aload_n hx hb d_J_pairs_0 rfl (lv_at hl 0 rfl) ?_
  refine jc_v (As := []) (rest := []) Z hA hH d_J_pairs_1 ok_J_refresh rfl (c_J_refresh hre hth hcu) ⟨rfl, rfl, Nat.le_of_ble_eq_true rfl, Nat.le_of_ble_eq_true rfl⟩ hl.1 (Nat.le_of_ble_eq_true rfl) rfl (fun σ' H locs hp hH => ?_)
  obtain ⟨rk1, ro1, ct1, ix1, rw1, pa1, rfl, hV⟩ := hp
  have hI : jInv n t u S (mk, sz, rk1, ro1, ct1, ix1, rw1, pa1, d, nI (cnt (S 20) 30), nI n, nI t, nI u, nI 1) := ⟨hre, hth, ⟨hmd, rfl, hc12⟩, rfl, rfl, rfl, Or.inr ⟨rfl, hV⟩⟩
  obtain ⟨ρ, F, hro, hct, hln, hix, hrw, hpk⟩ := id hV
  refine lv_iconst (v := nI 0) hx hb d_J_pairs_4 (by decide) ?_
  refine lv_istore_n (lv' := [(1, .int (nI 0)), (0, .ref (h 0))]) hx hb d_J_pairs_5 rfl hl (by decide) rfl (fun ls hl => ?_)
  refine lv_iconst (v := nI 0) hx hb d_J_pairs_6 (by decide) ?_
  refine lv_istore_n (lv' := [(2, .int (nI 0)), (1, .int (nI 0)), (0, .ref (h 0))]) hx hb d_J_pairs_7 rfl hl (by decide) rfl (fun ls hl => ?_)
  refine w_loop (pc := 8) (fun n_ H locs ls => ∃ (i : Nat) (k : Nat), n_ = 20 - i ∧ i ≤ n ∧ k = nsum (fun a => cnt (fun b => decide (a < b) && al t u S a b) n) i ∧ zH D A s.heap (jw h cI (mk, sz, rk1, ro1, ct1, ix1, rw1, pa1, d, nI (cnt (S 20) 30), nI n, nI t, nI u, nI 1)) H locs ∧ lv_has ls 3 [(0, .ref (h 0)), (1, .int (nI k)), (2, .int (nI i))]) ?_ _ _ _ _ ⟨0, 0, rfl, Nat.zero_le _, rfl, hH, lv_sub hl [2, 1, 0] rfl⟩
  rintro _ H locs ls ⟨i, k, rfl, g1, g2, hH, hl⟩ ih0
  refine lv_iload_n hx hb d_J_pairs_8 rfl (lv_at hl 2 rfl) ?_
  refine lv_aload_n hx hb d_J_pairs_9 rfl (lv_at hl 0 rfl) ?_
  refine jg_cn Z hH d_J_pairs_10 ?_
  refine zn_icmp_ge (tgt := 38) hx hb d_J_pairs_13 (by decide) (by omega) (by omega) (fun c => ?_) (fun c => ?_)
  · refine lv_iload_n hx hb d_J_pairs_38 rfl (lv_at hl 1 rfl) ?_
    refine zret_i Z hr hlk (mk, sz, rk1, ro1, ct1, ix1, rw1, pa1, d, nI (cnt (S 20) 30), nI n, nI t, nI u, nI 1) hH d_J_pairs_39 ?_
    have ei : i = n := by omega
    subst ei
    exact ⟨by rw [g2]; rfl, hI⟩
  · refine lv_iload_n hx hb d_J_pairs_16 rfl (lv_at hl 1 rfl) ?_
    refine lv_aload_n hx hb d_J_pairs_17 rfl (lv_at hl 0 rfl) ?_
    refine jg_rw Z hH d_J_pairs_18 ?_
    refine lv_iload_n hx hb d_J_pairs_21 rfl (lv_at hl 2 rfl) ?_
    refine ja_rw Z hH d_J_pairs_22 (by omega) ?_
    refine lv_iload_n hx hb d_J_pairs_23 rfl (lv_at hl 2 rfl) ?_
    refine lv_iconst (v := nI 1) hx hb d_J_pairs_24 (by decide) ?_
    refine zn_iadd hx hb d_J_pairs_25 ?_
    refine lv_iushr hx hb d_J_pairs_26 rfl ?_
    refine jc_s (As := [.int (((rw1 i).toUInt32 >>> ((nI (i + 1)).toUInt32 &&& Int32.toUInt32 31)).toInt32)]) (rest := [.int (nI k)]) Z hA hH d_J_pairs_27 ok_J_ones (c_J_ones _) ⟨rfl, rfl, Nat.le_of_ble_eq_true rfl, Nat.le_of_ble_eq_true rfl⟩ hl.1 (Nat.le_of_ble_eq_true rfl) rfl (fun r H locs hp hH => ?_)
    subst hp
    rw [pairs_row hn c (hrw i c)]
    refine zn_iadd hx hb d_J_pairs_30 ?_
    refine lv_istore_n (lv' := [(1, .int (nI (k + (cnt (fun b => decide (i < b) && al t u S i b) n)))), (0, .ref (h 0)), (2, .int (nI i))]) hx hb d_J_pairs_31 rfl hl (by decide) rfl (fun ls hl => ?_)
    refine lv_iinc (v := nI (i + 1)) (lv' := [(2, .int (nI (i + 1))), (1, .int (nI (k + (cnt (fun b => decide (i < b) && al t u S i b) n)))), (0, .ref (h 0))]) hx hb d_J_pairs_32 hl (k := 2) rfl (nI_1 _) (by decide) rfl (fun ls hl => ?_)
    refine lv_goto (tgt := 8) hx hb d_J_pairs_35 (by decide) ?_
    exact ih0 _ _ _ _ (by omega) ⟨i + 1, k + cnt (fun b => decide (i < b) && al t u S i b) n, rfl, by omega, by rw [g2]; rfl, hH, lv_sub hl [2, 1, 0] rfl⟩
set_option maxHeartbeats 4000000 in
set_option maxRecDepth 100000 in
/-- degree(x) -/
theorem c_J_degree {l : Launch} {D : va_G} {cI cZ : ClassId} {h : Nat → Nat} {mk sz rk ro ct ix rw pa : Nat → Int32} {d ds cu : Int32} {n t u : Nat} {S : SS} (x : Int32) (hI : jInv n t u S (mk, sz, rk, ro, ct, ix, rw, pa, d, ds, nI n, nI t, nI u, cu)) : zMi l y_J_degree b_J_degree 2 (some .int) { frames := 3, cells := 0, slots := 0, locals := 83 } D cI cZ (jw h cI) [.ref (h 0), .int x] (mk, sz, rk, ro, ct, ix, rw, pa, d, ds, nI n, nI t, nI u, cu) (fun r σ' => r = a1 n (fun w => nI (cnt (nbr t u S w) n)) x ∧ jInv n t u S σ') := by
  refine zMi.of R_J rfl (by decide) (Nat.le_of_ble_eq_true rfl) ?_
  intro p e s m args below meth c A ls Z hr hlk hA hH hl
  obtain ⟨hx, hb, hml, hown, hts, hK⟩ := id Z
  have hl : lv_has ls 2 [(0, .ref (h 0)), (1, .int x)] := hl
  obtain ⟨hre, hth, ⟨hmd, rfl, hc12⟩, -, -, -, hcu⟩ := id hI
  have hn := hre.1
  refine lv_aload_n hx hb d_J_degree_0 rfl (lv_at hl 0 rfl) ?_
  refine lv_iload_n hx hb d_J_degree_1 rfl (lv_at hl 1 rfl) ?_
  refine jc_i (As := [.int x]) (rest := []) Z hA hH d_J_degree_2 ok_J_isRecord rfl (c_J_isRecord x hn) ⟨rfl, rfl, Nat.le_of_ble_eq_true rfl, Nat.le_of_ble_eq_true rfl⟩ hl.1 (Nat.le_of_ble_eq_true rfl) rfl (fun r σ' H locs hp hH => ?_)
  obtain ⟨rfl, hp⟩ := hp
  rcases hp with ⟨rfl, j, hj, rfl⟩ | ⟨rfl, hq⟩
  · refine zn_if_ne (tgt := 10) hx hb d_J_degree_5 (by decide) (by omega) (fun c0 => ?_) (fun c0 => ?_)
    · refine lv_aload_n hx hb d_J_degree_10 rfl (lv_at hl 0 rfl) ?_
      refine jc_v (As := []) (rest := []) Z hA hH d_J_degree_11 ok_J_refresh rfl (c_J_refresh hre hth hcu) ⟨rfl, rfl, Nat.le_of_ble_eq_true rfl, Nat.le_of_ble_eq_true rfl⟩ hl.1 (Nat.le_of_ble_eq_true rfl) rfl (fun σ' H locs hp hH => ?_)
      obtain ⟨rk1, ro1, ct1, ix1, rw1, pa1, rfl, hV⟩ := hp
      have hI : jInv n t u S (mk, sz, rk1, ro1, ct1, ix1, rw1, pa1, d, nI (cnt (S 20) 30), nI n, nI t, nI u, nI 1) := ⟨hre, hth, ⟨hmd, rfl, hc12⟩, rfl, rfl, rfl, Or.inr ⟨rfl, hV⟩⟩
      obtain ⟨ρ, F, hro, hct, hln, hix, hrw, hpk⟩ := id hV
      refine lv_aload_n hx hb d_J_degree_14 rfl (lv_at hl 0 rfl) ?_
      refine jg_rw Z hH d_J_degree_15 ?_
      refine lv_iload_n hx hb d_J_degree_18 rfl (lv_at hl 1 rfl) ?_
      refine ja_rw Z hH d_J_degree_19 (by omega) ?_
      refine jc_s (As := [.int (rw1 j)]) (rest := []) Z hA hH d_J_degree_20 ok_J_ones (c_J_ones _) ⟨rfl, rfl, Nat.le_of_ble_eq_true rfl, Nat.le_of_ble_eq_true rfl⟩ hl.1 (Nat.le_of_ble_eq_true rfl) rfl (fun r H locs hp hH => ?_)
      subst hp
      rw [cnt_bits (by omega) (hrw j hj)]
      have hnb := nbr_cnt hth.2.1 S hj
      refine lv_iconst (v := nI 1) hx hb d_J_degree_23 (by decide) ?_
      refine zn_isub hx hb d_J_degree_24 (by omega) ?_
      refine zret_i Z hr hlk (mk, sz, rk1, ro1, ct1, ix1, rw1, pa1, d, nI (cnt (S 20) 30), nI n, nI t, nI u, nI 1) hH d_J_degree_25 ?_
      rw [a1_s hn hj]
      exact ⟨by congr 1; exact Nat.sub_eq_of_eq_add hnb, hI⟩
    · omega
  · refine zn_if_ne (tgt := 10) hx hb d_J_degree_5 (by decide) (by omega) (fun c0 => ?_) (fun c0 => ?_)
    · omega
    · refine lv_iconst (v := (-1)) hx hb d_J_degree_8 (by decide) ?_
      refine zret_i Z hr hlk (mk, sz, rk, ro, ct, ix, rw, pa, d, nI (cnt (S 20) 30), nI n, nI t, nI u, cu) hH d_J_degree_9 ?_
      rw [a1_n hq]
      exact ⟨rfl, hI⟩
set_option maxHeartbeats 4000000 in
set_option maxRecDepth 100000 in
/-- partner(x, y) -/
theorem c_J_partner {l : Launch} {D : va_G} {cI cZ : ClassId} {h : Nat → Nat} {mk sz rk ro ct ix rw pa : Nat → Int32} {d ds cu : Int32} {n t u : Nat} {S : SS} (x y : Int32) (hI : jInv n t u S (mk, sz, rk, ro, ct, ix, rw, pa, d, ds, nI n, nI t, nI u, cu)) : zMi l y_J_partner b_J_partner 5 (some .int) { frames := 3, cells := 0, slots := 0, locals := 83 } D cI cZ (jw h cI) [.ref (h 0), .int x, .int y] (mk, sz, rk, ro, ct, ix, rw, pa, d, ds, nI n, nI t, nI u, cu) (fun r σ' => r = a1 n (fun w => vPart n t u S y w) x ∧ jInv n t u S σ') := by
  refine zMi.of R_J rfl (by decide) (Nat.le_of_ble_eq_true rfl) ?_
  intro p e s m args below meth c A ls Z hr hlk hA hH hl
  obtain ⟨hx, hb, hml, hown, hts, hK⟩ := id Z
  have hl : lv_has ls 5 [(0, .ref (h 0)), (1, .int x), (2, .int y)] := hl
  obtain ⟨hre, hth, ⟨hmd, rfl, hc12⟩, -, -, -, hcu⟩ := id hI
  have hn := hre.1
  refine lv_aload_n hx hb d_J_partner_0 rfl (lv_at hl 0 rfl) ?_
  refine lv_iload_n hx hb d_J_partner_1 rfl (lv_at hl 1 rfl) ?_
  refine jc_i (As := [.int x]) (rest := []) Z hA hH d_J_partner_2 ok_J_isRecord rfl (c_J_isRecord x hn) ⟨rfl, rfl, Nat.le_of_ble_eq_true rfl, Nat.le_of_ble_eq_true rfl⟩ hl.1 (Nat.le_of_ble_eq_true rfl) rfl (fun r σ' H locs hp hH => ?_)
  obtain ⟨rfl, hp⟩ := hp
  rcases hp with ⟨rfl, j, hj, rfl⟩ | ⟨rfl, hq⟩
  · refine zn_if_ne (tgt := 10) hx hb d_J_partner_5 (by decide) (by omega) (fun c0 => ?_) (fun c0 => ?_)
    · refine lv_aload_n hx hb d_J_partner_10 rfl (lv_at hl 0 rfl) ?_
      refine jc_v (As := []) (rest := []) Z hA hH d_J_partner_11 ok_J_refresh rfl (c_J_refresh hre hth hcu) ⟨rfl, rfl, Nat.le_of_ble_eq_true rfl, Nat.le_of_ble_eq_true rfl⟩ hl.1 (Nat.le_of_ble_eq_true rfl) rfl (fun σ' H locs hp hH => ?_)
      obtain ⟨rk1, ro1, ct1, ix1, rw1, pa1, rfl, hV⟩ := hp
      have hI : jInv n t u S (mk, sz, rk1, ro1, ct1, ix1, rw1, pa1, d, nI (cnt (S 20) 30), nI n, nI t, nI u, nI 1) := ⟨hre, hth, ⟨hmd, rfl, hc12⟩, rfl, rfl, rfl, Or.inr ⟨rfl, hV⟩⟩
      obtain ⟨ρ, F, hro, hct, hln, hix, hrw, hpk⟩ := id hV
      refine lv_iload_n hx hb d_J_partner_14 rfl (lv_at hl 2 rfl) ?_
      refine lv_istore_n (lv' := [(3, .int y), (0, .ref (h 0)), (1, .int (nI j)), (2, .int y)]) hx hb d_J_partner_15 rfl hl (by decide) rfl (fun ls hl => ?_)
      refine lv_iconst (v := nI 0) hx hb d_J_partner_16 (by decide) ?_
      refine lv_istore (lv' := [(4, .int (nI 0)), (3, .int y), (0, .ref (h 0)), (1, .int (nI j)), (2, .int y)]) hx hb d_J_partner_17 hl (by decide) rfl (fun ls hl => ?_)
      refine w_loop (pc := 19) (fun n_ H locs ls => ∃ (i : Nat) (lf : Int32), n_ = 20 - i ∧ i ≤ n ∧ lf = y - nI (cnt (nbr t u S j) i) ∧ lfind (fun b => nbr t u S j b && decide (y = nI (cnt (nbr t u S j) b))) 0 n = lfind (fun b => nbr t u S j b && decide (y = nI (cnt (nbr t u S j) b))) i (n - i) ∧ zH D A s.heap (jw h cI (mk, sz, rk1, ro1, ct1, ix1, rw1, pa1, d, nI (cnt (S 20) 30), nI n, nI t, nI u, nI 1)) H locs ∧ lv_has ls 5 [(0, .ref (h 0)), (1, .int (nI j)), (3, .int lf), (4, .int (nI i))]) ?_ _ _ _ _ ⟨0, y, rfl, Nat.zero_le _, by rw [cnt_0, nI_0, Int32.sub_zero], rfl, hH, lv_sub hl [2, 3, 1, 0] rfl⟩
      rintro _ H locs ls ⟨i, lf, rfl, g1, g2, g3, hH, hl⟩ ih0
      refine lv_iload hx hb d_J_partner_19 (lv_at hl 3 rfl) ?_
      refine lv_aload_n hx hb d_J_partner_21 rfl (lv_at hl 0 rfl) ?_
      refine jg_cn Z hH d_J_partner_22 ?_
      refine zn_icmp_ge (tgt := 65) hx hb d_J_partner_25 (by decide) (by omega) (by omega) (fun c => ?_) (fun c => ?_)
      · refine lv_bipush (v := (-2)) hx hb d_J_partner_65 (by decide) ?_
        refine zret_i Z hr hlk (mk, sz, rk1, ro1, ct1, ix1, rw1, pa1, d, nI (cnt (S 20) 30), nI n, nI t, nI u, nI 1) hH d_J_partner_67 ?_
        rw [a1_s hn hj]
        unfold vPart
        rw [g3, lfind_end c]
        exact ⟨rfl, hI⟩
      · refine lv_iload hx hb d_J_partner_28 (lv_at hl 3 rfl) ?_
        refine lv_iload_n hx hb d_J_partner_30 rfl (lv_at hl 1 rfl) ?_
        refine zn_icmp_eq (tgt := 59) hx hb d_J_partner_31 (by decide) (by omega) (by omega) (fun c1 => ?_) (fun c1 => ?_)
        · have hnb : nbr t u S j i = false := by unfold nbr; rw [decide_eq_false (fun z => z c1), Bool.false_and]
          refine lv_iinc (v := nI (i + 1)) (lv' := [(4, .int (nI (i + 1))), (0, .ref (h 0)), (1, .int (nI j)), (3, .int lf)]) hx hb d_J_partner_59 hl (k := 3) rfl (nI_1 _) (by decide) rfl (fun ls hl => ?_)
          refine lv_goto (tgt := 19) hx hb d_J_partner_62 (by decide) ?_
          exact ih0 _ _ _ _ (by omega) ⟨i + 1, lf, rfl, by omega, by rw [cnt_f hnb]; exact g2, by rw [g3]; exact lfind_no c (by rw [hnb]; rfl), hH, lv_sub hl [1, 2, 3, 0] rfl⟩
        · have hb0 := tn_le (bt (rw1 j) i)
          have hbb : nbr t u S j i = bt (rw1 j) i := by rw [hrw j hj i (by omega), decide_eq_true c, Bool.true_and, al_comm]; unfold nbr; rw [decide_eq_true c1, Bool.true_and]
          refine lv_aload_n hx hb d_J_partner_34 rfl (lv_at hl 0 rfl) ?_
          refine jg_rw Z hH d_J_partner_35 ?_
          refine lv_iload_n hx hb d_J_partner_38 rfl (lv_at hl 1 rfl) ?_
          refine ja_rw Z hH d_J_partner_39 (by omega) ?_
          refine lv_iload hx hb d_J_partner_40 (lv_at hl 3 rfl) ?_
          refine lv_ishr hx hb d_J_partner_42 ?_
          refine lv_iconst (v := nI 1) hx hb d_J_partner_43 (by decide) ?_
          refine lv_iand hx hb d_J_partner_44 ?_
          refine zt (nI (bt (rw1 j) i).toNat) (z_bit _ (by omega)) ?_
          refine lv_iconst (v := nI 1) hx hb d_J_partner_45 (by decide) ?_
          refine zn_icmp_ne (tgt := 59) hx hb d_J_partner_46 (by decide) (by omega) (by omega) (fun c2 => ?_) (fun c2 => ?_)
          · have hnb : nbr t u S j i = false := by rw [hbb]; exact tn_n1.mp c2
            refine lv_iinc (v := nI (i + 1)) (lv' := [(4, .int (nI (i + 1))), (0, .ref (h 0)), (1, .int (nI j)), (3, .int lf)]) hx hb d_J_partner_59 hl (k := 3) rfl (nI_1 _) (by decide) rfl (fun ls hl => ?_)
            refine lv_goto (tgt := 19) hx hb d_J_partner_62 (by decide) ?_
            exact ih0 _ _ _ _ (by omega) ⟨i + 1, lf, rfl, by omega, by rw [cnt_f hnb]; exact g2, by rw [g3]; exact lfind_no c (by rw [hnb]; rfl), hH, lv_sub hl [1, 2, 3, 0] rfl⟩
          · have hnb : nbr t u S j i = true := by rw [hbb]; exact tn_1.mp c2
            refine lv_iload_n hx hb d_J_partner_49 rfl (lv_at hl 2 rfl) ?_
            refine lv_if_ne (tgt := 56) hx hb d_J_partner_50 (by decide) (fun c3 => ?_) (fun c3 => ?_)
            · refine lv_iinc (v := (lf + (-1))) (lv' := [(3, .int (lf + (-1))), (0, .ref (h 0)), (1, .int (nI j)), (4, .int (nI i))]) hx hb d_J_partner_56 hl (k := 2) rfl rfl (by decide) rfl (fun ls hl => ?_)
              refine lv_iinc (v := nI (i + 1)) (lv' := [(4, .int (nI (i + 1))), (3, .int (lf + (-1))), (0, .ref (h 0)), (1, .int (nI j))]) hx hb d_J_partner_59 hl (k := 3) rfl (nI_1 _) (by decide) rfl (fun ls hl => ?_)
              refine lv_goto (tgt := 19) hx hb d_J_partner_62 (by decide) ?_
              exact ih0 _ _ _ _ (by omega) ⟨i + 1, lf + (-1), rfl, by omega, by rw [cnt_t hnb, g2, i32_dec], by rw [g3]; exact lfind_no c (by rw [hnb, decide_eq_false (fun z => c3 (by rw [g2]; exact i32_sub0.mpr z))]; rfl), hH, lv_sub hl [2, 3, 1, 0] rfl⟩
            · refine lv_iload hx hb d_J_partner_53 (lv_at hl 3 rfl) ?_
              refine zret_i Z hr hlk (mk, sz, rk1, ro1, ct1, ix1, rw1, pa1, d, nI (cnt (S 20) 30), nI n, nI t, nI u, nI 1) hH d_J_partner_55 ?_
              rw [a1_s hn hj]
              unfold vPart
              rw [g3, lfind_yes c (by rw [hnb, decide_eq_true (i32_sub0.mp (by rw [← g2]; exact c3))]; rfl)]
              exact ⟨rfl, hI⟩
    · omega
  · refine zn_if_ne (tgt := 10) hx hb d_J_partner_5 (by decide) (by omega) (fun c0 => ?_) (fun c0 => ?_)
    · omega
    · refine lv_iconst (v := (-1)) hx hb d_J_partner_8 (by decide) ?_
      refine zret_i Z hr hlk (mk, sz, rk, ro, ct, ix, rw, pa, d, nI (cnt (S 20) 30), nI n, nI t, nI u, cu) hH d_J_partner_9 ?_
      rw [a1_n hq]
      exact ⟨rfl, hI⟩
set_option maxHeartbeats 4000000 in
set_option maxRecDepth 100000 in
/-- probeDraft(): the records that are alike to the draft -/
theorem c_J_probeDraft {l : Launch} {D : va_G} {cI cZ : ClassId} {h : Nat → Nat} {mk sz rk ro ct ix rw pa : Nat → Int32} {d ds cu : Int32} {n t u : Nat} {S : SS} (hI : jInv n t u S (mk, sz, rk, ro, ct, ix, rw, pa, d, ds, nI n, nI t, nI u, cu)) : zMi l y_J_probeDraft b_J_probeDraft 1 (some .int) { frames := 3, cells := 0, slots := 0, locals := 83 } D cI cZ (jw h cI) [.ref (h 0)] (mk, sz, rk, ro, ct, ix, rw, pa, d, ds, nI n, nI t, nI u, cu) (fun r σ' => ∃ rk' ro' ct' ix' rw' pa' : Nat → Int32, σ' = (mk, sz, rk', ro', ct', ix', rw', pa', d, ds, nI n, nI t, nI u, nI 1) ∧ jV n t u S rk' ro' ct' ix' rw' pa' ∧ ∀ b, b < 32 → bt r b = (decide (b < n) && alT t u (S 20) (S b))) := by
  refine zMi.of R_J rfl (by decide) (Nat.le_of_ble_eq_true rfl) ?_
  intro p e s m args below meth c A ls Z hr hlk hA hH hl
  obtain ⟨hx, hb, hml, hown, hts, hK⟩ := id Z
  have hl : lv_has ls 1 [(0, .ref (h 0))] := hl
  obtain ⟨hre, hth, ⟨hmd, rfl, hc12⟩, -, -, -, hcu⟩ := id hI
  have hn := hre.1
  refine lv_aload_n hx hb d_J_probeDraft_0 rfl (lv_at hl 0 rfl) ?_
  refine jc_v (As := []) (rest := []) Z hA hH d_J_probeDraft_1 ok_J_refresh rfl (c_J_refresh hre hth hcu) ⟨rfl, rfl, Nat.le_of_ble_eq_true rfl, Nat.le_of_ble_eq_true rfl⟩ hl.1 (Nat.le_of_ble_eq_true rfl) rfl (fun σ' H locs hp hH => ?_)
  obtain ⟨rk1, ro1, ct1, ix1, rw1, pa1, rfl, hV⟩ := hp
  have hI : jInv n t u S (mk, sz, rk1, ro1, ct1, ix1, rw1, pa1, d, nI (cnt (S 20) 30), nI n, nI t, nI u, nI 1) := ⟨hre, hth, ⟨hmd, rfl, hc12⟩, rfl, rfl, rfl, Or.inr ⟨rfl, hV⟩⟩
  obtain ⟨ρ, F, hro, hct, hln, hix, hrw, hpk⟩ := id hV
  refine lv_aload_n hx hb d_J_probeDraft_4 rfl (lv_at hl 0 rfl) ?_
  refine lv_bipush (v := nI 20) hx hb d_J_probeDraft_5 (by decide) ?_
  refine lv_aload_n hx hb d_J_probeDraft_7 rfl (lv_at hl 0 rfl) ?_
  refine jg_d Z hH d_J_probeDraft_8 ?_
  refine jc_v (As := [.int (nI 20), .int d]) (rest := []) Z hA hH d_J_probeDraft_11 ok_J_spell rfl (c_J_spell (L := 20) (ρ := ρ) (by omega) hmd hc12 hro) ⟨rfl, rfl, Nat.le_of_ble_eq_true rfl, Nat.le_of_ble_eq_true rfl⟩ hl.1 (Nat.le_of_ble_eq_true rfl) rfl (fun σ' H locs hp hH => ?_)
  obtain ⟨rk4, rfl, hrk4, f, hf, hfl⟩ := hp
  have hln4 := lines_rk hn (fun r hr => (hre.2 r hr).2.2.2) hln (fun i hi => hrk4 i (Or.inl hi))
  refine lv_aload_n hx hb d_J_probeDraft_14 rfl (lv_at hl 0 rfl) ?_
  refine lv_bipush (v := nI 20) hx hb d_J_probeDraft_15 (by decide) ?_
  refine lv_aload_n hx hb d_J_probeDraft_17 rfl (lv_at hl 0 rfl) ?_
  refine jg_ds Z hH d_J_probeDraft_18 ?_
  refine jc_i (As := [.int (nI 20), .int (nI (cnt (S 20) 30))]) (rest := []) Z hA hH d_J_probeDraft_21 ok_J_probe rfl (c_J_probe (L := 20) (T := S 20) hth (by omega) hc12 hre hro hln4 hix hf hfl) ⟨rfl, rfl, Nat.le_of_ble_eq_true rfl, Nat.le_of_ble_eq_true rfl⟩ hl.1 (Nat.le_of_ble_eq_true rfl) rfl (fun r σ' H locs hp hH => ?_)
  obtain ⟨rfl, hfo⟩ := hp
  refine zret_i Z hr hlk (mk, sz, rk4, ro1, ct1, ix1, rw1, pa1, d, nI (cnt (S 20) 30), nI n, nI t, nI u, nI 1) hH d_J_probeDraft_24 ?_
  exact ⟨_, _, _, _, _, _, rfl, ⟨ρ, F, hro, hct, hln4, hix, hrw, hpk⟩, hfo⟩
set_option maxHeartbeats 4000000 in
set_option maxRecDepth 100000 in
/-- matches() -/
theorem c_J_matches {l : Launch} {D : va_G} {cI cZ : ClassId} {h : Nat → Nat} {mk sz rk ro ct ix rw pa : Nat → Int32} {d ds cu : Int32} {n t u : Nat} {S : SS}  (hI : jInv n t u S (mk, sz, rk, ro, ct, ix, rw, pa, d, ds, nI n, nI t, nI u, cu)) : zMi l y_J_matches b_J_matches 2 (some .int) { frames := 4, cells := 0, slots := 0, locals := 103 } D cI cZ (jw h cI) [.ref (h 0)] (mk, sz, rk, ro, ct, ix, rw, pa, d, ds, nI n, nI t, nI u, cu) (fun r σ' => r = nI (cnt (fun s => al t u S s 20) n) ∧ jInv n t u S σ') := by
  refine zMi.of R_J rfl (by decide) (Nat.le_of_ble_eq_true rfl) ?_
  intro p e s m args below meth c A ls Z hr hlk hA hH hl
  obtain ⟨hx, hb, hml, hown, hts, hK⟩ := id Z
  have hl : lv_has ls 2 [(0, .ref (h 0))] := hl
  obtain ⟨hre, hth, ⟨hmd, rfl, hc12⟩, -, -, -, hcu⟩ := id hI
  have hn := hre.1
  refine lv_aload_n hx hb d_J_matches_0 rfl (lv_at hl 0 rfl) ?_
  refine jc_i (As := []) (rest := []) Z hA hH d_J_matches_1 ok_J_probeDraft rfl (c_J_probeDraft hI) ⟨rfl, rfl, Nat.le_of_ble_eq_true rfl, Nat.le_of_ble_eq_true rfl⟩ hl.1 (Nat.le_of_ble_eq_true rfl) rfl (fun r σ' H locs hp hH => ?_)
  obtain ⟨rk1, ro1, ct1, ix1, rw1, pa1, rfl, hV, hfo⟩ := hp
  have hI : jInv n t u S (mk, sz, rk1, ro1, ct1, ix1, rw1, pa1, d, nI (cnt (S 20) 30), nI n, nI t, nI u, nI 1) := ⟨hre, hth, ⟨hmd, rfl, hc12⟩, rfl, rfl, rfl, Or.inr ⟨rfl, hV⟩⟩
  refine lv_istore_n (lv' := [(1, .int r), (0, .ref (h 0))]) hx hb d_J_matches_4 rfl hl (by decide) rfl (fun ls hl => ?_)
  refine lv_iload_n hx hb d_J_matches_5 rfl (lv_at hl 0 rfl) ?_
  refine jc_s (As := [.int r]) (rest := []) Z hA hH d_J_matches_6 ok_J_ones (c_J_ones _) ⟨rfl, rfl, Nat.le_of_ble_eq_true rfl, Nat.le_of_ble_eq_true rfl⟩ hl.1 (Nat.le_of_ble_eq_true rfl) rfl (fun r2 H locs hp hH => ?_)
  subst hp
  refine zret_i Z hr hlk (mk, sz, rk1, ro1, ct1, ix1, rw1, pa1, d, nI (cnt (S 20) 30), nI n, nI t, nI u, nI 1) hH d_J_matches_9 ?_
  exact ⟨by rw [cnt_bits (by omega) hfo, cnt_congr (fun s hs => alT_comm t u (S 20) (S s))]; rfl, hI⟩
set_option maxHeartbeats 4000000 in
set_option maxRecDepth 100000 in
/-- match(x) -/
theorem c_J_match {l : Launch} {D : va_G} {cI cZ : ClassId} {h : Nat → Nat} {mk sz rk ro ct ix rw pa : Nat → Int32} {d ds cu : Int32} {n t u : Nat} {S : SS} (x : Int32) (hI : jInv n t u S (mk, sz, rk, ro, ct, ix, rw, pa, d, ds, nI n, nI t, nI u, cu)) : zMi l y_J_match b_J_match 4 (some .int) { frames := 4, cells := 0, slots := 0, locals := 103 } D cI cZ (jw h cI) [.ref (h 0), .int x] (mk, sz, rk, ro, ct, ix, rw, pa, d, ds, nI n, nI t, nI u, cu) (fun r σ' => r = a1 20 (fun j => vMat n t u S j) x ∧ jInv n t u S σ') := by
  refine zMi.of R_J rfl (by decide) (Nat.le_of_ble_eq_true rfl) ?_
  intro p e s m args below meth c A ls Z hr hlk hA hH hl
  obtain ⟨hx, hb, hml, hown, hts, hK⟩ := id Z
  have hl : lv_has ls 4 [(0, .ref (h 0)), (1, .int x)] := hl
  obtain ⟨hre, hth, ⟨hmd, rfl, hc12⟩, -, -, -, hcu⟩ := id hI
  have hn := hre.1
  refine lv_iload_n hx hb d_J_match_0 rfl (lv_at hl 1 rfl) ?_
  refine lv_if_lt (tgt := 10) hx hb d_J_match_1 (by decide) (fun c => ?_) (fun c => ?_)
  · refine lv_iconst (v := (-1)) hx hb d_J_match_10 (by decide) ?_
    refine zret_i Z hr hlk (mk, sz, rk, ro, ct, ix, rw, pa, d, nI (cnt (S 20) 30), nI n, nI t, nI u, cu) hH d_J_match_11 ?_
    rw [a1_n (fun ⟨j, hj, e⟩ => absurd (e ▸ c) (nI_pos (by omega)))]
    exact ⟨rfl, hI⟩
  · refine lv_iload_n hx hb d_J_match_4 rfl (lv_at hl 1 rfl) ?_
    refine lv_bipush (v := nI 20) hx hb d_J_match_5 (by decide) ?_
    refine lv_icmp_lt (tgt := 12) hx hb d_J_match_7 (by decide) (fun c1 => ?_) (fun c1 => ?_)
    · obtain ⟨j, hj, rfl⟩ : ∃ j : Nat, j < 20 ∧ x = nI j := by obtain ⟨j, hj, rfl⟩ := nI_of c; exact ⟨j, (nI_ltI hj (by omega)).mp c1, rfl⟩
      refine lv_aload_n hx hb d_J_match_12 rfl (lv_at hl 0 rfl) ?_
      refine jc_i (As := []) (rest := []) Z hA hH d_J_match_13 ok_J_probeDraft rfl (c_J_probeDraft hI) ⟨rfl, rfl, Nat.le_of_ble_eq_true rfl, Nat.le_of_ble_eq_true rfl⟩ hl.1 (Nat.le_of_ble_eq_true rfl) rfl (fun r σ' H locs hp hH => ?_)
      obtain ⟨rk1, ro1, ct1, ix1, rw1, pa1, rfl, hV, hfo⟩ := hp
      have hI : jInv n t u S (mk, sz, rk1, ro1, ct1, ix1, rw1, pa1, d, nI (cnt (S 20) 30), nI n, nI t, nI u, nI 1) := ⟨hre, hth, ⟨hmd, rfl, hc12⟩, rfl, rfl, rfl, Or.inr ⟨rfl, hV⟩⟩
      refine lv_istore_n (lv' := [(2, .int r), (0, .ref (h 0)), (1, .int (nI j))]) hx hb d_J_match_16 rfl hl (by decide) rfl (fun ls hl => ?_)
      refine lv_iload_n hx hb d_J_match_17 rfl (lv_at hl 2 rfl) ?_
      refine lv_istore_n (lv' := [(3, .int (nI j)), (2, .int r), (0, .ref (h 0)), (1, .int (nI j))]) hx hb d_J_match_18 rfl hl (by decide) rfl (fun ls hl => ?_)
      refine w_loop (pc := 19) (fun n_ H locs ls => ∃ (i : Nat), n_ = 20 - i ∧ i ≤ 20 ∧ lfind (fun s => al t u S s 20) j (n - j) = lfind (fun s => al t u S s 20) i (n - i) ∧ zH D A s.heap (jw h cI (mk, sz, rk1, ro1, ct1, ix1, rw1, pa1, d, nI (cnt (S 20) 30), nI n, nI t, nI u, nI 1)) H locs ∧ lv_has ls 4 [(0, .ref (h 0)), (2, .int r), (3, .int (nI i))]) ?_ _ _ _ _ ⟨j, rfl, by omega, rfl, hH, lv_sub hl [2, 1, 0] rfl⟩
      rintro _ H locs ls ⟨i, rfl, g1, g2, hH, hl⟩ ih0
      refine lv_iload_n hx hb d_J_match_19 rfl (lv_at hl 2 rfl) ?_
      refine lv_aload_n hx hb d_J_match_20 rfl (lv_at hl 0 rfl) ?_
      refine jg_cn Z hH d_J_match_21 ?_
      refine zn_icmp_ge (tgt := 44) hx hb d_J_match_24 (by decide) (by omega) (by omega) (fun c2 => ?_) (fun c2 => ?_)
      · refine lv_bipush (v := (-2)) hx hb d_J_match_44 (by decide) ?_
        refine zret_i Z hr hlk (mk, sz, rk1, ro1, ct1, ix1, rw1, pa1, d, nI (cnt (S 20) 30), nI n, nI t, nI u, nI 1) hH d_J_match_46 ?_
        rw [a1_s (by omega) hj]
        unfold vMat
        rw [g2, lfind_end c2]
        exact ⟨rfl, hI⟩
      · have hb0 := tn_le (bt r i)
        have hbb : al t u S i 20 = bt r i := by rw [hfo i (by omega), decide_eq_true c2, Bool.true_and, alT_comm]; rfl
        refine lv_iload_n hx hb d_J_match_27 rfl (lv_at hl 1 rfl) ?_
        refine lv_iload_n hx hb d_J_match_28 rfl (lv_at hl 2 rfl) ?_
        refine lv_ishr hx hb d_J_match_29 ?_
        refine lv_iconst (v := nI 1) hx hb d_J_match_30 (by decide) ?_
        refine lv_iand hx hb d_J_match_31 ?_
        refine zt (nI (bt r i).toNat) (z_bit _ (by omega)) ?_
        refine lv_iconst (v := nI 1) hx hb d_J_match_32 (by decide) ?_
        refine zn_icmp_ne (tgt := 38) hx hb d_J_match_33 (by decide) (by omega) (by omega) (fun c3 => ?_) (fun c3 => ?_)
        · refine lv_iinc (v := nI (i + 1)) (lv' := [(3, .int (nI (i + 1))), (0, .ref (h 0)), (2, .int r)]) hx hb d_J_match_38 hl (k := 2) rfl (nI_1 _) (by decide) rfl (fun ls hl => ?_)
          refine lv_goto (tgt := 19) hx hb d_J_match_41 (by decide) ?_
          exact ih0 _ _ _ _ (by omega) ⟨i + 1, rfl, by omega, by rw [g2]; exact lfind_no c2 (by rw [hbb]; exact tn_n1.mp c3), hH, lv_sub hl [1, 2, 0] rfl⟩
        · refine lv_iload_n hx hb d_J_match_36 rfl (lv_at hl 2 rfl) ?_
          refine zret_i Z hr hlk (mk, sz, rk1, ro1, ct1, ix1, rw1, pa1, d, nI (cnt (S 20) 30), nI n, nI t, nI u, nI 1) hH d_J_match_37 ?_
          rw [a1_s (by omega) hj]
          unfold vMat
          rw [g2, lfind_yes c2 (by rw [hbb]; exact tn_1.mp c3)]
          exact ⟨rfl, hI⟩
    · refine lv_iconst (v := (-1)) hx hb d_J_match_10 (by decide) ?_
      refine zret_i Z hr hlk (mk, sz, rk, ro, ct, ix, rw, pa, d, nI (cnt (S 20) 30), nI n, nI t, nI u, cu) hH d_J_match_11 ?_
      rw [a1_n (fun ⟨j, hj, e⟩ => c1 (by rw [e]; exact nI_lt hj (by omega)))]
      exact ⟨rfl, hI⟩
set_option maxHeartbeats 4000000 in
set_option maxRecDepth 100000 in
/-- groups() -/
theorem c_J_groups {l : Launch} {D : va_G} {cI cZ : ClassId} {h : Nat → Nat} {mk sz rk ro ct ix rw pa : Nat → Int32} {d ds cu : Int32} {n t u : Nat} {S : SS} {lb : Nat → Nat}  (hI : jInv n t u S (mk, sz, rk, ro, ct, ix, rw, pa, d, ds, nI n, nI t, nI u, cu)) (hlb : isLab n (al t u S) lb) : zMi l y_J_groups b_J_groups 3 (some .int) { frames := 3, cells := 0, slots := 0, locals := 83 } D cI cZ (jw h cI) [.ref (h 0)] (mk, sz, rk, ro, ct, ix, rw, pa, d, ds, nI n, nI t, nI u, cu) (fun r σ' => r = nI (vGrp n lb) ∧ jInv n t u S σ') := by
  refine zMi.of R_J rfl (by decide) (Nat.le_of_ble_eq_true rfl) ?_
  intro p e s m args below meth c A ls Z hr hlk hA hH hl
  obtain ⟨hx, hb, hml, hown, hts, hK⟩ := id Z
  have hl : lv_has ls 3 [(0, .ref (h 0))] := hl
  obtain ⟨hre, hth, ⟨hmd, rfl, hc12⟩, -, -, -, hcu⟩ := id hI
  have hn := hre.1
  refine lv_aload_n hx hb d_J_groups_0 rfl (lv_at hl 0 rfl) ?_
  refine jc_v (As := []) (rest := []) Z hA hH d_J_groups_1 ok_J_refresh rfl (c_J_refresh hre hth hcu) ⟨rfl, rfl, Nat.le_of_ble_eq_true rfl, Nat.le_of_ble_eq_true rfl⟩ hl.1 (Nat.le_of_ble_eq_true rfl) rfl (fun σ' H locs hp hH => ?_)
  obtain ⟨rk1, ro1, ct1, ix1, rw1, pa1, rfl, hV⟩ := hp
  have hI : jInv n t u S (mk, sz, rk1, ro1, ct1, ix1, rw1, pa1, d, nI (cnt (S 20) 30), nI n, nI t, nI u, nI 1) := ⟨hre, hth, ⟨hmd, rfl, hc12⟩, rfl, rfl, rfl, Or.inr ⟨rfl, hV⟩⟩
  obtain ⟨ρ, F, hro, hct, hln, hix, hrw, hpk⟩ := id hV
  obtain ⟨pr, hfr, hpa⟩ := paOk_lab hpk hlb
  refine lv_iconst (v := nI 0) hx hb d_J_groups_4 (by decide) ?_
  refine lv_istore_n (lv' := [(1, .int (nI 0)), (0, .ref (h 0))]) hx hb d_J_groups_5 rfl hl (by decide) rfl (fun ls hl => ?_)
  refine lv_iconst (v := nI 0) hx hb d_J_groups_6 (by decide) ?_
  refine lv_istore_n (lv' := [(2, .int (nI 0)), (1, .int (nI 0)), (0, .ref (h 0))]) hx hb d_J_groups_7 rfl hl (by decide) rfl (fun ls hl => ?_)
  refine w_loop (pc := 8) (fun n_ H locs ls => ∃ (i : Nat) (k : Nat), n_ = 20 - i ∧ i ≤ n ∧ k = cnt (fun r => decide (lb r = r)) i ∧ zH D A s.heap (jw h cI (mk, sz, rk1, ro1, ct1, ix1, rw1, pa1, d, nI (cnt (S 20) 30), nI n, nI t, nI u, nI 1)) H locs ∧ lv_has ls 3 [(0, .ref (h 0)), (1, .int (nI k)), (2, .int (nI i))]) ?_ _ _ _ _ ⟨0, 0, rfl, Nat.zero_le _, rfl, hH, lv_sub hl [2, 1, 0] rfl⟩
  rintro _ H locs ls ⟨i, k, rfl, g1, g2, hH, hl⟩ ih0
  refine lv_iload_n hx hb d_J_groups_8 rfl (lv_at hl 2 rfl) ?_
  refine lv_aload_n hx hb d_J_groups_9 rfl (lv_at hl 0 rfl) ?_
  refine jg_cn Z hH d_J_groups_10 ?_
  refine zn_icmp_ge (tgt := 35) hx hb d_J_groups_13 (by decide) (by omega) (by omega) (fun c => ?_) (fun c => ?_)
  · refine lv_iload_n hx hb d_J_groups_35 rfl (lv_at hl 1 rfl) ?_
    refine zret_i Z hr hlk (mk, sz, rk1, ro1, ct1, ix1, rw1, pa1, d, nI (cnt (S 20) 30), nI n, nI t, nI u, nI 1) hH d_J_groups_36 ?_
    have ei : i = n := by omega
    subst ei
    exact ⟨by rw [g2]; rfl, hI⟩
  · have hp1 := (hfr i c).1
    have hrt := frst_root hfr c
    refine lv_aload_n hx hb d_J_groups_16 rfl (lv_at hl 0 rfl) ?_
    refine jg_pa Z hH d_J_groups_17 ?_
    refine lv_iload_n hx hb d_J_groups_20 rfl (lv_at hl 2 rfl) ?_
    refine ja_pa Z hH d_J_groups_21 (by omega) ?_
    refine zt (nI (pr i)) (hpa i c) ?_
    refine lv_iload_n hx hb d_J_groups_22 rfl (lv_at hl 2 rfl) ?_
    refine zn_icmp_ne (tgt := 29) hx hb d_J_groups_23 (by decide) (by omega) (by omega) (fun c1 => ?_) (fun c1 => ?_)
    · refine lv_iinc (v := nI (i + 1)) (lv' := [(2, .int (nI (i + 1))), (0, .ref (h 0)), (1, .int (nI k))]) hx hb d_J_groups_29 hl (k := 2) rfl (nI_1 _) (by decide) rfl (fun ls hl => ?_)
      refine lv_goto (tgt := 8) hx hb d_J_groups_32 (by decide) ?_
      exact ih0 _ _ _ _ (by omega) ⟨i + 1, k, rfl, by omega, by rw [cnt_f (decide_eq_false (fun z => c1 (hrt.mpr z))), g2], hH, lv_sub hl [1, 2, 0] rfl⟩
    · refine lv_iinc (v := nI (k + 1)) (lv' := [(1, .int (nI (k + 1))), (0, .ref (h 0)), (2, .int (nI i))]) hx hb d_J_groups_26 hl (k := 1) rfl (nI_1 _) (by decide) rfl (fun ls hl => ?_)
      refine lv_iinc (v := nI (i + 1)) (lv' := [(2, .int (nI (i + 1))), (1, .int (nI (k + 1))), (0, .ref (h 0))]) hx hb d_J_groups_29 hl (k := 2) rfl (nI_1 _) (by decide) rfl (fun ls hl => ?_)
      refine lv_goto (tgt := 8) hx hb d_J_groups_32 (by decide) ?_
      exact ih0 _ _ _ _ (by omega) ⟨i + 1, k + 1, rfl, by omega, by rw [cnt_t (decide_eq_true (hrt.mp c1)), g2], hH, lv_sub hl [2, 1, 0] rfl⟩
set_option maxHeartbeats 4000000 in
set_option maxRecDepth 100000 in
/-- groupOf(x) -/
theorem c_J_groupOf {l : Launch} {D : va_G} {cI cZ : ClassId} {h : Nat → Nat} {mk sz rk ro ct ix rw pa : Nat → Int32} {d ds cu : Int32} {n t u : Nat} {S : SS} {lb : Nat → Nat} (x : Int32) (hI : jInv n t u S (mk, sz, rk, ro, ct, ix, rw, pa, d, ds, nI n, nI t, nI u, cu)) (hlb : isLab n (al t u S) lb) : zMi l y_J_groupOf b_J_groupOf 2 (some .int) { frames := 3, cells := 0, slots := 0, locals := 83 } D cI cZ (jw h cI) [.ref (h 0), .int x] (mk, sz, rk, ro, ct, ix, rw, pa, d, ds, nI n, nI t, nI u, cu) (fun r σ' => r = a1 n (fun w => nI (lb w)) x ∧ jInv n t u S σ') := by
  refine zMi.of R_J rfl (by decide) (Nat.le_of_ble_eq_true rfl) ?_
  intro p e s m args below meth c A ls Z hr hlk hA hH hl
  obtain ⟨hx, hb, hml, hown, hts, hK⟩ := id Z
  have hl : lv_has ls 2 [(0, .ref (h 0)), (1, .int x)] := hl
  obtain ⟨hre, hth, ⟨hmd, rfl, hc12⟩, -, -, -, hcu⟩ := id hI
  have hn := hre.1
  refine lv_aload_n hx hb d_J_groupOf_0 rfl (lv_at hl 0 rfl) ?_
  refine lv_iload_n hx hb d_J_groupOf_1 rfl (lv_at hl 1 rfl) ?_
  refine jc_i (As := [.int x]) (rest := []) Z hA hH d_J_groupOf_2 ok_J_isRecord rfl (c_J_isRecord x hn) ⟨rfl, rfl, Nat.le_of_ble_eq_true rfl, Nat.le_of_ble_eq_true rfl⟩ hl.1 (Nat.le_of_ble_eq_true rfl) rfl (fun r σ' H locs hp hH => ?_)
  obtain ⟨rfl, hp⟩ := hp
  rcases hp with ⟨rfl, j, hj, rfl⟩ | ⟨rfl, hq⟩
  · refine zn_if_ne (tgt := 10) hx hb d_J_groupOf_5 (by decide) (by omega) (fun c0 => ?_) (fun c0 => ?_)
    · refine lv_aload_n hx hb d_J_groupOf_10 rfl (lv_at hl 0 rfl) ?_
      refine jc_v (As := []) (rest := []) Z hA hH d_J_groupOf_11 ok_J_refresh rfl (c_J_refresh hre hth hcu) ⟨rfl, rfl, Nat.le_of_ble_eq_true rfl, Nat.le_of_ble_eq_true rfl⟩ hl.1 (Nat.le_of_ble_eq_true rfl) rfl (fun σ' H locs hp hH => ?_)
      obtain ⟨rk1, ro1, ct1, ix1, rw1, pa1, rfl, hV⟩ := hp
      have hI : jInv n t u S (mk, sz, rk1, ro1, ct1, ix1, rw1, pa1, d, nI (cnt (S 20) 30), nI n, nI t, nI u, nI 1) := ⟨hre, hth, ⟨hmd, rfl, hc12⟩, rfl, rfl, rfl, Or.inr ⟨rfl, hV⟩⟩
      obtain ⟨ρ, F, hro, hct, hln, hix, hrw, hpk⟩ := id hV
      obtain ⟨pr, hfr, hpa⟩ := paOk_lab hpk hlb
      refine lv_aload_n hx hb d_J_groupOf_14 rfl (lv_at hl 0 rfl) ?_
      refine lv_iload_n hx hb d_J_groupOf_15 rfl (lv_at hl 1 rfl) ?_
      refine jc_i (As := [.int (nI j)]) (rest := []) Z hA hH d_J_groupOf_16 ok_J_root rfl (c_J_root hn hj hfr hpa) ⟨rfl, rfl, Nat.le_of_ble_eq_true rfl, Nat.le_of_ble_eq_true rfl⟩ hl.1 (Nat.le_of_ble_eq_true rfl) rfl (fun r σ' H locs hp hH => ?_)
      obtain ⟨rfl, pa2, rfl, pr2, hfr2, hpa2⟩ := hp
      refine zret_i Z hr hlk (mk, sz, rk1, ro1, ct1, ix1, rw1, pa2, d, nI (cnt (S 20) 30), nI n, nI t, nI u, nI 1) hH d_J_groupOf_19 ?_
      rw [a1_s hn hj]
      exact ⟨rfl, hre, hth, ⟨hmd, rfl, hc12⟩, rfl, rfl, rfl, Or.inr ⟨rfl, jV_pa hV hlb hfr2 hpa2⟩⟩
    · omega
  · refine zn_if_ne (tgt := 10) hx hb d_J_groupOf_5 (by decide) (by omega) (fun c0 => ?_) (fun c0 => ?_)
    · omega
    · refine lv_iconst (v := (-1)) hx hb d_J_groupOf_8 (by decide) ?_
      refine zret_i Z hr hlk (mk, sz, rk, ro, ct, ix, rw, pa, d, nI (cnt (S 20) 30), nI n, nI t, nI u, cu) hH d_J_groupOf_9 ?_
      rw [a1_n hq]
      exact ⟨rfl, hI⟩
set_option maxHeartbeats 4000000 in
set_option maxRecDepth 100000 in
/-- groupSize(x) -/
theorem c_J_groupSize {l : Launch} {D : va_G} {cI cZ : ClassId} {h : Nat → Nat} {mk sz rk ro ct ix rw pa : Nat → Int32} {d ds cu : Int32} {n t u : Nat} {S : SS} {lb : Nat → Nat} (x : Int32) (hI : jInv n t u S (mk, sz, rk, ro, ct, ix, rw, pa, d, ds, nI n, nI t, nI u, cu)) (hlb : isLab n (al t u S) lb) : zMi l y_J_groupSize b_J_groupSize 5 (some .int) { frames := 3, cells := 0, slots := 0, locals := 83 } D cI cZ (jw h cI) [.ref (h 0), .int x] (mk, sz, rk, ro, ct, ix, rw, pa, d, ds, nI n, nI t, nI u, cu) (fun r σ' => r = a1 n (fun w => vGsz n lb w) x ∧ jInv n t u S σ') := by
  refine zMi.of R_J rfl (by decide) (Nat.le_of_ble_eq_true rfl) ?_
  intro p e s m args below meth c A ls Z hr hlk hA hH hl
  obtain ⟨hx, hb, hml, hown, hts, hK⟩ := id Z
  have hl : lv_has ls 5 [(0, .ref (h 0)), (1, .int x)] := hl
  obtain ⟨hre, hth, ⟨hmd, rfl, hc12⟩, -, -, -, hcu⟩ := id hI
  have hn := hre.1
  refine lv_aload_n hx hb d_J_groupSize_0 rfl (lv_at hl 0 rfl) ?_
  refine lv_iload_n hx hb d_J_groupSize_1 rfl (lv_at hl 1 rfl) ?_
  refine jc_i (As := [.int x]) (rest := []) Z hA hH d_J_groupSize_2 ok_J_isRecord rfl (c_J_isRecord x hn) ⟨rfl, rfl, Nat.le_of_ble_eq_true rfl, Nat.le_of_ble_eq_true rfl⟩ hl.1 (Nat.le_of_ble_eq_true rfl) rfl (fun r σ' H locs hp hH => ?_)
  obtain ⟨rfl, hp⟩ := hp
  rcases hp with ⟨rfl, j, hj, rfl⟩ | ⟨rfl, hq⟩
  · refine zn_if_ne (tgt := 10) hx hb d_J_groupSize_5 (by decide) (by omega) (fun c0 => ?_) (fun c0 => ?_)
    · refine lv_aload_n hx hb d_J_groupSize_10 rfl (lv_at hl 0 rfl) ?_
      refine jc_v (As := []) (rest := []) Z hA hH d_J_groupSize_11 ok_J_refresh rfl (c_J_refresh hre hth hcu) ⟨rfl, rfl, Nat.le_of_ble_eq_true rfl, Nat.le_of_ble_eq_true rfl⟩ hl.1 (Nat.le_of_ble_eq_true rfl) rfl (fun σ' H locs hp hH => ?_)
      obtain ⟨rk1, ro1, ct1, ix1, rw1, pa1, rfl, hV⟩ := hp
      have hI : jInv n t u S (mk, sz, rk1, ro1, ct1, ix1, rw1, pa1, d, nI (cnt (S 20) 30), nI n, nI t, nI u, nI 1) := ⟨hre, hth, ⟨hmd, rfl, hc12⟩, rfl, rfl, rfl, Or.inr ⟨rfl, hV⟩⟩
      obtain ⟨ρ, F, hro, hct, hln, hix, hrw, hpk⟩ := id hV
      obtain ⟨pr, hfr, hpa⟩ := paOk_lab hpk hlb
      have hlj := frst_le hfr j hj
      refine lv_aload_n hx hb d_J_groupSize_14 rfl (lv_at hl 0 rfl) ?_
      refine lv_iload_n hx hb d_J_groupSize_15 rfl (lv_at hl 1 rfl) ?_
      refine jc_i (As := [.int (nI j)]) (rest := []) Z hA hH d_J_groupSize_16 ok_J_root rfl (c_J_root hn hj hfr hpa) ⟨rfl, rfl, Nat.le_of_ble_eq_true rfl, Nat.le_of_ble_eq_true rfl⟩ hl.1 (Nat.le_of_ble_eq_true rfl) rfl (fun r σ' H locs hp hH => ?_)
      obtain ⟨rfl, pa2, rfl, pr2, hfr2, hpa2⟩ := hp
      refine lv_istore_n (lv' := [(2, .int (nI (lb j))), (0, .ref (h 0)), (1, .int (nI j))]) hx hb d_J_groupSize_19 rfl hl (by decide) rfl (fun ls hl => ?_)
      refine lv_iconst (v := nI 0) hx hb d_J_groupSize_20 (by decide) ?_
      refine lv_istore_n (lv' := [(3, .int (nI 0)), (2, .int (nI (lb j))), (0, .ref (h 0)), (1, .int (nI j))]) hx hb d_J_groupSize_21 rfl hl (by decide) rfl (fun ls hl => ?_)
      refine lv_iconst (v := nI 0) hx hb d_J_groupSize_22 (by decide) ?_
      refine lv_istore (lv' := [(4, .int (nI 0)), (3, .int (nI 0)), (2, .int (nI (lb j))), (0, .ref (h 0)), (1, .int (nI j))]) hx hb d_J_groupSize_23 hl (by decide) rfl (fun ls hl => ?_)
      refine w_loop (pc := 25) (fun n_ H locs ls => ∃ (i : Nat) (k : Nat) (pa3 : Nat → Int32) (pr3 : Nat → Nat), n_ = 20 - i ∧ i ≤ n ∧ k = cnt (fun r => decide (lb r = lb j)) i ∧ frst n lb pr3 ∧ (∀ r, r < n → pa3 r = nI (pr3 r)) ∧ zH D A s.heap (jw h cI (mk, sz, rk1, ro1, ct1, ix1, rw1, pa3, d, nI (cnt (S 20) 30), nI n, nI t, nI u, nI 1)) H locs ∧ lv_has ls 5 [(0, .ref (h 0)), (2, .int (nI (lb j))), (3, .int (nI k)), (4, .int (nI i))]) ?_ _ _ _ _ ⟨0, 0, pa2, pr2, rfl, Nat.zero_le _, rfl, hfr2, hpa2, hH, lv_sub hl [3, 2, 1, 0] rfl⟩
      rintro _ H locs ls ⟨i, k, pa3, pr3, rfl, g1, g2, g3, g4, hH, hl⟩ ih0
      refine lv_iload hx hb d_J_groupSize_25 (lv_at hl 3 rfl) ?_
      refine lv_aload_n hx hb d_J_groupSize_27 rfl (lv_at hl 0 rfl) ?_
      refine jg_cn Z hH d_J_groupSize_28 ?_
      refine zn_icmp_ge (tgt := 53) hx hb d_J_groupSize_31 (by decide) (by omega) (by omega) (fun c => ?_) (fun c => ?_)
      · refine lv_iload_n hx hb d_J_groupSize_53 rfl (lv_at hl 2 rfl) ?_
        refine zret_i Z hr hlk (mk, sz, rk1, ro1, ct1, ix1, rw1, pa3, d, nI (cnt (S 20) 30), nI n, nI t, nI u, nI 1) hH d_J_groupSize_54 ?_
        have ei : i = n := by omega
        subst ei
        rw [a1_s hn hj]
        exact ⟨by rw [g2]; rfl, hre, hth, ⟨hmd, rfl, hc12⟩, rfl, rfl, rfl, Or.inr ⟨rfl, jV_pa hV hlb g3 g4⟩⟩
      · have hli := frst_le hfr i c
        refine lv_aload_n hx hb d_J_groupSize_34 rfl (lv_at hl 0 rfl) ?_
        refine lv_iload hx hb d_J_groupSize_35 (lv_at hl 3 rfl) ?_
        refine jc_i (As := [.int (nI i)]) (rest := []) Z hA hH d_J_groupSize_37 ok_J_root rfl (c_J_root hn c g3 g4) ⟨rfl, rfl, Nat.le_of_ble_eq_true rfl, Nat.le_of_ble_eq_true rfl⟩ hl.1 (Nat.le_of_ble_eq_true rfl) rfl (fun r σ' H locs hp hH => ?_)
        obtain ⟨rfl, pa4, rfl, pr4, g5, g6⟩ := hp
        refine lv_iload_n hx hb d_J_groupSize_40 rfl (lv_at hl 1 rfl) ?_
        refine zn_icmp_ne (tgt := 47) hx hb d_J_groupSize_41 (by decide) (by omega) (by omega) (fun c1 => ?_) (fun c1 => ?_)
        · refine lv_iinc (v := nI (i + 1)) (lv' := [(4, .int (nI (i + 1))), (0, .ref (h 0)), (2, .int (nI (lb j))), (3, .int (nI k))]) hx hb d_J_groupSize_47 hl (k := 3) rfl (nI_1 _) (by decide) rfl (fun ls hl => ?_)
          refine lv_goto (tgt := 25) hx hb d_J_groupSize_50 (by decide) ?_
          exact ih0 _ _ _ _ (by omega) ⟨i + 1, k, pa4, pr4, rfl, by omega, by rw [cnt_f (decide_eq_false c1), g2], g5, g6, hH, lv_sub hl [1, 2, 3, 0] rfl⟩
        · refine lv_iinc (v := nI (k + 1)) (lv' := [(3, .int (nI (k + 1))), (0, .ref (h 0)), (2, .int (nI (lb j))), (4, .int (nI i))]) hx hb d_J_groupSize_44 hl (k := 2) rfl (nI_1 _) (by decide) rfl (fun ls hl => ?_)
          refine lv_iinc (v := nI (i + 1)) (lv' := [(4, .int (nI (i + 1))), (3, .int (nI (k + 1))), (0, .ref (h 0)), (2, .int (nI (lb j)))]) hx hb d_J_groupSize_47 hl (k := 3) rfl (nI_1 _) (by decide) rfl (fun ls hl => ?_)
          refine lv_goto (tgt := 25) hx hb d_J_groupSize_50 (by decide) ?_
          exact ih0 _ _ _ _ (by omega) ⟨i + 1, k + 1, pa4, pr4, rfl, by omega, by rw [cnt_t (decide_eq_true c1), g2], g5, g6, hH, lv_sub hl [2, 3, 1, 0] rfl⟩
    · omega
  · refine zn_if_ne (tgt := 10) hx hb d_J_groupSize_5 (by decide) (by omega) (fun c0 => ?_) (fun c0 => ?_)
    · omega
    · refine lv_iconst (v := (-1)) hx hb d_J_groupSize_8 (by decide) ?_
      refine zret_i Z hr hlk (mk, sz, rk, ro, ct, ix, rw, pa, d, nI (cnt (S 20) 30), nI n, nI t, nI u, cu) hH d_J_groupSize_9 ?_
      rw [a1_n hq]
      exact ⟨rfl, hI⟩
end
section
set_option maxHeartbeats 4000000 in
set_option maxRecDepth 100000 in
/-- badToken(x) -/
theorem c_M_badToken {l : Launch} {D : va_G} {cI cZ : ClassId} {h : Nat → Nat} {iN la : Nat → Int32} {cn tp bo : Int32} (x : Int32)  : zMi l y_M_badToken b_M_badToken 2 (some .boolean) { frames := 0, cells := 0, slots := 0, locals := 0 } D cI cZ (mw h cI cZ) [.ref (h 0), .int x] (iN, la, cn, tp, bo) (fun r σ' => σ' = (iN, la, cn, tp, bo) ∧ ((r = nI 0 ∧ ∃ j : Nat, j < 30 ∧ x = nI j) ∨ (r = nI 1 ∧ ¬ ∃ j : Nat, j < 30 ∧ x = nI j))) := by
  refine zMi.of R_M rfl (by decide) (Nat.le_of_ble_eq_true rfl) ?_
  intro p e s m args below meth c A ls Z hr hlk hA hH hl
  obtain ⟨hx, hb, hml, hown, hts, hK⟩ := id Z
  have hl : lv_has ls 2 [(0, .ref (h 0)), (1, .int x)] := hl
  refine lv_iload_n hx hb d_M_badToken_0 rfl (lv_at hl 1 rfl) ?_
  refine lv_if_lt (tgt := 10) hx hb d_M_badToken_1 (by decide) (fun c => ?_) (fun c => ?_)
  · refine lv_iconst (v := nI 1) hx hb d_M_badToken_10 (by decide) ?_
    refine lv_goto (tgt := 15) hx hb d_M_badToken_11 (by decide) ?_
    exact zret_z Z hr hlk (iN, la, cn, tp, bo) hH d_M_badToken_15 rfl (⟨rfl, Or.inr ⟨rfl, fun ⟨j, hj, e⟩ => absurd (e ▸ c) (nI_pos (by omega))⟩⟩)
  · refine lv_iload_n hx hb d_M_badToken_4 rfl (lv_at hl 1 rfl) ?_
    refine lv_bipush (v := nI 29) hx hb d_M_badToken_5 (by decide) ?_
    refine lv_icmp_le (tgt := 14) hx hb d_M_badToken_7 (by decide) (fun c1 => ?_) (fun c1 => ?_)
    · refine lv_iconst (v := nI 0) hx hb d_M_badToken_14 (by decide) ?_
      exact zret_z Z hr hlk (iN, la, cn, tp, bo) hH d_M_badToken_15 rfl (⟨rfl, Or.inl ⟨rfl, by obtain ⟨j, hj, rfl⟩ := nI_of c; exact ⟨j, by have := (nI_leI hj (by omega)).mp c1; omega, rfl⟩⟩⟩)
    · refine lv_iconst (v := nI 1) hx hb d_M_badToken_10 (by decide) ?_
      refine lv_goto (tgt := 15) hx hb d_M_badToken_11 (by decide) ?_
      exact zret_z Z hr hlk (iN, la, cn, tp, bo) hH d_M_badToken_15 rfl (⟨rfl, Or.inr ⟨rfl, fun ⟨j, hj, e⟩ => c1 (by rw [e]; exact nI_le (by omega) (by omega))⟩⟩)
set_option maxHeartbeats 4000000 in
set_option maxRecDepth 100000 in
/-- bad(x) -/
theorem c_M_bad {l : Launch} {D : va_G} {cI cZ : ClassId} {h : Nat → Nat} {iN la : Nat → Int32} {tp bo : Int32} {n : Nat} (x : Int32) (hn : n ≤ 20) : zMi l y_M_bad b_M_bad 2 (some .boolean) { frames := 0, cells := 0, slots := 0, locals := 0 } D cI cZ (mw h cI cZ) [.ref (h 0), .int x] (iN, la, nI n, tp, bo) (fun r σ' => σ' = (iN, la, nI n, tp, bo) ∧ ((r = nI 0 ∧ ∃ j : Nat, j < n ∧ x = nI j) ∨ (r = nI 1 ∧ ¬ ∃ j : Nat, j < n ∧ x = nI j))) := by
  refine zMi.of R_M rfl (by decide) (Nat.le_of_ble_eq_true rfl) ?_
  intro p e s m args below meth c A ls Z hr hlk hA hH hl
  obtain ⟨hx, hb, hml, hown, hts, hK⟩ := id Z
  have hl : lv_has ls 2 [(0, .ref (h 0)), (1, .int x)] := hl
  refine lv_iload_n hx hb d_M_bad_0 rfl (lv_at hl 1 rfl) ?_
  refine lv_if_lt (tgt := 18) hx hb d_M_bad_1 (by decide) (fun c => ?_) (fun c => ?_)
  · refine lv_iconst (v := nI 1) hx hb d_M_bad_18 (by decide) ?_
    refine lv_goto (tgt := 23) hx hb d_M_bad_19 (by decide) ?_
    exact zret_z Z hr hlk (iN, la, nI n, tp, bo) hH d_M_bad_23 rfl (⟨rfl, Or.inr ⟨rfl, fun ⟨j, hj, e⟩ => absurd (e ▸ c) (nI_pos (by omega))⟩⟩)
  · refine lv_iload_n hx hb d_M_bad_4 rfl (lv_at hl 1 rfl) ?_
    refine lv_aload_n hx hb d_M_bad_5 rfl (lv_at hl 0 rfl) ?_
    refine mg_cn Z hH d_M_bad_6 ?_
    refine lv_icmp_ge (tgt := 18) hx hb d_M_bad_9 (by decide) (fun c1 => ?_) (fun c1 => ?_)
    · refine lv_iconst (v := nI 1) hx hb d_M_bad_18 (by decide) ?_
      refine lv_goto (tgt := 23) hx hb d_M_bad_19 (by decide) ?_
      exact zret_z Z hr hlk (iN, la, nI n, tp, bo) hH d_M_bad_23 rfl (⟨rfl, Or.inr ⟨rfl, fun ⟨j, hj, e⟩ => absurd (e ▸ c1) (nI_ge hj (by omega))⟩⟩)
    · obtain ⟨j, hj, rfl⟩ : ∃ j : Nat, j < n ∧ x = nI j := by obtain ⟨j, hj, rfl⟩ := nI_of c; exact ⟨j, Nat.not_le.mp fun z => c1 (nI_le z (by omega)), rfl⟩
      refine lv_iload_n hx hb d_M_bad_12 rfl (lv_at hl 1 rfl) ?_
      refine lv_bipush (v := nI 20) hx hb d_M_bad_13 (by decide) ?_
      refine zn_icmp_lt (tgt := 22) hx hb d_M_bad_15 (by decide) (by omega) (by omega) (fun c2 => ?_) (fun c2 => ?_)
      · refine lv_iconst (v := nI 0) hx hb d_M_bad_22 (by decide) ?_
        exact zret_z Z hr hlk (iN, la, nI n, tp, bo) hH d_M_bad_23 rfl (⟨rfl, Or.inl ⟨rfl, j, hj, rfl⟩⟩)
      · omega
set_option maxHeartbeats 4000000 in
set_option maxRecDepth 100000 in
/-- sizeOf(a) -/
theorem c_M_sizeOf {l : Launch} {D : va_G} {cI cZ : ClassId} {h : Nat → Nat} {iN la : Nat → Int32} {cn tp bo : Int32} {a : Nat} {T : Nat → Bool} (ha : a ≤ 20) (hT : mLn iN a T) : zMi l y_M_sizeOf b_M_sizeOf 4 (some .int) { frames := 0, cells := 0, slots := 0, locals := 0 } D cI cZ (mw h cI cZ) [.ref (h 0), .int (nI a)] (iN, la, cn, tp, bo) (fun r σ' => σ' = (iN, la, cn, tp, bo) ∧ r = nI (cnt T 30)) := by
  refine zMi.of R_M rfl (by decide) (Nat.le_of_ble_eq_true rfl) ?_
  intro p e s m args below meth c A ls Z hr hlk hA hH hl
  obtain ⟨hx, hb, hml, hown, hts, hK⟩ := id Z
  have hl : lv_has ls 4 [(0, .ref (h 0)), (1, .int (nI a))] := hl
  refine lv_iconst (v := nI 0) hx hb d_M_sizeOf_0 (by decide) ?_
  refine lv_istore_n (lv' := [(2, .int (nI 0)), (0, .ref (h 0)), (1, .int (nI a))]) hx hb d_M_sizeOf_1 rfl hl (by decide) rfl (fun ls hl => ?_)
  refine lv_iconst (v := nI 0) hx hb d_M_sizeOf_2 (by decide) ?_
  refine lv_istore_n (lv' := [(3, .int (nI 0)), (2, .int (nI 0)), (0, .ref (h 0)), (1, .int (nI a))]) hx hb d_M_sizeOf_3 rfl hl (by decide) rfl (fun ls hl => ?_)
  refine w_loop (pc := 4) (fun n_ H locs ls => ∃ (i : Nat) (k : Nat), n_ = 30 - i ∧ i ≤ 30 ∧ k = cnt T i ∧ zH D A s.heap (mw h cI cZ (iN, la, cn, tp, bo)) H locs ∧ lv_has ls 4 [(0, .ref (h 0)), (1, .int (nI a)), (2, .int (nI k)), (3, .int (nI i))]) ?_ _ _ _ _ ⟨0, 0, rfl, by omega, rfl, hH, lv_sub hl [2, 3, 1, 0] rfl⟩
  rintro _ H locs ls ⟨i, k, rfl, g1, g2, hH, hl⟩ ih0
  refine lv_iload_n hx hb d_M_sizeOf_4 rfl (lv_at hl 3 rfl) ?_
  refine lv_bipush (v := nI 30) hx hb d_M_sizeOf_5 (by decide) ?_
  refine zn_icmp_ge (tgt := 33) hx hb d_M_sizeOf_7 (by decide) (by omega) (by omega) (fun c => ?_) (fun c => ?_)
  · refine lv_iload_n hx hb d_M_sizeOf_33 rfl (lv_at hl 2 rfl) ?_
    refine zret_i Z hr hlk (iN, la, cn, tp, bo) hH d_M_sizeOf_34 ?_
    exact ⟨rfl, by rw [g2, show i = 30 by omega]⟩
  · have hb0 := tn_le (T i)
    refine lv_aload_n hx hb d_M_sizeOf_10 rfl (lv_at hl 0 rfl) ?_
    refine mg_iN Z hH d_M_sizeOf_11 ?_
    refine lv_bipush (v := nI 30) hx hb d_M_sizeOf_14 (by decide) ?_
    refine lv_iload_n hx hb d_M_sizeOf_16 rfl (lv_at hl 1 rfl) ?_
    refine zn_imul hx hb d_M_sizeOf_17 ?_
    refine lv_iload_n hx hb d_M_sizeOf_18 rfl (lv_at hl 3 rfl) ?_
    refine zn_iadd hx hb d_M_sizeOf_19 ?_
    refine ma_iN Z hH d_M_sizeOf_20 (by omega) ?_
    refine zt (nI ((T i).toNat)) (hT i c) ?_
    refine zn_if_eq (tgt := 27) hx hb d_M_sizeOf_21 (by decide) (by omega) (fun c1 => ?_) (fun c1 => ?_)
    · refine lv_iinc (v := nI (i + 1)) (lv' := [(3, .int (nI (i + 1))), (0, .ref (h 0)), (1, .int (nI a)), (2, .int (nI k))]) hx hb d_M_sizeOf_27 hl (k := 3) rfl (nI_1 _) (by decide) rfl (fun ls hl => ?_)
      refine lv_goto (tgt := 4) hx hb d_M_sizeOf_30 (by decide) ?_
      exact ih0 _ _ _ _ (by omega) ⟨i + 1, k, rfl, by omega, by rw [cnt_f (tn_0.mp c1), g2], hH, lv_sub hl [1, 2, 3, 0] rfl⟩
    · refine lv_iinc (v := nI (k + 1)) (lv' := [(2, .int (nI (k + 1))), (0, .ref (h 0)), (1, .int (nI a)), (3, .int (nI i))]) hx hb d_M_sizeOf_24 hl (k := 2) rfl (nI_1 _) (by decide) rfl (fun ls hl => ?_)
      refine lv_iinc (v := nI (i + 1)) (lv' := [(3, .int (nI (i + 1))), (2, .int (nI (k + 1))), (0, .ref (h 0)), (1, .int (nI a))]) hx hb d_M_sizeOf_27 hl (k := 3) rfl (nI_1 _) (by decide) rfl (fun ls hl => ?_)
      refine lv_goto (tgt := 4) hx hb d_M_sizeOf_30 (by decide) ?_
      exact ih0 _ _ _ _ (by omega) ⟨i + 1, k + 1, rfl, by omega, by rw [cnt_t (tn_n0.mp c1), g2], hH, lv_sub hl [2, 3, 1, 0] rfl⟩
set_option maxHeartbeats 4000000 in
set_option maxRecDepth 100000 in
/-- both(a, b) -/
theorem c_M_both {l : Launch} {D : va_G} {cI cZ : ClassId} {h : Nat → Nat} {iN la : Nat → Int32} {cn tp bo : Int32} {a b : Nat} {T U : Nat → Bool} (ha : a ≤ 20) (hb20 : b ≤ 20) (hT : mLn iN a T) (hU : mLn iN b U) : zMi l y_M_both b_M_both 5 (some .int) { frames := 0, cells := 0, slots := 0, locals := 0 } D cI cZ (mw h cI cZ) [.ref (h 0), .int (nI a), .int (nI b)] (iN, la, cn, tp, bo) (fun r σ' => σ' = (iN, la, cn, tp, bo) ∧ r = nI (cBo T U)) := by
  refine zMi.of R_M rfl (by decide) (Nat.le_of_ble_eq_true rfl) ?_
  intro p e s m args below meth c A ls Z hr hlk hA hH hl
  obtain ⟨hx, hb, hml, hown, hts, hK⟩ := id Z
  have hl : lv_has ls 5 [(0, .ref (h 0)), (1, .int (nI a)), (2, .int (nI b))] := hl
  refine lv_iconst (v := nI 0) hx hb d_M_both_0 (by decide) ?_
  refine lv_istore_n (lv' := [(3, .int (nI 0)), (0, .ref (h 0)), (1, .int (nI a)), (2, .int (nI b))]) hx hb d_M_both_1 rfl hl (by decide) rfl (fun ls hl => ?_)
  refine lv_iconst (v := nI 0) hx hb d_M_both_2 (by decide) ?_
  refine lv_istore (lv' := [(4, .int (nI 0)), (3, .int (nI 0)), (0, .ref (h 0)), (1, .int (nI a)), (2, .int (nI b))]) hx hb d_M_both_3 hl (by decide) rfl (fun ls hl => ?_)
  refine w_loop (pc := 5) (fun n_ H locs ls => ∃ (i : Nat) (k : Nat), n_ = 30 - i ∧ i ≤ 30 ∧ k = cnt (fun x => T x && U x) i ∧ zH D A s.heap (mw h cI cZ (iN, la, cn, tp, bo)) H locs ∧ lv_has ls 5 [(0, .ref (h 0)), (1, .int (nI a)), (2, .int (nI b)), (3, .int (nI k)), (4, .int (nI i))]) ?_ _ _ _ _ ⟨0, 0, rfl, by omega, rfl, hH, lv_sub hl [2, 3, 4, 1, 0] rfl⟩
  rintro _ H locs ls ⟨i, k, rfl, g1, g2, hH, hl⟩ ih0
  refine lv_iload hx hb d_M_both_5 (lv_at hl 4 rfl) ?_
  refine lv_bipush (v := nI 30) hx hb d_M_both_7 (by decide) ?_
  refine zn_icmp_ge (tgt := 51) hx hb d_M_both_9 (by decide) (by omega) (by omega) (fun c => ?_) (fun c => ?_)
  · refine lv_iload_n hx hb d_M_both_51 rfl (lv_at hl 3 rfl) ?_
    refine zret_i Z hr hlk (iN, la, cn, tp, bo) hH d_M_both_52 ?_
    exact ⟨rfl, by rw [g2, show i = 30 by omega]; rfl⟩
  · have hb0 := tn_le (T i)
    have hb1 := tn_le (U i)
    refine lv_aload_n hx hb d_M_both_12 rfl (lv_at hl 0 rfl) ?_
    refine mg_iN Z hH d_M_both_13 ?_
    refine lv_bipush (v := nI 30) hx hb d_M_both_16 (by decide) ?_
    refine lv_iload_n hx hb d_M_both_18 rfl (lv_at hl 1 rfl) ?_
    refine zn_imul hx hb d_M_both_19 ?_
    refine lv_iload hx hb d_M_both_20 (lv_at hl 4 rfl) ?_
    refine zn_iadd hx hb d_M_both_22 ?_
    refine ma_iN Z hH d_M_both_23 (by omega) ?_
    refine zt (nI ((T i).toNat)) (hT i c) ?_
    refine zn_if_eq (tgt := 45) hx hb d_M_both_24 (by decide) (by omega) (fun c1 => ?_) (fun c1 => ?_)
    · refine lv_iinc (v := nI (i + 1)) (lv' := [(4, .int (nI (i + 1))), (0, .ref (h 0)), (1, .int (nI a)), (2, .int (nI b)), (3, .int (nI k))]) hx hb d_M_both_45 hl (k := 4) rfl (nI_1 _) (by decide) rfl (fun ls hl => ?_)
      refine lv_goto (tgt := 5) hx hb d_M_both_48 (by decide) ?_
      exact ih0 _ _ _ _ (by omega) ⟨i + 1, k, rfl, by omega, by rw [cnt_f (by rw [tn_0.mp c1]; rfl), g2], hH, lv_sub hl [1, 2, 3, 4, 0] rfl⟩
    · refine lv_aload_n hx hb d_M_both_27 rfl (lv_at hl 0 rfl) ?_
      refine mg_iN Z hH d_M_both_28 ?_
      refine lv_bipush (v := nI 30) hx hb d_M_both_31 (by decide) ?_
      refine lv_iload_n hx hb d_M_both_33 rfl (lv_at hl 2 rfl) ?_
      refine zn_imul hx hb d_M_both_34 ?_
      refine lv_iload hx hb d_M_both_35 (lv_at hl 4 rfl) ?_
      refine zn_iadd hx hb d_M_both_37 ?_
      refine ma_iN Z hH d_M_both_38 (by omega) ?_
      refine zt (nI ((U i).toNat)) (hU i c) ?_
      refine zn_if_eq (tgt := 45) hx hb d_M_both_39 (by decide) (by omega) (fun c2 => ?_) (fun c2 => ?_)
      · refine lv_iinc (v := nI (i + 1)) (lv' := [(4, .int (nI (i + 1))), (0, .ref (h 0)), (1, .int (nI a)), (2, .int (nI b)), (3, .int (nI k))]) hx hb d_M_both_45 hl (k := 4) rfl (nI_1 _) (by decide) rfl (fun ls hl => ?_)
        refine lv_goto (tgt := 5) hx hb d_M_both_48 (by decide) ?_
        exact ih0 _ _ _ _ (by omega) ⟨i + 1, k, rfl, by omega, by rw [cnt_f (by rw [tn_0.mp c2, Bool.and_false]), g2], hH, lv_sub hl [1, 2, 3, 4, 0] rfl⟩
      · refine lv_iinc (v := nI (k + 1)) (lv' := [(3, .int (nI (k + 1))), (0, .ref (h 0)), (1, .int (nI a)), (2, .int (nI b)), (4, .int (nI i))]) hx hb d_M_both_42 hl (k := 3) rfl (nI_1 _) (by decide) rfl (fun ls hl => ?_)
        refine lv_iinc (v := nI (i + 1)) (lv' := [(4, .int (nI (i + 1))), (3, .int (nI (k + 1))), (0, .ref (h 0)), (1, .int (nI a)), (2, .int (nI b))]) hx hb d_M_both_45 hl (k := 4) rfl (nI_1 _) (by decide) rfl (fun ls hl => ?_)
        refine lv_goto (tgt := 5) hx hb d_M_both_48 (by decide) ?_
        exact ih0 _ _ _ _ (by omega) ⟨i + 1, k + 1, rfl, by omega, by rw [cnt_t (by rw [tn_n0.mp c1, tn_n0.mp c2]; rfl), g2], hH, lv_sub hl [2, 3, 4, 1, 0] rfl⟩
set_option maxHeartbeats 4000000 in
set_option maxRecDepth 100000 in
/-- either(a, b) -/
theorem c_M_either {l : Launch} {D : va_G} {cI cZ : ClassId} {h : Nat → Nat} {iN la : Nat → Int32} {cn tp bo : Int32} {a b : Nat} {T U : Nat → Bool} (ha : a ≤ 20) (hb20 : b ≤ 20) (hT : mLn iN a T) (hU : mLn iN b U) : zMi l y_M_either b_M_either 5 (some .int) { frames := 0, cells := 0, slots := 0, locals := 0 } D cI cZ (mw h cI cZ) [.ref (h 0), .int (nI a), .int (nI b)] (iN, la, cn, tp, bo) (fun r σ' => σ' = (iN, la, cn, tp, bo) ∧ r = nI (cEi T U)) := by
  refine zMi.of R_M rfl (by decide) (Nat.le_of_ble_eq_true rfl) ?_
  intro p e s m args below meth c A ls Z hr hlk hA hH hl
  obtain ⟨hx, hb, hml, hown, hts, hK⟩ := id Z
  have hl : lv_has ls 5 [(0, .ref (h 0)), (1, .int (nI a)), (2, .int (nI b))] := hl
  refine lv_iconst (v := nI 0) hx hb d_M_either_0 (by decide) ?_
  refine lv_istore_n (lv' := [(3, .int (nI 0)), (0, .ref (h 0)), (1, .int (nI a)), (2, .int (nI b))]) hx hb d_M_either_1 rfl hl (by decide) rfl (fun ls hl => ?_)
  refine lv_iconst (v := nI 0) hx hb d_M_either_2 (by decide) ?_
  refine lv_istore (lv' := [(4, .int (nI 0)), (3, .int (nI 0)), (0, .ref (h 0)), (1, .int (nI a)), (2, .int (nI b))]) hx hb d_M_either_3 hl (by decide) rfl (fun ls hl => ?_)
  refine w_loop (pc := 5) (fun n_ H locs ls => ∃ (i : Nat) (k : Nat), n_ = 30 - i ∧ i ≤ 30 ∧ k = cnt (fun x => T x || U x) i ∧ zH D A s.heap (mw h cI cZ (iN, la, cn, tp, bo)) H locs ∧ lv_has ls 5 [(0, .ref (h 0)), (1, .int (nI a)), (2, .int (nI b)), (3, .int (nI k)), (4, .int (nI i))]) ?_ _ _ _ _ ⟨0, 0, rfl, by omega, rfl, hH, lv_sub hl [2, 3, 4, 1, 0] rfl⟩
  rintro _ H locs ls ⟨i, k, rfl, g1, g2, hH, hl⟩ ih0
  refine lv_iload hx hb d_M_either_5 (lv_at hl 4 rfl) ?_
  refine lv_bipush (v := nI 30) hx hb d_M_either_7 (by decide) ?_
  refine zn_icmp_ge (tgt := 51) hx hb d_M_either_9 (by decide) (by omega) (by omega) (fun c => ?_) (fun c => ?_)
  · refine lv_iload_n hx hb d_M_either_51 rfl (lv_at hl 3 rfl) ?_
    refine zret_i Z hr hlk (iN, la, cn, tp, bo) hH d_M_either_52 ?_
    exact ⟨rfl, by rw [g2, show i = 30 by omega]; rfl⟩
  · have hb0 := tn_le (T i)
    have hb1 := tn_le (U i)
    refine lv_aload_n hx hb d_M_either_12 rfl (lv_at hl 0 rfl) ?_
    refine mg_iN Z hH d_M_either_13 ?_
    refine lv_bipush (v := nI 30) hx hb d_M_either_16 (by decide) ?_
    refine lv_iload_n hx hb d_M_either_18 rfl (lv_at hl 1 rfl) ?_
    refine zn_imul hx hb d_M_either_19 ?_
    refine lv_iload hx hb d_M_either_20 (lv_at hl 4 rfl) ?_
    refine zn_iadd hx hb d_M_either_22 ?_
    refine ma_iN Z hH d_M_either_23 (by omega) ?_
    refine zt (nI ((T i).toNat)) (hT i c) ?_
    refine zn_if_ne (tgt := 42) hx hb d_M_either_24 (by decide) (by omega) (fun c1 => ?_) (fun c1 => ?_)
    · refine lv_iinc (v := nI (k + 1)) (lv' := [(3, .int (nI (k + 1))), (0, .ref (h 0)), (1, .int (nI a)), (2, .int (nI b)), (4, .int (nI i))]) hx hb d_M_either_42 hl (k := 3) rfl (nI_1 _) (by decide) rfl (fun ls hl => ?_)
      refine lv_iinc (v := nI (i + 1)) (lv' := [(4, .int (nI (i + 1))), (3, .int (nI (k + 1))), (0, .ref (h 0)), (1, .int (nI a)), (2, .int (nI b))]) hx hb d_M_either_45 hl (k := 4) rfl (nI_1 _) (by decide) rfl (fun ls hl => ?_)
      refine lv_goto (tgt := 5) hx hb d_M_either_48 (by decide) ?_
      exact ih0 _ _ _ _ (by omega) ⟨i + 1, k + 1, rfl, by omega, by rw [cnt_t (by rw [tn_n0.mp c1]; rfl), g2], hH, lv_sub hl [2, 3, 4, 1, 0] rfl⟩
    · refine lv_aload_n hx hb d_M_either_27 rfl (lv_at hl 0 rfl) ?_
      refine mg_iN Z hH d_M_either_28 ?_
      refine lv_bipush (v := nI 30) hx hb d_M_either_31 (by decide) ?_
      refine lv_iload_n hx hb d_M_either_33 rfl (lv_at hl 2 rfl) ?_
      refine zn_imul hx hb d_M_either_34 ?_
      refine lv_iload hx hb d_M_either_35 (lv_at hl 4 rfl) ?_
      refine zn_iadd hx hb d_M_either_37 ?_
      refine ma_iN Z hH d_M_either_38 (by omega) ?_
      refine zt (nI ((U i).toNat)) (hU i c) ?_
      refine zn_if_eq (tgt := 45) hx hb d_M_either_39 (by decide) (by omega) (fun c2 => ?_) (fun c2 => ?_)
      · refine lv_iinc (v := nI (i + 1)) (lv' := [(4, .int (nI (i + 1))), (0, .ref (h 0)), (1, .int (nI a)), (2, .int (nI b)), (3, .int (nI k))]) hx hb d_M_either_45 hl (k := 4) rfl (nI_1 _) (by decide) rfl (fun ls hl => ?_)
        refine lv_goto (tgt := 5) hx hb d_M_either_48 (by decide) ?_
        exact ih0 _ _ _ _ (by omega) ⟨i + 1, k, rfl, by omega, by rw [cnt_f (by rw [tn_0.mp c1, tn_0.mp c2]; rfl), g2], hH, lv_sub hl [1, 2, 3, 4, 0] rfl⟩
      · refine lv_iinc (v := nI (k + 1)) (lv' := [(3, .int (nI (k + 1))), (0, .ref (h 0)), (1, .int (nI a)), (2, .int (nI b)), (4, .int (nI i))]) hx hb d_M_either_42 hl (k := 3) rfl (nI_1 _) (by decide) rfl (fun ls hl => ?_)
        refine lv_iinc (v := nI (i + 1)) (lv' := [(4, .int (nI (i + 1))), (3, .int (nI (k + 1))), (0, .ref (h 0)), (1, .int (nI a)), (2, .int (nI b))]) hx hb d_M_either_45 hl (k := 4) rfl (nI_1 _) (by decide) rfl (fun ls hl => ?_)
        refine lv_goto (tgt := 5) hx hb d_M_either_48 (by decide) ?_
        exact ih0 _ _ _ _ (by omega) ⟨i + 1, k + 1, rfl, by omega, by rw [cnt_t (by rw [tn_n0.mp c2, Bool.or_true]), g2], hH, lv_sub hl [2, 3, 4, 1, 0] rfl⟩
set_option maxHeartbeats 4000000 in
set_option maxRecDepth 100000 in
/-- alike(a, b) -/
theorem c_M_alike {l : Launch} {D : va_G} {cI cZ : ClassId} {h : Nat → Nat} {iN la : Nat → Int32} {cn : Int32} {a b t u : Nat} {T U : Nat → Bool} (hth : thOk t u) (ha : a ≤ 20) (hb20 : b ≤ 20) (hT : mLn iN a T) (hU : mLn iN b U) : zMi l y_M_alike b_M_alike 5 (some .boolean) { frames := 1, cells := 0, slots := 0, locals := 24 } D cI cZ (mw h cI cZ) [.ref (h 0), .int (nI a), .int (nI b)] (iN, la, cn, nI t, nI u) (fun r σ' => σ' = (iN, la, cn, nI t, nI u) ∧ r = nI (alT t u T U).toNat) := by
  refine zMi.of R_M rfl (by decide) (Nat.le_of_ble_eq_true rfl) ?_
  intro p e s m args below meth c A ls Z hr hlk hA hH hl
  obtain ⟨hx, hb, hml, hown, hts, hK⟩ := id Z
  have hl : lv_has ls 5 [(0, .ref (h 0)), (1, .int (nI a)), (2, .int (nI b))] := hl
  obtain ⟨h1, h2, h3⟩ := id hth
  refine lv_aload_n hx hb d_M_alike_0 rfl (lv_at hl 0 rfl) ?_
  refine lv_iload_n hx hb d_M_alike_1 rfl (lv_at hl 1 rfl) ?_
  refine lv_iload_n hx hb d_M_alike_2 rfl (lv_at hl 2 rfl) ?_
  refine mc_i (As := [.int (nI a), .int (nI b)]) (rest := []) Z hA hH d_M_alike_3 ok_M_both rfl (c_M_both ha hb20 hT hU) ⟨rfl, rfl, Nat.le_of_ble_eq_true rfl, Nat.le_of_ble_eq_true rfl⟩ hl.1 (Nat.le_of_ble_eq_true rfl) rfl (fun r σ' H locs hp hH => ?_)
  obtain ⟨rfl, rfl⟩ := hp
  refine lv_istore_n (lv' := [(3, .int (nI (cBo T U))), (0, .ref (h 0)), (1, .int (nI a)), (2, .int (nI b))]) hx hb d_M_alike_6 rfl hl (by decide) rfl (fun ls hl => ?_)
  refine lv_aload_n hx hb d_M_alike_7 rfl (lv_at hl 1 rfl) ?_
  refine lv_iload_n hx hb d_M_alike_8 rfl (lv_at hl 2 rfl) ?_
  refine lv_iload_n hx hb d_M_alike_9 rfl (lv_at hl 3 rfl) ?_
  refine mc_i (As := [.int (nI a), .int (nI b)]) (rest := []) Z hA hH d_M_alike_10 ok_M_either rfl (c_M_either ha hb20 hT hU) ⟨rfl, rfl, Nat.le_of_ble_eq_true rfl, Nat.le_of_ble_eq_true rfl⟩ hl.1 (Nat.le_of_ble_eq_true rfl) rfl (fun r σ' H locs hp hH => ?_)
  obtain ⟨rfl, rfl⟩ := hp
  have q1 : u * cBo T U ≤ 12 * 30 := mul_bd h3 (cBo_le T U)
  have q2 : t * cEi T U ≤ 12 * 30 := mul_bd (by omega) (cEi_le T U)
  refine lv_istore (lv' := [(4, .int (nI (cEi T U))), (3, .int (nI (cBo T U))), (0, .ref (h 0)), (1, .int (nI a)), (2, .int (nI b))]) hx hb d_M_alike_13 hl (by decide) rfl (fun ls hl => ?_)
  refine lv_aload_n hx hb d_M_alike_15 rfl (lv_at hl 2 rfl) ?_
  refine mg_bo Z hH d_M_alike_16 ?_
  refine lv_iload_n hx hb d_M_alike_19 rfl (lv_at hl 1 rfl) ?_
  refine zn_imul hx hb d_M_alike_20 ?_
  refine lv_aload_n hx hb d_M_alike_21 rfl (lv_at hl 2 rfl) ?_
  refine mg_tp Z hH d_M_alike_22 ?_
  refine lv_iload hx hb d_M_alike_25 (lv_at hl 0 rfl) ?_
  refine zn_imul hx hb d_M_alike_27 ?_
  refine zn_icmp_lt (tgt := 35) hx hb d_M_alike_28 (by decide) (by omega) (by omega) (fun c => ?_) (fun c => ?_)
  · refine lv_iconst (v := nI 0) hx hb d_M_alike_35 (by decide) ?_
    refine zret_z Z hr hlk (iN, la, cn, nI t, nI u) hH d_M_alike_36 rfl ?_
    exact ⟨rfl, by unfold alT; rw [decide_eq_false (by omega)]; rfl⟩
  · refine lv_iconst (v := nI 1) hx hb d_M_alike_31 (by decide) ?_
    refine lv_goto (tgt := 36) hx hb d_M_alike_32 (by decide) ?_
    refine zret_z Z hr hlk (iN, la, cn, nI t, nI u) hH d_M_alike_36 rfl ?_
    exact ⟨rfl, by unfold alT; rw [decide_eq_true (by omega)]; rfl⟩
set_option maxHeartbeats 4000000 in
set_option maxRecDepth 100000 in
/-- copy(a, b): line b becomes line a -/
theorem c_M_copy {l : Launch} {D : va_G} {cI cZ : ClassId} {h : Nat → Nat} {iN la : Nat → Int32} {cn tp bo : Int32} {a b : Nat} {T : Nat → Bool} (ha : a ≤ 20) (hb20 : b ≤ 20) (hab : a ≠ b) (hT : mLn iN a T) : zMv l y_M_copy b_M_copy 4 none { frames := 0, cells := 0, slots := 0, locals := 0 } D cI cZ (mw h cI cZ) [.ref (h 0), .int (nI a), .int (nI b)] (iN, la, cn, tp, bo) (fun σ' => ∃ iN' : Nat → Int32, σ' = (iN', la, cn, tp, bo) ∧ mLn iN' b T ∧ ∀ i, i < 30 * b ∨ 30 * b + 30 ≤ i → iN' i = iN i) := by
  refine zMv.of R_M rfl (by decide) (Nat.le_of_ble_eq_true rfl) ?_
  intro p e s m args below meth c A ls Z hr hlk hA hH hl
  obtain ⟨hx, hb, hml, hown, hts, hK⟩ := id Z
  have hl : lv_has ls 4 [(0, .ref (h 0)), (1, .int (nI a)), (2, .int (nI b))] := hl
  refine lv_iconst (v := nI 0) hx hb d_M_copy_0 (by decide) ?_
  refine lv_istore_n (lv' := [(3, .int (nI 0)), (0, .ref (h 0)), (1, .int (nI a)), (2, .int (nI b))]) hx hb d_M_copy_1 rfl hl (by decide) rfl (fun ls hl => ?_)
  refine w_loop (pc := 2) (fun n_ H locs ls => ∃ (i : Nat) (iN2 : Nat → Int32), n_ = 30 - i ∧ i ≤ 30 ∧ (∀ x, x < i → iN2 (30 * b + x) = nI (T x).toNat) ∧ (∀ i, i < 30 * b ∨ 30 * b + 30 ≤ i → iN2 i = iN i) ∧ zH D A s.heap (mw h cI cZ (iN2, la, cn, tp, bo)) H locs ∧ lv_has ls 4 [(0, .ref (h 0)), (1, .int (nI a)), (2, .int (nI b)), (3, .int (nI i))]) ?_ _ _ _ _ ⟨0, iN, rfl, by omega, fun x hx => by omega, fun _ _ => rfl, hH, lv_sub hl [1, 2, 3, 0] rfl⟩
  rintro _ H locs ls ⟨i, iN2, rfl, g1, g2, g3, hH, hl⟩ ih0
  refine lv_iload_n hx hb d_M_copy_2 rfl (lv_at hl 3 rfl) ?_
  refine lv_bipush (v := nI 30) hx hb d_M_copy_3 (by decide) ?_
  refine zn_icmp_ge (tgt := 36) hx hb d_M_copy_5 (by decide) (by omega) (by omega) (fun c => ?_) (fun c => ?_)
  · refine zret_v Z hr hlk (iN2, la, cn, tp, bo) hH d_M_copy_36 ?_
    exact ⟨_, rfl, fun x hx => g2 x (by omega), g3⟩
  · refine lv_aload_n hx hb d_M_copy_8 rfl (lv_at hl 0 rfl) ?_
    refine mg_iN Z hH d_M_copy_9 ?_
    refine lv_bipush (v := nI 30) hx hb d_M_copy_12 (by decide) ?_
    refine lv_iload_n hx hb d_M_copy_14 rfl (lv_at hl 2 rfl) ?_
    refine zn_imul hx hb d_M_copy_15 ?_
    refine lv_iload_n hx hb d_M_copy_16 rfl (lv_at hl 3 rfl) ?_
    refine zn_iadd hx hb d_M_copy_17 ?_
    refine lv_aload_n hx hb d_M_copy_18 rfl (lv_at hl 0 rfl) ?_
    refine mg_iN Z hH d_M_copy_19 ?_
    refine lv_bipush (v := nI 30) hx hb d_M_copy_22 (by decide) ?_
    refine lv_iload_n hx hb d_M_copy_24 rfl (lv_at hl 1 rfl) ?_
    refine zn_imul hx hb d_M_copy_25 ?_
    refine lv_iload_n hx hb d_M_copy_26 rfl (lv_at hl 3 rfl) ?_
    refine zn_iadd hx hb d_M_copy_27 ?_
    refine ma_iN Z hH d_M_copy_28 (by omega) ?_
    refine zt (nI ((T i).toNat)) (by rw [g3 _ (by omega)]; exact hT i c) ?_
    refine ms_iN Z hH d_M_copy_29 (by omega) (nar_b _) (fun H locs hH => ?_)
    refine lv_iinc (v := nI (i + 1)) (lv' := [(3, .int (nI (i + 1))), (0, .ref (h 0)), (1, .int (nI a)), (2, .int (nI b))]) hx hb d_M_copy_30 hl (k := 3) rfl (nI_1 _) (by decide) rfl (fun ls hl => ?_)
    refine lv_goto (tgt := 2) hx hb d_M_copy_33 (by decide) ?_
    refine ih0 _ _ _ _ (by omega) ⟨i + 1, (upd iN2 ((30 * b) + i) (nI ((T i).toNat))), rfl, by omega, fun x hx => ?_, fun y hy => by rw [pk_un (by omega)]; exact g3 y hy, hH, lv_sub hl [1, 2, 3, 0] rfl⟩
    by_cases q : x = i
    · subst q; rw [pk_us]
    · rw [pk_un (by omega)]; exact g2 x (by omega)
set_option maxHeartbeats 4000000 in
set_option maxRecDepth 100000 in
/-- token(x) -/
theorem c_M_token {l : Launch} {D : va_G} {cI cZ : ClassId} {h : Nat → Nat} {iN la : Nat → Int32} {n t u : Nat} {S : SS} (x : Int32) (hI : mInv n t u S (iN, la, nI n, nI t, nI u)) : zMi l y_M_token b_M_token 2 (some .int) { frames := 1, cells := 0, slots := 0, locals := 23 } D cI cZ (mw h cI cZ) [.ref (h 0), .int x] (iN, la, nI n, nI t, nI u) (fun r σ' => r = (aTok S x).1 ∧ mInv n t u (aTok S x).2 σ') := by
  refine zMi.of R_M rfl (by decide) (Nat.le_of_ble_eq_true rfl) ?_
  intro p e s m args below meth c A ls Z hr hlk hA hH hl
  obtain ⟨hx, hb, hml, hown, hts, hK⟩ := id Z
  have hl : lv_has ls 2 [(0, .ref (h 0)), (1, .int x)] := hl
  obtain ⟨hn, hth, hin, -, -, -⟩ := id hI
  refine lv_aload_n hx hb d_M_token_0 rfl (lv_at hl 0 rfl) ?_
  refine lv_iload_n hx hb d_M_token_1 rfl (lv_at hl 1 rfl) ?_
  refine mc_i (As := [.int x]) (rest := []) Z hA hH d_M_token_2 ok_M_badToken rfl (c_M_badToken x) ⟨rfl, rfl, Nat.le_of_ble_eq_true rfl, Nat.le_of_ble_eq_true rfl⟩ hl.1 (Nat.le_of_ble_eq_true rfl) rfl (fun r σ' H locs hp hH => ?_)
  obtain ⟨rfl, hp⟩ := hp
  rcases hp with ⟨rfl, j, hj, rfl⟩ | ⟨rfl, hq⟩
  · refine zn_if_eq (tgt := 10) hx hb d_M_token_5 (by decide) (by omega) (fun c0 => ?_) (fun c0 => ?_)
    · have hb0 := tn_le (S 20 j)
      refine lv_aload_n hx hb d_M_token_10 rfl (lv_at hl 0 rfl) ?_
      refine lv_bipush (v := nI 20) hx hb d_M_token_11 (by decide) ?_
      refine mc_i (As := [.int (nI 20)]) (rest := []) Z hA hH d_M_token_13 ok_M_sizeOf rfl (c_M_sizeOf (a := 20) (by omega) (mIn_ln hin (Or.inr rfl))) ⟨rfl, rfl, Nat.le_of_ble_eq_true rfl, Nat.le_of_ble_eq_true rfl⟩ hl.1 (Nat.le_of_ble_eq_true rfl) rfl (fun r σ' H locs hp hH => ?_)
      obtain ⟨rfl, rfl⟩ := hp
      have hc30 := cnt_le (S 20) 30
      refine lv_bipush (v := nI 12) hx hb d_M_token_16 (by decide) ?_
      refine zn_icmp_ne (tgt := 37) hx hb d_M_token_18 (by decide) (by omega) (by omega) (fun c1 => ?_) (fun c1 => ?_)
      · refine lv_aload_n hx hb d_M_token_37 rfl (lv_at hl 0 rfl) ?_
        refine mg_iN Z hH d_M_token_38 ?_
        refine lv_sipush (v := nI 600) hx hb d_M_token_41 (by decide) ?_
        refine lv_iload_n hx hb d_M_token_44 rfl (lv_at hl 1 rfl) ?_
        refine zn_iadd hx hb d_M_token_45 ?_
        refine lv_iconst (v := nI 1) hx hb d_M_token_46 (by decide) ?_
        refine ms_iN Z hH d_M_token_47 (by omega) rfl (fun H locs hH => ?_)
        refine lv_aload_n hx hb d_M_token_48 rfl (lv_at hl 0 rfl) ?_
        refine lv_bipush (v := nI 20) hx hb d_M_token_49 (by decide) ?_
        have hin2 := mIn_tok true hin hj
        refine mc_i (As := [.int (nI 20)]) (rest := []) Z hA hH d_M_token_51 ok_M_sizeOf rfl (c_M_sizeOf (a := 20) (by omega) (mIn_ln hin2 (Or.inr rfl))) ⟨rfl, rfl, Nat.le_of_ble_eq_true rfl, Nat.le_of_ble_eq_true rfl⟩ hl.1 (Nat.le_of_ble_eq_true rfl) rfl (fun r σ' H locs hp hH => ?_)
        obtain ⟨rfl, rfl⟩ := hp
        rw [sput_s]
        refine zret_i Z hr hlk ((upd iN (600 + j) (nI 1)), la, nI n, nI t, nI u) hH d_M_token_54 ?_
        rw [aTok_s hj, if_neg (fun z => c1 z.1)]
        exact ⟨rfl, hn, hth, hin2, rfl, rfl, rfl⟩
      · refine lv_aload_n hx hb d_M_token_21 rfl (lv_at hl 0 rfl) ?_
        refine mg_iN Z hH d_M_token_22 ?_
        refine lv_sipush (v := nI 600) hx hb d_M_token_25 (by decide) ?_
        refine lv_iload_n hx hb d_M_token_28 rfl (lv_at hl 1 rfl) ?_
        refine zn_iadd hx hb d_M_token_29 ?_
        refine ma_iN Z hH d_M_token_30 (by omega) ?_
        refine zt (nI ((S 20 j).toNat)) (hin 20 (Or.inr rfl) j hj) ?_
        refine zn_if_ne (tgt := 37) hx hb d_M_token_31 (by decide) (by omega) (fun c2 => ?_) (fun c2 => ?_)
        · refine lv_aload_n hx hb d_M_token_37 rfl (lv_at hl 0 rfl) ?_
          refine mg_iN Z hH d_M_token_38 ?_
          refine lv_sipush (v := nI 600) hx hb d_M_token_41 (by decide) ?_
          refine lv_iload_n hx hb d_M_token_44 rfl (lv_at hl 1 rfl) ?_
          refine zn_iadd hx hb d_M_token_45 ?_
          refine lv_iconst (v := nI 1) hx hb d_M_token_46 (by decide) ?_
          refine ms_iN Z hH d_M_token_47 (by omega) rfl (fun H locs hH => ?_)
          refine lv_aload_n hx hb d_M_token_48 rfl (lv_at hl 0 rfl) ?_
          refine lv_bipush (v := nI 20) hx hb d_M_token_49 (by decide) ?_
          have hin2 := mIn_tok true hin hj
          refine mc_i (As := [.int (nI 20)]) (rest := []) Z hA hH d_M_token_51 ok_M_sizeOf rfl (c_M_sizeOf (a := 20) (by omega) (mIn_ln hin2 (Or.inr rfl))) ⟨rfl, rfl, Nat.le_of_ble_eq_true rfl, Nat.le_of_ble_eq_true rfl⟩ hl.1 (Nat.le_of_ble_eq_true rfl) rfl (fun r σ' H locs hp hH => ?_)
          obtain ⟨rfl, rfl⟩ := hp
          rw [sput_s]
          refine zret_i Z hr hlk ((upd iN (600 + j) (nI 1)), la, nI n, nI t, nI u) hH d_M_token_54 ?_
          rw [aTok_s hj, if_neg (fun z => by rw [tn_n0.mp c2] at z; cases z.2)]
          exact ⟨rfl, hn, hth, hin2, rfl, rfl, rfl⟩
        · refine lv_bipush (v := (-2)) hx hb d_M_token_34 (by decide) ?_
          refine zret_i Z hr hlk (iN, la, nI n, nI t, nI u) hH d_M_token_36 ?_
          rw [aTok_s hj, if_pos ⟨c1, tn_0.mp c2⟩]
          exact ⟨rfl, hI⟩
    · omega
  · refine zn_if_eq (tgt := 10) hx hb d_M_token_5 (by decide) (by omega) (fun c0 => ?_) (fun c0 => ?_)
    · omega
    · refine lv_iconst (v := (-1)) hx hb d_M_token_8 (by decide) ?_
      refine zret_i Z hr hlk (iN, la, nI n, nI t, nI u) hH d_M_token_9 ?_
      rw [aTok_n hq]
      exact ⟨rfl, hI⟩
set_option maxHeartbeats 4000000 in
set_option maxRecDepth 100000 in
/-- drop(x) -/
theorem c_M_drop {l : Launch} {D : va_G} {cI cZ : ClassId} {h : Nat → Nat} {iN la : Nat → Int32} {n t u : Nat} {S : SS} (x : Int32) (hI : mInv n t u S (iN, la, nI n, nI t, nI u)) : zMi l y_M_drop b_M_drop 2 (some .int) { frames := 1, cells := 0, slots := 0, locals := 23 } D cI cZ (mw h cI cZ) [.ref (h 0), .int x] (iN, la, nI n, nI t, nI u) (fun r σ' => r = (aDrop S x).1 ∧ mInv n t u (aDrop S x).2 σ') := by
  refine zMi.of R_M rfl (by decide) (Nat.le_of_ble_eq_true rfl) ?_
  intro p e s m args below meth c A ls Z hr hlk hA hH hl
  obtain ⟨hx, hb, hml, hown, hts, hK⟩ := id Z
  have hl : lv_has ls 2 [(0, .ref (h 0)), (1, .int x)] := hl
  obtain ⟨hn, hth, hin, -, -, -⟩ := id hI
  refine lv_aload_n hx hb d_M_drop_0 rfl (lv_at hl 0 rfl) ?_
  refine lv_iload_n hx hb d_M_drop_1 rfl (lv_at hl 1 rfl) ?_
  refine mc_i (As := [.int x]) (rest := []) Z hA hH d_M_drop_2 ok_M_badToken rfl (c_M_badToken x) ⟨rfl, rfl, Nat.le_of_ble_eq_true rfl, Nat.le_of_ble_eq_true rfl⟩ hl.1 (Nat.le_of_ble_eq_true rfl) rfl (fun r σ' H locs hp hH => ?_)
  obtain ⟨rfl, hp⟩ := hp
  rcases hp with ⟨rfl, j, hj, rfl⟩ | ⟨rfl, hq⟩
  · refine zn_if_eq (tgt := 10) hx hb d_M_drop_5 (by decide) (by omega) (fun c0 => ?_) (fun c0 => ?_)
    · refine lv_aload_n hx hb d_M_drop_10 rfl (lv_at hl 0 rfl) ?_
      refine mg_iN Z hH d_M_drop_11 ?_
      refine lv_sipush (v := nI 600) hx hb d_M_drop_14 (by decide) ?_
      refine lv_iload_n hx hb d_M_drop_17 rfl (lv_at hl 1 rfl) ?_
      refine zn_iadd hx hb d_M_drop_18 ?_
      refine lv_iconst (v := nI 0) hx hb d_M_drop_19 (by decide) ?_
      refine ms_iN Z hH d_M_drop_20 (by omega) rfl (fun H locs hH => ?_)
      refine lv_aload_n hx hb d_M_drop_21 rfl (lv_at hl 0 rfl) ?_
      refine lv_bipush (v := nI 20) hx hb d_M_drop_22 (by decide) ?_
      have hin2 := mIn_tok false hin hj
      refine mc_i (As := [.int (nI 20)]) (rest := []) Z hA hH d_M_drop_24 ok_M_sizeOf rfl (c_M_sizeOf (a := 20) (by omega) (mIn_ln hin2 (Or.inr rfl))) ⟨rfl, rfl, Nat.le_of_ble_eq_true rfl, Nat.le_of_ble_eq_true rfl⟩ hl.1 (Nat.le_of_ble_eq_true rfl) rfl (fun r σ' H locs hp hH => ?_)
      obtain ⟨rfl, rfl⟩ := hp
      rw [sput_s]
      refine zret_i Z hr hlk ((upd iN (600 + j) (nI 0)), la, nI n, nI t, nI u) hH d_M_drop_27 ?_
      rw [aDrop_s hj]
      exact ⟨rfl, hn, hth, hin2, rfl, rfl, rfl⟩
    · omega
  · refine zn_if_eq (tgt := 10) hx hb d_M_drop_5 (by decide) (by omega) (fun c0 => ?_) (fun c0 => ?_)
    · omega
    · refine lv_iconst (v := (-1)) hx hb d_M_drop_8 (by decide) ?_
      refine zret_i Z hr hlk (iN, la, nI n, nI t, nI u) hH d_M_drop_9 ?_
      rw [aDrop_n hq]
      exact ⟨rfl, hI⟩
set_option maxHeartbeats 4000000 in
set_option maxRecDepth 100000 in
/-- clear() -/
theorem c_M_clear {l : Launch} {D : va_G} {cI cZ : ClassId} {h : Nat → Nat} {iN la : Nat → Int32} {n t u : Nat} {S : SS}  (hI : mInv n t u S (iN, la, nI n, nI t, nI u)) : zMi l y_M_clear b_M_clear 3 (some .int) { frames := 1, cells := 0, slots := 0, locals := 23 } D cI cZ (mw h cI cZ) [.ref (h 0)] (iN, la, nI n, nI t, nI u) (fun r σ' => r = nI (cnt (S 20) 30) ∧ mInv n t u (sput S 20 (fun _ => false)) σ') := by
  refine zMi.of R_M rfl (by decide) (Nat.le_of_ble_eq_true rfl) ?_
  intro p e s m args below meth c A ls Z hr hlk hA hH hl
  obtain ⟨hx, hb, hml, hown, hts, hK⟩ := id Z
  have hl : lv_has ls 3 [(0, .ref (h 0))] := hl
  obtain ⟨hn, hth, hin, -, -, -⟩ := id hI
  refine lv_aload_n hx hb d_M_clear_0 rfl (lv_at hl 0 rfl) ?_
  refine lv_bipush (v := nI 20) hx hb d_M_clear_1 (by decide) ?_
  refine mc_i (As := [.int (nI 20)]) (rest := []) Z hA hH d_M_clear_3 ok_M_sizeOf rfl (c_M_sizeOf (a := 20) (by omega) (mIn_ln hin (Or.inr rfl))) ⟨rfl, rfl, Nat.le_of_ble_eq_true rfl, Nat.le_of_ble_eq_true rfl⟩ hl.1 (Nat.le_of_ble_eq_true rfl) rfl (fun r σ' H locs hp hH => ?_)
  obtain ⟨rfl, rfl⟩ := hp
  refine lv_istore_n (lv' := [(1, .int (nI (cnt (S 20) 30))), (0, .ref (h 0))]) hx hb d_M_clear_6 rfl hl (by decide) rfl (fun ls hl => ?_)
  refine lv_iconst (v := nI 0) hx hb d_M_clear_7 (by decide) ?_
  refine lv_istore_n (lv' := [(2, .int (nI 0)), (1, .int (nI (cnt (S 20) 30))), (0, .ref (h 0))]) hx hb d_M_clear_8 rfl hl (by decide) rfl (fun ls hl => ?_)
  refine w_loop (pc := 9) (fun n_ H locs ls => ∃ (i : Nat) (iN2 : Nat → Int32), n_ = 30 - i ∧ i ≤ 30 ∧ (∀ x, x < i → iN2 (600 + x) = nI 0) ∧ (∀ i, i < 600 ∨ 630 ≤ i → iN2 i = iN i) ∧ zH D A s.heap (mw h cI cZ (iN2, la, nI n, nI t, nI u)) H locs ∧ lv_has ls 3 [(0, .ref (h 0)), (1, .int (nI (cnt (S 20) 30))), (2, .int (nI i))]) ?_ _ _ _ _ ⟨0, iN, rfl, by omega, fun x hx => by omega, fun _ _ => rfl, hH, lv_sub hl [2, 1, 0] rfl⟩
  rintro _ H locs ls ⟨i, iN2, rfl, g1, g2, g3, hH, hl⟩ ih0
  refine lv_iload_n hx hb d_M_clear_9 rfl (lv_at hl 2 rfl) ?_
  refine lv_bipush (v := nI 30) hx hb d_M_clear_10 (by decide) ?_
  refine zn_icmp_ge (tgt := 32) hx hb d_M_clear_12 (by decide) (by omega) (by omega) (fun c => ?_) (fun c => ?_)
  · refine lv_iload_n hx hb d_M_clear_32 rfl (lv_at hl 1 rfl) ?_
    refine zret_i Z hr hlk (iN2, la, nI n, nI t, nI u) hH d_M_clear_33 ?_
    exact ⟨rfl, hn, hth, mIn_set hin (k := 20) (fun x hx => g2 x (by omega)) (fun i hi => g3 i (by omega)) (fun r hr _ => hr), rfl, rfl, rfl⟩
  · refine lv_aload_n hx hb d_M_clear_15 rfl (lv_at hl 0 rfl) ?_
    refine mg_iN Z hH d_M_clear_16 ?_
    refine lv_sipush (v := nI 600) hx hb d_M_clear_19 (by decide) ?_
    refine lv_iload_n hx hb d_M_clear_22 rfl (lv_at hl 2 rfl) ?_
    refine zn_iadd hx hb d_M_clear_23 ?_
    refine lv_iconst (v := nI 0) hx hb d_M_clear_24 (by decide) ?_
    refine ms_iN Z hH d_M_clear_25 (by omega) rfl (fun H locs hH => ?_)
    refine lv_iinc (v := nI (i + 1)) (lv' := [(2, .int (nI (i + 1))), (0, .ref (h 0)), (1, .int (nI (cnt (S 20) 30)))]) hx hb d_M_clear_26 hl (k := 2) rfl (nI_1 _) (by decide) rfl (fun ls hl => ?_)
    refine lv_goto (tgt := 9) hx hb d_M_clear_29 (by decide) ?_
    refine ih0 _ _ _ _ (by omega) ⟨i + 1, (upd iN2 (600 + i) (nI 0)), rfl, by omega, fun x hx => ?_, fun y hy => by rw [pk_un (by omega)]; exact g3 y hy, hH, lv_sub hl [1, 2, 0] rfl⟩
    by_cases q : x = i
    · subst q; rw [pk_us]
    · rw [pk_un (by omega)]; exact g2 x (by omega)
set_option maxHeartbeats 4000000 in
set_option maxRecDepth 100000 in
/-- recall(x) -/
theorem c_M_recall {l : Launch} {D : va_G} {cI cZ : ClassId} {h : Nat → Nat} {iN la : Nat → Int32} {n t u : Nat} {S : SS} (x : Int32) (hI : mInv n t u S (iN, la, nI n, nI t, nI u)) : zMi l y_M_recall b_M_recall 2 (some .int) { frames := 1, cells := 0, slots := 0, locals := 23 } D cI cZ (mw h cI cZ) [.ref (h 0), .int x] (iN, la, nI n, nI t, nI u) (fun r σ' => r = (aRec n S x).1 ∧ mInv n t u (aRec n S x).2 σ') := by
  refine zMi.of R_M rfl (by decide) (Nat.le_of_ble_eq_true rfl) ?_
  intro p e s m args below meth c A ls Z hr hlk hA hH hl
  obtain ⟨hx, hb, hml, hown, hts, hK⟩ := id Z
  have hl : lv_has ls 2 [(0, .ref (h 0)), (1, .int x)] := hl
  obtain ⟨hn, hth, hin, -, -, -⟩ := id hI
  refine lv_aload_n hx hb d_M_recall_0 rfl (lv_at hl 0 rfl) ?_
  refine lv_iload_n hx hb d_M_recall_1 rfl (lv_at hl 1 rfl) ?_
  refine mc_i (As := [.int x]) (rest := []) Z hA hH d_M_recall_2 ok_M_bad rfl (c_M_bad x hn) ⟨rfl, rfl, Nat.le_of_ble_eq_true rfl, Nat.le_of_ble_eq_true rfl⟩ hl.1 (Nat.le_of_ble_eq_true rfl) rfl (fun r σ' H locs hp hH => ?_)
  obtain ⟨rfl, hp⟩ := hp
  rcases hp with ⟨rfl, j, hj, rfl⟩ | ⟨rfl, hq⟩
  · refine zn_if_eq (tgt := 10) hx hb d_M_recall_5 (by decide) (by omega) (fun c0 => ?_) (fun c0 => ?_)
    · refine lv_aload_n hx hb d_M_recall_10 rfl (lv_at hl 0 rfl) ?_
      refine lv_iload_n hx hb d_M_recall_11 rfl (lv_at hl 1 rfl) ?_
      refine lv_bipush (v := nI 20) hx hb d_M_recall_12 (by decide) ?_
      refine mc_v (As := [.int (nI j), .int (nI 20)]) (rest := []) Z hA hH d_M_recall_14 ok_M_copy rfl (c_M_copy (a := j) (b := 20) (by omega) (by omega) (by omega) (mIn_ln hin (Or.inl hj))) ⟨rfl, rfl, Nat.le_of_ble_eq_true rfl, Nat.le_of_ble_eq_true rfl⟩ hl.1 (Nat.le_of_ble_eq_true rfl) rfl (fun σ' H locs hp hH => ?_)
      obtain ⟨iN2, rfl, h1, h2⟩ := hp
      have hin2 := mIn_set (n' := n) hin h1 h2 (fun r hr _ => hr)
      refine lv_aload_n hx hb d_M_recall_17 rfl (lv_at hl 0 rfl) ?_
      refine lv_bipush (v := nI 20) hx hb d_M_recall_18 (by decide) ?_
      refine mc_i (As := [.int (nI 20)]) (rest := []) Z hA hH d_M_recall_20 ok_M_sizeOf rfl (c_M_sizeOf (a := 20) (by omega) h1) ⟨rfl, rfl, Nat.le_of_ble_eq_true rfl, Nat.le_of_ble_eq_true rfl⟩ hl.1 (Nat.le_of_ble_eq_true rfl) rfl (fun r σ' H locs hp hH => ?_)
      obtain ⟨rfl, rfl⟩ := hp
      refine zret_i Z hr hlk (iN2, la, nI n, nI t, nI u) hH d_M_recall_23 ?_
      rw [aRec_s hn hj]
      exact ⟨rfl, hn, hth, hin2, rfl, rfl, rfl⟩
    · omega
  · refine zn_if_eq (tgt := 10) hx hb d_M_recall_5 (by decide) (by omega) (fun c0 => ?_) (fun c0 => ?_)
    · omega
    · refine lv_iconst (v := (-1)) hx hb d_M_recall_8 (by decide) ?_
      refine zret_i Z hr hlk (iN, la, nI n, nI t, nI u) hH d_M_recall_9 ?_
      rw [aRec_n hq]
      exact ⟨rfl, hI⟩
set_option maxHeartbeats 4000000 in
set_option maxRecDepth 100000 in
/-- store() -/
theorem c_M_store {l : Launch} {D : va_G} {cI cZ : ClassId} {h : Nat → Nat} {iN la : Nat → Int32} {n t u : Nat} {S : SS}  (hI : mInv n t u S (iN, la, nI n, nI t, nI u)) : zMi l y_M_store b_M_store 2 (some .int) { frames := 1, cells := 0, slots := 0, locals := 23 } D cI cZ (mw h cI cZ) [.ref (h 0)] (iN, la, nI n, nI t, nI u) (fun r σ' => r = (aSto n S).1 ∧ mInv (aSto n S).2.1 t u (aSto n S).2.2 σ') := by
  refine zMi.of R_M rfl (by decide) (Nat.le_of_ble_eq_true rfl) ?_
  intro p e s m args below meth c A ls Z hr hlk hA hH hl
  obtain ⟨hx, hb, hml, hown, hts, hK⟩ := id Z
  have hl : lv_has ls 2 [(0, .ref (h 0))] := hl
  obtain ⟨hn, hth, hin, -, -, -⟩ := id hI
  refine lv_aload_n hx hb d_M_store_0 rfl (lv_at hl 0 rfl) ?_
  refine lv_bipush (v := nI 20) hx hb d_M_store_1 (by decide) ?_
  refine mc_i (As := [.int (nI 20)]) (rest := []) Z hA hH d_M_store_3 ok_M_sizeOf rfl (c_M_sizeOf (a := 20) (by omega) (mIn_ln hin (Or.inr rfl))) ⟨rfl, rfl, Nat.le_of_ble_eq_true rfl, Nat.le_of_ble_eq_true rfl⟩ hl.1 (Nat.le_of_ble_eq_true rfl) rfl (fun r σ' H locs hp hH => ?_)
  obtain ⟨rfl, rfl⟩ := hp
  have hc30 := cnt_le (S 20) 30
  refine zn_if_ne (tgt := 11) hx hb d_M_store_6 (by decide) (by omega) (fun c => ?_) (fun c => ?_)
  · refine lv_aload_n hx hb d_M_store_11 rfl (lv_at hl 0 rfl) ?_
    refine mg_cn Z hH d_M_store_12 ?_
    refine lv_istore_n (lv' := [(1, .int (nI n)), (0, .ref (h 0))]) hx hb d_M_store_15 rfl hl (by decide) rfl (fun ls hl => ?_)
    refine lv_iload_n hx hb d_M_store_16 rfl (lv_at hl 0 rfl) ?_
    refine lv_bipush (v := nI 20) hx hb d_M_store_17 (by decide) ?_
    refine zn_icmp_lt (tgt := 25) hx hb d_M_store_19 (by decide) (by omega) (by omega) (fun c1 => ?_) (fun c1 => ?_)
    · refine lv_aload_n hx hb d_M_store_25 rfl (lv_at hl 1 rfl) ?_
      refine lv_bipush (v := nI 20) hx hb d_M_store_26 (by decide) ?_
      refine lv_iload_n hx hb d_M_store_28 rfl (lv_at hl 0 rfl) ?_
      refine mc_v (As := [.int (nI 20), .int (nI n)]) (rest := []) Z hA hH d_M_store_29 ok_M_copy rfl (c_M_copy (a := 20) (b := n) (by omega) (by omega) (by omega) (mIn_ln hin (Or.inr rfl))) ⟨rfl, rfl, Nat.le_of_ble_eq_true rfl, Nat.le_of_ble_eq_true rfl⟩ hl.1 (Nat.le_of_ble_eq_true rfl) rfl (fun σ' H locs hp hH => ?_)
      obtain ⟨iN2, rfl, h1, h2⟩ := hp
      have hin2 := mIn_set (n' := n + 1) hin h1 h2 (fun r hr q => by omega)
      refine lv_aload_n hx hb d_M_store_32 rfl (lv_at hl 1 rfl) ?_
      refine lv_iload_n hx hb d_M_store_33 rfl (lv_at hl 0 rfl) ?_
      refine lv_iconst (v := nI 1) hx hb d_M_store_34 (by decide) ?_
      refine zn_iadd hx hb d_M_store_35 ?_
      refine mp_cn Z hH _ d_M_store_36 (fun H locs hH => ?_)
      refine lv_iload_n hx hb d_M_store_39 rfl (lv_at hl 0 rfl) ?_
      refine zret_i Z hr hlk (iN2, la, nI (n + 1), nI t, nI u) hH d_M_store_40 ?_
      unfold aSto
      rw [if_neg c, if_neg (by omega)]
      exact ⟨rfl, by show n + 1 ≤ 20; omega, hth, hin2, rfl, rfl, rfl⟩
    · refine lv_bipush (v := (-2)) hx hb d_M_store_22 (by decide) ?_
      refine zret_i Z hr hlk (iN, la, nI n, nI t, nI u) hH d_M_store_24 ?_
      unfold aSto
      rw [if_neg c, if_pos (by omega)]
      exact ⟨rfl, hI⟩
  · refine lv_iconst (v := (-1)) hx hb d_M_store_9 (by decide) ?_
    refine zret_i Z hr hlk (iN, la, nI n, nI t, nI u) hH d_M_store_10 ?_
    unfold aSto
    rw [if_pos c]
    exact ⟨rfl, hI⟩
set_option maxHeartbeats 4000000 in
set_option maxRecDepth 100000 in
/-- remove(x) -/
theorem c_M_remove {l : Launch} {D : va_G} {cI cZ : ClassId} {h : Nat → Nat} {iN la : Nat → Int32} {n t u : Nat} {S : SS} (x : Int32) (hI : mInv n t u S (iN, la, nI n, nI t, nI u)) : zMi l y_M_remove b_M_remove 3 (some .int) { frames := 1, cells := 0, slots := 0, locals := 23 } D cI cZ (mw h cI cZ) [.ref (h 0), .int x] (iN, la, nI n, nI t, nI u) (fun r σ' => r = (aRem n S x).1 ∧ mInv (aRem n S x).2.1 t u (aRem n S x).2.2 σ') := by
  refine zMi.of R_M rfl (by decide) (Nat.le_of_ble_eq_true rfl) ?_
  intro p e s m args below meth c A ls Z hr hlk hA hH hl
  obtain ⟨hx, hb, hml, hown, hts, hK⟩ := id Z
  have hl : lv_has ls 3 [(0, .ref (h 0)), (1, .int x)] := hl
  obtain ⟨hn, hth, hin, -, -, -⟩ := id hI
  refine lv_aload_n hx hb d_M_remove_0 rfl (lv_at hl 0 rfl) ?_
  refine lv_iload_n hx hb d_M_remove_1 rfl (lv_at hl 1 rfl) ?_
  refine mc_i (As := [.int x]) (rest := []) Z hA hH d_M_remove_2 ok_M_bad rfl (c_M_bad x hn) ⟨rfl, rfl, Nat.le_of_ble_eq_true rfl, Nat.le_of_ble_eq_true rfl⟩ hl.1 (Nat.le_of_ble_eq_true rfl) rfl (fun r σ' H locs hp hH => ?_)
  obtain ⟨rfl, hp⟩ := hp
  rcases hp with ⟨rfl, j, hj, rfl⟩ | ⟨rfl, hq⟩
  · refine zn_if_eq (tgt := 10) hx hb d_M_remove_5 (by decide) (by omega) (fun c0 => ?_) (fun c0 => ?_)
    · refine lv_iload_n hx hb d_M_remove_10 rfl (lv_at hl 1 rfl) ?_
      refine lv_istore_n (lv' := [(2, .int (nI j)), (0, .ref (h 0)), (1, .int (nI j))]) hx hb d_M_remove_11 rfl hl (by decide) rfl (fun ls hl => ?_)
      refine w_loop (pc := 12) (fun n_ H locs ls => ∃ (i : Nat) (iN2 : Nat → Int32), n_ = 20 - i ∧ j ≤ i ∧ i < n ∧ (∀ r, r < i → mLn iN2 r (sRem S j r)) ∧ (∀ r, (i ≤ r ∧ r < n) ∨ r = 20 → mLn iN2 r (S r)) ∧ zH D A s.heap (mw h cI cZ (iN2, la, nI n, nI t, nI u)) H locs ∧ lv_has ls 3 [(0, .ref (h 0)), (2, .int (nI i))]) ?_ _ _ _ _ ⟨j, iN, rfl, Nat.le_refl _, hj, fun r hr => by rw [sRem_lo hr (by omega)]; exact mIn_ln hin (Or.inl (by omega)), fun r hr => mIn_ln hin (by omega), hH, lv_sub hl [1, 0] rfl⟩
      rintro _ H locs ls ⟨i, iN2, rfl, g1, g2, g3, g4, hH, hl⟩ ih0
      refine lv_iload_n hx hb d_M_remove_12 rfl (lv_at hl 1 rfl) ?_
      refine lv_aload_n hx hb d_M_remove_13 rfl (lv_at hl 0 rfl) ?_
      refine mg_cn Z hH d_M_remove_14 ?_
      refine lv_iconst (v := nI 1) hx hb d_M_remove_17 (by decide) ?_
      refine zn_isub hx hb d_M_remove_18 (by omega) ?_
      refine zn_icmp_ge (tgt := 42) hx hb d_M_remove_19 (by decide) (by omega) (by omega) (fun c1 => ?_) (fun c1 => ?_)
      · refine lv_aload_n hx hb d_M_remove_42 rfl (lv_at hl 0 rfl) ?_
        refine lv_dup hx hb d_M_remove_43 rfl ?_
        refine mg_cn Z hH d_M_remove_44 ?_
        refine lv_iconst (v := nI 1) hx hb d_M_remove_47 (by decide) ?_
        refine zn_isub hx hb d_M_remove_48 (by omega) ?_
        refine mp_cn Z hH _ d_M_remove_49 (fun H locs hH => ?_)
        refine lv_aload_n hx hb d_M_remove_52 rfl (lv_at hl 0 rfl) ?_
        refine mg_cn Z hH d_M_remove_53 ?_
        refine zret_i Z hr hlk (iN2, la, nI (n - 1), nI t, nI u) hH d_M_remove_56 ?_
        rw [aRem_s hn hj]
        refine ⟨rfl, by show n - 1 ≤ 20; omega, hth, fun r hr x hx => ?_, rfl, rfl, rfl⟩
        have hr : r < n - 1 ∨ r = 20 := hr
        by_cases q : r = 20
        · subst q
          show iN2 _ = nI (sRem S j 20 x).toNat
          rw [sRem_20]
          exact g4 20 (Or.inr rfl) x hx
        · exact g3 r (by omega) x hx
      · refine lv_iload_n hx hb d_M_remove_22 rfl (lv_at hl 1 rfl) ?_
        refine lv_bipush (v := nI 19) hx hb d_M_remove_23 (by decide) ?_
        refine zn_icmp_ge (tgt := 42) hx hb d_M_remove_25 (by decide) (by omega) (by omega) (fun c2 => ?_) (fun c2 => ?_)
        · omega
        · refine lv_aload_n hx hb d_M_remove_28 rfl (lv_at hl 0 rfl) ?_
          refine lv_iload_n hx hb d_M_remove_29 rfl (lv_at hl 1 rfl) ?_
          refine lv_iconst (v := nI 1) hx hb d_M_remove_30 (by decide) ?_
          refine zn_iadd hx hb d_M_remove_31 ?_
          refine lv_iload_n hx hb d_M_remove_32 rfl (lv_at hl 1 rfl) ?_
          refine mc_v (As := [.int (nI (i + 1)), .int (nI i)]) (rest := []) Z hA hH d_M_remove_33 ok_M_copy rfl (c_M_copy (a := i + 1) (b := i) (by omega) (by omega) (by omega) (g4 (i + 1) (Or.inl ⟨by omega, by omega⟩))) ⟨rfl, rfl, Nat.le_of_ble_eq_true rfl, Nat.le_of_ble_eq_true rfl⟩ hl.1 (Nat.le_of_ble_eq_true rfl) rfl (fun σ' H locs hp hH => ?_)
          obtain ⟨iN3, rfl, h1, h2⟩ := hp
          refine lv_iinc (v := nI (i + 1)) (lv' := [(2, .int (nI (i + 1))), (0, .ref (h 0))]) hx hb d_M_remove_36 hl (k := 1) rfl (nI_1 _) (by decide) rfl (fun ls hl => ?_)
          refine lv_goto (tgt := 12) hx hb d_M_remove_39 (by decide) ?_
          refine ih0 _ _ _ _ (by omega) ⟨i + 1, iN3, rfl, by omega, by omega, fun r hr => ?_, fun r hr x hx => by rw [h2 _ (by omega)]; exact g4 r (by omega) x hx, hH, lv_sub hl [1, 0] rfl⟩
          by_cases q : r = i
          · subst q
            rw [sRem_hi g1 (by omega)]
            exact h1
          · intro x hx
            rw [h2 _ (by omega)]
            exact g3 r (by omega) x hx
    · omega
  · refine zn_if_eq (tgt := 10) hx hb d_M_remove_5 (by decide) (by omega) (fun c0 => ?_) (fun c0 => ?_)
    · omega
    · refine lv_iconst (v := (-1)) hx hb d_M_remove_8 (by decide) ?_
      refine zret_i Z hr hlk (iN, la, nI n, nI t, nI u) hH d_M_remove_9 ?_
      rw [aRem_n hq]
      exact ⟨rfl, hI⟩
set_option maxHeartbeats 4000000 in
set_option maxRecDepth 100000 in
/-- threshold(x, y) -/
theorem c_M_threshold {l : Launch} {D : va_G} {cI cZ : ClassId} {h : Nat → Nat} {iN la : Nat → Int32} {n t u : Nat} {S : SS} (x y : Int32) (hI : mInv n t u S (iN, la, nI n, nI t, nI u)) : zMi l y_M_threshold b_M_threshold 3 (some .int) { frames := 0, cells := 0, slots := 0, locals := 0 } D cI cZ (mw h cI cZ) [.ref (h 0), .int x, .int y] (iN, la, nI n, nI t, nI u) (fun r σ' => r = (aThr t u x y).1 ∧ mInv n (aThr t u x y).2.1 (aThr t u x y).2.2 S σ') := by
  refine zMi.of R_M rfl (by decide) (Nat.le_of_ble_eq_true rfl) ?_
  intro p e s m args below meth c A ls Z hr hlk hA hH hl
  obtain ⟨hx, hb, hml, hown, hts, hK⟩ := id Z
  have hl : lv_has ls 3 [(0, .ref (h 0)), (1, .int x), (2, .int y)] := hl
  obtain ⟨hn, hth, hin, -, -, -⟩ := id hI
  refine lv_iload_n hx hb d_M_threshold_0 rfl (lv_at hl 1 rfl) ?_
  refine lv_iconst (v := nI 1) hx hb d_M_threshold_1 (by decide) ?_
  refine lv_icmp_lt (tgt := 22) hx hb d_M_threshold_2 (by decide) (fun c0 => ?_) (fun c0 => ?_)
  · refine lv_iconst (v := (-1)) hx hb d_M_threshold_22 (by decide) ?_
    refine zret_i Z hr hlk (iN, la, nI n, nI t, nI u) hH d_M_threshold_23 ?_
    rw [aThr_x (Or.inl c0)]
    exact ⟨rfl, hI⟩
  · refine lv_iload_n hx hb d_M_threshold_5 rfl (lv_at hl 1 rfl) ?_
    refine lv_bipush (v := nI 12) hx hb d_M_threshold_6 (by decide) ?_
    refine lv_icmp_gt (tgt := 22) hx hb d_M_threshold_8 (by decide) (fun c1 => ?_) (fun c1 => ?_)
    · refine lv_iconst (v := (-1)) hx hb d_M_threshold_22 (by decide) ?_
      refine zret_i Z hr hlk (iN, la, nI n, nI t, nI u) hH d_M_threshold_23 ?_
      rw [aThr_x (Or.inr c1)]
      exact ⟨rfl, hI⟩
    · refine lv_iload_n hx hb d_M_threshold_11 rfl (lv_at hl 2 rfl) ?_
      refine lv_iconst (v := nI 1) hx hb d_M_threshold_12 (by decide) ?_
      refine lv_icmp_lt (tgt := 22) hx hb d_M_threshold_13 (by decide) (fun c2 => ?_) (fun c2 => ?_)
      · refine lv_iconst (v := (-1)) hx hb d_M_threshold_22 (by decide) ?_
        refine zret_i Z hr hlk (iN, la, nI n, nI t, nI u) hH d_M_threshold_23 ?_
        rw [aThr_y (Or.inl c2)]
        exact ⟨rfl, hI⟩
      · refine lv_iload_n hx hb d_M_threshold_16 rfl (lv_at hl 2 rfl) ?_
        refine lv_bipush (v := nI 12) hx hb d_M_threshold_17 (by decide) ?_
        refine lv_icmp_le (tgt := 24) hx hb d_M_threshold_19 (by decide) (fun c3 => ?_) (fun c3 => ?_)
        · obtain ⟨a, ha1, ha2, rfl⟩ := thr_in c0 c1
          obtain ⟨b, hb1, hb2, rfl⟩ := thr_in c2 (Int32.not_lt.mpr c3)
          refine lv_iload_n hx hb d_M_threshold_24 rfl (lv_at hl 1 rfl) ?_
          refine lv_iload_n hx hb d_M_threshold_25 rfl (lv_at hl 2 rfl) ?_
          refine zn_icmp_le (tgt := 32) hx hb d_M_threshold_26 (by decide) (by omega) (by omega) (fun c4 => ?_) (fun c4 => ?_)
          · refine lv_aload_n hx hb d_M_threshold_32 rfl (lv_at hl 0 rfl) ?_
            refine lv_iload_n hx hb d_M_threshold_33 rfl (lv_at hl 1 rfl) ?_
            refine mp_tp Z hH _ d_M_threshold_34 (fun H locs hH => ?_)
            refine lv_aload_n hx hb d_M_threshold_37 rfl (lv_at hl 0 rfl) ?_
            refine lv_iload_n hx hb d_M_threshold_38 rfl (lv_at hl 2 rfl) ?_
            refine mp_bo Z hH _ d_M_threshold_39 (fun H locs hH => ?_)
            refine lv_iconst (v := nI 0) hx hb d_M_threshold_42 (by decide) ?_
            refine zret_i Z hr hlk (iN, la, nI n, nI a, nI b) hH d_M_threshold_43 ?_
            rw [aThr_s ha1 ha2 hb1 hb2, if_neg (by omega)]
            exact ⟨rfl, hn, ⟨ha1, c4, hb2⟩, hin, rfl, rfl, rfl⟩
          · refine lv_bipush (v := (-2)) hx hb d_M_threshold_29 (by decide) ?_
            refine zret_i Z hr hlk (iN, la, nI n, nI t, nI u) hH d_M_threshold_31 ?_
            rw [aThr_s ha1 ha2 hb1 hb2, if_pos c4]
            exact ⟨rfl, hI⟩
        · refine lv_iconst (v := (-1)) hx hb d_M_threshold_22 (by decide) ?_
          refine zret_i Z hr hlk (iN, la, nI n, nI t, nI u) hH d_M_threshold_23 ?_
          rw [aThr_y (Or.inr (Int32.not_le.mp c3))]
          exact ⟨rfl, hI⟩
set_option maxHeartbeats 4000000 in
set_option maxRecDepth 100000 in
/-- records() -/
theorem c_M_records {l : Launch} {D : va_G} {cI cZ : ClassId} {h : Nat → Nat} {iN la : Nat → Int32} {n t u : Nat} {S : SS}  (hI : mInv n t u S (iN, la, nI n, nI t, nI u)) : zMi l y_M_records b_M_records 1 (some .int) { frames := 0, cells := 0, slots := 0, locals := 0 } D cI cZ (mw h cI cZ) [.ref (h 0)] (iN, la, nI n, nI t, nI u) (fun r σ' => r = nI n ∧ mInv n t u S σ') := by
  refine zMi.of R_M rfl (by decide) (Nat.le_of_ble_eq_true rfl) ?_
  intro p e s m args below meth c A ls Z hr hlk hA hH hl
  obtain ⟨hx, hb, hml, hown, hts, hK⟩ := id Z
  have hl : lv_has ls 1 [(0, .ref (h 0))] := hl
  obtain ⟨hn, hth, hin, -, -, -⟩ := id hI
  refine lv_aload_n hx hb d_M_records_0 rfl (lv_at hl 0 rfl) ?_
  refine mg_cn Z hH d_M_records_1 ?_
  refine zret_i Z hr hlk (iN, la, nI n, nI t, nI u) hH d_M_records_4 ?_
  exact ⟨rfl, hI⟩
set_option maxHeartbeats 4000000 in
set_option maxRecDepth 100000 in
/-- size(x) -/
theorem c_M_size {l : Launch} {D : va_G} {cI cZ : ClassId} {h : Nat → Nat} {iN la : Nat → Int32} {n t u : Nat} {S : SS} (x : Int32) (hI : mInv n t u S (iN, la, nI n, nI t, nI u)) : zMi l y_M_size b_M_size 2 (some .int) { frames := 1, cells := 0, slots := 0, locals := 23 } D cI cZ (mw h cI cZ) [.ref (h 0), .int x] (iN, la, nI n, nI t, nI u) (fun r σ' => r = aSize n S x ∧ mInv n t u S σ') := by
  refine zMi.of R_M rfl (by decide) (Nat.le_of_ble_eq_true rfl) ?_
  intro p e s m args below meth c A ls Z hr hlk hA hH hl
  obtain ⟨hx, hb, hml, hown, hts, hK⟩ := id Z
  have hl : lv_has ls 2 [(0, .ref (h 0)), (1, .int x)] := hl
  obtain ⟨hn, hth, hin, -, -, -⟩ := id hI
  refine lv_aload_n hx hb d_M_size_0 rfl (lv_at hl 0 rfl) ?_
  refine lv_iload_n hx hb d_M_size_1 rfl (lv_at hl 1 rfl) ?_
  refine mc_i (As := [.int x]) (rest := []) Z hA hH d_M_size_2 ok_M_bad rfl (c_M_bad x hn) ⟨rfl, rfl, Nat.le_of_ble_eq_true rfl, Nat.le_of_ble_eq_true rfl⟩ hl.1 (Nat.le_of_ble_eq_true rfl) rfl (fun r σ' H locs hp hH => ?_)
  obtain ⟨rfl, hp⟩ := hp
  rcases hp with ⟨rfl, j, hj, rfl⟩ | ⟨rfl, hq⟩
  · refine zn_if_eq (tgt := 12) hx hb d_M_size_5 (by decide) (by omega) (fun c0 => ?_) (fun c0 => ?_)
    · refine lv_aload_n hx hb d_M_size_12 rfl (lv_at hl 0 rfl) ?_
      refine lv_iload_n hx hb d_M_size_13 rfl (lv_at hl 1 rfl) ?_
      refine mc_i (As := [.int (nI j)]) (rest := []) Z hA hH d_M_size_14 ok_M_sizeOf rfl (c_M_sizeOf (a := j) (by omega) (mIn_ln hin (Or.inl hj))) ⟨rfl, rfl, Nat.le_of_ble_eq_true rfl, Nat.le_of_ble_eq_true rfl⟩ hl.1 (Nat.le_of_ble_eq_true rfl) rfl (fun r σ' H locs hp hH => ?_)
      obtain ⟨rfl, rfl⟩ := hp
      refine zret_i Z hr hlk (iN, la, nI n, nI t, nI u) hH d_M_size_17 ?_
      rw [aSize_s hn hj]
      exact ⟨rfl, hI⟩
    · omega
  · refine zn_if_eq (tgt := 12) hx hb d_M_size_5 (by decide) (by omega) (fun c0 => ?_) (fun c0 => ?_)
    · omega
    · refine lv_iconst (v := (-1)) hx hb d_M_size_8 (by decide) ?_
      refine lv_goto (tgt := 17) hx hb d_M_size_9 (by decide) ?_
      refine zret_i Z hr hlk (iN, la, nI n, nI t, nI u) hH d_M_size_17 ?_
      rw [aSize_n hq]
      exact ⟨rfl, hI⟩
set_option maxHeartbeats 4000000 in
set_option maxRecDepth 100000 in
/-- has(x, y) -/
theorem c_M_has {l : Launch} {D : va_G} {cI cZ : ClassId} {h : Nat → Nat} {iN la : Nat → Int32} {n t u : Nat} {S : SS} (x y : Int32) (hI : mInv n t u S (iN, la, nI n, nI t, nI u)) : zMi l y_M_has b_M_has 3 (some .int) { frames := 1, cells := 0, slots := 0, locals := 21 } D cI cZ (mw h cI cZ) [.ref (h 0), .int x, .int y] (iN, la, nI n, nI t, nI u) (fun r σ' => r = aHas n S x y ∧ mInv n t u S σ') := by
  refine zMi.of R_M rfl (by decide) (Nat.le_of_ble_eq_true rfl) ?_
  intro p e s m args below meth c A ls Z hr hlk hA hH hl
  obtain ⟨hx, hb, hml, hown, hts, hK⟩ := id Z
  have hl : lv_has ls 3 [(0, .ref (h 0)), (1, .int x), (2, .int y)] := hl
  obtain ⟨hn, hth, hin, -, -, -⟩ := id hI
  refine lv_aload_n hx hb d_M_has_0 rfl (lv_at hl 0 rfl) ?_
  refine lv_iload_n hx hb d_M_has_1 rfl (lv_at hl 1 rfl) ?_
  refine mc_i (As := [.int x]) (rest := []) Z hA hH d_M_has_2 ok_M_bad rfl (c_M_bad x hn) ⟨rfl, rfl, Nat.le_of_ble_eq_true rfl, Nat.le_of_ble_eq_true rfl⟩ hl.1 (Nat.le_of_ble_eq_true rfl) rfl (fun r σ' H locs hp hH => ?_)
  obtain ⟨rfl, hp⟩ := hp
  rcases hp with ⟨rfl, j, hj, rfl⟩ | ⟨rfl, hq⟩
  · refine zn_if_eq (tgt := 10) hx hb d_M_has_5 (by decide) (by omega) (fun c0 => ?_) (fun c0 => ?_)
    · refine lv_aload_n hx hb d_M_has_10 rfl (lv_at hl 0 rfl) ?_
      refine lv_iload_n hx hb d_M_has_11 rfl (lv_at hl 2 rfl) ?_
      refine mc_i (As := [.int y]) (rest := []) Z hA hH d_M_has_12 ok_M_badToken rfl (c_M_badToken y) ⟨rfl, rfl, Nat.le_of_ble_eq_true rfl, Nat.le_of_ble_eq_true rfl⟩ hl.1 (Nat.le_of_ble_eq_true rfl) rfl (fun r σ' H locs hp hH => ?_)
      obtain ⟨rfl, hp⟩ := hp
      rcases hp with ⟨rfl, k, hk, rfl⟩ | ⟨rfl, hq⟩
      · refine zn_if_eq (tgt := 21) hx hb d_M_has_15 (by decide) (by omega) (fun c1 => ?_) (fun c1 => ?_)
        · have hb0 := tn_le (S j k)
          refine lv_aload_n hx hb d_M_has_21 rfl (lv_at hl 0 rfl) ?_
          refine mg_iN Z hH d_M_has_22 ?_
          refine lv_bipush (v := nI 30) hx hb d_M_has_25 (by decide) ?_
          refine lv_iload_n hx hb d_M_has_27 rfl (lv_at hl 1 rfl) ?_
          refine zn_imul hx hb d_M_has_28 ?_
          refine lv_iload_n hx hb d_M_has_29 rfl (lv_at hl 2 rfl) ?_
          refine zn_iadd hx hb d_M_has_30 ?_
          refine ma_iN Z hH d_M_has_31 (by omega) ?_
          refine zt (nI ((S j k).toNat)) (hin j (Or.inl hj) k hk) ?_
          refine zn_if_eq (tgt := 39) hx hb d_M_has_32 (by decide) (by omega) (fun c2 => ?_) (fun c2 => ?_)
          · refine lv_iconst (v := nI 0) hx hb d_M_has_39 (by decide) ?_
            refine zret_i Z hr hlk (iN, la, nI n, nI t, nI u) hH d_M_has_40 ?_
            rw [aHas_s hn hj hk, c2]
            exact ⟨rfl, hI⟩
          · refine lv_iconst (v := nI 1) hx hb d_M_has_35 (by decide) ?_
            refine lv_goto (tgt := 40) hx hb d_M_has_36 (by decide) ?_
            refine zret_i Z hr hlk (iN, la, nI n, nI t, nI u) hH d_M_has_40 ?_
            rw [aHas_s hn hj hk, tn_n0.mp c2]
            exact ⟨rfl, hI⟩
        · omega
      · refine zn_if_eq (tgt := 21) hx hb d_M_has_15 (by decide) (by omega) (fun c1 => ?_) (fun c1 => ?_)
        · omega
        · refine lv_bipush (v := (-2)) hx hb d_M_has_18 (by decide) ?_
          refine zret_i Z hr hlk (iN, la, nI n, nI t, nI u) hH d_M_has_20 ?_
          rw [aHas_m hn hj hq]
          exact ⟨rfl, hI⟩
    · omega
  · refine zn_if_eq (tgt := 10) hx hb d_M_has_5 (by decide) (by omega) (fun c0 => ?_) (fun c0 => ?_)
    · omega
    · refine lv_iconst (v := (-1)) hx hb d_M_has_8 (by decide) ?_
      refine zret_i Z hr hlk (iN, la, nI n, nI t, nI u) hH d_M_has_9 ?_
      rw [aHas_n hq]
      exact ⟨rfl, hI⟩
set_option maxHeartbeats 4000000 in
set_option maxRecDepth 100000 in
/-- frequency(x) -/
theorem c_M_frequency {l : Launch} {D : va_G} {cI cZ : ClassId} {h : Nat → Nat} {iN la : Nat → Int32} {n t u : Nat} {S : SS} (x : Int32) (hI : mInv n t u S (iN, la, nI n, nI t, nI u)) : zMi l y_M_frequency b_M_frequency 4 (some .int) { frames := 1, cells := 0, slots := 0, locals := 21 } D cI cZ (mw h cI cZ) [.ref (h 0), .int x] (iN, la, nI n, nI t, nI u) (fun r σ' => r = aFreq n S x ∧ mInv n t u S σ') := by
  refine zMi.of R_M rfl (by decide) (Nat.le_of_ble_eq_true rfl) ?_
  intro p e s m args below meth c A ls Z hr hlk hA hH hl
  obtain ⟨hx, hb, hml, hown, hts, hK⟩ := id Z
  have hl : lv_has ls 4 [(0, .ref (h 0)), (1, .int x)] := hl
  obtain ⟨hn, hth, hin, -, -, -⟩ := id hI
  refine lv_aload_n hx hb d_M_frequency_0 rfl (lv_at hl 0 rfl) ?_
  refine lv_iload_n hx hb d_M_frequency_1 rfl (lv_at hl 1 rfl) ?_
  refine mc_i (As := [.int x]) (rest := []) Z hA hH d_M_frequency_2 ok_M_badToken rfl (c_M_badToken x) ⟨rfl, rfl, Nat.le_of_ble_eq_true rfl, Nat.le_of_ble_eq_true rfl⟩ hl.1 (Nat.le_of_ble_eq_true rfl) rfl (fun r σ' H locs hp hH => ?_)
  obtain ⟨rfl, hp⟩ := hp
  rcases hp with ⟨rfl, j, hj, rfl⟩ | ⟨rfl, hq⟩
  · refine zn_if_eq (tgt := 10) hx hb d_M_frequency_5 (by decide) (by omega) (fun c0 => ?_) (fun c0 => ?_)
    · refine lv_iconst (v := nI 0) hx hb d_M_frequency_10 (by decide) ?_
      refine lv_istore_n (lv' := [(2, .int (nI 0)), (0, .ref (h 0)), (1, .int (nI j))]) hx hb d_M_frequency_11 rfl hl (by decide) rfl (fun ls hl => ?_)
      refine lv_iconst (v := nI 0) hx hb d_M_frequency_12 (by decide) ?_
      refine lv_istore_n (lv' := [(3, .int (nI 0)), (2, .int (nI 0)), (0, .ref (h 0)), (1, .int (nI j))]) hx hb d_M_frequency_13 rfl hl (by decide) rfl (fun ls hl => ?_)
      refine w_loop (pc := 14) (fun n_ H locs ls => ∃ (i : Nat) (k : Nat), n_ = 20 - i ∧ i ≤ n ∧ k = cnt (fun r => S r j) i ∧ zH D A s.heap (mw h cI cZ (iN, la, nI n, nI t, nI u)) H locs ∧ lv_has ls 4 [(0, .ref (h 0)), (1, .int (nI j)), (2, .int (nI k)), (3, .int (nI i))]) ?_ _ _ _ _ ⟨0, 0, rfl, Nat.zero_le _, rfl, hH, lv_sub hl [2, 3, 1, 0] rfl⟩
      rintro _ H locs ls ⟨i, k, rfl, g1, g2, hH, hl⟩ ih0
      refine lv_iload_n hx hb d_M_frequency_14 rfl (lv_at hl 3 rfl) ?_
      refine lv_aload_n hx hb d_M_frequency_15 rfl (lv_at hl 0 rfl) ?_
      refine mg_cn Z hH d_M_frequency_16 ?_
      refine zn_icmp_ge (tgt := 51) hx hb d_M_frequency_19 (by decide) (by omega) (by omega) (fun c1 => ?_) (fun c1 => ?_)
      · refine lv_iload_n hx hb d_M_frequency_51 rfl (lv_at hl 2 rfl) ?_
        refine zret_i Z hr hlk (iN, la, nI n, nI t, nI u) hH d_M_frequency_52 ?_
        rw [aFreq_s hj, g2, show i = n by omega]
        exact ⟨rfl, hI⟩
      · refine lv_iload_n hx hb d_M_frequency_22 rfl (lv_at hl 3 rfl) ?_
        refine lv_bipush (v := nI 20) hx hb d_M_frequency_23 (by decide) ?_
        refine zn_icmp_ge (tgt := 51) hx hb d_M_frequency_25 (by decide) (by omega) (by omega) (fun c2 => ?_) (fun c2 => ?_)
        · omega
        · have hb0 := tn_le (S i j)
          refine lv_aload_n hx hb d_M_frequency_28 rfl (lv_at hl 0 rfl) ?_
          refine mg_iN Z hH d_M_frequency_29 ?_
          refine lv_bipush (v := nI 30) hx hb d_M_frequency_32 (by decide) ?_
          refine lv_iload_n hx hb d_M_frequency_34 rfl (lv_at hl 3 rfl) ?_
          refine zn_imul hx hb d_M_frequency_35 ?_
          refine lv_iload_n hx hb d_M_frequency_36 rfl (lv_at hl 1 rfl) ?_
          refine zn_iadd hx hb d_M_frequency_37 ?_
          refine ma_iN Z hH d_M_frequency_38 (by omega) ?_
          refine zt (nI ((S i j).toNat)) (hin i (Or.inl c1) j hj) ?_
          refine zn_if_eq (tgt := 45) hx hb d_M_frequency_39 (by decide) (by omega) (fun c3 => ?_) (fun c3 => ?_)
          · refine lv_iinc (v := nI (i + 1)) (lv' := [(3, .int (nI (i + 1))), (0, .ref (h 0)), (1, .int (nI j)), (2, .int (nI k))]) hx hb d_M_frequency_45 hl (k := 3) rfl (nI_1 _) (by decide) rfl (fun ls hl => ?_)
            refine lv_goto (tgt := 14) hx hb d_M_frequency_48 (by decide) ?_
            exact ih0 _ _ _ _ (by omega) ⟨i + 1, k, rfl, by omega, by rw [cnt_f (f := fun r => S r j) (tn_0.mp c3), g2], hH, lv_sub hl [1, 2, 3, 0] rfl⟩
          · refine lv_iinc (v := nI (k + 1)) (lv' := [(2, .int (nI (k + 1))), (0, .ref (h 0)), (1, .int (nI j)), (3, .int (nI i))]) hx hb d_M_frequency_42 hl (k := 2) rfl (nI_1 _) (by decide) rfl (fun ls hl => ?_)
            refine lv_iinc (v := nI (i + 1)) (lv' := [(3, .int (nI (i + 1))), (2, .int (nI (k + 1))), (0, .ref (h 0)), (1, .int (nI j))]) hx hb d_M_frequency_45 hl (k := 3) rfl (nI_1 _) (by decide) rfl (fun ls hl => ?_)
            refine lv_goto (tgt := 14) hx hb d_M_frequency_48 (by decide) ?_
            exact ih0 _ _ _ _ (by omega) ⟨i + 1, k + 1, rfl, by omega, by rw [cnt_t (f := fun r => S r j) (tn_n0.mp c3), g2], hH, lv_sub hl [2, 3, 1, 0] rfl⟩
    · omega
  · refine zn_if_eq (tgt := 10) hx hb d_M_frequency_5 (by decide) (by omega) (fun c0 => ?_) (fun c0 => ?_)
    · omega
    · refine lv_iconst (v := (-1)) hx hb d_M_frequency_8 (by decide) ?_
      refine zret_i Z hr hlk (iN, la, nI n, nI t, nI u) hH d_M_frequency_9 ?_
      rw [aFreq_n hq]
      exact ⟨rfl, hI⟩
set_option maxHeartbeats 4000000 in
set_option maxRecDepth 100000 in
/-- common(x, y) -/
theorem c_M_common {l : Launch} {D : va_G} {cI cZ : ClassId} {h : Nat → Nat} {iN la : Nat → Int32} {n t u : Nat} {S : SS} (x y : Int32) (hI : mInv n t u S (iN, la, nI n, nI t, nI u)) : zMi l y_M_common b_M_common 3 (some .int) { frames := 1, cells := 0, slots := 0, locals := 24 } D cI cZ (mw h cI cZ) [.ref (h 0), .int x, .int y] (iN, la, nI n, nI t, nI u) (fun r σ' => r = a2 n (fun a b => cBo (S a) (S b)) x y ∧ mInv n t u S σ') := by
  refine zMi.of R_M rfl (by decide) (Nat.le_of_ble_eq_true rfl) ?_
  intro p e s m args below meth c A ls Z hr hlk hA hH hl
  obtain ⟨hx, hb, hml, hown, hts, hK⟩ := id Z
  have hl : lv_has ls 3 [(0, .ref (h 0)), (1, .int x), (2, .int y)] := hl
  obtain ⟨hn, hth, hin, -, -, -⟩ := id hI
  refine lv_aload_n hx hb d_M_common_0 rfl (lv_at hl 0 rfl) ?_
  refine lv_iload_n hx hb d_M_common_1 rfl (lv_at hl 1 rfl) ?_
  refine mc_i (As := [.int x]) (rest := []) Z hA hH d_M_common_2 ok_M_bad rfl (c_M_bad x hn) ⟨rfl, rfl, Nat.le_of_ble_eq_true rfl, Nat.le_of_ble_eq_true rfl⟩ hl.1 (Nat.le_of_ble_eq_true rfl) rfl (fun r σ' H locs hp hH => ?_)
  obtain ⟨rfl, hp⟩ := hp
  rcases hp with ⟨rfl, j, hj, rfl⟩ | ⟨rfl, hq⟩
  · refine zn_if_ne (tgt := 16) hx hb d_M_common_5 (by decide) (by omega) (fun c0 => ?_) (fun c0 => ?_)
    · omega
    · refine lv_aload_n hx hb d_M_common_8 rfl (lv_at hl 0 rfl) ?_
      refine lv_iload_n hx hb d_M_common_9 rfl (lv_at hl 2 rfl) ?_
      refine mc_i (As := [.int y]) (rest := []) Z hA hH d_M_common_10 ok_M_bad rfl (c_M_bad y hn) ⟨rfl, rfl, Nat.le_of_ble_eq_true rfl, Nat.le_of_ble_eq_true rfl⟩ hl.1 (Nat.le_of_ble_eq_true rfl) rfl (fun r σ' H locs hp hH => ?_)
      obtain ⟨rfl, hp⟩ := hp
      rcases hp with ⟨rfl, k, hk, rfl⟩ | ⟨rfl, hq⟩
      · refine zn_if_eq (tgt := 20) hx hb d_M_common_13 (by decide) (by omega) (fun c1 => ?_) (fun c1 => ?_)
        · refine lv_aload_n hx hb d_M_common_20 rfl (lv_at hl 0 rfl) ?_
          refine lv_iload_n hx hb d_M_common_21 rfl (lv_at hl 1 rfl) ?_
          refine lv_iload_n hx hb d_M_common_22 rfl (lv_at hl 2 rfl) ?_
          refine mc_i (As := [.int (nI j), .int (nI k)]) (rest := []) Z hA hH d_M_common_23 ok_M_both rfl (c_M_both (a := j) (b := k) (by omega) (by omega) (mIn_ln hin (Or.inl hj)) (mIn_ln hin (Or.inl hk))) ⟨rfl, rfl, Nat.le_of_ble_eq_true rfl, Nat.le_of_ble_eq_true rfl⟩ hl.1 (Nat.le_of_ble_eq_true rfl) rfl (fun r σ' H locs hp hH => ?_)
          obtain ⟨rfl, rfl⟩ := hp
          refine zret_i Z hr hlk (iN, la, nI n, nI t, nI u) hH d_M_common_26 ?_
          rw [a2_s hn hj hk]
          exact ⟨rfl, hI⟩
        · omega
      · refine zn_if_eq (tgt := 20) hx hb d_M_common_13 (by decide) (by omega) (fun c1 => ?_) (fun c1 => ?_)
        · omega
        · refine lv_iconst (v := (-1)) hx hb d_M_common_16 (by decide) ?_
          refine lv_goto (tgt := 26) hx hb d_M_common_17 (by decide) ?_
          refine zret_i Z hr hlk (iN, la, nI n, nI t, nI u) hH d_M_common_26 ?_
          rw [a2_m hq]
          exact ⟨rfl, hI⟩
  · refine zn_if_ne (tgt := 16) hx hb d_M_common_5 (by decide) (by omega) (fun c0 => ?_) (fun c0 => ?_)
    · refine lv_iconst (v := (-1)) hx hb d_M_common_16 (by decide) ?_
      refine lv_goto (tgt := 26) hx hb d_M_common_17 (by decide) ?_
      refine zret_i Z hr hlk (iN, la, nI n, nI t, nI u) hH d_M_common_26 ?_
      rw [a2_n hq]
      exact ⟨rfl, hI⟩
    · omega
set_option maxHeartbeats 4000000 in
set_option maxRecDepth 100000 in
/-- similar(x, y) -/
theorem c_M_similar {l : Launch} {D : va_G} {cI cZ : ClassId} {h : Nat → Nat} {iN la : Nat → Int32} {n t u : Nat} {S : SS} (x y : Int32) (hI : mInv n t u S (iN, la, nI n, nI t, nI u)) : zMi l y_M_similar b_M_similar 3 (some .int) { frames := 2, cells := 0, slots := 0, locals := 48 } D cI cZ (mw h cI cZ) [.ref (h 0), .int x, .int y] (iN, la, nI n, nI t, nI u) (fun r σ' => r = a2 n (fun a b => (al t u S a b).toNat) x y ∧ mInv n t u S σ') := by
  refine zMi.of R_M rfl (by decide) (Nat.le_of_ble_eq_true rfl) ?_
  intro p e s m args below meth c A ls Z hr hlk hA hH hl
  obtain ⟨hx, hb, hml, hown, hts, hK⟩ := id Z
  have hl : lv_has ls 3 [(0, .ref (h 0)), (1, .int x), (2, .int y)] := hl
  obtain ⟨hn, hth, hin, -, -, -⟩ := id hI
  refine lv_aload_n hx hb d_M_similar_0 rfl (lv_at hl 0 rfl) ?_
  refine lv_iload_n hx hb d_M_similar_1 rfl (lv_at hl 1 rfl) ?_
  refine mc_i (As := [.int x]) (rest := []) Z hA hH d_M_similar_2 ok_M_bad rfl (c_M_bad x hn) ⟨rfl, rfl, Nat.le_of_ble_eq_true rfl, Nat.le_of_ble_eq_true rfl⟩ hl.1 (Nat.le_of_ble_eq_true rfl) rfl (fun r σ' H locs hp hH => ?_)
  obtain ⟨rfl, hp⟩ := hp
  rcases hp with ⟨rfl, j, hj, rfl⟩ | ⟨rfl, hq⟩
  · refine zn_if_ne (tgt := 16) hx hb d_M_similar_5 (by decide) (by omega) (fun c0 => ?_) (fun c0 => ?_)
    · omega
    · refine lv_aload_n hx hb d_M_similar_8 rfl (lv_at hl 0 rfl) ?_
      refine lv_iload_n hx hb d_M_similar_9 rfl (lv_at hl 2 rfl) ?_
      refine mc_i (As := [.int y]) (rest := []) Z hA hH d_M_similar_10 ok_M_bad rfl (c_M_bad y hn) ⟨rfl, rfl, Nat.le_of_ble_eq_true rfl, Nat.le_of_ble_eq_true rfl⟩ hl.1 (Nat.le_of_ble_eq_true rfl) rfl (fun r σ' H locs hp hH => ?_)
      obtain ⟨rfl, hp⟩ := hp
      rcases hp with ⟨rfl, k, hk, rfl⟩ | ⟨rfl, hq⟩
      · refine zn_if_eq (tgt := 18) hx hb d_M_similar_13 (by decide) (by omega) (fun c1 => ?_) (fun c1 => ?_)
        · refine lv_aload_n hx hb d_M_similar_18 rfl (lv_at hl 0 rfl) ?_
          refine lv_iload_n hx hb d_M_similar_19 rfl (lv_at hl 1 rfl) ?_
          refine lv_iload_n hx hb d_M_similar_20 rfl (lv_at hl 2 rfl) ?_
          refine mc_i (As := [.int (nI j), .int (nI k)]) (rest := []) Z hA hH d_M_similar_21 ok_M_alike rfl (c_M_alike (a := j) (b := k) hth (by omega) (by omega) (mIn_ln hin (Or.inl hj)) (mIn_ln hin (Or.inl hk))) ⟨rfl, rfl, Nat.le_of_ble_eq_true rfl, Nat.le_of_ble_eq_true rfl⟩ hl.1 (Nat.le_of_ble_eq_true rfl) rfl (fun r σ' H locs hp hH => ?_)
          obtain ⟨rfl, rfl⟩ := hp
          have hb0 := tn_le (alT t u (S j) (S k))
          refine zn_if_eq (tgt := 31) hx hb d_M_similar_24 (by decide) (by omega) (fun c2 => ?_) (fun c2 => ?_)
          · refine lv_iconst (v := nI 0) hx hb d_M_similar_31 (by decide) ?_
            refine zret_i Z hr hlk (iN, la, nI n, nI t, nI u) hH d_M_similar_32 ?_
            rw [a2_s hn hj hk]
            exact ⟨by unfold al; rw [c2], hI⟩
          · refine lv_iconst (v := nI 1) hx hb d_M_similar_27 (by decide) ?_
            refine lv_goto (tgt := 32) hx hb d_M_similar_28 (by decide) ?_
            refine zret_i Z hr hlk (iN, la, nI n, nI t, nI u) hH d_M_similar_32 ?_
            rw [a2_s hn hj hk]
            exact ⟨by unfold al; rw [tn_n0.mp c2]; rfl, hI⟩
        · omega
      · refine zn_if_eq (tgt := 18) hx hb d_M_similar_13 (by decide) (by omega) (fun c1 => ?_) (fun c1 => ?_)
        · omega
        · refine lv_iconst (v := (-1)) hx hb d_M_similar_16 (by decide) ?_
          refine zret_i Z hr hlk (iN, la, nI n, nI t, nI u) hH d_M_similar_17 ?_
          rw [a2_m hq]
          exact ⟨rfl, hI⟩
  · refine zn_if_ne (tgt := 16) hx hb d_M_similar_5 (by decide) (by omega) (fun c0 => ?_) (fun c0 => ?_)
    · refine lv_iconst (v := (-1)) hx hb d_M_similar_16 (by decide) ?_
      refine zret_i Z hr hlk (iN, la, nI n, nI t, nI u) hH d_M_similar_17 ?_
      rw [a2_n hq]
      exact ⟨rfl, hI⟩
    · omega
set_option maxHeartbeats 4000000 in
set_option maxRecDepth 100000 in
/-- pairs() -/
theorem c_M_pairs {l : Launch} {D : va_G} {cI cZ : ClassId} {h : Nat → Nat} {iN la : Nat → Int32} {n t u : Nat} {S : SS}  (hI : mInv n t u S (iN, la, nI n, nI t, nI u)) : zMi l y_M_pairs b_M_pairs 4 (some .int) { frames := 2, cells := 0, slots := 0, locals := 48 } D cI cZ (mw h cI cZ) [.ref (h 0)] (iN, la, nI n, nI t, nI u) (fun r σ' => r = nI (vPairs n t u S) ∧ mInv n t u S σ') := by
  refine zMi.of R_M rfl (by decide) (Nat.le_of_ble_eq_true rfl) ?_
  intro p e s m args below meth c A ls Z hr hlk hA hH hl
  obtain ⟨hx, hb, hml, hown, hts, hK⟩ := id Z
  have hl : lv_has ls 4 [(0, .ref (h 0))] := hl
  obtain ⟨hn, hth, hin, -, -, -⟩ := id hI
  refine lv_iconst (v := nI 0) hx hb d_M_pairs_0 (by decide) ?_
  refine lv_istore_n (lv' := [(1, .int (nI 0)), (0, .ref (h 0))]) hx hb d_M_pairs_1 rfl hl (by decide) rfl (fun ls hl => ?_)
  refine lv_iconst (v := nI 0) hx hb d_M_pairs_2 (by decide) ?_
  refine lv_istore_n (lv' := [(2, .int (nI 0)), (1, .int (nI 0)), (0, .ref (h 0))]) hx hb d_M_pairs_3 rfl hl (by decide) rfl (fun ls hl => ?_)
  refine w_loop (pc := 4) (fun n_ H locs ls => ∃ (i : Nat) (k : Nat), n_ = 20 - i ∧ i ≤ n ∧ k = nsum (fun a => cnt (fun b => decide (a < b) && al t u S a b) n) i ∧ zH D A s.heap (mw h cI cZ (iN, la, nI n, nI t, nI u)) H locs ∧ lv_has ls 4 [(0, .ref (h 0)), (1, .int (nI k)), (2, .int (nI i))]) ?_ _ _ _ _ ⟨0, 0, rfl, Nat.zero_le _, rfl, hH, lv_sub hl [2, 1, 0] rfl⟩
  rintro _ H locs ls ⟨i, k, rfl, g1, g2, hH, hl⟩ ih0
  refine lv_iload_n hx hb d_M_pairs_4 rfl (lv_at hl 2 rfl) ?_
  refine lv_aload_n hx hb d_M_pairs_5 rfl (lv_at hl 0 rfl) ?_
  refine mg_cn Z hH d_M_pairs_6 ?_
  refine zn_icmp_ge (tgt := 60) hx hb d_M_pairs_9 (by decide) (by omega) (by omega) (fun c1 => ?_) (fun c1 => ?_)
  · refine lv_iload_n hx hb d_M_pairs_60 rfl (lv_at hl 1 rfl) ?_
    refine zret_i Z hr hlk (iN, la, nI n, nI t, nI u) hH d_M_pairs_61 ?_
    exact ⟨by rw [g2, show i = n by omega]; rfl, hI⟩
  · refine lv_iload_n hx hb d_M_pairs_12 rfl (lv_at hl 2 rfl) ?_
    refine lv_bipush (v := nI 20) hx hb d_M_pairs_13 (by decide) ?_
    refine zn_icmp_ge (tgt := 60) hx hb d_M_pairs_15 (by decide) (by omega) (by omega) (fun c2 => ?_) (fun c2 => ?_)
    · omega
    · refine lv_iload_n hx hb d_M_pairs_18 rfl (lv_at hl 2 rfl) ?_
      refine lv_iconst (v := nI 1) hx hb d_M_pairs_19 (by decide) ?_
      refine zn_iadd hx hb d_M_pairs_20 ?_
      refine lv_istore_n (lv' := [(3, .int (nI (i + 1))), (0, .ref (h 0)), (1, .int (nI k)), (2, .int (nI i))]) hx hb d_M_pairs_21 rfl hl (by decide) rfl (fun ls hl => ?_)
      refine w_loop (pc := 22) (fun n_ H locs ls => ∃ (b : Nat) (k2 : Nat), n_ = 20 - b ∧ i < b ∧ b ≤ n ∧ k2 = k + cnt (fun b => decide (i < b) && al t u S i b) b ∧ zH D A s.heap (mw h cI cZ (iN, la, nI n, nI t, nI u)) H locs ∧ lv_has ls 4 [(0, .ref (h 0)), (1, .int (nI k2)), (2, .int (nI i)), (3, .int (nI b))]) ?_ _ _ _ _ ⟨i + 1, k, rfl, by omega, by omega, by rw [cnt_zero (fun y hy => by rw [decide_eq_false (by omega), Bool.false_and])]; rfl, hH, lv_sub hl [1, 2, 3, 0] rfl⟩
      rintro _ H locs ls ⟨b, k2, rfl, m0, m1, m2, hH, hl⟩ ih1
      refine lv_iload_n hx hb d_M_pairs_22 rfl (lv_at hl 3 rfl) ?_
      refine lv_aload_n hx hb d_M_pairs_23 rfl (lv_at hl 0 rfl) ?_
      refine mg_cn Z hH d_M_pairs_24 ?_
      refine zn_icmp_ge (tgt := 54) hx hb d_M_pairs_27 (by decide) (by omega) (by omega) (fun c3 => ?_) (fun c3 => ?_)
      · refine lv_iinc (v := nI (i + 1)) (lv' := [(2, .int (nI (i + 1))), (0, .ref (h 0)), (1, .int (nI k2)), (3, .int (nI b))]) hx hb d_M_pairs_54 hl (k := 2) rfl (nI_1 _) (by decide) rfl (fun ls hl => ?_)
        refine lv_goto (tgt := 4) hx hb d_M_pairs_57 (by decide) ?_
        exact ih0 _ _ _ _ (by omega) ⟨i + 1, k2, rfl, by omega, by rw [m2, g2, show b = n by omega]; rfl, hH, lv_sub hl [1, 2, 0] rfl⟩
      · refine lv_iload_n hx hb d_M_pairs_30 rfl (lv_at hl 3 rfl) ?_
        refine lv_bipush (v := nI 20) hx hb d_M_pairs_31 (by decide) ?_
        refine zn_icmp_ge (tgt := 54) hx hb d_M_pairs_33 (by decide) (by omega) (by omega) (fun c4 => ?_) (fun c4 => ?_)
        · omega
        · refine lv_aload_n hx hb d_M_pairs_36 rfl (lv_at hl 0 rfl) ?_
          refine lv_iload_n hx hb d_M_pairs_37 rfl (lv_at hl 2 rfl) ?_
          refine lv_iload_n hx hb d_M_pairs_38 rfl (lv_at hl 3 rfl) ?_
          refine mc_i (As := [.int (nI i), .int (nI b)]) (rest := []) Z hA hH d_M_pairs_39 ok_M_alike rfl (c_M_alike (a := i) (b := b) hth (by omega) (by omega) (mIn_ln hin (Or.inl c1)) (mIn_ln hin (Or.inl c3))) ⟨rfl, rfl, Nat.le_of_ble_eq_true rfl, Nat.le_of_ble_eq_true rfl⟩ hl.1 (Nat.le_of_ble_eq_true rfl) rfl (fun r σ' H locs hp hH => ?_)
          obtain ⟨rfl, rfl⟩ := hp
          have hb0 := tn_le (alT t u (S i) (S b))
          refine zn_if_eq (tgt := 48) hx hb d_M_pairs_42 (by decide) (by omega) (fun c5 => ?_) (fun c5 => ?_)
          · refine lv_iinc (v := nI (b + 1)) (lv' := [(3, .int (nI (b + 1))), (0, .ref (h 0)), (1, .int (nI k2)), (2, .int (nI i))]) hx hb d_M_pairs_48 hl (k := 3) rfl (nI_1 _) (by decide) rfl (fun ls hl => ?_)
            refine lv_goto (tgt := 22) hx hb d_M_pairs_51 (by decide) ?_
            exact ih1 _ _ _ _ (by omega) ⟨b + 1, k2, rfl, by omega, by omega, by rw [cnt_f (by rw [decide_eq_true m0, Bool.true_and]; exact tn_0.mp c5)]; exact m2, hH, lv_sub hl [1, 2, 3, 0] rfl⟩
          · refine lv_iinc (v := nI (k2 + 1)) (lv' := [(1, .int (nI (k2 + 1))), (0, .ref (h 0)), (2, .int (nI i)), (3, .int (nI b))]) hx hb d_M_pairs_45 hl (k := 1) rfl (nI_1 _) (by decide) rfl (fun ls hl => ?_)
            refine lv_iinc (v := nI (b + 1)) (lv' := [(3, .int (nI (b + 1))), (1, .int (nI (k2 + 1))), (0, .ref (h 0)), (2, .int (nI i))]) hx hb d_M_pairs_48 hl (k := 3) rfl (nI_1 _) (by decide) rfl (fun ls hl => ?_)
            refine lv_goto (tgt := 22) hx hb d_M_pairs_51 (by decide) ?_
            exact ih1 _ _ _ _ (by omega) ⟨b + 1, k2 + 1, rfl, by omega, by omega, by rw [cnt_t (by rw [decide_eq_true m0, Bool.true_and]; exact tn_n0.mp c5), m2]; rfl, hH, lv_sub hl [2, 1, 3, 0] rfl⟩
set_option maxHeartbeats 4000000 in
set_option maxRecDepth 100000 in
/-- degree(x) -/
theorem c_M_degree {l : Launch} {D : va_G} {cI cZ : ClassId} {h : Nat → Nat} {iN la : Nat → Int32} {n t u : Nat} {S : SS} (x : Int32) (hI : mInv n t u S (iN, la, nI n, nI t, nI u)) : zMi l y_M_degree b_M_degree 4 (some .int) { frames := 2, cells := 0, slots := 0, locals := 48 } D cI cZ (mw h cI cZ) [.ref (h 0), .int x] (iN, la, nI n, nI t, nI u) (fun r σ' => r = a1 n (fun w => nI (cnt (nbr t u S w) n)) x ∧ mInv n t u S σ') := by
  refine zMi.of R_M rfl (by decide) (Nat.le_of_ble_eq_true rfl) ?_
  intro p e s m args below meth c A ls Z hr hlk hA hH hl
  obtain ⟨hx, hb, hml, hown, hts, hK⟩ := id Z
  have hl : lv_has ls 4 [(0, .ref (h 0)), (1, .int x)] := hl
  obtain ⟨hn, hth, hin, -, -, -⟩ := id hI
  refine lv_aload_n hx hb d_M_degree_0 rfl (lv_at hl 0 rfl) ?_
  refine lv_iload_n hx hb d_M_degree_1 rfl (lv_at hl 1 rfl) ?_
  refine mc_i (As := [.int x]) (rest := []) Z hA hH d_M_degree_2 ok_M_bad rfl (c_M_bad x hn) ⟨rfl, rfl, Nat.le_of_ble_eq_true rfl, Nat.le_of_ble_eq_true rfl⟩ hl.1 (Nat.le_of_ble_eq_true rfl) rfl (fun r σ' H locs hp hH => ?_)
  obtain ⟨rfl, hp⟩ := hp
  rcases hp with ⟨rfl, j, hj, rfl⟩ | ⟨rfl, hq⟩
  · refine zn_if_eq (tgt := 10) hx hb d_M_degree_5 (by decide) (by omega) (fun c0 => ?_) (fun c0 => ?_)
    · refine lv_iconst (v := nI 0) hx hb d_M_degree_10 (by decide) ?_
      refine lv_istore_n (lv' := [(2, .int (nI 0)), (0, .ref (h 0)), (1, .int (nI j))]) hx hb d_M_degree_11 rfl hl (by decide) rfl (fun ls hl => ?_)
      refine lv_iconst (v := nI 0) hx hb d_M_degree_12 (by decide) ?_
      refine lv_istore_n (lv' := [(3, .int (nI 0)), (2, .int (nI 0)), (0, .ref (h 0)), (1, .int (nI j))]) hx hb d_M_degree_13 rfl hl (by decide) rfl (fun ls hl => ?_)
      refine w_loop (pc := 14) (fun n_ H locs ls => ∃ (i : Nat) (k : Nat), n_ = 20 - i ∧ i ≤ n ∧ k = cnt (nbr t u S j) i ∧ zH D A s.heap (mw h cI cZ (iN, la, nI n, nI t, nI u)) H locs ∧ lv_has ls 4 [(0, .ref (h 0)), (1, .int (nI j)), (2, .int (nI k)), (3, .int (nI i))]) ?_ _ _ _ _ ⟨0, 0, rfl, Nat.zero_le _, rfl, hH, lv_sub hl [2, 3, 1, 0] rfl⟩
      rintro _ H locs ls ⟨i, k, rfl, g1, g2, hH, hl⟩ ih0
      refine lv_iload_n hx hb d_M_degree_14 rfl (lv_at hl 3 rfl) ?_
      refine lv_aload_n hx hb d_M_degree_15 rfl (lv_at hl 0 rfl) ?_
      refine mg_cn Z hH d_M_degree_16 ?_
      refine zn_icmp_ge (tgt := 51) hx hb d_M_degree_19 (by decide) (by omega) (by omega) (fun c1 => ?_) (fun c1 => ?_)
      · refine lv_iload_n hx hb d_M_degree_51 rfl (lv_at hl 2 rfl) ?_
        refine zret_i Z hr hlk (iN, la, nI n, nI t, nI u) hH d_M_degree_52 ?_
        rw [a1_s hn hj, g2, show i = n by omega]
        exact ⟨rfl, hI⟩
      · refine lv_iload_n hx hb d_M_degree_22 rfl (lv_at hl 3 rfl) ?_
        refine lv_bipush (v := nI 20) hx hb d_M_degree_23 (by decide) ?_
        refine zn_icmp_ge (tgt := 51) hx hb d_M_degree_25 (by decide) (by omega) (by omega) (fun c2 => ?_) (fun c2 => ?_)
        · omega
        · refine lv_iload_n hx hb d_M_degree_28 rfl (lv_at hl 3 rfl) ?_
          refine lv_iload_n hx hb d_M_degree_29 rfl (lv_at hl 1 rfl) ?_
          refine zn_icmp_eq (tgt := 45) hx hb d_M_degree_30 (by decide) (by omega) (by omega) (fun c3 => ?_) (fun c3 => ?_)
          · refine lv_iinc (v := nI (i + 1)) (lv' := [(3, .int (nI (i + 1))), (0, .ref (h 0)), (1, .int (nI j)), (2, .int (nI k))]) hx hb d_M_degree_45 hl (k := 3) rfl (nI_1 _) (by decide) rfl (fun ls hl => ?_)
            refine lv_goto (tgt := 14) hx hb d_M_degree_48 (by decide) ?_
            exact ih0 _ _ _ _ (by omega) ⟨i + 1, k, rfl, by omega, by rw [cnt_f (by unfold nbr; rw [decide_eq_false (fun z => z c3), Bool.false_and]), g2], hH, lv_sub hl [1, 2, 3, 0] rfl⟩
          · refine lv_aload_n hx hb d_M_degree_33 rfl (lv_at hl 0 rfl) ?_
            refine lv_iload_n hx hb d_M_degree_34 rfl (lv_at hl 3 rfl) ?_
            refine lv_iload_n hx hb d_M_degree_35 rfl (lv_at hl 1 rfl) ?_
            refine mc_i (As := [.int (nI i), .int (nI j)]) (rest := []) Z hA hH d_M_degree_36 ok_M_alike rfl (c_M_alike (a := i) (b := j) hth (by omega) (by omega) (mIn_ln hin (Or.inl c1)) (mIn_ln hin (Or.inl hj))) ⟨rfl, rfl, Nat.le_of_ble_eq_true rfl, Nat.le_of_ble_eq_true rfl⟩ hl.1 (Nat.le_of_ble_eq_true rfl) rfl (fun r σ' H locs hp hH => ?_)
            obtain ⟨rfl, rfl⟩ := hp
            have hb0 := tn_le (alT t u (S i) (S j))
            have hbb : nbr t u S j i = alT t u (S i) (S j) := by unfold nbr; rw [decide_eq_true c3, Bool.true_and]; rfl
            refine zn_if_eq (tgt := 45) hx hb d_M_degree_39 (by decide) (by omega) (fun c4 => ?_) (fun c4 => ?_)
            · refine lv_iinc (v := nI (i + 1)) (lv' := [(3, .int (nI (i + 1))), (0, .ref (h 0)), (1, .int (nI j)), (2, .int (nI k))]) hx hb d_M_degree_45 hl (k := 3) rfl (nI_1 _) (by decide) rfl (fun ls hl => ?_)
              refine lv_goto (tgt := 14) hx hb d_M_degree_48 (by decide) ?_
              exact ih0 _ _ _ _ (by omega) ⟨i + 1, k, rfl, by omega, by rw [cnt_f (by rw [hbb]; exact tn_0.mp c4), g2], hH, lv_sub hl [1, 2, 3, 0] rfl⟩
            · refine lv_iinc (v := nI (k + 1)) (lv' := [(2, .int (nI (k + 1))), (0, .ref (h 0)), (1, .int (nI j)), (3, .int (nI i))]) hx hb d_M_degree_42 hl (k := 2) rfl (nI_1 _) (by decide) rfl (fun ls hl => ?_)
              refine lv_iinc (v := nI (i + 1)) (lv' := [(3, .int (nI (i + 1))), (2, .int (nI (k + 1))), (0, .ref (h 0)), (1, .int (nI j))]) hx hb d_M_degree_45 hl (k := 3) rfl (nI_1 _) (by decide) rfl (fun ls hl => ?_)
              refine lv_goto (tgt := 14) hx hb d_M_degree_48 (by decide) ?_
              exact ih0 _ _ _ _ (by omega) ⟨i + 1, k + 1, rfl, by omega, by rw [cnt_t (by rw [hbb]; exact tn_n0.mp c4), g2], hH, lv_sub hl [2, 3, 1, 0] rfl⟩
    · omega
  · refine zn_if_eq (tgt := 10) hx hb d_M_degree_5 (by decide) (by omega) (fun c0 => ?_) (fun c0 => ?_)
    · omega
    · refine lv_iconst (v := (-1)) hx hb d_M_degree_8 (by decide) ?_
      refine zret_i Z hr hlk (iN, la, nI n, nI t, nI u) hH d_M_degree_9 ?_
      rw [a1_n hq]
      exact ⟨rfl, hI⟩
set_option maxHeartbeats 4000000 in
set_option maxRecDepth 100000 in
/-- partner(x, y) -/
theorem c_M_partner {l : Launch} {D : va_G} {cI cZ : ClassId} {h : Nat → Nat} {iN la : Nat → Int32} {n t u : Nat} {S : SS} (x y : Int32) (hI : mInv n t u S (iN, la, nI n, nI t, nI u)) : zMi l y_M_partner b_M_partner 5 (some .int) { frames := 2, cells := 0, slots := 0, locals := 48 } D cI cZ (mw h cI cZ) [.ref (h 0), .int x, .int y] (iN, la, nI n, nI t, nI u) (fun r σ' => r = a1 n (fun w => vPart n t u S y w) x ∧ mInv n t u S σ') := by
  refine zMi.of R_M rfl (by decide) (Nat.le_of_ble_eq_true rfl) ?_
  intro p e s m args below meth c A ls Z hr hlk hA hH hl
  obtain ⟨hx, hb, hml, hown, hts, hK⟩ := id Z
  have hl : lv_has ls 5 [(0, .ref (h 0)), (1, .int x), (2, .int y)] := hl
  obtain ⟨hn, hth, hin, -, -, -⟩ := id hI
  refine lv_aload_n hx hb d_M_partner_0 rfl (lv_at hl 0 rfl) ?_
  refine lv_iload_n hx hb d_M_partner_1 rfl (lv_at hl 1 rfl) ?_
  refine mc_i (As := [.int x]) (rest := []) Z hA hH d_M_partner_2 ok_M_bad rfl (c_M_bad x hn) ⟨rfl, rfl, Nat.le_of_ble_eq_true rfl, Nat.le_of_ble_eq_true rfl⟩ hl.1 (Nat.le_of_ble_eq_true rfl) rfl (fun r σ' H locs hp hH => ?_)
  obtain ⟨rfl, hp⟩ := hp
  rcases hp with ⟨rfl, j, hj, rfl⟩ | ⟨rfl, hq⟩
  · refine zn_if_eq (tgt := 10) hx hb d_M_partner_5 (by decide) (by omega) (fun c0 => ?_) (fun c0 => ?_)
    · refine lv_iconst (v := nI 0) hx hb d_M_partner_10 (by decide) ?_
      refine lv_istore_n (lv' := [(3, .int (nI 0)), (0, .ref (h 0)), (1, .int (nI j)), (2, .int y)]) hx hb d_M_partner_11 rfl hl (by decide) rfl (fun ls hl => ?_)
      refine lv_iconst (v := nI 0) hx hb d_M_partner_12 (by decide) ?_
      refine lv_istore (lv' := [(4, .int (nI 0)), (3, .int (nI 0)), (0, .ref (h 0)), (1, .int (nI j)), (2, .int y)]) hx hb d_M_partner_13 hl (by decide) rfl (fun ls hl => ?_)
      refine w_loop (pc := 15) (fun n_ H locs ls => ∃ (i : Nat) (k : Nat), n_ = 20 - i ∧ i ≤ n ∧ k = cnt (nbr t u S j) i ∧ lfind (fun b => nbr t u S j b && decide (y = nI (cnt (nbr t u S j) b))) 0 n = lfind (fun b => nbr t u S j b && decide (y = nI (cnt (nbr t u S j) b))) i (n - i) ∧ zH D A s.heap (mw h cI cZ (iN, la, nI n, nI t, nI u)) H locs ∧ lv_has ls 5 [(0, .ref (h 0)), (1, .int (nI j)), (2, .int y), (3, .int (nI k)), (4, .int (nI i))]) ?_ _ _ _ _ ⟨0, 0, rfl, Nat.zero_le _, rfl, rfl, hH, lv_sub hl [2, 3, 4, 1, 0] rfl⟩
      rintro _ H locs ls ⟨i, k, rfl, g1, g2, g3, hH, hl⟩ ih0
      refine lv_iload hx hb d_M_partner_15 (lv_at hl 4 rfl) ?_
      refine lv_aload_n hx hb d_M_partner_17 rfl (lv_at hl 0 rfl) ?_
      refine mg_cn Z hH d_M_partner_18 ?_
      refine zn_icmp_ge (tgt := 64) hx hb d_M_partner_21 (by decide) (by omega) (by omega) (fun c1 => ?_) (fun c1 => ?_)
      · refine lv_bipush (v := (-2)) hx hb d_M_partner_64 (by decide) ?_
        refine zret_i Z hr hlk (iN, la, nI n, nI t, nI u) hH d_M_partner_66 ?_
        rw [a1_s hn hj]
        unfold vPart
        rw [g3, lfind_end c1]
        exact ⟨rfl, hI⟩
      · refine lv_iload hx hb d_M_partner_24 (lv_at hl 4 rfl) ?_
        refine lv_bipush (v := nI 20) hx hb d_M_partner_26 (by decide) ?_
        refine zn_icmp_ge (tgt := 64) hx hb d_M_partner_28 (by decide) (by omega) (by omega) (fun c2 => ?_) (fun c2 => ?_)
        · omega
        · refine lv_iload hx hb d_M_partner_31 (lv_at hl 4 rfl) ?_
          refine lv_iload_n hx hb d_M_partner_33 rfl (lv_at hl 1 rfl) ?_
          refine zn_icmp_eq (tgt := 58) hx hb d_M_partner_34 (by decide) (by omega) (by omega) (fun c3 => ?_) (fun c3 => ?_)
          · have hnb : nbr t u S j i = false := by unfold nbr; rw [decide_eq_false (fun z => z c3), Bool.false_and]
            refine lv_iinc (v := nI (i + 1)) (lv' := [(4, .int (nI (i + 1))), (0, .ref (h 0)), (1, .int (nI j)), (2, .int y), (3, .int (nI k))]) hx hb d_M_partner_58 hl (k := 4) rfl (nI_1 _) (by decide) rfl (fun ls hl => ?_)
            refine lv_goto (tgt := 15) hx hb d_M_partner_61 (by decide) ?_
            exact ih0 _ _ _ _ (by omega) ⟨i + 1, k, rfl, by omega, by rw [cnt_f hnb]; exact g2, by rw [g3]; exact lfind_no c1 (by rw [hnb]; rfl), hH, lv_sub hl [1, 2, 3, 4, 0] rfl⟩
          · refine lv_aload_n hx hb d_M_partner_37 rfl (lv_at hl 0 rfl) ?_
            refine lv_iload hx hb d_M_partner_38 (lv_at hl 4 rfl) ?_
            refine lv_iload_n hx hb d_M_partner_40 rfl (lv_at hl 1 rfl) ?_
            refine mc_i (As := [.int (nI i), .int (nI j)]) (rest := []) Z hA hH d_M_partner_41 ok_M_alike rfl (c_M_alike (a := i) (b := j) hth (by omega) (by omega) (mIn_ln hin (Or.inl c1)) (mIn_ln hin (Or.inl hj))) ⟨rfl, rfl, Nat.le_of_ble_eq_true rfl, Nat.le_of_ble_eq_true rfl⟩ hl.1 (Nat.le_of_ble_eq_true rfl) rfl (fun r σ' H locs hp hH => ?_)
            obtain ⟨rfl, rfl⟩ := hp
            have hb0 := tn_le (alT t u (S i) (S j))
            have hbb : nbr t u S j i = alT t u (S i) (S j) := by unfold nbr; rw [decide_eq_true c3, Bool.true_and]; rfl
            refine zn_if_eq (tgt := 58) hx hb d_M_partner_44 (by decide) (by omega) (fun c4 => ?_) (fun c4 => ?_)
            · have hnb : nbr t u S j i = false := by rw [hbb]; exact tn_0.mp c4
              refine lv_iinc (v := nI (i + 1)) (lv' := [(4, .int (nI (i + 1))), (0, .ref (h 0)), (1, .int (nI j)), (2, .int y), (3, .int (nI k))]) hx hb d_M_partner_58 hl (k := 4) rfl (nI_1 _) (by decide) rfl (fun ls hl => ?_)
              refine lv_goto (tgt := 15) hx hb d_M_partner_61 (by decide) ?_
              exact ih0 _ _ _ _ (by omega) ⟨i + 1, k, rfl, by omega, by rw [cnt_f hnb]; exact g2, by rw [g3]; exact lfind_no c1 (by rw [hnb]; rfl), hH, lv_sub hl [1, 2, 3, 4, 0] rfl⟩
            · have hnb : nbr t u S j i = true := by rw [hbb]; exact tn_n0.mp c4
              refine lv_iload_n hx hb d_M_partner_47 rfl (lv_at hl 3 rfl) ?_
              refine lv_iload_n hx hb d_M_partner_48 rfl (lv_at hl 2 rfl) ?_
              refine lv_icmp_ne (tgt := 55) hx hb d_M_partner_49 (by decide) (fun c5 => ?_) (fun c5 => ?_)
              · refine lv_iinc (v := nI (k + 1)) (lv' := [(3, .int (nI (k + 1))), (0, .ref (h 0)), (1, .int (nI j)), (2, .int y), (4, .int (nI i))]) hx hb d_M_partner_55 hl (k := 3) rfl (nI_1 _) (by decide) rfl (fun ls hl => ?_)
                refine lv_iinc (v := nI (i + 1)) (lv' := [(4, .int (nI (i + 1))), (3, .int (nI (k + 1))), (0, .ref (h 0)), (1, .int (nI j)), (2, .int y)]) hx hb d_M_partner_58 hl (k := 4) rfl (nI_1 _) (by decide) rfl (fun ls hl => ?_)
                refine lv_goto (tgt := 15) hx hb d_M_partner_61 (by decide) ?_
                exact ih0 _ _ _ _ (by omega) ⟨i + 1, k + 1, rfl, by omega, by rw [cnt_t hnb, g2], by rw [g3]; exact lfind_no c1 (by rw [hnb, decide_eq_false (fun z => c5 (by rw [g2]; exact z.symm))]; rfl), hH, lv_sub hl [2, 3, 4, 1, 0] rfl⟩
              · refine lv_iload hx hb d_M_partner_52 (lv_at hl 4 rfl) ?_
                refine zret_i Z hr hlk (iN, la, nI n, nI t, nI u) hH d_M_partner_54 ?_
                rw [a1_s hn hj]
                unfold vPart
                rw [g3, lfind_yes c1 (by rw [hnb, decide_eq_true (by rw [← g2]; exact c5.symm)]; rfl)]
                exact ⟨rfl, hI⟩
    · omega
  · refine zn_if_eq (tgt := 10) hx hb d_M_partner_5 (by decide) (by omega) (fun c0 => ?_) (fun c0 => ?_)
    · omega
    · refine lv_iconst (v := (-1)) hx hb d_M_partner_8 (by decide) ?_
      refine zret_i Z hr hlk (iN, la, nI n, nI t, nI u) hH d_M_partner_9 ?_
      rw [a1_n hq]
      exact ⟨rfl, hI⟩
set_option maxHeartbeats 4000000 in
set_option maxRecDepth 100000 in
/-- nearest(x) -/
theorem c_M_nearest {l : Launch} {D : va_G} {cI cZ : ClassId} {h : Nat → Nat} {iN la : Nat → Int32} {n t u : Nat} {S : SS} (x : Int32) (hI : mInv n t u S (iN, la, nI n, nI t, nI u)) : zMi l y_M_nearest b_M_nearest 8 (some .int) { frames := 1, cells := 0, slots := 0, locals := 24 } D cI cZ (mw h cI cZ) [.ref (h 0), .int x] (iN, la, nI n, nI t, nI u) (fun r σ' => r = a1 n (fun w => (vNear S w n).1) x ∧ mInv n t u S σ') := by
  refine zMi.of R_M rfl (by decide) (Nat.le_of_ble_eq_true rfl) ?_
  intro p e s m args below meth c A ls Z hr hlk hA hH hl
  obtain ⟨hx, hb, hml, hown, hts, hK⟩ := id Z
  have hl : lv_has ls 8 [(0, .ref (h 0)), (1, .int x)] := hl
  obtain ⟨hn, hth, hin, -, -, -⟩ := id hI
  refine lv_aload_n hx hb d_M_nearest_0 rfl (lv_at hl 0 rfl) ?_
  refine lv_iload_n hx hb d_M_nearest_1 rfl (lv_at hl 1 rfl) ?_
  refine mc_i (As := [.int x]) (rest := []) Z hA hH d_M_nearest_2 ok_M_bad rfl (c_M_bad x hn) ⟨rfl, rfl, Nat.le_of_ble_eq_true rfl, Nat.le_of_ble_eq_true rfl⟩ hl.1 (Nat.le_of_ble_eq_true rfl) rfl (fun r σ' H locs hp hH => ?_)
  obtain ⟨rfl, hp⟩ := hp
  rcases hp with ⟨rfl, j, hj, rfl⟩ | ⟨rfl, hq⟩
  · refine zn_if_eq (tgt := 10) hx hb d_M_nearest_5 (by decide) (by omega) (fun c0 => ?_) (fun c0 => ?_)
    · refine lv_bipush (v := (-2)) hx hb d_M_nearest_10 (by decide) ?_
      refine lv_istore_n (lv' := [(2, .int (-2)), (0, .ref (h 0)), (1, .int (nI j))]) hx hb d_M_nearest_12 rfl hl (by decide) rfl (fun ls hl => ?_)
      refine lv_iconst (v := nI 0) hx hb d_M_nearest_13 (by decide) ?_
      refine lv_istore_n (lv' := [(3, .int (nI 0)), (2, .int (-2)), (0, .ref (h 0)), (1, .int (nI j))]) hx hb d_M_nearest_14 rfl hl (by decide) rfl (fun ls hl => ?_)
      refine lv_iconst (v := nI 1) hx hb d_M_nearest_15 (by decide) ?_
      refine lv_istore (lv' := [(4, .int (nI 1)), (3, .int (nI 0)), (2, .int (-2)), (0, .ref (h 0)), (1, .int (nI j))]) hx hb d_M_nearest_16 hl (by decide) rfl (fun ls hl => ?_)
      refine lv_iconst (v := nI 0) hx hb d_M_nearest_18 (by decide) ?_
      refine lv_istore (lv' := [(5, .int (nI 0)), (4, .int (nI 1)), (3, .int (nI 0)), (2, .int (-2)), (0, .ref (h 0)), (1, .int (nI j))]) hx hb d_M_nearest_19 hl (by decide) rfl (fun ls hl => ?_)
      refine w_loop (pc := 21) (fun n_ H locs ls => ∃ (i : Nat) (bs : Int32) (bc : Nat) (ba : Nat), n_ = 20 - i ∧ i ≤ n ∧ vNear S j i = (bs, bc, ba) ∧ bc ≤ 30 ∧ ba ≤ 30 ∧ zH D A s.heap (mw h cI cZ (iN, la, nI n, nI t, nI u)) H locs ∧ lv_has ls 8 [(0, .ref (h 0)), (1, .int (nI j)), (2, .int bs), (3, .int (nI bc)), (4, .int (nI ba)), (5, .int (nI i))]) ?_ _ _ _ _ ⟨0, (-2), 0, 1, rfl, Nat.zero_le _, rfl, by omega, by omega, hH, lv_sub hl [4, 5, 3, 2, 1, 0] rfl⟩
      rintro _ H locs ls ⟨i, bs, bc, ba, rfl, g1, g2, g3, g4, hH, hl⟩ ih0
      refine lv_iload hx hb d_M_nearest_21 (lv_at hl 5 rfl) ?_
      refine lv_aload_n hx hb d_M_nearest_23 rfl (lv_at hl 0 rfl) ?_
      refine mg_cn Z hH d_M_nearest_24 ?_
      refine zn_icmp_ge (tgt := 93) hx hb d_M_nearest_27 (by decide) (by omega) (by omega) (fun c1 => ?_) (fun c1 => ?_)
      · refine lv_iload_n hx hb d_M_nearest_93 rfl (lv_at hl 2 rfl) ?_
        refine zret_i Z hr hlk (iN, la, nI n, nI t, nI u) hH d_M_nearest_94 ?_
        have ei : i = n := by omega
        rw [a1_s hn hj, ← ei, g2]
        rw [ei]
        exact ⟨rfl, hI⟩
      · refine lv_iload hx hb d_M_nearest_30 (lv_at hl 5 rfl) ?_
        refine lv_bipush (v := nI 20) hx hb d_M_nearest_32 (by decide) ?_
        refine zn_icmp_ge (tgt := 93) hx hb d_M_nearest_34 (by decide) (by omega) (by omega) (fun c2 => ?_) (fun c2 => ?_)
        · omega
        · refine lv_iload hx hb d_M_nearest_37 (lv_at hl 5 rfl) ?_
          refine lv_iload_n hx hb d_M_nearest_39 rfl (lv_at hl 1 rfl) ?_
          refine zn_icmp_eq (tgt := 87) hx hb d_M_nearest_40 (by decide) (by omega) (by omega) (fun c3 => ?_) (fun c3 => ?_)
          · refine lv_iinc (v := nI (i + 1)) (lv' := [(5, .int (nI (i + 1))), (0, .ref (h 0)), (1, .int (nI j)), (2, .int bs), (3, .int (nI bc)), (4, .int (nI ba))]) hx hb d_M_nearest_87 hl (k := 5) rfl (nI_1 _) (by decide) rfl (fun ls hl => ?_)
            refine lv_goto (tgt := 21) hx hb d_M_nearest_90 (by decide) ?_
            exact ih0 _ _ _ _ (by omega) ⟨i + 1, bs, bc, ba, rfl, by omega, vNear_n g2 (Or.inl c3), g3, g4, hH, lv_sub hl [1, 2, 3, 4, 5, 0] rfl⟩
          · refine lv_aload_n hx hb d_M_nearest_43 rfl (lv_at hl 0 rfl) ?_
            refine lv_iload hx hb d_M_nearest_44 (lv_at hl 5 rfl) ?_
            refine lv_iload_n hx hb d_M_nearest_46 rfl (lv_at hl 1 rfl) ?_
            refine mc_i (As := [.int (nI i), .int (nI j)]) (rest := []) Z hA hH d_M_nearest_47 ok_M_both rfl (c_M_both (a := i) (b := j) (by omega) (by omega) (mIn_ln hin (Or.inl c1)) (mIn_ln hin (Or.inl hj))) ⟨rfl, rfl, Nat.le_of_ble_eq_true rfl, Nat.le_of_ble_eq_true rfl⟩ hl.1 (Nat.le_of_ble_eq_true rfl) rfl (fun r σ' H locs hp hH => ?_)
            obtain ⟨rfl, rfl⟩ := hp
            rw [cBo_comm]
            refine lv_istore (lv' := [(6, .int (nI (cBo (S j) (S i)))), (0, .ref (h 0)), (1, .int (nI j)), (2, .int bs), (3, .int (nI bc)), (4, .int (nI ba)), (5, .int (nI i))]) hx hb d_M_nearest_50 hl (by decide) rfl (fun ls hl => ?_)
            refine lv_aload_n hx hb d_M_nearest_52 rfl (lv_at hl 1 rfl) ?_
            refine lv_iload hx hb d_M_nearest_53 (lv_at hl 6 rfl) ?_
            refine lv_iload_n hx hb d_M_nearest_55 rfl (lv_at hl 2 rfl) ?_
            refine mc_i (As := [.int (nI i), .int (nI j)]) (rest := []) Z hA hH d_M_nearest_56 ok_M_either rfl (c_M_either (a := i) (b := j) (by omega) (by omega) (mIn_ln hin (Or.inl c1)) (mIn_ln hin (Or.inl hj))) ⟨rfl, rfl, Nat.le_of_ble_eq_true rfl, Nat.le_of_ble_eq_true rfl⟩ hl.1 (Nat.le_of_ble_eq_true rfl) rfl (fun r σ' H locs hp hH => ?_)
            obtain ⟨rfl, rfl⟩ := hp
            rw [cEi_comm]
            have q2 := cBo_le (S j) (S i)
            have q3 := cEi_le (S j) (S i)
            have q4 := mul_bd q2 g4
            have q5 := mul_bd g3 q3
            refine lv_istore (lv' := [(7, .int (nI (cEi (S j) (S i)))), (6, .int (nI (cBo (S j) (S i)))), (0, .ref (h 0)), (1, .int (nI j)), (2, .int bs), (3, .int (nI bc)), (4, .int (nI ba)), (5, .int (nI i))]) hx hb d_M_nearest_59 hl (by decide) rfl (fun ls hl => ?_)
            refine lv_iload_n hx hb d_M_nearest_61 rfl (lv_at hl 4 rfl) ?_
            refine lv_if_lt (tgt := 77) hx hb d_M_nearest_62 (by decide) (fun c4 => ?_) (fun c4 => ?_)
            · refine lv_iload hx hb d_M_nearest_77 (lv_at hl 7 rfl) ?_
              refine lv_istore_n (lv' := [(2, .int (nI i)), (7, .int (nI (cEi (S j) (S i)))), (6, .int (nI (cBo (S j) (S i)))), (0, .ref (h 0)), (1, .int (nI j)), (3, .int (nI bc)), (4, .int (nI ba)), (5, .int (nI i))]) hx hb d_M_nearest_79 rfl hl (by decide) rfl (fun ls hl => ?_)
              refine lv_iload hx hb d_M_nearest_80 (lv_at hl 2 rfl) ?_
              refine lv_istore_n (lv' := [(3, .int (nI (cBo (S j) (S i)))), (2, .int (nI i)), (7, .int (nI (cEi (S j) (S i)))), (6, .int (nI (cBo (S j) (S i)))), (0, .ref (h 0)), (1, .int (nI j)), (4, .int (nI ba)), (5, .int (nI i))]) hx hb d_M_nearest_82 rfl hl (by decide) rfl (fun ls hl => ?_)
              refine lv_iload hx hb d_M_nearest_83 (lv_at hl 2 rfl) ?_
              refine lv_istore (lv' := [(4, .int (nI (cEi (S j) (S i)))), (3, .int (nI (cBo (S j) (S i)))), (2, .int (nI i)), (7, .int (nI (cEi (S j) (S i)))), (6, .int (nI (cBo (S j) (S i)))), (0, .ref (h 0)), (1, .int (nI j)), (5, .int (nI i))]) hx hb d_M_nearest_85 hl (by decide) rfl (fun ls hl => ?_)
              refine lv_iinc (v := nI (i + 1)) (lv' := [(5, .int (nI (i + 1))), (4, .int (nI (cEi (S j) (S i)))), (3, .int (nI (cBo (S j) (S i)))), (2, .int (nI i)), (7, .int (nI (cEi (S j) (S i)))), (6, .int (nI (cBo (S j) (S i)))), (0, .ref (h 0)), (1, .int (nI j))]) hx hb d_M_nearest_87 hl (k := 7) rfl (nI_1 _) (by decide) rfl (fun ls hl => ?_)
              refine lv_goto (tgt := 21) hx hb d_M_nearest_90 (by decide) ?_
              exact ih0 _ _ _ _ (by omega) ⟨i + 1, nI i, cBo (S j) (S i), cEi (S j) (S i), rfl, by omega, vNear_y g2 c3 (Or.inl c4), q2, q3, hH, lv_sub hl [6, 7, 3, 2, 1, 0] rfl⟩
            · refine lv_iload hx hb d_M_nearest_65 (lv_at hl 1 rfl) ?_
              refine lv_iload hx hb d_M_nearest_67 (lv_at hl 6 rfl) ?_
              refine zn_imul hx hb d_M_nearest_69 ?_
              refine lv_iload_n hx hb d_M_nearest_70 rfl (lv_at hl 5 rfl) ?_
              refine lv_iload hx hb d_M_nearest_71 (lv_at hl 0 rfl) ?_
              refine zn_imul hx hb d_M_nearest_73 ?_
              refine zn_icmp_le (tgt := 87) hx hb d_M_nearest_74 (by decide) (by omega) (by omega) (fun c5 => ?_) (fun c5 => ?_)
              · refine lv_iinc (v := nI (i + 1)) (lv' := [(5, .int (nI (i + 1))), (7, .int (nI (cEi (S j) (S i)))), (6, .int (nI (cBo (S j) (S i)))), (0, .ref (h 0)), (1, .int (nI j)), (2, .int bs), (3, .int (nI bc)), (4, .int (nI ba))]) hx hb d_M_nearest_87 hl (k := 7) rfl (nI_1 _) (by decide) rfl (fun ls hl => ?_)
                refine lv_goto (tgt := 21) hx hb d_M_nearest_90 (by decide) ?_
                exact ih0 _ _ _ _ (by omega) ⟨i + 1, bs, bc, ba, rfl, by omega, vNear_n g2 (Or.inr ⟨c4, c5⟩), g3, g4, hH, lv_sub hl [3, 4, 5, 6, 7, 0] rfl⟩
              · refine lv_iload hx hb d_M_nearest_77 (lv_at hl 7 rfl) ?_
                refine lv_istore_n (lv' := [(2, .int (nI i)), (7, .int (nI (cEi (S j) (S i)))), (6, .int (nI (cBo (S j) (S i)))), (0, .ref (h 0)), (1, .int (nI j)), (3, .int (nI bc)), (4, .int (nI ba)), (5, .int (nI i))]) hx hb d_M_nearest_79 rfl hl (by decide) rfl (fun ls hl => ?_)
                refine lv_iload hx hb d_M_nearest_80 (lv_at hl 2 rfl) ?_
                refine lv_istore_n (lv' := [(3, .int (nI (cBo (S j) (S i)))), (2, .int (nI i)), (7, .int (nI (cEi (S j) (S i)))), (6, .int (nI (cBo (S j) (S i)))), (0, .ref (h 0)), (1, .int (nI j)), (4, .int (nI ba)), (5, .int (nI i))]) hx hb d_M_nearest_82 rfl hl (by decide) rfl (fun ls hl => ?_)
                refine lv_iload hx hb d_M_nearest_83 (lv_at hl 2 rfl) ?_
                refine lv_istore (lv' := [(4, .int (nI (cEi (S j) (S i)))), (3, .int (nI (cBo (S j) (S i)))), (2, .int (nI i)), (7, .int (nI (cEi (S j) (S i)))), (6, .int (nI (cBo (S j) (S i)))), (0, .ref (h 0)), (1, .int (nI j)), (5, .int (nI i))]) hx hb d_M_nearest_85 hl (by decide) rfl (fun ls hl => ?_)
                refine lv_iinc (v := nI (i + 1)) (lv' := [(5, .int (nI (i + 1))), (4, .int (nI (cEi (S j) (S i)))), (3, .int (nI (cBo (S j) (S i)))), (2, .int (nI i)), (7, .int (nI (cEi (S j) (S i)))), (6, .int (nI (cBo (S j) (S i)))), (0, .ref (h 0)), (1, .int (nI j))]) hx hb d_M_nearest_87 hl (k := 7) rfl (nI_1 _) (by decide) rfl (fun ls hl => ?_)
                refine lv_goto (tgt := 21) hx hb d_M_nearest_90 (by decide) ?_
                exact ih0 _ _ _ _ (by omega) ⟨i + 1, nI i, cBo (S j) (S i), cEi (S j) (S i), rfl, by omega, vNear_y g2 c3 (Or.inr c5), q2, q3, hH, lv_sub hl [6, 7, 3, 2, 1, 0] rfl⟩
    · omega
  · refine zn_if_eq (tgt := 10) hx hb d_M_nearest_5 (by decide) (by omega) (fun c0 => ?_) (fun c0 => ?_)
    · omega
    · refine lv_iconst (v := (-1)) hx hb d_M_nearest_8 (by decide) ?_
      refine zret_i Z hr hlk (iN, la, nI n, nI t, nI u) hH d_M_nearest_9 ?_
      rw [a1_n hq]
      exact ⟨rfl, hI⟩
set_option maxHeartbeats 4000000 in
set_option maxRecDepth 100000 in
/-- matches() -/
theorem c_M_matches {l : Launch} {D : va_G} {cI cZ : ClassId} {h : Nat → Nat} {iN la : Nat → Int32} {n t u : Nat} {S : SS}  (hI : mInv n t u S (iN, la, nI n, nI t, nI u)) : zMi l y_M_matches b_M_matches 3 (some .int) { frames := 2, cells := 0, slots := 0, locals := 48 } D cI cZ (mw h cI cZ) [.ref (h 0)] (iN, la, nI n, nI t, nI u) (fun r σ' => r = nI (cnt (fun s => al t u S s 20) n) ∧ mInv n t u S σ') := by
  refine zMi.of R_M rfl (by decide) (Nat.le_of_ble_eq_true rfl) ?_
  intro p e s m args below meth c A ls Z hr hlk hA hH hl
  obtain ⟨hx, hb, hml, hown, hts, hK⟩ := id Z
  have hl : lv_has ls 3 [(0, .ref (h 0))] := hl
  obtain ⟨hn, hth, hin, -, -, -⟩ := id hI
  refine lv_iconst (v := nI 0) hx hb d_M_matches_0 (by decide) ?_
  refine lv_istore_n (lv' := [(1, .int (nI 0)), (0, .ref (h 0))]) hx hb d_M_matches_1 rfl hl (by decide) rfl (fun ls hl => ?_)
  refine lv_iconst (v := nI 0) hx hb d_M_matches_2 (by decide) ?_
  refine lv_istore_n (lv' := [(2, .int (nI 0)), (1, .int (nI 0)), (0, .ref (h 0))]) hx hb d_M_matches_3 rfl hl (by decide) rfl (fun ls hl => ?_)
  refine w_loop (pc := 4) (fun n_ H locs ls => ∃ (i : Nat) (k : Nat), n_ = 20 - i ∧ i ≤ n ∧ k = cnt (fun s => al t u S s 20) i ∧ zH D A s.heap (mw h cI cZ (iN, la, nI n, nI t, nI u)) H locs ∧ lv_has ls 3 [(0, .ref (h 0)), (1, .int (nI k)), (2, .int (nI i))]) ?_ _ _ _ _ ⟨0, 0, rfl, Nat.zero_le _, rfl, hH, lv_sub hl [2, 1, 0] rfl⟩
  rintro _ H locs ls ⟨i, k, rfl, g1, g2, hH, hl⟩ ih0
  refine lv_iload_n hx hb d_M_matches_4 rfl (lv_at hl 2 rfl) ?_
  refine lv_aload_n hx hb d_M_matches_5 rfl (lv_at hl 0 rfl) ?_
  refine mg_cn Z hH d_M_matches_6 ?_
  refine zn_icmp_ge (tgt := 37) hx hb d_M_matches_9 (by decide) (by omega) (by omega) (fun c1 => ?_) (fun c1 => ?_)
  · refine lv_iload_n hx hb d_M_matches_37 rfl (lv_at hl 1 rfl) ?_
    refine zret_i Z hr hlk (iN, la, nI n, nI t, nI u) hH d_M_matches_38 ?_
    exact ⟨by rw [g2, show i = n by omega], hI⟩
  · refine lv_iload_n hx hb d_M_matches_12 rfl (lv_at hl 2 rfl) ?_
    refine lv_bipush (v := nI 20) hx hb d_M_matches_13 (by decide) ?_
    refine zn_icmp_ge (tgt := 37) hx hb d_M_matches_15 (by decide) (by omega) (by omega) (fun c2 => ?_) (fun c2 => ?_)
    · omega
    · refine lv_aload_n hx hb d_M_matches_18 rfl (lv_at hl 0 rfl) ?_
      refine lv_iload_n hx hb d_M_matches_19 rfl (lv_at hl 2 rfl) ?_
      refine lv_bipush (v := nI 20) hx hb d_M_matches_20 (by decide) ?_
      refine mc_i (As := [.int (nI i), .int (nI 20)]) (rest := []) Z hA hH d_M_matches_22 ok_M_alike rfl (c_M_alike (a := i) (b := 20) hth (by omega) (by omega) (mIn_ln hin (Or.inl c1)) (mIn_ln hin (Or.inr rfl))) ⟨rfl, rfl, Nat.le_of_ble_eq_true rfl, Nat.le_of_ble_eq_true rfl⟩ hl.1 (Nat.le_of_ble_eq_true rfl) rfl (fun r σ' H locs hp hH => ?_)
      obtain ⟨rfl, rfl⟩ := hp
      have hb0 := tn_le (alT t u (S i) (S 20))
      refine zn_if_eq (tgt := 31) hx hb d_M_matches_25 (by decide) (by omega) (fun c3 => ?_) (fun c3 => ?_)
      · refine lv_iinc (v := nI (i + 1)) (lv' := [(2, .int (nI (i + 1))), (0, .ref (h 0)), (1, .int (nI k))]) hx hb d_M_matches_31 hl (k := 2) rfl (nI_1 _) (by decide) rfl (fun ls hl => ?_)
        refine lv_goto (tgt := 4) hx hb d_M_matches_34 (by decide) ?_
        exact ih0 _ _ _ _ (by omega) ⟨i + 1, k, rfl, by omega, by rw [cnt_f (tn_0.mp c3), g2], hH, lv_sub hl [1, 2, 0] rfl⟩
      · refine lv_iinc (v := nI (k + 1)) (lv' := [(1, .int (nI (k + 1))), (0, .ref (h 0)), (2, .int (nI i))]) hx hb d_M_matches_28 hl (k := 1) rfl (nI_1 _) (by decide) rfl (fun ls hl => ?_)
        refine lv_iinc (v := nI (i + 1)) (lv' := [(2, .int (nI (i + 1))), (1, .int (nI (k + 1))), (0, .ref (h 0))]) hx hb d_M_matches_31 hl (k := 2) rfl (nI_1 _) (by decide) rfl (fun ls hl => ?_)
        refine lv_goto (tgt := 4) hx hb d_M_matches_34 (by decide) ?_
        exact ih0 _ _ _ _ (by omega) ⟨i + 1, k + 1, rfl, by omega, by rw [cnt_t (tn_n0.mp c3), g2], hH, lv_sub hl [2, 1, 0] rfl⟩
set_option maxHeartbeats 4000000 in
set_option maxRecDepth 100000 in
/-- match(x) -/
theorem c_M_match {l : Launch} {D : va_G} {cI cZ : ClassId} {h : Nat → Nat} {iN la : Nat → Int32} {n t u : Nat} {S : SS} (x : Int32) (hI : mInv n t u S (iN, la, nI n, nI t, nI u)) : zMi l y_M_match b_M_match 3 (some .int) { frames := 2, cells := 0, slots := 0, locals := 48 } D cI cZ (mw h cI cZ) [.ref (h 0), .int x] (iN, la, nI n, nI t, nI u) (fun r σ' => r = a1 20 (fun j => vMat n t u S j) x ∧ mInv n t u S σ') := by
  refine zMi.of R_M rfl (by decide) (Nat.le_of_ble_eq_true rfl) ?_
  intro p e s m args below meth c A ls Z hr hlk hA hH hl
  obtain ⟨hx, hb, hml, hown, hts, hK⟩ := id Z
  have hl : lv_has ls 3 [(0, .ref (h 0)), (1, .int x)] := hl
  obtain ⟨hn, hth, hin, -, -, -⟩ := id hI
  refine lv_iload_n hx hb d_M_match_0 rfl (lv_at hl 1 rfl) ?_
  refine lv_if_lt (tgt := 10) hx hb d_M_match_1 (by decide) (fun c => ?_) (fun c => ?_)
  · refine lv_iconst (v := (-1)) hx hb d_M_match_10 (by decide) ?_
    refine zret_i Z hr hlk (iN, la, nI n, nI t, nI u) hH d_M_match_11 ?_
    rw [a1_n (fun ⟨j, hj, e⟩ => absurd (e ▸ c) (nI_pos (by omega)))]
    exact ⟨rfl, hI⟩
  · refine lv_iload_n hx hb d_M_match_4 rfl (lv_at hl 1 rfl) ?_
    refine lv_bipush (v := nI 19) hx hb d_M_match_5 (by decide) ?_
    refine lv_icmp_le (tgt := 12) hx hb d_M_match_7 (by decide) (fun c1 => ?_) (fun c1 => ?_)
    · obtain ⟨j, hj, rfl⟩ : ∃ j : Nat, j < 20 ∧ x = nI j := by obtain ⟨j, hj, rfl⟩ := nI_of c; exact ⟨j, by have := (nI_leI hj (by omega)).mp c1; omega, rfl⟩
      refine lv_iload_n hx hb d_M_match_12 rfl (lv_at hl 1 rfl) ?_
      refine lv_istore_n (lv' := [(2, .int (nI j)), (0, .ref (h 0)), (1, .int (nI j))]) hx hb d_M_match_13 rfl hl (by decide) rfl (fun ls hl => ?_)
      refine w_loop (pc := 14) (fun n_ H locs ls => ∃ (i : Nat), n_ = 20 - i ∧ i ≤ 20 ∧ lfind (fun s => al t u S s 20) j (n - j) = lfind (fun s => al t u S s 20) i (n - i) ∧ zH D A s.heap (mw h cI cZ (iN, la, nI n, nI t, nI u)) H locs ∧ lv_has ls 3 [(0, .ref (h 0)), (2, .int (nI i))]) ?_ _ _ _ _ ⟨j, rfl, by omega, rfl, hH, lv_sub hl [1, 0] rfl⟩
      rintro _ H locs ls ⟨i, rfl, g1, g2, hH, hl⟩ ih0
      refine lv_iload_n hx hb d_M_match_14 rfl (lv_at hl 1 rfl) ?_
      refine lv_aload_n hx hb d_M_match_15 rfl (lv_at hl 0 rfl) ?_
      refine mg_cn Z hH d_M_match_16 ?_
      refine zn_icmp_ge (tgt := 46) hx hb d_M_match_19 (by decide) (by omega) (by omega) (fun c2 => ?_) (fun c2 => ?_)
      · refine lv_bipush (v := (-2)) hx hb d_M_match_46 (by decide) ?_
        refine zret_i Z hr hlk (iN, la, nI n, nI t, nI u) hH d_M_match_48 ?_
        rw [a1_s (by omega) hj]
        unfold vMat
        rw [g2, lfind_end c2]
        exact ⟨rfl, hI⟩
      · refine lv_iload_n hx hb d_M_match_22 rfl (lv_at hl 1 rfl) ?_
        refine lv_bipush (v := nI 20) hx hb d_M_match_23 (by decide) ?_
        refine zn_icmp_ge (tgt := 46) hx hb d_M_match_25 (by decide) (by omega) (by omega) (fun c3 => ?_) (fun c3 => ?_)
        · omega
        · refine lv_aload_n hx hb d_M_match_28 rfl (lv_at hl 0 rfl) ?_
          refine lv_iload_n hx hb d_M_match_29 rfl (lv_at hl 1 rfl) ?_
          refine lv_bipush (v := nI 20) hx hb d_M_match_30 (by decide) ?_
          refine mc_i (As := [.int (nI i), .int (nI 20)]) (rest := []) Z hA hH d_M_match_32 ok_M_alike rfl (c_M_alike (a := i) (b := 20) hth (by omega) (by omega) (mIn_ln hin (Or.inl c2)) (mIn_ln hin (Or.inr rfl))) ⟨rfl, rfl, Nat.le_of_ble_eq_true rfl, Nat.le_of_ble_eq_true rfl⟩ hl.1 (Nat.le_of_ble_eq_true rfl) rfl (fun r σ' H locs hp hH => ?_)
          obtain ⟨rfl, rfl⟩ := hp
          have hb0 := tn_le (alT t u (S i) (S 20))
          refine zn_if_eq (tgt := 40) hx hb d_M_match_35 (by decide) (by omega) (fun c4 => ?_) (fun c4 => ?_)
          · refine lv_iinc (v := nI (i + 1)) (lv' := [(2, .int (nI (i + 1))), (0, .ref (h 0))]) hx hb d_M_match_40 hl (k := 1) rfl (nI_1 _) (by decide) rfl (fun ls hl => ?_)
            refine lv_goto (tgt := 14) hx hb d_M_match_43 (by decide) ?_
            exact ih0 _ _ _ _ (by omega) ⟨i + 1, rfl, by omega, by rw [g2]; exact lfind_no c2 (tn_0.mp c4), hH, lv_sub hl [1, 0] rfl⟩
          · refine lv_iload_n hx hb d_M_match_38 rfl (lv_at hl 1 rfl) ?_
            refine zret_i Z hr hlk (iN, la, nI n, nI t, nI u) hH d_M_match_39 ?_
            rw [a1_s (by omega) hj]
            unfold vMat
            rw [g2, lfind_yes c2 (tn_n0.mp c4)]
            exact ⟨rfl, hI⟩
    · refine lv_iconst (v := (-1)) hx hb d_M_match_10 (by decide) ?_
      refine zret_i Z hr hlk (iN, la, nI n, nI t, nI u) hH d_M_match_11 ?_
      rw [a1_n (fun ⟨j, hj, e⟩ => c1 (by rw [e]; exact nI_le (by omega) (by omega)))]
      exact ⟨rfl, hI⟩
set_option maxHeartbeats 4000000 in
set_option maxRecDepth 100000 in
/-- containing() -/
theorem c_M_containing {l : Launch} {D : va_G} {cI cZ : ClassId} {h : Nat → Nat} {iN la : Nat → Int32} {n t u : Nat} {S : SS}  (hI : mInv n t u S (iN, la, nI n, nI t, nI u)) : zMi l y_M_containing b_M_containing 4 (some .int) { frames := 1, cells := 0, slots := 0, locals := 24 } D cI cZ (mw h cI cZ) [.ref (h 0)] (iN, la, nI n, nI t, nI u) (fun r σ' => r = nI (vCont n S) ∧ mInv n t u S σ') := by
  refine zMi.of R_M rfl (by decide) (Nat.le_of_ble_eq_true rfl) ?_
  intro p e s m args below meth c A ls Z hr hlk hA hH hl
  obtain ⟨hx, hb, hml, hown, hts, hK⟩ := id Z
  have hl : lv_has ls 4 [(0, .ref (h 0))] := hl
  obtain ⟨hn, hth, hin, -, -, -⟩ := id hI
  refine lv_iconst (v := nI 0) hx hb d_M_containing_0 (by decide) ?_
  refine lv_istore_n (lv' := [(1, .int (nI 0)), (0, .ref (h 0))]) hx hb d_M_containing_1 rfl hl (by decide) rfl (fun ls hl => ?_)
  refine lv_aload_n hx hb d_M_containing_2 rfl (lv_at hl 1 rfl) ?_
  refine lv_bipush (v := nI 20) hx hb d_M_containing_3 (by decide) ?_
  refine mc_i (As := [.int (nI 20)]) (rest := []) Z hA hH d_M_containing_5 ok_M_sizeOf rfl (c_M_sizeOf (a := 20) (by omega) (mIn_ln hin (Or.inr rfl))) ⟨rfl, rfl, Nat.le_of_ble_eq_true rfl, Nat.le_of_ble_eq_true rfl⟩ hl.1 (Nat.le_of_ble_eq_true rfl) rfl (fun r σ' H locs hp hH => ?_)
  obtain ⟨rfl, rfl⟩ := hp
  have hc30 := cnt_le (S 20) 30
  refine lv_istore_n (lv' := [(2, .int (nI (cnt (S 20) 30))), (1, .int (nI 0)), (0, .ref (h 0))]) hx hb d_M_containing_8 rfl hl (by decide) rfl (fun ls hl => ?_)
  refine lv_iconst (v := nI 0) hx hb d_M_containing_9 (by decide) ?_
  refine lv_istore_n (lv' := [(3, .int (nI 0)), (2, .int (nI (cnt (S 20) 30))), (1, .int (nI 0)), (0, .ref (h 0))]) hx hb d_M_containing_10 rfl hl (by decide) rfl (fun ls hl => ?_)
  refine w_loop (pc := 11) (fun n_ H locs ls => ∃ (i : Nat) (k : Nat), n_ = 20 - i ∧ i ≤ n ∧ k = cnt (fun s => decide (cBo (S s) (S 20) = cnt (S 20) 30)) i ∧ zH D A s.heap (mw h cI cZ (iN, la, nI n, nI t, nI u)) H locs ∧ lv_has ls 4 [(0, .ref (h 0)), (1, .int (nI k)), (2, .int (nI (cnt (S 20) 30))), (3, .int (nI i))]) ?_ _ _ _ _ ⟨0, 0, rfl, Nat.zero_le _, rfl, hH, lv_sub hl [3, 2, 1, 0] rfl⟩
  rintro _ H locs ls ⟨i, k, rfl, g1, g2, hH, hl⟩ ih0
  refine lv_iload_n hx hb d_M_containing_11 rfl (lv_at hl 3 rfl) ?_
  refine lv_aload_n hx hb d_M_containing_12 rfl (lv_at hl 0 rfl) ?_
  refine mg_cn Z hH d_M_containing_13 ?_
  refine zn_icmp_ge (tgt := 45) hx hb d_M_containing_16 (by decide) (by omega) (by omega) (fun c1 => ?_) (fun c1 => ?_)
  · refine lv_iload_n hx hb d_M_containing_45 rfl (lv_at hl 1 rfl) ?_
    refine zret_i Z hr hlk (iN, la, nI n, nI t, nI u) hH d_M_containing_46 ?_
    exact ⟨by rw [g2, show i = n by omega]; rfl, hI⟩
  · refine lv_iload_n hx hb d_M_containing_19 rfl (lv_at hl 3 rfl) ?_
    refine lv_bipush (v := nI 20) hx hb d_M_containing_20 (by decide) ?_
    refine zn_icmp_ge (tgt := 45) hx hb d_M_containing_22 (by decide) (by omega) (by omega) (fun c2 => ?_) (fun c2 => ?_)
    · omega
    · refine lv_aload_n hx hb d_M_containing_25 rfl (lv_at hl 0 rfl) ?_
      refine lv_iload_n hx hb d_M_containing_26 rfl (lv_at hl 3 rfl) ?_
      refine lv_bipush (v := nI 20) hx hb d_M_containing_27 (by decide) ?_
      refine mc_i (As := [.int (nI i), .int (nI 20)]) (rest := []) Z hA hH d_M_containing_29 ok_M_both rfl (c_M_both (a := i) (b := 20) (by omega) (by omega) (mIn_ln hin (Or.inl c1)) (mIn_ln hin (Or.inr rfl))) ⟨rfl, rfl, Nat.le_of_ble_eq_true rfl, Nat.le_of_ble_eq_true rfl⟩ hl.1 (Nat.le_of_ble_eq_true rfl) rfl (fun r σ' H locs hp hH => ?_)
      obtain ⟨rfl, rfl⟩ := hp
      have hb0 := cBo_le (S i) (S 20)
      refine lv_iload_n hx hb d_M_containing_32 rfl (lv_at hl 2 rfl) ?_
      refine zn_icmp_ne (tgt := 39) hx hb d_M_containing_33 (by decide) (by omega) (by omega) (fun c3 => ?_) (fun c3 => ?_)
      · refine lv_iinc (v := nI (i + 1)) (lv' := [(3, .int (nI (i + 1))), (0, .ref (h 0)), (1, .int (nI k)), (2, .int (nI (cnt (S 20) 30)))]) hx hb d_M_containing_39 hl (k := 3) rfl (nI_1 _) (by decide) rfl (fun ls hl => ?_)
        refine lv_goto (tgt := 11) hx hb d_M_containing_42 (by decide) ?_
        exact ih0 _ _ _ _ (by omega) ⟨i + 1, k, rfl, by omega, by rw [cnt_f (decide_eq_false c3), g2], hH, lv_sub hl [1, 2, 3, 0] rfl⟩
      · refine lv_iinc (v := nI (k + 1)) (lv' := [(1, .int (nI (k + 1))), (0, .ref (h 0)), (2, .int (nI (cnt (S 20) 30))), (3, .int (nI i))]) hx hb d_M_containing_36 hl (k := 1) rfl (nI_1 _) (by decide) rfl (fun ls hl => ?_)
        refine lv_iinc (v := nI (i + 1)) (lv' := [(3, .int (nI (i + 1))), (1, .int (nI (k + 1))), (0, .ref (h 0)), (2, .int (nI (cnt (S 20) 30)))]) hx hb d_M_containing_39 hl (k := 3) rfl (nI_1 _) (by decide) rfl (fun ls hl => ?_)
        refine lv_goto (tgt := 11) hx hb d_M_containing_42 (by decide) ?_
        exact ih0 _ _ _ _ (by omega) ⟨i + 1, k + 1, rfl, by omega, by rw [cnt_t (decide_eq_true c3), g2], hH, lv_sub hl [2, 1, 3, 0] rfl⟩
end
section
set_option maxHeartbeats 4000000 in
set_option maxRecDepth 100000 in
/-- lower(): a round of labels -/
theorem c_M_lower {l : Launch} {D : va_G} {cI cZ : ClassId} {h : Nat → Nat} {iN la : Nat → Int32} {n t u : Nat} {S : SS} {lb L : Nat → Nat} (hI : mInv n t u S (iN, la, nI n, nI t, nI u)) (hlb : isLab n (al t u S) lb) (hL : ∀ r, r < n → la r = nI (L r)) (hok : okL n lb L) : zMi l y_M_lower b_M_lower 4 (some .boolean) { frames := 2, cells := 0, slots := 0, locals := 48 } D cI cZ (mw h cI cZ) [.ref (h 0)] (iN, la, nI n, nI t, nI u) (fun r σ' => ∃ (la' : Nat → Int32) (L' : Nat → Nat), σ' = (iN, la', nI n, nI t, nI u) ∧ (∀ r, r < n → la' r = nI (L' r)) ∧ okL n lb L' ∧ (r = nI 0 ∨ r = nI 1) ∧ (r = nI 0 → ∀ x, x < n → L' x = L x) ∧ (allS n lb L' ∨ cnt (stl lb L) n < cnt (stl lb L') n)) := by
  refine zMi.of R_M rfl (by decide) (Nat.le_of_ble_eq_true rfl) ?_
  intro p e s m args below meth c A ls Z hr hlk hA hH hl
  obtain ⟨hx, hb, hml, hown, hts, hK⟩ := id Z
  have hl : lv_has ls 4 [(0, .ref (h 0))] := hl
  obtain ⟨hn, hth, hin, -, -, -⟩ := id hI
  refine lv_iconst (v := nI 0) hx hb d_M_lower_0 (by decide) ?_
  refine lv_istore_n (lv' := [(1, .int (nI 0)), (0, .ref (h 0))]) hx hb d_M_lower_1 rfl hl (by decide) rfl (fun ls hl => ?_)
  refine lv_iconst (v := nI 0) hx hb d_M_lower_2 (by decide) ?_
  refine lv_istore_n (lv' := [(2, .int (nI 0)), (1, .int (nI 0)), (0, .ref (h 0))]) hx hb d_M_lower_3 rfl hl (by decide) rfl (fun ls hl => ?_)
  refine w_loop (pc := 4) (fun n_ H locs ls => ∃ (a : Nat) (k : Nat) (la2 : Nat → Int32) (L2 : Nat → Nat), n_ = 20 - a ∧ a ≤ n ∧ (k = 0 ∨ k = 1) ∧ (k = 0 → ∀ x, x < n → L2 x = L x) ∧ (∀ r, r < n → la2 r = nI (L2 r)) ∧ okL n lb L2 ∧ (∀ r, r < n → L r = lb r → L2 r = lb r) ∧ (∀ w, w < a → ∀ v, v < n → L v = lb v → al t u S w v = true → L2 w = lb w) ∧ zH D A s.heap (mw h cI cZ (iN, la2, nI n, nI t, nI u)) H locs ∧ lv_has ls 4 [(0, .ref (h 0)), (1, .int (nI k)), (2, .int (nI a))]) ?_ _ _ _ _ ⟨0, 0, la, L, rfl, Nat.zero_le _, Or.inl rfl, fun _ _ _ => rfl, hL, hok, fun _ _ e => e, fun w hw => by omega, hH, lv_sub hl [2, 1, 0] rfl⟩
  rintro _ H locs ls ⟨a, k, la2, L2, rfl, g1, g2, g3, g4, g5, g6, g7, hH, hl⟩ ih0
  refine lv_iload_n hx hb d_M_lower_4 rfl (lv_at hl 2 rfl) ?_
  refine lv_aload_n hx hb d_M_lower_5 rfl (lv_at hl 0 rfl) ?_
  refine mg_cn Z hH d_M_lower_6 ?_
  refine zn_icmp_ge (tgt := 84) hx hb d_M_lower_9 (by decide) (by omega) (by omega) (fun c1 => ?_) (fun c1 => ?_)
  · have ea : a = n := by omega
    refine lv_iload_n hx hb d_M_lower_84 rfl (lv_at hl 1 rfl) ?_
    refine zret_z Z hr hlk (iN, la2, nI n, nI t, nI u) hH d_M_lower_85 (by rcases g2 with rfl | rfl; (· rfl); (· rfl)) ?_
    refine ⟨la2, L2, rfl, g4, g5, by rcases g2 with rfl | rfl; (· exact Or.inl rfl); (· exact Or.inr rfl), fun z => g3 ((nI_eq (by omega) (by omega)).mp z), okL_round (al_comm t u S) hlb hok g6 (fun w hw v hv e1 e2 => g7 w (by omega) v hv e1 e2)⟩
  · refine lv_iload_n hx hb d_M_lower_12 rfl (lv_at hl 2 rfl) ?_
    refine lv_bipush (v := nI 20) hx hb d_M_lower_13 (by decide) ?_
    refine zn_icmp_ge (tgt := 84) hx hb d_M_lower_15 (by decide) (by omega) (by omega) (fun c2 => ?_) (fun c2 => ?_)
    · omega
    · refine lv_iconst (v := nI 0) hx hb d_M_lower_18 (by decide) ?_
      refine lv_istore_n (lv' := [(3, .int (nI 0)), (0, .ref (h 0)), (1, .int (nI k)), (2, .int (nI a))]) hx hb d_M_lower_19 rfl hl (by decide) rfl (fun ls hl => ?_)
      refine w_loop (pc := 20) (fun n_ H locs ls => ∃ (b : Nat) (k2 : Nat) (la3 : Nat → Int32) (L3 : Nat → Nat), n_ = 20 - b ∧ b ≤ n ∧ (k2 = 0 ∨ k2 = 1) ∧ (k2 = 0 → ∀ x, x < n → L3 x = L x) ∧ (∀ r, r < n → la3 r = nI (L3 r)) ∧ okL n lb L3 ∧ (∀ r, r < n → L r = lb r → L3 r = lb r) ∧ (∀ w, w < a → ∀ v, v < n → L v = lb v → al t u S w v = true → L3 w = lb w) ∧ (∀ v, v < b → L v = lb v → al t u S a v = true → L3 a = lb a) ∧ zH D A s.heap (mw h cI cZ (iN, la3, nI n, nI t, nI u)) H locs ∧ lv_has ls 4 [(0, .ref (h 0)), (1, .int (nI k2)), (2, .int (nI a)), (3, .int (nI b))]) ?_ _ _ _ _ ⟨0, k, la2, L2, rfl, Nat.zero_le _, g2, g3, g4, g5, g6, g7, fun v hv => by omega, hH, lv_sub hl [1, 2, 3, 0] rfl⟩
      rintro _ H locs ls ⟨b, k2, la3, L3, rfl, m1, m2, m3, m4, m5, m6, m7, m8, hH, hl⟩ ih1
      refine lv_iload_n hx hb d_M_lower_20 rfl (lv_at hl 3 rfl) ?_
      refine lv_aload_n hx hb d_M_lower_21 rfl (lv_at hl 0 rfl) ?_
      refine mg_cn Z hH d_M_lower_22 ?_
      refine zn_icmp_ge (tgt := 78) hx hb d_M_lower_25 (by decide) (by omega) (by omega) (fun c3 => ?_) (fun c3 => ?_)
      · refine lv_iinc (v := nI (a + 1)) (lv' := [(2, .int (nI (a + 1))), (0, .ref (h 0)), (1, .int (nI k2)), (3, .int (nI b))]) hx hb d_M_lower_78 hl (k := 2) rfl (nI_1 _) (by decide) rfl (fun ls hl => ?_)
        refine lv_goto (tgt := 4) hx hb d_M_lower_81 (by decide) ?_
        refine ih0 _ _ _ _ (by omega) ⟨a + 1, k2, la3, L3, rfl, by omega, m2, m3, m4, m5, m6, fun w hw v hv e1 e2 => ?_, hH, lv_sub hl [1, 2, 0] rfl⟩
        by_cases q : w = a
        · subst q; exact m8 v (by omega) e1 e2
        · exact m7 w (by omega) v hv e1 e2
      · refine lv_iload_n hx hb d_M_lower_28 rfl (lv_at hl 3 rfl) ?_
        refine lv_bipush (v := nI 20) hx hb d_M_lower_29 (by decide) ?_
        refine zn_icmp_ge (tgt := 78) hx hb d_M_lower_31 (by decide) (by omega) (by omega) (fun c4 => ?_) (fun c4 => ?_)
        · omega
        · have hla := (m5 a c1).1
          have hlb2 := (m5 b c3).1
          have hga := okL_ge hlb m5 c1
          have hgb := okL_ge hlb m5 c3
          refine lv_aload_n hx hb d_M_lower_34 rfl (lv_at hl 0 rfl) ?_
          refine mg_la Z hH d_M_lower_35 ?_
          refine lv_iload_n hx hb d_M_lower_38 rfl (lv_at hl 3 rfl) ?_
          refine ma_la Z hH d_M_lower_39 (by omega) ?_
          refine zt (nI (L3 b)) (m4 b c3) ?_
          refine lv_aload_n hx hb d_M_lower_40 rfl (lv_at hl 0 rfl) ?_
          refine mg_la Z hH d_M_lower_41 ?_
          refine lv_iload_n hx hb d_M_lower_44 rfl (lv_at hl 2 rfl) ?_
          refine ma_la Z hH d_M_lower_45 (by omega) ?_
          refine zt (nI (L3 a)) (m4 a c1) ?_
          refine zn_icmp_ge (tgt := 72) hx hb d_M_lower_46 (by decide) (by omega) (by omega) (fun c5 => ?_) (fun c5 => ?_)
          · refine lv_iinc (v := nI (b + 1)) (lv' := [(3, .int (nI (b + 1))), (0, .ref (h 0)), (1, .int (nI k2)), (2, .int (nI a))]) hx hb d_M_lower_72 hl (k := 3) rfl (nI_1 _) (by decide) rfl (fun ls hl => ?_)
            refine lv_goto (tgt := 20) hx hb d_M_lower_75 (by decide) ?_
            refine ih1 _ _ _ _ (by omega) ⟨b + 1, k2, la3, L3, rfl, by omega, m2, m3, m4, m5, m6, m7, fun v hv e1 e2 => ?_, hH, lv_sub hl [1, 2, 3, 0] rfl⟩
            by_cases q : v = b
            · subst q
              have h1 := m6 v c3 e1
              have h2 := hlb.1 a v c1 c3 e2
              omega
            · exact m8 v (by omega) e1 e2
          · refine lv_aload_n hx hb d_M_lower_49 rfl (lv_at hl 0 rfl) ?_
            refine lv_iload_n hx hb d_M_lower_50 rfl (lv_at hl 2 rfl) ?_
            refine lv_iload_n hx hb d_M_lower_51 rfl (lv_at hl 3 rfl) ?_
            refine mc_i (As := [.int (nI a), .int (nI b)]) (rest := []) Z hA hH d_M_lower_52 ok_M_alike rfl (c_M_alike (a := a) (b := b) hth (by omega) (by omega) (mIn_ln hin (Or.inl c1)) (mIn_ln hin (Or.inl c3))) ⟨rfl, rfl, Nat.le_of_ble_eq_true rfl, Nat.le_of_ble_eq_true rfl⟩ hl.1 (Nat.le_of_ble_eq_true rfl) rfl (fun r σ' H locs hp hH => ?_)
            obtain ⟨rfl, rfl⟩ := hp
            have hb0 := tn_le (alT t u (S a) (S b))
            refine zn_if_eq (tgt := 72) hx hb d_M_lower_55 (by decide) (by omega) (fun c6 => ?_) (fun c6 => ?_)
            · refine lv_iinc (v := nI (b + 1)) (lv' := [(3, .int (nI (b + 1))), (0, .ref (h 0)), (1, .int (nI k2)), (2, .int (nI a))]) hx hb d_M_lower_72 hl (k := 3) rfl (nI_1 _) (by decide) rfl (fun ls hl => ?_)
              refine lv_goto (tgt := 20) hx hb d_M_lower_75 (by decide) ?_
              refine ih1 _ _ _ _ (by omega) ⟨b + 1, k2, la3, L3, rfl, by omega, m2, m3, m4, m5, m6, m7, fun v hv e1 e2 => ?_, hH, lv_sub hl [1, 2, 3, 0] rfl⟩
              by_cases q : v = b
              · subst q
                exact absurd e2 (by rw [show al t u S a v = false from tn_0.mp c6]; decide)
              · exact m8 v (by omega) e1 e2
            · have hq : al t u S a b = true := tn_n0.mp c6
              have hab := hlb.1 a b c1 c3 hq
              refine lv_aload_n hx hb d_M_lower_58 rfl (lv_at hl 0 rfl) ?_
              refine mg_la Z hH d_M_lower_59 ?_
              refine lv_iload_n hx hb d_M_lower_62 rfl (lv_at hl 2 rfl) ?_
              refine lv_aload_n hx hb d_M_lower_63 rfl (lv_at hl 0 rfl) ?_
              refine mg_la Z hH d_M_lower_64 ?_
              refine lv_iload_n hx hb d_M_lower_67 rfl (lv_at hl 3 rfl) ?_
              refine ma_la Z hH d_M_lower_68 (by omega) ?_
              refine zt (nI (L3 b)) (m4 b c3) ?_
              refine ms_la Z hH d_M_lower_69 (by omega) (fun H locs hH => ?_)
              refine lv_iconst (v := nI 1) hx hb d_M_lower_70 (by decide) ?_
              refine lv_istore_n (lv' := [(1, .int (nI 1)), (0, .ref (h 0)), (2, .int (nI a)), (3, .int (nI b))]) hx hb d_M_lower_71 rfl hl (by decide) rfl (fun ls hl => ?_)
              refine lv_iinc (v := nI (b + 1)) (lv' := [(3, .int (nI (b + 1))), (1, .int (nI 1)), (0, .ref (h 0)), (2, .int (nI a))]) hx hb d_M_lower_72 hl (k := 3) rfl (nI_1 _) (by decide) rfl (fun ls hl => ?_)
              refine lv_goto (tgt := 20) hx hb d_M_lower_75 (by decide) ?_
              refine ih1 _ _ _ _ (by omega) ⟨b + 1, 1, (upd la3 a (nI (L3 b))), nup L3 a (L3 b), rfl, by omega, Or.inr rfl, fun z => by omega, nup_upd m4, okL_put m5 (by omega) (by rw [(m5 b c3).2, hab]), fun r hr e1 => ?_, fun w hw v hv e1 e2 => by rw [nup_n (by omega)]; exact m7 w hw v hv e1 e2, fun v hv e1 e2 => ?_, hH, lv_sub hl [2, 1, 3, 0] rfl⟩
              · by_cases q : r = a
                · subst q
                  have := m6 r hr e1
                  omega
                · rw [nup_n q]; exact m6 r hr e1
              · rw [nup_s]
                by_cases q : v = b
                · subst q
                  rw [m6 v c3 e1, hab]
                · have := m8 v (by omega) e1 e2
                  omega
set_option maxHeartbeats 4000000 in
set_option maxRecDepth 100000 in
/-- join(): the labels of the groups -/
theorem c_M_join {l : Launch} {D : va_G} {cI cZ : ClassId} {h : Nat → Nat} {iN la : Nat → Int32} {n t u : Nat} {S : SS} {lb : Nat → Nat} (hI : mInv n t u S (iN, la, nI n, nI t, nI u)) (hlb : isLab n (al t u S) lb) : zMv l y_M_join b_M_join 3 none { frames := 3, cells := 0, slots := 0, locals := 71 } D cI cZ (mw h cI cZ) [.ref (h 0)] (iN, la, nI n, nI t, nI u) (fun σ' => ∃ la' : Nat → Int32, σ' = (iN, la', nI n, nI t, nI u) ∧ ∀ r, r < n → la' r = nI (lb r)) := by
  refine zMv.of R_M rfl (by decide) (Nat.le_of_ble_eq_true rfl) ?_
  intro p e s m args below meth c A ls Z hr hlk hA hH hl
  obtain ⟨hx, hb, hml, hown, hts, hK⟩ := id Z
  have hl : lv_has ls 3 [(0, .ref (h 0))] := hl
  obtain ⟨hn, hth, hin, -, -, -⟩ := id hI
  refine lv_iconst (v := nI 0) hx hb d_M_join_0 (by decide) ?_
  refine lv_istore_n (lv' := [(1, .int (nI 0)), (0, .ref (h 0))]) hx hb d_M_join_1 rfl hl (by decide) rfl (fun ls hl => ?_)
  refine w_loop (pc := 2) (fun n_ H locs ls => ∃ (i : Nat) (la2 : Nat → Int32), n_ = 20 - i ∧ i ≤ 20 ∧ (∀ r, r < i → la2 r = nI r) ∧ zH D A s.heap (mw h cI cZ (iN, la2, nI n, nI t, nI u)) H locs ∧ lv_has ls 3 [(0, .ref (h 0)), (1, .int (nI i))]) ?_ _ _ _ _ ⟨0, la, rfl, by omega, fun r hr => by omega, hH, lv_sub hl [1, 0] rfl⟩
  rintro _ H locs ls ⟨i, la2, rfl, g1, g2, hH, hl⟩ ih0
  refine lv_iload_n hx hb d_M_join_2 rfl (lv_at hl 1 rfl) ?_
  refine lv_bipush (v := nI 20) hx hb d_M_join_3 (by decide) ?_
  refine zn_icmp_ge (tgt := 21) hx hb d_M_join_5 (by decide) (by omega) (by omega) (fun c => ?_) (fun c => ?_)
  · refine lv_iconst (v := nI 1) hx hb d_M_join_21 (by decide) ?_
    refine lv_istore_n (lv' := [(1, .int (nI 1)), (0, .ref (h 0))]) hx hb d_M_join_22 rfl hl (by decide) rfl (fun ls hl => ?_)
    refine lv_iconst (v := nI 0) hx hb d_M_join_23 (by decide) ?_
    refine lv_istore_n (lv' := [(2, .int (nI 0)), (1, .int (nI 1)), (0, .ref (h 0))]) hx hb d_M_join_24 rfl hl (by decide) rfl (fun ls hl => ?_)
    refine w_loop (pc := 25) (fun n_ H locs ls => ∃ (k : Nat) (m_ : Nat) (la3 : Nat → Int32) (L : Nat → Nat), n_ = 20 - k ∧ k ≤ 20 ∧ m_ ≤ 1 ∧ (∀ r, r < n → la3 r = nI (L r)) ∧ okL n lb L ∧ (allS n lb L ∨ k ≤ cnt (stl lb L) n) ∧ (m_ = 0 → allS n lb L) ∧ zH D A s.heap (mw h cI cZ (iN, la3, nI n, nI t, nI u)) H locs ∧ lv_has ls 3 [(0, .ref (h 0)), (1, .int (nI m_)), (2, .int (nI k))]) ?_ _ _ _ _ ⟨0, 1, la2, (fun r => r), rfl, by omega, by omega, fun r hr => g2 r (by omega), okL_id, Or.inr (Nat.zero_le _), fun z => by omega, hH, lv_sub hl [2, 1, 0] rfl⟩
    rintro _ H locs ls ⟨k, m_, la3, L, rfl, m1, m2, m3, m4, m5, m6, hH, hl⟩ ih1
    refine lv_iload_n hx hb d_M_join_25 rfl (lv_at hl 2 rfl) ?_
    refine lv_bipush (v := nI 20) hx hb d_M_join_26 (by decide) ?_
    refine zn_icmp_ge (tgt := 46) hx hb d_M_join_28 (by decide) (by omega) (by omega) (fun c2 => ?_) (fun c2 => ?_)
    · refine zret_v Z hr hlk (iN, la3, nI n, nI t, nI u) hH d_M_join_46 ?_
      have hall : allS n lb L := by rcases m5 with q | q; (· exact q); (· exact cnt_allS (by omega))
      exact ⟨_, rfl, fun r hr => by rw [m3 r hr, hall r hr]⟩
    · refine lv_iload_n hx hb d_M_join_31 rfl (lv_at hl 1 rfl) ?_
      refine zn_if_eq (tgt := 46) hx hb d_M_join_32 (by decide) (by omega) (fun c3 => ?_) (fun c3 => ?_)
      · refine zret_v Z hr hlk (iN, la3, nI n, nI t, nI u) hH d_M_join_46 ?_
        have hall : allS n lb L := m6 c3
        exact ⟨_, rfl, fun r hr => by rw [m3 r hr, hall r hr]⟩
      · refine lv_aload_n hx hb d_M_join_35 rfl (lv_at hl 0 rfl) ?_
        refine mc_i (As := []) (rest := []) Z hA hH d_M_join_36 ok_M_lower rfl (c_M_lower (L := L) (⟨hn, hth, hin, rfl, rfl, rfl⟩ : mInv n t u S (iN, la3, nI n, nI t, nI u)) hlb m3 m4) ⟨rfl, rfl, Nat.le_of_ble_eq_true rfl, Nat.le_of_ble_eq_true rfl⟩ hl.1 (Nat.le_of_ble_eq_true rfl) rfl (fun r σ' H locs hp hH => ?_)
        obtain ⟨la4, L4, rfl, q1, q2, q3, q4, q5⟩ := hp
        have q6 : allS n lb L4 ∨ k + 1 ≤ cnt (stl lb L4) n := by
          rcases q5 with q5 | q5
          · exact Or.inl q5
          · rcases m5 with m5 | m5
            · have := allS_cnt m5; have := cnt_le (stl lb L4) n; omega
            · exact Or.inr (by omega)
        have q7 : r = nI 0 → allS n lb L4 := by
          intro z
          rcases q5 with q5 | q5
          · exact q5
          · have e1 : cnt (stl lb L4) n = cnt (stl lb L) n := cnt_congr (fun x hx => by unfold stl; rw [q4 z x hx])
            omega
        rcases q3 with rfl | rfl
        · refine lv_istore_n (lv' := [(1, .int (nI 0)), (0, .ref (h 0)), (2, .int (nI k))]) hx hb d_M_join_39 rfl hl (by decide) rfl (fun ls hl => ?_)
          refine lv_iinc (v := nI (k + 1)) (lv' := [(2, .int (nI (k + 1))), (1, .int (nI 0)), (0, .ref (h 0))]) hx hb d_M_join_40 hl (k := 2) rfl (nI_1 _) (by decide) rfl (fun ls hl => ?_)
          refine lv_goto (tgt := 25) hx hb d_M_join_43 (by decide) ?_
          exact ih1 _ _ _ _ (by omega) ⟨k + 1, 0, la4, L4, rfl, by omega, by omega, q1, q2, q6, fun _ => q7 rfl, hH, lv_sub hl [2, 1, 0] rfl⟩
        · refine lv_istore_n (lv' := [(1, .int (nI 1)), (0, .ref (h 0)), (2, .int (nI k))]) hx hb d_M_join_39 rfl hl (by decide) rfl (fun ls hl => ?_)
          refine lv_iinc (v := nI (k + 1)) (lv' := [(2, .int (nI (k + 1))), (1, .int (nI 1)), (0, .ref (h 0))]) hx hb d_M_join_40 hl (k := 2) rfl (nI_1 _) (by decide) rfl (fun ls hl => ?_)
          refine lv_goto (tgt := 25) hx hb d_M_join_43 (by decide) ?_
          exact ih1 _ _ _ _ (by omega) ⟨k + 1, 1, la4, L4, rfl, by omega, by omega, q1, q2, q6, fun z => by omega, hH, lv_sub hl [2, 1, 0] rfl⟩
  · refine lv_aload_n hx hb d_M_join_8 rfl (lv_at hl 0 rfl) ?_
    refine mg_la Z hH d_M_join_9 ?_
    refine lv_iload_n hx hb d_M_join_12 rfl (lv_at hl 1 rfl) ?_
    refine lv_iload_n hx hb d_M_join_13 rfl (lv_at hl 1 rfl) ?_
    refine ms_la Z hH d_M_join_14 (by omega) (fun H locs hH => ?_)
    refine lv_iinc (v := nI (i + 1)) (lv' := [(1, .int (nI (i + 1))), (0, .ref (h 0))]) hx hb d_M_join_15 hl (k := 1) rfl (nI_1 _) (by decide) rfl (fun ls hl => ?_)
    refine lv_goto (tgt := 2) hx hb d_M_join_18 (by decide) ?_
    refine ih0 _ _ _ _ (by omega) ⟨i + 1, (upd la2 i (nI i)), rfl, by omega, fun r hr => ?_, hH, lv_sub hl [1, 0] rfl⟩
    by_cases q : r = i
    · subst q; rw [pk_us]
    · rw [pk_un q]; exact g2 r (by omega)
set_option maxHeartbeats 4000000 in
set_option maxRecDepth 100000 in
/-- groups() -/
theorem c_M_groups {l : Launch} {D : va_G} {cI cZ : ClassId} {h : Nat → Nat} {iN la : Nat → Int32} {n t u : Nat} {S : SS} {lb : Nat → Nat}  (hI : mInv n t u S (iN, la, nI n, nI t, nI u)) (hlb : isLab n (al t u S) lb) : zMi l y_M_groups b_M_groups 3 (some .int) { frames := 4, cells := 0, slots := 0, locals := 93 } D cI cZ (mw h cI cZ) [.ref (h 0)] (iN, la, nI n, nI t, nI u) (fun r σ' => r = nI (vGrp n lb) ∧ mInv n t u S σ') := by
  refine zMi.of R_M rfl (by decide) (Nat.le_of_ble_eq_true rfl) ?_
  intro p e s m args below meth c A ls Z hr hlk hA hH hl
  obtain ⟨hx, hb, hml, hown, hts, hK⟩ := id Z
  have hl : lv_has ls 3 [(0, .ref (h 0))] := hl
  obtain ⟨hn, hth, hin, -, -, -⟩ := id hI
  refine lv_aload_n hx hb d_M_groups_0 rfl (lv_at hl 0 rfl) ?_
  refine mc_v (As := []) (rest := []) Z hA hH d_M_groups_1 ok_M_join rfl (c_M_join hI hlb) ⟨rfl, rfl, Nat.le_of_ble_eq_true rfl, Nat.le_of_ble_eq_true rfl⟩ hl.1 (Nat.le_of_ble_eq_true rfl) rfl (fun σ' H locs hp hH => ?_)
  obtain ⟨la1, rfl, hla⟩ := hp
  have hI : mInv n t u S (iN, la1, nI n, nI t, nI u) := ⟨hn, hth, hin, rfl, rfl, rfl⟩
  refine lv_iconst (v := nI 0) hx hb d_M_groups_4 (by decide) ?_
  refine lv_istore_n (lv' := [(1, .int (nI 0)), (0, .ref (h 0))]) hx hb d_M_groups_5 rfl hl (by decide) rfl (fun ls hl => ?_)
  refine lv_iconst (v := nI 0) hx hb d_M_groups_6 (by decide) ?_
  refine lv_istore_n (lv' := [(2, .int (nI 0)), (1, .int (nI 0)), (0, .ref (h 0))]) hx hb d_M_groups_7 rfl hl (by decide) rfl (fun ls hl => ?_)
  refine w_loop (pc := 8) (fun n_ H locs ls => ∃ (i : Nat) (k : Nat), n_ = 20 - i ∧ i ≤ n ∧ k = cnt (fun r => decide (lb r = r)) i ∧ zH D A s.heap (mw h cI cZ (iN, la1, nI n, nI t, nI u)) H locs ∧ lv_has ls 3 [(0, .ref (h 0)), (1, .int (nI k)), (2, .int (nI i))]) ?_ _ _ _ _ ⟨0, 0, rfl, Nat.zero_le _, rfl, hH, lv_sub hl [2, 1, 0] rfl⟩
  rintro _ H locs ls ⟨i, k, rfl, g1, g2, hH, hl⟩ ih0
  refine lv_iload_n hx hb d_M_groups_8 rfl (lv_at hl 2 rfl) ?_
  refine lv_aload_n hx hb d_M_groups_9 rfl (lv_at hl 0 rfl) ?_
  refine mg_cn Z hH d_M_groups_10 ?_
  refine zn_icmp_ge (tgt := 41) hx hb d_M_groups_13 (by decide) (by omega) (by omega) (fun c1 => ?_) (fun c1 => ?_)
  · refine lv_iload_n hx hb d_M_groups_41 rfl (lv_at hl 1 rfl) ?_
    refine zret_i Z hr hlk (iN, la1, nI n, nI t, nI u) hH d_M_groups_42 ?_
    exact ⟨by rw [g2, show i = n by omega]; rfl, hI⟩
  · refine lv_iload_n hx hb d_M_groups_16 rfl (lv_at hl 2 rfl) ?_
    refine lv_bipush (v := nI 20) hx hb d_M_groups_17 (by decide) ?_
    refine zn_icmp_ge (tgt := 41) hx hb d_M_groups_19 (by decide) (by omega) (by omega) (fun c2 => ?_) (fun c2 => ?_)
    · omega
    · have hp1 := hlb.2.2 i c1
      refine lv_aload_n hx hb d_M_groups_22 rfl (lv_at hl 0 rfl) ?_
      refine mg_la Z hH d_M_groups_23 ?_
      refine lv_iload_n hx hb d_M_groups_26 rfl (lv_at hl 2 rfl) ?_
      refine ma_la Z hH d_M_groups_27 (by omega) ?_
      refine zt (nI (lb i)) (hla i c1) ?_
      refine lv_iload_n hx hb d_M_groups_28 rfl (lv_at hl 2 rfl) ?_
      refine zn_icmp_ne (tgt := 35) hx hb d_M_groups_29 (by decide) (by omega) (by omega) (fun c3 => ?_) (fun c3 => ?_)
      · refine lv_iinc (v := nI (i + 1)) (lv' := [(2, .int (nI (i + 1))), (0, .ref (h 0)), (1, .int (nI k))]) hx hb d_M_groups_35 hl (k := 2) rfl (nI_1 _) (by decide) rfl (fun ls hl => ?_)
        refine lv_goto (tgt := 8) hx hb d_M_groups_38 (by decide) ?_
        exact ih0 _ _ _ _ (by omega) ⟨i + 1, k, rfl, by omega, by rw [cnt_f (decide_eq_false c3), g2], hH, lv_sub hl [1, 2, 0] rfl⟩
      · refine lv_iinc (v := nI (k + 1)) (lv' := [(1, .int (nI (k + 1))), (0, .ref (h 0)), (2, .int (nI i))]) hx hb d_M_groups_32 hl (k := 1) rfl (nI_1 _) (by decide) rfl (fun ls hl => ?_)
        refine lv_iinc (v := nI (i + 1)) (lv' := [(2, .int (nI (i + 1))), (1, .int (nI (k + 1))), (0, .ref (h 0))]) hx hb d_M_groups_35 hl (k := 2) rfl (nI_1 _) (by decide) rfl (fun ls hl => ?_)
        refine lv_goto (tgt := 8) hx hb d_M_groups_38 (by decide) ?_
        exact ih0 _ _ _ _ (by omega) ⟨i + 1, k + 1, rfl, by omega, by rw [cnt_t (decide_eq_true c3), g2], hH, lv_sub hl [2, 1, 0] rfl⟩
set_option maxHeartbeats 4000000 in
set_option maxRecDepth 100000 in
/-- groupOf(x) -/
theorem c_M_groupOf {l : Launch} {D : va_G} {cI cZ : ClassId} {h : Nat → Nat} {iN la : Nat → Int32} {n t u : Nat} {S : SS} {lb : Nat → Nat} (x : Int32) (hI : mInv n t u S (iN, la, nI n, nI t, nI u)) (hlb : isLab n (al t u S) lb) : zMi l y_M_groupOf b_M_groupOf 2 (some .int) { frames := 4, cells := 0, slots := 0, locals := 93 } D cI cZ (mw h cI cZ) [.ref (h 0), .int x] (iN, la, nI n, nI t, nI u) (fun r σ' => r = a1 n (fun w => nI (lb w)) x ∧ mInv n t u S σ') := by
  refine zMi.of R_M rfl (by decide) (Nat.le_of_ble_eq_true rfl) ?_
  intro p e s m args below meth c A ls Z hr hlk hA hH hl
  obtain ⟨hx, hb, hml, hown, hts, hK⟩ := id Z
  have hl : lv_has ls 2 [(0, .ref (h 0)), (1, .int x)] := hl
  obtain ⟨hn, hth, hin, -, -, -⟩ := id hI
  refine lv_aload_n hx hb d_M_groupOf_0 rfl (lv_at hl 0 rfl) ?_
  refine lv_iload_n hx hb d_M_groupOf_1 rfl (lv_at hl 1 rfl) ?_
  refine mc_i (As := [.int x]) (rest := []) Z hA hH d_M_groupOf_2 ok_M_bad rfl (c_M_bad x hn) ⟨rfl, rfl, Nat.le_of_ble_eq_true rfl, Nat.le_of_ble_eq_true rfl⟩ hl.1 (Nat.le_of_ble_eq_true rfl) rfl (fun r σ' H locs hp hH => ?_)
  obtain ⟨rfl, hp⟩ := hp
  rcases hp with ⟨rfl, j, hj, rfl⟩ | ⟨rfl, hq⟩
  · refine zn_if_eq (tgt := 10) hx hb d_M_groupOf_5 (by decide) (by omega) (fun c0 => ?_) (fun c0 => ?_)
    · refine lv_aload_n hx hb d_M_groupOf_10 rfl (lv_at hl 0 rfl) ?_
      refine mc_v (As := []) (rest := []) Z hA hH d_M_groupOf_11 ok_M_join rfl (c_M_join hI hlb) ⟨rfl, rfl, Nat.le_of_ble_eq_true rfl, Nat.le_of_ble_eq_true rfl⟩ hl.1 (Nat.le_of_ble_eq_true rfl) rfl (fun σ' H locs hp hH => ?_)
      obtain ⟨la1, rfl, hla⟩ := hp
      have hI : mInv n t u S (iN, la1, nI n, nI t, nI u) := ⟨hn, hth, hin, rfl, rfl, rfl⟩
      refine lv_aload_n hx hb d_M_groupOf_14 rfl (lv_at hl 0 rfl) ?_
      refine mg_la Z hH d_M_groupOf_15 ?_
      refine lv_iload_n hx hb d_M_groupOf_18 rfl (lv_at hl 1 rfl) ?_
      refine ma_la Z hH d_M_groupOf_19 (by omega) ?_
      refine zret_i Z hr hlk (iN, la1, nI n, nI t, nI u) hH d_M_groupOf_20 ?_
      rw [a1_s hn hj]
      exact ⟨hla j hj, hI⟩
    · omega
  · refine zn_if_eq (tgt := 10) hx hb d_M_groupOf_5 (by decide) (by omega) (fun c0 => ?_) (fun c0 => ?_)
    · omega
    · refine lv_iconst (v := (-1)) hx hb d_M_groupOf_8 (by decide) ?_
      refine zret_i Z hr hlk (iN, la, nI n, nI t, nI u) hH d_M_groupOf_9 ?_
      rw [a1_n hq]
      exact ⟨rfl, hI⟩
set_option maxHeartbeats 4000000 in
set_option maxRecDepth 100000 in
/-- groupSize(x) -/
theorem c_M_groupSize {l : Launch} {D : va_G} {cI cZ : ClassId} {h : Nat → Nat} {iN la : Nat → Int32} {n t u : Nat} {S : SS} {lb : Nat → Nat} (x : Int32) (hI : mInv n t u S (iN, la, nI n, nI t, nI u)) (hlb : isLab n (al t u S) lb) : zMi l y_M_groupSize b_M_groupSize 4 (some .int) { frames := 4, cells := 0, slots := 0, locals := 93 } D cI cZ (mw h cI cZ) [.ref (h 0), .int x] (iN, la, nI n, nI t, nI u) (fun r σ' => r = a1 n (fun w => vGsz n lb w) x ∧ mInv n t u S σ') := by
  refine zMi.of R_M rfl (by decide) (Nat.le_of_ble_eq_true rfl) ?_
  intro p e s m args below meth c A ls Z hr hlk hA hH hl
  obtain ⟨hx, hb, hml, hown, hts, hK⟩ := id Z
  have hl : lv_has ls 4 [(0, .ref (h 0)), (1, .int x)] := hl
  obtain ⟨hn, hth, hin, -, -, -⟩ := id hI
  refine lv_aload_n hx hb d_M_groupSize_0 rfl (lv_at hl 0 rfl) ?_
  refine lv_iload_n hx hb d_M_groupSize_1 rfl (lv_at hl 1 rfl) ?_
  refine mc_i (As := [.int x]) (rest := []) Z hA hH d_M_groupSize_2 ok_M_bad rfl (c_M_bad x hn) ⟨rfl, rfl, Nat.le_of_ble_eq_true rfl, Nat.le_of_ble_eq_true rfl⟩ hl.1 (Nat.le_of_ble_eq_true rfl) rfl (fun r σ' H locs hp hH => ?_)
  obtain ⟨rfl, hp⟩ := hp
  rcases hp with ⟨rfl, j, hj, rfl⟩ | ⟨rfl, hq⟩
  · refine zn_if_eq (tgt := 10) hx hb d_M_groupSize_5 (by decide) (by omega) (fun c0 => ?_) (fun c0 => ?_)
    · refine lv_aload_n hx hb d_M_groupSize_10 rfl (lv_at hl 0 rfl) ?_
      refine mc_v (As := []) (rest := []) Z hA hH d_M_groupSize_11 ok_M_join rfl (c_M_join hI hlb) ⟨rfl, rfl, Nat.le_of_ble_eq_true rfl, Nat.le_of_ble_eq_true rfl⟩ hl.1 (Nat.le_of_ble_eq_true rfl) rfl (fun σ' H locs hp hH => ?_)
      obtain ⟨la1, rfl, hla⟩ := hp
      have hI : mInv n t u S (iN, la1, nI n, nI t, nI u) := ⟨hn, hth, hin, rfl, rfl, rfl⟩
      refine lv_iconst (v := nI 0) hx hb d_M_groupSize_14 (by decide) ?_
      refine lv_istore_n (lv' := [(2, .int (nI 0)), (0, .ref (h 0)), (1, .int (nI j))]) hx hb d_M_groupSize_15 rfl hl (by decide) rfl (fun ls hl => ?_)
      refine lv_iconst (v := nI 0) hx hb d_M_groupSize_16 (by decide) ?_
      refine lv_istore_n (lv' := [(3, .int (nI 0)), (2, .int (nI 0)), (0, .ref (h 0)), (1, .int (nI j))]) hx hb d_M_groupSize_17 rfl hl (by decide) rfl (fun ls hl => ?_)
      refine w_loop (pc := 18) (fun n_ H locs ls => ∃ (i : Nat) (k : Nat), n_ = 20 - i ∧ i ≤ n ∧ k = cnt (fun r => decide (lb r = lb j)) i ∧ zH D A s.heap (mw h cI cZ (iN, la1, nI n, nI t, nI u)) H locs ∧ lv_has ls 4 [(0, .ref (h 0)), (1, .int (nI j)), (2, .int (nI k)), (3, .int (nI i))]) ?_ _ _ _ _ ⟨0, 0, rfl, Nat.zero_le _, rfl, hH, lv_sub hl [2, 3, 1, 0] rfl⟩
      rintro _ H locs ls ⟨i, k, rfl, g1, g2, hH, hl⟩ ih0
      refine lv_iload_n hx hb d_M_groupSize_18 rfl (lv_at hl 3 rfl) ?_
      refine lv_aload_n hx hb d_M_groupSize_19 rfl (lv_at hl 0 rfl) ?_
      refine mg_cn Z hH d_M_groupSize_20 ?_
      refine zn_icmp_ge (tgt := 56) hx hb d_M_groupSize_23 (by decide) (by omega) (by omega) (fun c1 => ?_) (fun c1 => ?_)
      · refine lv_iload_n hx hb d_M_groupSize_56 rfl (lv_at hl 2 rfl) ?_
        refine zret_i Z hr hlk (iN, la1, nI n, nI t, nI u) hH d_M_groupSize_57 ?_
        rw [a1_s hn hj]
        exact ⟨by rw [g2, show i = n by omega]; rfl, hI⟩
      · refine lv_iload_n hx hb d_M_groupSize_26 rfl (lv_at hl 3 rfl) ?_
        refine lv_bipush (v := nI 20) hx hb d_M_groupSize_27 (by decide) ?_
        refine zn_icmp_ge (tgt := 56) hx hb d_M_groupSize_29 (by decide) (by omega) (by omega) (fun c2 => ?_) (fun c2 => ?_)
        · omega
        · have hp1 := hlb.2.2 i c1
          have hp2 := hlb.2.2 j hj
          refine lv_aload_n hx hb d_M_groupSize_32 rfl (lv_at hl 0 rfl) ?_
          refine mg_la Z hH d_M_groupSize_33 ?_
          refine lv_iload_n hx hb d_M_groupSize_36 rfl (lv_at hl 3 rfl) ?_
          refine ma_la Z hH d_M_groupSize_37 (by omega) ?_
          refine zt (nI (lb i)) (hla i c1) ?_
          refine lv_aload_n hx hb d_M_groupSize_38 rfl (lv_at hl 0 rfl) ?_
          refine mg_la Z hH d_M_groupSize_39 ?_
          refine lv_iload_n hx hb d_M_groupSize_42 rfl (lv_at hl 1 rfl) ?_
          refine ma_la Z hH d_M_groupSize_43 (by omega) ?_
          refine zt (nI (lb j)) (hla j hj) ?_
          refine zn_icmp_ne (tgt := 50) hx hb d_M_groupSize_44 (by decide) (by omega) (by omega) (fun c3 => ?_) (fun c3 => ?_)
          · refine lv_iinc (v := nI (i + 1)) (lv' := [(3, .int (nI (i + 1))), (0, .ref (h 0)), (1, .int (nI j)), (2, .int (nI k))]) hx hb d_M_groupSize_50 hl (k := 3) rfl (nI_1 _) (by decide) rfl (fun ls hl => ?_)
            refine lv_goto (tgt := 18) hx hb d_M_groupSize_53 (by decide) ?_
            exact ih0 _ _ _ _ (by omega) ⟨i + 1, k, rfl, by omega, by rw [cnt_f (decide_eq_false c3), g2], hH, lv_sub hl [1, 2, 3, 0] rfl⟩
          · refine lv_iinc (v := nI (k + 1)) (lv' := [(2, .int (nI (k + 1))), (0, .ref (h 0)), (1, .int (nI j)), (3, .int (nI i))]) hx hb d_M_groupSize_47 hl (k := 2) rfl (nI_1 _) (by decide) rfl (fun ls hl => ?_)
            refine lv_iinc (v := nI (i + 1)) (lv' := [(3, .int (nI (i + 1))), (2, .int (nI (k + 1))), (0, .ref (h 0)), (1, .int (nI j))]) hx hb d_M_groupSize_50 hl (k := 3) rfl (nI_1 _) (by decide) rfl (fun ls hl => ?_)
            refine lv_goto (tgt := 18) hx hb d_M_groupSize_53 (by decide) ?_
            exact ih0 _ _ _ _ (by omega) ⟨i + 1, k + 1, rfl, by omega, by rw [cnt_t (decide_eq_true c3), g2], hH, lv_sub hl [2, 3, 1, 0] rfl⟩
    · omega
  · refine zn_if_eq (tgt := 10) hx hb d_M_groupSize_5 (by decide) (by omega) (fun c0 => ?_) (fun c0 => ?_)
    · omega
    · refine lv_iconst (v := (-1)) hx hb d_M_groupSize_8 (by decide) ?_
      refine zret_i Z hr hlk (iN, la, nI n, nI t, nI u) hH d_M_groupSize_9 ?_
      rw [a1_n hq]
      exact ⟨rfl, hI⟩
end
section
section ZI
variable {p : Program} {l : Launch} {e : Env} {R : Room} {s : State} {m : MethodId} {args : Array Value} {below : List Frame} {meth : Method} {c : Code} {H H0 : Heap} {locs : List Loc} {cells slots : Nat} {Q : State → Prop}
variable {cc : ByteArray} {pc : Nat} {ls : Array Slot} {rest : List Value} {D : va_G} {cI cZ : ClassId} {A : Nat → Prop} {own : String} {nL : Nat} {S : Type} {ws : va_W}
theorem z_newi (Z : zZ own p s m c args cc nL D cI cZ) (hA : ∀ q, H0.size ≤ q → A q) (hH : zH D A H0 ws H locs) {n : Int32} {N : Nat} (hn : ¬ n < 0) (hN : n.toNatClampNeg = N) (hb : N * componentBytes .int ≤ 536870912) (hc : cells + 1 ≤ R.cells) (hs : slots + N ≤ R.slots) (hdg : decode cc pc = .ok (.newarray .int, 2))
    (kk : ∀ (q : Nat) (H : Heap), zH D A H0 (ws ++ [(q, .inl (cI, N, .inl (fun _ => 0)))]) H locs → W p l e R s m args below meth c H locs (cells + 1) (slots + N) Q (F0 m (pc + 2) ls (.ref q :: rest))) : W p l e R s m args below meth c H locs cells slots Q (F0 m pc ls (.int n :: rest)) := by
  refine va_newa (atype := .int) (a0 := (N, .inl (fun _ => 0))) (ty := .int) Z.1 Z.2.1 (Z.2.2.2.2.1 _ ma_int) rfl Z.2.2.2.2.2 hH.1 hH.2.1 hH.2.2 hA (fun cA => rfl) hn hN hb hc hs hdg (fun q cA H1 hK' h1 h2 h3 => ?_)
  have e1 := va_nm_int (hK'.2 2 _ rfl).2
  have e2 := va_nm_int (Z.2.2.2.2.2.2 0 _ rfl).2
  have e3 : cA = cI := Option.some.inj (e1.symm.trans e2)
  subst e3
  exact kk q H1 ⟨h1, h2, h3⟩
theorem z_newz (Z : zZ own p s m c args cc nL D cI cZ) (hA : ∀ q, H0.size ≤ q → A q) (hH : zH D A H0 ws H locs) {n : Int32} {N : Nat} (hn : ¬ n < 0) (hN : n.toNatClampNeg = N) (hb : N * componentBytes .boolean ≤ 536870912) (hc : cells + 1 ≤ R.cells) (hs : slots + N ≤ R.slots) (hdg : decode cc pc = .ok (.newarray .boolean, 2))
    (kk : ∀ (q : Nat) (H : Heap), zH D A H0 (ws ++ [(q, .inl (cZ, N, .inl (fun _ => 0)))]) H locs → W p l e R s m args below meth c H locs (cells + 1) (slots + N) Q (F0 m (pc + 2) ls (.ref q :: rest))) : W p l e R s m args below meth c H locs cells slots Q (F0 m pc ls (.int n :: rest)) := by
  refine va_newa (atype := .boolean) (a0 := (N, .inl (fun _ => 0))) (ty := .boolean) Z.1 Z.2.1 (Z.2.2.2.2.1 _ ma_boolean) rfl Z.2.2.2.2.2 hH.1 hH.2.1 hH.2.2 hA (fun cA => rfl) hn hN hb hc hs hdg (fun q cA H1 hK' h1 h2 h3 => ?_)
  have e1 := va_nm_boolean (hK'.2 2 _ rfl).2
  have e2 := va_nm_boolean (Z.2.2.2.2.2.2 1 _ rfl).2
  have e3 : cA = cZ := Option.some.inj (e1.symm.trans e2)
  subst e3
  exact kk q H1 ⟨h1, h2, h3⟩
/-- a constructor's call -/
theorem zcallI (Z : zZ own p s m c args cc nL D cI cZ) {y : MethodName} {b : ByteArray} {n idx mc ms : Nat} {rm : Room} {wc : va_W} {wf : S → va_W} {a : Nat} {post : S → Prop} (hM : ∀ sz : Nat, Met l y (.code y b n none :: zw_tbl) rm (zPc D cI cZ wc sz [.ref a]) (va_Qv post (zB D cI cZ wf (va_A wc sz)) (va_A wc sz)) mc ms (va_A wc sz))
    (o1 : Cond.methodLink own idx y ∈ zw_tbl) (o2 : Cond.instanceMethod y ∈ zw_tbl) (o4 : Cond.initialized y.cls ∈ zw_tbl) (o5 : Cond.code y b n none ∈ zw_tbl) (o6 : y.cls ≠ "java/lang/invoke/MethodHandle" ∧ y.cls ≠ "java/lang/invoke/VarHandle" ∧ (parseMethodDescriptor y.desc).map (fun d => d.parameters.length) = some 0) (hy1 : y.name = "<init>")
    (hrm : rm.cells = mc ∧ rm.slots = ms ∧ rm.frames + 1 ≤ R.frames ∧ 8 + (n + 11) + rm.locals ≤ R.locals) (hA : ∀ q, s.heap.size ≤ q → A q) {ws wr : va_W} (hH : zH D A s.heap ws H locs) (isC isR : List Nat) (hC : isC.map (fun i => ws[i]?) = wc.map some) (hR : isR.map (fun i => ws[i]?) = wr.map some) (hnC : va_nd isC = true) (hnR : va_nd isR = true) (hdis : ∀ i ∈ isR, i ∉ isC)
    (hl : ls.size = nL) (hrest : (rest.map fun v => v.category).sum ≤ 8) (hcs : cells + mc ≤ R.cells ∧ slots + ms ≤ R.slots) (hdg : decode cc pc = .ok (.invokespecial idx, 3))
    (kk : ∀ (σ' : S) (H' : Heap) (locs' : List Loc), post σ' → zH D A s.heap (wr ++ wf σ') H' locs' → W p l e R s m args below meth c H' locs' (cells + mc) (slots + ms) Q (F0 m (pc + 3) ls rest)) : W p l e R s m args below meth c H locs cells slots Q (F0 m pc ls (.ref a :: rest)) := by
  obtain ⟨hx, hb, hml, hown, hts, hK⟩ := Z
  obtain ⟨r1, r2, r3, r4⟩ := hrm
  obtain ⟨hP, hD, hS⟩ := hH
  have hPc : va_P D zcl wc H := hP.sub isC (z_fm hC)
  have hDc : va_D A wc := hD.sub isC hnC hC
  have hFc := va_free hD hS hA isC hC
  have cb := callB_of (own := own) (index := idx) (R := R) (mc := mc) (ms := ms) 0 hts (zw_goodIn o5) rfl r1 r2 (hts _ o4) (hts _ o1) o6 ⟨r3, r4⟩
  refine va_callv (va_runI (As := []) (rest := rest) ⟨hx, hb, hml, hown, hts⟩ (hM H.size) ⟨cb, hy1, hts _ o2⟩ ⟨fun a U g mk q => by obtain ⟨q0, q1, qP, qK, qD⟩ := q; exact ⟨q0, q1, qP, va_K.moved (u := U) (U := U.calling g mk a) (Vm.Alike.refl U.vm) qK, qD⟩, fun U hU hW => ⟨rfl, by rw [hU], by rw [hU]; exact hPc, va_K.moved hW.alike hK, hDc.weaken (fun _ _ _ _ => trivial)⟩⟩ rfl rfl hl rfl (lv_room hrest) hdg hcs) hS (fun q _ h => hFc q h) hFc (fun u t H1 locs1 ht hvm hw hB hz1 hk1 hS1 => ?_)
  obtain ⟨hP1, hK1, hD1⟩ := hB
  rw [ht] at hP1
  obtain ⟨hP2, hD2⟩ := va_join hP hD isC isR hC hR hnR hdis hk1 hFc hP1 hD1
  exact kk u H1 locs1 hw ⟨hP2, hD2, hS1⟩
end ZI
abbrev bl_J : List Value := [.null, .null, .null, .null, .null, .null, .null, .null, .int 0, .int 0, .int 0, .int 0, .int 0, .int 0]
abbrev bl_M : List Value := [.null, .int 0, .int 0, .int 0, .null]
abbrev s0_J : JS := (fun _ => 0, fun _ => 0, fun _ => 0, fun _ => 0, fun _ => 0, fun _ => 0, fun _ => 0, fun _ => 0, 0, 0, 0, nI 1, nI 2, 0)
abbrev s0_M : MS := (fun _ => 0, fun _ => 0, 0, nI 1, nI 2)
set_option maxHeartbeats 4000000 in
set_option maxRecDepth 100000 in
theorem c_J_init {l : Launch} {D : va_G} {cI cZ : ClassId} (q0 sz : Nat) : Met l y_J_init (.code y_J_init b_J_init 1 none :: zw_tbl) { frames := 1, cells := 8, slots := 422, locals := 12 } (zPc D cI cZ [(q0, .inr (0, bl_J))] sz [.ref q0]) (va_Qv (fun h : Nat → Nat => h 0 = q0) (zB D cI cZ (fun h => jw h cI s0_J) (va_A [(q0, .inr (0, bl_J))] sz)) (va_A [(q0, .inr (0, bl_J))] sz)) 8 422 (va_A [(q0, .inr (0, bl_J))] sz) := by
  refine Met.ofW (cc := b_J_init) (maxL := 1) (ret := none) (by decide) rfl ?_
  intro p e s m args below meth c s₁ B hml hv
  obtain ⟨rfl, hsz, hP, hK, hD0⟩ := hv
  subst hsz
  have hts0 := atoms_spec (ws := .code y_J_init b_J_init 1 none :: zw_tbl) B.pre
  have hts := fun (w : Cond) (hw : w ∈ zw_tbl) => hts0 w (List.mem_cons_of_mem _ hw)
  have hown : s.vm.findClass R_J = some m.cls := findClass_of_methodNamed B.named
  have hin : meth.name = "<init>" := (name_of_methodNamed B.named B.method).1
  have hx := B.exec
  have hb := B.bytes
  have hr := B.returns
  have hlocks := B.notSynchronized
  have Z : zZ R_J p s m c _ b_J_init 1 D cI cZ := ⟨hx, hb, hml, hown, hts, hK⟩
  have hD := hD0.self (sz := s.heap.size)
  generalize hAe : va_A [(q0, .inr (0, bl_J))] s.heap.size = A at hD ⊢
  have hA : ∀ q : Nat, s.heap.size ≤ q → A q := fun q h => by rw [← hAe]; exact Or.inr h
  have hH : zH D A s.heap [(q0, .inr (0, bl_J))] s.heap [] := ⟨hP, hD, va_S.rf⟩
  have hl := lv_entry ([.ref q0]) (n := 1) (Nat.le_of_ble_eq_true rfl)
  rw [lg_entry_eq]
  generalize (lg_sl ([.ref q0]) ++ List.replicate (1 - (lg_sl ([.ref q0])).length) Slot.unset).toArray = ls at hl ⊢
  have hl : lv_has ls 1 [(0, .ref q0)] := hl
  refine lv_aload_n hx hb d_J_init_0 rfl (lv_at hl 0 rfl) ?_
  refine W.objInit hx hb hown (hts _ ml_J_1) (hts _ mn_obj) (hts _ mc_obj) rfl (by rw [hml]; exact hl.1) rfl d_J_init_1 (Nat.le_of_ble_eq_true rfl) (Nat.le_of_ble_eq_true rfl) ?_
  refine W.eq (g2 := F0 m 4 ls []) rfl ?_
  refine lv_aload_n hx hb d_J_init_4 rfl (lv_at hl 0 rfl) ?_
  refine lv_bipush (v := nI 20) hx hb d_J_init_5 (by decide) ?_
  refine z_newi Z hA hH (N := 20) (by decide) (by decide) (by decide) (Nat.le_of_ble_eq_true rfl) (Nat.le_of_ble_eq_true rfl) d_J_init_7 (fun q1 H hH => ?_)
  have hH : zH D A s.heap [(q0, .inr (0, [.null, .null, .null, .null, .null, .null, .null, .null, .int 0, .int 0, .int 0, .int 0, .int 0, .int 0])), (q1, .inl (cI, 20, .inl (fun _ => 0)))] H _ := hH
  refine va_putF (D := D) (ci := 0) (v := .ref q1) (ty := .array .int) (C := R_J) (T := F_J) (N := 14) hx hb hts i_J t_J t_J_ok n_J hown hK hH.1 hH.2.1 hH.2.2 0 rfl rfl 0 (by decide) (hts _ mf_J_masks) (fun _ h9 => h9) rfl hin rfl (by decide +kernel) rfl rfl (Nat.le_of_ble_eq_true rfl) d_J_init_9 (fun H locs h1 h2 h3 => ?_)
  have hH : zH D A s.heap [(q0, .inr (0, [.ref q1, .null, .null, .null, .null, .null, .null, .null, .int 0, .int 0, .int 0, .int 0, .int 0, .int 0])), (q1, .inl (cI, 20, .inl (fun _ => 0)))] H locs := ⟨h1, h2, h3⟩
  refine lv_aload_n hx hb d_J_init_12 rfl (lv_at hl 0 rfl) ?_
  refine lv_bipush (v := nI 20) hx hb d_J_init_13 (by decide) ?_
  refine z_newi Z hA hH (N := 20) (by decide) (by decide) (by decide) (Nat.le_of_ble_eq_true rfl) (Nat.le_of_ble_eq_true rfl) d_J_init_15 (fun q2 H hH => ?_)
  have hH : zH D A s.heap [(q0, .inr (0, [.ref q1, .null, .null, .null, .null, .null, .null, .null, .int 0, .int 0, .int 0, .int 0, .int 0, .int 0])), (q1, .inl (cI, 20, .inl (fun _ => 0))), (q2, .inl (cI, 20, .inl (fun _ => 0)))] H _ := hH
  refine va_putF (D := D) (ci := 0) (v := .ref q2) (ty := .array .int) (C := R_J) (T := F_J) (N := 14) hx hb hts i_J t_J t_J_ok n_J hown hK hH.1 hH.2.1 hH.2.2 0 rfl rfl 1 (by decide) (hts _ mf_J_sizes) (fun _ h9 => h9) rfl hin rfl (by decide +kernel) rfl rfl (Nat.le_of_ble_eq_true rfl) d_J_init_17 (fun H locs h1 h2 h3 => ?_)
  have hH : zH D A s.heap [(q0, .inr (0, [.ref q1, .ref q2, .null, .null, .null, .null, .null, .null, .int 0, .int 0, .int 0, .int 0, .int 0, .int 0])), (q1, .inl (cI, 20, .inl (fun _ => 0))), (q2, .inl (cI, 20, .inl (fun _ => 0)))] H locs := ⟨h1, h2, h3⟩
  refine lv_aload_n hx hb d_J_init_20 rfl (lv_at hl 0 rfl) ?_
  refine lv_sipush (v := nI 252) hx hb d_J_init_21 (by decide) ?_
  refine z_newi Z hA hH (N := 252) (by decide) (by decide) (by decide) (Nat.le_of_ble_eq_true rfl) (Nat.le_of_ble_eq_true rfl) d_J_init_24 (fun q3 H hH => ?_)
  have hH : zH D A s.heap [(q0, .inr (0, [.ref q1, .ref q2, .null, .null, .null, .null, .null, .null, .int 0, .int 0, .int 0, .int 0, .int 0, .int 0])), (q1, .inl (cI, 20, .inl (fun _ => 0))), (q2, .inl (cI, 20, .inl (fun _ => 0))), (q3, .inl (cI, 252, .inl (fun _ => 0)))] H _ := hH
  refine va_putF (D := D) (ci := 0) (v := .ref q3) (ty := .array .int) (C := R_J) (T := F_J) (N := 14) hx hb hts i_J t_J t_J_ok n_J hown hK hH.1 hH.2.1 hH.2.2 0 rfl rfl 2 (by decide) (hts _ mf_J_ranks) (fun _ h9 => h9) rfl hin rfl (by decide +kernel) rfl rfl (Nat.le_of_ble_eq_true rfl) d_J_init_26 (fun H locs h1 h2 h3 => ?_)
  have hH : zH D A s.heap [(q0, .inr (0, [.ref q1, .ref q2, .ref q3, .null, .null, .null, .null, .null, .int 0, .int 0, .int 0, .int 0, .int 0, .int 0])), (q1, .inl (cI, 20, .inl (fun _ => 0))), (q2, .inl (cI, 20, .inl (fun _ => 0))), (q3, .inl (cI, 252, .inl (fun _ => 0)))] H locs := ⟨h1, h2, h3⟩
  refine lv_aload_n hx hb d_J_init_29 rfl (lv_at hl 0 rfl) ?_
  refine lv_bipush (v := nI 30) hx hb d_J_init_30 (by decide) ?_
  refine z_newi Z hA hH (N := 30) (by decide) (by decide) (by decide) (Nat.le_of_ble_eq_true rfl) (Nat.le_of_ble_eq_true rfl) d_J_init_32 (fun q4 H hH => ?_)
  have hH : zH D A s.heap [(q0, .inr (0, [.ref q1, .ref q2, .ref q3, .null, .null, .null, .null, .null, .int 0, .int 0, .int 0, .int 0, .int 0, .int 0])), (q1, .inl (cI, 20, .inl (fun _ => 0))), (q2, .inl (cI, 20, .inl (fun _ => 0))), (q3, .inl (cI, 252, .inl (fun _ => 0))), (q4, .inl (cI, 30, .inl (fun _ => 0)))] H _ := hH
  refine va_putF (D := D) (ci := 0) (v := .ref q4) (ty := .array .int) (C := R_J) (T := F_J) (N := 14) hx hb hts i_J t_J t_J_ok n_J hown hK hH.1 hH.2.1 hH.2.2 0 rfl rfl 3 (by decide) (hts _ mf_J_rankOf) (fun _ h9 => h9) rfl hin rfl (by decide +kernel) rfl rfl (Nat.le_of_ble_eq_true rfl) d_J_init_34 (fun H locs h1 h2 h3 => ?_)
  have hH : zH D A s.heap [(q0, .inr (0, [.ref q1, .ref q2, .ref q3, .ref q4, .null, .null, .null, .null, .int 0, .int 0, .int 0, .int 0, .int 0, .int 0])), (q1, .inl (cI, 20, .inl (fun _ => 0))), (q2, .inl (cI, 20, .inl (fun _ => 0))), (q3, .inl (cI, 252, .inl (fun _ => 0))), (q4, .inl (cI, 30, .inl (fun _ => 0)))] H locs := ⟨h1, h2, h3⟩
  refine lv_aload_n hx hb d_J_init_37 rfl (lv_at hl 0 rfl) ?_
  refine lv_bipush (v := nI 30) hx hb d_J_init_38 (by decide) ?_
  refine z_newi Z hA hH (N := 30) (by decide) (by decide) (by decide) (Nat.le_of_ble_eq_true rfl) (Nat.le_of_ble_eq_true rfl) d_J_init_40 (fun q5 H hH => ?_)
  have hH : zH D A s.heap [(q0, .inr (0, [.ref q1, .ref q2, .ref q3, .ref q4, .null, .null, .null, .null, .int 0, .int 0, .int 0, .int 0, .int 0, .int 0])), (q1, .inl (cI, 20, .inl (fun _ => 0))), (q2, .inl (cI, 20, .inl (fun _ => 0))), (q3, .inl (cI, 252, .inl (fun _ => 0))), (q4, .inl (cI, 30, .inl (fun _ => 0))), (q5, .inl (cI, 30, .inl (fun _ => 0)))] H _ := hH
  refine va_putF (D := D) (ci := 0) (v := .ref q5) (ty := .array .int) (C := R_J) (T := F_J) (N := 14) hx hb hts i_J t_J t_J_ok n_J hown hK hH.1 hH.2.1 hH.2.2 0 rfl rfl 4 (by decide) (hts _ mf_J_counts) (fun _ h9 => h9) rfl hin rfl (by decide +kernel) rfl rfl (Nat.le_of_ble_eq_true rfl) d_J_init_42 (fun H locs h1 h2 h3 => ?_)
  have hH : zH D A s.heap [(q0, .inr (0, [.ref q1, .ref q2, .ref q3, .ref q4, .ref q5, .null, .null, .null, .int 0, .int 0, .int 0, .int 0, .int 0, .int 0])), (q1, .inl (cI, 20, .inl (fun _ => 0))), (q2, .inl (cI, 20, .inl (fun _ => 0))), (q3, .inl (cI, 252, .inl (fun _ => 0))), (q4, .inl (cI, 30, .inl (fun _ => 0))), (q5, .inl (cI, 30, .inl (fun _ => 0)))] H locs := ⟨h1, h2, h3⟩
  refine lv_aload_n hx hb d_J_init_45 rfl (lv_at hl 0 rfl) ?_
  refine lv_bipush (v := nI 30) hx hb d_J_init_46 (by decide) ?_
  refine z_newi Z hA hH (N := 30) (by decide) (by decide) (by decide) (Nat.le_of_ble_eq_true rfl) (Nat.le_of_ble_eq_true rfl) d_J_init_48 (fun q6 H hH => ?_)
  have hH : zH D A s.heap [(q0, .inr (0, [.ref q1, .ref q2, .ref q3, .ref q4, .ref q5, .null, .null, .null, .int 0, .int 0, .int 0, .int 0, .int 0, .int 0])), (q1, .inl (cI, 20, .inl (fun _ => 0))), (q2, .inl (cI, 20, .inl (fun _ => 0))), (q3, .inl (cI, 252, .inl (fun _ => 0))), (q4, .inl (cI, 30, .inl (fun _ => 0))), (q5, .inl (cI, 30, .inl (fun _ => 0))), (q6, .inl (cI, 30, .inl (fun _ => 0)))] H _ := hH
  refine va_putF (D := D) (ci := 0) (v := .ref q6) (ty := .array .int) (C := R_J) (T := F_J) (N := 14) hx hb hts i_J t_J t_J_ok n_J hown hK hH.1 hH.2.1 hH.2.2 0 rfl rfl 5 (by decide) (hts _ mf_J_index) (fun _ h9 => h9) rfl hin rfl (by decide +kernel) rfl rfl (Nat.le_of_ble_eq_true rfl) d_J_init_50 (fun H locs h1 h2 h3 => ?_)
  have hH : zH D A s.heap [(q0, .inr (0, [.ref q1, .ref q2, .ref q3, .ref q4, .ref q5, .ref q6, .null, .null, .int 0, .int 0, .int 0, .int 0, .int 0, .int 0])), (q1, .inl (cI, 20, .inl (fun _ => 0))), (q2, .inl (cI, 20, .inl (fun _ => 0))), (q3, .inl (cI, 252, .inl (fun _ => 0))), (q4, .inl (cI, 30, .inl (fun _ => 0))), (q5, .inl (cI, 30, .inl (fun _ => 0))), (q6, .inl (cI, 30, .inl (fun _ => 0)))] H locs := ⟨h1, h2, h3⟩
  refine lv_aload_n hx hb d_J_init_53 rfl (lv_at hl 0 rfl) ?_
  refine lv_bipush (v := nI 20) hx hb d_J_init_54 (by decide) ?_
  refine z_newi Z hA hH (N := 20) (by decide) (by decide) (by decide) (Nat.le_of_ble_eq_true rfl) (Nat.le_of_ble_eq_true rfl) d_J_init_56 (fun q7 H hH => ?_)
  have hH : zH D A s.heap [(q0, .inr (0, [.ref q1, .ref q2, .ref q3, .ref q4, .ref q5, .ref q6, .null, .null, .int 0, .int 0, .int 0, .int 0, .int 0, .int 0])), (q1, .inl (cI, 20, .inl (fun _ => 0))), (q2, .inl (cI, 20, .inl (fun _ => 0))), (q3, .inl (cI, 252, .inl (fun _ => 0))), (q4, .inl (cI, 30, .inl (fun _ => 0))), (q5, .inl (cI, 30, .inl (fun _ => 0))), (q6, .inl (cI, 30, .inl (fun _ => 0))), (q7, .inl (cI, 20, .inl (fun _ => 0)))] H _ := hH
  refine va_putF (D := D) (ci := 0) (v := .ref q7) (ty := .array .int) (C := R_J) (T := F_J) (N := 14) hx hb hts i_J t_J t_J_ok n_J hown hK hH.1 hH.2.1 hH.2.2 0 rfl rfl 6 (by decide) (hts _ mf_J_rows) (fun _ h9 => h9) rfl hin rfl (by decide +kernel) rfl rfl (Nat.le_of_ble_eq_true rfl) d_J_init_58 (fun H locs h1 h2 h3 => ?_)
  have hH : zH D A s.heap [(q0, .inr (0, [.ref q1, .ref q2, .ref q3, .ref q4, .ref q5, .ref q6, .ref q7, .null, .int 0, .int 0, .int 0, .int 0, .int 0, .int 0])), (q1, .inl (cI, 20, .inl (fun _ => 0))), (q2, .inl (cI, 20, .inl (fun _ => 0))), (q3, .inl (cI, 252, .inl (fun _ => 0))), (q4, .inl (cI, 30, .inl (fun _ => 0))), (q5, .inl (cI, 30, .inl (fun _ => 0))), (q6, .inl (cI, 30, .inl (fun _ => 0))), (q7, .inl (cI, 20, .inl (fun _ => 0)))] H locs := ⟨h1, h2, h3⟩
  refine lv_aload_n hx hb d_J_init_61 rfl (lv_at hl 0 rfl) ?_
  refine lv_bipush (v := nI 20) hx hb d_J_init_62 (by decide) ?_
  refine z_newi Z hA hH (N := 20) (by decide) (by decide) (by decide) (Nat.le_of_ble_eq_true rfl) (Nat.le_of_ble_eq_true rfl) d_J_init_64 (fun q8 H hH => ?_)
  have hH : zH D A s.heap [(q0, .inr (0, [.ref q1, .ref q2, .ref q3, .ref q4, .ref q5, .ref q6, .ref q7, .null, .int 0, .int 0, .int 0, .int 0, .int 0, .int 0])), (q1, .inl (cI, 20, .inl (fun _ => 0))), (q2, .inl (cI, 20, .inl (fun _ => 0))), (q3, .inl (cI, 252, .inl (fun _ => 0))), (q4, .inl (cI, 30, .inl (fun _ => 0))), (q5, .inl (cI, 30, .inl (fun _ => 0))), (q6, .inl (cI, 30, .inl (fun _ => 0))), (q7, .inl (cI, 20, .inl (fun _ => 0))), (q8, .inl (cI, 20, .inl (fun _ => 0)))] H _ := hH
  refine va_putF (D := D) (ci := 0) (v := .ref q8) (ty := .array .int) (C := R_J) (T := F_J) (N := 14) hx hb hts i_J t_J t_J_ok n_J hown hK hH.1 hH.2.1 hH.2.2 0 rfl rfl 7 (by decide) (hts _ mf_J_parent) (fun _ h9 => h9) rfl hin rfl (by decide +kernel) rfl rfl (Nat.le_of_ble_eq_true rfl) d_J_init_66 (fun H locs h1 h2 h3 => ?_)
  have hH : zH D A s.heap [(q0, .inr (0, [.ref q1, .ref q2, .ref q3, .ref q4, .ref q5, .ref q6, .ref q7, .ref q8, .int 0, .int 0, .int 0, .int 0, .int 0, .int 0])), (q1, .inl (cI, 20, .inl (fun _ => 0))), (q2, .inl (cI, 20, .inl (fun _ => 0))), (q3, .inl (cI, 252, .inl (fun _ => 0))), (q4, .inl (cI, 30, .inl (fun _ => 0))), (q5, .inl (cI, 30, .inl (fun _ => 0))), (q6, .inl (cI, 30, .inl (fun _ => 0))), (q7, .inl (cI, 20, .inl (fun _ => 0))), (q8, .inl (cI, 20, .inl (fun _ => 0)))] H locs := ⟨h1, h2, h3⟩
  refine lv_aload_n hx hb d_J_init_69 rfl (lv_at hl 0 rfl) ?_
  refine lv_iconst (v := nI 1) hx hb d_J_init_70 (by decide) ?_
  refine va_put (D := D) (ci := 0) (v := .int (nI 1)) (ty := .int) (C := R_J) (T := F_J) (N := 14) hx hb hts i_J t_J t_J_ok n_J hown hK hH.1 hH.2.1 hH.2.2 0 rfl rfl 11 (by decide) (hts _ mf_J_top) (fun _ h9 => h9) rfl (by decide +kernel) rfl rfl (Nat.le_of_ble_eq_true rfl) d_J_init_71 (fun H locs h1 h2 h3 => ?_)
  have hH : zH D A s.heap [(q0, .inr (0, [.ref q1, .ref q2, .ref q3, .ref q4, .ref q5, .ref q6, .ref q7, .ref q8, .int 0, .int 0, .int 0, .int (nI 1), .int 0, .int 0])), (q1, .inl (cI, 20, .inl (fun _ => 0))), (q2, .inl (cI, 20, .inl (fun _ => 0))), (q3, .inl (cI, 252, .inl (fun _ => 0))), (q4, .inl (cI, 30, .inl (fun _ => 0))), (q5, .inl (cI, 30, .inl (fun _ => 0))), (q6, .inl (cI, 30, .inl (fun _ => 0))), (q7, .inl (cI, 20, .inl (fun _ => 0))), (q8, .inl (cI, 20, .inl (fun _ => 0)))] H locs := ⟨h1, h2, h3⟩
  refine lv_aload_n hx hb d_J_init_74 rfl (lv_at hl 0 rfl) ?_
  refine lv_iconst (v := nI 2) hx hb d_J_init_75 (by decide) ?_
  refine va_put (D := D) (ci := 0) (v := .int (nI 2)) (ty := .int) (C := R_J) (T := F_J) (N := 14) hx hb hts i_J t_J t_J_ok n_J hown hK hH.1 hH.2.1 hH.2.2 0 rfl rfl 12 (by decide) (hts _ mf_J_bottom) (fun _ h9 => h9) rfl (by decide +kernel) rfl rfl (Nat.le_of_ble_eq_true rfl) d_J_init_76 (fun H locs h1 h2 h3 => ?_)
  have hH : zH D A s.heap [(q0, .inr (0, [.ref q1, .ref q2, .ref q3, .ref q4, .ref q5, .ref q6, .ref q7, .ref q8, .int 0, .int 0, .int 0, .int (nI 1), .int (nI 2), .int 0])), (q1, .inl (cI, 20, .inl (fun _ => 0))), (q2, .inl (cI, 20, .inl (fun _ => 0))), (q3, .inl (cI, 252, .inl (fun _ => 0))), (q4, .inl (cI, 30, .inl (fun _ => 0))), (q5, .inl (cI, 30, .inl (fun _ => 0))), (q6, .inl (cI, 30, .inl (fun _ => 0))), (q7, .inl (cI, 20, .inl (fun _ => 0))), (q8, .inl (cI, 20, .inl (fun _ => 0)))] H locs := ⟨h1, h2, h3⟩
  refine W.widen (k := 8) (n := 422) (Nat.le_of_ble_eq_true rfl) (Nat.le_of_ble_eq_true rfl) ?_
  exact W.vret hx hb hr (fun t ht hW => ⟨⟨fun k => [q0, q1, q2, q3, q4, q5, q6, q7, q8].getD k 0, rfl, rfl, by rw [ht]; exact hH.1, va_K.moved hW.alike hK, hH.2.1⟩, hH.2.2.F ht⟩) hH.2.2.2.2 d_J_init_79
set_option maxHeartbeats 4000000 in
set_option maxRecDepth 100000 in
theorem c_M_init {l : Launch} {D : va_G} {cI cZ : ClassId} (q0 sz : Nat) : Met l y_M_init (.code y_M_init b_M_init 1 none :: zw_tbl) { frames := 1, cells := 2, slots := 650, locals := 12 } (zPc D cI cZ [(q0, .inr (1, bl_M))] sz [.ref q0]) (va_Qv (fun h : Nat → Nat => h 0 = q0) (zB D cI cZ (fun h => mw h cI cZ s0_M) (va_A [(q0, .inr (1, bl_M))] sz)) (va_A [(q0, .inr (1, bl_M))] sz)) 2 650 (va_A [(q0, .inr (1, bl_M))] sz) := by
  refine Met.ofW (cc := b_M_init) (maxL := 1) (ret := none) (by decide) rfl ?_
  intro p e s m args below meth c s₁ B hml hv
  obtain ⟨rfl, hsz, hP, hK, hD0⟩ := hv
  subst hsz
  have hts0 := atoms_spec (ws := .code y_M_init b_M_init 1 none :: zw_tbl) B.pre
  have hts := fun (w : Cond) (hw : w ∈ zw_tbl) => hts0 w (List.mem_cons_of_mem _ hw)
  have hown : s.vm.findClass R_M = some m.cls := findClass_of_methodNamed B.named
  have hin : meth.name = "<init>" := (name_of_methodNamed B.named B.method).1
  have hx := B.exec
  have hb := B.bytes
  have hr := B.returns
  have hlocks := B.notSynchronized
  have Z : zZ R_M p s m c _ b_M_init 1 D cI cZ := ⟨hx, hb, hml, hown, hts, hK⟩
  have hD := hD0.self (sz := s.heap.size)
  generalize hAe : va_A [(q0, .inr (1, bl_M))] s.heap.size = A at hD ⊢
  have hA : ∀ q : Nat, s.heap.size ≤ q → A q := fun q h => by rw [← hAe]; exact Or.inr h
  have hH : zH D A s.heap [(q0, .inr (1, bl_M))] s.heap [] := ⟨hP, hD, va_S.rf⟩
  have hl := lv_entry ([.ref q0]) (n := 1) (Nat.le_of_ble_eq_true rfl)
  rw [lg_entry_eq]
  generalize (lg_sl ([.ref q0]) ++ List.replicate (1 - (lg_sl ([.ref q0])).length) Slot.unset).toArray = ls at hl ⊢
  have hl : lv_has ls 1 [(0, .ref q0)] := hl
  refine lv_aload_n hx hb d_M_init_0 rfl (lv_at hl 0 rfl) ?_
  refine W.objInit hx hb hown (hts _ ml_M_1) (hts _ mn_obj) (hts _ mc_obj) rfl (by rw [hml]; exact hl.1) rfl d_M_init_1 (Nat.le_of_ble_eq_true rfl) (Nat.le_of_ble_eq_true rfl) ?_
  refine W.eq (g2 := F0 m 4 ls []) rfl ?_
  refine lv_aload_n hx hb d_M_init_4 rfl (lv_at hl 0 rfl) ?_
  refine lv_sipush (v := nI 630) hx hb d_M_init_5 (by decide) ?_
  refine z_newz Z hA hH (N := 630) (by decide) (by decide) (by decide) (Nat.le_of_ble_eq_true rfl) (Nat.le_of_ble_eq_true rfl) d_M_init_8 (fun q1 H hH => ?_)
  have hH : zH D A s.heap [(q0, .inr (1, [.null, .int 0, .int 0, .int 0, .null])), (q1, .inl (cZ, 630, .inl (fun _ => 0)))] H _ := hH
  refine va_put (D := D) (ci := 1) (v := .ref q1) (ty := .array .boolean) (C := R_M) (T := F_M) (N := 5) hx hb hts i_M t_M t_M_ok n_M hown hK hH.1 hH.2.1 hH.2.2 0 rfl rfl 0 (by decide) (hts _ mf_M_in) (fun _ h9 => h9) rfl (by decide +kernel) rfl rfl (Nat.le_of_ble_eq_true rfl) d_M_init_10 (fun H locs h1 h2 h3 => ?_)
  have hH : zH D A s.heap [(q0, .inr (1, [.ref q1, .int 0, .int 0, .int 0, .null])), (q1, .inl (cZ, 630, .inl (fun _ => 0)))] H locs := ⟨h1, h2, h3⟩
  refine lv_aload_n hx hb d_M_init_13 rfl (lv_at hl 0 rfl) ?_
  refine lv_iconst (v := nI 1) hx hb d_M_init_14 (by decide) ?_
  refine va_put (D := D) (ci := 1) (v := .int (nI 1)) (ty := .int) (C := R_M) (T := F_M) (N := 5) hx hb hts i_M t_M t_M_ok n_M hown hK hH.1 hH.2.1 hH.2.2 0 rfl rfl 2 (by decide) (hts _ mf_M_t) (fun _ h9 => h9) rfl (by decide +kernel) rfl rfl (Nat.le_of_ble_eq_true rfl) d_M_init_15 (fun H locs h1 h2 h3 => ?_)
  have hH : zH D A s.heap [(q0, .inr (1, [.ref q1, .int 0, .int (nI 1), .int 0, .null])), (q1, .inl (cZ, 630, .inl (fun _ => 0)))] H locs := ⟨h1, h2, h3⟩
  refine lv_aload_n hx hb d_M_init_18 rfl (lv_at hl 0 rfl) ?_
  refine lv_iconst (v := nI 2) hx hb d_M_init_19 (by decide) ?_
  refine va_put (D := D) (ci := 1) (v := .int (nI 2)) (ty := .int) (C := R_M) (T := F_M) (N := 5) hx hb hts i_M t_M t_M_ok n_M hown hK hH.1 hH.2.1 hH.2.2 0 rfl rfl 3 (by decide) (hts _ mf_M_u) (fun _ h9 => h9) rfl (by decide +kernel) rfl rfl (Nat.le_of_ble_eq_true rfl) d_M_init_20 (fun H locs h1 h2 h3 => ?_)
  have hH : zH D A s.heap [(q0, .inr (1, [.ref q1, .int 0, .int (nI 1), .int (nI 2), .null])), (q1, .inl (cZ, 630, .inl (fun _ => 0)))] H locs := ⟨h1, h2, h3⟩
  refine lv_aload_n hx hb d_M_init_23 rfl (lv_at hl 0 rfl) ?_
  refine lv_bipush (v := nI 20) hx hb d_M_init_24 (by decide) ?_
  refine z_newi Z hA hH (N := 20) (by decide) (by decide) (by decide) (Nat.le_of_ble_eq_true rfl) (Nat.le_of_ble_eq_true rfl) d_M_init_26 (fun q2 H hH => ?_)
  have hH : zH D A s.heap [(q0, .inr (1, [.ref q1, .int 0, .int (nI 1), .int (nI 2), .null])), (q1, .inl (cZ, 630, .inl (fun _ => 0))), (q2, .inl (cI, 20, .inl (fun _ => 0)))] H _ := hH
  refine va_put (D := D) (ci := 1) (v := .ref q2) (ty := .array .int) (C := R_M) (T := F_M) (N := 5) hx hb hts i_M t_M t_M_ok n_M hown hK hH.1 hH.2.1 hH.2.2 0 rfl rfl 4 (by decide) (hts _ mf_M_label) (fun _ h9 => h9) rfl (by decide +kernel) rfl rfl (Nat.le_of_ble_eq_true rfl) d_M_init_28 (fun H locs h1 h2 h3 => ?_)
  have hH : zH D A s.heap [(q0, .inr (1, [.ref q1, .int 0, .int (nI 1), .int (nI 2), .ref q2])), (q1, .inl (cZ, 630, .inl (fun _ => 0))), (q2, .inl (cI, 20, .inl (fun _ => 0)))] H locs := ⟨h1, h2, h3⟩
  refine W.widen (k := 2) (n := 650) (Nat.le_of_ble_eq_true rfl) (Nat.le_of_ble_eq_true rfl) ?_
  exact W.vret hx hb hr (fun t ht hW => ⟨⟨fun k => [q0, q1, q2].getD k 0, rfl, rfl, by rw [ht]; exact hH.1, va_K.moved hW.alike hK, hH.2.1⟩, hH.2.2.F ht⟩) hH.2.2.2.2 d_M_init_31
end
section
/-! THE CLAIM OUT OF ONE WALK OF THE LAW'S BODY. Your part is whole_start (and what it stands on); all else here is the same for every law, but numbers. -/
def lw_P (b : Addr) (xs : List Int32) (args : Array Value) (s : State) : Prop := args = #[.ref b] ∧ s.IntsAt b xs ∧ xs.length ≤ 1536 ∧ (Jvm.Cond.and given_1 narrow_1).before args s = true
def lw_Q (_ : Array Value) (s : State) (o : Outcome) (t : State) : Prop := o = .returned (some (.int 1)) ∧ Framed s o t [] 12 1091
def lw_Z (below : List Frame) (a : Array Value) (s : State) : State → Prop := fun t => ∃ o, t.status = .running ∧ Ended t below o ∧ lw_Q a s o t
/-- the law's own end, with 1 on the stack, nothing written that was there before, its room as the claim has it -/
theorem lw_ret {p : Program} {l : Launch} {e : Env} {s : State} {m : MethodId} {below : List Frame} {meth : Method} {c : Code} {b : Nat} (hx : p.tables.exec = Jvm.exec) (hb : c.code = code) (hr : meth.sig.returnType = ret) (hlocks : meth.locks = false) {pc : Nat} {H : Heap} {ls : Array Slot} (hdg : decode code pc = .ok (.ireturn, 1)) : W p l e room_1 s m #[Value.ref b] below meth c H [] 12 1091 (lw_Z below #[Value.ref b] s) (F0 m pc ls [.int 1]) := by
  intro T hT X
  obtain ⟨fs, hret, hrun, hended, hW, hframe⟩ := X.leave (v := some (.int 1)) (hlocks := hlocks) (fun h => by rw [hr] at h; cases h)
  have hmeth' : T.vm.method? m = some meth := X.method'
  refine ⟨T.setFrames fs, ?_, .returned (some (.int 1)), hrun, hended, rfl, ⟨_, rfl⟩, hW, hframe⟩
  jvm_step X.here [X.here.top, hx, hb, hdg, hmeth', hr, ret, narrow_b1]
  (try refine ⟨rfl, ?_⟩); (try refine ⟨rfl, ?_⟩)
  first | (intro acts; rw [hret _ acts rfl rfl rfl]) | rw [hret _ _ rfl rfl rfl]
  exact Steps.refl _
/-- what holds at the law's entry: the machine, the code, the tables' words (any of lw_tbl by 'hts w (by decide +kernel)'), the script of L ints xs at the cell b, what the Statement gives of the start (any of its parts by flat_of_before) -/
def lw_At (p : Program) (s : State) (m : MethodId) (meth : Method) (c : Code) (b L : Nat) (xs : Nat → Int32) : Prop :=
  p.tables.exec = Jvm.exec ∧ c.code = code ∧ meth.sig.returnType = ret ∧ c.maxLocals = 4 ∧ s.vm.findClass R_law = some m.cls ∧ (∀ w ∈ lw_tbl, w.before #[Value.ref b] s = true) ∧ va_X b L xs s s.heap ∧ b < s.heap.size ∧ meth.locks = false ∧ (Jvm.Cond.and given_1 narrow_1).before #[Value.ref b] s = true
section ZL
variable {p : Program} {l : Launch} {e : Env} {R : Room} {s : State} {m : MethodId} {args : Array Value} {below : List Frame} {meth : Method} {c : Code} {H H0 : Heap} {locs : List Loc} {cells slots : Nat} {Q : State → Prop}
variable {cc : ByteArray} {pc : Nat} {ls : Array Slot} {rest : List Value} {D : va_G} {cI cZ : ClassId} {A : Nat → Prop} {nL : Nat} {h g : Nat → Nat}
variable {y : MethodName} {b : ByteArray} {n idx : Nat} {ret : Option FieldType} {rm : Room} {As : List Value}
/-- a call of the class out of the law -/
theorem lc_J (Z : zZ R_law p s m c args cc nL D cI cZ) {σ : JS} {τ : MS} {post : Int32 → JS → Prop} (hA : ∀ q, s.heap.size ≤ q → A q) (hH : zH D A s.heap (jw h cI σ ++ mw g cI cZ τ) H locs) (hdg : decode cc pc = .ok (.invokevirtual idx, 3)) (ok : zOk R_law idx y b n ret As.length) (hc : y.cls = R_J) (hM : zMi l y b n ret rm D cI cZ (jw h cI) (.ref (h 0) :: As) σ post) (hrm : zRm rm n R) (hl : ls.size = nL) (hrest : (rest.map fun v => v.category).sum ≤ 8) (hcs : cells ≤ R.cells ∧ slots ≤ R.slots) {st0 : List Value} (hst : st0 = As.reverse ++ .ref (h 0) :: rest)
    (kk : ∀ (r : Int32) (σ' : JS) (H : Heap) (locs : List Loc), post r σ' → zH D A s.heap (jw h cI σ' ++ mw g cI cZ τ) H locs → W p l e R s m args below meth c H locs cells slots Q (F0 m (pc + 3) ls (.int r :: rest))) : W p l e R s m args below meth c H locs cells slots Q (F0 m pc ls st0) :=
  zcallG_i Z hM ok hrm ⟨0, _, _, rfl, hc.symm, rfl⟩ hA hH [0, 1, 2, 3, 4, 5, 6, 7, 8] [9, 10, 11] rfl rfl (by decide) (by decide) (by decide) hl hrest hcs hdg hst (wr := mw g cI cZ τ) (fun r σ' H' locs' hp hH' => kk r σ' H' locs' hp ⟨hH'.1.sub [3, 4, 5, 6, 7, 8, 9, 10, 11, 0, 1, 2] rfl, hH'.2.1.sub [3, 4, 5, 6, 7, 8, 9, 10, 11, 0, 1, 2] (by decide) rfl, hH'.2.2⟩)
/-- a call of the reference -/
theorem lc_M (Z : zZ R_law p s m c args cc nL D cI cZ) {σ : JS} {τ : MS} {post : Int32 → MS → Prop} (hA : ∀ q, s.heap.size ≤ q → A q) (hH : zH D A s.heap (jw h cI σ ++ mw g cI cZ τ) H locs) (hdg : decode cc pc = .ok (.invokevirtual idx, 3)) (ok : zOk R_law idx y b n ret As.length) (hc : y.cls = R_M) (hM : zMi l y b n ret rm D cI cZ (mw g cI cZ) (.ref (g 0) :: As) τ post) (hrm : zRm rm n R) (hl : ls.size = nL) (hrest : (rest.map fun v => v.category).sum ≤ 8) (hcs : cells ≤ R.cells ∧ slots ≤ R.slots) {st0 : List Value} (hst : st0 = As.reverse ++ .ref (g 0) :: rest)
    (kk : ∀ (r : Int32) (τ' : MS) (H : Heap) (locs : List Loc), post r τ' → zH D A s.heap (jw h cI σ ++ mw g cI cZ τ') H locs → W p l e R s m args below meth c H locs cells slots Q (F0 m (pc + 3) ls (.int r :: rest))) : W p l e R s m args below meth c H locs cells slots Q (F0 m pc ls st0) :=
  zcallG_i Z hM ok hrm ⟨1, _, _, rfl, hc.symm, rfl⟩ hA hH [9, 10, 11] [0, 1, 2, 3, 4, 5, 6, 7, 8] rfl rfl (by decide) (by decide) (by decide) hl hrest hcs hdg hst (wr := jw h cI σ) kk
/-- the script's ints -/
theorem lc_ld (hx : p.tables.exec = Jvm.exec) (hb : c.code = cc) {b L : Nat} {xs : Nat → Int32} (hX : va_X b L xs s H0) (hbl : b < H0.size) (hbA : ¬ A b) (hS : va_S A H0 H locs) {k : Nat} (hL : L < 2 ^ 31) (hk : k < L) (hdg : decode cc pc = .ok (.iaload, 1)) (kk : W p l e R s m args below meth c H locs cells slots Q (F0 m (pc + 1) ls (.int (xs k) :: rest))) : W p l e R s m args below meth c H locs cells slots Q (F0 m pc ls (.int (nI k) :: .ref b :: rest)) :=
  va_sld hx hb hX hbl hbA hS (vp_in_nI hk hL) hdg (by rw [nI_clamp (by omega)]; exact kk)
end ZL
theorem jInv_0 : jInv 0 1 2 (fun _ _ => false) s0_J := ⟨⟨by omega, fun r hr => by omega⟩, ⟨by omega, by omega, by omega⟩, ⟨msk_0 (fun _ _ => rfl), by rw [cnt_zero (fun _ _ => rfl)]; rfl, by rw [cnt_zero (fun _ _ => rfl)]; omega⟩, rfl, rfl, rfl, Or.inl rfl⟩
theorem mInv_0 : mInv 0 1 2 (fun _ _ => false) s0_M := ⟨by omega, ⟨by omega, by omega, by omega⟩, fun r hr x hx => rfl, rfl, rfl, rfl⟩
end
section
set_option maxHeartbeats 8000000 in
set_option maxRecDepth 100000 in
/-- THE LAW'S LOOP: class and reference hold the same state -/
theorem law_loop {p : Program} {l : Launch} {e : Env} {s : State} {m : MethodId} {below : List Frame} {meth : Method} {c : Code} {D : va_G} {cI cZ : ClassId} {h g : Nat → Nat} {b L : Nat} {xs : Nat → Int32} (hL : L ≤ 1536) (C0 : lw_At p s m meth c b L xs) (hK : va_K D zcl [(cI, .int), (cZ, .boolean)] s) : ∀ (n_ : Nat) (H : Heap) (locs : List Loc) (ls : Array Slot), (∃ (i n t u : Nat) (S : SS) (σ : JS) (τ : MS), n_ = L + 1 - i ∧ i ≤ L ∧ jInv n t u S σ ∧ mInv n t u S τ ∧ zH D (fun q : Nat => s.heap.size ≤ q) s.heap (jw h cI σ ++ mw g cI cZ τ) H locs ∧ lv_has ls 4 [(0, .ref b), (1, .ref (h 0)), (2, .ref (g 0)), (3, .int (nI i))]) → W p l e room_1 s m #[Value.ref b] below meth c H locs 12 1091 (lw_Z below #[Value.ref b] s) (F0 m 18 ls []) := by
  obtain ⟨hx, hb, hr, hml, hown, hts0, hX, hbl, hlocks, hgv⟩ := C0
  have hts : ∀ w ∈ zw_tbl, w.before #[Value.ref b] s = true := fun w hw => hts0 w (zw_good hw).1
  have Z : zZ R_law p s m c #[Value.ref b] code 4 D cI cZ := ⟨hx, hb, hml, hown, hts, hK⟩
  have hA : ∀ q : Nat, s.heap.size ≤ q → (fun q : Nat => s.heap.size ≤ q) q := fun _ h => h
  have hbA : ¬ (fun q : Nat => s.heap.size ≤ q) b := Nat.not_le.mpr hbl
  refine w_loop (pc := 18) (fun n_ H locs ls => ∃ (i n t u : Nat) (S : SS) (σ : JS) (τ : MS), n_ = L + 1 - i ∧ i ≤ L ∧ jInv n t u S σ ∧ mInv n t u S τ ∧ zH D (fun q : Nat => s.heap.size ≤ q) s.heap (jw h cI σ ++ mw g cI cZ τ) H locs ∧ lv_has ls 4 [(0, .ref b), (1, .ref (h 0)), (2, .ref (g 0)), (3, .int (nI i))]) ?_
  rintro _ H locs ls ⟨i, n, t, u, S, σ, τ, rfl, hi, hJ, hM, hH, hl⟩ ih
  obtain ⟨mk, sz, rk, ro, ct, ix, rw, pa, d, ds, cn, tp, bo, cu⟩ := σ
  obtain ⟨iN, la, cn2, tp2, bo2⟩ := τ
  obtain ⟨-, -, -, rfl, rfl, rfl, -⟩ := id hJ
  obtain ⟨-, -, -, rfl, rfl, rfl⟩ := id hM
  refine lv_iload_n hx hb d_law_18 rfl (lv_at hl 3 rfl) ?_
  refine lv_aload_n hx hb d_law_19 rfl (lv_at hl 0 rfl) ?_
  refine va_slen hx hb hX hbl hbA hH.2.2 d_law_20 ?_
  refine lv_iconst (v := nI 3) hx hb d_law_21 (by decide) ?_
  have hend : W p l e room_1 s m #[Value.ref b] below meth c H locs 12 1091 (lw_Z below #[Value.ref b] s) (F0 m 655 ls []) := by
    refine lv_iconst (v := 1) hx hb d_law_655 (by decide) ?_
    refine va_forget (fun q hq => hH.2.2.2.2 q hq) ?_
    exact lw_ret hx hb hr hlocks d_law_656
  rcases Nat.lt_or_ge L 3 with h3 | h3
  · refine lv_isub hx hb d_law_22 ?_
    refine lv_icmp_gt (tgt := 655) hx hb d_law_23 (by decide) (fun _ => hend) (fun c9 => absurd (Int32.lt_of_lt_of_le (pk_sneg (a := L) (b := 3) (by omega) h3) (nI_pos' (by omega))) c9)
  refine zn_isub (a := L) hx hb d_law_22 h3 ?_
  refine zn_icmp_gt (tgt := 655) hx hb d_law_23 (by decide) (by omega) (by omega) (fun _ => hend) (fun c1 => ?_)
  refine lv_aload_n hx hb d_law_26 rfl (lv_at hl 0 rfl) ?_
  refine lv_iload_n hx hb d_law_27 rfl (lv_at hl 3 rfl) ?_
  refine lc_ld hx hb hX hbl hbA hH.2.2 (by omega) (k := i) (by omega) d_law_28 ?_
  refine lv_bipush (v := nI 31) hx hb d_law_29 (by decide) ?_
  refine lv_iand hx hb d_law_31 ?_
  obtain ⟨k, hk, ek⟩ := pk_andE (xs i) (m := nI 31) 5 (by decide)
  refine zt (nI k) ek ?_
  clear hend
  have K : ∀ (n t u : Nat) (S : SS) (σ : JS) (τ : MS) (H : Heap) (locs : List Loc) (ls : Array Slot), jInv n t u S σ → mInv n t u S τ → zH D (fun q : Nat => s.heap.size ≤ q) s.heap (jw h cI σ ++ mw g cI cZ τ) H locs → lv_has ls 4 [(0, .ref b), (1, .ref (h 0)), (2, .ref (g 0)), (3, .int (nI i))] → W p l e room_1 s m #[Value.ref b] below meth c H locs 12 1091 (lw_Z below #[Value.ref b] s) (F0 m 649 ls []) := by
    intro n t u S σ τ H locs ls hJ hM hH hl
    refine lv_iinc (v := nI (i + 3)) (lv' := [(3, .int (nI (i + 3))), (0, .ref b), (1, .ref (h 0)), (2, .ref (g 0))]) hx hb d_law_649 hl (k := 3) rfl (nI_add i 3) (by decide) rfl (fun ls hl => ?_)
    refine lv_goto (tgt := 18) hx hb d_law_652 (by decide) ?_
    exact ih _ _ _ _ (by omega) ⟨i + 3, n, t, u, S, σ, τ, rfl, by omega, hJ, hM, hH, lv_sub hl [1, 2, 3, 0] rfl⟩
  obtain ⟨lb, hlb⟩ := lab_ex (al_comm t u S) n
  rcases (show k = 0 ∨ k = 1 ∨ k = 2 ∨ k = 3 ∨ k = 4 ∨ k = 5 ∨ k = 6 ∨ k = 7 ∨ k = 8 ∨ k = 9 ∨ k = 10 ∨ k = 11 ∨ k = 12 ∨ k = 13 ∨ k = 14 ∨ k = 15 ∨ k = 16 ∨ k = 17 ∨ k = 18 ∨ k = 19 ∨ k = 20 ∨ k = 21 ∨ k = 22 ∨ 23 ≤ k by omega) with rfl | rfl | rfl | rfl | rfl | rfl | rfl | rfl | rfl | rfl | rfl | rfl | rfl | rfl | rfl | rfl | rfl | rfl | rfl | rfl | rfl | rfl | rfl | hk23
  · refine lv_tableIn (tgt := 140) hx hb d_law_32 (by decide) (by decide) (by rfl) (by decide) ?_
    refine lv_aload_n hx hb d_law_140 rfl (lv_at hl 1 rfl) ?_
    refine lv_aload_n hx hb d_law_141 rfl (lv_at hl 0 rfl) ?_
    refine lv_iload_n hx hb d_law_142 rfl (lv_at hl 3 rfl) ?_
    refine lv_iconst (v := nI 1) hx hb d_law_143 (by decide) ?_
    refine zn_iadd hx hb d_law_144 ?_
    refine lc_ld hx hb hX hbl hbA hH.2.2 (by omega) (k := i + 1) (by omega) d_law_145 ?_
    refine lc_J (As := [.int (xs (i + 1))]) (rest := []) Z hA hH d_law_146 okl_J_token rfl (c_J_token (xs (i + 1)) hJ) ⟨rfl, rfl, Nat.le_of_ble_eq_true rfl, Nat.le_of_ble_eq_true rfl⟩ hl.1 (Nat.le_of_ble_eq_true rfl) ⟨Nat.le_of_ble_eq_true rfl, Nat.le_of_ble_eq_true rfl⟩ rfl (fun r1 σ' H locs hp1 hH => ?_)
    refine lv_aload_n hx hb d_law_149 rfl (lv_at hl 2 rfl) ?_
    refine lv_aload_n hx hb d_law_150 rfl (lv_at hl 0 rfl) ?_
    refine lv_iload_n hx hb d_law_151 rfl (lv_at hl 3 rfl) ?_
    refine lv_iconst (v := nI 1) hx hb d_law_152 (by decide) ?_
    refine zn_iadd hx hb d_law_153 ?_
    refine lc_ld hx hb hX hbl hbA hH.2.2 (by omega) (k := i + 1) (by omega) d_law_154 ?_
    refine lc_M (As := [.int (xs (i + 1))]) (rest := [.int r1]) Z hA hH d_law_155 okl_M_token rfl (c_M_token (xs (i + 1)) hM) ⟨rfl, rfl, Nat.le_of_ble_eq_true rfl, Nat.le_of_ble_eq_true rfl⟩ hl.1 (Nat.le_of_ble_eq_true rfl) ⟨Nat.le_of_ble_eq_true rfl, Nat.le_of_ble_eq_true rfl⟩ rfl (fun r2 τ' H locs hp2 hH => ?_)
    refine lv_icmp_eq (tgt := 649) hx hb d_law_158 (by decide) (fun _ => ?_) (fun c9 => absurd (hp1.1.trans hp2.1.symm) c9)
    exact K n t u (aTok S (xs (i + 1))).2 _ _ _ _ _ hp1.2 hp2.2 hH hl
  · refine lv_tableIn (tgt := 163) hx hb d_law_32 (by decide) (by decide) (by rfl) (by decide) ?_
    refine lv_aload_n hx hb d_law_163 rfl (lv_at hl 1 rfl) ?_
    refine lv_aload_n hx hb d_law_164 rfl (lv_at hl 0 rfl) ?_
    refine lv_iload_n hx hb d_law_165 rfl (lv_at hl 3 rfl) ?_
    refine lv_iconst (v := nI 1) hx hb d_law_166 (by decide) ?_
    refine zn_iadd hx hb d_law_167 ?_
    refine lc_ld hx hb hX hbl hbA hH.2.2 (by omega) (k := i + 1) (by omega) d_law_168 ?_
    refine lc_J (As := [.int (xs (i + 1))]) (rest := []) Z hA hH d_law_169 okl_J_drop rfl (c_J_drop (xs (i + 1)) hJ) ⟨rfl, rfl, Nat.le_of_ble_eq_true rfl, Nat.le_of_ble_eq_true rfl⟩ hl.1 (Nat.le_of_ble_eq_true rfl) ⟨Nat.le_of_ble_eq_true rfl, Nat.le_of_ble_eq_true rfl⟩ rfl (fun r1 σ' H locs hp1 hH => ?_)
    refine lv_aload_n hx hb d_law_172 rfl (lv_at hl 2 rfl) ?_
    refine lv_aload_n hx hb d_law_173 rfl (lv_at hl 0 rfl) ?_
    refine lv_iload_n hx hb d_law_174 rfl (lv_at hl 3 rfl) ?_
    refine lv_iconst (v := nI 1) hx hb d_law_175 (by decide) ?_
    refine zn_iadd hx hb d_law_176 ?_
    refine lc_ld hx hb hX hbl hbA hH.2.2 (by omega) (k := i + 1) (by omega) d_law_177 ?_
    refine lc_M (As := [.int (xs (i + 1))]) (rest := [.int r1]) Z hA hH d_law_178 okl_M_drop rfl (c_M_drop (xs (i + 1)) hM) ⟨rfl, rfl, Nat.le_of_ble_eq_true rfl, Nat.le_of_ble_eq_true rfl⟩ hl.1 (Nat.le_of_ble_eq_true rfl) ⟨Nat.le_of_ble_eq_true rfl, Nat.le_of_ble_eq_true rfl⟩ rfl (fun r2 τ' H locs hp2 hH => ?_)
    refine lv_icmp_eq (tgt := 649) hx hb d_law_181 (by decide) (fun _ => ?_) (fun c9 => absurd (hp1.1.trans hp2.1.symm) c9)
    exact K n t u (aDrop S (xs (i + 1))).2 _ _ _ _ _ hp1.2 hp2.2 hH hl
  · refine lv_tableIn (tgt := 186) hx hb d_law_32 (by decide) (by decide) (by rfl) (by decide) ?_
    refine lv_aload_n hx hb d_law_186 rfl (lv_at hl 1 rfl) ?_
    refine lc_J (As := []) (rest := []) Z hA hH d_law_187 okl_J_clear rfl (c_J_clear  hJ) ⟨rfl, rfl, Nat.le_of_ble_eq_true rfl, Nat.le_of_ble_eq_true rfl⟩ hl.1 (Nat.le_of_ble_eq_true rfl) ⟨Nat.le_of_ble_eq_true rfl, Nat.le_of_ble_eq_true rfl⟩ rfl (fun r1 σ' H locs hp1 hH => ?_)
    refine lv_aload_n hx hb d_law_190 rfl (lv_at hl 2 rfl) ?_
    refine lc_M (As := []) (rest := [.int r1]) Z hA hH d_law_191 okl_M_clear rfl (c_M_clear  hM) ⟨rfl, rfl, Nat.le_of_ble_eq_true rfl, Nat.le_of_ble_eq_true rfl⟩ hl.1 (Nat.le_of_ble_eq_true rfl) ⟨Nat.le_of_ble_eq_true rfl, Nat.le_of_ble_eq_true rfl⟩ rfl (fun r2 τ' H locs hp2 hH => ?_)
    refine lv_icmp_eq (tgt := 649) hx hb d_law_194 (by decide) (fun _ => ?_) (fun c9 => absurd (hp1.1.trans hp2.1.symm) c9)
    exact K n t u (sput S 20 (fun _ => false)) _ _ _ _ _ hp1.2 hp2.2 hH hl
  · refine lv_tableIn (tgt := 199) hx hb d_law_32 (by decide) (by decide) (by rfl) (by decide) ?_
    refine lv_aload_n hx hb d_law_199 rfl (lv_at hl 1 rfl) ?_
    refine lv_aload_n hx hb d_law_200 rfl (lv_at hl 0 rfl) ?_
    refine lv_iload_n hx hb d_law_201 rfl (lv_at hl 3 rfl) ?_
    refine lv_iconst (v := nI 1) hx hb d_law_202 (by decide) ?_
    refine zn_iadd hx hb d_law_203 ?_
    refine lc_ld hx hb hX hbl hbA hH.2.2 (by omega) (k := i + 1) (by omega) d_law_204 ?_
    refine lc_J (As := [.int (xs (i + 1))]) (rest := []) Z hA hH d_law_205 okl_J_recall rfl (c_J_recall (xs (i + 1)) hJ) ⟨rfl, rfl, Nat.le_of_ble_eq_true rfl, Nat.le_of_ble_eq_true rfl⟩ hl.1 (Nat.le_of_ble_eq_true rfl) ⟨Nat.le_of_ble_eq_true rfl, Nat.le_of_ble_eq_true rfl⟩ rfl (fun r1 σ' H locs hp1 hH => ?_)
    refine lv_aload_n hx hb d_law_208 rfl (lv_at hl 2 rfl) ?_
    refine lv_aload_n hx hb d_law_209 rfl (lv_at hl 0 rfl) ?_
    refine lv_iload_n hx hb d_law_210 rfl (lv_at hl 3 rfl) ?_
    refine lv_iconst (v := nI 1) hx hb d_law_211 (by decide) ?_
    refine zn_iadd hx hb d_law_212 ?_
    refine lc_ld hx hb hX hbl hbA hH.2.2 (by omega) (k := i + 1) (by omega) d_law_213 ?_
    refine lc_M (As := [.int (xs (i + 1))]) (rest := [.int r1]) Z hA hH d_law_214 okl_M_recall rfl (c_M_recall (xs (i + 1)) hM) ⟨rfl, rfl, Nat.le_of_ble_eq_true rfl, Nat.le_of_ble_eq_true rfl⟩ hl.1 (Nat.le_of_ble_eq_true rfl) ⟨Nat.le_of_ble_eq_true rfl, Nat.le_of_ble_eq_true rfl⟩ rfl (fun r2 τ' H locs hp2 hH => ?_)
    refine lv_icmp_eq (tgt := 649) hx hb d_law_217 (by decide) (fun _ => ?_) (fun c9 => absurd (hp1.1.trans hp2.1.symm) c9)
    exact K n t u (aRec n S (xs (i + 1))).2 _ _ _ _ _ hp1.2 hp2.2 hH hl
  · refine lv_tableIn (tgt := 222) hx hb d_law_32 (by decide) (by decide) (by rfl) (by decide) ?_
    refine lv_aload_n hx hb d_law_222 rfl (lv_at hl 1 rfl) ?_
    refine lc_J (As := []) (rest := []) Z hA hH d_law_223 okl_J_store rfl (c_J_store  hJ) ⟨rfl, rfl, Nat.le_of_ble_eq_true rfl, Nat.le_of_ble_eq_true rfl⟩ hl.1 (Nat.le_of_ble_eq_true rfl) ⟨Nat.le_of_ble_eq_true rfl, Nat.le_of_ble_eq_true rfl⟩ rfl (fun r1 σ' H locs hp1 hH => ?_)
    refine lv_aload_n hx hb d_law_226 rfl (lv_at hl 2 rfl) ?_
    refine lc_M (As := []) (rest := [.int r1]) Z hA hH d_law_227 okl_M_store rfl (c_M_store  hM) ⟨rfl, rfl, Nat.le_of_ble_eq_true rfl, Nat.le_of_ble_eq_true rfl⟩ hl.1 (Nat.le_of_ble_eq_true rfl) ⟨Nat.le_of_ble_eq_true rfl, Nat.le_of_ble_eq_true rfl⟩ rfl (fun r2 τ' H locs hp2 hH => ?_)
    refine lv_icmp_eq (tgt := 649) hx hb d_law_230 (by decide) (fun _ => ?_) (fun c9 => absurd (hp1.1.trans hp2.1.symm) c9)
    exact K (aSto n S).2.1 t u (aSto n S).2.2 _ _ _ _ _ hp1.2 hp2.2 hH hl
  · refine lv_tableIn (tgt := 235) hx hb d_law_32 (by decide) (by decide) (by rfl) (by decide) ?_
    refine lv_aload_n hx hb d_law_235 rfl (lv_at hl 1 rfl) ?_
    refine lv_aload_n hx hb d_law_236 rfl (lv_at hl 0 rfl) ?_
    refine lv_iload_n hx hb d_law_237 rfl (lv_at hl 3 rfl) ?_
    refine lv_iconst (v := nI 1) hx hb d_law_238 (by decide) ?_
    refine zn_iadd hx hb d_law_239 ?_
    refine lc_ld hx hb hX hbl hbA hH.2.2 (by omega) (k := i + 1) (by omega) d_law_240 ?_
    refine lc_J (As := [.int (xs (i + 1))]) (rest := []) Z hA hH d_law_241 okl_J_remove rfl (c_J_remove (xs (i + 1)) hJ) ⟨rfl, rfl, Nat.le_of_ble_eq_true rfl, Nat.le_of_ble_eq_true rfl⟩ hl.1 (Nat.le_of_ble_eq_true rfl) ⟨Nat.le_of_ble_eq_true rfl, Nat.le_of_ble_eq_true rfl⟩ rfl (fun r1 σ' H locs hp1 hH => ?_)
    refine lv_aload_n hx hb d_law_244 rfl (lv_at hl 2 rfl) ?_
    refine lv_aload_n hx hb d_law_245 rfl (lv_at hl 0 rfl) ?_
    refine lv_iload_n hx hb d_law_246 rfl (lv_at hl 3 rfl) ?_
    refine lv_iconst (v := nI 1) hx hb d_law_247 (by decide) ?_
    refine zn_iadd hx hb d_law_248 ?_
    refine lc_ld hx hb hX hbl hbA hH.2.2 (by omega) (k := i + 1) (by omega) d_law_249 ?_
    refine lc_M (As := [.int (xs (i + 1))]) (rest := [.int r1]) Z hA hH d_law_250 okl_M_remove rfl (c_M_remove (xs (i + 1)) hM) ⟨rfl, rfl, Nat.le_of_ble_eq_true rfl, Nat.le_of_ble_eq_true rfl⟩ hl.1 (Nat.le_of_ble_eq_true rfl) ⟨Nat.le_of_ble_eq_true rfl, Nat.le_of_ble_eq_true rfl⟩ rfl (fun r2 τ' H locs hp2 hH => ?_)
    refine lv_icmp_eq (tgt := 649) hx hb d_law_253 (by decide) (fun _ => ?_) (fun c9 => absurd (hp1.1.trans hp2.1.symm) c9)
    exact K (aRem n S (xs (i + 1))).2.1 t u (aRem n S (xs (i + 1))).2.2 _ _ _ _ _ hp1.2 hp2.2 hH hl
  · refine lv_tableIn (tgt := 258) hx hb d_law_32 (by decide) (by decide) (by rfl) (by decide) ?_
    refine lv_aload_n hx hb d_law_258 rfl (lv_at hl 1 rfl) ?_
    refine lv_aload_n hx hb d_law_259 rfl (lv_at hl 0 rfl) ?_
    refine lv_iload_n hx hb d_law_260 rfl (lv_at hl 3 rfl) ?_
    refine lv_iconst (v := nI 1) hx hb d_law_261 (by decide) ?_
    refine zn_iadd hx hb d_law_262 ?_
    refine lc_ld hx hb hX hbl hbA hH.2.2 (by omega) (k := i + 1) (by omega) d_law_263 ?_
    refine lv_aload_n hx hb d_law_264 rfl (lv_at hl 0 rfl) ?_
    refine lv_iload_n hx hb d_law_265 rfl (lv_at hl 3 rfl) ?_
    refine lv_iconst (v := nI 2) hx hb d_law_266 (by decide) ?_
    refine zn_iadd hx hb d_law_267 ?_
    refine lc_ld hx hb hX hbl hbA hH.2.2 (by omega) (k := i + 2) (by omega) d_law_268 ?_
    refine lc_J (As := [.int (xs (i + 1)), .int (xs (i + 2))]) (rest := []) Z hA hH d_law_269 okl_J_threshold rfl (c_J_threshold (xs (i + 1)) (xs (i + 2)) hJ) ⟨rfl, rfl, Nat.le_of_ble_eq_true rfl, Nat.le_of_ble_eq_true rfl⟩ hl.1 (Nat.le_of_ble_eq_true rfl) ⟨Nat.le_of_ble_eq_true rfl, Nat.le_of_ble_eq_true rfl⟩ rfl (fun r1 σ' H locs hp1 hH => ?_)
    refine lv_aload_n hx hb d_law_272 rfl (lv_at hl 2 rfl) ?_
    refine lv_aload_n hx hb d_law_273 rfl (lv_at hl 0 rfl) ?_
    refine lv_iload_n hx hb d_law_274 rfl (lv_at hl 3 rfl) ?_
    refine lv_iconst (v := nI 1) hx hb d_law_275 (by decide) ?_
    refine zn_iadd hx hb d_law_276 ?_
    refine lc_ld hx hb hX hbl hbA hH.2.2 (by omega) (k := i + 1) (by omega) d_law_277 ?_
    refine lv_aload_n hx hb d_law_278 rfl (lv_at hl 0 rfl) ?_
    refine lv_iload_n hx hb d_law_279 rfl (lv_at hl 3 rfl) ?_
    refine lv_iconst (v := nI 2) hx hb d_law_280 (by decide) ?_
    refine zn_iadd hx hb d_law_281 ?_
    refine lc_ld hx hb hX hbl hbA hH.2.2 (by omega) (k := i + 2) (by omega) d_law_282 ?_
    refine lc_M (As := [.int (xs (i + 1)), .int (xs (i + 2))]) (rest := [.int r1]) Z hA hH d_law_283 okl_M_threshold rfl (c_M_threshold (xs (i + 1)) (xs (i + 2)) hM) ⟨rfl, rfl, Nat.le_of_ble_eq_true rfl, Nat.le_of_ble_eq_true rfl⟩ hl.1 (Nat.le_of_ble_eq_true rfl) ⟨Nat.le_of_ble_eq_true rfl, Nat.le_of_ble_eq_true rfl⟩ rfl (fun r2 τ' H locs hp2 hH => ?_)
    refine lv_icmp_eq (tgt := 649) hx hb d_law_286 (by decide) (fun _ => ?_) (fun c9 => absurd (hp1.1.trans hp2.1.symm) c9)
    exact K n (aThr t u (xs (i + 1)) (xs (i + 2))).2.1 (aThr t u (xs (i + 1)) (xs (i + 2))).2.2 S _ _ _ _ _ hp1.2 hp2.2 hH hl
  · refine lv_tableIn (tgt := 291) hx hb d_law_32 (by decide) (by decide) (by rfl) (by decide) ?_
    refine lv_aload_n hx hb d_law_291 rfl (lv_at hl 1 rfl) ?_
    refine lc_J (As := []) (rest := []) Z hA hH d_law_292 okl_J_records rfl (c_J_records  hJ) ⟨rfl, rfl, Nat.le_of_ble_eq_true rfl, Nat.le_of_ble_eq_true rfl⟩ hl.1 (Nat.le_of_ble_eq_true rfl) ⟨Nat.le_of_ble_eq_true rfl, Nat.le_of_ble_eq_true rfl⟩ rfl (fun r1 σ' H locs hp1 hH => ?_)
    refine lv_aload_n hx hb d_law_295 rfl (lv_at hl 2 rfl) ?_
    refine lc_M (As := []) (rest := [.int r1]) Z hA hH d_law_296 okl_M_records rfl (c_M_records  hM) ⟨rfl, rfl, Nat.le_of_ble_eq_true rfl, Nat.le_of_ble_eq_true rfl⟩ hl.1 (Nat.le_of_ble_eq_true rfl) ⟨Nat.le_of_ble_eq_true rfl, Nat.le_of_ble_eq_true rfl⟩ rfl (fun r2 τ' H locs hp2 hH => ?_)
    refine lv_icmp_eq (tgt := 649) hx hb d_law_299 (by decide) (fun _ => ?_) (fun c9 => absurd (hp1.1.trans hp2.1.symm) c9)
    exact K n t u S _ _ _ _ _ hp1.2 hp2.2 hH hl
  · refine lv_tableIn (tgt := 304) hx hb d_law_32 (by decide) (by decide) (by rfl) (by decide) ?_
    refine lv_aload_n hx hb d_law_304 rfl (lv_at hl 1 rfl) ?_
    refine lv_aload_n hx hb d_law_305 rfl (lv_at hl 0 rfl) ?_
    refine lv_iload_n hx hb d_law_306 rfl (lv_at hl 3 rfl) ?_
    refine lv_iconst (v := nI 1) hx hb d_law_307 (by decide) ?_
    refine zn_iadd hx hb d_law_308 ?_
    refine lc_ld hx hb hX hbl hbA hH.2.2 (by omega) (k := i + 1) (by omega) d_law_309 ?_
    refine lc_J (As := [.int (xs (i + 1))]) (rest := []) Z hA hH d_law_310 okl_J_size rfl (c_J_size (xs (i + 1)) hJ) ⟨rfl, rfl, Nat.le_of_ble_eq_true rfl, Nat.le_of_ble_eq_true rfl⟩ hl.1 (Nat.le_of_ble_eq_true rfl) ⟨Nat.le_of_ble_eq_true rfl, Nat.le_of_ble_eq_true rfl⟩ rfl (fun r1 σ' H locs hp1 hH => ?_)
    refine lv_aload_n hx hb d_law_313 rfl (lv_at hl 2 rfl) ?_
    refine lv_aload_n hx hb d_law_314 rfl (lv_at hl 0 rfl) ?_
    refine lv_iload_n hx hb d_law_315 rfl (lv_at hl 3 rfl) ?_
    refine lv_iconst (v := nI 1) hx hb d_law_316 (by decide) ?_
    refine zn_iadd hx hb d_law_317 ?_
    refine lc_ld hx hb hX hbl hbA hH.2.2 (by omega) (k := i + 1) (by omega) d_law_318 ?_
    refine lc_M (As := [.int (xs (i + 1))]) (rest := [.int r1]) Z hA hH d_law_319 okl_M_size rfl (c_M_size (xs (i + 1)) hM) ⟨rfl, rfl, Nat.le_of_ble_eq_true rfl, Nat.le_of_ble_eq_true rfl⟩ hl.1 (Nat.le_of_ble_eq_true rfl) ⟨Nat.le_of_ble_eq_true rfl, Nat.le_of_ble_eq_true rfl⟩ rfl (fun r2 τ' H locs hp2 hH => ?_)
    refine lv_icmp_eq (tgt := 649) hx hb d_law_322 (by decide) (fun _ => ?_) (fun c9 => absurd (hp1.1.trans hp2.1.symm) c9)
    exact K n t u S _ _ _ _ _ hp1.2 hp2.2 hH hl
  · refine lv_tableIn (tgt := 327) hx hb d_law_32 (by decide) (by decide) (by rfl) (by decide) ?_
    refine lv_aload_n hx hb d_law_327 rfl (lv_at hl 1 rfl) ?_
    refine lv_aload_n hx hb d_law_328 rfl (lv_at hl 0 rfl) ?_
    refine lv_iload_n hx hb d_law_329 rfl (lv_at hl 3 rfl) ?_
    refine lv_iconst (v := nI 1) hx hb d_law_330 (by decide) ?_
    refine zn_iadd hx hb d_law_331 ?_
    refine lc_ld hx hb hX hbl hbA hH.2.2 (by omega) (k := i + 1) (by omega) d_law_332 ?_
    refine lv_aload_n hx hb d_law_333 rfl (lv_at hl 0 rfl) ?_
    refine lv_iload_n hx hb d_law_334 rfl (lv_at hl 3 rfl) ?_
    refine lv_iconst (v := nI 2) hx hb d_law_335 (by decide) ?_
    refine zn_iadd hx hb d_law_336 ?_
    refine lc_ld hx hb hX hbl hbA hH.2.2 (by omega) (k := i + 2) (by omega) d_law_337 ?_
    refine lc_J (As := [.int (xs (i + 1)), .int (xs (i + 2))]) (rest := []) Z hA hH d_law_338 okl_J_has rfl (c_J_has (xs (i + 1)) (xs (i + 2)) hJ) ⟨rfl, rfl, Nat.le_of_ble_eq_true rfl, Nat.le_of_ble_eq_true rfl⟩ hl.1 (Nat.le_of_ble_eq_true rfl) ⟨Nat.le_of_ble_eq_true rfl, Nat.le_of_ble_eq_true rfl⟩ rfl (fun r1 σ' H locs hp1 hH => ?_)
    refine lv_aload_n hx hb d_law_341 rfl (lv_at hl 2 rfl) ?_
    refine lv_aload_n hx hb d_law_342 rfl (lv_at hl 0 rfl) ?_
    refine lv_iload_n hx hb d_law_343 rfl (lv_at hl 3 rfl) ?_
    refine lv_iconst (v := nI 1) hx hb d_law_344 (by decide) ?_
    refine zn_iadd hx hb d_law_345 ?_
    refine lc_ld hx hb hX hbl hbA hH.2.2 (by omega) (k := i + 1) (by omega) d_law_346 ?_
    refine lv_aload_n hx hb d_law_347 rfl (lv_at hl 0 rfl) ?_
    refine lv_iload_n hx hb d_law_348 rfl (lv_at hl 3 rfl) ?_
    refine lv_iconst (v := nI 2) hx hb d_law_349 (by decide) ?_
    refine zn_iadd hx hb d_law_350 ?_
    refine lc_ld hx hb hX hbl hbA hH.2.2 (by omega) (k := i + 2) (by omega) d_law_351 ?_
    refine lc_M (As := [.int (xs (i + 1)), .int (xs (i + 2))]) (rest := [.int r1]) Z hA hH d_law_352 okl_M_has rfl (c_M_has (xs (i + 1)) (xs (i + 2)) hM) ⟨rfl, rfl, Nat.le_of_ble_eq_true rfl, Nat.le_of_ble_eq_true rfl⟩ hl.1 (Nat.le_of_ble_eq_true rfl) ⟨Nat.le_of_ble_eq_true rfl, Nat.le_of_ble_eq_true rfl⟩ rfl (fun r2 τ' H locs hp2 hH => ?_)
    refine lv_icmp_eq (tgt := 649) hx hb d_law_355 (by decide) (fun _ => ?_) (fun c9 => absurd (hp1.1.trans hp2.1.symm) c9)
    exact K n t u S _ _ _ _ _ hp1.2 hp2.2 hH hl
  · refine lv_tableIn (tgt := 360) hx hb d_law_32 (by decide) (by decide) (by rfl) (by decide) ?_
    refine lv_aload_n hx hb d_law_360 rfl (lv_at hl 1 rfl) ?_
    refine lv_aload_n hx hb d_law_361 rfl (lv_at hl 0 rfl) ?_
    refine lv_iload_n hx hb d_law_362 rfl (lv_at hl 3 rfl) ?_
    refine lv_iconst (v := nI 1) hx hb d_law_363 (by decide) ?_
    refine zn_iadd hx hb d_law_364 ?_
    refine lc_ld hx hb hX hbl hbA hH.2.2 (by omega) (k := i + 1) (by omega) d_law_365 ?_
    refine lc_J (As := [.int (xs (i + 1))]) (rest := []) Z hA hH d_law_366 okl_J_frequency rfl (c_J_frequency (xs (i + 1)) hJ) ⟨rfl, rfl, Nat.le_of_ble_eq_true rfl, Nat.le_of_ble_eq_true rfl⟩ hl.1 (Nat.le_of_ble_eq_true rfl) ⟨Nat.le_of_ble_eq_true rfl, Nat.le_of_ble_eq_true rfl⟩ rfl (fun r1 σ' H locs hp1 hH => ?_)
    refine lv_aload_n hx hb d_law_369 rfl (lv_at hl 2 rfl) ?_
    refine lv_aload_n hx hb d_law_370 rfl (lv_at hl 0 rfl) ?_
    refine lv_iload_n hx hb d_law_371 rfl (lv_at hl 3 rfl) ?_
    refine lv_iconst (v := nI 1) hx hb d_law_372 (by decide) ?_
    refine zn_iadd hx hb d_law_373 ?_
    refine lc_ld hx hb hX hbl hbA hH.2.2 (by omega) (k := i + 1) (by omega) d_law_374 ?_
    refine lc_M (As := [.int (xs (i + 1))]) (rest := [.int r1]) Z hA hH d_law_375 okl_M_frequency rfl (c_M_frequency (xs (i + 1)) hM) ⟨rfl, rfl, Nat.le_of_ble_eq_true rfl, Nat.le_of_ble_eq_true rfl⟩ hl.1 (Nat.le_of_ble_eq_true rfl) ⟨Nat.le_of_ble_eq_true rfl, Nat.le_of_ble_eq_true rfl⟩ rfl (fun r2 τ' H locs hp2 hH => ?_)
    refine lv_icmp_eq (tgt := 649) hx hb d_law_378 (by decide) (fun _ => ?_) (fun c9 => absurd (hp1.1.trans hp2.1.symm) c9)
    exact K n t u S _ _ _ _ _ hp1.2 hp2.2 hH hl
  · refine lv_tableIn (tgt := 383) hx hb d_law_32 (by decide) (by decide) (by rfl) (by decide) ?_
    refine lv_aload_n hx hb d_law_383 rfl (lv_at hl 1 rfl) ?_
    refine lv_aload_n hx hb d_law_384 rfl (lv_at hl 0 rfl) ?_
    refine lv_iload_n hx hb d_law_385 rfl (lv_at hl 3 rfl) ?_
    refine lv_iconst (v := nI 1) hx hb d_law_386 (by decide) ?_
    refine zn_iadd hx hb d_law_387 ?_
    refine lc_ld hx hb hX hbl hbA hH.2.2 (by omega) (k := i + 1) (by omega) d_law_388 ?_
    refine lv_aload_n hx hb d_law_389 rfl (lv_at hl 0 rfl) ?_
    refine lv_iload_n hx hb d_law_390 rfl (lv_at hl 3 rfl) ?_
    refine lv_iconst (v := nI 2) hx hb d_law_391 (by decide) ?_
    refine zn_iadd hx hb d_law_392 ?_
    refine lc_ld hx hb hX hbl hbA hH.2.2 (by omega) (k := i + 2) (by omega) d_law_393 ?_
    refine lc_J (As := [.int (xs (i + 1)), .int (xs (i + 2))]) (rest := []) Z hA hH d_law_394 okl_J_common rfl (c_J_common (xs (i + 1)) (xs (i + 2)) hJ) ⟨rfl, rfl, Nat.le_of_ble_eq_true rfl, Nat.le_of_ble_eq_true rfl⟩ hl.1 (Nat.le_of_ble_eq_true rfl) ⟨Nat.le_of_ble_eq_true rfl, Nat.le_of_ble_eq_true rfl⟩ rfl (fun r1 σ' H locs hp1 hH => ?_)
    refine lv_aload_n hx hb d_law_397 rfl (lv_at hl 2 rfl) ?_
    refine lv_aload_n hx hb d_law_398 rfl (lv_at hl 0 rfl) ?_
    refine lv_iload_n hx hb d_law_399 rfl (lv_at hl 3 rfl) ?_
    refine lv_iconst (v := nI 1) hx hb d_law_400 (by decide) ?_
    refine zn_iadd hx hb d_law_401 ?_
    refine lc_ld hx hb hX hbl hbA hH.2.2 (by omega) (k := i + 1) (by omega) d_law_402 ?_
    refine lv_aload_n hx hb d_law_403 rfl (lv_at hl 0 rfl) ?_
    refine lv_iload_n hx hb d_law_404 rfl (lv_at hl 3 rfl) ?_
    refine lv_iconst (v := nI 2) hx hb d_law_405 (by decide) ?_
    refine zn_iadd hx hb d_law_406 ?_
    refine lc_ld hx hb hX hbl hbA hH.2.2 (by omega) (k := i + 2) (by omega) d_law_407 ?_
    refine lc_M (As := [.int (xs (i + 1)), .int (xs (i + 2))]) (rest := [.int r1]) Z hA hH d_law_408 okl_M_common rfl (c_M_common (xs (i + 1)) (xs (i + 2)) hM) ⟨rfl, rfl, Nat.le_of_ble_eq_true rfl, Nat.le_of_ble_eq_true rfl⟩ hl.1 (Nat.le_of_ble_eq_true rfl) ⟨Nat.le_of_ble_eq_true rfl, Nat.le_of_ble_eq_true rfl⟩ rfl (fun r2 τ' H locs hp2 hH => ?_)
    refine lv_icmp_eq (tgt := 649) hx hb d_law_411 (by decide) (fun _ => ?_) (fun c9 => absurd (hp1.1.trans hp2.1.symm) c9)
    exact K n t u S _ _ _ _ _ hp1.2 hp2.2 hH hl
  · refine lv_tableIn (tgt := 416) hx hb d_law_32 (by decide) (by decide) (by rfl) (by decide) ?_
    refine lv_aload_n hx hb d_law_416 rfl (lv_at hl 1 rfl) ?_
    refine lv_aload_n hx hb d_law_417 rfl (lv_at hl 0 rfl) ?_
    refine lv_iload_n hx hb d_law_418 rfl (lv_at hl 3 rfl) ?_
    refine lv_iconst (v := nI 1) hx hb d_law_419 (by decide) ?_
    refine zn_iadd hx hb d_law_420 ?_
    refine lc_ld hx hb hX hbl hbA hH.2.2 (by omega) (k := i + 1) (by omega) d_law_421 ?_
    refine lv_aload_n hx hb d_law_422 rfl (lv_at hl 0 rfl) ?_
    refine lv_iload_n hx hb d_law_423 rfl (lv_at hl 3 rfl) ?_
    refine lv_iconst (v := nI 2) hx hb d_law_424 (by decide) ?_
    refine zn_iadd hx hb d_law_425 ?_
    refine lc_ld hx hb hX hbl hbA hH.2.2 (by omega) (k := i + 2) (by omega) d_law_426 ?_
    refine lc_J (As := [.int (xs (i + 1)), .int (xs (i + 2))]) (rest := []) Z hA hH d_law_427 okl_J_similar rfl (c_J_similar (xs (i + 1)) (xs (i + 2)) hJ) ⟨rfl, rfl, Nat.le_of_ble_eq_true rfl, Nat.le_of_ble_eq_true rfl⟩ hl.1 (Nat.le_of_ble_eq_true rfl) ⟨Nat.le_of_ble_eq_true rfl, Nat.le_of_ble_eq_true rfl⟩ rfl (fun r1 σ' H locs hp1 hH => ?_)
    refine lv_aload_n hx hb d_law_430 rfl (lv_at hl 2 rfl) ?_
    refine lv_aload_n hx hb d_law_431 rfl (lv_at hl 0 rfl) ?_
    refine lv_iload_n hx hb d_law_432 rfl (lv_at hl 3 rfl) ?_
    refine lv_iconst (v := nI 1) hx hb d_law_433 (by decide) ?_
    refine zn_iadd hx hb d_law_434 ?_
    refine lc_ld hx hb hX hbl hbA hH.2.2 (by omega) (k := i + 1) (by omega) d_law_435 ?_
    refine lv_aload_n hx hb d_law_436 rfl (lv_at hl 0 rfl) ?_
    refine lv_iload_n hx hb d_law_437 rfl (lv_at hl 3 rfl) ?_
    refine lv_iconst (v := nI 2) hx hb d_law_438 (by decide) ?_
    refine zn_iadd hx hb d_law_439 ?_
    refine lc_ld hx hb hX hbl hbA hH.2.2 (by omega) (k := i + 2) (by omega) d_law_440 ?_
    refine lc_M (As := [.int (xs (i + 1)), .int (xs (i + 2))]) (rest := [.int r1]) Z hA hH d_law_441 okl_M_similar rfl (c_M_similar (xs (i + 1)) (xs (i + 2)) hM) ⟨rfl, rfl, Nat.le_of_ble_eq_true rfl, Nat.le_of_ble_eq_true rfl⟩ hl.1 (Nat.le_of_ble_eq_true rfl) ⟨Nat.le_of_ble_eq_true rfl, Nat.le_of_ble_eq_true rfl⟩ rfl (fun r2 τ' H locs hp2 hH => ?_)
    refine lv_icmp_eq (tgt := 649) hx hb d_law_444 (by decide) (fun _ => ?_) (fun c9 => absurd (hp1.1.trans hp2.1.symm) c9)
    exact K n t u S _ _ _ _ _ hp1.2 hp2.2 hH hl
  · refine lv_tableIn (tgt := 449) hx hb d_law_32 (by decide) (by decide) (by rfl) (by decide) ?_
    refine lv_aload_n hx hb d_law_449 rfl (lv_at hl 1 rfl) ?_
    refine lc_J (As := []) (rest := []) Z hA hH d_law_450 okl_J_pairs rfl (c_J_pairs  hJ) ⟨rfl, rfl, Nat.le_of_ble_eq_true rfl, Nat.le_of_ble_eq_true rfl⟩ hl.1 (Nat.le_of_ble_eq_true rfl) ⟨Nat.le_of_ble_eq_true rfl, Nat.le_of_ble_eq_true rfl⟩ rfl (fun r1 σ' H locs hp1 hH => ?_)
    refine lv_aload_n hx hb d_law_453 rfl (lv_at hl 2 rfl) ?_
    refine lc_M (As := []) (rest := [.int r1]) Z hA hH d_law_454 okl_M_pairs rfl (c_M_pairs  hM) ⟨rfl, rfl, Nat.le_of_ble_eq_true rfl, Nat.le_of_ble_eq_true rfl⟩ hl.1 (Nat.le_of_ble_eq_true rfl) ⟨Nat.le_of_ble_eq_true rfl, Nat.le_of_ble_eq_true rfl⟩ rfl (fun r2 τ' H locs hp2 hH => ?_)
    refine lv_icmp_eq (tgt := 649) hx hb d_law_457 (by decide) (fun _ => ?_) (fun c9 => absurd (hp1.1.trans hp2.1.symm) c9)
    exact K n t u S _ _ _ _ _ hp1.2 hp2.2 hH hl
  · refine lv_tableIn (tgt := 462) hx hb d_law_32 (by decide) (by decide) (by rfl) (by decide) ?_
    refine lv_aload_n hx hb d_law_462 rfl (lv_at hl 1 rfl) ?_
    refine lv_aload_n hx hb d_law_463 rfl (lv_at hl 0 rfl) ?_
    refine lv_iload_n hx hb d_law_464 rfl (lv_at hl 3 rfl) ?_
    refine lv_iconst (v := nI 1) hx hb d_law_465 (by decide) ?_
    refine zn_iadd hx hb d_law_466 ?_
    refine lc_ld hx hb hX hbl hbA hH.2.2 (by omega) (k := i + 1) (by omega) d_law_467 ?_
    refine lc_J (As := [.int (xs (i + 1))]) (rest := []) Z hA hH d_law_468 okl_J_degree rfl (c_J_degree (xs (i + 1)) hJ) ⟨rfl, rfl, Nat.le_of_ble_eq_true rfl, Nat.le_of_ble_eq_true rfl⟩ hl.1 (Nat.le_of_ble_eq_true rfl) ⟨Nat.le_of_ble_eq_true rfl, Nat.le_of_ble_eq_true rfl⟩ rfl (fun r1 σ' H locs hp1 hH => ?_)
    refine lv_aload_n hx hb d_law_471 rfl (lv_at hl 2 rfl) ?_
    refine lv_aload_n hx hb d_law_472 rfl (lv_at hl 0 rfl) ?_
    refine lv_iload_n hx hb d_law_473 rfl (lv_at hl 3 rfl) ?_
    refine lv_iconst (v := nI 1) hx hb d_law_474 (by decide) ?_
    refine zn_iadd hx hb d_law_475 ?_
    refine lc_ld hx hb hX hbl hbA hH.2.2 (by omega) (k := i + 1) (by omega) d_law_476 ?_
    refine lc_M (As := [.int (xs (i + 1))]) (rest := [.int r1]) Z hA hH d_law_477 okl_M_degree rfl (c_M_degree (xs (i + 1)) hM) ⟨rfl, rfl, Nat.le_of_ble_eq_true rfl, Nat.le_of_ble_eq_true rfl⟩ hl.1 (Nat.le_of_ble_eq_true rfl) ⟨Nat.le_of_ble_eq_true rfl, Nat.le_of_ble_eq_true rfl⟩ rfl (fun r2 τ' H locs hp2 hH => ?_)
    refine lv_icmp_eq (tgt := 649) hx hb d_law_480 (by decide) (fun _ => ?_) (fun c9 => absurd (hp1.1.trans hp2.1.symm) c9)
    exact K n t u S _ _ _ _ _ hp1.2 hp2.2 hH hl
  · refine lv_tableIn (tgt := 485) hx hb d_law_32 (by decide) (by decide) (by rfl) (by decide) ?_
    refine lv_aload_n hx hb d_law_485 rfl (lv_at hl 1 rfl) ?_
    refine lv_aload_n hx hb d_law_486 rfl (lv_at hl 0 rfl) ?_
    refine lv_iload_n hx hb d_law_487 rfl (lv_at hl 3 rfl) ?_
    refine lv_iconst (v := nI 1) hx hb d_law_488 (by decide) ?_
    refine zn_iadd hx hb d_law_489 ?_
    refine lc_ld hx hb hX hbl hbA hH.2.2 (by omega) (k := i + 1) (by omega) d_law_490 ?_
    refine lv_aload_n hx hb d_law_491 rfl (lv_at hl 0 rfl) ?_
    refine lv_iload_n hx hb d_law_492 rfl (lv_at hl 3 rfl) ?_
    refine lv_iconst (v := nI 2) hx hb d_law_493 (by decide) ?_
    refine zn_iadd hx hb d_law_494 ?_
    refine lc_ld hx hb hX hbl hbA hH.2.2 (by omega) (k := i + 2) (by omega) d_law_495 ?_
    refine lc_J (As := [.int (xs (i + 1)), .int (xs (i + 2))]) (rest := []) Z hA hH d_law_496 okl_J_partner rfl (c_J_partner (xs (i + 1)) (xs (i + 2)) hJ) ⟨rfl, rfl, Nat.le_of_ble_eq_true rfl, Nat.le_of_ble_eq_true rfl⟩ hl.1 (Nat.le_of_ble_eq_true rfl) ⟨Nat.le_of_ble_eq_true rfl, Nat.le_of_ble_eq_true rfl⟩ rfl (fun r1 σ' H locs hp1 hH => ?_)
    refine lv_aload_n hx hb d_law_499 rfl (lv_at hl 2 rfl) ?_
    refine lv_aload_n hx hb d_law_500 rfl (lv_at hl 0 rfl) ?_
    refine lv_iload_n hx hb d_law_501 rfl (lv_at hl 3 rfl) ?_
    refine lv_iconst (v := nI 1) hx hb d_law_502 (by decide) ?_
    refine zn_iadd hx hb d_law_503 ?_
    refine lc_ld hx hb hX hbl hbA hH.2.2 (by omega) (k := i + 1) (by omega) d_law_504 ?_
    refine lv_aload_n hx hb d_law_505 rfl (lv_at hl 0 rfl) ?_
    refine lv_iload_n hx hb d_law_506 rfl (lv_at hl 3 rfl) ?_
    refine lv_iconst (v := nI 2) hx hb d_law_507 (by decide) ?_
    refine zn_iadd hx hb d_law_508 ?_
    refine lc_ld hx hb hX hbl hbA hH.2.2 (by omega) (k := i + 2) (by omega) d_law_509 ?_
    refine lc_M (As := [.int (xs (i + 1)), .int (xs (i + 2))]) (rest := [.int r1]) Z hA hH d_law_510 okl_M_partner rfl (c_M_partner (xs (i + 1)) (xs (i + 2)) hM) ⟨rfl, rfl, Nat.le_of_ble_eq_true rfl, Nat.le_of_ble_eq_true rfl⟩ hl.1 (Nat.le_of_ble_eq_true rfl) ⟨Nat.le_of_ble_eq_true rfl, Nat.le_of_ble_eq_true rfl⟩ rfl (fun r2 τ' H locs hp2 hH => ?_)
    refine lv_icmp_eq (tgt := 649) hx hb d_law_513 (by decide) (fun _ => ?_) (fun c9 => absurd (hp1.1.trans hp2.1.symm) c9)
    exact K n t u S _ _ _ _ _ hp1.2 hp2.2 hH hl
  · refine lv_tableIn (tgt := 518) hx hb d_law_32 (by decide) (by decide) (by rfl) (by decide) ?_
    refine lv_aload_n hx hb d_law_518 rfl (lv_at hl 1 rfl) ?_
    refine lv_aload_n hx hb d_law_519 rfl (lv_at hl 0 rfl) ?_
    refine lv_iload_n hx hb d_law_520 rfl (lv_at hl 3 rfl) ?_
    refine lv_iconst (v := nI 1) hx hb d_law_521 (by decide) ?_
    refine zn_iadd hx hb d_law_522 ?_
    refine lc_ld hx hb hX hbl hbA hH.2.2 (by omega) (k := i + 1) (by omega) d_law_523 ?_
    refine lc_J (As := [.int (xs (i + 1))]) (rest := []) Z hA hH d_law_524 okl_J_nearest rfl (c_J_nearest (xs (i + 1)) hJ) ⟨rfl, rfl, Nat.le_of_ble_eq_true rfl, Nat.le_of_ble_eq_true rfl⟩ hl.1 (Nat.le_of_ble_eq_true rfl) ⟨Nat.le_of_ble_eq_true rfl, Nat.le_of_ble_eq_true rfl⟩ rfl (fun r1 σ' H locs hp1 hH => ?_)
    refine lv_aload_n hx hb d_law_527 rfl (lv_at hl 2 rfl) ?_
    refine lv_aload_n hx hb d_law_528 rfl (lv_at hl 0 rfl) ?_
    refine lv_iload_n hx hb d_law_529 rfl (lv_at hl 3 rfl) ?_
    refine lv_iconst (v := nI 1) hx hb d_law_530 (by decide) ?_
    refine zn_iadd hx hb d_law_531 ?_
    refine lc_ld hx hb hX hbl hbA hH.2.2 (by omega) (k := i + 1) (by omega) d_law_532 ?_
    refine lc_M (As := [.int (xs (i + 1))]) (rest := [.int r1]) Z hA hH d_law_533 okl_M_nearest rfl (c_M_nearest (xs (i + 1)) hM) ⟨rfl, rfl, Nat.le_of_ble_eq_true rfl, Nat.le_of_ble_eq_true rfl⟩ hl.1 (Nat.le_of_ble_eq_true rfl) ⟨Nat.le_of_ble_eq_true rfl, Nat.le_of_ble_eq_true rfl⟩ rfl (fun r2 τ' H locs hp2 hH => ?_)
    refine lv_icmp_eq (tgt := 649) hx hb d_law_536 (by decide) (fun _ => ?_) (fun c9 => absurd (hp1.1.trans hp2.1.symm) c9)
    exact K n t u S _ _ _ _ _ hp1.2 hp2.2 hH hl
  · refine lv_tableIn (tgt := 541) hx hb d_law_32 (by decide) (by decide) (by rfl) (by decide) ?_
    refine lv_aload_n hx hb d_law_541 rfl (lv_at hl 1 rfl) ?_
    refine lc_J (As := []) (rest := []) Z hA hH d_law_542 okl_J_matches rfl (c_J_matches  hJ) ⟨rfl, rfl, Nat.le_of_ble_eq_true rfl, Nat.le_of_ble_eq_true rfl⟩ hl.1 (Nat.le_of_ble_eq_true rfl) ⟨Nat.le_of_ble_eq_true rfl, Nat.le_of_ble_eq_true rfl⟩ rfl (fun r1 σ' H locs hp1 hH => ?_)
    refine lv_aload_n hx hb d_law_545 rfl (lv_at hl 2 rfl) ?_
    refine lc_M (As := []) (rest := [.int r1]) Z hA hH d_law_546 okl_M_matches rfl (c_M_matches  hM) ⟨rfl, rfl, Nat.le_of_ble_eq_true rfl, Nat.le_of_ble_eq_true rfl⟩ hl.1 (Nat.le_of_ble_eq_true rfl) ⟨Nat.le_of_ble_eq_true rfl, Nat.le_of_ble_eq_true rfl⟩ rfl (fun r2 τ' H locs hp2 hH => ?_)
    refine lv_icmp_eq (tgt := 649) hx hb d_law_549 (by decide) (fun _ => ?_) (fun c9 => absurd (hp1.1.trans hp2.1.symm) c9)
    exact K n t u S _ _ _ _ _ hp1.2 hp2.2 hH hl
  · refine lv_tableIn (tgt := 554) hx hb d_law_32 (by decide) (by decide) (by rfl) (by decide) ?_
    refine lv_aload_n hx hb d_law_554 rfl (lv_at hl 1 rfl) ?_
    refine lv_aload_n hx hb d_law_555 rfl (lv_at hl 0 rfl) ?_
    refine lv_iload_n hx hb d_law_556 rfl (lv_at hl 3 rfl) ?_
    refine lv_iconst (v := nI 1) hx hb d_law_557 (by decide) ?_
    refine zn_iadd hx hb d_law_558 ?_
    refine lc_ld hx hb hX hbl hbA hH.2.2 (by omega) (k := i + 1) (by omega) d_law_559 ?_
    refine lc_J (As := [.int (xs (i + 1))]) (rest := []) Z hA hH d_law_560 okl_J_match rfl (c_J_match (xs (i + 1)) hJ) ⟨rfl, rfl, Nat.le_of_ble_eq_true rfl, Nat.le_of_ble_eq_true rfl⟩ hl.1 (Nat.le_of_ble_eq_true rfl) ⟨Nat.le_of_ble_eq_true rfl, Nat.le_of_ble_eq_true rfl⟩ rfl (fun r1 σ' H locs hp1 hH => ?_)
    refine lv_aload_n hx hb d_law_563 rfl (lv_at hl 2 rfl) ?_
    refine lv_aload_n hx hb d_law_564 rfl (lv_at hl 0 rfl) ?_
    refine lv_iload_n hx hb d_law_565 rfl (lv_at hl 3 rfl) ?_
    refine lv_iconst (v := nI 1) hx hb d_law_566 (by decide) ?_
    refine zn_iadd hx hb d_law_567 ?_
    refine lc_ld hx hb hX hbl hbA hH.2.2 (by omega) (k := i + 1) (by omega) d_law_568 ?_
    refine lc_M (As := [.int (xs (i + 1))]) (rest := [.int r1]) Z hA hH d_law_569 okl_M_match rfl (c_M_match (xs (i + 1)) hM) ⟨rfl, rfl, Nat.le_of_ble_eq_true rfl, Nat.le_of_ble_eq_true rfl⟩ hl.1 (Nat.le_of_ble_eq_true rfl) ⟨Nat.le_of_ble_eq_true rfl, Nat.le_of_ble_eq_true rfl⟩ rfl (fun r2 τ' H locs hp2 hH => ?_)
    refine lv_icmp_eq (tgt := 649) hx hb d_law_572 (by decide) (fun _ => ?_) (fun c9 => absurd (hp1.1.trans hp2.1.symm) c9)
    exact K n t u S _ _ _ _ _ hp1.2 hp2.2 hH hl
  · refine lv_tableIn (tgt := 577) hx hb d_law_32 (by decide) (by decide) (by rfl) (by decide) ?_
    refine lv_aload_n hx hb d_law_577 rfl (lv_at hl 1 rfl) ?_
    refine lc_J (As := []) (rest := []) Z hA hH d_law_578 okl_J_containing rfl (c_J_containing  hJ) ⟨rfl, rfl, Nat.le_of_ble_eq_true rfl, Nat.le_of_ble_eq_true rfl⟩ hl.1 (Nat.le_of_ble_eq_true rfl) ⟨Nat.le_of_ble_eq_true rfl, Nat.le_of_ble_eq_true rfl⟩ rfl (fun r1 σ' H locs hp1 hH => ?_)
    refine lv_aload_n hx hb d_law_581 rfl (lv_at hl 2 rfl) ?_
    refine lc_M (As := []) (rest := [.int r1]) Z hA hH d_law_582 okl_M_containing rfl (c_M_containing  hM) ⟨rfl, rfl, Nat.le_of_ble_eq_true rfl, Nat.le_of_ble_eq_true rfl⟩ hl.1 (Nat.le_of_ble_eq_true rfl) ⟨Nat.le_of_ble_eq_true rfl, Nat.le_of_ble_eq_true rfl⟩ rfl (fun r2 τ' H locs hp2 hH => ?_)
    refine lv_icmp_eq (tgt := 649) hx hb d_law_585 (by decide) (fun _ => ?_) (fun c9 => absurd (hp1.1.trans hp2.1.symm) c9)
    exact K n t u S _ _ _ _ _ hp1.2 hp2.2 hH hl
  · refine lv_tableIn (tgt := 590) hx hb d_law_32 (by decide) (by decide) (by rfl) (by decide) ?_
    refine lv_aload_n hx hb d_law_590 rfl (lv_at hl 1 rfl) ?_
    refine lc_J (As := []) (rest := []) Z hA hH d_law_591 okl_J_groups rfl (c_J_groups  hJ hlb) ⟨rfl, rfl, Nat.le_of_ble_eq_true rfl, Nat.le_of_ble_eq_true rfl⟩ hl.1 (Nat.le_of_ble_eq_true rfl) ⟨Nat.le_of_ble_eq_true rfl, Nat.le_of_ble_eq_true rfl⟩ rfl (fun r1 σ' H locs hp1 hH => ?_)
    refine lv_aload_n hx hb d_law_594 rfl (lv_at hl 2 rfl) ?_
    refine lc_M (As := []) (rest := [.int r1]) Z hA hH d_law_595 okl_M_groups rfl (c_M_groups  hM hlb) ⟨rfl, rfl, Nat.le_of_ble_eq_true rfl, Nat.le_of_ble_eq_true rfl⟩ hl.1 (Nat.le_of_ble_eq_true rfl) ⟨Nat.le_of_ble_eq_true rfl, Nat.le_of_ble_eq_true rfl⟩ rfl (fun r2 τ' H locs hp2 hH => ?_)
    refine lv_icmp_eq (tgt := 649) hx hb d_law_598 (by decide) (fun _ => ?_) (fun c9 => absurd (hp1.1.trans hp2.1.symm) c9)
    exact K n t u S _ _ _ _ _ hp1.2 hp2.2 hH hl
  · refine lv_tableIn (tgt := 603) hx hb d_law_32 (by decide) (by decide) (by rfl) (by decide) ?_
    refine lv_aload_n hx hb d_law_603 rfl (lv_at hl 1 rfl) ?_
    refine lv_aload_n hx hb d_law_604 rfl (lv_at hl 0 rfl) ?_
    refine lv_iload_n hx hb d_law_605 rfl (lv_at hl 3 rfl) ?_
    refine lv_iconst (v := nI 1) hx hb d_law_606 (by decide) ?_
    refine zn_iadd hx hb d_law_607 ?_
    refine lc_ld hx hb hX hbl hbA hH.2.2 (by omega) (k := i + 1) (by omega) d_law_608 ?_
    refine lc_J (As := [.int (xs (i + 1))]) (rest := []) Z hA hH d_law_609 okl_J_groupOf rfl (c_J_groupOf (xs (i + 1)) hJ hlb) ⟨rfl, rfl, Nat.le_of_ble_eq_true rfl, Nat.le_of_ble_eq_true rfl⟩ hl.1 (Nat.le_of_ble_eq_true rfl) ⟨Nat.le_of_ble_eq_true rfl, Nat.le_of_ble_eq_true rfl⟩ rfl (fun r1 σ' H locs hp1 hH => ?_)
    refine lv_aload_n hx hb d_law_612 rfl (lv_at hl 2 rfl) ?_
    refine lv_aload_n hx hb d_law_613 rfl (lv_at hl 0 rfl) ?_
    refine lv_iload_n hx hb d_law_614 rfl (lv_at hl 3 rfl) ?_
    refine lv_iconst (v := nI 1) hx hb d_law_615 (by decide) ?_
    refine zn_iadd hx hb d_law_616 ?_
    refine lc_ld hx hb hX hbl hbA hH.2.2 (by omega) (k := i + 1) (by omega) d_law_617 ?_
    refine lc_M (As := [.int (xs (i + 1))]) (rest := [.int r1]) Z hA hH d_law_618 okl_M_groupOf rfl (c_M_groupOf (xs (i + 1)) hM hlb) ⟨rfl, rfl, Nat.le_of_ble_eq_true rfl, Nat.le_of_ble_eq_true rfl⟩ hl.1 (Nat.le_of_ble_eq_true rfl) ⟨Nat.le_of_ble_eq_true rfl, Nat.le_of_ble_eq_true rfl⟩ rfl (fun r2 τ' H locs hp2 hH => ?_)
    refine lv_icmp_eq (tgt := 649) hx hb d_law_621 (by decide) (fun _ => ?_) (fun c9 => absurd (hp1.1.trans hp2.1.symm) c9)
    exact K n t u S _ _ _ _ _ hp1.2 hp2.2 hH hl
  · refine lv_tableIn (tgt := 626) hx hb d_law_32 (by decide) (by decide) (by rfl) (by decide) ?_
    refine lv_aload_n hx hb d_law_626 rfl (lv_at hl 1 rfl) ?_
    refine lv_aload_n hx hb d_law_627 rfl (lv_at hl 0 rfl) ?_
    refine lv_iload_n hx hb d_law_628 rfl (lv_at hl 3 rfl) ?_
    refine lv_iconst (v := nI 1) hx hb d_law_629 (by decide) ?_
    refine zn_iadd hx hb d_law_630 ?_
    refine lc_ld hx hb hX hbl hbA hH.2.2 (by omega) (k := i + 1) (by omega) d_law_631 ?_
    refine lc_J (As := [.int (xs (i + 1))]) (rest := []) Z hA hH d_law_632 okl_J_groupSize rfl (c_J_groupSize (xs (i + 1)) hJ hlb) ⟨rfl, rfl, Nat.le_of_ble_eq_true rfl, Nat.le_of_ble_eq_true rfl⟩ hl.1 (Nat.le_of_ble_eq_true rfl) ⟨Nat.le_of_ble_eq_true rfl, Nat.le_of_ble_eq_true rfl⟩ rfl (fun r1 σ' H locs hp1 hH => ?_)
    refine lv_aload_n hx hb d_law_635 rfl (lv_at hl 2 rfl) ?_
    refine lv_aload_n hx hb d_law_636 rfl (lv_at hl 0 rfl) ?_
    refine lv_iload_n hx hb d_law_637 rfl (lv_at hl 3 rfl) ?_
    refine lv_iconst (v := nI 1) hx hb d_law_638 (by decide) ?_
    refine zn_iadd hx hb d_law_639 ?_
    refine lc_ld hx hb hX hbl hbA hH.2.2 (by omega) (k := i + 1) (by omega) d_law_640 ?_
    refine lc_M (As := [.int (xs (i + 1))]) (rest := [.int r1]) Z hA hH d_law_641 okl_M_groupSize rfl (c_M_groupSize (xs (i + 1)) hM hlb) ⟨rfl, rfl, Nat.le_of_ble_eq_true rfl, Nat.le_of_ble_eq_true rfl⟩ hl.1 (Nat.le_of_ble_eq_true rfl) ⟨Nat.le_of_ble_eq_true rfl, Nat.le_of_ble_eq_true rfl⟩ rfl (fun r2 τ' H locs hp2 hH => ?_)
    refine lv_icmp_eq (tgt := 649) hx hb d_law_644 (by decide) (fun _ => ?_) (fun c9 => absurd (hp1.1.trans hp2.1.symm) c9)
    exact K n t u S _ _ _ _ _ hp1.2 hp2.2 hH hl
  · refine lv_tableOut (tgt := 649) hx hb d_law_32 (Or.inr (by rw [nI_toInt (by omega)]; omega)) (by decide) ?_
    exact K n t u S _ _ _ _ _ hJ hM hH hl
end
section
set_option maxHeartbeats 4000000 in
set_option maxRecDepth 100000 in
/-- THE LAW, from its entry -/
theorem whole_start {p : Program} {e : Env} {s : State} {m : MethodId} {below : List Frame} {meth : Method} {c : Code} (l : Launch) {b L : Nat} {xs : Nat → Int32} (hL : L ≤ 1536) (C0 : lw_At p s m meth c b L xs) : W p l e room_1 s m #[Value.ref b] below meth c s.heap [] 0 0 (lw_Z below #[Value.ref b] s) (entryFrame m ([Value.ref b] : List Value).toArray 4) := by
  obtain ⟨hx, hb, hr, hml, hown, hts0, hX, hbl, hlocks, hgv⟩ := id C0
  have hts : ∀ w ∈ zw_tbl, w.before #[Value.ref b] s = true := fun w hw => hts0 w (zw_good hw).1
  have hA : ∀ q : Nat, s.heap.size ≤ q → (fun q : Nat => s.heap.size ≤ q) q := fun _ h => h
  obtain ⟨c0, iS0, hKn0⟩ := u_known (C := R_J) (T := F_J) (N := 14) (n := 14) hts i_J (hts _ mb_J)
  obtain ⟨c1, iS1, hKn1⟩ := u_known (C := R_M) (T := F_M) (N := 5) (n := 5) hts i_M (hts _ mb_M)
  obtain ⟨cI, kI, compI, hI1, hI2, hI3⟩ := Cond.arrayClass_spec (hts _ ma_int)
  obtain ⟨cZ, kZ, compZ, hZ1, hZ2, hZ3⟩ := Cond.arrayClass_spec (hts _ ma_boolean)
  obtain ⟨D, hK⟩ : ∃ D : va_G, va_K D zcl [(cI, .int), (cZ, .boolean)] s := by
    refine ⟨(fun k => if k = 0 then c0 else c1, fun k => if k = 0 then iS0 else iS1), fun k q hq => ?_, fun k q hq => ?_⟩
    · match k, hq with
      | 0, hq => cases hq; exact hKn0
      | 1, hq => cases hq; exact hKn1
      | k + 2, hq => simp [zcl] at hq
    · match k, hq with
      | 0, hq => cases hq; exact ⟨fun n z => ⟨fun k h => (by cases h), kI, hI2, compI, hI3⟩, hI1⟩
      | 1, hq => cases hq; exact ⟨fun n z => ⟨fun k h => (by cases h), kZ, hZ2, compZ, hZ3⟩, hZ1⟩
      | k + 2, hq => simp at hq
  have Z : zZ R_law p s m c #[Value.ref b] code 4 D cI cZ := ⟨hx, hb, hml, hown, hts, hK⟩
  have hH : zH D (fun q : Nat => s.heap.size ≤ q) s.heap [] s.heap [] := ⟨fun k q h => by simp at h, ⟨fun i j p q h => by simp at h, fun k q h => by simp at h⟩, va_S.rf⟩
  have hl := lv_entry ([.ref b]) (n := 4) (Nat.le_of_ble_eq_true rfl)
  rw [lg_entry_eq]
  generalize (lg_sl ([.ref b]) ++ List.replicate (4 - (lg_sl ([.ref b])).length) Slot.unset).toArray = ls at hl ⊢
  have hl : lv_has ls 4 [(0, .ref b)] := hl
  refine va_new (ci := 0) (fs := bl_J) (C := R_J) (T := F_J) (N := 14) hx hb hts i_J t_J t_J_ok hown (hts _ mcl_J) (hts _ mb_J) (hts _ mi_J) hK hH.1 hH.2.1 hH.2.2 hA rfl (by decide +kernel) (Nat.le_of_ble_eq_true rfl) (Nat.le_of_ble_eq_true rfl) d_law_0 (fun qJ H h1 h2 h3 => ?_)
  have hH : zH D (fun q : Nat => s.heap.size ≤ q) s.heap [(qJ, .inr (0, bl_J))] H [] := ⟨h1, h2, h3⟩
  refine lv_dup hx hb d_law_3 rfl ?_
  refine zcallI (rest := [.ref qJ]) (wc := [(qJ, .inr (0, bl_J))]) (wr := []) Z (fun sz => c_J_init qJ sz) ml_law_9 mn_J_init mi_J mc_J_init (by decide +kernel) rfl ⟨rfl, rfl, Nat.le_of_ble_eq_true rfl, Nat.le_of_ble_eq_true rfl⟩ hA hH [0] [] rfl rfl (by decide) (by decide) (by decide) hl.1 (Nat.le_of_ble_eq_true rfl) ⟨Nat.le_of_ble_eq_true rfl, Nat.le_of_ble_eq_true rfl⟩ d_law_4 (fun h H locs hh hH2 => ?_)
  subst hh
  have hH : zH D (fun q : Nat => s.heap.size ≤ q) s.heap (jw h cI s0_J) H locs := hH2
  refine lv_astore_n (lv' := [(1, .ref (h 0)), (0, .ref b)]) hx hb d_law_7 rfl hl (by decide) rfl (fun ls hl => ?_)
  refine va_new (ci := 1) (fs := bl_M) (C := R_M) (T := F_M) (N := 5) hx hb hts i_M t_M t_M_ok hown (hts _ mcl_M) (hts _ mb_M) (hts _ mi_M) hK hH.1 hH.2.1 hH.2.2 hA rfl (by decide +kernel) (Nat.le_of_ble_eq_true rfl) (Nat.le_of_ble_eq_true rfl) d_law_8 (fun qM H h1 h2 h3 => ?_)
  have hH : zH D (fun q : Nat => s.heap.size ≤ q) s.heap (jw h cI s0_J ++ [(qM, .inr (1, bl_M))]) H locs := ⟨h1, h2, h3⟩
  refine lv_dup hx hb d_law_11 rfl ?_
  refine zcallI (rest := [.ref qM]) (wc := [(qM, .inr (1, bl_M))]) (wr := jw h cI s0_J) Z (fun sz => c_M_init qM sz) ml_law_12 mn_M_init mi_M mc_M_init (by decide +kernel) rfl ⟨rfl, rfl, Nat.le_of_ble_eq_true rfl, Nat.le_of_ble_eq_true rfl⟩ hA hH [9] [0, 1, 2, 3, 4, 5, 6, 7, 8] rfl rfl (by decide) (by decide) (by decide) hl.1 (Nat.le_of_ble_eq_true rfl) ⟨Nat.le_of_ble_eq_true rfl, Nat.le_of_ble_eq_true rfl⟩ d_law_12 (fun g H locs hg hH2 => ?_)
  subst hg
  have hH : zH D (fun q : Nat => s.heap.size ≤ q) s.heap (jw h cI s0_J ++ mw g cI cZ s0_M) H locs := hH2
  refine lv_astore_n (lv' := [(2, .ref (g 0)), (1, .ref (h 0)), (0, .ref b)]) hx hb d_law_15 rfl hl (by decide) rfl (fun ls hl => ?_)
  refine lv_iconst (v := nI 0) hx hb d_law_16 (by decide) ?_
  refine lv_istore_n (lv' := [(3, .int (nI 0)), (2, .ref (g 0)), (1, .ref (h 0)), (0, .ref b)]) hx hb d_law_17 rfl hl (by decide) rfl (fun ls hl => ?_)
  refine W.widen (k := 12) (n := 1091) (Nat.le_of_ble_eq_true rfl) (Nat.le_of_ble_eq_true rfl) ?_
  exact law_loop hL C0 hK _ _ _ _ ⟨0, 0, 1, 2, fun _ _ => false, s0_J, s0_M, rfl, Nat.zero_le _, jInv_0, mInv_0, hH, lv_sub hl [3, 2, 1, 0] rfl⟩
set_option maxHeartbeats 4000000 in
theorem lw_walk (l : Launch) (b : Addr) (xs : List Int32) : MetFree l x (headSpec (Jvm.Cond.code x code maxLocals ret :: tables_1) room_1) (lw_P b xs) (fun _ _ _ _ _ => True) lw_Q := by
  refine MetFree.of_bodyS (code := code) (maxLocals := maxLocals) (ret := ret) (by decide) ?_ ?_
  · intro args s m h hn
    obtain ⟨meth, c, h1, h2, h3, h4, h5, h6, -, -⟩ := Cond.code_spec hn (atoms_spec (ws := Jvm.Cond.code x code maxLocals ret :: tables_1) h _ List.mem_cons_self)
    exact ⟨meth, c, h1, h2, h3, h4, h5, h6⟩
  · intro p e s m args below meth c s₁ B hml0 hP _
    obtain ⟨rfl, hx, hbd, hgv⟩ := hP
    obtain ⟨scr, harrAt, hlist, hof, hsmall⟩ := hx
    obtain ⟨hcb, hkn, -, -⟩ := State.arrayAt?_spec harrAt
    have hown : s.vm.findClass R_law = some m.cls := findClass_of_methodNamed B.named
    have hts0 : ∀ c ∈ (Jvm.Cond.code x code maxLocals ret :: tables_1), c.before #[Value.ref b] s = true := atoms_spec (ws := Jvm.Cond.code x code maxLocals ret :: tables_1) B.pre
    have hts : ∀ w ∈ lw_tbl, w.before #[Value.ref b] s = true := k2_hts_sels lw_privs (fun w hw => hts0 w (List.mem_cons_of_mem _ hw)) lw_privs_ok
    have hml : c.maxLocals = 4 := B.maxLocals_eq (hts0 _ List.mem_cons_self)
    have X₀ : Stand p l e room_1 s m #[Value.ref b] below meth c s₁ [] 0 0 := Stand.of_body B
    have hh0 : s₁.heap = s.heap := by rw [B.state]; rfl
    have hsz : scr.slots.size = xs.length := by rw [← Array.length_toList, hlist, List.length_map]
    have hval : ∀ j : Nat, j < xs.length → scr.slots[j]? = some (.int (xs.getD j 0)) := fun j hj => by
      rw [← Array.getElem?_toList, hlist]
      simp [hj]
    have hbl : b < s.heap.size := (Array.getElem?_eq_some_iff.mp hcb).1
    have hX : va_X b xs.length (fun j => xs.getD j 0) s s.heap := ⟨scr, hcb, hof, hkn, hsz, hval⟩
    have K : W p l e room_1 s m #[Value.ref b] below meth c s₁.heap [] 0 0 (lw_Z below #[Value.ref b] s) (entryFrame m ([Value.ref b] : List Value).toArray 4) := by
      rw [hh0]
      exact whole_start l hbd ⟨B.exec, B.bytes, B.returns, hml, hown, hts, hX, hbl, B.notSynchronized, hgv⟩
    obtain ⟨t, a1, o, b1, b2, b3⟩ := K s₁ rfl X₀
    exact ⟨t, o, a1, b1, b2, b3⟩
theorem lw_pre_spec {args : Array Value} {s : State} (h : (Jvm.Cond.and given_1 narrow_1).before args s = true) (hr : rest_1_c.before args s = true) : ∃ (b : Addr) (xs : List Int32), lw_P b xs args s := by
  have hs := flat_of_before _ h
  have hq := flat_of_before _ hr
  have hc : (Cond.count 1).before args s = true := hs _ (by decide +kernel)
  have harr : (Cond.arrayOf (.arg 0) .int).before args s = true := hs _ (by decide +kernel)
  have hle : (Cond.le (.length (.arg 0)) (.int 1536)).before args s = true := hs _ (by decide +kernel)
  have hlen : (Cond.isInt (.length (.arg 0))).before args s = true := hq _ (by decide +kernel)
  have hall : (Cond.all (.arg 0) (.isInt (.elem (.arg 0) (.index 0)))).before args s = true := hq _ (by decide +kernel)
  obtain ⟨b, xs, hb, hx⟩ := State.ints_of_pre rfl harr hlen hall
  have hsm : xs.length < 2 ^ 31 := hx.choose_spec.2.2.2
  have hev : (Term.length (.arg 0)).eval args s none [] s = some (.int xs.length.toInt32) := hx.length_eval hb
  have hv := Cond.le_ints hev (show (Term.int 1536).eval args s none [] s = some (.int 1536) from rfl)
  have hd : xs.length.toInt32 ≤ 1536 := by
    simpa [Cond.before, Cond.holds, hv] using hle
  have hN : xs.length ≤ 1536 := (Int32.ofNat_le_ofNat hsm (by decide)).mp (show Int32.ofNat xs.length ≤ Int32.ofNat 1536 from hd)
  exact ⟨b, xs, Cond.one_arg hc (show args[0]? = some (.ref b) from hb), hx, hN, h⟩
theorem lw_comes (l : Launch) : Comes l x (Jvm.Cond.code x code maxLocals ret :: tables_1) room_1 (fun tb e args s => Calls_1 tb e args s ∧ rest_1 tb e args s ∧ Pre_1 tb e args s)
    (fun _ _ args s o t => lw_Q args s o t) := by
  intro p e ha hc hk s m args below hf hfit hheap happ hpre
  obtain ⟨b, xs, hP⟩ := lw_pre_spec hpre.2.2 hpre.2.1
  obtain ⟨k, o, h1, h2, h3, hQ⟩ := lw_walk l b xs p e ha hc hk s m args below hf ((Spec.applies_iff_loose hf).mp happ).1 hP trivial
  exact ⟨k, o, h1, h2, h3, hQ⟩
theorem lw_frame {s t : State} {o : Outcome} {args : Array Value} (h : Framed s o t [] 12 1091) :
    Framed s o t (fieldLocs frame_1_writes args s ++ arrayLocs frame_1_arrays args s ++ staticLocs frame_1_statics s) 12 1091 := h
theorem lw_limb (L : Cond) (hL : ∀ (args : Array Value) (s t : State), L.after args s (.returned (some (.int 1))) t = true) :
    ArmFor flags0 classFile x code maxLocals ret World_1 tables_1 room_1 Calls_1 rest_1 Pre_1
      (fun tb e a s o t => postC L tb e a s o t ∧ Framed s o t (fieldLocs frame_1_writes a s ++ arrayLocs frame_1_arrays a s ++ staticLocs frame_1_statics s) 12 1091) := by
  intro l _ _ _ p e ha hc hk s m args below hf hfit hheap happ hpre
  obtain ⟨k, o, h1, h2, h3, rfl, hF⟩ := lw_comes l p e ha hc hk s m args below hf hfit hheap happ hpre
  exact ⟨k, _, h1, h2, h3, hL args s _, lw_frame hF⟩
theorem i_vc : Claimed_1_1 ∧ Claimed_1_2 := ⟨lw_limb limb_1_1 (fun args s t => by simp [limb_1_1, Cond.after, Cond.holds, Cond.value]), lw_limb limb_1_2 (fun args s t => Cond.after_iff.mpr (by
  first | (rw [show limb_1_2 = Cond.eq .result (.int 1) from rfl, Cond.eq_ints (x := 1) (y := 1) rfl rfl]; simp; done) | (simp [limb_1_2, Cond.value, Term.eval]; done)))⟩
end
