section
/-- a private method of a class that the tables say can be made, by its rows of tables_1 -/
def lw_okq (q : MethodName × Nat) : Prop := (q.1.cls ≠ "java/lang/invoke/MethodHandle" ∧ q.1.cls ≠ "java/lang/invoke/VarHandle") ∧ Cond.instantiable q.1.cls q.2 ∈ tables_1 ∧ Cond.privateMethod q.1 ∈ tables_1 ∧ Cond.instanceMethod q.1 ∈ tables_1
theorem lw_p0 : lw_okq (⟨"PropertyTrie$Records", "intern", "()I"⟩, 5) := ⟨⟨by decide +kernel, by decide +kernel⟩, List.mem_of_getElem? (i := 18) (by decide +kernel), List.mem_of_getElem? (i := 71) (by decide +kernel), List.mem_of_getElem? (i := 72) (by decide +kernel)⟩
theorem lw_p1 : lw_okq (⟨"PropertyTrie$Records", "slot", "([II)I"⟩, 5) := ⟨⟨by decide +kernel, by decide +kernel⟩, List.mem_of_getElem? (i := 18) (by decide +kernel), List.mem_of_getElem? (i := 75) (by decide +kernel), List.mem_of_getElem? (i := 76) (by decide +kernel)⟩
theorem lw_p2 : lw_okq (⟨"PropertyTrie$Records", "spread", "()V"⟩, 5) := ⟨⟨by decide +kernel, by decide +kernel⟩, List.mem_of_getElem? (i := 18) (by decide +kernel), List.mem_of_getElem? (i := 82) (by decide +kernel), List.mem_of_getElem? (i := 83) (by decide +kernel)⟩
theorem lw_p3 : lw_okq (⟨"PropertyTrie$Records", "link", "()V"⟩, 5) := ⟨⟨by decide +kernel, by decide +kernel⟩, List.mem_of_getElem? (i := 18) (by decide +kernel), List.mem_of_getElem? (i := 86) (by decide +kernel), List.mem_of_getElem? (i := 87) (by decide +kernel)⟩
theorem lw_p4 : lw_okq (⟨"java/lang/Throwable", "fillInStackTrace", "(I)Ljava/lang/Throwable;"⟩, 6) := ⟨⟨by decide +kernel, by decide +kernel⟩, List.mem_of_getElem? (i := 161) (by decide +kernel), List.mem_of_getElem? (i := 159) (by decide +kernel), List.mem_of_getElem? (i := 160) (by decide +kernel)⟩
theorem lw_p5 : lw_okq (⟨"PropertyTrie$Trie", "changed", "(IIII)I"⟩, 6) := ⟨⟨by decide +kernel, by decide +kernel⟩, List.mem_of_getElem? (i := 41) (by decide +kernel), List.mem_of_getElem? (i := 190) (by decide +kernel), List.mem_of_getElem? (i := 191) (by decide +kernel)⟩
theorem lw_p6 : lw_okq (⟨"PropertyTrie$Trie", "own", "(I)I"⟩, 6) := ⟨⟨by decide +kernel, by decide +kernel⟩, List.mem_of_getElem? (i := 41) (by decide +kernel), List.mem_of_getElem? (i := 203) (by decide +kernel), List.mem_of_getElem? (i := 204) (by decide +kernel)⟩
theorem lw_p7 : lw_okq (⟨"PropertyTrie$Trie", "squeeze", "()V"⟩, 6) := ⟨⟨by decide +kernel, by decide +kernel⟩, List.mem_of_getElem? (i := 41) (by decide +kernel), List.mem_of_getElem? (i := 212) (by decide +kernel), List.mem_of_getElem? (i := 213) (by decide +kernel)⟩
theorem lw_p8 : lw_okq (⟨"PropertyTrieModel", "out", "(I)Z"⟩, 4) := ⟨⟨by decide +kernel, by decide +kernel⟩, List.mem_of_getElem? (i := 259) (by decide +kernel), List.mem_of_getElem? (i := 291) (by decide +kernel), List.mem_of_getElem? (i := 292) (by decide +kernel)⟩
theorem lw_p9 : lw_okq (⟨"PropertyTrieModel", "fail", "(I)I"⟩, 4) := ⟨⟨by decide +kernel, by decide +kernel⟩, List.mem_of_getElem? (i := 259) (by decide +kernel), List.mem_of_getElem? (i := 296) (by decide +kernel), List.mem_of_getElem? (i := 297) (by decide +kernel)⟩
theorem lw_p10 : lw_okq (⟨"PropertyTrieModel", "cut", "(I)V"⟩, 4) := ⟨⟨by decide +kernel, by decide +kernel⟩, List.mem_of_getElem? (i := 259) (by decide +kernel), List.mem_of_getElem? (i := 300) (by decide +kernel), List.mem_of_getElem? (i := 301) (by decide +kernel)⟩
theorem lw_p11 : lw_okq (⟨"PropertyTrieModel", "at", "(I)I"⟩, 4) := ⟨⟨by decide +kernel, by decide +kernel⟩, List.mem_of_getElem? (i := 259) (by decide +kernel), List.mem_of_getElem? (i := 304) (by decide +kernel), List.mem_of_getElem? (i := 305) (by decide +kernel)⟩
def lw_privs_1 : List (MethodName × Nat) := [(⟨"PropertyTrie$Records", "intern", "()I"⟩, 5), (⟨"PropertyTrie$Records", "slot", "([II)I"⟩, 5), (⟨"PropertyTrie$Records", "spread", "()V"⟩, 5), (⟨"PropertyTrie$Records", "link", "()V"⟩, 5), (⟨"java/lang/Throwable", "fillInStackTrace", "(I)Ljava/lang/Throwable;"⟩, 6), (⟨"PropertyTrie$Trie", "changed", "(IIII)I"⟩, 6), (⟨"PropertyTrie$Trie", "own", "(I)I"⟩, 6), (⟨"PropertyTrie$Trie", "squeeze", "()V"⟩, 6), (⟨"PropertyTrieModel", "out", "(I)Z"⟩, 4), (⟨"PropertyTrieModel", "fail", "(I)I"⟩, 4), (⟨"PropertyTrieModel", "cut", "(I)V"⟩, 4), (⟨"PropertyTrieModel", "at", "(I)I"⟩, 4)]
theorem lw_r1 : ∀ q ∈ lw_privs_1, lw_okq q := List.forall_mem_cons.mpr ⟨lw_p0, List.forall_mem_cons.mpr ⟨lw_p1, List.forall_mem_cons.mpr ⟨lw_p2, List.forall_mem_cons.mpr ⟨lw_p3, List.forall_mem_cons.mpr ⟨lw_p4, List.forall_mem_cons.mpr ⟨lw_p5, List.forall_mem_cons.mpr ⟨lw_p6, List.forall_mem_cons.mpr ⟨lw_p7, List.forall_mem_cons.mpr ⟨lw_p8, List.forall_mem_cons.mpr ⟨lw_p9, List.forall_mem_cons.mpr ⟨lw_p10, List.forall_mem_cons.mpr ⟨lw_p11, fun _ h => absurd h List.not_mem_nil⟩⟩⟩⟩⟩⟩⟩⟩⟩⟩⟩⟩
def lw_privs : List (MethodName × Nat) := lw_privs_1
def lw_tbl : List Cond := k2_sels lw_privs ++ tables_1
theorem lw_privs_ok : ∀ q ∈ lw_privs, lw_okq q := lw_r1
def R_PT : String := "PropertyTrie"
def F_PT : u_T := fun k => match k with
  | 0 => ("PropertyTrie", "records", "LPropertyTrie$Records;", true)
  | _ => ("PropertyTrie", "trie", "LPropertyTrie$Trie;", true)
def t_PT : Nat → FieldType := fun k => match k with
  | 0 => .object "PropertyTrie$Records"
  | _ => .object "PropertyTrie$Trie"
def R_Rec : String := "PropertyTrie$Records"
def F_Rec : u_T := fun k => match k with
  | 0 => ("PropertyTrie$Records", "rows", "[I", false)
  | 1 => ("PropertyTrie$Records", "next", "[I", false)
  | 2 => ("PropertyTrie$Records", "heads", "[I", false)
  | 3 => ("PropertyTrie$Records", "count", "I", false)
  | _ => ("PropertyTrie$Records", "trial", "[I", true)
def t_Rec : Nat → FieldType := fun k => match k with
  | 0 => .array .int
  | 1 => .array .int
  | 2 => .array .int
  | 3 => .int
  | _ => .array .int
def R_Tri : String := "PropertyTrie$Trie"
def F_Tri : u_T := fun k => match k with
  | 0 => ("PropertyTrie$Trie", "records", "LPropertyTrie$Records;", true)
  | 1 => ("PropertyTrie$Trie", "index", "[I", true)
  | 2 => ("PropertyTrie$Trie", "blocks", "[I", false)
  | 3 => ("PropertyTrie$Trie", "used", "I", false)
  | 4 => ("PropertyTrie$Trie", "marks", "[I", false)
  | _ => ("PropertyTrie$Trie", "most", "I", false)
def t_Tri : Nat → FieldType := fun k => match k with
  | 0 => .object "PropertyTrie$Records"
  | 1 => .array .int
  | 2 => .array .int
  | 3 => .int
  | 4 => .array .int
  | _ => .int
def R_Mod : String := "PropertyTrieModel"
def F_Mod : u_T := fun k => match k with
  | 0 => ("PropertyTrieModel", "failed", "I", false)
  | 1 => ("PropertyTrieModel", "count", "I", false)
  | 2 => ("PropertyTrieModel", "starts", "[I", true)
  | _ => ("PropertyTrieModel", "fields", "[I", true)
def t_Mod : Nat → FieldType := fun k => match k with
  | 0 => .int
  | 1 => .int
  | 2 => .array .int
  | _ => .array .int
def R_IAE : String := "java/lang/IllegalArgumentException"
def F_IAE : u_T := fun k => match k with
  | _ => ("", "", "", false)
def t_IAE : Nat → FieldType := fun k => match k with
  | _ => .int
def R_Law : String := "PropertyTrieLaw"
abbrev xcl : List vw_C := [(R_PT, F_PT, 2), (R_Rec, F_Rec, 5), (R_Tri, F_Tri, 6), (R_Mod, F_Mod, 4), (R_IAE, F_IAE, 0)]
def xgood : Cond → Bool
  | .arrayClass _ => true
  | .fieldLinkNest .. => true
  | .methodLinkNest .. => true
  | w => w.onTables && w.keepsFace
/-- the words that every method of the system carries: all of the tables' but the two on statics -/
def xtb : List Cond := lw_tbl.filter xgood
theorem xws_PT : ∀ w ∈ u_ws R_PT F_PT 2, w ∈ xtb := by decide +kernel
theorem xnm_PT : ∀ a, a < 2 → ∀ b, b < 2 → a ≠ b → (F_PT a).2.1 ≠ (F_PT b).2.1 := by decide +kernel
theorem xty_PT : ∀ k, k < 2 → parseFieldDescriptor (F_PT k).2.2.1 = some (t_PT k) := by decide +kernel
theorem xws_Rec : ∀ w ∈ u_ws R_Rec F_Rec 5, w ∈ xtb := by decide +kernel
theorem xnm_Rec : ∀ a, a < 5 → ∀ b, b < 5 → a ≠ b → (F_Rec a).2.1 ≠ (F_Rec b).2.1 := by decide +kernel
theorem xty_Rec : ∀ k, k < 5 → parseFieldDescriptor (F_Rec k).2.2.1 = some (t_Rec k) := by decide +kernel
theorem xws_Tri : ∀ w ∈ u_ws R_Tri F_Tri 6, w ∈ xtb := by decide +kernel
theorem xnm_Tri : ∀ a, a < 6 → ∀ b, b < 6 → a ≠ b → (F_Tri a).2.1 ≠ (F_Tri b).2.1 := by decide +kernel
theorem xty_Tri : ∀ k, k < 6 → parseFieldDescriptor (F_Tri k).2.2.1 = some (t_Tri k) := by decide +kernel
theorem xws_Mod : ∀ w ∈ u_ws R_Mod F_Mod 4, w ∈ xtb := by decide +kernel
theorem xnm_Mod : ∀ a, a < 4 → ∀ b, b < 4 → a ≠ b → (F_Mod a).2.1 ≠ (F_Mod b).2.1 := by decide +kernel
theorem xty_Mod : ∀ k, k < 4 → parseFieldDescriptor (F_Mod k).2.2.1 = some (t_Mod k) := by decide +kernel
theorem xws_IAE : ∀ w ∈ u_ws R_IAE F_IAE 0, w ∈ xtb := by decide +kernel
theorem xnm_IAE : ∀ a, a < 0 → ∀ b, b < 0 → a ≠ b → (F_IAE a).2.1 ≠ (F_IAE b).2.1 := by decide +kernel
theorem xty_IAE : ∀ k, k < 0 → parseFieldDescriptor (F_IAE k).2.2.1 = some (t_IAE k) := by decide +kernel
abbrev b_PT_longer : ByteArray := prog_1_method_1_code
def y_PT_longer : MethodName := ⟨R_PT, "longer", "([I)[I"⟩
abbrev b_PT_init : ByteArray := prog_1_method_2_code
def y_PT_init : MethodName := ⟨R_PT, "<init>", "()V"⟩
abbrev b_PT_in : ByteArray := prog_1_method_3_code
def y_PT_in : MethodName := ⟨R_PT, "in", "(III)V"⟩
abbrev b_PT_set : ByteArray := prog_1_method_4_code
def y_PT_set : MethodName := ⟨R_PT, "set", "(IIII)I"⟩
abbrev b_PT_mark : ByteArray := prog_1_method_5_code
def y_PT_mark : MethodName := ⟨R_PT, "mark", "(IIIII)I"⟩
abbrev b_PT_get : ByteArray := prog_1_method_6_code
def y_PT_get : MethodName := ⟨R_PT, "get", "(II)I"⟩
abbrev b_PT_change : ByteArray := prog_1_method_7_code
def y_PT_change : MethodName := ⟨R_PT, "change", "(II)I"⟩
abbrev b_PT_alike : ByteArray := prog_1_method_8_code
def y_PT_alike : MethodName := ⟨R_PT, "alike", "(II)Z"⟩
abbrev b_PT_hash : ByteArray := prog_1_method_9_code
def y_PT_hash : MethodName := ⟨R_PT, "hash", "(III)I"⟩
abbrev b_PT_clear : ByteArray := prog_1_method_10_code
def y_PT_clear : MethodName := ⟨R_PT, "clear", "()I"⟩
abbrev b_Mod_init : ByteArray := prog_5_method_1_code
def y_Mod_init : MethodName := ⟨R_Mod, "<init>", "()V"⟩
abbrev b_Mod_thrown : ByteArray := prog_5_method_2_code
def y_Mod_thrown : MethodName := ⟨R_Mod, "thrown", "()I"⟩
abbrev b_Mod_fail : ByteArray := prog_5_method_3_code
def y_Mod_fail : MethodName := ⟨R_Mod, "fail", "(I)I"⟩
abbrev b_Mod_at : ByteArray := prog_5_method_4_code
def y_Mod_at : MethodName := ⟨R_Mod, "at", "(I)I"⟩
abbrev b_Mod_cut : ByteArray := prog_5_method_5_code
def y_Mod_cut : MethodName := ⟨R_Mod, "cut", "(I)V"⟩
abbrev b_Mod_out : ByteArray := prog_5_method_6_code
def y_Mod_out : MethodName := ⟨R_Mod, "out", "(I)Z"⟩
abbrev b_Mod_set : ByteArray := prog_5_method_7_code
def y_Mod_set : MethodName := ⟨R_Mod, "set", "(IIII)I"⟩
abbrev b_Mod_mark : ByteArray := prog_5_method_8_code
def y_Mod_mark : MethodName := ⟨R_Mod, "mark", "(IIIII)I"⟩
abbrev b_Mod_get : ByteArray := prog_5_method_9_code
def y_Mod_get : MethodName := ⟨R_Mod, "get", "(II)I"⟩
abbrev b_Mod_change : ByteArray := prog_5_method_10_code
def y_Mod_change : MethodName := ⟨R_Mod, "change", "(II)I"⟩
abbrev b_Mod_alike : ByteArray := prog_5_method_11_code
def y_Mod_alike : MethodName := ⟨R_Mod, "alike", "(II)Z"⟩
abbrev b_Mod_hash : ByteArray := prog_5_method_12_code
def y_Mod_hash : MethodName := ⟨R_Mod, "hash", "(III)I"⟩
abbrev b_Mod_clear : ByteArray := prog_5_method_13_code
def y_Mod_clear : MethodName := ⟨R_Mod, "clear", "()I"⟩
abbrev b_Rec_init : ByteArray := prog_2_method_1_code
def y_Rec_init : MethodName := ⟨R_Rec, "<init>", "()V"⟩
abbrev b_Rec_clear : ByteArray := prog_2_method_2_code
def y_Rec_clear : MethodName := ⟨R_Rec, "clear", "()V"⟩
abbrev b_Rec_count : ByteArray := prog_2_method_3_code
def y_Rec_count : MethodName := ⟨R_Rec, "count", "()I"⟩
abbrev b_Rec_keep : ByteArray := prog_2_method_4_code
def y_Rec_keep : MethodName := ⟨R_Rec, "keep", "([I)V"⟩
abbrev b_Rec_field : ByteArray := prog_2_method_5_code
def y_Rec_field : MethodName := ⟨R_Rec, "field", "(II)I"⟩
abbrev b_Rec_with : ByteArray := prog_2_method_6_code
def y_Rec_with : MethodName := ⟨R_Rec, "with", "(III)I"⟩
abbrev b_Rec_slot : ByteArray := prog_2_method_7_code
def y_Rec_slot : MethodName := ⟨R_Rec, "slot", "([II)I"⟩
abbrev b_Rec_intern : ByteArray := prog_2_method_8_code
def y_Rec_intern : MethodName := ⟨R_Rec, "intern", "()I"⟩
abbrev b_Rec_spread : ByteArray := prog_2_method_9_code
def y_Rec_spread : MethodName := ⟨R_Rec, "spread", "()V"⟩
abbrev b_Rec_link : ByteArray := prog_2_method_10_code
def y_Rec_link : MethodName := ⟨R_Rec, "link", "()V"⟩
abbrev b_Tri_init : ByteArray := prog_3_method_1_code
def y_Tri_init : MethodName := ⟨R_Tri, "<init>", "(LPropertyTrie$Records;)V"⟩
abbrev b_Tri_clear : ByteArray := prog_3_method_2_code
def y_Tri_clear : MethodName := ⟨R_Tri, "clear", "()V"⟩
abbrev b_Tri_record : ByteArray := prog_3_method_3_code
def y_Tri_record : MethodName := ⟨R_Tri, "record", "(I)I"⟩
abbrev b_Tri_get : ByteArray := prog_3_method_4_code
def y_Tri_get : MethodName := ⟨R_Tri, "get", "(II)I"⟩
abbrev b_Tri_own : ByteArray := prog_3_method_5_code
def y_Tri_own : MethodName := ⟨R_Tri, "own", "(I)I"⟩
abbrev b_Tri_set : ByteArray := prog_3_method_6_code
def y_Tri_set : MethodName := ⟨R_Tri, "set", "(IIIII)V"⟩
abbrev b_Tri_squeeze : ByteArray := prog_3_method_7_code
def y_Tri_squeeze : MethodName := ⟨R_Tri, "squeeze", "()V"⟩
abbrev b_Tri_changed : ByteArray := prog_3_method_8_code
def y_Tri_changed : MethodName := ⟨R_Tri, "changed", "(IIII)I"⟩
abbrev b_Law_set : ByteArray := method_3_code
def y_Law_set : MethodName := ⟨R_Law, "set", "(LPropertyTrie;IIII[J)I"⟩
abbrev b_Law_mark : ByteArray := method_4_code
def y_Law_mark : MethodName := ⟨R_Law, "mark", "(LPropertyTrie;IIIII[J)I"⟩
abbrev b_Law_get : ByteArray := method_5_code
def y_Law_get : MethodName := ⟨R_Law, "get", "(LPropertyTrie;II[J)I"⟩
abbrev b_Law_change : ByteArray := method_6_code
def y_Law_change : MethodName := ⟨R_Law, "change", "(LPropertyTrie;II[J)I"⟩
abbrev b_Law_alike : ByteArray := method_7_code
def y_Law_alike : MethodName := ⟨R_Law, "alike", "(LPropertyTrie;II[J)I"⟩
abbrev b_Law_hash : ByteArray := method_8_code
def y_Law_hash : MethodName := ⟨R_Law, "hash", "(LPropertyTrie;III[J)I"⟩
abbrev b_Law_law : ByteArray := code
def y_Law_law : MethodName := ⟨R_Law, "law", "([I)Z"⟩
theorem tb_of {i : Nat} {c : Cond} (h : tables_1[i]? = some c) (hg : xgood c = true) : c ∈ xtb := List.mem_filter.mpr ⟨List.mem_append_right _ (List.mem_of_getElem? h), hg⟩
theorem tb_sel {i : Nat} {c : Cond} (h : (k2_sels lw_privs)[i]? = some c) (hg : xgood c = true) : c ∈ xtb := List.mem_filter.mpr ⟨List.mem_append_left _ (List.mem_of_getElem? h), hg⟩
end
section
theorem d_PT_longer_0 : decode b_PT_longer 0 = .ok (.iconst 2, 1) := by decide +kernel
theorem d_PT_longer_1 : decode b_PT_longer 1 = .ok (.aload_n 0, 1) := by decide +kernel
theorem d_PT_longer_2 : decode b_PT_longer 2 = .ok (.arraylength, 1) := by decide +kernel
theorem d_PT_longer_3 : decode b_PT_longer 3 = .ok (.imul, 1) := by decide +kernel
theorem d_PT_longer_4 : decode b_PT_longer 4 = .ok (.newarray .int, 2) := by decide +kernel
theorem d_PT_longer_6 : decode b_PT_longer 6 = .ok (.astore_n 1, 1) := by decide +kernel
theorem d_PT_longer_7 : decode b_PT_longer 7 = .ok (.iconst 0, 1) := by decide +kernel
theorem d_PT_longer_8 : decode b_PT_longer 8 = .ok (.istore_n 2, 1) := by decide +kernel
theorem d_PT_longer_9 : decode b_PT_longer 9 = .ok (.iload_n 2, 1) := by decide +kernel
theorem d_PT_longer_10 : decode b_PT_longer 10 = .ok (.aload_n 0, 1) := by decide +kernel
theorem d_PT_longer_11 : decode b_PT_longer 11 = .ok (.arraylength, 1) := by decide +kernel
theorem d_PT_longer_12 : decode b_PT_longer 12 = .ok (.if_icmp .ge 15, 3) := by decide +kernel
theorem d_PT_longer_15 : decode b_PT_longer 15 = .ok (.aload_n 1, 1) := by decide +kernel
theorem d_PT_longer_16 : decode b_PT_longer 16 = .ok (.iload_n 2, 1) := by decide +kernel
theorem d_PT_longer_17 : decode b_PT_longer 17 = .ok (.aload_n 0, 1) := by decide +kernel
theorem d_PT_longer_18 : decode b_PT_longer 18 = .ok (.iload_n 2, 1) := by decide +kernel
theorem d_PT_longer_19 : decode b_PT_longer 19 = .ok (.iaload, 1) := by decide +kernel
theorem d_PT_longer_20 : decode b_PT_longer 20 = .ok (.iastore, 1) := by decide +kernel
theorem d_PT_longer_21 : decode b_PT_longer 21 = .ok (.iinc 2 1, 3) := by decide +kernel
theorem d_PT_longer_24 : decode b_PT_longer 24 = .ok (.goto (-15), 3) := by decide +kernel
theorem d_PT_longer_27 : decode b_PT_longer 27 = .ok (.aload_n 1, 1) := by decide +kernel
theorem d_PT_longer_28 : decode b_PT_longer 28 = .ok (.areturn, 1) := by decide +kernel
theorem d_PT_init_0 : decode b_PT_init 0 = .ok (.aload_n 0, 1) := by decide +kernel
theorem d_PT_init_1 : decode b_PT_init 1 = .ok (.invokespecial 1, 3) := by decide +kernel
theorem d_PT_init_4 : decode b_PT_init 4 = .ok (.aload_n 0, 1) := by decide +kernel
theorem d_PT_init_5 : decode b_PT_init 5 = .ok (.new 7, 3) := by decide +kernel
theorem d_PT_init_8 : decode b_PT_init 8 = .ok (.dup, 1) := by decide +kernel
theorem d_PT_init_9 : decode b_PT_init 9 = .ok (.invokespecial 9, 3) := by decide +kernel
theorem d_PT_init_12 : decode b_PT_init 12 = .ok (.putfield 10, 3) := by decide +kernel
theorem d_PT_init_15 : decode b_PT_init 15 = .ok (.aload_n 0, 1) := by decide +kernel
theorem d_PT_init_16 : decode b_PT_init 16 = .ok (.new 16, 3) := by decide +kernel
theorem d_PT_init_19 : decode b_PT_init 19 = .ok (.dup, 1) := by decide +kernel
theorem d_PT_init_20 : decode b_PT_init 20 = .ok (.aload_n 0, 1) := by decide +kernel
theorem d_PT_init_21 : decode b_PT_init 21 = .ok (.getfield 10, 3) := by decide +kernel
theorem d_PT_init_24 : decode b_PT_init 24 = .ok (.invokespecial 18, 3) := by decide +kernel
theorem d_PT_init_27 : decode b_PT_init 27 = .ok (.putfield 21, 3) := by decide +kernel
theorem d_PT_init_30 : decode b_PT_init 30 = .ok (.aload_n 0, 1) := by decide +kernel
theorem d_PT_init_31 : decode b_PT_init 31 = .ok (.getfield 10, 3) := by decide +kernel
theorem d_PT_init_34 : decode b_PT_init 34 = .ok (.invokevirtual 25, 3) := by decide +kernel
theorem d_PT_init_37 : decode b_PT_init 37 = .ok (.aload_n 0, 1) := by decide +kernel
theorem d_PT_init_38 : decode b_PT_init 38 = .ok (.getfield 21, 3) := by decide +kernel
theorem d_PT_init_41 : decode b_PT_init 41 = .ok (.invokevirtual 28, 3) := by decide +kernel
theorem d_PT_init_44 : decode b_PT_init 44 = .ok (.return_, 1) := by decide +kernel
theorem d_PT_in_0 : decode b_PT_in 0 = .ok (.iload_n 0, 1) := by decide +kernel
theorem d_PT_in_1 : decode b_PT_in 1 = .ok (.iload_n 1, 1) := by decide +kernel
theorem d_PT_in_2 : decode b_PT_in 2 = .ok (.if_icmp .lt 8, 3) := by decide +kernel
theorem d_PT_in_5 : decode b_PT_in 5 = .ok (.iload_n 0, 1) := by decide +kernel
theorem d_PT_in_6 : decode b_PT_in 6 = .ok (.iload_n 2, 1) := by decide +kernel
theorem d_PT_in_7 : decode b_PT_in 7 = .ok (.if_icmp .le 11, 3) := by decide +kernel
theorem d_PT_in_10 : decode b_PT_in 10 = .ok (.new 29, 3) := by decide +kernel
theorem d_PT_in_13 : decode b_PT_in 13 = .ok (.dup, 1) := by decide +kernel
theorem d_PT_in_14 : decode b_PT_in 14 = .ok (.invokespecial 31, 3) := by decide +kernel
theorem d_PT_in_17 : decode b_PT_in 17 = .ok (.athrow, 1) := by decide +kernel
theorem d_PT_in_18 : decode b_PT_in 18 = .ok (.return_, 1) := by decide +kernel
theorem d_PT_set_0 : decode b_PT_set 0 = .ok (.aload_n 0, 1) := by decide +kernel
theorem d_PT_set_1 : decode b_PT_set 1 = .ok (.iload_n 1, 1) := by decide +kernel
theorem d_PT_set_2 : decode b_PT_set 2 = .ok (.iload_n 2, 1) := by decide +kernel
theorem d_PT_set_3 : decode b_PT_set 3 = .ok (.iload_n 3, 1) := by decide +kernel
theorem d_PT_set_4 : decode b_PT_set 4 = .ok (.iload 4, 2) := by decide +kernel
theorem d_PT_set_6 : decode b_PT_set 6 = .ok (.iconst 0, 1) := by decide +kernel
theorem d_PT_set_7 : decode b_PT_set 7 = .ok (.invokevirtual 32, 3) := by decide +kernel
theorem d_PT_set_10 : decode b_PT_set 10 = .ok (.ireturn, 1) := by decide +kernel
theorem d_PT_mark_0 : decode b_PT_mark 0 = .ok (.iload_n 1, 1) := by decide +kernel
theorem d_PT_mark_1 : decode b_PT_mark 1 = .ok (.iconst 0, 1) := by decide +kernel
theorem d_PT_mark_2 : decode b_PT_mark 2 = .ok (.ldc 36, 2) := by decide +kernel
theorem d_PT_mark_4 : decode b_PT_mark 4 = .ok (.invokestatic 37, 3) := by decide +kernel
theorem d_PT_mark_7 : decode b_PT_mark 7 = .ok (.iload_n 2, 1) := by decide +kernel
theorem d_PT_mark_8 : decode b_PT_mark 8 = .ok (.iload_n 1, 1) := by decide +kernel
theorem d_PT_mark_9 : decode b_PT_mark 9 = .ok (.ldc 36, 2) := by decide +kernel
theorem d_PT_mark_11 : decode b_PT_mark 11 = .ok (.invokestatic 37, 3) := by decide +kernel
theorem d_PT_mark_14 : decode b_PT_mark 14 = .ok (.iload_n 3, 1) := by decide +kernel
theorem d_PT_mark_15 : decode b_PT_mark 15 = .ok (.iconst 0, 1) := by decide +kernel
theorem d_PT_mark_16 : decode b_PT_mark 16 = .ok (.bipush 7, 2) := by decide +kernel
theorem d_PT_mark_18 : decode b_PT_mark 18 = .ok (.invokestatic 37, 3) := by decide +kernel
theorem d_PT_mark_21 : decode b_PT_mark 21 = .ok (.aload_n 0, 1) := by decide +kernel
theorem d_PT_mark_22 : decode b_PT_mark 22 = .ok (.getfield 21, 3) := by decide +kernel
theorem d_PT_mark_25 : decode b_PT_mark 25 = .ok (.iload_n 1, 1) := by decide +kernel
theorem d_PT_mark_26 : decode b_PT_mark 26 = .ok (.iload_n 2, 1) := by decide +kernel
theorem d_PT_mark_27 : decode b_PT_mark 27 = .ok (.iload_n 3, 1) := by decide +kernel
theorem d_PT_mark_28 : decode b_PT_mark 28 = .ok (.iload 4, 2) := by decide +kernel
theorem d_PT_mark_30 : decode b_PT_mark 30 = .ok (.iload 5, 2) := by decide +kernel
theorem d_PT_mark_32 : decode b_PT_mark 32 = .ok (.invokevirtual 41, 3) := by decide +kernel
theorem d_PT_mark_35 : decode b_PT_mark 35 = .ok (.iload_n 2, 1) := by decide +kernel
theorem d_PT_mark_36 : decode b_PT_mark 36 = .ok (.iload_n 1, 1) := by decide +kernel
theorem d_PT_mark_37 : decode b_PT_mark 37 = .ok (.isub, 1) := by decide +kernel
theorem d_PT_mark_38 : decode b_PT_mark 38 = .ok (.iconst 1, 1) := by decide +kernel
theorem d_PT_mark_39 : decode b_PT_mark 39 = .ok (.iadd, 1) := by decide +kernel
theorem d_PT_mark_40 : decode b_PT_mark 40 = .ok (.ireturn, 1) := by decide +kernel
theorem d_PT_get_0 : decode b_PT_get 0 = .ok (.iload_n 1, 1) := by decide +kernel
theorem d_PT_get_1 : decode b_PT_get 1 = .ok (.iconst 0, 1) := by decide +kernel
theorem d_PT_get_2 : decode b_PT_get 2 = .ok (.ldc 36, 2) := by decide +kernel
theorem d_PT_get_4 : decode b_PT_get 4 = .ok (.invokestatic 37, 3) := by decide +kernel
theorem d_PT_get_7 : decode b_PT_get 7 = .ok (.iload_n 2, 1) := by decide +kernel
theorem d_PT_get_8 : decode b_PT_get 8 = .ok (.iconst 0, 1) := by decide +kernel
theorem d_PT_get_9 : decode b_PT_get 9 = .ok (.bipush 7, 2) := by decide +kernel
theorem d_PT_get_11 : decode b_PT_get 11 = .ok (.invokestatic 37, 3) := by decide +kernel
theorem d_PT_get_14 : decode b_PT_get 14 = .ok (.aload_n 0, 1) := by decide +kernel
theorem d_PT_get_15 : decode b_PT_get 15 = .ok (.getfield 21, 3) := by decide +kernel
theorem d_PT_get_18 : decode b_PT_get 18 = .ok (.iload_n 1, 1) := by decide +kernel
theorem d_PT_get_19 : decode b_PT_get 19 = .ok (.iload_n 2, 1) := by decide +kernel
theorem d_PT_get_20 : decode b_PT_get 20 = .ok (.invokevirtual 45, 3) := by decide +kernel
theorem d_PT_get_23 : decode b_PT_get 23 = .ok (.ireturn, 1) := by decide +kernel
theorem d_PT_change_0 : decode b_PT_change 0 = .ok (.aload_n 0, 1) := by decide +kernel
theorem d_PT_change_1 : decode b_PT_change 1 = .ok (.iload_n 1, 1) := by decide +kernel
theorem d_PT_change_2 : decode b_PT_change 2 = .ok (.iload_n 2, 1) := by decide +kernel
theorem d_PT_change_3 : decode b_PT_change 3 = .ok (.invokevirtual 49, 3) := by decide +kernel
theorem d_PT_change_6 : decode b_PT_change 6 = .ok (.istore_n 3, 1) := by decide +kernel
theorem d_PT_change_7 : decode b_PT_change 7 = .ok (.iload_n 1, 1) := by decide +kernel
theorem d_PT_change_8 : decode b_PT_change 8 = .ok (.istore 4, 2) := by decide +kernel
theorem d_PT_change_10 : decode b_PT_change 10 = .ok (.iload 4, 2) := by decide +kernel
theorem d_PT_change_12 : decode b_PT_change 12 = .ok (.ldc 50, 2) := by decide +kernel
theorem d_PT_change_14 : decode b_PT_change 14 = .ok (.if_icmp .ge 74, 3) := by decide +kernel
theorem d_PT_change_17 : decode b_PT_change 17 = .ok (.iload 4, 2) := by decide +kernel
theorem d_PT_change_19 : decode b_PT_change 19 = .ok (.sipush 255, 3) := by decide +kernel
theorem d_PT_change_22 : decode b_PT_change 22 = .ok (.iand, 1) := by decide +kernel
theorem d_PT_change_23 : decode b_PT_change 23 = .ok (.ifCond .ne 42, 3) := by decide +kernel
theorem d_PT_change_26 : decode b_PT_change 26 = .ok (.aload_n 0, 1) := by decide +kernel
theorem d_PT_change_27 : decode b_PT_change 27 = .ok (.getfield 21, 3) := by decide +kernel
theorem d_PT_change_30 : decode b_PT_change 30 = .ok (.getfield 51, 3) := by decide +kernel
theorem d_PT_change_33 : decode b_PT_change 33 = .ok (.iload 4, 2) := by decide +kernel
theorem d_PT_change_35 : decode b_PT_change 35 = .ok (.bipush 8, 2) := by decide +kernel
theorem d_PT_change_37 : decode b_PT_change 37 = .ok (.ishr, 1) := by decide +kernel
theorem d_PT_change_38 : decode b_PT_change 38 = .ok (.iaload, 1) := by decide +kernel
theorem d_PT_change_39 : decode b_PT_change 39 = .ok (.ifCond .lt 26, 3) := by decide +kernel
theorem d_PT_change_42 : decode b_PT_change 42 = .ok (.aload_n 0, 1) := by decide +kernel
theorem d_PT_change_43 : decode b_PT_change 43 = .ok (.getfield 21, 3) := by decide +kernel
theorem d_PT_change_46 : decode b_PT_change 46 = .ok (.iload 4, 2) := by decide +kernel
theorem d_PT_change_48 : decode b_PT_change 48 = .ok (.iload_n 2, 1) := by decide +kernel
theorem d_PT_change_49 : decode b_PT_change 49 = .ok (.invokevirtual 45, 3) := by decide +kernel
theorem d_PT_change_52 : decode b_PT_change 52 = .ok (.iload_n 3, 1) := by decide +kernel
theorem d_PT_change_53 : decode b_PT_change 53 = .ok (.if_icmp .ne 12, 3) := by decide +kernel
theorem d_PT_change_56 : decode b_PT_change 56 = .ok (.iinc 4 256, 6) := by decide +kernel
theorem d_PT_change_62 : decode b_PT_change 62 = .ok (.goto (-52), 3) := by decide +kernel
theorem d_PT_change_65 : decode b_PT_change 65 = .ok (.aload_n 0, 1) := by decide +kernel
theorem d_PT_change_66 : decode b_PT_change 66 = .ok (.getfield 21, 3) := by decide +kernel
theorem d_PT_change_69 : decode b_PT_change 69 = .ok (.iload 4, 2) := by decide +kernel
theorem d_PT_change_71 : decode b_PT_change 71 = .ok (.iload_n 2, 1) := by decide +kernel
theorem d_PT_change_72 : decode b_PT_change 72 = .ok (.invokevirtual 45, 3) := by decide +kernel
theorem d_PT_change_75 : decode b_PT_change 75 = .ok (.iload_n 3, 1) := by decide +kernel
theorem d_PT_change_76 : decode b_PT_change 76 = .ok (.if_icmp .eq 6, 3) := by decide +kernel
theorem d_PT_change_79 : decode b_PT_change 79 = .ok (.iload 4, 2) := by decide +kernel
theorem d_PT_change_81 : decode b_PT_change 81 = .ok (.ireturn, 1) := by decide +kernel
theorem d_PT_change_82 : decode b_PT_change 82 = .ok (.iinc 4 1, 3) := by decide +kernel
theorem d_PT_change_85 : decode b_PT_change 85 = .ok (.goto (-75), 3) := by decide +kernel
theorem d_PT_change_88 : decode b_PT_change 88 = .ok (.iconst (-1), 1) := by decide +kernel
theorem d_PT_change_89 : decode b_PT_change 89 = .ok (.ireturn, 1) := by decide +kernel
theorem d_PT_alike_0 : decode b_PT_alike 0 = .ok (.iload_n 1, 1) := by decide +kernel
theorem d_PT_alike_1 : decode b_PT_alike 1 = .ok (.iconst 0, 1) := by decide +kernel
theorem d_PT_alike_2 : decode b_PT_alike 2 = .ok (.ldc 36, 2) := by decide +kernel
theorem d_PT_alike_4 : decode b_PT_alike 4 = .ok (.invokestatic 37, 3) := by decide +kernel
theorem d_PT_alike_7 : decode b_PT_alike 7 = .ok (.iload_n 2, 1) := by decide +kernel
theorem d_PT_alike_8 : decode b_PT_alike 8 = .ok (.iconst 0, 1) := by decide +kernel
theorem d_PT_alike_9 : decode b_PT_alike 9 = .ok (.ldc 36, 2) := by decide +kernel
theorem d_PT_alike_11 : decode b_PT_alike 11 = .ok (.invokestatic 37, 3) := by decide +kernel
theorem d_PT_alike_14 : decode b_PT_alike 14 = .ok (.aload_n 0, 1) := by decide +kernel
theorem d_PT_alike_15 : decode b_PT_alike 15 = .ok (.getfield 21, 3) := by decide +kernel
theorem d_PT_alike_18 : decode b_PT_alike 18 = .ok (.iload_n 1, 1) := by decide +kernel
theorem d_PT_alike_19 : decode b_PT_alike 19 = .ok (.invokevirtual 55, 3) := by decide +kernel
theorem d_PT_alike_22 : decode b_PT_alike 22 = .ok (.aload_n 0, 1) := by decide +kernel
theorem d_PT_alike_23 : decode b_PT_alike 23 = .ok (.getfield 21, 3) := by decide +kernel
theorem d_PT_alike_26 : decode b_PT_alike 26 = .ok (.iload_n 2, 1) := by decide +kernel
theorem d_PT_alike_27 : decode b_PT_alike 27 = .ok (.invokevirtual 55, 3) := by decide +kernel
theorem d_PT_alike_30 : decode b_PT_alike 30 = .ok (.if_icmp .ne 7, 3) := by decide +kernel
theorem d_PT_alike_33 : decode b_PT_alike 33 = .ok (.iconst 1, 1) := by decide +kernel
theorem d_PT_alike_34 : decode b_PT_alike 34 = .ok (.goto 4, 3) := by decide +kernel
theorem d_PT_alike_37 : decode b_PT_alike 37 = .ok (.iconst 0, 1) := by decide +kernel
theorem d_PT_alike_38 : decode b_PT_alike 38 = .ok (.ireturn, 1) := by decide +kernel
theorem d_PT_hash_0 : decode b_PT_hash 0 = .ok (.iload_n 1, 1) := by decide +kernel
theorem d_PT_hash_1 : decode b_PT_hash 1 = .ok (.iconst 0, 1) := by decide +kernel
theorem d_PT_hash_2 : decode b_PT_hash 2 = .ok (.ldc 36, 2) := by decide +kernel
theorem d_PT_hash_4 : decode b_PT_hash 4 = .ok (.invokestatic 37, 3) := by decide +kernel
theorem d_PT_hash_7 : decode b_PT_hash 7 = .ok (.iload_n 2, 1) := by decide +kernel
theorem d_PT_hash_8 : decode b_PT_hash 8 = .ok (.iload_n 1, 1) := by decide +kernel
theorem d_PT_hash_9 : decode b_PT_hash 9 = .ok (.ldc 36, 2) := by decide +kernel
theorem d_PT_hash_11 : decode b_PT_hash 11 = .ok (.invokestatic 37, 3) := by decide +kernel
theorem d_PT_hash_14 : decode b_PT_hash 14 = .ok (.iload_n 2, 1) := by decide +kernel
theorem d_PT_hash_15 : decode b_PT_hash 15 = .ok (.iload_n 1, 1) := by decide +kernel
theorem d_PT_hash_16 : decode b_PT_hash 16 = .ok (.isub, 1) := by decide +kernel
theorem d_PT_hash_17 : decode b_PT_hash 17 = .ok (.iconst 0, 1) := by decide +kernel
theorem d_PT_hash_18 : decode b_PT_hash 18 = .ok (.sipush 3999, 3) := by decide +kernel
theorem d_PT_hash_21 : decode b_PT_hash 21 = .ok (.invokestatic 37, 3) := by decide +kernel
theorem d_PT_hash_24 : decode b_PT_hash 24 = .ok (.iload_n 3, 1) := by decide +kernel
theorem d_PT_hash_25 : decode b_PT_hash 25 = .ok (.iconst 0, 1) := by decide +kernel
theorem d_PT_hash_26 : decode b_PT_hash 26 = .ok (.bipush 7, 2) := by decide +kernel
theorem d_PT_hash_28 : decode b_PT_hash 28 = .ok (.invokestatic 37, 3) := by decide +kernel
theorem d_PT_hash_31 : decode b_PT_hash 31 = .ok (.iconst 1, 1) := by decide +kernel
theorem d_PT_hash_32 : decode b_PT_hash 32 = .ok (.istore 4, 2) := by decide +kernel
theorem d_PT_hash_34 : decode b_PT_hash 34 = .ok (.iload_n 1, 1) := by decide +kernel
theorem d_PT_hash_35 : decode b_PT_hash 35 = .ok (.istore 5, 2) := by decide +kernel
theorem d_PT_hash_37 : decode b_PT_hash 37 = .ok (.iload 5, 2) := by decide +kernel
theorem d_PT_hash_39 : decode b_PT_hash 39 = .ok (.iload_n 2, 1) := by decide +kernel
theorem d_PT_hash_40 : decode b_PT_hash 40 = .ok (.if_icmp .gt 27, 3) := by decide +kernel
theorem d_PT_hash_43 : decode b_PT_hash 43 = .ok (.bipush 31, 2) := by decide +kernel
theorem d_PT_hash_45 : decode b_PT_hash 45 = .ok (.iload 4, 2) := by decide +kernel
theorem d_PT_hash_47 : decode b_PT_hash 47 = .ok (.imul, 1) := by decide +kernel
theorem d_PT_hash_48 : decode b_PT_hash 48 = .ok (.aload_n 0, 1) := by decide +kernel
theorem d_PT_hash_49 : decode b_PT_hash 49 = .ok (.getfield 21, 3) := by decide +kernel
theorem d_PT_hash_52 : decode b_PT_hash 52 = .ok (.iload 5, 2) := by decide +kernel
theorem d_PT_hash_54 : decode b_PT_hash 54 = .ok (.iload_n 3, 1) := by decide +kernel
theorem d_PT_hash_55 : decode b_PT_hash 55 = .ok (.invokevirtual 45, 3) := by decide +kernel
theorem d_PT_hash_58 : decode b_PT_hash 58 = .ok (.iadd, 1) := by decide +kernel
theorem d_PT_hash_59 : decode b_PT_hash 59 = .ok (.istore 4, 2) := by decide +kernel
theorem d_PT_hash_61 : decode b_PT_hash 61 = .ok (.iinc 5 1, 3) := by decide +kernel
theorem d_PT_hash_64 : decode b_PT_hash 64 = .ok (.goto (-27), 3) := by decide +kernel
theorem d_PT_hash_67 : decode b_PT_hash 67 = .ok (.iload 4, 2) := by decide +kernel
theorem d_PT_hash_69 : decode b_PT_hash 69 = .ok (.ireturn, 1) := by decide +kernel
theorem d_PT_clear_0 : decode b_PT_clear 0 = .ok (.iconst 0, 1) := by decide +kernel
theorem d_PT_clear_1 : decode b_PT_clear 1 = .ok (.istore_n 1, 1) := by decide +kernel
theorem d_PT_clear_2 : decode b_PT_clear 2 = .ok (.iconst 0, 1) := by decide +kernel
theorem d_PT_clear_3 : decode b_PT_clear 3 = .ok (.istore_n 2, 1) := by decide +kernel
theorem d_PT_clear_4 : decode b_PT_clear 4 = .ok (.iload_n 2, 1) := by decide +kernel
theorem d_PT_clear_5 : decode b_PT_clear 5 = .ok (.sipush 1024, 3) := by decide +kernel
theorem d_PT_clear_8 : decode b_PT_clear 8 = .ok (.if_icmp .ge 23, 3) := by decide +kernel
theorem d_PT_clear_11 : decode b_PT_clear 11 = .ok (.aload_n 0, 1) := by decide +kernel
theorem d_PT_clear_12 : decode b_PT_clear 12 = .ok (.getfield 21, 3) := by decide +kernel
theorem d_PT_clear_15 : decode b_PT_clear 15 = .ok (.iload_n 2, 1) := by decide +kernel
theorem d_PT_clear_16 : decode b_PT_clear 16 = .ok (.invokevirtual 55, 3) := by decide +kernel
theorem d_PT_clear_19 : decode b_PT_clear 19 = .ok (.ifCond .eq 6, 3) := by decide +kernel
theorem d_PT_clear_22 : decode b_PT_clear 22 = .ok (.iinc 1 1, 3) := by decide +kernel
theorem d_PT_clear_25 : decode b_PT_clear 25 = .ok (.iinc 2 1, 3) := by decide +kernel
theorem d_PT_clear_28 : decode b_PT_clear 28 = .ok (.goto (-24), 3) := by decide +kernel
theorem d_PT_clear_31 : decode b_PT_clear 31 = .ok (.aload_n 0, 1) := by decide +kernel
theorem d_PT_clear_32 : decode b_PT_clear 32 = .ok (.getfield 10, 3) := by decide +kernel
theorem d_PT_clear_35 : decode b_PT_clear 35 = .ok (.invokevirtual 25, 3) := by decide +kernel
theorem d_PT_clear_38 : decode b_PT_clear 38 = .ok (.aload_n 0, 1) := by decide +kernel
theorem d_PT_clear_39 : decode b_PT_clear 39 = .ok (.getfield 21, 3) := by decide +kernel
theorem d_PT_clear_42 : decode b_PT_clear 42 = .ok (.invokevirtual 28, 3) := by decide +kernel
theorem d_PT_clear_45 : decode b_PT_clear 45 = .ok (.iload_n 1, 1) := by decide +kernel
theorem d_PT_clear_46 : decode b_PT_clear 46 = .ok (.ireturn, 1) := by decide +kernel
theorem d_Rec_init_0 : decode b_Rec_init 0 = .ok (.aload_n 0, 1) := by decide +kernel
theorem d_Rec_init_1 : decode b_Rec_init 1 = .ok (.invokespecial 1, 3) := by decide +kernel
theorem d_Rec_init_4 : decode b_Rec_init 4 = .ok (.aload_n 0, 1) := by decide +kernel
theorem d_Rec_init_5 : decode b_Rec_init 5 = .ok (.sipush 512, 3) := by decide +kernel
theorem d_Rec_init_8 : decode b_Rec_init 8 = .ok (.newarray .int, 2) := by decide +kernel
theorem d_Rec_init_10 : decode b_Rec_init 10 = .ok (.putfield 9, 3) := by decide +kernel
theorem d_Rec_init_13 : decode b_Rec_init 13 = .ok (.aload_n 0, 1) := by decide +kernel
theorem d_Rec_init_14 : decode b_Rec_init 14 = .ok (.bipush 64, 2) := by decide +kernel
theorem d_Rec_init_16 : decode b_Rec_init 16 = .ok (.newarray .int, 2) := by decide +kernel
theorem d_Rec_init_18 : decode b_Rec_init 18 = .ok (.putfield 13, 3) := by decide +kernel
theorem d_Rec_init_21 : decode b_Rec_init 21 = .ok (.aload_n 0, 1) := by decide +kernel
theorem d_Rec_init_22 : decode b_Rec_init 22 = .ok (.sipush 256, 3) := by decide +kernel
theorem d_Rec_init_25 : decode b_Rec_init 25 = .ok (.newarray .int, 2) := by decide +kernel
theorem d_Rec_init_27 : decode b_Rec_init 27 = .ok (.putfield 16, 3) := by decide +kernel
theorem d_Rec_init_30 : decode b_Rec_init 30 = .ok (.aload_n 0, 1) := by decide +kernel
theorem d_Rec_init_31 : decode b_Rec_init 31 = .ok (.bipush 8, 2) := by decide +kernel
theorem d_Rec_init_33 : decode b_Rec_init 33 = .ok (.newarray .int, 2) := by decide +kernel
theorem d_Rec_init_35 : decode b_Rec_init 35 = .ok (.putfield 19, 3) := by decide +kernel
theorem d_Rec_init_38 : decode b_Rec_init 38 = .ok (.return_, 1) := by decide +kernel
theorem d_Rec_clear_0 : decode b_Rec_clear 0 = .ok (.aload_n 0, 1) := by decide +kernel
theorem d_Rec_clear_1 : decode b_Rec_clear 1 = .ok (.iconst 0, 1) := by decide +kernel
theorem d_Rec_clear_2 : decode b_Rec_clear 2 = .ok (.putfield 22, 3) := by decide +kernel
theorem d_Rec_clear_5 : decode b_Rec_clear 5 = .ok (.iconst 0, 1) := by decide +kernel
theorem d_Rec_clear_6 : decode b_Rec_clear 6 = .ok (.istore_n 1, 1) := by decide +kernel
theorem d_Rec_clear_7 : decode b_Rec_clear 7 = .ok (.iload_n 1, 1) := by decide +kernel
theorem d_Rec_clear_8 : decode b_Rec_clear 8 = .ok (.aload_n 0, 1) := by decide +kernel
theorem d_Rec_clear_9 : decode b_Rec_clear 9 = .ok (.getfield 16, 3) := by decide +kernel
theorem d_Rec_clear_12 : decode b_Rec_clear 12 = .ok (.arraylength, 1) := by decide +kernel
theorem d_Rec_clear_13 : decode b_Rec_clear 13 = .ok (.if_icmp .ge 16, 3) := by decide +kernel
theorem d_Rec_clear_16 : decode b_Rec_clear 16 = .ok (.aload_n 0, 1) := by decide +kernel
theorem d_Rec_clear_17 : decode b_Rec_clear 17 = .ok (.getfield 16, 3) := by decide +kernel
theorem d_Rec_clear_20 : decode b_Rec_clear 20 = .ok (.iload_n 1, 1) := by decide +kernel
theorem d_Rec_clear_21 : decode b_Rec_clear 21 = .ok (.iconst (-1), 1) := by decide +kernel
theorem d_Rec_clear_22 : decode b_Rec_clear 22 = .ok (.iastore, 1) := by decide +kernel
theorem d_Rec_clear_23 : decode b_Rec_clear 23 = .ok (.iinc 1 1, 3) := by decide +kernel
theorem d_Rec_clear_26 : decode b_Rec_clear 26 = .ok (.goto (-19), 3) := by decide +kernel
theorem d_Rec_clear_29 : decode b_Rec_clear 29 = .ok (.iconst 0, 1) := by decide +kernel
theorem d_Rec_clear_30 : decode b_Rec_clear 30 = .ok (.istore_n 1, 1) := by decide +kernel
theorem d_Rec_clear_31 : decode b_Rec_clear 31 = .ok (.iload_n 1, 1) := by decide +kernel
theorem d_Rec_clear_32 : decode b_Rec_clear 32 = .ok (.bipush 8, 2) := by decide +kernel
theorem d_Rec_clear_34 : decode b_Rec_clear 34 = .ok (.if_icmp .ge 16, 3) := by decide +kernel
theorem d_Rec_clear_37 : decode b_Rec_clear 37 = .ok (.aload_n 0, 1) := by decide +kernel
theorem d_Rec_clear_38 : decode b_Rec_clear 38 = .ok (.getfield 19, 3) := by decide +kernel
theorem d_Rec_clear_41 : decode b_Rec_clear 41 = .ok (.iload_n 1, 1) := by decide +kernel
theorem d_Rec_clear_42 : decode b_Rec_clear 42 = .ok (.iconst 0, 1) := by decide +kernel
theorem d_Rec_clear_43 : decode b_Rec_clear 43 = .ok (.iastore, 1) := by decide +kernel
theorem d_Rec_clear_44 : decode b_Rec_clear 44 = .ok (.iinc 1 1, 3) := by decide +kernel
theorem d_Rec_clear_47 : decode b_Rec_clear 47 = .ok (.goto (-16), 3) := by decide +kernel
theorem d_Rec_clear_50 : decode b_Rec_clear 50 = .ok (.aload_n 0, 1) := by decide +kernel
theorem d_Rec_clear_51 : decode b_Rec_clear 51 = .ok (.invokevirtual 26, 3) := by decide +kernel
theorem d_Rec_clear_54 : decode b_Rec_clear 54 = .ok (.pop, 1) := by decide +kernel
theorem d_Rec_clear_55 : decode b_Rec_clear 55 = .ok (.return_, 1) := by decide +kernel
theorem d_Rec_count_0 : decode b_Rec_count 0 = .ok (.aload_n 0, 1) := by decide +kernel
theorem d_Rec_count_1 : decode b_Rec_count 1 = .ok (.getfield 22, 3) := by decide +kernel
theorem d_Rec_count_4 : decode b_Rec_count 4 = .ok (.ireturn, 1) := by decide +kernel
theorem d_Rec_keep_0 : decode b_Rec_keep 0 = .ok (.iconst 0, 1) := by decide +kernel
theorem d_Rec_keep_1 : decode b_Rec_keep 1 = .ok (.istore_n 2, 1) := by decide +kernel
theorem d_Rec_keep_2 : decode b_Rec_keep 2 = .ok (.iconst 0, 1) := by decide +kernel
theorem d_Rec_keep_3 : decode b_Rec_keep 3 = .ok (.istore_n 3, 1) := by decide +kernel
theorem d_Rec_keep_4 : decode b_Rec_keep 4 = .ok (.iload_n 3, 1) := by decide +kernel
theorem d_Rec_keep_5 : decode b_Rec_keep 5 = .ok (.aload_n 0, 1) := by decide +kernel
theorem d_Rec_keep_6 : decode b_Rec_keep 6 = .ok (.getfield 22, 3) := by decide +kernel
theorem d_Rec_keep_9 : decode b_Rec_keep 9 = .ok (.if_icmp .ge 69, 3) := by decide +kernel
theorem d_Rec_keep_12 : decode b_Rec_keep 12 = .ok (.iload_n 3, 1) := by decide +kernel
theorem d_Rec_keep_13 : decode b_Rec_keep 13 = .ok (.ifCond .le 12, 3) := by decide +kernel
theorem d_Rec_keep_16 : decode b_Rec_keep 16 = .ok (.aload_n 1, 1) := by decide +kernel
theorem d_Rec_keep_17 : decode b_Rec_keep 17 = .ok (.iload_n 3, 1) := by decide +kernel
theorem d_Rec_keep_18 : decode b_Rec_keep 18 = .ok (.iaload, 1) := by decide +kernel
theorem d_Rec_keep_19 : decode b_Rec_keep 19 = .ok (.ifCond .ge 6, 3) := by decide +kernel
theorem d_Rec_keep_22 : decode b_Rec_keep 22 = .ok (.goto 50, 3) := by decide +kernel
theorem d_Rec_keep_25 : decode b_Rec_keep 25 = .ok (.iconst 0, 1) := by decide +kernel
theorem d_Rec_keep_26 : decode b_Rec_keep 26 = .ok (.istore 4, 2) := by decide +kernel
theorem d_Rec_keep_28 : decode b_Rec_keep 28 = .ok (.iload 4, 2) := by decide +kernel
theorem d_Rec_keep_30 : decode b_Rec_keep 30 = .ok (.bipush 8, 2) := by decide +kernel
theorem d_Rec_keep_32 : decode b_Rec_keep 32 = .ok (.if_icmp .ge 33, 3) := by decide +kernel
theorem d_Rec_keep_35 : decode b_Rec_keep 35 = .ok (.aload_n 0, 1) := by decide +kernel
theorem d_Rec_keep_36 : decode b_Rec_keep 36 = .ok (.getfield 9, 3) := by decide +kernel
theorem d_Rec_keep_39 : decode b_Rec_keep 39 = .ok (.bipush 8, 2) := by decide +kernel
theorem d_Rec_keep_41 : decode b_Rec_keep 41 = .ok (.iload_n 2, 1) := by decide +kernel
theorem d_Rec_keep_42 : decode b_Rec_keep 42 = .ok (.imul, 1) := by decide +kernel
theorem d_Rec_keep_43 : decode b_Rec_keep 43 = .ok (.iload 4, 2) := by decide +kernel
theorem d_Rec_keep_45 : decode b_Rec_keep 45 = .ok (.iadd, 1) := by decide +kernel
theorem d_Rec_keep_46 : decode b_Rec_keep 46 = .ok (.aload_n 0, 1) := by decide +kernel
theorem d_Rec_keep_47 : decode b_Rec_keep 47 = .ok (.getfield 9, 3) := by decide +kernel
theorem d_Rec_keep_50 : decode b_Rec_keep 50 = .ok (.bipush 8, 2) := by decide +kernel
theorem d_Rec_keep_52 : decode b_Rec_keep 52 = .ok (.iload_n 3, 1) := by decide +kernel
theorem d_Rec_keep_53 : decode b_Rec_keep 53 = .ok (.imul, 1) := by decide +kernel
theorem d_Rec_keep_54 : decode b_Rec_keep 54 = .ok (.iload 4, 2) := by decide +kernel
theorem d_Rec_keep_56 : decode b_Rec_keep 56 = .ok (.iadd, 1) := by decide +kernel
theorem d_Rec_keep_57 : decode b_Rec_keep 57 = .ok (.iaload, 1) := by decide +kernel
theorem d_Rec_keep_58 : decode b_Rec_keep 58 = .ok (.iastore, 1) := by decide +kernel
theorem d_Rec_keep_59 : decode b_Rec_keep 59 = .ok (.iinc 4 1, 3) := by decide +kernel
theorem d_Rec_keep_62 : decode b_Rec_keep 62 = .ok (.goto (-34), 3) := by decide +kernel
theorem d_Rec_keep_65 : decode b_Rec_keep 65 = .ok (.aload_n 1, 1) := by decide +kernel
theorem d_Rec_keep_66 : decode b_Rec_keep 66 = .ok (.iload_n 3, 1) := by decide +kernel
theorem d_Rec_keep_67 : decode b_Rec_keep 67 = .ok (.iload_n 2, 1) := by decide +kernel
theorem d_Rec_keep_68 : decode b_Rec_keep 68 = .ok (.iastore, 1) := by decide +kernel
theorem d_Rec_keep_69 : decode b_Rec_keep 69 = .ok (.iinc 2 1, 3) := by decide +kernel
theorem d_Rec_keep_72 : decode b_Rec_keep 72 = .ok (.iinc 3 1, 3) := by decide +kernel
theorem d_Rec_keep_75 : decode b_Rec_keep 75 = .ok (.goto (-71), 3) := by decide +kernel
theorem d_Rec_keep_78 : decode b_Rec_keep 78 = .ok (.aload_n 0, 1) := by decide +kernel
theorem d_Rec_keep_79 : decode b_Rec_keep 79 = .ok (.iload_n 2, 1) := by decide +kernel
theorem d_Rec_keep_80 : decode b_Rec_keep 80 = .ok (.putfield 22, 3) := by decide +kernel
theorem d_Rec_keep_83 : decode b_Rec_keep 83 = .ok (.aload_n 0, 1) := by decide +kernel
theorem d_Rec_keep_84 : decode b_Rec_keep 84 = .ok (.invokevirtual 30, 3) := by decide +kernel
theorem d_Rec_keep_87 : decode b_Rec_keep 87 = .ok (.return_, 1) := by decide +kernel
theorem d_Rec_field_0 : decode b_Rec_field 0 = .ok (.aload_n 0, 1) := by decide +kernel
theorem d_Rec_field_1 : decode b_Rec_field 1 = .ok (.getfield 9, 3) := by decide +kernel
theorem d_Rec_field_4 : decode b_Rec_field 4 = .ok (.bipush 8, 2) := by decide +kernel
theorem d_Rec_field_6 : decode b_Rec_field 6 = .ok (.iload_n 1, 1) := by decide +kernel
theorem d_Rec_field_7 : decode b_Rec_field 7 = .ok (.imul, 1) := by decide +kernel
theorem d_Rec_field_8 : decode b_Rec_field 8 = .ok (.iload_n 2, 1) := by decide +kernel
theorem d_Rec_field_9 : decode b_Rec_field 9 = .ok (.iadd, 1) := by decide +kernel
theorem d_Rec_field_10 : decode b_Rec_field 10 = .ok (.iaload, 1) := by decide +kernel
theorem d_Rec_field_11 : decode b_Rec_field 11 = .ok (.ireturn, 1) := by decide +kernel
theorem d_Rec_with_0 : decode b_Rec_with 0 = .ok (.aload_n 0, 1) := by decide +kernel
theorem d_Rec_with_1 : decode b_Rec_with 1 = .ok (.iload_n 1, 1) := by decide +kernel
theorem d_Rec_with_2 : decode b_Rec_with 2 = .ok (.iload_n 2, 1) := by decide +kernel
theorem d_Rec_with_3 : decode b_Rec_with 3 = .ok (.invokevirtual 33, 3) := by decide +kernel
theorem d_Rec_with_6 : decode b_Rec_with 6 = .ok (.iload_n 3, 1) := by decide +kernel
theorem d_Rec_with_7 : decode b_Rec_with 7 = .ok (.if_icmp .ne 5, 3) := by decide +kernel
theorem d_Rec_with_10 : decode b_Rec_with 10 = .ok (.iload_n 1, 1) := by decide +kernel
theorem d_Rec_with_11 : decode b_Rec_with 11 = .ok (.ireturn, 1) := by decide +kernel
theorem d_Rec_with_12 : decode b_Rec_with 12 = .ok (.iconst 0, 1) := by decide +kernel
theorem d_Rec_with_13 : decode b_Rec_with 13 = .ok (.istore 4, 2) := by decide +kernel
theorem d_Rec_with_15 : decode b_Rec_with 15 = .ok (.iload 4, 2) := by decide +kernel
theorem d_Rec_with_17 : decode b_Rec_with 17 = .ok (.bipush 8, 2) := by decide +kernel
theorem d_Rec_with_19 : decode b_Rec_with 19 = .ok (.if_icmp .ge 23, 3) := by decide +kernel
theorem d_Rec_with_22 : decode b_Rec_with 22 = .ok (.aload_n 0, 1) := by decide +kernel
theorem d_Rec_with_23 : decode b_Rec_with 23 = .ok (.getfield 19, 3) := by decide +kernel
theorem d_Rec_with_26 : decode b_Rec_with 26 = .ok (.iload 4, 2) := by decide +kernel
theorem d_Rec_with_28 : decode b_Rec_with 28 = .ok (.aload_n 0, 1) := by decide +kernel
theorem d_Rec_with_29 : decode b_Rec_with 29 = .ok (.iload_n 1, 1) := by decide +kernel
theorem d_Rec_with_30 : decode b_Rec_with 30 = .ok (.iload 4, 2) := by decide +kernel
theorem d_Rec_with_32 : decode b_Rec_with 32 = .ok (.invokevirtual 33, 3) := by decide +kernel
theorem d_Rec_with_35 : decode b_Rec_with 35 = .ok (.iastore, 1) := by decide +kernel
theorem d_Rec_with_36 : decode b_Rec_with 36 = .ok (.iinc 4 1, 3) := by decide +kernel
theorem d_Rec_with_39 : decode b_Rec_with 39 = .ok (.goto (-24), 3) := by decide +kernel
theorem d_Rec_with_42 : decode b_Rec_with 42 = .ok (.aload_n 0, 1) := by decide +kernel
theorem d_Rec_with_43 : decode b_Rec_with 43 = .ok (.getfield 19, 3) := by decide +kernel
theorem d_Rec_with_46 : decode b_Rec_with 46 = .ok (.iload_n 2, 1) := by decide +kernel
theorem d_Rec_with_47 : decode b_Rec_with 47 = .ok (.iload_n 3, 1) := by decide +kernel
theorem d_Rec_with_48 : decode b_Rec_with 48 = .ok (.iastore, 1) := by decide +kernel
theorem d_Rec_with_49 : decode b_Rec_with 49 = .ok (.aload_n 0, 1) := by decide +kernel
theorem d_Rec_with_50 : decode b_Rec_with 50 = .ok (.invokevirtual 26, 3) := by decide +kernel
theorem d_Rec_with_53 : decode b_Rec_with 53 = .ok (.ireturn, 1) := by decide +kernel
theorem d_Rec_slot_0 : decode b_Rec_slot 0 = .ok (.bipush 7, 2) := by decide +kernel
theorem d_Rec_slot_2 : decode b_Rec_slot 2 = .ok (.istore_n 3, 1) := by decide +kernel
theorem d_Rec_slot_3 : decode b_Rec_slot 3 = .ok (.iconst 0, 1) := by decide +kernel
theorem d_Rec_slot_4 : decode b_Rec_slot 4 = .ok (.istore 4, 2) := by decide +kernel
theorem d_Rec_slot_6 : decode b_Rec_slot 6 = .ok (.iload 4, 2) := by decide +kernel
theorem d_Rec_slot_8 : decode b_Rec_slot 8 = .ok (.bipush 8, 2) := by decide +kernel
theorem d_Rec_slot_10 : decode b_Rec_slot 10 = .ok (.if_icmp .ge 21, 3) := by decide +kernel
theorem d_Rec_slot_13 : decode b_Rec_slot 13 = .ok (.bipush 31, 2) := by decide +kernel
theorem d_Rec_slot_15 : decode b_Rec_slot 15 = .ok (.iload_n 3, 1) := by decide +kernel
theorem d_Rec_slot_16 : decode b_Rec_slot 16 = .ok (.imul, 1) := by decide +kernel
theorem d_Rec_slot_17 : decode b_Rec_slot 17 = .ok (.aload_n 1, 1) := by decide +kernel
theorem d_Rec_slot_18 : decode b_Rec_slot 18 = .ok (.iload_n 2, 1) := by decide +kernel
theorem d_Rec_slot_19 : decode b_Rec_slot 19 = .ok (.iload 4, 2) := by decide +kernel
theorem d_Rec_slot_21 : decode b_Rec_slot 21 = .ok (.iadd, 1) := by decide +kernel
theorem d_Rec_slot_22 : decode b_Rec_slot 22 = .ok (.iaload, 1) := by decide +kernel
theorem d_Rec_slot_23 : decode b_Rec_slot 23 = .ok (.iadd, 1) := by decide +kernel
theorem d_Rec_slot_24 : decode b_Rec_slot 24 = .ok (.istore_n 3, 1) := by decide +kernel
theorem d_Rec_slot_25 : decode b_Rec_slot 25 = .ok (.iinc 4 1, 3) := by decide +kernel
theorem d_Rec_slot_28 : decode b_Rec_slot 28 = .ok (.goto (-22), 3) := by decide +kernel
theorem d_Rec_slot_31 : decode b_Rec_slot 31 = .ok (.iload_n 3, 1) := by decide +kernel
theorem d_Rec_slot_32 : decode b_Rec_slot 32 = .ok (.iload_n 3, 1) := by decide +kernel
theorem d_Rec_slot_33 : decode b_Rec_slot 33 = .ok (.bipush 15, 2) := by decide +kernel
theorem d_Rec_slot_35 : decode b_Rec_slot 35 = .ok (.iushr, 1) := by decide +kernel
theorem d_Rec_slot_36 : decode b_Rec_slot 36 = .ok (.ixor, 1) := by decide +kernel
theorem d_Rec_slot_37 : decode b_Rec_slot 37 = .ok (.aload_n 0, 1) := by decide +kernel
theorem d_Rec_slot_38 : decode b_Rec_slot 38 = .ok (.getfield 16, 3) := by decide +kernel
theorem d_Rec_slot_41 : decode b_Rec_slot 41 = .ok (.arraylength, 1) := by decide +kernel
theorem d_Rec_slot_42 : decode b_Rec_slot 42 = .ok (.iconst 1, 1) := by decide +kernel
theorem d_Rec_slot_43 : decode b_Rec_slot 43 = .ok (.isub, 1) := by decide +kernel
theorem d_Rec_slot_44 : decode b_Rec_slot 44 = .ok (.iand, 1) := by decide +kernel
theorem d_Rec_slot_45 : decode b_Rec_slot 45 = .ok (.ireturn, 1) := by decide +kernel
theorem d_Rec_intern_0 : decode b_Rec_intern 0 = .ok (.aload_n 0, 1) := by decide +kernel
theorem d_Rec_intern_1 : decode b_Rec_intern 1 = .ok (.aload_n 0, 1) := by decide +kernel
theorem d_Rec_intern_2 : decode b_Rec_intern 2 = .ok (.getfield 19, 3) := by decide +kernel
theorem d_Rec_intern_5 : decode b_Rec_intern 5 = .ok (.iconst 0, 1) := by decide +kernel
theorem d_Rec_intern_6 : decode b_Rec_intern 6 = .ok (.invokevirtual 37, 3) := by decide +kernel
theorem d_Rec_intern_9 : decode b_Rec_intern 9 = .ok (.istore_n 1, 1) := by decide +kernel
theorem d_Rec_intern_10 : decode b_Rec_intern 10 = .ok (.aload_n 0, 1) := by decide +kernel
theorem d_Rec_intern_11 : decode b_Rec_intern 11 = .ok (.getfield 16, 3) := by decide +kernel
theorem d_Rec_intern_14 : decode b_Rec_intern 14 = .ok (.iload_n 1, 1) := by decide +kernel
theorem d_Rec_intern_15 : decode b_Rec_intern 15 = .ok (.iaload, 1) := by decide +kernel
theorem d_Rec_intern_16 : decode b_Rec_intern 16 = .ok (.istore_n 2, 1) := by decide +kernel
theorem d_Rec_intern_17 : decode b_Rec_intern 17 = .ok (.iload_n 2, 1) := by decide +kernel
theorem d_Rec_intern_18 : decode b_Rec_intern 18 = .ok (.ifCond .lt 69, 3) := by decide +kernel
theorem d_Rec_intern_21 : decode b_Rec_intern 21 = .ok (.iconst 1, 1) := by decide +kernel
theorem d_Rec_intern_22 : decode b_Rec_intern 22 = .ok (.istore_n 3, 1) := by decide +kernel
theorem d_Rec_intern_23 : decode b_Rec_intern 23 = .ok (.iconst 0, 1) := by decide +kernel
theorem d_Rec_intern_24 : decode b_Rec_intern 24 = .ok (.istore 4, 2) := by decide +kernel
theorem d_Rec_intern_26 : decode b_Rec_intern 26 = .ok (.iload 4, 2) := by decide +kernel
theorem d_Rec_intern_28 : decode b_Rec_intern 28 = .ok (.bipush 8, 2) := by decide +kernel
theorem d_Rec_intern_30 : decode b_Rec_intern 30 = .ok (.if_icmp .ge 41, 3) := by decide +kernel
theorem d_Rec_intern_33 : decode b_Rec_intern 33 = .ok (.iload_n 3, 1) := by decide +kernel
theorem d_Rec_intern_34 : decode b_Rec_intern 34 = .ok (.ifCond .eq 37, 3) := by decide +kernel
theorem d_Rec_intern_37 : decode b_Rec_intern 37 = .ok (.aload_n 0, 1) := by decide +kernel
theorem d_Rec_intern_38 : decode b_Rec_intern 38 = .ok (.getfield 9, 3) := by decide +kernel
theorem d_Rec_intern_41 : decode b_Rec_intern 41 = .ok (.bipush 8, 2) := by decide +kernel
theorem d_Rec_intern_43 : decode b_Rec_intern 43 = .ok (.iload_n 2, 1) := by decide +kernel
theorem d_Rec_intern_44 : decode b_Rec_intern 44 = .ok (.imul, 1) := by decide +kernel
theorem d_Rec_intern_45 : decode b_Rec_intern 45 = .ok (.iload 4, 2) := by decide +kernel
theorem d_Rec_intern_47 : decode b_Rec_intern 47 = .ok (.iadd, 1) := by decide +kernel
theorem d_Rec_intern_48 : decode b_Rec_intern 48 = .ok (.iaload, 1) := by decide +kernel
theorem d_Rec_intern_49 : decode b_Rec_intern 49 = .ok (.aload_n 0, 1) := by decide +kernel
theorem d_Rec_intern_50 : decode b_Rec_intern 50 = .ok (.getfield 19, 3) := by decide +kernel
theorem d_Rec_intern_53 : decode b_Rec_intern 53 = .ok (.iload 4, 2) := by decide +kernel
theorem d_Rec_intern_55 : decode b_Rec_intern 55 = .ok (.iaload, 1) := by decide +kernel
theorem d_Rec_intern_56 : decode b_Rec_intern 56 = .ok (.if_icmp .ne 7, 3) := by decide +kernel
theorem d_Rec_intern_59 : decode b_Rec_intern 59 = .ok (.iconst 1, 1) := by decide +kernel
theorem d_Rec_intern_60 : decode b_Rec_intern 60 = .ok (.goto 4, 3) := by decide +kernel
theorem d_Rec_intern_63 : decode b_Rec_intern 63 = .ok (.iconst 0, 1) := by decide +kernel
theorem d_Rec_intern_64 : decode b_Rec_intern 64 = .ok (.istore_n 3, 1) := by decide +kernel
theorem d_Rec_intern_65 : decode b_Rec_intern 65 = .ok (.iinc 4 1, 3) := by decide +kernel
theorem d_Rec_intern_68 : decode b_Rec_intern 68 = .ok (.goto (-42), 3) := by decide +kernel
theorem d_Rec_intern_71 : decode b_Rec_intern 71 = .ok (.iload_n 3, 1) := by decide +kernel
theorem d_Rec_intern_72 : decode b_Rec_intern 72 = .ok (.ifCond .eq 5, 3) := by decide +kernel
theorem d_Rec_intern_75 : decode b_Rec_intern 75 = .ok (.iload_n 2, 1) := by decide +kernel
theorem d_Rec_intern_76 : decode b_Rec_intern 76 = .ok (.ireturn, 1) := by decide +kernel
theorem d_Rec_intern_77 : decode b_Rec_intern 77 = .ok (.aload_n 0, 1) := by decide +kernel
theorem d_Rec_intern_78 : decode b_Rec_intern 78 = .ok (.getfield 13, 3) := by decide +kernel
theorem d_Rec_intern_81 : decode b_Rec_intern 81 = .ok (.iload_n 2, 1) := by decide +kernel
theorem d_Rec_intern_82 : decode b_Rec_intern 82 = .ok (.iaload, 1) := by decide +kernel
theorem d_Rec_intern_83 : decode b_Rec_intern 83 = .ok (.istore_n 2, 1) := by decide +kernel
theorem d_Rec_intern_84 : decode b_Rec_intern 84 = .ok (.goto (-67), 3) := by decide +kernel
theorem d_Rec_intern_87 : decode b_Rec_intern 87 = .ok (.aload_n 0, 1) := by decide +kernel
theorem d_Rec_intern_88 : decode b_Rec_intern 88 = .ok (.getfield 22, 3) := by decide +kernel
theorem d_Rec_intern_91 : decode b_Rec_intern 91 = .ok (.aload_n 0, 1) := by decide +kernel
theorem d_Rec_intern_92 : decode b_Rec_intern 92 = .ok (.getfield 13, 3) := by decide +kernel
theorem d_Rec_intern_95 : decode b_Rec_intern 95 = .ok (.arraylength, 1) := by decide +kernel
theorem d_Rec_intern_96 : decode b_Rec_intern 96 = .ok (.if_icmp .ne 25, 3) := by decide +kernel
theorem d_Rec_intern_99 : decode b_Rec_intern 99 = .ok (.aload_n 0, 1) := by decide +kernel
theorem d_Rec_intern_100 : decode b_Rec_intern 100 = .ok (.aload_n 0, 1) := by decide +kernel
theorem d_Rec_intern_101 : decode b_Rec_intern 101 = .ok (.getfield 9, 3) := by decide +kernel
theorem d_Rec_intern_104 : decode b_Rec_intern 104 = .ok (.invokestatic 41, 3) := by decide +kernel
theorem d_Rec_intern_107 : decode b_Rec_intern 107 = .ok (.putfield 9, 3) := by decide +kernel
theorem d_Rec_intern_110 : decode b_Rec_intern 110 = .ok (.aload_n 0, 1) := by decide +kernel
theorem d_Rec_intern_111 : decode b_Rec_intern 111 = .ok (.aload_n 0, 1) := by decide +kernel
theorem d_Rec_intern_112 : decode b_Rec_intern 112 = .ok (.getfield 13, 3) := by decide +kernel
theorem d_Rec_intern_115 : decode b_Rec_intern 115 = .ok (.invokestatic 41, 3) := by decide +kernel
theorem d_Rec_intern_118 : decode b_Rec_intern 118 = .ok (.putfield 13, 3) := by decide +kernel
theorem d_Rec_intern_121 : decode b_Rec_intern 121 = .ok (.iconst 0, 1) := by decide +kernel
theorem d_Rec_intern_122 : decode b_Rec_intern 122 = .ok (.istore_n 2, 1) := by decide +kernel
theorem d_Rec_intern_123 : decode b_Rec_intern 123 = .ok (.iload_n 2, 1) := by decide +kernel
theorem d_Rec_intern_124 : decode b_Rec_intern 124 = .ok (.bipush 8, 2) := by decide +kernel
theorem d_Rec_intern_126 : decode b_Rec_intern 126 = .ok (.if_icmp .ge 29, 3) := by decide +kernel
theorem d_Rec_intern_129 : decode b_Rec_intern 129 = .ok (.aload_n 0, 1) := by decide +kernel
theorem d_Rec_intern_130 : decode b_Rec_intern 130 = .ok (.getfield 9, 3) := by decide +kernel
theorem d_Rec_intern_133 : decode b_Rec_intern 133 = .ok (.bipush 8, 2) := by decide +kernel
theorem d_Rec_intern_135 : decode b_Rec_intern 135 = .ok (.aload_n 0, 1) := by decide +kernel
theorem d_Rec_intern_136 : decode b_Rec_intern 136 = .ok (.getfield 22, 3) := by decide +kernel
theorem d_Rec_intern_139 : decode b_Rec_intern 139 = .ok (.imul, 1) := by decide +kernel
theorem d_Rec_intern_140 : decode b_Rec_intern 140 = .ok (.iload_n 2, 1) := by decide +kernel
theorem d_Rec_intern_141 : decode b_Rec_intern 141 = .ok (.iadd, 1) := by decide +kernel
theorem d_Rec_intern_142 : decode b_Rec_intern 142 = .ok (.aload_n 0, 1) := by decide +kernel
theorem d_Rec_intern_143 : decode b_Rec_intern 143 = .ok (.getfield 19, 3) := by decide +kernel
theorem d_Rec_intern_146 : decode b_Rec_intern 146 = .ok (.iload_n 2, 1) := by decide +kernel
theorem d_Rec_intern_147 : decode b_Rec_intern 147 = .ok (.iaload, 1) := by decide +kernel
theorem d_Rec_intern_148 : decode b_Rec_intern 148 = .ok (.iastore, 1) := by decide +kernel
theorem d_Rec_intern_149 : decode b_Rec_intern 149 = .ok (.iinc 2 1, 3) := by decide +kernel
theorem d_Rec_intern_152 : decode b_Rec_intern 152 = .ok (.goto (-29), 3) := by decide +kernel
theorem d_Rec_intern_155 : decode b_Rec_intern 155 = .ok (.aload_n 0, 1) := by decide +kernel
theorem d_Rec_intern_156 : decode b_Rec_intern 156 = .ok (.getfield 13, 3) := by decide +kernel
theorem d_Rec_intern_159 : decode b_Rec_intern 159 = .ok (.aload_n 0, 1) := by decide +kernel
theorem d_Rec_intern_160 : decode b_Rec_intern 160 = .ok (.getfield 22, 3) := by decide +kernel
theorem d_Rec_intern_163 : decode b_Rec_intern 163 = .ok (.aload_n 0, 1) := by decide +kernel
theorem d_Rec_intern_164 : decode b_Rec_intern 164 = .ok (.getfield 16, 3) := by decide +kernel
theorem d_Rec_intern_167 : decode b_Rec_intern 167 = .ok (.iload_n 1, 1) := by decide +kernel
theorem d_Rec_intern_168 : decode b_Rec_intern 168 = .ok (.iaload, 1) := by decide +kernel
theorem d_Rec_intern_169 : decode b_Rec_intern 169 = .ok (.iastore, 1) := by decide +kernel
theorem d_Rec_intern_170 : decode b_Rec_intern 170 = .ok (.aload_n 0, 1) := by decide +kernel
theorem d_Rec_intern_171 : decode b_Rec_intern 171 = .ok (.getfield 16, 3) := by decide +kernel
theorem d_Rec_intern_174 : decode b_Rec_intern 174 = .ok (.iload_n 1, 1) := by decide +kernel
theorem d_Rec_intern_175 : decode b_Rec_intern 175 = .ok (.aload_n 0, 1) := by decide +kernel
theorem d_Rec_intern_176 : decode b_Rec_intern 176 = .ok (.getfield 22, 3) := by decide +kernel
theorem d_Rec_intern_179 : decode b_Rec_intern 179 = .ok (.iastore, 1) := by decide +kernel
theorem d_Rec_intern_180 : decode b_Rec_intern 180 = .ok (.aload_n 0, 1) := by decide +kernel
theorem d_Rec_intern_181 : decode b_Rec_intern 181 = .ok (.dup, 1) := by decide +kernel
theorem d_Rec_intern_182 : decode b_Rec_intern 182 = .ok (.getfield 22, 3) := by decide +kernel
theorem d_Rec_intern_185 : decode b_Rec_intern 185 = .ok (.iconst 1, 1) := by decide +kernel
theorem d_Rec_intern_186 : decode b_Rec_intern 186 = .ok (.iadd, 1) := by decide +kernel
theorem d_Rec_intern_187 : decode b_Rec_intern 187 = .ok (.putfield 22, 3) := by decide +kernel
theorem d_Rec_intern_190 : decode b_Rec_intern 190 = .ok (.aload_n 0, 1) := by decide +kernel
theorem d_Rec_intern_191 : decode b_Rec_intern 191 = .ok (.getfield 22, 3) := by decide +kernel
theorem d_Rec_intern_194 : decode b_Rec_intern 194 = .ok (.iconst 2, 1) := by decide +kernel
theorem d_Rec_intern_195 : decode b_Rec_intern 195 = .ok (.aload_n 0, 1) := by decide +kernel
theorem d_Rec_intern_196 : decode b_Rec_intern 196 = .ok (.getfield 16, 3) := by decide +kernel
theorem d_Rec_intern_199 : decode b_Rec_intern 199 = .ok (.arraylength, 1) := by decide +kernel
theorem d_Rec_intern_200 : decode b_Rec_intern 200 = .ok (.imul, 1) := by decide +kernel
theorem d_Rec_intern_201 : decode b_Rec_intern 201 = .ok (.if_icmp .le 7, 3) := by decide +kernel
theorem d_Rec_intern_204 : decode b_Rec_intern 204 = .ok (.aload_n 0, 1) := by decide +kernel
theorem d_Rec_intern_205 : decode b_Rec_intern 205 = .ok (.invokevirtual 47, 3) := by decide +kernel
theorem d_Rec_intern_208 : decode b_Rec_intern 208 = .ok (.aload_n 0, 1) := by decide +kernel
theorem d_Rec_intern_209 : decode b_Rec_intern 209 = .ok (.getfield 22, 3) := by decide +kernel
theorem d_Rec_intern_212 : decode b_Rec_intern 212 = .ok (.iconst 1, 1) := by decide +kernel
theorem d_Rec_intern_213 : decode b_Rec_intern 213 = .ok (.isub, 1) := by decide +kernel
theorem d_Rec_intern_214 : decode b_Rec_intern 214 = .ok (.ireturn, 1) := by decide +kernel
theorem d_Rec_spread_0 : decode b_Rec_spread 0 = .ok (.aload_n 0, 1) := by decide +kernel
theorem d_Rec_spread_1 : decode b_Rec_spread 1 = .ok (.iconst 4, 1) := by decide +kernel
theorem d_Rec_spread_2 : decode b_Rec_spread 2 = .ok (.aload_n 0, 1) := by decide +kernel
theorem d_Rec_spread_3 : decode b_Rec_spread 3 = .ok (.getfield 16, 3) := by decide +kernel
theorem d_Rec_spread_6 : decode b_Rec_spread 6 = .ok (.arraylength, 1) := by decide +kernel
theorem d_Rec_spread_7 : decode b_Rec_spread 7 = .ok (.imul, 1) := by decide +kernel
theorem d_Rec_spread_8 : decode b_Rec_spread 8 = .ok (.newarray .int, 2) := by decide +kernel
theorem d_Rec_spread_10 : decode b_Rec_spread 10 = .ok (.putfield 16, 3) := by decide +kernel
theorem d_Rec_spread_13 : decode b_Rec_spread 13 = .ok (.aload_n 0, 1) := by decide +kernel
theorem d_Rec_spread_14 : decode b_Rec_spread 14 = .ok (.invokevirtual 30, 3) := by decide +kernel
theorem d_Rec_spread_17 : decode b_Rec_spread 17 = .ok (.return_, 1) := by decide +kernel
theorem d_Rec_link_0 : decode b_Rec_link 0 = .ok (.iconst 0, 1) := by decide +kernel
theorem d_Rec_link_1 : decode b_Rec_link 1 = .ok (.istore_n 1, 1) := by decide +kernel
theorem d_Rec_link_2 : decode b_Rec_link 2 = .ok (.iload_n 1, 1) := by decide +kernel
theorem d_Rec_link_3 : decode b_Rec_link 3 = .ok (.aload_n 0, 1) := by decide +kernel
theorem d_Rec_link_4 : decode b_Rec_link 4 = .ok (.getfield 16, 3) := by decide +kernel
theorem d_Rec_link_7 : decode b_Rec_link 7 = .ok (.arraylength, 1) := by decide +kernel
theorem d_Rec_link_8 : decode b_Rec_link 8 = .ok (.if_icmp .ge 16, 3) := by decide +kernel
theorem d_Rec_link_11 : decode b_Rec_link 11 = .ok (.aload_n 0, 1) := by decide +kernel
theorem d_Rec_link_12 : decode b_Rec_link 12 = .ok (.getfield 16, 3) := by decide +kernel
theorem d_Rec_link_15 : decode b_Rec_link 15 = .ok (.iload_n 1, 1) := by decide +kernel
theorem d_Rec_link_16 : decode b_Rec_link 16 = .ok (.iconst (-1), 1) := by decide +kernel
theorem d_Rec_link_17 : decode b_Rec_link 17 = .ok (.iastore, 1) := by decide +kernel
theorem d_Rec_link_18 : decode b_Rec_link 18 = .ok (.iinc 1 1, 3) := by decide +kernel
theorem d_Rec_link_21 : decode b_Rec_link 21 = .ok (.goto (-19), 3) := by decide +kernel
theorem d_Rec_link_24 : decode b_Rec_link 24 = .ok (.iconst 0, 1) := by decide +kernel
theorem d_Rec_link_25 : decode b_Rec_link 25 = .ok (.istore_n 1, 1) := by decide +kernel
theorem d_Rec_link_26 : decode b_Rec_link 26 = .ok (.iload_n 1, 1) := by decide +kernel
theorem d_Rec_link_27 : decode b_Rec_link 27 = .ok (.aload_n 0, 1) := by decide +kernel
theorem d_Rec_link_28 : decode b_Rec_link 28 = .ok (.getfield 22, 3) := by decide +kernel
theorem d_Rec_link_31 : decode b_Rec_link 31 = .ok (.if_icmp .ge 41, 3) := by decide +kernel
theorem d_Rec_link_34 : decode b_Rec_link 34 = .ok (.aload_n 0, 1) := by decide +kernel
theorem d_Rec_link_35 : decode b_Rec_link 35 = .ok (.aload_n 0, 1) := by decide +kernel
theorem d_Rec_link_36 : decode b_Rec_link 36 = .ok (.getfield 9, 3) := by decide +kernel
theorem d_Rec_link_39 : decode b_Rec_link 39 = .ok (.bipush 8, 2) := by decide +kernel
theorem d_Rec_link_41 : decode b_Rec_link 41 = .ok (.iload_n 1, 1) := by decide +kernel
theorem d_Rec_link_42 : decode b_Rec_link 42 = .ok (.imul, 1) := by decide +kernel
theorem d_Rec_link_43 : decode b_Rec_link 43 = .ok (.invokevirtual 37, 3) := by decide +kernel
theorem d_Rec_link_46 : decode b_Rec_link 46 = .ok (.istore_n 2, 1) := by decide +kernel
theorem d_Rec_link_47 : decode b_Rec_link 47 = .ok (.aload_n 0, 1) := by decide +kernel
theorem d_Rec_link_48 : decode b_Rec_link 48 = .ok (.getfield 13, 3) := by decide +kernel
theorem d_Rec_link_51 : decode b_Rec_link 51 = .ok (.iload_n 1, 1) := by decide +kernel
theorem d_Rec_link_52 : decode b_Rec_link 52 = .ok (.aload_n 0, 1) := by decide +kernel
theorem d_Rec_link_53 : decode b_Rec_link 53 = .ok (.getfield 16, 3) := by decide +kernel
theorem d_Rec_link_56 : decode b_Rec_link 56 = .ok (.iload_n 2, 1) := by decide +kernel
theorem d_Rec_link_57 : decode b_Rec_link 57 = .ok (.iaload, 1) := by decide +kernel
theorem d_Rec_link_58 : decode b_Rec_link 58 = .ok (.iastore, 1) := by decide +kernel
theorem d_Rec_link_59 : decode b_Rec_link 59 = .ok (.aload_n 0, 1) := by decide +kernel
theorem d_Rec_link_60 : decode b_Rec_link 60 = .ok (.getfield 16, 3) := by decide +kernel
theorem d_Rec_link_63 : decode b_Rec_link 63 = .ok (.iload_n 2, 1) := by decide +kernel
theorem d_Rec_link_64 : decode b_Rec_link 64 = .ok (.iload_n 1, 1) := by decide +kernel
theorem d_Rec_link_65 : decode b_Rec_link 65 = .ok (.iastore, 1) := by decide +kernel
theorem d_Rec_link_66 : decode b_Rec_link 66 = .ok (.iinc 1 1, 3) := by decide +kernel
theorem d_Rec_link_69 : decode b_Rec_link 69 = .ok (.goto (-43), 3) := by decide +kernel
theorem d_Rec_link_72 : decode b_Rec_link 72 = .ok (.return_, 1) := by decide +kernel
end
section
theorem d_Mod_init_0 : decode b_Mod_init 0 = .ok (.aload_n 0, 1) := by decide +kernel
theorem d_Mod_init_1 : decode b_Mod_init 1 = .ok (.invokespecial 1, 3) := by decide +kernel
theorem d_Mod_init_4 : decode b_Mod_init 4 = .ok (.aload_n 0, 1) := by decide +kernel
theorem d_Mod_init_5 : decode b_Mod_init 5 = .ok (.iconst 1, 1) := by decide +kernel
theorem d_Mod_init_6 : decode b_Mod_init 6 = .ok (.putfield 7, 3) := by decide +kernel
theorem d_Mod_init_9 : decode b_Mod_init 9 = .ok (.aload_n 0, 1) := by decide +kernel
theorem d_Mod_init_10 : decode b_Mod_init 10 = .ok (.sipush 9000, 3) := by decide +kernel
theorem d_Mod_init_13 : decode b_Mod_init 13 = .ok (.newarray .int, 2) := by decide +kernel
theorem d_Mod_init_15 : decode b_Mod_init 15 = .ok (.putfield 13, 3) := by decide +kernel
theorem d_Mod_init_18 : decode b_Mod_init 18 = .ok (.aload_n 0, 1) := by decide +kernel
theorem d_Mod_init_19 : decode b_Mod_init 19 = .ok (.ldc 17, 2) := by decide +kernel
theorem d_Mod_init_21 : decode b_Mod_init 21 = .ok (.newarray .int, 2) := by decide +kernel
theorem d_Mod_init_23 : decode b_Mod_init 23 = .ok (.putfield 18, 3) := by decide +kernel
theorem d_Mod_init_26 : decode b_Mod_init 26 = .ok (.return_, 1) := by decide +kernel
theorem d_Mod_thrown_0 : decode b_Mod_thrown 0 = .ok (.aload_n 0, 1) := by decide +kernel
theorem d_Mod_thrown_1 : decode b_Mod_thrown 1 = .ok (.getfield 21, 3) := by decide +kernel
theorem d_Mod_thrown_4 : decode b_Mod_thrown 4 = .ok (.ireturn, 1) := by decide +kernel
theorem d_Mod_fail_0 : decode b_Mod_fail 0 = .ok (.aload_n 0, 1) := by decide +kernel
theorem d_Mod_fail_1 : decode b_Mod_fail 1 = .ok (.iload_n 1, 1) := by decide +kernel
theorem d_Mod_fail_2 : decode b_Mod_fail 2 = .ok (.putfield 21, 3) := by decide +kernel
theorem d_Mod_fail_5 : decode b_Mod_fail 5 = .ok (.iconst 0, 1) := by decide +kernel
theorem d_Mod_fail_6 : decode b_Mod_fail 6 = .ok (.ireturn, 1) := by decide +kernel
theorem d_Mod_at_0 : decode b_Mod_at 0 = .ok (.iconst 0, 1) := by decide +kernel
theorem d_Mod_at_1 : decode b_Mod_at 1 = .ok (.istore_n 2, 1) := by decide +kernel
theorem d_Mod_at_2 : decode b_Mod_at 2 = .ok (.aload_n 0, 1) := by decide +kernel
theorem d_Mod_at_3 : decode b_Mod_at 3 = .ok (.getfield 7, 3) := by decide +kernel
theorem d_Mod_at_6 : decode b_Mod_at 6 = .ok (.iconst 1, 1) := by decide +kernel
theorem d_Mod_at_7 : decode b_Mod_at 7 = .ok (.isub, 1) := by decide +kernel
theorem d_Mod_at_8 : decode b_Mod_at 8 = .ok (.istore_n 3, 1) := by decide +kernel
theorem d_Mod_at_9 : decode b_Mod_at 9 = .ok (.iload_n 2, 1) := by decide +kernel
theorem d_Mod_at_10 : decode b_Mod_at 10 = .ok (.iload_n 3, 1) := by decide +kernel
theorem d_Mod_at_11 : decode b_Mod_at 11 = .ok (.if_icmp .ge 37, 3) := by decide +kernel
theorem d_Mod_at_14 : decode b_Mod_at 14 = .ok (.iload_n 2, 1) := by decide +kernel
theorem d_Mod_at_15 : decode b_Mod_at 15 = .ok (.iload_n 3, 1) := by decide +kernel
theorem d_Mod_at_16 : decode b_Mod_at 16 = .ok (.iadd, 1) := by decide +kernel
theorem d_Mod_at_17 : decode b_Mod_at 17 = .ok (.iconst 1, 1) := by decide +kernel
theorem d_Mod_at_18 : decode b_Mod_at 18 = .ok (.iadd, 1) := by decide +kernel
theorem d_Mod_at_19 : decode b_Mod_at 19 = .ok (.iconst 2, 1) := by decide +kernel
theorem d_Mod_at_20 : decode b_Mod_at 20 = .ok (.idiv, 1) := by decide +kernel
theorem d_Mod_at_21 : decode b_Mod_at 21 = .ok (.istore 4, 2) := by decide +kernel
theorem d_Mod_at_23 : decode b_Mod_at 23 = .ok (.aload_n 0, 1) := by decide +kernel
theorem d_Mod_at_24 : decode b_Mod_at 24 = .ok (.getfield 13, 3) := by decide +kernel
theorem d_Mod_at_27 : decode b_Mod_at 27 = .ok (.iload 4, 2) := by decide +kernel
theorem d_Mod_at_29 : decode b_Mod_at 29 = .ok (.iaload, 1) := by decide +kernel
theorem d_Mod_at_30 : decode b_Mod_at 30 = .ok (.iload_n 1, 1) := by decide +kernel
theorem d_Mod_at_31 : decode b_Mod_at 31 = .ok (.if_icmp .gt 9, 3) := by decide +kernel
theorem d_Mod_at_34 : decode b_Mod_at 34 = .ok (.iload 4, 2) := by decide +kernel
theorem d_Mod_at_36 : decode b_Mod_at 36 = .ok (.istore_n 2, 1) := by decide +kernel
theorem d_Mod_at_37 : decode b_Mod_at 37 = .ok (.goto 8, 3) := by decide +kernel
theorem d_Mod_at_40 : decode b_Mod_at 40 = .ok (.iload 4, 2) := by decide +kernel
theorem d_Mod_at_42 : decode b_Mod_at 42 = .ok (.iconst 1, 1) := by decide +kernel
theorem d_Mod_at_43 : decode b_Mod_at 43 = .ok (.isub, 1) := by decide +kernel
theorem d_Mod_at_44 : decode b_Mod_at 44 = .ok (.istore_n 3, 1) := by decide +kernel
theorem d_Mod_at_45 : decode b_Mod_at 45 = .ok (.goto (-36), 3) := by decide +kernel
theorem d_Mod_at_48 : decode b_Mod_at 48 = .ok (.iload_n 2, 1) := by decide +kernel
theorem d_Mod_at_49 : decode b_Mod_at 49 = .ok (.ireturn, 1) := by decide +kernel
theorem d_Mod_cut_0 : decode b_Mod_cut 0 = .ok (.iload_n 1, 1) := by decide +kernel
theorem d_Mod_cut_1 : decode b_Mod_cut 1 = .ok (.ldc 24, 2) := by decide +kernel
theorem d_Mod_cut_3 : decode b_Mod_cut 3 = .ok (.if_icmp .le 4, 3) := by decide +kernel
theorem d_Mod_cut_6 : decode b_Mod_cut 6 = .ok (.return_, 1) := by decide +kernel
theorem d_Mod_cut_7 : decode b_Mod_cut 7 = .ok (.aload_n 0, 1) := by decide +kernel
theorem d_Mod_cut_8 : decode b_Mod_cut 8 = .ok (.iload_n 1, 1) := by decide +kernel
theorem d_Mod_cut_9 : decode b_Mod_cut 9 = .ok (.invokevirtual 25, 3) := by decide +kernel
theorem d_Mod_cut_12 : decode b_Mod_cut 12 = .ok (.istore_n 2, 1) := by decide +kernel
theorem d_Mod_cut_13 : decode b_Mod_cut 13 = .ok (.aload_n 0, 1) := by decide +kernel
theorem d_Mod_cut_14 : decode b_Mod_cut 14 = .ok (.getfield 13, 3) := by decide +kernel
theorem d_Mod_cut_17 : decode b_Mod_cut 17 = .ok (.iload_n 2, 1) := by decide +kernel
theorem d_Mod_cut_18 : decode b_Mod_cut 18 = .ok (.iaload, 1) := by decide +kernel
theorem d_Mod_cut_19 : decode b_Mod_cut 19 = .ok (.iload_n 1, 1) := by decide +kernel
theorem d_Mod_cut_20 : decode b_Mod_cut 20 = .ok (.if_icmp .ne 4, 3) := by decide +kernel
theorem d_Mod_cut_23 : decode b_Mod_cut 23 = .ok (.return_, 1) := by decide +kernel
theorem d_Mod_cut_24 : decode b_Mod_cut 24 = .ok (.aload_n 0, 1) := by decide +kernel
theorem d_Mod_cut_25 : decode b_Mod_cut 25 = .ok (.getfield 7, 3) := by decide +kernel
theorem d_Mod_cut_28 : decode b_Mod_cut 28 = .ok (.istore_n 3, 1) := by decide +kernel
theorem d_Mod_cut_29 : decode b_Mod_cut 29 = .ok (.iload_n 3, 1) := by decide +kernel
theorem d_Mod_cut_30 : decode b_Mod_cut 30 = .ok (.iload_n 2, 1) := by decide +kernel
theorem d_Mod_cut_31 : decode b_Mod_cut 31 = .ok (.iconst 1, 1) := by decide +kernel
theorem d_Mod_cut_32 : decode b_Mod_cut 32 = .ok (.iadd, 1) := by decide +kernel
theorem d_Mod_cut_33 : decode b_Mod_cut 33 = .ok (.if_icmp .le 66, 3) := by decide +kernel
theorem d_Mod_cut_36 : decode b_Mod_cut 36 = .ok (.aload_n 0, 1) := by decide +kernel
theorem d_Mod_cut_37 : decode b_Mod_cut 37 = .ok (.getfield 13, 3) := by decide +kernel
theorem d_Mod_cut_40 : decode b_Mod_cut 40 = .ok (.iload_n 3, 1) := by decide +kernel
theorem d_Mod_cut_41 : decode b_Mod_cut 41 = .ok (.aload_n 0, 1) := by decide +kernel
theorem d_Mod_cut_42 : decode b_Mod_cut 42 = .ok (.getfield 13, 3) := by decide +kernel
theorem d_Mod_cut_45 : decode b_Mod_cut 45 = .ok (.iload_n 3, 1) := by decide +kernel
theorem d_Mod_cut_46 : decode b_Mod_cut 46 = .ok (.iconst 1, 1) := by decide +kernel
theorem d_Mod_cut_47 : decode b_Mod_cut 47 = .ok (.isub, 1) := by decide +kernel
theorem d_Mod_cut_48 : decode b_Mod_cut 48 = .ok (.iaload, 1) := by decide +kernel
theorem d_Mod_cut_49 : decode b_Mod_cut 49 = .ok (.iastore, 1) := by decide +kernel
theorem d_Mod_cut_50 : decode b_Mod_cut 50 = .ok (.iconst 0, 1) := by decide +kernel
theorem d_Mod_cut_51 : decode b_Mod_cut 51 = .ok (.istore 4, 2) := by decide +kernel
theorem d_Mod_cut_53 : decode b_Mod_cut 53 = .ok (.iload 4, 2) := by decide +kernel
theorem d_Mod_cut_55 : decode b_Mod_cut 55 = .ok (.bipush 8, 2) := by decide +kernel
theorem d_Mod_cut_57 : decode b_Mod_cut 57 = .ok (.if_icmp .ge 36, 3) := by decide +kernel
theorem d_Mod_cut_60 : decode b_Mod_cut 60 = .ok (.aload_n 0, 1) := by decide +kernel
theorem d_Mod_cut_61 : decode b_Mod_cut 61 = .ok (.getfield 18, 3) := by decide +kernel
theorem d_Mod_cut_64 : decode b_Mod_cut 64 = .ok (.bipush 8, 2) := by decide +kernel
theorem d_Mod_cut_66 : decode b_Mod_cut 66 = .ok (.iload_n 3, 1) := by decide +kernel
theorem d_Mod_cut_67 : decode b_Mod_cut 67 = .ok (.imul, 1) := by decide +kernel
theorem d_Mod_cut_68 : decode b_Mod_cut 68 = .ok (.iload 4, 2) := by decide +kernel
theorem d_Mod_cut_70 : decode b_Mod_cut 70 = .ok (.iadd, 1) := by decide +kernel
theorem d_Mod_cut_71 : decode b_Mod_cut 71 = .ok (.aload_n 0, 1) := by decide +kernel
theorem d_Mod_cut_72 : decode b_Mod_cut 72 = .ok (.getfield 18, 3) := by decide +kernel
theorem d_Mod_cut_75 : decode b_Mod_cut 75 = .ok (.bipush 8, 2) := by decide +kernel
theorem d_Mod_cut_77 : decode b_Mod_cut 77 = .ok (.iload_n 3, 1) := by decide +kernel
theorem d_Mod_cut_78 : decode b_Mod_cut 78 = .ok (.imul, 1) := by decide +kernel
theorem d_Mod_cut_79 : decode b_Mod_cut 79 = .ok (.bipush 8, 2) := by decide +kernel
theorem d_Mod_cut_81 : decode b_Mod_cut 81 = .ok (.isub, 1) := by decide +kernel
theorem d_Mod_cut_82 : decode b_Mod_cut 82 = .ok (.iload 4, 2) := by decide +kernel
theorem d_Mod_cut_84 : decode b_Mod_cut 84 = .ok (.iadd, 1) := by decide +kernel
theorem d_Mod_cut_85 : decode b_Mod_cut 85 = .ok (.iaload, 1) := by decide +kernel
theorem d_Mod_cut_86 : decode b_Mod_cut 86 = .ok (.iastore, 1) := by decide +kernel
theorem d_Mod_cut_87 : decode b_Mod_cut 87 = .ok (.iinc 4 1, 3) := by decide +kernel
theorem d_Mod_cut_90 : decode b_Mod_cut 90 = .ok (.goto (-37), 3) := by decide +kernel
theorem d_Mod_cut_93 : decode b_Mod_cut 93 = .ok (.iinc 3 (-1), 3) := by decide +kernel
theorem d_Mod_cut_96 : decode b_Mod_cut 96 = .ok (.goto (-67), 3) := by decide +kernel
theorem d_Mod_cut_99 : decode b_Mod_cut 99 = .ok (.aload_n 0, 1) := by decide +kernel
theorem d_Mod_cut_100 : decode b_Mod_cut 100 = .ok (.getfield 13, 3) := by decide +kernel
theorem d_Mod_cut_103 : decode b_Mod_cut 103 = .ok (.iload_n 2, 1) := by decide +kernel
theorem d_Mod_cut_104 : decode b_Mod_cut 104 = .ok (.iconst 1, 1) := by decide +kernel
theorem d_Mod_cut_105 : decode b_Mod_cut 105 = .ok (.iadd, 1) := by decide +kernel
theorem d_Mod_cut_106 : decode b_Mod_cut 106 = .ok (.iload_n 1, 1) := by decide +kernel
theorem d_Mod_cut_107 : decode b_Mod_cut 107 = .ok (.iastore, 1) := by decide +kernel
theorem d_Mod_cut_108 : decode b_Mod_cut 108 = .ok (.iconst 0, 1) := by decide +kernel
theorem d_Mod_cut_109 : decode b_Mod_cut 109 = .ok (.istore_n 3, 1) := by decide +kernel
theorem d_Mod_cut_110 : decode b_Mod_cut 110 = .ok (.iload_n 3, 1) := by decide +kernel
theorem d_Mod_cut_111 : decode b_Mod_cut 111 = .ok (.bipush 8, 2) := by decide +kernel
theorem d_Mod_cut_113 : decode b_Mod_cut 113 = .ok (.if_icmp .ge 34, 3) := by decide +kernel
theorem d_Mod_cut_116 : decode b_Mod_cut 116 = .ok (.aload_n 0, 1) := by decide +kernel
theorem d_Mod_cut_117 : decode b_Mod_cut 117 = .ok (.getfield 18, 3) := by decide +kernel
theorem d_Mod_cut_120 : decode b_Mod_cut 120 = .ok (.bipush 8, 2) := by decide +kernel
theorem d_Mod_cut_122 : decode b_Mod_cut 122 = .ok (.iload_n 2, 1) := by decide +kernel
theorem d_Mod_cut_123 : decode b_Mod_cut 123 = .ok (.imul, 1) := by decide +kernel
theorem d_Mod_cut_124 : decode b_Mod_cut 124 = .ok (.bipush 8, 2) := by decide +kernel
theorem d_Mod_cut_126 : decode b_Mod_cut 126 = .ok (.iadd, 1) := by decide +kernel
theorem d_Mod_cut_127 : decode b_Mod_cut 127 = .ok (.iload_n 3, 1) := by decide +kernel
theorem d_Mod_cut_128 : decode b_Mod_cut 128 = .ok (.iadd, 1) := by decide +kernel
theorem d_Mod_cut_129 : decode b_Mod_cut 129 = .ok (.aload_n 0, 1) := by decide +kernel
theorem d_Mod_cut_130 : decode b_Mod_cut 130 = .ok (.getfield 18, 3) := by decide +kernel
theorem d_Mod_cut_133 : decode b_Mod_cut 133 = .ok (.bipush 8, 2) := by decide +kernel
theorem d_Mod_cut_135 : decode b_Mod_cut 135 = .ok (.iload_n 2, 1) := by decide +kernel
theorem d_Mod_cut_136 : decode b_Mod_cut 136 = .ok (.imul, 1) := by decide +kernel
theorem d_Mod_cut_137 : decode b_Mod_cut 137 = .ok (.iload_n 3, 1) := by decide +kernel
theorem d_Mod_cut_138 : decode b_Mod_cut 138 = .ok (.iadd, 1) := by decide +kernel
theorem d_Mod_cut_139 : decode b_Mod_cut 139 = .ok (.iaload, 1) := by decide +kernel
theorem d_Mod_cut_140 : decode b_Mod_cut 140 = .ok (.iastore, 1) := by decide +kernel
theorem d_Mod_cut_141 : decode b_Mod_cut 141 = .ok (.iinc 3 1, 3) := by decide +kernel
theorem d_Mod_cut_144 : decode b_Mod_cut 144 = .ok (.goto (-34), 3) := by decide +kernel
theorem d_Mod_cut_147 : decode b_Mod_cut 147 = .ok (.aload_n 0, 1) := by decide +kernel
theorem d_Mod_cut_148 : decode b_Mod_cut 148 = .ok (.dup, 1) := by decide +kernel
theorem d_Mod_cut_149 : decode b_Mod_cut 149 = .ok (.getfield 7, 3) := by decide +kernel
theorem d_Mod_cut_152 : decode b_Mod_cut 152 = .ok (.iconst 1, 1) := by decide +kernel
theorem d_Mod_cut_153 : decode b_Mod_cut 153 = .ok (.iadd, 1) := by decide +kernel
theorem d_Mod_cut_154 : decode b_Mod_cut 154 = .ok (.putfield 7, 3) := by decide +kernel
theorem d_Mod_cut_157 : decode b_Mod_cut 157 = .ok (.return_, 1) := by decide +kernel
theorem d_Mod_out_0 : decode b_Mod_out 0 = .ok (.iload_n 1, 1) := by decide +kernel
theorem d_Mod_out_1 : decode b_Mod_out 1 = .ok (.ifCond .lt 9, 3) := by decide +kernel
theorem d_Mod_out_4 : decode b_Mod_out 4 = .ok (.iload_n 1, 1) := by decide +kernel
theorem d_Mod_out_5 : decode b_Mod_out 5 = .ok (.ldc 24, 2) := by decide +kernel
theorem d_Mod_out_7 : decode b_Mod_out 7 = .ok (.if_icmp .le 7, 3) := by decide +kernel
theorem d_Mod_out_10 : decode b_Mod_out 10 = .ok (.iconst 1, 1) := by decide +kernel
theorem d_Mod_out_11 : decode b_Mod_out 11 = .ok (.goto 4, 3) := by decide +kernel
theorem d_Mod_out_14 : decode b_Mod_out 14 = .ok (.iconst 0, 1) := by decide +kernel
theorem d_Mod_out_15 : decode b_Mod_out 15 = .ok (.ireturn, 1) := by decide +kernel
theorem d_Mod_set_0 : decode b_Mod_set 0 = .ok (.aload_n 0, 1) := by decide +kernel
theorem d_Mod_set_1 : decode b_Mod_set 1 = .ok (.iload_n 1, 1) := by decide +kernel
theorem d_Mod_set_2 : decode b_Mod_set 2 = .ok (.iload_n 2, 1) := by decide +kernel
theorem d_Mod_set_3 : decode b_Mod_set 3 = .ok (.iload_n 3, 1) := by decide +kernel
theorem d_Mod_set_4 : decode b_Mod_set 4 = .ok (.iload 4, 2) := by decide +kernel
theorem d_Mod_set_6 : decode b_Mod_set 6 = .ok (.iconst 0, 1) := by decide +kernel
theorem d_Mod_set_7 : decode b_Mod_set 7 = .ok (.invokevirtual 29, 3) := by decide +kernel
theorem d_Mod_set_10 : decode b_Mod_set 10 = .ok (.ireturn, 1) := by decide +kernel
theorem d_Mod_mark_0 : decode b_Mod_mark 0 = .ok (.aload_n 0, 1) := by decide +kernel
theorem d_Mod_mark_1 : decode b_Mod_mark 1 = .ok (.iconst 0, 1) := by decide +kernel
theorem d_Mod_mark_2 : decode b_Mod_mark 2 = .ok (.putfield 21, 3) := by decide +kernel
theorem d_Mod_mark_5 : decode b_Mod_mark 5 = .ok (.aload_n 0, 1) := by decide +kernel
theorem d_Mod_mark_6 : decode b_Mod_mark 6 = .ok (.iload_n 1, 1) := by decide +kernel
theorem d_Mod_mark_7 : decode b_Mod_mark 7 = .ok (.invokevirtual 33, 3) := by decide +kernel
theorem d_Mod_mark_10 : decode b_Mod_mark 10 = .ok (.ifCond .ne 26, 3) := by decide +kernel
theorem d_Mod_mark_13 : decode b_Mod_mark 13 = .ok (.aload_n 0, 1) := by decide +kernel
theorem d_Mod_mark_14 : decode b_Mod_mark 14 = .ok (.iload_n 2, 1) := by decide +kernel
theorem d_Mod_mark_15 : decode b_Mod_mark 15 = .ok (.invokevirtual 33, 3) := by decide +kernel
theorem d_Mod_mark_18 : decode b_Mod_mark 18 = .ok (.ifCond .ne 18, 3) := by decide +kernel
theorem d_Mod_mark_21 : decode b_Mod_mark 21 = .ok (.iload_n 2, 1) := by decide +kernel
theorem d_Mod_mark_22 : decode b_Mod_mark 22 = .ok (.iload_n 1, 1) := by decide +kernel
theorem d_Mod_mark_23 : decode b_Mod_mark 23 = .ok (.if_icmp .lt 13, 3) := by decide +kernel
theorem d_Mod_mark_26 : decode b_Mod_mark 26 = .ok (.iload_n 3, 1) := by decide +kernel
theorem d_Mod_mark_27 : decode b_Mod_mark 27 = .ok (.ifCond .lt 9, 3) := by decide +kernel
theorem d_Mod_mark_30 : decode b_Mod_mark 30 = .ok (.iload_n 3, 1) := by decide +kernel
theorem d_Mod_mark_31 : decode b_Mod_mark 31 = .ok (.bipush 7, 2) := by decide +kernel
theorem d_Mod_mark_33 : decode b_Mod_mark 33 = .ok (.if_icmp .le 9, 3) := by decide +kernel
theorem d_Mod_mark_36 : decode b_Mod_mark 36 = .ok (.aload_n 0, 1) := by decide +kernel
theorem d_Mod_mark_37 : decode b_Mod_mark 37 = .ok (.iconst 1, 1) := by decide +kernel
theorem d_Mod_mark_38 : decode b_Mod_mark 38 = .ok (.invokevirtual 37, 3) := by decide +kernel
theorem d_Mod_mark_41 : decode b_Mod_mark 41 = .ok (.ireturn, 1) := by decide +kernel
theorem d_Mod_mark_42 : decode b_Mod_mark 42 = .ok (.aload_n 0, 1) := by decide +kernel
theorem d_Mod_mark_43 : decode b_Mod_mark 43 = .ok (.iload_n 1, 1) := by decide +kernel
theorem d_Mod_mark_44 : decode b_Mod_mark 44 = .ok (.invokevirtual 40, 3) := by decide +kernel
theorem d_Mod_mark_47 : decode b_Mod_mark 47 = .ok (.aload_n 0, 1) := by decide +kernel
theorem d_Mod_mark_48 : decode b_Mod_mark 48 = .ok (.iload_n 2, 1) := by decide +kernel
theorem d_Mod_mark_49 : decode b_Mod_mark 49 = .ok (.iconst 1, 1) := by decide +kernel
theorem d_Mod_mark_50 : decode b_Mod_mark 50 = .ok (.iadd, 1) := by decide +kernel
theorem d_Mod_mark_51 : decode b_Mod_mark 51 = .ok (.invokevirtual 40, 3) := by decide +kernel
theorem d_Mod_mark_54 : decode b_Mod_mark 54 = .ok (.aload_n 0, 1) := by decide +kernel
theorem d_Mod_mark_55 : decode b_Mod_mark 55 = .ok (.iload_n 1, 1) := by decide +kernel
theorem d_Mod_mark_56 : decode b_Mod_mark 56 = .ok (.invokevirtual 25, 3) := by decide +kernel
theorem d_Mod_mark_59 : decode b_Mod_mark 59 = .ok (.istore 6, 2) := by decide +kernel
theorem d_Mod_mark_61 : decode b_Mod_mark 61 = .ok (.iload 6, 2) := by decide +kernel
theorem d_Mod_mark_63 : decode b_Mod_mark 63 = .ok (.aload_n 0, 1) := by decide +kernel
theorem d_Mod_mark_64 : decode b_Mod_mark 64 = .ok (.getfield 7, 3) := by decide +kernel
theorem d_Mod_mark_67 : decode b_Mod_mark 67 = .ok (.if_icmp .ge 50, 3) := by decide +kernel
theorem d_Mod_mark_70 : decode b_Mod_mark 70 = .ok (.aload_n 0, 1) := by decide +kernel
theorem d_Mod_mark_71 : decode b_Mod_mark 71 = .ok (.getfield 13, 3) := by decide +kernel
theorem d_Mod_mark_74 : decode b_Mod_mark 74 = .ok (.iload 6, 2) := by decide +kernel
theorem d_Mod_mark_76 : decode b_Mod_mark 76 = .ok (.iaload, 1) := by decide +kernel
theorem d_Mod_mark_77 : decode b_Mod_mark 77 = .ok (.iload_n 2, 1) := by decide +kernel
theorem d_Mod_mark_78 : decode b_Mod_mark 78 = .ok (.if_icmp .gt 39, 3) := by decide +kernel
theorem d_Mod_mark_81 : decode b_Mod_mark 81 = .ok (.aload_n 0, 1) := by decide +kernel
theorem d_Mod_mark_82 : decode b_Mod_mark 82 = .ok (.getfield 18, 3) := by decide +kernel
theorem d_Mod_mark_85 : decode b_Mod_mark 85 = .ok (.bipush 8, 2) := by decide +kernel
theorem d_Mod_mark_87 : decode b_Mod_mark 87 = .ok (.iload 6, 2) := by decide +kernel
theorem d_Mod_mark_89 : decode b_Mod_mark 89 = .ok (.imul, 1) := by decide +kernel
theorem d_Mod_mark_90 : decode b_Mod_mark 90 = .ok (.iload_n 3, 1) := by decide +kernel
theorem d_Mod_mark_91 : decode b_Mod_mark 91 = .ok (.iadd, 1) := by decide +kernel
theorem d_Mod_mark_92 : decode b_Mod_mark 92 = .ok (.aload_n 0, 1) := by decide +kernel
theorem d_Mod_mark_93 : decode b_Mod_mark 93 = .ok (.getfield 18, 3) := by decide +kernel
theorem d_Mod_mark_96 : decode b_Mod_mark 96 = .ok (.bipush 8, 2) := by decide +kernel
theorem d_Mod_mark_98 : decode b_Mod_mark 98 = .ok (.iload 6, 2) := by decide +kernel
theorem d_Mod_mark_100 : decode b_Mod_mark 100 = .ok (.imul, 1) := by decide +kernel
theorem d_Mod_mark_101 : decode b_Mod_mark 101 = .ok (.iload_n 3, 1) := by decide +kernel
theorem d_Mod_mark_102 : decode b_Mod_mark 102 = .ok (.iadd, 1) := by decide +kernel
theorem d_Mod_mark_103 : decode b_Mod_mark 103 = .ok (.iaload, 1) := by decide +kernel
theorem d_Mod_mark_104 : decode b_Mod_mark 104 = .ok (.iload 5, 2) := by decide +kernel
theorem d_Mod_mark_106 : decode b_Mod_mark 106 = .ok (.iand, 1) := by decide +kernel
theorem d_Mod_mark_107 : decode b_Mod_mark 107 = .ok (.iload 4, 2) := by decide +kernel
theorem d_Mod_mark_109 : decode b_Mod_mark 109 = .ok (.ior, 1) := by decide +kernel
theorem d_Mod_mark_110 : decode b_Mod_mark 110 = .ok (.iastore, 1) := by decide +kernel
theorem d_Mod_mark_111 : decode b_Mod_mark 111 = .ok (.iinc 6 1, 3) := by decide +kernel
theorem d_Mod_mark_114 : decode b_Mod_mark 114 = .ok (.goto (-53), 3) := by decide +kernel
theorem d_Mod_mark_117 : decode b_Mod_mark 117 = .ok (.iload_n 2, 1) := by decide +kernel
theorem d_Mod_mark_118 : decode b_Mod_mark 118 = .ok (.iload_n 1, 1) := by decide +kernel
theorem d_Mod_mark_119 : decode b_Mod_mark 119 = .ok (.isub, 1) := by decide +kernel
theorem d_Mod_mark_120 : decode b_Mod_mark 120 = .ok (.iconst 1, 1) := by decide +kernel
theorem d_Mod_mark_121 : decode b_Mod_mark 121 = .ok (.iadd, 1) := by decide +kernel
theorem d_Mod_mark_122 : decode b_Mod_mark 122 = .ok (.ireturn, 1) := by decide +kernel
theorem d_Mod_get_0 : decode b_Mod_get 0 = .ok (.aload_n 0, 1) := by decide +kernel
theorem d_Mod_get_1 : decode b_Mod_get 1 = .ok (.iconst 0, 1) := by decide +kernel
theorem d_Mod_get_2 : decode b_Mod_get 2 = .ok (.putfield 21, 3) := by decide +kernel
theorem d_Mod_get_5 : decode b_Mod_get 5 = .ok (.aload_n 0, 1) := by decide +kernel
theorem d_Mod_get_6 : decode b_Mod_get 6 = .ok (.iload_n 1, 1) := by decide +kernel
theorem d_Mod_get_7 : decode b_Mod_get 7 = .ok (.invokevirtual 33, 3) := by decide +kernel
theorem d_Mod_get_10 : decode b_Mod_get 10 = .ok (.ifCond .ne 13, 3) := by decide +kernel
theorem d_Mod_get_13 : decode b_Mod_get 13 = .ok (.iload_n 2, 1) := by decide +kernel
theorem d_Mod_get_14 : decode b_Mod_get 14 = .ok (.ifCond .lt 9, 3) := by decide +kernel
theorem d_Mod_get_17 : decode b_Mod_get 17 = .ok (.iload_n 2, 1) := by decide +kernel
theorem d_Mod_get_18 : decode b_Mod_get 18 = .ok (.bipush 7, 2) := by decide +kernel
theorem d_Mod_get_20 : decode b_Mod_get 20 = .ok (.if_icmp .le 11, 3) := by decide +kernel
theorem d_Mod_get_23 : decode b_Mod_get 23 = .ok (.aload_n 0, 1) := by decide +kernel
theorem d_Mod_get_24 : decode b_Mod_get 24 = .ok (.iconst 1, 1) := by decide +kernel
theorem d_Mod_get_25 : decode b_Mod_get 25 = .ok (.invokevirtual 37, 3) := by decide +kernel
theorem d_Mod_get_28 : decode b_Mod_get 28 = .ok (.goto 18, 3) := by decide +kernel
theorem d_Mod_get_31 : decode b_Mod_get 31 = .ok (.aload_n 0, 1) := by decide +kernel
theorem d_Mod_get_32 : decode b_Mod_get 32 = .ok (.getfield 18, 3) := by decide +kernel
theorem d_Mod_get_35 : decode b_Mod_get 35 = .ok (.bipush 8, 2) := by decide +kernel
theorem d_Mod_get_37 : decode b_Mod_get 37 = .ok (.aload_n 0, 1) := by decide +kernel
theorem d_Mod_get_38 : decode b_Mod_get 38 = .ok (.iload_n 1, 1) := by decide +kernel
theorem d_Mod_get_39 : decode b_Mod_get 39 = .ok (.invokevirtual 25, 3) := by decide +kernel
theorem d_Mod_get_42 : decode b_Mod_get 42 = .ok (.imul, 1) := by decide +kernel
theorem d_Mod_get_43 : decode b_Mod_get 43 = .ok (.iload_n 2, 1) := by decide +kernel
theorem d_Mod_get_44 : decode b_Mod_get 44 = .ok (.iadd, 1) := by decide +kernel
theorem d_Mod_get_45 : decode b_Mod_get 45 = .ok (.iaload, 1) := by decide +kernel
theorem d_Mod_get_46 : decode b_Mod_get 46 = .ok (.ireturn, 1) := by decide +kernel
theorem d_Mod_change_0 : decode b_Mod_change 0 = .ok (.aload_n 0, 1) := by decide +kernel
theorem d_Mod_change_1 : decode b_Mod_change 1 = .ok (.iconst 0, 1) := by decide +kernel
theorem d_Mod_change_2 : decode b_Mod_change 2 = .ok (.putfield 21, 3) := by decide +kernel
theorem d_Mod_change_5 : decode b_Mod_change 5 = .ok (.aload_n 0, 1) := by decide +kernel
theorem d_Mod_change_6 : decode b_Mod_change 6 = .ok (.iload_n 1, 1) := by decide +kernel
theorem d_Mod_change_7 : decode b_Mod_change 7 = .ok (.invokevirtual 33, 3) := by decide +kernel
theorem d_Mod_change_10 : decode b_Mod_change 10 = .ok (.ifCond .ne 13, 3) := by decide +kernel
theorem d_Mod_change_13 : decode b_Mod_change 13 = .ok (.iload_n 2, 1) := by decide +kernel
theorem d_Mod_change_14 : decode b_Mod_change 14 = .ok (.ifCond .lt 9, 3) := by decide +kernel
theorem d_Mod_change_17 : decode b_Mod_change 17 = .ok (.iload_n 2, 1) := by decide +kernel
theorem d_Mod_change_18 : decode b_Mod_change 18 = .ok (.bipush 7, 2) := by decide +kernel
theorem d_Mod_change_20 : decode b_Mod_change 20 = .ok (.if_icmp .le 9, 3) := by decide +kernel
theorem d_Mod_change_23 : decode b_Mod_change 23 = .ok (.aload_n 0, 1) := by decide +kernel
theorem d_Mod_change_24 : decode b_Mod_change 24 = .ok (.iconst 1, 1) := by decide +kernel
theorem d_Mod_change_25 : decode b_Mod_change 25 = .ok (.invokevirtual 37, 3) := by decide +kernel
theorem d_Mod_change_28 : decode b_Mod_change 28 = .ok (.ireturn, 1) := by decide +kernel
theorem d_Mod_change_29 : decode b_Mod_change 29 = .ok (.aload_n 0, 1) := by decide +kernel
theorem d_Mod_change_30 : decode b_Mod_change 30 = .ok (.iload_n 1, 1) := by decide +kernel
theorem d_Mod_change_31 : decode b_Mod_change 31 = .ok (.invokevirtual 25, 3) := by decide +kernel
theorem d_Mod_change_34 : decode b_Mod_change 34 = .ok (.istore_n 3, 1) := by decide +kernel
theorem d_Mod_change_35 : decode b_Mod_change 35 = .ok (.aload_n 0, 1) := by decide +kernel
theorem d_Mod_change_36 : decode b_Mod_change 36 = .ok (.getfield 18, 3) := by decide +kernel
theorem d_Mod_change_39 : decode b_Mod_change 39 = .ok (.bipush 8, 2) := by decide +kernel
theorem d_Mod_change_41 : decode b_Mod_change 41 = .ok (.iload_n 3, 1) := by decide +kernel
theorem d_Mod_change_42 : decode b_Mod_change 42 = .ok (.imul, 1) := by decide +kernel
theorem d_Mod_change_43 : decode b_Mod_change 43 = .ok (.iload_n 2, 1) := by decide +kernel
theorem d_Mod_change_44 : decode b_Mod_change 44 = .ok (.iadd, 1) := by decide +kernel
theorem d_Mod_change_45 : decode b_Mod_change 45 = .ok (.iaload, 1) := by decide +kernel
theorem d_Mod_change_46 : decode b_Mod_change 46 = .ok (.istore 4, 2) := by decide +kernel
theorem d_Mod_change_48 : decode b_Mod_change 48 = .ok (.iload_n 3, 1) := by decide +kernel
theorem d_Mod_change_49 : decode b_Mod_change 49 = .ok (.aload_n 0, 1) := by decide +kernel
theorem d_Mod_change_50 : decode b_Mod_change 50 = .ok (.getfield 7, 3) := by decide +kernel
theorem d_Mod_change_53 : decode b_Mod_change 53 = .ok (.if_icmp .ge 25, 3) := by decide +kernel
theorem d_Mod_change_56 : decode b_Mod_change 56 = .ok (.aload_n 0, 1) := by decide +kernel
theorem d_Mod_change_57 : decode b_Mod_change 57 = .ok (.getfield 18, 3) := by decide +kernel
theorem d_Mod_change_60 : decode b_Mod_change 60 = .ok (.bipush 8, 2) := by decide +kernel
theorem d_Mod_change_62 : decode b_Mod_change 62 = .ok (.iload_n 3, 1) := by decide +kernel
theorem d_Mod_change_63 : decode b_Mod_change 63 = .ok (.imul, 1) := by decide +kernel
theorem d_Mod_change_64 : decode b_Mod_change 64 = .ok (.iload_n 2, 1) := by decide +kernel
theorem d_Mod_change_65 : decode b_Mod_change 65 = .ok (.iadd, 1) := by decide +kernel
theorem d_Mod_change_66 : decode b_Mod_change 66 = .ok (.iaload, 1) := by decide +kernel
theorem d_Mod_change_67 : decode b_Mod_change 67 = .ok (.iload 4, 2) := by decide +kernel
theorem d_Mod_change_69 : decode b_Mod_change 69 = .ok (.if_icmp .ne 9, 3) := by decide +kernel
theorem d_Mod_change_72 : decode b_Mod_change 72 = .ok (.iinc 3 1, 3) := by decide +kernel
theorem d_Mod_change_75 : decode b_Mod_change 75 = .ok (.goto (-27), 3) := by decide +kernel
theorem d_Mod_change_78 : decode b_Mod_change 78 = .ok (.iload_n 3, 1) := by decide +kernel
theorem d_Mod_change_79 : decode b_Mod_change 79 = .ok (.aload_n 0, 1) := by decide +kernel
theorem d_Mod_change_80 : decode b_Mod_change 80 = .ok (.getfield 7, 3) := by decide +kernel
theorem d_Mod_change_83 : decode b_Mod_change 83 = .ok (.if_icmp .ne 7, 3) := by decide +kernel
theorem d_Mod_change_86 : decode b_Mod_change 86 = .ok (.iconst (-1), 1) := by decide +kernel
theorem d_Mod_change_87 : decode b_Mod_change 87 = .ok (.goto 9, 3) := by decide +kernel
theorem d_Mod_change_90 : decode b_Mod_change 90 = .ok (.aload_n 0, 1) := by decide +kernel
theorem d_Mod_change_91 : decode b_Mod_change 91 = .ok (.getfield 13, 3) := by decide +kernel
theorem d_Mod_change_94 : decode b_Mod_change 94 = .ok (.iload_n 3, 1) := by decide +kernel
theorem d_Mod_change_95 : decode b_Mod_change 95 = .ok (.iaload, 1) := by decide +kernel
theorem d_Mod_change_96 : decode b_Mod_change 96 = .ok (.ireturn, 1) := by decide +kernel
theorem d_Mod_alike_0 : decode b_Mod_alike 0 = .ok (.aload_n 0, 1) := by decide +kernel
theorem d_Mod_alike_1 : decode b_Mod_alike 1 = .ok (.iconst 0, 1) := by decide +kernel
theorem d_Mod_alike_2 : decode b_Mod_alike 2 = .ok (.putfield 21, 3) := by decide +kernel
theorem d_Mod_alike_5 : decode b_Mod_alike 5 = .ok (.aload_n 0, 1) := by decide +kernel
theorem d_Mod_alike_6 : decode b_Mod_alike 6 = .ok (.iload_n 1, 1) := by decide +kernel
theorem d_Mod_alike_7 : decode b_Mod_alike 7 = .ok (.invokevirtual 33, 3) := by decide +kernel
theorem d_Mod_alike_10 : decode b_Mod_alike 10 = .ok (.ifCond .ne 11, 3) := by decide +kernel
theorem d_Mod_alike_13 : decode b_Mod_alike 13 = .ok (.aload_n 0, 1) := by decide +kernel
theorem d_Mod_alike_14 : decode b_Mod_alike 14 = .ok (.iload_n 2, 1) := by decide +kernel
theorem d_Mod_alike_15 : decode b_Mod_alike 15 = .ok (.invokevirtual 33, 3) := by decide +kernel
theorem d_Mod_alike_18 : decode b_Mod_alike 18 = .ok (.ifCond .eq 17, 3) := by decide +kernel
theorem d_Mod_alike_21 : decode b_Mod_alike 21 = .ok (.aload_n 0, 1) := by decide +kernel
theorem d_Mod_alike_22 : decode b_Mod_alike 22 = .ok (.iconst 1, 1) := by decide +kernel
theorem d_Mod_alike_23 : decode b_Mod_alike 23 = .ok (.invokevirtual 37, 3) := by decide +kernel
theorem d_Mod_alike_26 : decode b_Mod_alike 26 = .ok (.ifCond .le 7, 3) := by decide +kernel
theorem d_Mod_alike_29 : decode b_Mod_alike 29 = .ok (.iconst 1, 1) := by decide +kernel
theorem d_Mod_alike_30 : decode b_Mod_alike 30 = .ok (.goto 4, 3) := by decide +kernel
theorem d_Mod_alike_33 : decode b_Mod_alike 33 = .ok (.iconst 0, 1) := by decide +kernel
theorem d_Mod_alike_34 : decode b_Mod_alike 34 = .ok (.ireturn, 1) := by decide +kernel
theorem d_Mod_alike_35 : decode b_Mod_alike 35 = .ok (.iconst 0, 1) := by decide +kernel
theorem d_Mod_alike_36 : decode b_Mod_alike 36 = .ok (.istore_n 3, 1) := by decide +kernel
theorem d_Mod_alike_37 : decode b_Mod_alike 37 = .ok (.iload_n 3, 1) := by decide +kernel
theorem d_Mod_alike_38 : decode b_Mod_alike 38 = .ok (.bipush 8, 2) := by decide +kernel
theorem d_Mod_alike_40 : decode b_Mod_alike 40 = .ok (.if_icmp .ge 44, 3) := by decide +kernel
theorem d_Mod_alike_43 : decode b_Mod_alike 43 = .ok (.aload_n 0, 1) := by decide +kernel
theorem d_Mod_alike_44 : decode b_Mod_alike 44 = .ok (.getfield 18, 3) := by decide +kernel
theorem d_Mod_alike_47 : decode b_Mod_alike 47 = .ok (.bipush 8, 2) := by decide +kernel
theorem d_Mod_alike_49 : decode b_Mod_alike 49 = .ok (.aload_n 0, 1) := by decide +kernel
theorem d_Mod_alike_50 : decode b_Mod_alike 50 = .ok (.iload_n 1, 1) := by decide +kernel
theorem d_Mod_alike_51 : decode b_Mod_alike 51 = .ok (.invokevirtual 25, 3) := by decide +kernel
theorem d_Mod_alike_54 : decode b_Mod_alike 54 = .ok (.imul, 1) := by decide +kernel
theorem d_Mod_alike_55 : decode b_Mod_alike 55 = .ok (.iload_n 3, 1) := by decide +kernel
theorem d_Mod_alike_56 : decode b_Mod_alike 56 = .ok (.iadd, 1) := by decide +kernel
theorem d_Mod_alike_57 : decode b_Mod_alike 57 = .ok (.iaload, 1) := by decide +kernel
theorem d_Mod_alike_58 : decode b_Mod_alike 58 = .ok (.aload_n 0, 1) := by decide +kernel
theorem d_Mod_alike_59 : decode b_Mod_alike 59 = .ok (.getfield 18, 3) := by decide +kernel
theorem d_Mod_alike_62 : decode b_Mod_alike 62 = .ok (.bipush 8, 2) := by decide +kernel
theorem d_Mod_alike_64 : decode b_Mod_alike 64 = .ok (.aload_n 0, 1) := by decide +kernel
theorem d_Mod_alike_65 : decode b_Mod_alike 65 = .ok (.iload_n 2, 1) := by decide +kernel
theorem d_Mod_alike_66 : decode b_Mod_alike 66 = .ok (.invokevirtual 25, 3) := by decide +kernel
theorem d_Mod_alike_69 : decode b_Mod_alike 69 = .ok (.imul, 1) := by decide +kernel
theorem d_Mod_alike_70 : decode b_Mod_alike 70 = .ok (.iload_n 3, 1) := by decide +kernel
theorem d_Mod_alike_71 : decode b_Mod_alike 71 = .ok (.iadd, 1) := by decide +kernel
theorem d_Mod_alike_72 : decode b_Mod_alike 72 = .ok (.iaload, 1) := by decide +kernel
theorem d_Mod_alike_73 : decode b_Mod_alike 73 = .ok (.if_icmp .eq 5, 3) := by decide +kernel
theorem d_Mod_alike_76 : decode b_Mod_alike 76 = .ok (.iconst 0, 1) := by decide +kernel
theorem d_Mod_alike_77 : decode b_Mod_alike 77 = .ok (.ireturn, 1) := by decide +kernel
theorem d_Mod_alike_78 : decode b_Mod_alike 78 = .ok (.iinc 3 1, 3) := by decide +kernel
theorem d_Mod_alike_81 : decode b_Mod_alike 81 = .ok (.goto (-44), 3) := by decide +kernel
theorem d_Mod_alike_84 : decode b_Mod_alike 84 = .ok (.iconst 1, 1) := by decide +kernel
theorem d_Mod_alike_85 : decode b_Mod_alike 85 = .ok (.ireturn, 1) := by decide +kernel
theorem d_Mod_hash_0 : decode b_Mod_hash 0 = .ok (.aload_n 0, 1) := by decide +kernel
theorem d_Mod_hash_1 : decode b_Mod_hash 1 = .ok (.iconst 0, 1) := by decide +kernel
theorem d_Mod_hash_2 : decode b_Mod_hash 2 = .ok (.putfield 21, 3) := by decide +kernel
theorem d_Mod_hash_5 : decode b_Mod_hash 5 = .ok (.aload_n 0, 1) := by decide +kernel
theorem d_Mod_hash_6 : decode b_Mod_hash 6 = .ok (.iload_n 1, 1) := by decide +kernel
theorem d_Mod_hash_7 : decode b_Mod_hash 7 = .ok (.invokevirtual 33, 3) := by decide +kernel
theorem d_Mod_hash_10 : decode b_Mod_hash 10 = .ok (.ifCond .ne 35, 3) := by decide +kernel
theorem d_Mod_hash_13 : decode b_Mod_hash 13 = .ok (.aload_n 0, 1) := by decide +kernel
theorem d_Mod_hash_14 : decode b_Mod_hash 14 = .ok (.iload_n 2, 1) := by decide +kernel
theorem d_Mod_hash_15 : decode b_Mod_hash 15 = .ok (.invokevirtual 33, 3) := by decide +kernel
theorem d_Mod_hash_18 : decode b_Mod_hash 18 = .ok (.ifCond .ne 27, 3) := by decide +kernel
theorem d_Mod_hash_21 : decode b_Mod_hash 21 = .ok (.iload_n 2, 1) := by decide +kernel
theorem d_Mod_hash_22 : decode b_Mod_hash 22 = .ok (.iload_n 1, 1) := by decide +kernel
theorem d_Mod_hash_23 : decode b_Mod_hash 23 = .ok (.if_icmp .lt 22, 3) := by decide +kernel
theorem d_Mod_hash_26 : decode b_Mod_hash 26 = .ok (.iload_n 2, 1) := by decide +kernel
theorem d_Mod_hash_27 : decode b_Mod_hash 27 = .ok (.iload_n 1, 1) := by decide +kernel
theorem d_Mod_hash_28 : decode b_Mod_hash 28 = .ok (.isub, 1) := by decide +kernel
theorem d_Mod_hash_29 : decode b_Mod_hash 29 = .ok (.sipush 3999, 3) := by decide +kernel
theorem d_Mod_hash_32 : decode b_Mod_hash 32 = .ok (.if_icmp .gt 13, 3) := by decide +kernel
theorem d_Mod_hash_35 : decode b_Mod_hash 35 = .ok (.iload_n 3, 1) := by decide +kernel
theorem d_Mod_hash_36 : decode b_Mod_hash 36 = .ok (.ifCond .lt 9, 3) := by decide +kernel
theorem d_Mod_hash_39 : decode b_Mod_hash 39 = .ok (.iload_n 3, 1) := by decide +kernel
theorem d_Mod_hash_40 : decode b_Mod_hash 40 = .ok (.bipush 7, 2) := by decide +kernel
theorem d_Mod_hash_42 : decode b_Mod_hash 42 = .ok (.if_icmp .le 9, 3) := by decide +kernel
theorem d_Mod_hash_45 : decode b_Mod_hash 45 = .ok (.aload_n 0, 1) := by decide +kernel
theorem d_Mod_hash_46 : decode b_Mod_hash 46 = .ok (.iconst 1, 1) := by decide +kernel
theorem d_Mod_hash_47 : decode b_Mod_hash 47 = .ok (.invokevirtual 37, 3) := by decide +kernel
theorem d_Mod_hash_50 : decode b_Mod_hash 50 = .ok (.ireturn, 1) := by decide +kernel
theorem d_Mod_hash_51 : decode b_Mod_hash 51 = .ok (.iconst 1, 1) := by decide +kernel
theorem d_Mod_hash_52 : decode b_Mod_hash 52 = .ok (.istore 4, 2) := by decide +kernel
theorem d_Mod_hash_54 : decode b_Mod_hash 54 = .ok (.iload_n 1, 1) := by decide +kernel
theorem d_Mod_hash_55 : decode b_Mod_hash 55 = .ok (.istore 5, 2) := by decide +kernel
theorem d_Mod_hash_57 : decode b_Mod_hash 57 = .ok (.iload 5, 2) := by decide +kernel
theorem d_Mod_hash_59 : decode b_Mod_hash 59 = .ok (.iload_n 2, 1) := by decide +kernel
theorem d_Mod_hash_60 : decode b_Mod_hash 60 = .ok (.if_icmp .gt 33, 3) := by decide +kernel
theorem d_Mod_hash_63 : decode b_Mod_hash 63 = .ok (.bipush 31, 2) := by decide +kernel
theorem d_Mod_hash_65 : decode b_Mod_hash 65 = .ok (.iload 4, 2) := by decide +kernel
theorem d_Mod_hash_67 : decode b_Mod_hash 67 = .ok (.imul, 1) := by decide +kernel
theorem d_Mod_hash_68 : decode b_Mod_hash 68 = .ok (.aload_n 0, 1) := by decide +kernel
theorem d_Mod_hash_69 : decode b_Mod_hash 69 = .ok (.getfield 18, 3) := by decide +kernel
theorem d_Mod_hash_72 : decode b_Mod_hash 72 = .ok (.bipush 8, 2) := by decide +kernel
theorem d_Mod_hash_74 : decode b_Mod_hash 74 = .ok (.aload_n 0, 1) := by decide +kernel
theorem d_Mod_hash_75 : decode b_Mod_hash 75 = .ok (.iload 5, 2) := by decide +kernel
theorem d_Mod_hash_77 : decode b_Mod_hash 77 = .ok (.invokevirtual 25, 3) := by decide +kernel
theorem d_Mod_hash_80 : decode b_Mod_hash 80 = .ok (.imul, 1) := by decide +kernel
theorem d_Mod_hash_81 : decode b_Mod_hash 81 = .ok (.iload_n 3, 1) := by decide +kernel
theorem d_Mod_hash_82 : decode b_Mod_hash 82 = .ok (.iadd, 1) := by decide +kernel
theorem d_Mod_hash_83 : decode b_Mod_hash 83 = .ok (.iaload, 1) := by decide +kernel
theorem d_Mod_hash_84 : decode b_Mod_hash 84 = .ok (.iadd, 1) := by decide +kernel
theorem d_Mod_hash_85 : decode b_Mod_hash 85 = .ok (.istore 4, 2) := by decide +kernel
theorem d_Mod_hash_87 : decode b_Mod_hash 87 = .ok (.iinc 5 1, 3) := by decide +kernel
theorem d_Mod_hash_90 : decode b_Mod_hash 90 = .ok (.goto (-33), 3) := by decide +kernel
theorem d_Mod_hash_93 : decode b_Mod_hash 93 = .ok (.iload 4, 2) := by decide +kernel
theorem d_Mod_hash_95 : decode b_Mod_hash 95 = .ok (.ireturn, 1) := by decide +kernel
theorem d_Mod_clear_0 : decode b_Mod_clear 0 = .ok (.aload_n 0, 1) := by decide +kernel
theorem d_Mod_clear_1 : decode b_Mod_clear 1 = .ok (.iconst 0, 1) := by decide +kernel
theorem d_Mod_clear_2 : decode b_Mod_clear 2 = .ok (.putfield 21, 3) := by decide +kernel
theorem d_Mod_clear_5 : decode b_Mod_clear 5 = .ok (.iconst 0, 1) := by decide +kernel
theorem d_Mod_clear_6 : decode b_Mod_clear 6 = .ok (.istore_n 1, 1) := by decide +kernel
theorem d_Mod_clear_7 : decode b_Mod_clear 7 = .ok (.iconst 0, 1) := by decide +kernel
theorem d_Mod_clear_8 : decode b_Mod_clear 8 = .ok (.istore_n 2, 1) := by decide +kernel
theorem d_Mod_clear_9 : decode b_Mod_clear 9 = .ok (.iload_n 2, 1) := by decide +kernel
theorem d_Mod_clear_10 : decode b_Mod_clear 10 = .ok (.sipush 1024, 3) := by decide +kernel
theorem d_Mod_clear_13 : decode b_Mod_clear 13 = .ok (.if_icmp .ge 60, 3) := by decide +kernel
theorem d_Mod_clear_16 : decode b_Mod_clear 16 = .ok (.iconst 0, 1) := by decide +kernel
theorem d_Mod_clear_17 : decode b_Mod_clear 17 = .ok (.istore_n 3, 1) := by decide +kernel
theorem d_Mod_clear_18 : decode b_Mod_clear 18 = .ok (.iconst 0, 1) := by decide +kernel
theorem d_Mod_clear_19 : decode b_Mod_clear 19 = .ok (.istore 4, 2) := by decide +kernel
theorem d_Mod_clear_21 : decode b_Mod_clear 21 = .ok (.iload 4, 2) := by decide +kernel
theorem d_Mod_clear_23 : decode b_Mod_clear 23 = .ok (.bipush 8, 2) := by decide +kernel
theorem d_Mod_clear_25 : decode b_Mod_clear 25 = .ok (.if_icmp .ge 30, 3) := by decide +kernel
theorem d_Mod_clear_28 : decode b_Mod_clear 28 = .ok (.aload_n 0, 1) := by decide +kernel
theorem d_Mod_clear_29 : decode b_Mod_clear 29 = .ok (.getfield 18, 3) := by decide +kernel
theorem d_Mod_clear_32 : decode b_Mod_clear 32 = .ok (.bipush 8, 2) := by decide +kernel
theorem d_Mod_clear_34 : decode b_Mod_clear 34 = .ok (.aload_n 0, 1) := by decide +kernel
theorem d_Mod_clear_35 : decode b_Mod_clear 35 = .ok (.iload_n 2, 1) := by decide +kernel
theorem d_Mod_clear_36 : decode b_Mod_clear 36 = .ok (.invokevirtual 25, 3) := by decide +kernel
theorem d_Mod_clear_39 : decode b_Mod_clear 39 = .ok (.imul, 1) := by decide +kernel
theorem d_Mod_clear_40 : decode b_Mod_clear 40 = .ok (.iload 4, 2) := by decide +kernel
theorem d_Mod_clear_42 : decode b_Mod_clear 42 = .ok (.iadd, 1) := by decide +kernel
theorem d_Mod_clear_43 : decode b_Mod_clear 43 = .ok (.iaload, 1) := by decide +kernel
theorem d_Mod_clear_44 : decode b_Mod_clear 44 = .ok (.ifCond .eq 5, 3) := by decide +kernel
theorem d_Mod_clear_47 : decode b_Mod_clear 47 = .ok (.iconst 1, 1) := by decide +kernel
theorem d_Mod_clear_48 : decode b_Mod_clear 48 = .ok (.istore_n 3, 1) := by decide +kernel
theorem d_Mod_clear_49 : decode b_Mod_clear 49 = .ok (.iinc 4 1, 3) := by decide +kernel
theorem d_Mod_clear_52 : decode b_Mod_clear 52 = .ok (.goto (-31), 3) := by decide +kernel
theorem d_Mod_clear_55 : decode b_Mod_clear 55 = .ok (.iload_n 1, 1) := by decide +kernel
theorem d_Mod_clear_56 : decode b_Mod_clear 56 = .ok (.iload_n 3, 1) := by decide +kernel
theorem d_Mod_clear_57 : decode b_Mod_clear 57 = .ok (.ifCond .eq 7, 3) := by decide +kernel
theorem d_Mod_clear_60 : decode b_Mod_clear 60 = .ok (.iconst 1, 1) := by decide +kernel
theorem d_Mod_clear_61 : decode b_Mod_clear 61 = .ok (.goto 4, 3) := by decide +kernel
theorem d_Mod_clear_64 : decode b_Mod_clear 64 = .ok (.iconst 0, 1) := by decide +kernel
theorem d_Mod_clear_65 : decode b_Mod_clear 65 = .ok (.iadd, 1) := by decide +kernel
theorem d_Mod_clear_66 : decode b_Mod_clear 66 = .ok (.istore_n 1, 1) := by decide +kernel
theorem d_Mod_clear_67 : decode b_Mod_clear 67 = .ok (.iinc 2 1, 3) := by decide +kernel
theorem d_Mod_clear_70 : decode b_Mod_clear 70 = .ok (.goto (-61), 3) := by decide +kernel
theorem d_Mod_clear_73 : decode b_Mod_clear 73 = .ok (.aload_n 0, 1) := by decide +kernel
theorem d_Mod_clear_74 : decode b_Mod_clear 74 = .ok (.iconst 1, 1) := by decide +kernel
theorem d_Mod_clear_75 : decode b_Mod_clear 75 = .ok (.putfield 7, 3) := by decide +kernel
theorem d_Mod_clear_78 : decode b_Mod_clear 78 = .ok (.iconst 0, 1) := by decide +kernel
theorem d_Mod_clear_79 : decode b_Mod_clear 79 = .ok (.istore_n 2, 1) := by decide +kernel
theorem d_Mod_clear_80 : decode b_Mod_clear 80 = .ok (.iload_n 2, 1) := by decide +kernel
theorem d_Mod_clear_81 : decode b_Mod_clear 81 = .ok (.bipush 8, 2) := by decide +kernel
theorem d_Mod_clear_83 : decode b_Mod_clear 83 = .ok (.if_icmp .ge 16, 3) := by decide +kernel
theorem d_Mod_clear_86 : decode b_Mod_clear 86 = .ok (.aload_n 0, 1) := by decide +kernel
theorem d_Mod_clear_87 : decode b_Mod_clear 87 = .ok (.getfield 18, 3) := by decide +kernel
theorem d_Mod_clear_90 : decode b_Mod_clear 90 = .ok (.iload_n 2, 1) := by decide +kernel
theorem d_Mod_clear_91 : decode b_Mod_clear 91 = .ok (.iconst 0, 1) := by decide +kernel
theorem d_Mod_clear_92 : decode b_Mod_clear 92 = .ok (.iastore, 1) := by decide +kernel
theorem d_Mod_clear_93 : decode b_Mod_clear 93 = .ok (.iinc 2 1, 3) := by decide +kernel
theorem d_Mod_clear_96 : decode b_Mod_clear 96 = .ok (.goto (-16), 3) := by decide +kernel
theorem d_Mod_clear_99 : decode b_Mod_clear 99 = .ok (.iload_n 1, 1) := by decide +kernel
theorem d_Mod_clear_100 : decode b_Mod_clear 100 = .ok (.ireturn, 1) := by decide +kernel
theorem d_Tri_init_0 : decode b_Tri_init 0 = .ok (.aload_n 0, 1) := by decide +kernel
theorem d_Tri_init_1 : decode b_Tri_init 1 = .ok (.invokespecial 3, 3) := by decide +kernel
theorem d_Tri_init_4 : decode b_Tri_init 4 = .ok (.aload_n 0, 1) := by decide +kernel
theorem d_Tri_init_5 : decode b_Tri_init 5 = .ok (.sipush 4352, 3) := by decide +kernel
theorem d_Tri_init_8 : decode b_Tri_init 8 = .ok (.newarray .int, 2) := by decide +kernel
theorem d_Tri_init_10 : decode b_Tri_init 10 = .ok (.putfield 11, 3) := by decide +kernel
theorem d_Tri_init_13 : decode b_Tri_init 13 = .ok (.aload_n 0, 1) := by decide +kernel
theorem d_Tri_init_14 : decode b_Tri_init 14 = .ok (.sipush 4096, 3) := by decide +kernel
theorem d_Tri_init_17 : decode b_Tri_init 17 = .ok (.newarray .int, 2) := by decide +kernel
theorem d_Tri_init_19 : decode b_Tri_init 19 = .ok (.putfield 15, 3) := by decide +kernel
theorem d_Tri_init_22 : decode b_Tri_init 22 = .ok (.aload_n 0, 1) := by decide +kernel
theorem d_Tri_init_23 : decode b_Tri_init 23 = .ok (.sipush 4096, 3) := by decide +kernel
theorem d_Tri_init_26 : decode b_Tri_init 26 = .ok (.newarray .int, 2) := by decide +kernel
theorem d_Tri_init_28 : decode b_Tri_init 28 = .ok (.putfield 18, 3) := by decide +kernel
theorem d_Tri_init_31 : decode b_Tri_init 31 = .ok (.aload_n 0, 1) := by decide +kernel
theorem d_Tri_init_32 : decode b_Tri_init 32 = .ok (.sipush 4096, 3) := by decide +kernel
theorem d_Tri_init_35 : decode b_Tri_init 35 = .ok (.putfield 21, 3) := by decide +kernel
theorem d_Tri_init_38 : decode b_Tri_init 38 = .ok (.aload_n 0, 1) := by decide +kernel
theorem d_Tri_init_39 : decode b_Tri_init 39 = .ok (.aload_n 1, 1) := by decide +kernel
theorem d_Tri_init_40 : decode b_Tri_init 40 = .ok (.putfield 25, 3) := by decide +kernel
theorem d_Tri_init_43 : decode b_Tri_init 43 = .ok (.return_, 1) := by decide +kernel
theorem d_Tri_clear_0 : decode b_Tri_clear 0 = .ok (.aload_n 0, 1) := by decide +kernel
theorem d_Tri_clear_1 : decode b_Tri_clear 1 = .ok (.iconst 0, 1) := by decide +kernel
theorem d_Tri_clear_2 : decode b_Tri_clear 2 = .ok (.putfield 29, 3) := by decide +kernel
theorem d_Tri_clear_5 : decode b_Tri_clear 5 = .ok (.iconst 0, 1) := by decide +kernel
theorem d_Tri_clear_6 : decode b_Tri_clear 6 = .ok (.istore_n 1, 1) := by decide +kernel
theorem d_Tri_clear_7 : decode b_Tri_clear 7 = .ok (.iload_n 1, 1) := by decide +kernel
theorem d_Tri_clear_8 : decode b_Tri_clear 8 = .ok (.aload_n 0, 1) := by decide +kernel
theorem d_Tri_clear_9 : decode b_Tri_clear 9 = .ok (.getfield 11, 3) := by decide +kernel
theorem d_Tri_clear_12 : decode b_Tri_clear 12 = .ok (.arraylength, 1) := by decide +kernel
theorem d_Tri_clear_13 : decode b_Tri_clear 13 = .ok (.if_icmp .ge 16, 3) := by decide +kernel
theorem d_Tri_clear_16 : decode b_Tri_clear 16 = .ok (.aload_n 0, 1) := by decide +kernel
theorem d_Tri_clear_17 : decode b_Tri_clear 17 = .ok (.getfield 11, 3) := by decide +kernel
theorem d_Tri_clear_20 : decode b_Tri_clear 20 = .ok (.iload_n 1, 1) := by decide +kernel
theorem d_Tri_clear_21 : decode b_Tri_clear 21 = .ok (.iconst 0, 1) := by decide +kernel
theorem d_Tri_clear_22 : decode b_Tri_clear 22 = .ok (.iastore, 1) := by decide +kernel
theorem d_Tri_clear_23 : decode b_Tri_clear 23 = .ok (.iinc 1 1, 3) := by decide +kernel
theorem d_Tri_clear_26 : decode b_Tri_clear 26 = .ok (.goto (-19), 3) := by decide +kernel
theorem d_Tri_clear_29 : decode b_Tri_clear 29 = .ok (.return_, 1) := by decide +kernel
theorem d_Tri_record_0 : decode b_Tri_record 0 = .ok (.aload_n 0, 1) := by decide +kernel
theorem d_Tri_record_1 : decode b_Tri_record 1 = .ok (.getfield 11, 3) := by decide +kernel
theorem d_Tri_record_4 : decode b_Tri_record 4 = .ok (.iload_n 1, 1) := by decide +kernel
theorem d_Tri_record_5 : decode b_Tri_record 5 = .ok (.bipush 8, 2) := by decide +kernel
theorem d_Tri_record_7 : decode b_Tri_record 7 = .ok (.ishr, 1) := by decide +kernel
theorem d_Tri_record_8 : decode b_Tri_record 8 = .ok (.iaload, 1) := by decide +kernel
theorem d_Tri_record_9 : decode b_Tri_record 9 = .ok (.istore_n 2, 1) := by decide +kernel
theorem d_Tri_record_10 : decode b_Tri_record 10 = .ok (.iload_n 2, 1) := by decide +kernel
theorem d_Tri_record_11 : decode b_Tri_record 11 = .ok (.ifCond .lt 7, 3) := by decide +kernel
theorem d_Tri_record_14 : decode b_Tri_record 14 = .ok (.iload_n 2, 1) := by decide +kernel
theorem d_Tri_record_15 : decode b_Tri_record 15 = .ok (.goto 21, 3) := by decide +kernel
theorem d_Tri_record_18 : decode b_Tri_record 18 = .ok (.aload_n 0, 1) := by decide +kernel
theorem d_Tri_record_19 : decode b_Tri_record 19 = .ok (.getfield 15, 3) := by decide +kernel
theorem d_Tri_record_22 : decode b_Tri_record 22 = .ok (.sipush 256, 3) := by decide +kernel
theorem d_Tri_record_25 : decode b_Tri_record 25 = .ok (.iconst (-1), 1) := by decide +kernel
theorem d_Tri_record_26 : decode b_Tri_record 26 = .ok (.iload_n 2, 1) := by decide +kernel
theorem d_Tri_record_27 : decode b_Tri_record 27 = .ok (.isub, 1) := by decide +kernel
theorem d_Tri_record_28 : decode b_Tri_record 28 = .ok (.imul, 1) := by decide +kernel
theorem d_Tri_record_29 : decode b_Tri_record 29 = .ok (.iload_n 1, 1) := by decide +kernel
theorem d_Tri_record_30 : decode b_Tri_record 30 = .ok (.sipush 255, 3) := by decide +kernel
theorem d_Tri_record_33 : decode b_Tri_record 33 = .ok (.iand, 1) := by decide +kernel
theorem d_Tri_record_34 : decode b_Tri_record 34 = .ok (.iadd, 1) := by decide +kernel
theorem d_Tri_record_35 : decode b_Tri_record 35 = .ok (.iaload, 1) := by decide +kernel
theorem d_Tri_record_36 : decode b_Tri_record 36 = .ok (.ireturn, 1) := by decide +kernel
theorem d_Tri_get_0 : decode b_Tri_get 0 = .ok (.aload_n 0, 1) := by decide +kernel
theorem d_Tri_get_1 : decode b_Tri_get 1 = .ok (.getfield 25, 3) := by decide +kernel
theorem d_Tri_get_4 : decode b_Tri_get 4 = .ok (.aload_n 0, 1) := by decide +kernel
theorem d_Tri_get_5 : decode b_Tri_get 5 = .ok (.iload_n 1, 1) := by decide +kernel
theorem d_Tri_get_6 : decode b_Tri_get 6 = .ok (.invokevirtual 32, 3) := by decide +kernel
theorem d_Tri_get_9 : decode b_Tri_get 9 = .ok (.iload_n 2, 1) := by decide +kernel
theorem d_Tri_get_10 : decode b_Tri_get 10 = .ok (.invokevirtual 36, 3) := by decide +kernel
theorem d_Tri_get_13 : decode b_Tri_get 13 = .ok (.ireturn, 1) := by decide +kernel
theorem d_Tri_own_0 : decode b_Tri_own 0 = .ok (.aload_n 0, 1) := by decide +kernel
theorem d_Tri_own_1 : decode b_Tri_own 1 = .ok (.getfield 11, 3) := by decide +kernel
theorem d_Tri_own_4 : decode b_Tri_own 4 = .ok (.iload_n 1, 1) := by decide +kernel
theorem d_Tri_own_5 : decode b_Tri_own 5 = .ok (.iaload, 1) := by decide +kernel
theorem d_Tri_own_6 : decode b_Tri_own 6 = .ok (.istore_n 2, 1) := by decide +kernel
theorem d_Tri_own_7 : decode b_Tri_own 7 = .ok (.iload_n 2, 1) := by decide +kernel
theorem d_Tri_own_8 : decode b_Tri_own 8 = .ok (.ifCond .ge 7, 3) := by decide +kernel
theorem d_Tri_own_11 : decode b_Tri_own 11 = .ok (.iconst (-1), 1) := by decide +kernel
theorem d_Tri_own_12 : decode b_Tri_own 12 = .ok (.iload_n 2, 1) := by decide +kernel
theorem d_Tri_own_13 : decode b_Tri_own 13 = .ok (.isub, 1) := by decide +kernel
theorem d_Tri_own_14 : decode b_Tri_own 14 = .ok (.ireturn, 1) := by decide +kernel
theorem d_Tri_own_15 : decode b_Tri_own 15 = .ok (.sipush 256, 3) := by decide +kernel
theorem d_Tri_own_18 : decode b_Tri_own 18 = .ok (.aload_n 0, 1) := by decide +kernel
theorem d_Tri_own_19 : decode b_Tri_own 19 = .ok (.getfield 29, 3) := by decide +kernel
theorem d_Tri_own_22 : decode b_Tri_own 22 = .ok (.imul, 1) := by decide +kernel
theorem d_Tri_own_23 : decode b_Tri_own 23 = .ok (.aload_n 0, 1) := by decide +kernel
theorem d_Tri_own_24 : decode b_Tri_own 24 = .ok (.getfield 15, 3) := by decide +kernel
theorem d_Tri_own_27 : decode b_Tri_own 27 = .ok (.arraylength, 1) := by decide +kernel
theorem d_Tri_own_28 : decode b_Tri_own 28 = .ok (.if_icmp .ne 14, 3) := by decide +kernel
theorem d_Tri_own_31 : decode b_Tri_own 31 = .ok (.aload_n 0, 1) := by decide +kernel
theorem d_Tri_own_32 : decode b_Tri_own 32 = .ok (.aload_n 0, 1) := by decide +kernel
theorem d_Tri_own_33 : decode b_Tri_own 33 = .ok (.getfield 15, 3) := by decide +kernel
theorem d_Tri_own_36 : decode b_Tri_own 36 = .ok (.invokestatic 42, 3) := by decide +kernel
theorem d_Tri_own_39 : decode b_Tri_own 39 = .ok (.putfield 15, 3) := by decide +kernel
theorem d_Tri_own_42 : decode b_Tri_own 42 = .ok (.iconst 0, 1) := by decide +kernel
theorem d_Tri_own_43 : decode b_Tri_own 43 = .ok (.istore_n 3, 1) := by decide +kernel
theorem d_Tri_own_44 : decode b_Tri_own 44 = .ok (.iload_n 3, 1) := by decide +kernel
theorem d_Tri_own_45 : decode b_Tri_own 45 = .ok (.sipush 256, 3) := by decide +kernel
theorem d_Tri_own_48 : decode b_Tri_own 48 = .ok (.if_icmp .ge 25, 3) := by decide +kernel
theorem d_Tri_own_51 : decode b_Tri_own 51 = .ok (.aload_n 0, 1) := by decide +kernel
theorem d_Tri_own_52 : decode b_Tri_own 52 = .ok (.getfield 15, 3) := by decide +kernel
theorem d_Tri_own_55 : decode b_Tri_own 55 = .ok (.sipush 256, 3) := by decide +kernel
theorem d_Tri_own_58 : decode b_Tri_own 58 = .ok (.aload_n 0, 1) := by decide +kernel
theorem d_Tri_own_59 : decode b_Tri_own 59 = .ok (.getfield 29, 3) := by decide +kernel
theorem d_Tri_own_62 : decode b_Tri_own 62 = .ok (.imul, 1) := by decide +kernel
theorem d_Tri_own_63 : decode b_Tri_own 63 = .ok (.iload_n 3, 1) := by decide +kernel
theorem d_Tri_own_64 : decode b_Tri_own 64 = .ok (.iadd, 1) := by decide +kernel
theorem d_Tri_own_65 : decode b_Tri_own 65 = .ok (.iload_n 2, 1) := by decide +kernel
theorem d_Tri_own_66 : decode b_Tri_own 66 = .ok (.iastore, 1) := by decide +kernel
theorem d_Tri_own_67 : decode b_Tri_own 67 = .ok (.iinc 3 1, 3) := by decide +kernel
theorem d_Tri_own_70 : decode b_Tri_own 70 = .ok (.goto (-26), 3) := by decide +kernel
theorem d_Tri_own_73 : decode b_Tri_own 73 = .ok (.aload_n 0, 1) := by decide +kernel
theorem d_Tri_own_74 : decode b_Tri_own 74 = .ok (.getfield 11, 3) := by decide +kernel
theorem d_Tri_own_77 : decode b_Tri_own 77 = .ok (.iload_n 1, 1) := by decide +kernel
theorem d_Tri_own_78 : decode b_Tri_own 78 = .ok (.iconst (-1), 1) := by decide +kernel
theorem d_Tri_own_79 : decode b_Tri_own 79 = .ok (.aload_n 0, 1) := by decide +kernel
theorem d_Tri_own_80 : decode b_Tri_own 80 = .ok (.getfield 29, 3) := by decide +kernel
theorem d_Tri_own_83 : decode b_Tri_own 83 = .ok (.isub, 1) := by decide +kernel
theorem d_Tri_own_84 : decode b_Tri_own 84 = .ok (.iastore, 1) := by decide +kernel
theorem d_Tri_own_85 : decode b_Tri_own 85 = .ok (.aload_n 0, 1) := by decide +kernel
theorem d_Tri_own_86 : decode b_Tri_own 86 = .ok (.dup, 1) := by decide +kernel
theorem d_Tri_own_87 : decode b_Tri_own 87 = .ok (.getfield 29, 3) := by decide +kernel
theorem d_Tri_own_90 : decode b_Tri_own 90 = .ok (.iconst 1, 1) := by decide +kernel
theorem d_Tri_own_91 : decode b_Tri_own 91 = .ok (.iadd, 1) := by decide +kernel
theorem d_Tri_own_92 : decode b_Tri_own 92 = .ok (.putfield 29, 3) := by decide +kernel
theorem d_Tri_own_95 : decode b_Tri_own 95 = .ok (.aload_n 0, 1) := by decide +kernel
theorem d_Tri_own_96 : decode b_Tri_own 96 = .ok (.getfield 29, 3) := by decide +kernel
theorem d_Tri_own_99 : decode b_Tri_own 99 = .ok (.iconst 1, 1) := by decide +kernel
theorem d_Tri_own_100 : decode b_Tri_own 100 = .ok (.isub, 1) := by decide +kernel
theorem d_Tri_own_101 : decode b_Tri_own 101 = .ok (.ireturn, 1) := by decide +kernel
theorem d_Tri_set_0 : decode b_Tri_set 0 = .ok (.iload_n 1, 1) := by decide +kernel
theorem d_Tri_set_1 : decode b_Tri_set 1 = .ok (.istore 6, 2) := by decide +kernel
theorem d_Tri_set_3 : decode b_Tri_set 3 = .ok (.iload 6, 2) := by decide +kernel
theorem d_Tri_set_5 : decode b_Tri_set 5 = .ok (.iload_n 2, 1) := by decide +kernel
theorem d_Tri_set_6 : decode b_Tri_set 6 = .ok (.if_icmp .gt 176, 3) := by decide +kernel
theorem d_Tri_set_9 : decode b_Tri_set 9 = .ok (.iload 6, 2) := by decide +kernel
theorem d_Tri_set_11 : decode b_Tri_set 11 = .ok (.bipush 8, 2) := by decide +kernel
theorem d_Tri_set_13 : decode b_Tri_set 13 = .ok (.ishr, 1) := by decide +kernel
theorem d_Tri_set_14 : decode b_Tri_set 14 = .ok (.istore 7, 2) := by decide +kernel
theorem d_Tri_set_16 : decode b_Tri_set 16 = .ok (.iload 6, 2) := by decide +kernel
theorem d_Tri_set_18 : decode b_Tri_set 18 = .ok (.sipush 255, 3) := by decide +kernel
theorem d_Tri_set_21 : decode b_Tri_set 21 = .ok (.iand, 1) := by decide +kernel
theorem d_Tri_set_22 : decode b_Tri_set 22 = .ok (.ifCond .ne 17, 3) := by decide +kernel
theorem d_Tri_set_25 : decode b_Tri_set 25 = .ok (.iload 6, 2) := by decide +kernel
theorem d_Tri_set_27 : decode b_Tri_set 27 = .ok (.sipush 255, 3) := by decide +kernel
theorem d_Tri_set_30 : decode b_Tri_set 30 = .ok (.iadd, 1) := by decide +kernel
theorem d_Tri_set_31 : decode b_Tri_set 31 = .ok (.iload_n 2, 1) := by decide +kernel
theorem d_Tri_set_32 : decode b_Tri_set 32 = .ok (.if_icmp .gt 7, 3) := by decide +kernel
theorem d_Tri_set_35 : decode b_Tri_set 35 = .ok (.iconst 1, 1) := by decide +kernel
theorem d_Tri_set_36 : decode b_Tri_set 36 = .ok (.goto 4, 3) := by decide +kernel
theorem d_Tri_set_39 : decode b_Tri_set 39 = .ok (.iconst 0, 1) := by decide +kernel
theorem d_Tri_set_40 : decode b_Tri_set 40 = .ok (.istore 8, 2) := by decide +kernel
theorem d_Tri_set_42 : decode b_Tri_set 42 = .ok (.iload 8, 2) := by decide +kernel
theorem d_Tri_set_44 : decode b_Tri_set 44 = .ok (.ifCond .eq 45, 3) := by decide +kernel
theorem d_Tri_set_47 : decode b_Tri_set 47 = .ok (.aload_n 0, 1) := by decide +kernel
theorem d_Tri_set_48 : decode b_Tri_set 48 = .ok (.getfield 11, 3) := by decide +kernel
theorem d_Tri_set_51 : decode b_Tri_set 51 = .ok (.iload 7, 2) := by decide +kernel
theorem d_Tri_set_53 : decode b_Tri_set 53 = .ok (.iaload, 1) := by decide +kernel
theorem d_Tri_set_54 : decode b_Tri_set 54 = .ok (.ifCond .lt 35, 3) := by decide +kernel
theorem d_Tri_set_57 : decode b_Tri_set 57 = .ok (.aload_n 0, 1) := by decide +kernel
theorem d_Tri_set_58 : decode b_Tri_set 58 = .ok (.getfield 11, 3) := by decide +kernel
theorem d_Tri_set_61 : decode b_Tri_set 61 = .ok (.iload 7, 2) := by decide +kernel
theorem d_Tri_set_63 : decode b_Tri_set 63 = .ok (.aload_n 0, 1) := by decide +kernel
theorem d_Tri_set_64 : decode b_Tri_set 64 = .ok (.aload_n 0, 1) := by decide +kernel
theorem d_Tri_set_65 : decode b_Tri_set 65 = .ok (.getfield 11, 3) := by decide +kernel
theorem d_Tri_set_68 : decode b_Tri_set 68 = .ok (.iload 7, 2) := by decide +kernel
theorem d_Tri_set_70 : decode b_Tri_set 70 = .ok (.iaload, 1) := by decide +kernel
theorem d_Tri_set_71 : decode b_Tri_set 71 = .ok (.iload_n 3, 1) := by decide +kernel
theorem d_Tri_set_72 : decode b_Tri_set 72 = .ok (.iload 4, 2) := by decide +kernel
theorem d_Tri_set_74 : decode b_Tri_set 74 = .ok (.iload 5, 2) := by decide +kernel
theorem d_Tri_set_76 : decode b_Tri_set 76 = .ok (.invokevirtual 46, 3) := by decide +kernel
theorem d_Tri_set_79 : decode b_Tri_set 79 = .ok (.iastore, 1) := by decide +kernel
theorem d_Tri_set_80 : decode b_Tri_set 80 = .ok (.iinc 6 256, 6) := by decide +kernel
theorem d_Tri_set_86 : decode b_Tri_set 86 = .ok (.goto (-83), 3) := by decide +kernel
theorem d_Tri_set_89 : decode b_Tri_set 89 = .ok (.sipush 256, 3) := by decide +kernel
theorem d_Tri_set_92 : decode b_Tri_set 92 = .ok (.aload_n 0, 1) := by decide +kernel
theorem d_Tri_set_93 : decode b_Tri_set 93 = .ok (.iload 7, 2) := by decide +kernel
theorem d_Tri_set_95 : decode b_Tri_set 95 = .ok (.invokevirtual 50, 3) := by decide +kernel
theorem d_Tri_set_98 : decode b_Tri_set 98 = .ok (.imul, 1) := by decide +kernel
theorem d_Tri_set_99 : decode b_Tri_set 99 = .ok (.istore 9, 2) := by decide +kernel
theorem d_Tri_set_101 : decode b_Tri_set 101 = .ok (.iload_n 2, 1) := by decide +kernel
theorem d_Tri_set_102 : decode b_Tri_set 102 = .ok (.iload 7, 2) := by decide +kernel
theorem d_Tri_set_104 : decode b_Tri_set 104 = .ok (.bipush 8, 2) := by decide +kernel
theorem d_Tri_set_106 : decode b_Tri_set 106 = .ok (.ishl, 1) := by decide +kernel
theorem d_Tri_set_107 : decode b_Tri_set 107 = .ok (.sipush 255, 3) := by decide +kernel
theorem d_Tri_set_110 : decode b_Tri_set 110 = .ok (.iadd, 1) := by decide +kernel
theorem d_Tri_set_111 : decode b_Tri_set 111 = .ok (.if_icmp .ge 7, 3) := by decide +kernel
theorem d_Tri_set_114 : decode b_Tri_set 114 = .ok (.iload_n 2, 1) := by decide +kernel
theorem d_Tri_set_115 : decode b_Tri_set 115 = .ok (.goto 12, 3) := by decide +kernel
theorem d_Tri_set_118 : decode b_Tri_set 118 = .ok (.iload 7, 2) := by decide +kernel
theorem d_Tri_set_120 : decode b_Tri_set 120 = .ok (.bipush 8, 2) := by decide +kernel
theorem d_Tri_set_122 : decode b_Tri_set 122 = .ok (.ishl, 1) := by decide +kernel
theorem d_Tri_set_123 : decode b_Tri_set 123 = .ok (.sipush 255, 3) := by decide +kernel
theorem d_Tri_set_126 : decode b_Tri_set 126 = .ok (.iadd, 1) := by decide +kernel
theorem d_Tri_set_127 : decode b_Tri_set 127 = .ok (.istore 10, 2) := by decide +kernel
theorem d_Tri_set_129 : decode b_Tri_set 129 = .ok (.iload 6, 2) := by decide +kernel
theorem d_Tri_set_131 : decode b_Tri_set 131 = .ok (.iload 10, 2) := by decide +kernel
theorem d_Tri_set_133 : decode b_Tri_set 133 = .ok (.if_icmp .gt 46, 3) := by decide +kernel
theorem d_Tri_set_136 : decode b_Tri_set 136 = .ok (.aload_n 0, 1) := by decide +kernel
theorem d_Tri_set_137 : decode b_Tri_set 137 = .ok (.getfield 15, 3) := by decide +kernel
theorem d_Tri_set_140 : decode b_Tri_set 140 = .ok (.iload 9, 2) := by decide +kernel
theorem d_Tri_set_142 : decode b_Tri_set 142 = .ok (.iload 6, 2) := by decide +kernel
theorem d_Tri_set_144 : decode b_Tri_set 144 = .ok (.sipush 255, 3) := by decide +kernel
theorem d_Tri_set_147 : decode b_Tri_set 147 = .ok (.iand, 1) := by decide +kernel
theorem d_Tri_set_148 : decode b_Tri_set 148 = .ok (.iadd, 1) := by decide +kernel
theorem d_Tri_set_149 : decode b_Tri_set 149 = .ok (.aload_n 0, 1) := by decide +kernel
theorem d_Tri_set_150 : decode b_Tri_set 150 = .ok (.aload_n 0, 1) := by decide +kernel
theorem d_Tri_set_151 : decode b_Tri_set 151 = .ok (.getfield 15, 3) := by decide +kernel
theorem d_Tri_set_154 : decode b_Tri_set 154 = .ok (.iload 9, 2) := by decide +kernel
theorem d_Tri_set_156 : decode b_Tri_set 156 = .ok (.iload 6, 2) := by decide +kernel
theorem d_Tri_set_158 : decode b_Tri_set 158 = .ok (.sipush 255, 3) := by decide +kernel
theorem d_Tri_set_161 : decode b_Tri_set 161 = .ok (.iand, 1) := by decide +kernel
theorem d_Tri_set_162 : decode b_Tri_set 162 = .ok (.iadd, 1) := by decide +kernel
theorem d_Tri_set_163 : decode b_Tri_set 163 = .ok (.iaload, 1) := by decide +kernel
theorem d_Tri_set_164 : decode b_Tri_set 164 = .ok (.iload_n 3, 1) := by decide +kernel
theorem d_Tri_set_165 : decode b_Tri_set 165 = .ok (.iload 4, 2) := by decide +kernel
theorem d_Tri_set_167 : decode b_Tri_set 167 = .ok (.iload 5, 2) := by decide +kernel
theorem d_Tri_set_169 : decode b_Tri_set 169 = .ok (.invokevirtual 46, 3) := by decide +kernel
theorem d_Tri_set_172 : decode b_Tri_set 172 = .ok (.iastore, 1) := by decide +kernel
theorem d_Tri_set_173 : decode b_Tri_set 173 = .ok (.iinc 6 1, 3) := by decide +kernel
theorem d_Tri_set_176 : decode b_Tri_set 176 = .ok (.goto (-47), 3) := by decide +kernel
theorem d_Tri_set_179 : decode b_Tri_set 179 = .ok (.goto (-176), 3) := by decide +kernel
theorem d_Tri_set_182 : decode b_Tri_set 182 = .ok (.aload_n 0, 1) := by decide +kernel
theorem d_Tri_set_183 : decode b_Tri_set 183 = .ok (.getfield 25, 3) := by decide +kernel
theorem d_Tri_set_186 : decode b_Tri_set 186 = .ok (.invokevirtual 53, 3) := by decide +kernel
theorem d_Tri_set_189 : decode b_Tri_set 189 = .ok (.aload_n 0, 1) := by decide +kernel
theorem d_Tri_set_190 : decode b_Tri_set 190 = .ok (.getfield 21, 3) := by decide +kernel
theorem d_Tri_set_193 : decode b_Tri_set 193 = .ok (.if_icmp .le 7, 3) := by decide +kernel
theorem d_Tri_set_196 : decode b_Tri_set 196 = .ok (.aload_n 0, 1) := by decide +kernel
theorem d_Tri_set_197 : decode b_Tri_set 197 = .ok (.invokevirtual 57, 3) := by decide +kernel
theorem d_Tri_set_200 : decode b_Tri_set 200 = .ok (.return_, 1) := by decide +kernel
theorem d_Tri_squeeze_0 : decode b_Tri_squeeze 0 = .ok (.aload_n 0, 1) := by decide +kernel
theorem d_Tri_squeeze_1 : decode b_Tri_squeeze 1 = .ok (.getfield 18, 3) := by decide +kernel
theorem d_Tri_squeeze_4 : decode b_Tri_squeeze 4 = .ok (.arraylength, 1) := by decide +kernel
theorem d_Tri_squeeze_5 : decode b_Tri_squeeze 5 = .ok (.aload_n 0, 1) := by decide +kernel
theorem d_Tri_squeeze_6 : decode b_Tri_squeeze 6 = .ok (.getfield 25, 3) := by decide +kernel
theorem d_Tri_squeeze_9 : decode b_Tri_squeeze 9 = .ok (.invokevirtual 53, 3) := by decide +kernel
theorem d_Tri_squeeze_12 : decode b_Tri_squeeze 12 = .ok (.if_icmp .ge 17, 3) := by decide +kernel
theorem d_Tri_squeeze_15 : decode b_Tri_squeeze 15 = .ok (.aload_n 0, 1) := by decide +kernel
theorem d_Tri_squeeze_16 : decode b_Tri_squeeze 16 = .ok (.aload_n 0, 1) := by decide +kernel
theorem d_Tri_squeeze_17 : decode b_Tri_squeeze 17 = .ok (.getfield 18, 3) := by decide +kernel
theorem d_Tri_squeeze_20 : decode b_Tri_squeeze 20 = .ok (.invokestatic 42, 3) := by decide +kernel
theorem d_Tri_squeeze_23 : decode b_Tri_squeeze 23 = .ok (.putfield 18, 3) := by decide +kernel
theorem d_Tri_squeeze_26 : decode b_Tri_squeeze 26 = .ok (.goto (-26), 3) := by decide +kernel
theorem d_Tri_squeeze_29 : decode b_Tri_squeeze 29 = .ok (.iconst 0, 1) := by decide +kernel
theorem d_Tri_squeeze_30 : decode b_Tri_squeeze 30 = .ok (.istore_n 1, 1) := by decide +kernel
theorem d_Tri_squeeze_31 : decode b_Tri_squeeze 31 = .ok (.iload_n 1, 1) := by decide +kernel
theorem d_Tri_squeeze_32 : decode b_Tri_squeeze 32 = .ok (.aload_n 0, 1) := by decide +kernel
theorem d_Tri_squeeze_33 : decode b_Tri_squeeze 33 = .ok (.getfield 25, 3) := by decide +kernel
theorem d_Tri_squeeze_36 : decode b_Tri_squeeze 36 = .ok (.invokevirtual 53, 3) := by decide +kernel
theorem d_Tri_squeeze_39 : decode b_Tri_squeeze 39 = .ok (.if_icmp .ge 16, 3) := by decide +kernel
theorem d_Tri_squeeze_42 : decode b_Tri_squeeze 42 = .ok (.aload_n 0, 1) := by decide +kernel
theorem d_Tri_squeeze_43 : decode b_Tri_squeeze 43 = .ok (.getfield 18, 3) := by decide +kernel
theorem d_Tri_squeeze_46 : decode b_Tri_squeeze 46 = .ok (.iload_n 1, 1) := by decide +kernel
theorem d_Tri_squeeze_47 : decode b_Tri_squeeze 47 = .ok (.iconst (-1), 1) := by decide +kernel
theorem d_Tri_squeeze_48 : decode b_Tri_squeeze 48 = .ok (.iastore, 1) := by decide +kernel
theorem d_Tri_squeeze_49 : decode b_Tri_squeeze 49 = .ok (.iinc 1 1, 3) := by decide +kernel
theorem d_Tri_squeeze_52 : decode b_Tri_squeeze 52 = .ok (.goto (-21), 3) := by decide +kernel
theorem d_Tri_squeeze_55 : decode b_Tri_squeeze 55 = .ok (.iconst 0, 1) := by decide +kernel
theorem d_Tri_squeeze_56 : decode b_Tri_squeeze 56 = .ok (.istore_n 1, 1) := by decide +kernel
theorem d_Tri_squeeze_57 : decode b_Tri_squeeze 57 = .ok (.iload_n 1, 1) := by decide +kernel
theorem d_Tri_squeeze_58 : decode b_Tri_squeeze 58 = .ok (.aload_n 0, 1) := by decide +kernel
theorem d_Tri_squeeze_59 : decode b_Tri_squeeze 59 = .ok (.getfield 11, 3) := by decide +kernel
theorem d_Tri_squeeze_62 : decode b_Tri_squeeze 62 = .ok (.arraylength, 1) := by decide +kernel
theorem d_Tri_squeeze_63 : decode b_Tri_squeeze 63 = .ok (.if_icmp .ge 30, 3) := by decide +kernel
theorem d_Tri_squeeze_66 : decode b_Tri_squeeze 66 = .ok (.aload_n 0, 1) := by decide +kernel
theorem d_Tri_squeeze_67 : decode b_Tri_squeeze 67 = .ok (.getfield 11, 3) := by decide +kernel
theorem d_Tri_squeeze_70 : decode b_Tri_squeeze 70 = .ok (.iload_n 1, 1) := by decide +kernel
theorem d_Tri_squeeze_71 : decode b_Tri_squeeze 71 = .ok (.iaload, 1) := by decide +kernel
theorem d_Tri_squeeze_72 : decode b_Tri_squeeze 72 = .ok (.ifCond .lt 15, 3) := by decide +kernel
theorem d_Tri_squeeze_75 : decode b_Tri_squeeze 75 = .ok (.aload_n 0, 1) := by decide +kernel
theorem d_Tri_squeeze_76 : decode b_Tri_squeeze 76 = .ok (.getfield 18, 3) := by decide +kernel
theorem d_Tri_squeeze_79 : decode b_Tri_squeeze 79 = .ok (.aload_n 0, 1) := by decide +kernel
theorem d_Tri_squeeze_80 : decode b_Tri_squeeze 80 = .ok (.getfield 11, 3) := by decide +kernel
theorem d_Tri_squeeze_83 : decode b_Tri_squeeze 83 = .ok (.iload_n 1, 1) := by decide +kernel
theorem d_Tri_squeeze_84 : decode b_Tri_squeeze 84 = .ok (.iaload, 1) := by decide +kernel
theorem d_Tri_squeeze_85 : decode b_Tri_squeeze 85 = .ok (.iconst 0, 1) := by decide +kernel
theorem d_Tri_squeeze_86 : decode b_Tri_squeeze 86 = .ok (.iastore, 1) := by decide +kernel
theorem d_Tri_squeeze_87 : decode b_Tri_squeeze 87 = .ok (.iinc 1 1, 3) := by decide +kernel
theorem d_Tri_squeeze_90 : decode b_Tri_squeeze 90 = .ok (.goto (-33), 3) := by decide +kernel
theorem d_Tri_squeeze_93 : decode b_Tri_squeeze 93 = .ok (.iconst 0, 1) := by decide +kernel
theorem d_Tri_squeeze_94 : decode b_Tri_squeeze 94 = .ok (.istore_n 1, 1) := by decide +kernel
theorem d_Tri_squeeze_95 : decode b_Tri_squeeze 95 = .ok (.iload_n 1, 1) := by decide +kernel
theorem d_Tri_squeeze_96 : decode b_Tri_squeeze 96 = .ok (.sipush 256, 3) := by decide +kernel
theorem d_Tri_squeeze_99 : decode b_Tri_squeeze 99 = .ok (.aload_n 0, 1) := by decide +kernel
theorem d_Tri_squeeze_100 : decode b_Tri_squeeze 100 = .ok (.getfield 29, 3) := by decide +kernel
theorem d_Tri_squeeze_103 : decode b_Tri_squeeze 103 = .ok (.imul, 1) := by decide +kernel
theorem d_Tri_squeeze_104 : decode b_Tri_squeeze 104 = .ok (.if_icmp .ge 21, 3) := by decide +kernel
theorem d_Tri_squeeze_107 : decode b_Tri_squeeze 107 = .ok (.aload_n 0, 1) := by decide +kernel
theorem d_Tri_squeeze_108 : decode b_Tri_squeeze 108 = .ok (.getfield 18, 3) := by decide +kernel
theorem d_Tri_squeeze_111 : decode b_Tri_squeeze 111 = .ok (.aload_n 0, 1) := by decide +kernel
theorem d_Tri_squeeze_112 : decode b_Tri_squeeze 112 = .ok (.getfield 15, 3) := by decide +kernel
theorem d_Tri_squeeze_115 : decode b_Tri_squeeze 115 = .ok (.iload_n 1, 1) := by decide +kernel
theorem d_Tri_squeeze_116 : decode b_Tri_squeeze 116 = .ok (.iaload, 1) := by decide +kernel
theorem d_Tri_squeeze_117 : decode b_Tri_squeeze 117 = .ok (.iconst 0, 1) := by decide +kernel
theorem d_Tri_squeeze_118 : decode b_Tri_squeeze 118 = .ok (.iastore, 1) := by decide +kernel
theorem d_Tri_squeeze_119 : decode b_Tri_squeeze 119 = .ok (.iinc 1 1, 3) := by decide +kernel
theorem d_Tri_squeeze_122 : decode b_Tri_squeeze 122 = .ok (.goto (-27), 3) := by decide +kernel
theorem d_Tri_squeeze_125 : decode b_Tri_squeeze 125 = .ok (.aload_n 0, 1) := by decide +kernel
theorem d_Tri_squeeze_126 : decode b_Tri_squeeze 126 = .ok (.getfield 25, 3) := by decide +kernel
theorem d_Tri_squeeze_129 : decode b_Tri_squeeze 129 = .ok (.aload_n 0, 1) := by decide +kernel
theorem d_Tri_squeeze_130 : decode b_Tri_squeeze 130 = .ok (.getfield 18, 3) := by decide +kernel
theorem d_Tri_squeeze_133 : decode b_Tri_squeeze 133 = .ok (.invokevirtual 60, 3) := by decide +kernel
theorem d_Tri_squeeze_136 : decode b_Tri_squeeze 136 = .ok (.iconst 0, 1) := by decide +kernel
theorem d_Tri_squeeze_137 : decode b_Tri_squeeze 137 = .ok (.istore_n 1, 1) := by decide +kernel
theorem d_Tri_squeeze_138 : decode b_Tri_squeeze 138 = .ok (.iload_n 1, 1) := by decide +kernel
theorem d_Tri_squeeze_139 : decode b_Tri_squeeze 139 = .ok (.aload_n 0, 1) := by decide +kernel
theorem d_Tri_squeeze_140 : decode b_Tri_squeeze 140 = .ok (.getfield 11, 3) := by decide +kernel
theorem d_Tri_squeeze_143 : decode b_Tri_squeeze 143 = .ok (.arraylength, 1) := by decide +kernel
theorem d_Tri_squeeze_144 : decode b_Tri_squeeze 144 = .ok (.if_icmp .ge 35, 3) := by decide +kernel
theorem d_Tri_squeeze_147 : decode b_Tri_squeeze 147 = .ok (.aload_n 0, 1) := by decide +kernel
theorem d_Tri_squeeze_148 : decode b_Tri_squeeze 148 = .ok (.getfield 11, 3) := by decide +kernel
theorem d_Tri_squeeze_151 : decode b_Tri_squeeze 151 = .ok (.iload_n 1, 1) := by decide +kernel
theorem d_Tri_squeeze_152 : decode b_Tri_squeeze 152 = .ok (.iaload, 1) := by decide +kernel
theorem d_Tri_squeeze_153 : decode b_Tri_squeeze 153 = .ok (.ifCond .lt 20, 3) := by decide +kernel
theorem d_Tri_squeeze_156 : decode b_Tri_squeeze 156 = .ok (.aload_n 0, 1) := by decide +kernel
theorem d_Tri_squeeze_157 : decode b_Tri_squeeze 157 = .ok (.getfield 11, 3) := by decide +kernel
theorem d_Tri_squeeze_160 : decode b_Tri_squeeze 160 = .ok (.iload_n 1, 1) := by decide +kernel
theorem d_Tri_squeeze_161 : decode b_Tri_squeeze 161 = .ok (.aload_n 0, 1) := by decide +kernel
theorem d_Tri_squeeze_162 : decode b_Tri_squeeze 162 = .ok (.getfield 18, 3) := by decide +kernel
theorem d_Tri_squeeze_165 : decode b_Tri_squeeze 165 = .ok (.aload_n 0, 1) := by decide +kernel
theorem d_Tri_squeeze_166 : decode b_Tri_squeeze 166 = .ok (.getfield 11, 3) := by decide +kernel
theorem d_Tri_squeeze_169 : decode b_Tri_squeeze 169 = .ok (.iload_n 1, 1) := by decide +kernel
theorem d_Tri_squeeze_170 : decode b_Tri_squeeze 170 = .ok (.iaload, 1) := by decide +kernel
theorem d_Tri_squeeze_171 : decode b_Tri_squeeze 171 = .ok (.iaload, 1) := by decide +kernel
theorem d_Tri_squeeze_172 : decode b_Tri_squeeze 172 = .ok (.iastore, 1) := by decide +kernel
theorem d_Tri_squeeze_173 : decode b_Tri_squeeze 173 = .ok (.iinc 1 1, 3) := by decide +kernel
theorem d_Tri_squeeze_176 : decode b_Tri_squeeze 176 = .ok (.goto (-38), 3) := by decide +kernel
theorem d_Tri_squeeze_179 : decode b_Tri_squeeze 179 = .ok (.iconst 0, 1) := by decide +kernel
theorem d_Tri_squeeze_180 : decode b_Tri_squeeze 180 = .ok (.istore_n 1, 1) := by decide +kernel
theorem d_Tri_squeeze_181 : decode b_Tri_squeeze 181 = .ok (.iload_n 1, 1) := by decide +kernel
theorem d_Tri_squeeze_182 : decode b_Tri_squeeze 182 = .ok (.sipush 256, 3) := by decide +kernel
theorem d_Tri_squeeze_185 : decode b_Tri_squeeze 185 = .ok (.aload_n 0, 1) := by decide +kernel
theorem d_Tri_squeeze_186 : decode b_Tri_squeeze 186 = .ok (.getfield 29, 3) := by decide +kernel
theorem d_Tri_squeeze_189 : decode b_Tri_squeeze 189 = .ok (.imul, 1) := by decide +kernel
theorem d_Tri_squeeze_190 : decode b_Tri_squeeze 190 = .ok (.if_icmp .ge 26, 3) := by decide +kernel
theorem d_Tri_squeeze_193 : decode b_Tri_squeeze 193 = .ok (.aload_n 0, 1) := by decide +kernel
theorem d_Tri_squeeze_194 : decode b_Tri_squeeze 194 = .ok (.getfield 15, 3) := by decide +kernel
theorem d_Tri_squeeze_197 : decode b_Tri_squeeze 197 = .ok (.iload_n 1, 1) := by decide +kernel
theorem d_Tri_squeeze_198 : decode b_Tri_squeeze 198 = .ok (.aload_n 0, 1) := by decide +kernel
theorem d_Tri_squeeze_199 : decode b_Tri_squeeze 199 = .ok (.getfield 18, 3) := by decide +kernel
theorem d_Tri_squeeze_202 : decode b_Tri_squeeze 202 = .ok (.aload_n 0, 1) := by decide +kernel
theorem d_Tri_squeeze_203 : decode b_Tri_squeeze 203 = .ok (.getfield 15, 3) := by decide +kernel
theorem d_Tri_squeeze_206 : decode b_Tri_squeeze 206 = .ok (.iload_n 1, 1) := by decide +kernel
theorem d_Tri_squeeze_207 : decode b_Tri_squeeze 207 = .ok (.iaload, 1) := by decide +kernel
theorem d_Tri_squeeze_208 : decode b_Tri_squeeze 208 = .ok (.iaload, 1) := by decide +kernel
theorem d_Tri_squeeze_209 : decode b_Tri_squeeze 209 = .ok (.iastore, 1) := by decide +kernel
theorem d_Tri_squeeze_210 : decode b_Tri_squeeze 210 = .ok (.iinc 1 1, 3) := by decide +kernel
theorem d_Tri_squeeze_213 : decode b_Tri_squeeze 213 = .ok (.goto (-32), 3) := by decide +kernel
theorem d_Tri_squeeze_216 : decode b_Tri_squeeze 216 = .ok (.aload_n 0, 1) := by decide +kernel
theorem d_Tri_squeeze_217 : decode b_Tri_squeeze 217 = .ok (.iconst 2, 1) := by decide +kernel
theorem d_Tri_squeeze_218 : decode b_Tri_squeeze 218 = .ok (.aload_n 0, 1) := by decide +kernel
theorem d_Tri_squeeze_219 : decode b_Tri_squeeze 219 = .ok (.getfield 25, 3) := by decide +kernel
theorem d_Tri_squeeze_222 : decode b_Tri_squeeze 222 = .ok (.invokevirtual 53, 3) := by decide +kernel
theorem d_Tri_squeeze_225 : decode b_Tri_squeeze 225 = .ok (.imul, 1) := by decide +kernel
theorem d_Tri_squeeze_226 : decode b_Tri_squeeze 226 = .ok (.sipush 4096, 3) := by decide +kernel
theorem d_Tri_squeeze_229 : decode b_Tri_squeeze 229 = .ok (.if_icmp .ge 9, 3) := by decide +kernel
theorem d_Tri_squeeze_232 : decode b_Tri_squeeze 232 = .ok (.sipush 4096, 3) := by decide +kernel
theorem d_Tri_squeeze_235 : decode b_Tri_squeeze 235 = .ok (.goto 12, 3) := by decide +kernel
theorem d_Tri_squeeze_238 : decode b_Tri_squeeze 238 = .ok (.iconst 2, 1) := by decide +kernel
theorem d_Tri_squeeze_239 : decode b_Tri_squeeze 239 = .ok (.aload_n 0, 1) := by decide +kernel
theorem d_Tri_squeeze_240 : decode b_Tri_squeeze 240 = .ok (.getfield 25, 3) := by decide +kernel
theorem d_Tri_squeeze_243 : decode b_Tri_squeeze 243 = .ok (.invokevirtual 53, 3) := by decide +kernel
theorem d_Tri_squeeze_246 : decode b_Tri_squeeze 246 = .ok (.imul, 1) := by decide +kernel
theorem d_Tri_squeeze_247 : decode b_Tri_squeeze 247 = .ok (.putfield 21, 3) := by decide +kernel
theorem d_Tri_squeeze_250 : decode b_Tri_squeeze 250 = .ok (.return_, 1) := by decide +kernel
theorem d_Tri_changed_0 : decode b_Tri_changed 0 = .ok (.aload_n 0, 1) := by decide +kernel
theorem d_Tri_changed_1 : decode b_Tri_changed 1 = .ok (.getfield 25, 3) := by decide +kernel
theorem d_Tri_changed_4 : decode b_Tri_changed 4 = .ok (.iload_n 1, 1) := by decide +kernel
theorem d_Tri_changed_5 : decode b_Tri_changed 5 = .ok (.iload_n 2, 1) := by decide +kernel
theorem d_Tri_changed_6 : decode b_Tri_changed 6 = .ok (.aload_n 0, 1) := by decide +kernel
theorem d_Tri_changed_7 : decode b_Tri_changed 7 = .ok (.getfield 25, 3) := by decide +kernel
theorem d_Tri_changed_10 : decode b_Tri_changed 10 = .ok (.iload_n 1, 1) := by decide +kernel
theorem d_Tri_changed_11 : decode b_Tri_changed 11 = .ok (.iload_n 2, 1) := by decide +kernel
theorem d_Tri_changed_12 : decode b_Tri_changed 12 = .ok (.invokevirtual 36, 3) := by decide +kernel
theorem d_Tri_changed_15 : decode b_Tri_changed 15 = .ok (.iload 4, 2) := by decide +kernel
theorem d_Tri_changed_17 : decode b_Tri_changed 17 = .ok (.iand, 1) := by decide +kernel
theorem d_Tri_changed_18 : decode b_Tri_changed 18 = .ok (.iload_n 3, 1) := by decide +kernel
theorem d_Tri_changed_19 : decode b_Tri_changed 19 = .ok (.ior, 1) := by decide +kernel
theorem d_Tri_changed_20 : decode b_Tri_changed 20 = .ok (.invokevirtual 64, 3) := by decide +kernel
theorem d_Tri_changed_23 : decode b_Tri_changed 23 = .ok (.ireturn, 1) := by decide +kernel
end
section
theorem d_Law_set_0 : decode b_Law_set 0 = .ok (.aload 5, 2) := by decide +kernel
theorem d_Law_set_2 : decode b_Law_set 2 = .ok (.iconst 0, 1) := by decide +kernel
theorem d_Law_set_3 : decode b_Law_set 3 = .ok (.aload_n 0, 1) := by decide +kernel
theorem d_Law_set_4 : decode b_Law_set 4 = .ok (.iload_n 1, 1) := by decide +kernel
theorem d_Law_set_5 : decode b_Law_set 5 = .ok (.iload_n 2, 1) := by decide +kernel
theorem d_Law_set_6 : decode b_Law_set 6 = .ok (.iload_n 3, 1) := by decide +kernel
theorem d_Law_set_7 : decode b_Law_set 7 = .ok (.iload 4, 2) := by decide +kernel
theorem d_Law_set_9 : decode b_Law_set 9 = .ok (.invokevirtual 7, 3) := by decide +kernel
theorem d_Law_set_12 : decode b_Law_set 12 = .ok (.i2l, 1) := by decide +kernel
theorem d_Law_set_13 : decode b_Law_set 13 = .ok (.lastore, 1) := by decide +kernel
theorem d_Law_set_14 : decode b_Law_set 14 = .ok (.goto 7, 3) := by decide +kernel
theorem d_Law_set_17 : decode b_Law_set 17 = .ok (.astore 6, 2) := by decide +kernel
theorem d_Law_set_19 : decode b_Law_set 19 = .ok (.iconst 1, 1) := by decide +kernel
theorem d_Law_set_20 : decode b_Law_set 20 = .ok (.ireturn, 1) := by decide +kernel
theorem d_Law_set_21 : decode b_Law_set 21 = .ok (.iconst 0, 1) := by decide +kernel
theorem d_Law_set_22 : decode b_Law_set 22 = .ok (.ireturn, 1) := by decide +kernel
theorem d_Law_mark_0 : decode b_Law_mark 0 = .ok (.aload 6, 2) := by decide +kernel
theorem d_Law_mark_2 : decode b_Law_mark 2 = .ok (.iconst 0, 1) := by decide +kernel
theorem d_Law_mark_3 : decode b_Law_mark 3 = .ok (.aload_n 0, 1) := by decide +kernel
theorem d_Law_mark_4 : decode b_Law_mark 4 = .ok (.iload_n 1, 1) := by decide +kernel
theorem d_Law_mark_5 : decode b_Law_mark 5 = .ok (.iload_n 2, 1) := by decide +kernel
theorem d_Law_mark_6 : decode b_Law_mark 6 = .ok (.iload_n 3, 1) := by decide +kernel
theorem d_Law_mark_7 : decode b_Law_mark 7 = .ok (.iload 4, 2) := by decide +kernel
theorem d_Law_mark_9 : decode b_Law_mark 9 = .ok (.iload 5, 2) := by decide +kernel
theorem d_Law_mark_11 : decode b_Law_mark 11 = .ok (.invokevirtual 15, 3) := by decide +kernel
theorem d_Law_mark_14 : decode b_Law_mark 14 = .ok (.i2l, 1) := by decide +kernel
theorem d_Law_mark_15 : decode b_Law_mark 15 = .ok (.lastore, 1) := by decide +kernel
theorem d_Law_mark_16 : decode b_Law_mark 16 = .ok (.goto 7, 3) := by decide +kernel
theorem d_Law_mark_19 : decode b_Law_mark 19 = .ok (.astore 7, 2) := by decide +kernel
theorem d_Law_mark_21 : decode b_Law_mark 21 = .ok (.iconst 1, 1) := by decide +kernel
theorem d_Law_mark_22 : decode b_Law_mark 22 = .ok (.ireturn, 1) := by decide +kernel
theorem d_Law_mark_23 : decode b_Law_mark 23 = .ok (.iconst 0, 1) := by decide +kernel
theorem d_Law_mark_24 : decode b_Law_mark 24 = .ok (.ireturn, 1) := by decide +kernel
theorem d_Law_get_0 : decode b_Law_get 0 = .ok (.aload_n 3, 1) := by decide +kernel
theorem d_Law_get_1 : decode b_Law_get 1 = .ok (.iconst 0, 1) := by decide +kernel
theorem d_Law_get_2 : decode b_Law_get 2 = .ok (.aload_n 0, 1) := by decide +kernel
theorem d_Law_get_3 : decode b_Law_get 3 = .ok (.iload_n 1, 1) := by decide +kernel
theorem d_Law_get_4 : decode b_Law_get 4 = .ok (.iload_n 2, 1) := by decide +kernel
theorem d_Law_get_5 : decode b_Law_get 5 = .ok (.invokevirtual 19, 3) := by decide +kernel
theorem d_Law_get_8 : decode b_Law_get 8 = .ok (.i2l, 1) := by decide +kernel
theorem d_Law_get_9 : decode b_Law_get 9 = .ok (.lastore, 1) := by decide +kernel
theorem d_Law_get_10 : decode b_Law_get 10 = .ok (.goto 7, 3) := by decide +kernel
theorem d_Law_get_13 : decode b_Law_get 13 = .ok (.astore 4, 2) := by decide +kernel
theorem d_Law_get_15 : decode b_Law_get 15 = .ok (.iconst 1, 1) := by decide +kernel
theorem d_Law_get_16 : decode b_Law_get 16 = .ok (.ireturn, 1) := by decide +kernel
theorem d_Law_get_17 : decode b_Law_get 17 = .ok (.iconst 0, 1) := by decide +kernel
theorem d_Law_get_18 : decode b_Law_get 18 = .ok (.ireturn, 1) := by decide +kernel
theorem d_Law_change_0 : decode b_Law_change 0 = .ok (.aload_n 3, 1) := by decide +kernel
theorem d_Law_change_1 : decode b_Law_change 1 = .ok (.iconst 0, 1) := by decide +kernel
theorem d_Law_change_2 : decode b_Law_change 2 = .ok (.aload_n 0, 1) := by decide +kernel
theorem d_Law_change_3 : decode b_Law_change 3 = .ok (.iload_n 1, 1) := by decide +kernel
theorem d_Law_change_4 : decode b_Law_change 4 = .ok (.iload_n 2, 1) := by decide +kernel
theorem d_Law_change_5 : decode b_Law_change 5 = .ok (.invokevirtual 23, 3) := by decide +kernel
theorem d_Law_change_8 : decode b_Law_change 8 = .ok (.i2l, 1) := by decide +kernel
theorem d_Law_change_9 : decode b_Law_change 9 = .ok (.lastore, 1) := by decide +kernel
theorem d_Law_change_10 : decode b_Law_change 10 = .ok (.goto 7, 3) := by decide +kernel
theorem d_Law_change_13 : decode b_Law_change 13 = .ok (.astore 4, 2) := by decide +kernel
theorem d_Law_change_15 : decode b_Law_change 15 = .ok (.iconst 1, 1) := by decide +kernel
theorem d_Law_change_16 : decode b_Law_change 16 = .ok (.ireturn, 1) := by decide +kernel
theorem d_Law_change_17 : decode b_Law_change 17 = .ok (.iconst 0, 1) := by decide +kernel
theorem d_Law_change_18 : decode b_Law_change 18 = .ok (.ireturn, 1) := by decide +kernel
theorem d_Law_alike_0 : decode b_Law_alike 0 = .ok (.aload_n 3, 1) := by decide +kernel
theorem d_Law_alike_1 : decode b_Law_alike 1 = .ok (.iconst 0, 1) := by decide +kernel
theorem d_Law_alike_2 : decode b_Law_alike 2 = .ok (.aload_n 0, 1) := by decide +kernel
theorem d_Law_alike_3 : decode b_Law_alike 3 = .ok (.iload_n 1, 1) := by decide +kernel
theorem d_Law_alike_4 : decode b_Law_alike 4 = .ok (.iload_n 2, 1) := by decide +kernel
theorem d_Law_alike_5 : decode b_Law_alike 5 = .ok (.invokevirtual 26, 3) := by decide +kernel
theorem d_Law_alike_8 : decode b_Law_alike 8 = .ok (.ifCond .eq 7, 3) := by decide +kernel
theorem d_Law_alike_11 : decode b_Law_alike 11 = .ok (.lconst 1, 1) := by decide +kernel
theorem d_Law_alike_12 : decode b_Law_alike 12 = .ok (.goto 4, 3) := by decide +kernel
theorem d_Law_alike_15 : decode b_Law_alike 15 = .ok (.lconst 0, 1) := by decide +kernel
theorem d_Law_alike_16 : decode b_Law_alike 16 = .ok (.lastore, 1) := by decide +kernel
theorem d_Law_alike_17 : decode b_Law_alike 17 = .ok (.goto 7, 3) := by decide +kernel
theorem d_Law_alike_20 : decode b_Law_alike 20 = .ok (.astore 4, 2) := by decide +kernel
theorem d_Law_alike_22 : decode b_Law_alike 22 = .ok (.iconst 1, 1) := by decide +kernel
theorem d_Law_alike_23 : decode b_Law_alike 23 = .ok (.ireturn, 1) := by decide +kernel
theorem d_Law_alike_24 : decode b_Law_alike 24 = .ok (.iconst 0, 1) := by decide +kernel
theorem d_Law_alike_25 : decode b_Law_alike 25 = .ok (.ireturn, 1) := by decide +kernel
theorem d_Law_hash_0 : decode b_Law_hash 0 = .ok (.aload 4, 2) := by decide +kernel
theorem d_Law_hash_2 : decode b_Law_hash 2 = .ok (.iconst 0, 1) := by decide +kernel
theorem d_Law_hash_3 : decode b_Law_hash 3 = .ok (.aload_n 0, 1) := by decide +kernel
theorem d_Law_hash_4 : decode b_Law_hash 4 = .ok (.iload_n 1, 1) := by decide +kernel
theorem d_Law_hash_5 : decode b_Law_hash 5 = .ok (.iload_n 2, 1) := by decide +kernel
theorem d_Law_hash_6 : decode b_Law_hash 6 = .ok (.iload_n 3, 1) := by decide +kernel
theorem d_Law_hash_7 : decode b_Law_hash 7 = .ok (.invokevirtual 30, 3) := by decide +kernel
theorem d_Law_hash_10 : decode b_Law_hash 10 = .ok (.i2l, 1) := by decide +kernel
theorem d_Law_hash_11 : decode b_Law_hash 11 = .ok (.lastore, 1) := by decide +kernel
theorem d_Law_hash_12 : decode b_Law_hash 12 = .ok (.goto 7, 3) := by decide +kernel
theorem d_Law_hash_15 : decode b_Law_hash 15 = .ok (.astore 5, 2) := by decide +kernel
theorem d_Law_hash_17 : decode b_Law_hash 17 = .ok (.iconst 1, 1) := by decide +kernel
theorem d_Law_hash_18 : decode b_Law_hash 18 = .ok (.ireturn, 1) := by decide +kernel
theorem d_Law_hash_19 : decode b_Law_hash 19 = .ok (.iconst 0, 1) := by decide +kernel
theorem d_Law_hash_20 : decode b_Law_hash 20 = .ok (.ireturn, 1) := by decide +kernel
end
section
/-! THE CONTRACT LAYER: contracts whose cost is said behind the call, worlds in one word, rows in numbers -/
theorem x_warm {w : Cond} {args a' : Array Value} {s U : State} (hg : xgood w = true) (hW : s.WarmedH U.vm) (h : w.before args s = true) : w.before a' U = true := by
  have key : w.onTables = true → w.keepsFace = true → w.before a' U = true := fun h1 h2 =>
    va_tabs (c := w) h1 (A := args) (u := s.setVm U.vm) (U := U) rfl (Cond.before_shiftedFace (State.Shifted.of_warmed hW) w h2 h)
  cases w with
  | arrayClass ty => exact word_at hW (Or.inr ⟨ty, rfl⟩) h
  | fieldLinkNest a i b n d hh => exact va_tabs (A := args) rfl (rfl : (s.setVm U.vm).vm = U.vm) (Cond.fieldLinkNest_warmed (args := args) hW h)
  | methodLinkNest a i x hh => exact va_tabs (A := args) rfl (rfl : (s.setVm U.vm).vm = U.vm) (Cond.methodLinkNest_warmed (args := args) hW h)
  | _ =>
    simp only [xgood, Bool.and_eq_true] at hg
    exact key hg.1 hg.2
/-- a method's words: its code, and the tables -/
def xws (y : MethodName) (b : ByteArray) (nL : Nat) (ret : Option FieldType) : List Cond := .code y b nL ret :: xtb
/-- the classes and array classes as the tables have them -/
def xK (D : va_G) (cI cL : ClassId) (U : State) : Prop := va_K D xcl [(cI, .int), (cL, .long)] U ∧ U.vm.findClass "[I" = some cI ∧ U.vm.findClass "[J" = some cL
theorem xK.moved {D : va_G} {cI cL : ClassId} {u U : State} (hvm : u.vm.Alike U.vm) (h : xK D cI cL u) : xK D cI cL U :=
  ⟨h.1.moved hvm, by rw [hvm.findClass]; exact h.2.1, by rw [hvm.findClass]; exact h.2.2⟩
/-- the world w, in heap H, since H0 -/
def xW (D : va_G) (A : Nat → Prop) (H0 : Heap) (w : va_W) (H : Heap) (locs : List Loc) : Prop := va_P D xcl w H ∧ va_D A w ∧ va_S A H0 H locs
theorem xW.sub {D : va_G} {A : Nat → Prop} {H0 H : Heap} {w w' : va_W} {locs : List Loc} (h : xW D A H0 w H locs) (is : List Nat) (hn : va_nd is = true) (hs : is.map (fun i => w[i]?) = w'.map some) : xW D A H0 w' H locs := by
  refine ⟨h.1.sub is ?_, h.2.1.sub is hn hs, h.2.2⟩
  have e : is.filterMap (fun i => w[i]?) = (is.map (fun i => w[i]?)).filterMap id := by rw [List.filterMap_map]; rfl
  rw [e, hs, List.filterMap_map]
  simp
/-- what holds all through a method's body -/
def xM (p : Program) (s : State) (m : MethodId) (meth : Method) (c : Code) (args : Array Value) (D : va_G) (cI cL : ClassId) (A : Nat → Prop) (own : String) (cc : ByteArray) (nL : Nat) : Prop :=
  p.tables.exec = Jvm.exec ∧ c.code = cc ∧ c.maxLocals = nL ∧ s.vm.findClass own = some m.cls ∧ (∀ w ∈ xtb, w.before args s = true) ∧ xK D cI cL s ∧ (∀ q, s.heap.size ≤ q → A q)
/-- a contract of a method that returns: Qc says also what it has made (k cells of n slots) -/
def MX (l : Launch) (y : MethodName) (ws : List Cond) (rm : Room) (Pc : Array Value → State → Prop) (Qc : Array Value → State → Outcome → State → Nat → Nat → Prop) (free : Addr → Prop) : Prop :=
  MetFree l y (headSpec ws rm) Pc (fun _ _ _ _ _ => True) (fun a st o t => ∃ L k n, FrameEnd st o t L k n ∧ (∀ q ∈ L, free q.base) ∧ Qc a st o t k n)
def xMQ (below : List Frame) (Qc : Array Value → State → Outcome → State → Nat → Nat → Prop) (a : Array Value) (s : State) (free : Addr → Prop) : State → Prop := fun t =>
  ∃ o, t.status = .running ∧ Ended t below o ∧ ∃ L k n, FrameEnd s o t L k n ∧ (∀ q ∈ L, free q.base) ∧ Qc a s o t k n
theorem xMQ.of {below : List Frame} {Qc : Array Value → State → Outcome → State → Nat → Nat → Prop} {a : Array Value} {s : State} {free : Addr → Prop} {k n : Nat} {t : State} (h : MQ below (fun a s o t => Qc a s o t k n) a s k n free t) : xMQ below Qc a s free t := by
  obtain ⟨o, h1, h2, h3, L, h4, h5⟩ := h
  exact ⟨o, h1, h2, L, k, n, h4, h5, h3⟩
theorem W.imp {p : Program} {l : Launch} {e : Env} {R : Room} {s : State} {m : MethodId} {args : Array Value} {below : List Frame} {meth : Method} {c : Code} {H : Heap} {locs : List Loc} {cells slots : Nat} {Q Q' : State → Prop} {g : JFrame} (h : ∀ t, Q t → Q' t) (k : W p l e R s m args below meth c H locs cells slots Q g) : W p l e R s m args below meth c H locs cells slots Q' g := by
  intro T hT X
  obtain ⟨t, a, b⟩ := k T hT X
  exact ⟨t, a, h t b⟩
/-- the contract of a method over a world wc: Post answer k n (the world behind it) -/
def CT (l : Launch) (D : va_G) (cI cL : ClassId) (y : MethodName) (ws : List Cond) (rm : Room) (av : List Value) (wc : va_W) (Post : Option Value → Nat → Nat → va_W → Prop) : Prop :=
  ∀ sz : Nat, MX l y ws rm (va_Pc av (fun U => U.heap.size = sz ∧ va_P D xcl wc U.heap ∧ xK D cI cL U ∧ va_D (fun _ => True) wc))
    (fun _ st o t k n => (∃ (v : Option Value) (w1 : va_W), o = .returned v ∧ Post v k n w1 ∧ va_P D xcl w1 t.heap ∧ va_D (va_A wc sz) w1) ∧ va_F (va_A wc sz) st t) (va_A wc sz)
/-- the contract of a method that reads alone -/
def CP (l : Launch) (D : va_G) (cI cL : ClassId) (y : MethodName) (ws : List Cond) (rm : Room) (av : List Value) (wc : va_W) (Post : Option Value → Prop) : Prop :=
  MX l y ws rm (va_Pc av (fun U => va_P D xcl wc U.heap ∧ xK D cI cL U))
    (fun _ st o t k n => (∃ v : Option Value, o = .returned v ∧ Post v) ∧ t.heap = st.heap ∧ k = 0 ∧ n = 0) (fun _ => False)
section XOF
variable {l : Launch} {D : va_G} {cI cL : ClassId} {y : MethodName} {rm : Room} {av : List Value} {wc : va_W} {own : String} {cc : ByteArray} {nL : Nat}
theorem MX.ofW {ws ws' : List Cond} {Pc : Array Value → State → Prop} {Qc : Array Value → State → Outcome → State → Nat → Nat → Prop} {free : Addr → Prop} {ret : Option FieldType}
    (hy : plainName y.cls = true) (hw : ws = Cond.code y cc nL ret :: ws')
    (body : ∀ p e s m args below meth c s₁, BodyLoose p l y (headSpec ws rm) cc nL ret e s m args below meth c s₁ → c.maxLocals = nL → Pc args s →
      W p l e rm s m args below meth c s.heap [] 0 0 (xMQ below Qc args s free) (entryFrame m args nL)) : MX l y ws rm Pc Qc free := by
  refine MetFree.of_bodyS (code := cc) (maxLocals := nL) (ret := ret) hy ?_ ?_
  · intro args s m h hn
    obtain ⟨meth, c, h1, h2, h3, h4, h5, h6, -, -⟩ := Cond.code_spec hn (atoms_spec (ws := ws) h _ (by rw [hw]; exact List.mem_cons_self))
    exact ⟨meth, c, h1, h2, h3, h4, h5, h6⟩
  · intro p e s m args below meth c s₁ B hml hP _
    have hh0 : s₁.heap = s.heap := by rw [B.state]; rfl
    obtain ⟨t, a1, o, b1, b2, b3⟩ := body p e s m args below meth c s₁ B hml hP s₁ hh0 (Stand.of_body B)
    exact ⟨t, o, a1, b1, b2, b3⟩
theorem xM.of {p : Program} {e : Env} {s s₁ : State} {m : MethodId} {args : Array Value} {below : List Frame} {meth : Method} {c : Code} {A : Nat → Prop} {ret : Option FieldType}
    (hown : y.cls = own) (B : BodyLoose p l y (headSpec (xws y cc nL ret) rm) cc nL ret e s m args below meth c s₁) (hml : c.maxLocals = nL) (hK : xK D cI cL s) (hA : ∀ q, s.heap.size ≤ q → A q) : xM p s m meth c args D cI cL A own cc nL := by
  subst hown
  exact ⟨B.exec, B.bytes, hml, findClass_of_methodNamed B.named, fun w hw => atoms_spec (ws := xws y cc nL ret) B.pre w (List.mem_cons_of_mem _ hw), hK, hA⟩
/-- the body of a method that answers an int -/
theorem CT.ofI {Post : Option Value → Nat → Nat → va_W → Prop} (hy : plainName y.cls = true) (hown : y.cls = own) (hav : (lg_sl av).length ≤ nL)
    (body : ∀ (p : Program) (e : Env) (s : State) (m : MethodId) (args : Array Value) (below : List Frame) (meth : Method) (c : Code) (A : Nat → Prop) (Q : State → Prop) (ls : Array Slot), xM p s m meth c args D cI cL A own cc nL → lv_has ls nL (lv_args 0 av) → xW D A s.heap wc s.heap [] → meth.name = y.name →
      (∀ {H : Heap} {locs : List Loc} {k n pc : Nat} {ls : Array Slot} {r : Int32} {w1 : va_W}, xW D A s.heap w1 H locs → Post (some (.int r)) k n w1 → decode cc pc = .ok (.ireturn, 1) → W p l e rm s m args below meth c H locs k n Q (F0 m pc ls [.int r])) →
      W p l e rm s m args below meth c s.heap [] 0 0 Q (F0 m 0 ls [])) : CT l D cI cL y (xws y cc nL (some .int)) rm av wc Post := by
  intro sz
  refine MX.ofW (cc := cc) (nL := nL) (ret := some .int) hy rfl ?_
  intro p e s m args below meth c s₁ B hml hv
  obtain ⟨rfl, hsz, hP, hK, hD0⟩ := hv
  subst hsz
  have hlocks := B.notSynchronized
  have hr := B.returns
  have hM : xM p s m meth c av.toArray D cI cL (va_A wc s.heap.size) own cc nL := xM.of hown B hml hK (fun q h => Or.inr h)
  have hl := lv_entry av (n := nL) hav
  rw [lg_entry_eq]
  generalize (lg_sl av ++ List.replicate (nL - (lg_sl av).length) Slot.unset).toArray = ls at hl ⊢
  refine body p e s m _ below meth c (va_A wc s.heap.size) _ ls hM hl ⟨hP, hD0.self, va_S.rf⟩ (name_of_methodNamed B.named B.method).1 ?_
  intro H locs k n pc ls r w1 hW hp hd
  refine W.imp (fun t ht => xMQ.of (k := k) (n := n) ht) ?_
  exact W.iret hM.1 hM.2.1 hr (fun t ht hWm => ⟨⟨_, w1, rfl, hp, by rw [ht]; exact hW.1, hW.2.1⟩, hW.2.2.F ht⟩) hW.2.2.2.2 hd hlocks
/-- the body of a method that answers a boolean -/
theorem CT.ofZ {Post : Option Value → Nat → Nat → va_W → Prop} (hy : plainName y.cls = true) (hown : y.cls = own) (hav : (lg_sl av).length ≤ nL)
    (body : ∀ (p : Program) (e : Env) (s : State) (m : MethodId) (args : Array Value) (below : List Frame) (meth : Method) (c : Code) (A : Nat → Prop) (Q : State → Prop) (ls : Array Slot), xM p s m meth c args D cI cL A own cc nL → lv_has ls nL (lv_args 0 av) → xW D A s.heap wc s.heap [] → meth.name = y.name →
      (∀ {H : Heap} {locs : List Loc} {k n pc : Nat} {ls : Array Slot} {r : Int32} {w1 : va_W}, xW D A s.heap w1 H locs → Post (some (.int r)) k n w1 → r = 0 ∨ r = 1 → decode cc pc = .ok (.ireturn, 1) → W p l e rm s m args below meth c H locs k n Q (F0 m pc ls [.int r])) →
      W p l e rm s m args below meth c s.heap [] 0 0 Q (F0 m 0 ls [])) : CT l D cI cL y (xws y cc nL (some .boolean)) rm av wc Post := by
  intro sz
  refine MX.ofW (cc := cc) (nL := nL) (ret := some .boolean) hy rfl ?_
  intro p e s m args below meth c s₁ B hml hv
  obtain ⟨rfl, hsz, hP, hK, hD0⟩ := hv
  subst hsz
  have hlocks := B.notSynchronized
  have hr := B.returns
  have hM : xM p s m meth c av.toArray D cI cL (va_A wc s.heap.size) own cc nL := xM.of hown B hml hK (fun q h => Or.inr h)
  have hl := lv_entry av (n := nL) hav
  rw [lg_entry_eq]
  generalize (lg_sl av ++ List.replicate (nL - (lg_sl av).length) Slot.unset).toArray = ls at hl ⊢
  refine body p e s m _ below meth c (va_A wc s.heap.size) _ ls hM hl ⟨hP, hD0.self, va_S.rf⟩ (name_of_methodNamed B.named B.method).1 ?_
  intro H locs k n pc ls r w1 hW hp h01 hd
  refine W.imp (fun t ht => xMQ.of (k := k) (n := n) ht) ?_
  exact W.zret hM.1 hM.2.1 hr (by rcases h01 with rfl | rfl <;> decide) (fun t ht hWm => ⟨⟨_, w1, rfl, hp, by rw [ht]; exact hW.1, hW.2.1⟩, hW.2.2.F ht⟩) hW.2.2.2.2 hd hlocks
/-- the body of a method that answers nothing -/
theorem CT.ofV {Post : Option Value → Nat → Nat → va_W → Prop} (hy : plainName y.cls = true) (hown : y.cls = own) (hav : (lg_sl av).length ≤ nL)
    (body : ∀ (p : Program) (e : Env) (s : State) (m : MethodId) (args : Array Value) (below : List Frame) (meth : Method) (c : Code) (A : Nat → Prop) (Q : State → Prop) (ls : Array Slot), xM p s m meth c args D cI cL A own cc nL → lv_has ls nL (lv_args 0 av) → xW D A s.heap wc s.heap [] → meth.name = y.name →
      (∀ {H : Heap} {locs : List Loc} {k n pc : Nat} {ls : Array Slot} {w1 : va_W}, xW D A s.heap w1 H locs → Post none k n w1 → decode cc pc = .ok (.return_, 1) → W p l e rm s m args below meth c H locs k n Q (F0 m pc ls [])) →
      W p l e rm s m args below meth c s.heap [] 0 0 Q (F0 m 0 ls [])) : CT l D cI cL y (xws y cc nL none) rm av wc Post := by
  intro sz
  refine MX.ofW (cc := cc) (nL := nL) (ret := none) hy rfl ?_
  intro p e s m args below meth c s₁ B hml hv
  obtain ⟨rfl, hsz, hP, hK, hD0⟩ := hv
  subst hsz
  have hlocks := B.notSynchronized
  have hr := B.returns
  have hM : xM p s m meth c av.toArray D cI cL (va_A wc s.heap.size) own cc nL := xM.of hown B hml hK (fun q h => Or.inr h)
  have hl := lv_entry av (n := nL) hav
  rw [lg_entry_eq]
  generalize (lg_sl av ++ List.replicate (nL - (lg_sl av).length) Slot.unset).toArray = ls at hl ⊢
  refine body p e s m _ below meth c (va_A wc s.heap.size) _ ls hM hl ⟨hP, hD0.self, va_S.rf⟩ (name_of_methodNamed B.named B.method).1 ?_
  intro H locs k n pc ls w1 hW hp hd
  refine W.imp (fun t ht => xMQ.of (k := k) (n := n) ht) ?_
  exact W.vret hM.1 hM.2.1 hr (fun t ht hWm => ⟨⟨_, w1, rfl, hp, by rw [ht]; exact hW.1, hW.2.1⟩, hW.2.2.F ht⟩) hW.2.2.2.2 hd hlocks
/-- the body of a method that answers an array -/
theorem CT.ofR {Post : Option Value → Nat → Nat → va_W → Prop} {ty : FieldType} (hy : plainName y.cls = true) (hown : y.cls = own) (hav : (lg_sl av).length ≤ nL)
    (body : ∀ (p : Program) (e : Env) (s : State) (m : MethodId) (args : Array Value) (below : List Frame) (meth : Method) (c : Code) (A : Nat → Prop) (Q : State → Prop) (ls : Array Slot), xM p s m meth c args D cI cL A own cc nL → lv_has ls nL (lv_args 0 av) → xW D A s.heap wc s.heap [] → meth.name = y.name →
      (∀ {H : Heap} {locs : List Loc} {k n pc : Nat} {ls : Array Slot} {a : Nat} {w1 : va_W}, xW D A s.heap w1 H locs → Post (some (.ref a)) k n w1 → decode cc pc = .ok (.areturn, 1) → W p l e rm s m args below meth c H locs k n Q (F0 m pc ls [.ref a])) →
      W p l e rm s m args below meth c s.heap [] 0 0 Q (F0 m 0 ls [])) : CT l D cI cL y (xws y cc nL (some (.array ty))) rm av wc Post := by
  intro sz
  refine MX.ofW (cc := cc) (nL := nL) (ret := some (.array ty)) hy rfl ?_
  intro p e s m args below meth c s₁ B hml hv
  obtain ⟨rfl, hsz, hP, hK, hD0⟩ := hv
  subst hsz
  have hlocks := B.notSynchronized
  have hr := B.returns
  have hM : xM p s m meth c av.toArray D cI cL (va_A wc s.heap.size) own cc nL := xM.of hown B hml hK (fun q h => Or.inr h)
  have hl := lv_entry av (n := nL) hav
  rw [lg_entry_eq]
  generalize (lg_sl av ++ List.replicate (nL - (lg_sl av).length) Slot.unset).toArray = ls at hl ⊢
  refine body p e s m _ below meth c (va_A wc s.heap.size) _ ls hM hl ⟨hP, hD0.self, va_S.rf⟩ (name_of_methodNamed B.named B.method).1 ?_
  intro H locs k n pc ls a w1 hW hp hd
  refine W.imp (fun t ht => xMQ.of (k := k) (n := n) ht) ?_
  exact W.aret hM.1 hM.2.1 hr (Or.inr ⟨_, rfl⟩) (Or.inr ⟨_, rfl⟩) (fun t ht hWm => ⟨⟨_, w1, rfl, hp, by rw [ht]; exact hW.1, hW.2.1⟩, hW.2.2.F ht⟩) hW.2.2.2.2 hd hlocks
/-- the body of a method that reads alone and answers an int -/
theorem CP.ofI {Post : Option Value → Prop} (hy : plainName y.cls = true) (hown : y.cls = own) (hav : (lg_sl av).length ≤ nL)
    (body : ∀ (p : Program) (e : Env) (s : State) (m : MethodId) (args : Array Value) (below : List Frame) (meth : Method) (c : Code) (Q : State → Prop) (ls : Array Slot), xM p s m meth c args D cI cL (fun _ => True) own cc nL → lv_has ls nL (lv_args 0 av) → va_P D xcl wc s.heap →
      (∀ {pc : Nat} {ls : Array Slot} {r : Int32}, Post (some (.int r)) → decode cc pc = .ok (.ireturn, 1) → W p l e rm s m args below meth c s.heap [] 0 0 Q (F0 m pc ls [.int r])) →
      W p l e rm s m args below meth c s.heap [] 0 0 Q (F0 m 0 ls [])) : CP l D cI cL y (xws y cc nL (some .int)) rm av wc Post := by
  refine MX.ofW (cc := cc) (nL := nL) (ret := some .int) hy rfl ?_
  intro p e s m args below meth c s₁ B hml hv
  obtain ⟨rfl, hP, hK⟩ := hv
  have hlocks := B.notSynchronized
  have hr := B.returns
  have hM : xM p s m meth c av.toArray D cI cL (fun _ => True) own cc nL := xM.of hown B hml hK (fun q h => trivial)
  have hl := lv_entry av (n := nL) hav
  rw [lg_entry_eq]
  generalize (lg_sl av ++ List.replicate (nL - (lg_sl av).length) Slot.unset).toArray = ls at hl ⊢
  refine body p e s m _ below meth c _ ls hM hl hP ?_
  intro pc ls r hp hd
  refine W.imp (fun t ht => xMQ.of (k := 0) (n := 0) ht) ?_
  exact W.iret hM.1 hM.2.1 hr (fun t ht hWm => ⟨⟨_, rfl, hp⟩, ht, rfl, rfl⟩) (fun q hq => by cases hq) hd hlocks
/-- the body of a method that reads alone and answers a boolean -/
theorem CP.ofZ {Post : Option Value → Prop} (hy : plainName y.cls = true) (hown : y.cls = own) (hav : (lg_sl av).length ≤ nL)
    (body : ∀ (p : Program) (e : Env) (s : State) (m : MethodId) (args : Array Value) (below : List Frame) (meth : Method) (c : Code) (Q : State → Prop) (ls : Array Slot), xM p s m meth c args D cI cL (fun _ => True) own cc nL → lv_has ls nL (lv_args 0 av) → va_P D xcl wc s.heap →
      (∀ {pc : Nat} {ls : Array Slot} {r : Int32}, Post (some (.int r)) → r = 0 ∨ r = 1 → decode cc pc = .ok (.ireturn, 1) → W p l e rm s m args below meth c s.heap [] 0 0 Q (F0 m pc ls [.int r])) →
      W p l e rm s m args below meth c s.heap [] 0 0 Q (F0 m 0 ls [])) : CP l D cI cL y (xws y cc nL (some .boolean)) rm av wc Post := by
  refine MX.ofW (cc := cc) (nL := nL) (ret := some .boolean) hy rfl ?_
  intro p e s m args below meth c s₁ B hml hv
  obtain ⟨rfl, hP, hK⟩ := hv
  have hlocks := B.notSynchronized
  have hr := B.returns
  have hM : xM p s m meth c av.toArray D cI cL (fun _ => True) own cc nL := xM.of hown B hml hK (fun q h => trivial)
  have hl := lv_entry av (n := nL) hav
  rw [lg_entry_eq]
  generalize (lg_sl av ++ List.replicate (nL - (lg_sl av).length) Slot.unset).toArray = ls at hl ⊢
  refine body p e s m _ below meth c _ ls hM hl hP ?_
  intro pc ls r hp h01 hd
  refine W.imp (fun t ht => xMQ.of (k := 0) (n := 0) ht) ?_
  exact W.zret hM.1 hM.2.1 hr (by rcases h01 with rfl | rfl <;> decide) (fun t ht hWm => ⟨⟨_, rfl, hp⟩, ht, rfl, rfl⟩) (fun q hq => by cases hq) hd hlocks
end XOF
end
section
/-! THE CALLS of the contract layer -/
def xPre (R rm : Room) (Pc : Array Value → State → Prop) : Pt → Array Value → Prop := fun A a => A.cells + rm.cells ≤ R.cells ∧ A.slots + rm.slots ≤ R.slots ∧ Pc a A.U
def xPost (Qc : Array Value → State → Outcome → State → Nat → Nat → Prop) (free : Addr → Prop) : Pt → Array Value → Option Value → Pt → Prop := fun A a v B =>
  ∃ (g : JFrame) (mk : MethodId) (t : State) (L : List Loc) (k n : Nat), B.U.heap = t.heap ∧ B.U.vm = t.vm ∧ Qc a (A.U.calling g mk a) (.returned v) t k n ∧ B.locs = A.locs ++ L ∧ (∀ q ∈ L, free q.base) ∧ B.cells = A.cells + k ∧ B.slots = A.slots + n
def xNm (y : MethodName) (np : Nat) : Prop := (y.cls ≠ "java/lang/invoke/MethodHandle" ∧ y.cls ≠ "java/lang/invoke/VarHandle") ∧ (parseMethodDescriptor y.desc).map (fun d => d.parameters.length) = some np
def xCB (y : MethodName) (b : ByteArray) (nL : Nat) (ret : Option FieldType) (np : Nat) : Prop := Cond.code y b nL ret ∈ xtb ∧ Cond.initialized y.cls ∈ xtb ∧ xNm y np
def xCV (own : String) (idx : Nat) (y : MethodName) : Prop := Cond.methodLink own idx y ∈ xtb ∧ Cond.instanceMethod y ∈ xtb ∧ Cond.selects y.cls y y ∈ xtb
def xCS (own : String) (idx : Nat) (y : MethodName) : Prop := Cond.methodLink own idx y ∈ xtb ∧ Cond.static y ∈ xtb
def xCI (own : String) (idx : Nat) (y : MethodName) : Prop := Cond.methodLink own idx y ∈ xtb ∧ Cond.instanceMethod y ∈ xtb ∧ y.name = "<init>"
def xCSN (own : String) (idx : Nat) (y : MethodName) (host : String) : Prop := Cond.methodLinkNest own idx y host ∈ xtb ∧ Cond.static y ∈ xtb
def xCIN (own : String) (idx : Nat) (y : MethodName) (host : String) : Prop := Cond.methodLinkNest own idx y host ∈ xtb ∧ Cond.instanceMethod y ∈ xtb ∧ y.name = "<init>"
theorem xNm.len {y : MethodName} {np : Nat} (h : xNm y np) {As : List Value} (hn : As.length = np) : ∀ sig, parseMethodDescriptor y.desc = some sig → As.length = sig.parameters.length := fun sig hs => by
  have h2 := h.2
  rw [hs] at h2
  exact hn.trans (Option.some.inj h2).symm
section XCALL
variable {p : Program} {l : Launch} {e : Env} {R : Room} {s : State} {m : MethodId} {args : Array Value} {below : List Frame} {meth : Method} {c : Code} {H : Heap} {locs : List Loc} {cells slots : Nat} {Q : State → Prop}
variable {D : va_G} {cI cL : ClassId} {A : Nat → Prop} {own host : String} {cc b : ByteArray} {nL nY idx np pc ci q0 rv : Nat} {y : MethodName} {rm : Room} {ret : Option FieldType} {ls : Array Slot} {As rest st0 : List Value} {w wc wr : va_W}
theorem xBack {Pc : Array Value → State → Prop} {Qc : Array Value → State → Outcome → State → Nat → Nat → Prop} {free : Addr → Prop} (hMx : MX l y (xws y b nY ret) rm Pc Qc free) (hblind : FrameBlind Pc) (hR : rm.frames + 1 ≤ R.frames ∧ 8 + (nY + 11) + rm.locals ≤ R.locals)
    (hts : ∀ w ∈ xtb, w.before args s = true) (cb : xCB y b nY ret np) : Back l R p e below s args y 3 8 (xPre R rm Pc) (xPost Qc free) := by
  have hws : ∀ w ∈ xtb, ∀ (a' : Array Value) (U : State), s.WarmedH U.vm → w.before a' U = true := fun w hw a' U hW => x_warm (List.mem_filter.mp hw).2 hW (hts w hw)
  refine Back.of_free (S := headSpec (xws y b nY ret) rm) (P := Pc) (K := fun _ _ _ _ _ => True) (Q := fun a st o t => ∃ L k n, FrameEnd st o t L k n ∧ (∀ q ∈ L, free q.base) ∧ Qc a st o t k n) (bytes := b) (maxL := nY) (ret := ret)
    (E := fun a st o t L k n => (∀ q ∈ L, free q.base) ∧ Qc a st o t k n) hMx hR.1 hR.2 ?_ ?_ (fun _ _ _ _ _ _ _ _ _ => trivial) ?_ ?_
  · intro m meth c A a X hp
    refine ⟨atoms_intro fun w hw => ?_, hws _ cb.1 _ _ X.warmed, hws _ cb.2.1 _ _ X.warmed, hp.1, hp.2.1⟩
    rcases List.mem_cons.mp hw with rfl | hw
    · exact hws _ cb.1 _ _ X.warmed
    · exact hws _ hw _ _ X.warmed
  · intro m meth c A a g mk X hp
    exact hblind _ _ _ _ hp.2.2
  · intro a st o t ⟨L, k, n, hF, hL, hq⟩
    exact ⟨L, k, n, hF, hL, hq⟩
  · intro m meth c A a g mk v t L k n X hp hq hF ⟨hL, hq2⟩
    exact ⟨g, mk, t, L, k, n, rfl, rfl, hq2, rfl, hL, rfl, rfl⟩
/-- a call that comes back -/
def xRun (p : Program) (l : Launch) (e : Env) (R : Room) (s : State) (m : MethodId) (args : Array Value) (below : List Frame) (meth : Method) (c : Code) (H : Heap) (locs : List Loc) (cells slots : Nat) (g : JFrame) (rest : List Value) (Qa : State → Outcome → State → Nat → Nat → Prop) (free : Addr → Prop) : Prop :=
  ∀ T : State, T.heap = H → Stand p l e R s m args below meth c T locs cells slots → ∃ (v : Option Value) (st₀ t T' : State) (L : List Loc) (k n : Nat), st₀.heap = H ∧ Stand p l e R s m args below meth c T' (locs ++ L) (cells + k) (slots + n) ∧ (∀ q ∈ L, free q.base) ∧ T'.heap = t.heap ∧ T'.vm = t.vm ∧ Qa st₀ (.returned v) t k n ∧
    ∀ tg, Steps p.tables e below (T'.setTop { g with pc := g.pc + 3, stack := v.toList ++ rest }) tg → Steps p.tables e below (T.setTop g) tg
section XR
variable {Pc : Array Value → State → Prop} {Qc : Array Value → State → Outcome → State → Nat → Nat → Prop} {free : Addr → Prop}
theorem xRunV (hM : xM p s m meth c args D cI cL A own cc nL) (hMx : MX l y (xws y b nY ret) rm Pc Qc free) (hblind : FrameBlind Pc) (cb : xCB y b nY ret np) (cv : xCV own idx y) (hR : rm.frames + 1 ≤ R.frames ∧ 8 + (nY + 11) + rm.locals ≤ R.locals)
    (hf : cells + rm.cells ≤ R.cells ∧ slots + rm.slots ≤ R.slots) (hrec : ∃ cell : Cell, H[rv]? = some cell ∧ cell.vm.isStatics = false ∧ s.vm.findClass y.cls = some cell.cls) (hPc : ∀ U : State, U.heap = H → s.WarmedH U.vm → Pc (Value.ref rv :: As).toArray U)
    (hn : As.length = np) (hls : ls.size = nL) (hst : st0 = As.reverse ++ .ref rv :: rest) (hW : (rest.map fun v => v.category).sum ≤ 8) (hdg : decode cc pc = .ok (.invokevirtual idx, 3)) :
    xRun p l e R s m args below meth c H locs cells slots (F0 m pc ls st0) rest (Qc (Value.ref rv :: As).toArray) free := by
  obtain ⟨hx, hb, hml, ho, hts, -, -⟩ := hM
  have hK : Back l R p e below s args y 3 8 (xPre R rm Pc) (xPost Qc free) := xBack hMx hblind hR hts cb
  obtain ⟨cellB, hcB, hoB, hclB⟩ := hrec
  intro T hT X
  obtain ⟨v, vm₁, ⟨U', l2, c2, s2⟩, hW₁, X', ⟨g', mk, t, L, k, n, e1, e2, hq, h1, hL, h2, h3⟩, st⟩ := callV X hx (C := y.cls) (bytes := b) (maxL := nY) (ret := ret) ho (hts _ cv.1) (hts _ cv.2.1) (hts _ cv.2.2) (hts _ cb.1) cb.2.2.1 hK (by rw [hT]; exact hcB) hoB hclB (g := F0 m pc ls st0) rfl (hls.trans hml.symm) (argsL := As) (rest := rest) (cb.2.2.len hn) hst (lv_room hW) (by rw [hb]; exact hdg)
    (fun vm₁ hW₁ => ⟨hf.1, hf.2, hPc (T.setVm vm₁) hT hW₁⟩)
  dsimp only [Pt.U, Pt.locs, Pt.cells, Pt.slots] at X' e1 e2 h1 h2 h3 st
  subst h1; subst h2; subst h3
  exact ⟨v, (T.setVm vm₁).calling g' mk (Value.ref rv :: As).toArray, t, U', L, k, n, hT, X', hL, e1, e2, hq, st⟩
theorem xRunS (hM : xM p s m meth c args D cI cL A own cc nL) (hMx : MX l y (xws y b nY ret) rm Pc Qc free) (hblind : FrameBlind Pc) (cb : xCB y b nY ret np) (cv : xCS own idx y) (hR : rm.frames + 1 ≤ R.frames ∧ 8 + (nY + 11) + rm.locals ≤ R.locals)
    (hf : cells + rm.cells ≤ R.cells ∧ slots + rm.slots ≤ R.slots) (hPc : ∀ U : State, U.heap = H → s.WarmedH U.vm → Pc As.toArray U)
    (hn : As.length = np) (hls : ls.size = nL) (hst : st0 = As.reverse ++ rest) (hW : (rest.map fun v => v.category).sum ≤ 8) (hdg : decode cc pc = .ok (.invokestatic idx, 3)) :
    xRun p l e R s m args below meth c H locs cells slots (F0 m pc ls st0) rest (Qc As.toArray) free := by
  obtain ⟨hx, hb, hml, ho, hts, -, -⟩ := hM
  have hK : Back l R p e below s args y 3 8 (xPre R rm Pc) (xPost Qc free) := xBack hMx hblind hR hts cb
  intro T hT X
  obtain ⟨v, vm₁, ⟨U', l2, c2, s2⟩, hW₁, X', ⟨g', mk, t, L, k, n, e1, e2, hq, h1, hL, h2, h3⟩, st⟩ := callS X hx (bytes := b) (maxL := nY) (ret := ret) ho (hts _ cv.1) (hts _ cv.2) (hts _ cb.2.1) (hts _ cb.1) cb.2.2.1 hK (g := F0 m pc ls st0) rfl (hls.trans hml.symm) (argsL := As) (rest := rest) (cb.2.2.len hn) hst (lv_room hW) (by rw [hb]; exact hdg)
    (fun vm₁ hW₁ => ⟨hf.1, hf.2, hPc (T.setVm vm₁) hT hW₁⟩)
  dsimp only [Pt.U, Pt.locs, Pt.cells, Pt.slots] at X' e1 e2 h1 h2 h3 st
  subst h1; subst h2; subst h3
  exact ⟨v, (T.setVm vm₁).calling g' mk As.toArray, t, U', L, k, n, hT, X', hL, e1, e2, hq, st⟩
theorem xRunSN (hM : xM p s m meth c args D cI cL A own cc nL) (hMx : MX l y (xws y b nY ret) rm Pc Qc free) (hblind : FrameBlind Pc) (cb : xCB y b nY ret np) (cv : xCSN own idx y host) (hR : rm.frames + 1 ≤ R.frames ∧ 8 + (nY + 11) + rm.locals ≤ R.locals)
    (hf : cells + rm.cells ≤ R.cells ∧ slots + rm.slots ≤ R.slots) (hPc : ∀ U : State, U.heap = H → s.WarmedH U.vm → Pc As.toArray U)
    (hn : As.length = np) (hls : ls.size = nL) (hst : st0 = As.reverse ++ rest) (hW : (rest.map fun v => v.category).sum ≤ 8) (hdg : decode cc pc = .ok (.invokestatic idx, 3)) :
    xRun p l e R s m args below meth c H locs cells slots (F0 m pc ls st0) rest (Qc As.toArray) free := by
  obtain ⟨hx, hb, hml, ho, hts, -, -⟩ := hM
  have hK : Back l R p e below s args y 3 8 (xPre R rm Pc) (xPost Qc free) := xBack hMx hblind hR hts cb
  intro T hT X
  obtain ⟨v, vm₁, ⟨U', l2, c2, s2⟩, hW₁, X', ⟨g', mk, t, L, k, n, e1, e2, hq, h1, hL, h2, h3⟩, st⟩ := va_callSN X hx (bytes := b) (maxL := nY) (ret := ret) ho (hts _ cv.1) (hts _ cv.2) (hts _ cb.2.1) (hts _ cb.1) cb.2.2.1 hK (g := F0 m pc ls st0) rfl (hls.trans hml.symm) (argsL := As) (rest := rest) (cb.2.2.len hn) hst (lv_room hW) (by rw [hb]; exact hdg)
    (fun vm₁ hW₁ => ⟨hf.1, hf.2, hPc (T.setVm vm₁) hT hW₁⟩)
  dsimp only [Pt.U, Pt.locs, Pt.cells, Pt.slots] at X' e1 e2 h1 h2 h3 st
  subst h1; subst h2; subst h3
  exact ⟨v, (T.setVm vm₁).calling g' mk As.toArray, t, U', L, k, n, hT, X', hL, e1, e2, hq, st⟩
theorem xRunI (hM : xM p s m meth c args D cI cL A own cc nL) (hMx : MX l y (xws y b nY none) rm Pc Qc free) (hblind : FrameBlind Pc) (cb : xCB y b nY none np) (cv : xCI own idx y) (hR : rm.frames + 1 ≤ R.frames ∧ 8 + (nY + 11) + rm.locals ≤ R.locals)
    (hf : cells + rm.cells ≤ R.cells ∧ slots + rm.slots ≤ R.slots) (hPc : ∀ U : State, U.heap = H → s.WarmedH U.vm → Pc (Value.ref rv :: As).toArray U)
    (hn : As.length = np) (hls : ls.size = nL) (hst : st0 = As.reverse ++ .ref rv :: rest) (hW : (rest.map fun v => v.category).sum ≤ 8) (hdg : decode cc pc = .ok (.invokespecial idx, 3)) :
    xRun p l e R s m args below meth c H locs cells slots (F0 m pc ls st0) rest (Qc (Value.ref rv :: As).toArray) free := by
  obtain ⟨hx, hb, hml, ho, hts, -, -⟩ := hM
  have hK : Back l R p e below s args y 3 8 (xPre R rm Pc) (xPost Qc free) := xBack hMx hblind hR hts cb
  intro T hT X
  obtain ⟨v, vm₁, ⟨U', l2, c2, s2⟩, hW₁, X', ⟨g', mk, t, L, k, n, e1, e2, hq, h1, hL, h2, h3⟩, st⟩ := callI X hx (bytes := b) (maxL := nY) ho cv.2.2 (hts _ cv.1) (hts _ cv.2.1) (hts _ cb.1) cb.2.2.1 hK (g := F0 m pc ls st0) rfl (hls.trans hml.symm) (a := rv) (argsL := As) (rest := rest) (cb.2.2.len hn) hst (lv_room hW) (by rw [hb]; exact hdg)
    (fun vm₁ hW₁ => ⟨hf.1, hf.2, hPc (T.setVm vm₁) hT hW₁⟩)
  dsimp only [Pt.U, Pt.locs, Pt.cells, Pt.slots] at X' e1 e2 h1 h2 h3 st
  subst h1; subst h2; subst h3
  exact ⟨v, (T.setVm vm₁).calling g' mk (Value.ref rv :: As).toArray, t, U', L, k, n, hT, X', hL, e1, e2, hq, st⟩
theorem xRunIN (hM : xM p s m meth c args D cI cL A own cc nL) (hMx : MX l y (xws y b nY none) rm Pc Qc free) (hblind : FrameBlind Pc) (cb : xCB y b nY none np) (cv : xCIN own idx y host) (hR : rm.frames + 1 ≤ R.frames ∧ 8 + (nY + 11) + rm.locals ≤ R.locals)
    (hf : cells + rm.cells ≤ R.cells ∧ slots + rm.slots ≤ R.slots) (hPc : ∀ U : State, U.heap = H → s.WarmedH U.vm → Pc (Value.ref rv :: As).toArray U)
    (hn : As.length = np) (hls : ls.size = nL) (hst : st0 = As.reverse ++ .ref rv :: rest) (hW : (rest.map fun v => v.category).sum ≤ 8) (hdg : decode cc pc = .ok (.invokespecial idx, 3)) :
    xRun p l e R s m args below meth c H locs cells slots (F0 m pc ls st0) rest (Qc (Value.ref rv :: As).toArray) free := by
  obtain ⟨hx, hb, hml, ho, hts, -, -⟩ := hM
  have hK : Back l R p e below s args y 3 8 (xPre R rm Pc) (xPost Qc free) := xBack hMx hblind hR hts cb
  intro T hT X
  obtain ⟨v, vm₁, ⟨U', l2, c2, s2⟩, hW₁, X', ⟨g', mk, t, L, k, n, e1, e2, hq, h1, hL, h2, h3⟩, st⟩ := va_callIN X hx (bytes := b) (maxL := nY) ho cv.2.2 (hts _ cv.1) (hts _ cv.2.1) (hts _ cb.1) cb.2.2.1 hK (g := F0 m pc ls st0) rfl (hls.trans hml.symm) (a := rv) (argsL := As) (rest := rest) (cb.2.2.len hn) hst (lv_room hW) (by rw [hb]; exact hdg)
    (fun vm₁ hW₁ => ⟨hf.1, hf.2, hPc (T.setVm vm₁) hT hW₁⟩)
  dsimp only [Pt.U, Pt.locs, Pt.cells, Pt.slots] at X' e1 e2 h1 h2 h3 st
  subst h1; subst h2; subst h3
  exact ⟨v, (T.setVm vm₁).calling g' mk (Value.ref rv :: As).toArray, t, U', L, k, n, hT, X', hL, e1, e2, hq, st⟩
end XR
/-- behind a call of a method that reads alone -/
theorem x_goP {Post : Option Value → Prop} (hr : xRun p l e R s m args below meth c H locs cells slots (F0 m pc ls st0) rest (fun st o t k n => (∃ v : Option Value, o = .returned v ∧ Post v) ∧ t.heap = st.heap ∧ k = 0 ∧ n = 0) (fun _ => False))
    (kk : ∀ v : Option Value, Post v → W p l e R s m args below meth c H locs cells slots Q (F0 m (pc + 3) ls (v.toList ++ rest))) : W p l e R s m args below meth c H locs cells slots Q (F0 m pc ls st0) := by
  intro T hT X
  obtain ⟨v, st₀, t, T', L, k, n, h0, X', hL, e1, e2, ⟨⟨v', hv, hp⟩, hh, rfl, rfl⟩, st⟩ := hr T hT X
  cases hv
  have hL0 : L = [] := List.eq_nil_iff_forall_not_mem.mpr fun q hq => hL q hq
  subst hL0
  rw [List.append_nil] at X'
  obtain ⟨t2, a1, b1⟩ := kk v hp T' (by rw [e1, hh, h0]) X'
  exact ⟨t2, st t2 a1, b1⟩
/-- behind a call: the callee's cells come back beside the rest, which is unchanged -/
theorem x_goT {Post : Option Value → Nat → Nat → va_W → Prop} (hr : xRun p l e R s m args below meth c H locs cells slots (F0 m pc ls st0) rest (fun st o t k n => (∃ (v : Option Value) (w1 : va_W), o = .returned v ∧ Post v k n w1 ∧ va_P D xcl w1 t.heap ∧ va_D (va_A wc H.size) w1) ∧ va_F (va_A wc H.size) st t) (va_A wc H.size))
    (hA : ∀ q, s.heap.size ≤ q → A q) (hW : xW D A s.heap w H locs) (isC isR : List Nat) (hC : isC.map (fun i => w[i]?) = wc.map some) (hR : isR.map (fun i => w[i]?) = wr.map some) (hn : va_nd isR = true) (hdis : ∀ i ∈ isR, i ∉ isC)
    (kk : ∀ (v : Option Value) (k n : Nat) (w1 : va_W) (H1 : Heap) (locs1 : List Loc), Post v k n w1 → xW D A s.heap (wr ++ w1) H1 locs1 → W p l e R s m args below meth c H1 locs1 (cells + k) (slots + n) Q (F0 m (pc + 3) ls (v.toList ++ rest))) : W p l e R s m args below meth c H locs cells slots Q (F0 m pc ls st0) := by
  intro T hT X
  obtain ⟨v, st₀, t, T', L, k, n, h0, X', hL, e1, e2, ⟨⟨v', w1, hv, hp, hP1, hD1⟩, hz, hk⟩, st⟩ := hr T hT X
  cases hv
  obtain ⟨hP, hD, hS⟩ := hW
  have hF := va_free hD hS hA isC hC
  rw [h0] at hz hk
  rw [← e1] at hz hP1
  have hk1 : ∀ q : Nat, q < H.size → ¬ va_A wc H.size q → T'.heap[q]? = H[q]? := fun q h1 h2 => by rw [e1]; exact hk q h1 h2
  obtain ⟨hP2, hD2⟩ := va_join hP hD isC isR hC hR hn hdis hk1 hF hP1 hD1
  obtain ⟨t2, a1, b1⟩ := kk v k n w1 T'.heap (locs ++ L) hp ⟨hP2, hD2, Nat.le_trans hS.1 hz, fun q h1 h2 => by rw [hk1 q (Nat.lt_of_lt_of_le h1 hS.1) (fun z => h2 (hF q z))]; exact hS.2.1 q h1 h2, fun q hq => by
      rcases List.mem_append.mp hq with h | h
      · exact hS.2.2 q h
      · exact hF _ (hL q h)⟩ T' rfl X'
  exact ⟨t2, st t2 a1, b1⟩
theorem x_blindP {av : List Value} : FrameBlind (va_Pc av (fun U => va_P D xcl wc U.heap ∧ xK D cI cL U)) := fun a U g mk h => ⟨h.1, h.2.1, h.2.2.moved (Vm.Alike.refl U.vm)⟩
theorem x_blindT {av : List Value} {sz : Nat} : FrameBlind (va_Pc av (fun U => U.heap.size = sz ∧ va_P D xcl wc U.heap ∧ xK D cI cL U ∧ va_D (fun _ => True) wc)) := fun a U g mk h => ⟨h.1, h.2.1, h.2.2.1, h.2.2.2.1.moved (Vm.Alike.refl U.vm), h.2.2.2.2⟩
theorem x_preP {av : List Value} (hK : xK D cI cL s) (hP : va_P D xcl w H) (isC : List Nat) (hC : isC.map (fun i => w[i]?) = wc.map some) : ∀ U : State, U.heap = H → s.WarmedH U.vm → va_Pc av (fun U => va_P D xcl wc U.heap ∧ xK D cI cL U) av.toArray U := fun U hU hW => by
  refine ⟨rfl, ?_, hK.moved hW.alike⟩
  rw [hU]
  refine hP.sub isC ?_
  have e : isC.filterMap (fun i => w[i]?) = (isC.map (fun i => w[i]?)).filterMap id := by rw [List.filterMap_map]; rfl
  rw [e, hC, List.filterMap_map]
  simp
theorem x_preT {av : List Value} {locs : List Loc} (hK : xK D cI cL s) (hW : xW D A s.heap w H locs) (isC : List Nat) (hnC : va_nd isC = true) (hC : isC.map (fun i => w[i]?) = wc.map some) : ∀ U : State, U.heap = H → s.WarmedH U.vm → va_Pc av (fun U => U.heap.size = H.size ∧ va_P D xcl wc U.heap ∧ xK D cI cL U ∧ va_D (fun _ => True) wc) av.toArray U := fun U hU hWm => by
  have h := hW.sub isC hnC hC
  exact ⟨rfl, by rw [hU], by rw [hU]; exact h.1, hK.moved hWm.alike, h.2.1.weaken (fun _ _ _ _ => trivial)⟩
theorem x_recv {fs : List Value} {T : u_T} {N : Nat} (hK : xK D cI cL s) (hP : va_P D xcl w H) (he : w[q0]? = some (rv, .inr (ci, fs))) (hc : xcl[ci]? = some (y.cls, T, N)) : ∃ cell : Cell, H[rv]? = some cell ∧ cell.vm.isStatics = false ∧ s.vm.findClass y.cls = some cell.cls := va_recv hK.1 hP hc he
/-- invokevirtual of a method that reads alone -/
theorem x_callVP {Post : Option Value → Prop} {fs : List Value} {T : u_T} {N : Nat} (hM : xM p s m meth c args D cI cL A own cc nL) (hc : CP l D cI cL y (xws y b nY ret) rm (.ref rv :: As) wc Post) (cb : xCB y b nY ret np) (cv : xCV own idx y) (hR : rm.frames + 1 ≤ R.frames ∧ 8 + (nY + 11) + rm.locals ≤ R.locals)
    (hf : cells + rm.cells ≤ R.cells ∧ slots + rm.slots ≤ R.slots) (hP : va_P D xcl w H) (isC : List Nat) (hC : isC.map (fun i => w[i]?) = wc.map some) (q0 : Nat) (he : w[q0]? = some (rv, .inr (ci, fs))) (hci : xcl[ci]? = some (y.cls, T, N))
    (hn : As.length = np) (hls : ls.size = nL) (hst : st0 = As.reverse ++ .ref rv :: rest) (hW : (rest.map fun v => v.category).sum ≤ 8) (hdg : decode cc pc = .ok (.invokevirtual idx, 3))
    (kk : ∀ v : Option Value, Post v → W p l e R s m args below meth c H locs cells slots Q (F0 m (pc + 3) ls (v.toList ++ rest))) : W p l e R s m args below meth c H locs cells slots Q (F0 m pc ls st0) :=
  x_goP (xRunV hM hc x_blindP cb cv hR hf (x_recv hM.2.2.2.2.2.1 hP he hci) (x_preP hM.2.2.2.2.2.1 hP isC hC) hn hls hst hW hdg) kk
/-- invokevirtual -/
theorem x_callVT {Post : Option Value → Nat → Nat → va_W → Prop} {fs : List Value} {T : u_T} {N : Nat} (hM : xM p s m meth c args D cI cL A own cc nL) (hc : CT l D cI cL y (xws y b nY ret) rm (.ref rv :: As) wc Post) (cb : xCB y b nY ret np) (cv : xCV own idx y) (hR : rm.frames + 1 ≤ R.frames ∧ 8 + (nY + 11) + rm.locals ≤ R.locals)
    (hf : cells + rm.cells ≤ R.cells ∧ slots + rm.slots ≤ R.slots) (hW : xW D A s.heap w H locs) (isC isR : List Nat) (hnC : va_nd isC = true) (hC : isC.map (fun i => w[i]?) = wc.map some) (hRr : isR.map (fun i => w[i]?) = wr.map some) (hnR : va_nd isR = true) (hdis : ∀ i ∈ isR, i ∉ isC)
    (q0 : Nat) (he : w[q0]? = some (rv, .inr (ci, fs))) (hci : xcl[ci]? = some (y.cls, T, N)) (hn : As.length = np) (hls : ls.size = nL) (hst : st0 = As.reverse ++ .ref rv :: rest) (hWt : (rest.map fun v => v.category).sum ≤ 8) (hdg : decode cc pc = .ok (.invokevirtual idx, 3))
    (kk : ∀ (v : Option Value) (k n : Nat) (w1 : va_W) (H1 : Heap) (locs1 : List Loc), Post v k n w1 → xW D A s.heap (wr ++ w1) H1 locs1 → W p l e R s m args below meth c H1 locs1 (cells + k) (slots + n) Q (F0 m (pc + 3) ls (v.toList ++ rest))) : W p l e R s m args below meth c H locs cells slots Q (F0 m pc ls st0) :=
  x_goT (xRunV hM (hc H.size) x_blindT cb cv hR hf (x_recv hM.2.2.2.2.2.1 hW.1 he hci) (x_preT hM.2.2.2.2.2.1 hW isC hnC hC) hn hls hst hWt hdg) hM.2.2.2.2.2.2 hW isC isR hC hRr hnR hdis kk
/-- invokestatic, of the class itself -/
theorem x_callST {Post : Option Value → Nat → Nat → va_W → Prop} (hM : xM p s m meth c args D cI cL A own cc nL) (hc : CT l D cI cL y (xws y b nY ret) rm As wc Post) (cb : xCB y b nY ret np) (cv : xCS own idx y) (hR : rm.frames + 1 ≤ R.frames ∧ 8 + (nY + 11) + rm.locals ≤ R.locals)
    (hf : cells + rm.cells ≤ R.cells ∧ slots + rm.slots ≤ R.slots) (hW : xW D A s.heap w H locs) (isC isR : List Nat) (hnC : va_nd isC = true) (hC : isC.map (fun i => w[i]?) = wc.map some) (hRr : isR.map (fun i => w[i]?) = wr.map some) (hnR : va_nd isR = true) (hdis : ∀ i ∈ isR, i ∉ isC)
    (hn : As.length = np) (hls : ls.size = nL) (hst : st0 = As.reverse ++ rest) (hWt : (rest.map fun v => v.category).sum ≤ 8) (hdg : decode cc pc = .ok (.invokestatic idx, 3))
    (kk : ∀ (v : Option Value) (k n : Nat) (w1 : va_W) (H1 : Heap) (locs1 : List Loc), Post v k n w1 → xW D A s.heap (wr ++ w1) H1 locs1 → W p l e R s m args below meth c H1 locs1 (cells + k) (slots + n) Q (F0 m (pc + 3) ls (v.toList ++ rest))) : W p l e R s m args below meth c H locs cells slots Q (F0 m pc ls st0) :=
  x_goT (xRunS hM (hc H.size) x_blindT cb cv hR hf (x_preT hM.2.2.2.2.2.1 hW isC hnC hC) hn hls hst hWt hdg) hM.2.2.2.2.2.2 hW isC isR hC hRr hnR hdis kk
/-- invokestatic, a nest mate's -/
theorem x_callSNT {Post : Option Value → Nat → Nat → va_W → Prop} (hM : xM p s m meth c args D cI cL A own cc nL) (hc : CT l D cI cL y (xws y b nY ret) rm As wc Post) (cb : xCB y b nY ret np) (cv : xCSN own idx y host) (hR : rm.frames + 1 ≤ R.frames ∧ 8 + (nY + 11) + rm.locals ≤ R.locals)
    (hf : cells + rm.cells ≤ R.cells ∧ slots + rm.slots ≤ R.slots) (hW : xW D A s.heap w H locs) (isC isR : List Nat) (hnC : va_nd isC = true) (hC : isC.map (fun i => w[i]?) = wc.map some) (hRr : isR.map (fun i => w[i]?) = wr.map some) (hnR : va_nd isR = true) (hdis : ∀ i ∈ isR, i ∉ isC)
    (hn : As.length = np) (hls : ls.size = nL) (hst : st0 = As.reverse ++ rest) (hWt : (rest.map fun v => v.category).sum ≤ 8) (hdg : decode cc pc = .ok (.invokestatic idx, 3))
    (kk : ∀ (v : Option Value) (k n : Nat) (w1 : va_W) (H1 : Heap) (locs1 : List Loc), Post v k n w1 → xW D A s.heap (wr ++ w1) H1 locs1 → W p l e R s m args below meth c H1 locs1 (cells + k) (slots + n) Q (F0 m (pc + 3) ls (v.toList ++ rest))) : W p l e R s m args below meth c H locs cells slots Q (F0 m pc ls st0) :=
  x_goT (xRunSN hM (hc H.size) x_blindT cb cv hR hf (x_preT hM.2.2.2.2.2.1 hW isC hnC hC) hn hls hst hWt hdg) hM.2.2.2.2.2.2 hW isC isR hC hRr hnR hdis kk
/-- invokespecial of a constructor -/
theorem x_callIT {Post : Option Value → Nat → Nat → va_W → Prop} (hM : xM p s m meth c args D cI cL A own cc nL) (hc : CT l D cI cL y (xws y b nY none) rm (.ref rv :: As) wc Post) (cb : xCB y b nY none np) (cv : xCI own idx y) (hR : rm.frames + 1 ≤ R.frames ∧ 8 + (nY + 11) + rm.locals ≤ R.locals)
    (hf : cells + rm.cells ≤ R.cells ∧ slots + rm.slots ≤ R.slots) (hW : xW D A s.heap w H locs) (isC isR : List Nat) (hnC : va_nd isC = true) (hC : isC.map (fun i => w[i]?) = wc.map some) (hRr : isR.map (fun i => w[i]?) = wr.map some) (hnR : va_nd isR = true) (hdis : ∀ i ∈ isR, i ∉ isC)
    (hn : As.length = np) (hls : ls.size = nL) (hst : st0 = As.reverse ++ .ref rv :: rest) (hWt : (rest.map fun v => v.category).sum ≤ 8) (hdg : decode cc pc = .ok (.invokespecial idx, 3))
    (kk : ∀ (v : Option Value) (k n : Nat) (w1 : va_W) (H1 : Heap) (locs1 : List Loc), Post v k n w1 → xW D A s.heap (wr ++ w1) H1 locs1 → W p l e R s m args below meth c H1 locs1 (cells + k) (slots + n) Q (F0 m (pc + 3) ls (v.toList ++ rest))) : W p l e R s m args below meth c H locs cells slots Q (F0 m pc ls st0) :=
  x_goT (xRunI hM (hc H.size) x_blindT cb cv hR hf (x_preT hM.2.2.2.2.2.1 hW isC hnC hC) hn hls hst hWt hdg) hM.2.2.2.2.2.2 hW isC isR hC hRr hnR hdis kk
/-- invokespecial of a nest mate's private constructor -/
theorem x_callINT {Post : Option Value → Nat → Nat → va_W → Prop} (hM : xM p s m meth c args D cI cL A own cc nL) (hc : CT l D cI cL y (xws y b nY none) rm (.ref rv :: As) wc Post) (cb : xCB y b nY none np) (cv : xCIN own idx y host) (hR : rm.frames + 1 ≤ R.frames ∧ 8 + (nY + 11) + rm.locals ≤ R.locals)
    (hf : cells + rm.cells ≤ R.cells ∧ slots + rm.slots ≤ R.slots) (hW : xW D A s.heap w H locs) (isC isR : List Nat) (hnC : va_nd isC = true) (hC : isC.map (fun i => w[i]?) = wc.map some) (hRr : isR.map (fun i => w[i]?) = wr.map some) (hnR : va_nd isR = true) (hdis : ∀ i ∈ isR, i ∉ isC)
    (hn : As.length = np) (hls : ls.size = nL) (hst : st0 = As.reverse ++ .ref rv :: rest) (hWt : (rest.map fun v => v.category).sum ≤ 8) (hdg : decode cc pc = .ok (.invokespecial idx, 3))
    (kk : ∀ (v : Option Value) (k n : Nat) (w1 : va_W) (H1 : Heap) (locs1 : List Loc), Post v k n w1 → xW D A s.heap (wr ++ w1) H1 locs1 → W p l e R s m args below meth c H1 locs1 (cells + k) (slots + n) Q (F0 m (pc + 3) ls (v.toList ++ rest))) : W p l e R s m args below meth c H locs cells slots Q (F0 m pc ls st0) :=
  x_goT (xRunIN hM (hc H.size) x_blindT cb cv hR hf (x_preT hM.2.2.2.2.2.1 hW isC hnC hC) hn hls hst hWt hdg) hM.2.2.2.2.2.2 hW isC isR hC hRr hnR hdis kk
end XCALL
end
section
/-! ROWS IN NUMBERS: Int32 values as nI n -/
theorem nI_inc (k : Nat) : nI k + Int32.ofInt 1 = nI (k + 1) := nI_add k 1
theorem nI_inc256 (k : Nat) : nI k + Int32.ofInt 256 = nI (k + 256) := nI_add k 256
theorem nI_dec (k : Nat) : nI (k + 1) + Int32.ofInt (-1) = nI k := pk_m1 k
section XN
variable {p : Program} {l : Launch} {e : Env} {R : Room} {s : State} {m : MethodId} {args : Array Value} {below : List Frame} {meth : Method} {c : Code} {H : Heap} {locs : List Loc} {cells slots : Nat} {Q : State → Prop}
variable {cc : ByteArray} {pc : Nat} {ls : Array Slot} {rest : List Value} {D : va_G} {cI cL : ClassId} {A : Nat → Prop} {own : String} {nL : Nat} {w : va_W} {a b : Nat}
theorem xn_iadd (hx : p.tables.exec = Jvm.exec) (hb : c.code = cc) (hdg : decode cc pc = .ok (.iadd, 1)) (k : W p l e R s m args below meth c H locs cells slots Q (F0 m (pc + 1) ls (.int (nI (a + b)) :: rest))) : W p l e R s m args below meth c H locs cells slots Q (F0 m pc ls (.int (nI b) :: .int (nI a) :: rest)) :=
  lv_iadd hx hb hdg (by rw [nI_add]; exact k)
theorem xn_isub (hx : p.tables.exec = Jvm.exec) (hb : c.code = cc) (h : b ≤ a) (hdg : decode cc pc = .ok (.isub, 1)) (k : W p l e R s m args below meth c H locs cells slots Q (F0 m (pc + 1) ls (.int (nI (a - b)) :: rest))) : W p l e R s m args below meth c H locs cells slots Q (F0 m pc ls (.int (nI b) :: .int (nI a) :: rest)) :=
  lv_isub hx hb hdg (by rw [pk_sub h]; exact k)
theorem xn_imul (hx : p.tables.exec = Jvm.exec) (hb : c.code = cc) (hdg : decode cc pc = .ok (.imul, 1)) (k : W p l e R s m args below meth c H locs cells slots Q (F0 m (pc + 1) ls (.int (nI (a * b)) :: rest))) : W p l e R s m args below meth c H locs cells slots Q (F0 m pc ls (.int (nI b) :: .int (nI a) :: rest)) :=
  lv_imul hx hb hdg (by rw [pk_mul]; exact k)
theorem xn_shr8 (hx : p.tables.exec = Jvm.exec) (hb : c.code = cc) (h : a < 2 ^ 31) (hdg : decode cc pc = .ok (.ishr, 1)) (k : W p l e R s m args below meth c H locs cells slots Q (F0 m (pc + 1) ls (.int (nI (a / 256)) :: rest))) : W p l e R s m args below meth c H locs cells slots Q (F0 m pc ls (.int (nI 8) :: .int (nI a) :: rest)) :=
  lv_ishr hx hb hdg (by rw [pk_shrN h (nI 8 &&& 31) 8 (by decide)]; exact k)
theorem xn_shl8 (hx : p.tables.exec = Jvm.exec) (hb : c.code = cc) (h : a < 2 ^ 22) (hdg : decode cc pc = .ok (.ishl, 1)) (k : W p l e R s m args below meth c H locs cells slots Q (F0 m (pc + 1) ls (.int (nI (a * 256)) :: rest))) : W p l e R s m args below meth c H locs cells slots Q (F0 m pc ls (.int (nI 8) :: .int (nI a) :: rest)) :=
  lv_ishl hx hb hdg (by rw [pk_shlN (nI 8 &&& 31) 8 (by decide) (by omega)]; exact k)
theorem xn_and255 (hx : p.tables.exec = Jvm.exec) (hb : c.code = cc) (h : a < 2 ^ 31) (hdg : decode cc pc = .ok (.iand, 1)) (k : W p l e R s m args below meth c H locs cells slots Q (F0 m (pc + 1) ls (.int (nI (a % 256)) :: rest))) : W p l e R s m args below meth c H locs cells slots Q (F0 m pc ls (.int (nI 255) :: .int (nI a) :: rest)) :=
  lv_iand hx hb hdg (by rw [pk_andN (by omega) 8 (by decide)]; exact k)
theorem xn_idiv (hx : p.tables.exec = Jvm.exec) (hb : c.code = cc) (ha : a < 2 ^ 31) (h0 : 0 < b) (hb2 : b < 2 ^ 31) (hdg : decode cc pc = .ok (.idiv, 1)) (k : W p l e R s m args below meth c H locs cells slots Q (F0 m (pc + 1) ls (.int (nI (a / b)) :: rest))) : W p l e R s m args below meth c H locs cells slots Q (F0 m pc ls (.int (nI b) :: .int (nI a) :: rest)) :=
  lv_idiv hx hb hdg (nI_ne0 h0 hb2) (by rw [pk_div ha h0 hb2]; exact k)
theorem xn_ge (hx : p.tables.exec = Jvm.exec) (hb : c.code = cc) {off : Int} {tgt : Nat} (ha : a < 2 ^ 31) (hb2 : b < 2 ^ 31) (hdg : decode cc pc = .ok (.if_icmp .ge off, 3)) (ht : (pc : Int) + off = (tgt : Int))
    (kt : b ≤ a → W p l e R s m args below meth c H locs cells slots Q (F0 m tgt ls rest)) (kf : a < b → W p l e R s m args below meth c H locs cells slots Q (F0 m (pc + 3) ls rest)) : W p l e R s m args below meth c H locs cells slots Q (F0 m pc ls (.int (nI b) :: .int (nI a) :: rest)) :=
  lv_icmp_ge hx hb hdg ht (fun h => kt ((nI_leI hb2 ha).mp h)) (fun h => kf (Nat.lt_of_not_le fun q => h ((nI_leI hb2 ha).mpr q)))
theorem xn_gt (hx : p.tables.exec = Jvm.exec) (hb : c.code = cc) {off : Int} {tgt : Nat} (ha : a < 2 ^ 31) (hb2 : b < 2 ^ 31) (hdg : decode cc pc = .ok (.if_icmp .gt off, 3)) (ht : (pc : Int) + off = (tgt : Int))
    (kt : b < a → W p l e R s m args below meth c H locs cells slots Q (F0 m tgt ls rest)) (kf : a ≤ b → W p l e R s m args below meth c H locs cells slots Q (F0 m (pc + 3) ls rest)) : W p l e R s m args below meth c H locs cells slots Q (F0 m pc ls (.int (nI b) :: .int (nI a) :: rest)) :=
  lv_icmp_gt hx hb hdg ht (fun h => kt ((nI_ltI hb2 ha).mp h)) (fun h => kf (Nat.le_of_not_lt fun q => h ((nI_ltI hb2 ha).mpr q)))
theorem xn_le (hx : p.tables.exec = Jvm.exec) (hb : c.code = cc) {off : Int} {tgt : Nat} (ha : a < 2 ^ 31) (hb2 : b < 2 ^ 31) (hdg : decode cc pc = .ok (.if_icmp .le off, 3)) (ht : (pc : Int) + off = (tgt : Int))
    (kt : a ≤ b → W p l e R s m args below meth c H locs cells slots Q (F0 m tgt ls rest)) (kf : b < a → W p l e R s m args below meth c H locs cells slots Q (F0 m (pc + 3) ls rest)) : W p l e R s m args below meth c H locs cells slots Q (F0 m pc ls (.int (nI b) :: .int (nI a) :: rest)) :=
  lv_icmp_le hx hb hdg ht (fun h => kt ((nI_leI ha hb2).mp h)) (fun h => kf (Nat.lt_of_not_le fun q => h ((nI_leI ha hb2).mpr q)))
theorem xn_lt (hx : p.tables.exec = Jvm.exec) (hb : c.code = cc) {off : Int} {tgt : Nat} (ha : a < 2 ^ 31) (hb2 : b < 2 ^ 31) (hdg : decode cc pc = .ok (.if_icmp .lt off, 3)) (ht : (pc : Int) + off = (tgt : Int))
    (kt : a < b → W p l e R s m args below meth c H locs cells slots Q (F0 m tgt ls rest)) (kf : b ≤ a → W p l e R s m args below meth c H locs cells slots Q (F0 m (pc + 3) ls rest)) : W p l e R s m args below meth c H locs cells slots Q (F0 m pc ls (.int (nI b) :: .int (nI a) :: rest)) :=
  lv_icmp_lt hx hb hdg ht (fun h => kt ((nI_ltI ha hb2).mp h)) (fun h => kf (Nat.le_of_not_lt fun q => h ((nI_ltI ha hb2).mpr q)))
theorem xn_eq (hx : p.tables.exec = Jvm.exec) (hb : c.code = cc) {off : Int} {tgt : Nat} (ha : a < 2 ^ 31) (hb2 : b < 2 ^ 31) (hdg : decode cc pc = .ok (.if_icmp .eq off, 3)) (ht : (pc : Int) + off = (tgt : Int))
    (kt : a = b → W p l e R s m args below meth c H locs cells slots Q (F0 m tgt ls rest)) (kf : a ≠ b → W p l e R s m args below meth c H locs cells slots Q (F0 m (pc + 3) ls rest)) : W p l e R s m args below meth c H locs cells slots Q (F0 m pc ls (.int (nI b) :: .int (nI a) :: rest)) :=
  lv_icmp_eq hx hb hdg ht (fun h => kt ((nI_eq ha hb2).mp h)) (fun h => kf fun q => h ((nI_eq ha hb2).mpr q))
theorem xn_ne (hx : p.tables.exec = Jvm.exec) (hb : c.code = cc) {off : Int} {tgt : Nat} (ha : a < 2 ^ 31) (hb2 : b < 2 ^ 31) (hdg : decode cc pc = .ok (.if_icmp .ne off, 3)) (ht : (pc : Int) + off = (tgt : Int))
    (kt : a ≠ b → W p l e R s m args below meth c H locs cells slots Q (F0 m tgt ls rest)) (kf : a = b → W p l e R s m args below meth c H locs cells slots Q (F0 m (pc + 3) ls rest)) : W p l e R s m args below meth c H locs cells slots Q (F0 m pc ls (.int (nI b) :: .int (nI a) :: rest)) :=
  lv_icmp_ne hx hb hdg ht (fun h => kt fun q => h ((nI_eq ha hb2).mpr q)) (fun h => kf ((nI_eq ha hb2).mp h))
theorem xn_ifeq (hx : p.tables.exec = Jvm.exec) (hb : c.code = cc) {off : Int} {tgt : Nat} (ha : a < 2 ^ 31) (hdg : decode cc pc = .ok (.ifCond .eq off, 3)) (ht : (pc : Int) + off = (tgt : Int))
    (kt : a = 0 → W p l e R s m args below meth c H locs cells slots Q (F0 m tgt ls rest)) (kf : a ≠ 0 → W p l e R s m args below meth c H locs cells slots Q (F0 m (pc + 3) ls rest)) : W p l e R s m args below meth c H locs cells slots Q (F0 m pc ls (.int (nI a) :: rest)) :=
  lv_if_eq hx hb hdg ht (fun h => kt (Classical.byContradiction fun q => nI_ne0 (Nat.pos_of_ne_zero q) ha h)) (fun h => kf fun q => h (by rw [q]; exact nI_0))
theorem xn_ifne (hx : p.tables.exec = Jvm.exec) (hb : c.code = cc) {off : Int} {tgt : Nat} (ha : a < 2 ^ 31) (hdg : decode cc pc = .ok (.ifCond .ne off, 3)) (ht : (pc : Int) + off = (tgt : Int))
    (kt : a ≠ 0 → W p l e R s m args below meth c H locs cells slots Q (F0 m tgt ls rest)) (kf : a = 0 → W p l e R s m args below meth c H locs cells slots Q (F0 m (pc + 3) ls rest)) : W p l e R s m args below meth c H locs cells slots Q (F0 m pc ls (.int (nI a) :: rest)) :=
  lv_if_ne hx hb hdg ht (fun h => kt fun q => h (by rw [q]; exact nI_0)) (fun h => kf (Classical.byContradiction fun q => nI_ne0 (Nat.pos_of_ne_zero q) ha h))
theorem xn_ifle (hx : p.tables.exec = Jvm.exec) (hb : c.code = cc) {off : Int} {tgt : Nat} (ha : a < 2 ^ 31) (hdg : decode cc pc = .ok (.ifCond .le off, 3)) (ht : (pc : Int) + off = (tgt : Int))
    (kt : a = 0 → W p l e R s m args below meth c H locs cells slots Q (F0 m tgt ls rest)) (kf : 0 < a → W p l e R s m args below meth c H locs cells slots Q (F0 m (pc + 3) ls rest)) : W p l e R s m args below meth c H locs cells slots Q (F0 m pc ls (.int (nI a) :: rest)) :=
  lv_if_le hx hb hdg ht (fun h => kt (Classical.byContradiction fun q => nI_nle (Nat.pos_of_ne_zero q) ha h)) (fun h => kf (Nat.pos_of_ne_zero fun q => h (by rw [q, nI_0]; decide)))
theorem xn_iald {n : Nat} {f : Nat → Int32} {k : Nat} (hM : xM p s m meth c args D cI cL A own cc nL) (hP : va_P D xcl w H) (q0 : Nat) (ha : w[q0]? = some (a, .inl (cI, n, .inl f))) (hk : k < n) (hn : n < 2 ^ 31) (hdg : decode cc pc = .ok (.iaload, 1))
    (kk : W p l e R s m args below meth c H locs cells slots Q (F0 m (pc + 1) ls (.int (f k) :: rest))) : W p l e R s m args below meth c H locs cells slots Q (F0 m pc ls (.int (nI k) :: .ref a :: rest)) :=
  va_iald hM.1 hM.2.1 hM.2.2.2.2.2.1.1 hP q0 0 ha rfl (vp_in_nI hk hn) hdg (by rw [nI_clamp (Nat.lt_trans hk hn)]; exact kk)
theorem xn_iast {n : Nat} {f : Nat → Int32} {k : Nat} {x : Int32} (hM : xM p s m meth c args D cI cL A own cc nL) (hW : xW D A s.heap w H locs) (q0 : Nat) (ha : w[q0]? = some (a, .inl (cI, n, .inl f))) (hk : k < n) (hn : n < 2 ^ 31) (hdg : decode cc pc = .ok (.iastore, 1))
    (kk : ∀ (H1 : Heap) (locs1 : List Loc), xW D A s.heap (w.set q0 (a, .inl (cI, n, .inl (upd f k x)))) H1 locs1 → W p l e R s m args below meth c H1 locs1 cells slots Q (F0 m (pc + 1) ls rest)) : W p l e R s m args below meth c H locs cells slots Q (F0 m pc ls (.int x :: .int (nI k) :: .ref a :: rest)) :=
  va_iast hM.1 hM.2.1 hM.2.2.2.2.2.1.1 hW.1 hW.2.1 hW.2.2 q0 0 ha rfl (vp_in_nI hk hn) hdg (fun H1 locs1 h1 h2 h3 => by
    rw [nI_clamp (Nat.lt_trans hk hn)] at h1 h2
    exact kk H1 locs1 ⟨h1, h2, h3⟩)
theorem xn_alen {n : Nat} {f : Nat → Int32} (hM : xM p s m meth c args D cI cL A own cc nL) (hP : va_P D xcl w H) (q0 : Nat) (ha : w[q0]? = some (a, .inl (cI, n, .inl f))) (hdg : decode cc pc = .ok (.arraylength, 1))
    (kk : W p l e R s m args below meth c H locs cells slots Q (F0 m (pc + 1) ls (.int (nI n) :: rest))) : W p l e R s m args below meth c H locs cells slots Q (F0 m pc ls (.ref a :: rest)) :=
  va_alen hM.1 hM.2.1 hM.2.2.2.2.2.1.1 hP q0 0 ha rfl rfl hdg kk
theorem xn_newI {N : Nat} (hM : xM p s m meth c args D cI cL A own cc nL) (hW : xW D A s.heap w H locs) (hN : N ≤ 134217728) (hcells : cells + 1 ≤ R.cells) (hslots : slots + N ≤ R.slots) (hdg : decode cc pc = .ok (.newarray .int, 2))
    (kk : ∀ (q : Nat) (H1 : Heap) (locs1 : List Loc), xW D A s.heap (w ++ [(q, .inl (cI, N, .inl (fun _ => 0)))]) H1 locs1 → W p l e R s m args below meth c H1 locs1 (cells + 1) (slots + N) Q (F0 m (pc + 2) ls (.ref q :: rest))) : W p l e R s m args below meth c H locs cells slots Q (F0 m pc ls (.int (nI N) :: rest)) := by
  obtain ⟨hx, hb, hml, ho, hts, hK, hA⟩ := hM
  obtain ⟨hP, hD, hS⟩ := hW
  refine va_newaK hx hb (atype := .int) (hts (.arrayClass .int) (tb_of (i := 39) rfl rfl)) (g := F0 m pc ls (.int (nI N) :: rest)) rfl hdg rfl (nI_pos (by omega)) (N := N) (nI_clamp (by omega)) (by show N * 4 ≤ _; omega) hcells hslots rfl ?_
  intro H' cA h1 h2 h3 h4 h5
  have hc : cA = cI := Option.some.inj (h5.symm.trans hK.2.1)
  subst hc
  have hv : ∀ (k : Nat) (q : Nat × va_E), w[k]? = some q → H'[q.1]? = H[q.1]? := fun k q hk => h3 _ (va_at.lt (hP k q hk))
  refine kk H.size H' locs ⟨(hP.kept hv).app (fun k q hk => ?_), hD.push hP rfl (hA _ hS.1), Nat.le_trans hS.1 (by omega), fun q h1' h2' => by rw [h3 q (Nat.lt_of_lt_of_le h1' hS.1)]; exact hS.2.1 q h1' h2', hS.2.2⟩
  rcases k with _ | k
  · simp only [List.getElem?_cons_zero, Option.some.injEq] at hk
    subst hk
    exact h1
  · simp at hk
end XN
section XT
variable {p : Program} {l : Launch} {e : Env} {R : Room} {s : State} {m : MethodId} {args : Array Value} {below : List Frame} {meth : Method} {c : Code} {H : Heap} {locs : List Loc} {cells slots : Nat} {Q : State → Prop} {pc : Nat} {ls : Array Slot} {rest : List Value}
theorem xn_top {x y : Int32} (h : x = y) (k : W p l e R s m args below meth c H locs cells slots Q (F0 m pc ls (.int y :: rest))) : W p l e R s m args below meth c H locs cells slots Q (F0 m pc ls (.int x :: rest)) := by rw [h]; exact k
end XT
end
section
section XF
variable {p : Program} {l : Launch} {e : Env} {R : Room} {s : State} {m : MethodId} {args : Array Value} {below : List Frame} {meth : Method} {c : Code} {H : Heap} {locs : List Loc} {cells slots : Nat} {Q : State → Prop}
variable {cc : ByteArray} {pc : Nat} {ls : Array Slot} {rest : List Value} {D : va_G} {cI cL : ClassId} {A : Nat → Prop} {nL : Nat} {w : va_W} {a x : Nat} {z : Int32} {fs : List Value} {v : Value}
theorem nw_Law_8 (hM : xM p s m meth c args D cI cL A R_Law cc nL) (hW : xW D A s.heap w H locs) (hcells : cells + 1 ≤ R.cells) (hslots : slots + 2 ≤ R.slots) (hdg : decode cc pc = .ok (.new 8, 3)) (kk : ∀ (q : Nat) (H1 : Heap) (locs1 : List Loc), xW D A s.heap (w ++ [(q, .inr (0, [.null, .null]))]) H1 locs1 → W p l e R s m args below meth c H1 locs1 (cells + 1) (slots + 2) Q (F0 m (pc + 3) ls (.ref q :: rest))) : W p l e R s m args below meth c H locs cells slots Q (F0 m pc ls rest) :=
  va_new (ci := 0) (fs := [.null, .null]) (C := R_PT) (T := F_PT) (N := 2) hM.1 hM.2.1 hM.2.2.2.2.1 xws_PT t_PT xty_PT hM.2.2.2.1 (hM.2.2.2.2.1 _ (tb_of (i := 9) rfl rfl)) (hM.2.2.2.2.1 _ (tb_of (i := 10) rfl rfl)) (hM.2.2.2.2.1 _ (tb_of (i := 1) rfl rfl)) hM.2.2.2.2.2.1.1 hW.1 hW.2.1 hW.2.2 hM.2.2.2.2.2.2 rfl (fun j hj => by rcases (show j = 0 ∨ j = 1 by omega) with rfl | rfl <;> rfl) hcells hslots hdg (fun q H1 h1 h2 h3 => kk q H1 locs ⟨h1, h2, h3⟩)
theorem oi_PT (hM : xM p s m meth c args D cI cL A R_PT cc nL) (hls : ls.size = nL) (hdg : decode cc pc = .ok (.invokespecial 1, 3)) (hfr : 1 ≤ R.frames) (hlo : 12 ≤ R.locals) (kk : W p l e R s m args below meth c H locs cells slots Q (F0 m (pc + 3) ls [])) : W p l e R s m args below meth c H locs cells slots Q (F0 m pc ls [.ref a]) :=
  W.objInit hM.1 hM.2.1 hM.2.2.2.1 (hM.2.2.2.2.1 (.methodLink R_PT 1 objectInit) (tb_of (i := 14) rfl rfl)) (hM.2.2.2.2.1 (.instanceMethod objectInit) (tb_of (i := 15) rfl rfl)) (hM.2.2.2.2.1 (.code objectInit ⟨#[0xb1]⟩ 1 none) (tb_of (i := 16) rfl rfl)) rfl (hls.trans hM.2.2.1.symm) rfl hdg hfr (by simpa using hlo) kk
theorem nw_PT_7 (hM : xM p s m meth c args D cI cL A R_PT cc nL) (hW : xW D A s.heap w H locs) (hcells : cells + 1 ≤ R.cells) (hslots : slots + 5 ≤ R.slots) (hdg : decode cc pc = .ok (.new 7, 3)) (kk : ∀ (q : Nat) (H1 : Heap) (locs1 : List Loc), xW D A s.heap (w ++ [(q, .inr (1, [.null, .null, .null, .int 0, .null]))]) H1 locs1 → W p l e R s m args below meth c H1 locs1 (cells + 1) (slots + 5) Q (F0 m (pc + 3) ls (.ref q :: rest))) : W p l e R s m args below meth c H locs cells slots Q (F0 m pc ls rest) :=
  va_new (ci := 1) (fs := [.null, .null, .null, .int 0, .null]) (C := R_Rec) (T := F_Rec) (N := 5) hM.1 hM.2.1 hM.2.2.2.2.1 xws_Rec t_Rec xty_Rec hM.2.2.2.1 (hM.2.2.2.2.1 _ (tb_of (i := 17) rfl rfl)) (hM.2.2.2.2.1 _ (tb_of (i := 18) rfl rfl)) (hM.2.2.2.2.1 _ (tb_of (i := 2) rfl rfl)) hM.2.2.2.2.2.1.1 hW.1 hW.2.1 hW.2.2 hM.2.2.2.2.2.2 rfl (fun j hj => by rcases (show j = 0 ∨ j = 1 ∨ j = 2 ∨ j = 3 ∨ j = 4 by omega) with rfl | rfl | rfl | rfl | rfl <;> rfl) hcells hslots hdg (fun q H1 h1 h2 h3 => kk q H1 locs ⟨h1, h2, h3⟩)
theorem oi_Rec (hM : xM p s m meth c args D cI cL A R_Rec cc nL) (hls : ls.size = nL) (hdg : decode cc pc = .ok (.invokespecial 1, 3)) (hfr : 1 ≤ R.frames) (hlo : 12 ≤ R.locals) (kk : W p l e R s m args below meth c H locs cells slots Q (F0 m (pc + 3) ls [])) : W p l e R s m args below meth c H locs cells slots Q (F0 m pc ls [.ref a]) :=
  W.objInit hM.1 hM.2.1 hM.2.2.2.1 (hM.2.2.2.2.1 (.methodLink R_Rec 1 objectInit) (tb_of (i := 22) rfl rfl)) (hM.2.2.2.2.1 (.instanceMethod objectInit) (tb_of (i := 15) rfl rfl)) (hM.2.2.2.2.1 (.code objectInit ⟨#[0xb1]⟩ 1 none) (tb_of (i := 16) rfl rfl)) rfl (hls.trans hM.2.2.1.symm) rfl hdg hfr (by simpa using hlo) kk
theorem gf_Rec_9 (hM : xM p s m meth c args D cI cL A R_Rec cc nL) (hP : va_P D xcl w H) (q0 : Nat) (he : w[q0]? = some (a, .inr (1, fs))) (hv : fs[0]? = some v) (hdg : decode cc pc = .ok (.getfield 9, 3)) (kk : W p l e R s m args below meth c H locs cells slots Q (F0 m (pc + 3) ls (v :: rest))) : W p l e R s m args below meth c H locs cells slots Q (F0 m pc ls (.ref a :: rest)) :=
  va_get hM.1 hM.2.1 hM.2.2.2.2.1 xws_Rec hM.2.2.2.1 hM.2.2.2.2.2.1.1 hP q0 he rfl 0 (by decide) (hM.2.2.2.2.1 _ (tb_of (i := 23) rfl rfl)) (fun _ h => h) hv hdg kk
theorem pf_Rec_9 (hM : xM p s m meth c args D cI cL A R_Rec cc nL) (hW : xW D A s.heap w H locs) (q0 : Nat) (he : w[q0]? = some (a, .inr (1, fs))) (hl : 0 < fs.length) (hdg : decode cc pc = .ok (.putfield 9, 3)) (kk : ∀ (H1 : Heap) (locs1 : List Loc), xW D A s.heap (w.set q0 (a, .inr (1, fs.set 0 (.ref x)))) H1 locs1 → W p l e R s m args below meth c H1 locs1 cells slots Q (F0 m (pc + 3) ls rest)) : W p l e R s m args below meth c H locs cells slots Q (F0 m pc ls (.ref x :: .ref a :: rest)) :=
  va_put hM.1 hM.2.1 hM.2.2.2.2.1 xws_Rec t_Rec xty_Rec xnm_Rec hM.2.2.2.1 hM.2.2.2.2.2.1.1 hW.1 hW.2.1 hW.2.2 q0 he rfl 0 (by decide) (hM.2.2.2.2.1 _ (tb_of (i := 23) rfl rfl)) (fun _ h => h) rfl (xty_Rec 0 (by decide)) rfl rfl hl hdg (fun H1 locs1 h1 h2 h3 => kk H1 locs1 ⟨h1, h2, h3⟩)
theorem gf_Rec_13 (hM : xM p s m meth c args D cI cL A R_Rec cc nL) (hP : va_P D xcl w H) (q0 : Nat) (he : w[q0]? = some (a, .inr (1, fs))) (hv : fs[1]? = some v) (hdg : decode cc pc = .ok (.getfield 13, 3)) (kk : W p l e R s m args below meth c H locs cells slots Q (F0 m (pc + 3) ls (v :: rest))) : W p l e R s m args below meth c H locs cells slots Q (F0 m pc ls (.ref a :: rest)) :=
  va_get hM.1 hM.2.1 hM.2.2.2.2.1 xws_Rec hM.2.2.2.1 hM.2.2.2.2.2.1.1 hP q0 he rfl 1 (by decide) (hM.2.2.2.2.1 _ (tb_of (i := 24) rfl rfl)) (fun _ h => h) hv hdg kk
theorem pf_Rec_13 (hM : xM p s m meth c args D cI cL A R_Rec cc nL) (hW : xW D A s.heap w H locs) (q0 : Nat) (he : w[q0]? = some (a, .inr (1, fs))) (hl : 1 < fs.length) (hdg : decode cc pc = .ok (.putfield 13, 3)) (kk : ∀ (H1 : Heap) (locs1 : List Loc), xW D A s.heap (w.set q0 (a, .inr (1, fs.set 1 (.ref x)))) H1 locs1 → W p l e R s m args below meth c H1 locs1 cells slots Q (F0 m (pc + 3) ls rest)) : W p l e R s m args below meth c H locs cells slots Q (F0 m pc ls (.ref x :: .ref a :: rest)) :=
  va_put hM.1 hM.2.1 hM.2.2.2.2.1 xws_Rec t_Rec xty_Rec xnm_Rec hM.2.2.2.1 hM.2.2.2.2.2.1.1 hW.1 hW.2.1 hW.2.2 q0 he rfl 1 (by decide) (hM.2.2.2.2.1 _ (tb_of (i := 24) rfl rfl)) (fun _ h => h) rfl (xty_Rec 1 (by decide)) rfl rfl hl hdg (fun H1 locs1 h1 h2 h3 => kk H1 locs1 ⟨h1, h2, h3⟩)
theorem gf_Rec_16 (hM : xM p s m meth c args D cI cL A R_Rec cc nL) (hP : va_P D xcl w H) (q0 : Nat) (he : w[q0]? = some (a, .inr (1, fs))) (hv : fs[2]? = some v) (hdg : decode cc pc = .ok (.getfield 16, 3)) (kk : W p l e R s m args below meth c H locs cells slots Q (F0 m (pc + 3) ls (v :: rest))) : W p l e R s m args below meth c H locs cells slots Q (F0 m pc ls (.ref a :: rest)) :=
  va_get hM.1 hM.2.1 hM.2.2.2.2.1 xws_Rec hM.2.2.2.1 hM.2.2.2.2.2.1.1 hP q0 he rfl 2 (by decide) (hM.2.2.2.2.1 _ (tb_of (i := 25) rfl rfl)) (fun _ h => h) hv hdg kk
theorem pf_Rec_16 (hM : xM p s m meth c args D cI cL A R_Rec cc nL) (hW : xW D A s.heap w H locs) (q0 : Nat) (he : w[q0]? = some (a, .inr (1, fs))) (hl : 2 < fs.length) (hdg : decode cc pc = .ok (.putfield 16, 3)) (kk : ∀ (H1 : Heap) (locs1 : List Loc), xW D A s.heap (w.set q0 (a, .inr (1, fs.set 2 (.ref x)))) H1 locs1 → W p l e R s m args below meth c H1 locs1 cells slots Q (F0 m (pc + 3) ls rest)) : W p l e R s m args below meth c H locs cells slots Q (F0 m pc ls (.ref x :: .ref a :: rest)) :=
  va_put hM.1 hM.2.1 hM.2.2.2.2.1 xws_Rec t_Rec xty_Rec xnm_Rec hM.2.2.2.1 hM.2.2.2.2.2.1.1 hW.1 hW.2.1 hW.2.2 q0 he rfl 2 (by decide) (hM.2.2.2.2.1 _ (tb_of (i := 25) rfl rfl)) (fun _ h => h) rfl (xty_Rec 2 (by decide)) rfl rfl hl hdg (fun H1 locs1 h1 h2 h3 => kk H1 locs1 ⟨h1, h2, h3⟩)
theorem gf_Rec_22 (hM : xM p s m meth c args D cI cL A R_Rec cc nL) (hP : va_P D xcl w H) (q0 : Nat) (he : w[q0]? = some (a, .inr (1, fs))) (hv : fs[3]? = some v) (hdg : decode cc pc = .ok (.getfield 22, 3)) (kk : W p l e R s m args below meth c H locs cells slots Q (F0 m (pc + 3) ls (v :: rest))) : W p l e R s m args below meth c H locs cells slots Q (F0 m pc ls (.ref a :: rest)) :=
  va_get hM.1 hM.2.1 hM.2.2.2.2.1 xws_Rec hM.2.2.2.1 hM.2.2.2.2.2.1.1 hP q0 he rfl 3 (by decide) (hM.2.2.2.2.1 _ (tb_of (i := 26) rfl rfl)) (fun _ h => h) hv hdg kk
theorem pf_Rec_22 (hM : xM p s m meth c args D cI cL A R_Rec cc nL) (hW : xW D A s.heap w H locs) (q0 : Nat) (he : w[q0]? = some (a, .inr (1, fs))) (hl : 3 < fs.length) (hdg : decode cc pc = .ok (.putfield 22, 3)) (kk : ∀ (H1 : Heap) (locs1 : List Loc), xW D A s.heap (w.set q0 (a, .inr (1, fs.set 3 (.int z)))) H1 locs1 → W p l e R s m args below meth c H1 locs1 cells slots Q (F0 m (pc + 3) ls rest)) : W p l e R s m args below meth c H locs cells slots Q (F0 m pc ls (.int z :: .ref a :: rest)) :=
  va_put hM.1 hM.2.1 hM.2.2.2.2.1 xws_Rec t_Rec xty_Rec xnm_Rec hM.2.2.2.1 hM.2.2.2.2.2.1.1 hW.1 hW.2.1 hW.2.2 q0 he rfl 3 (by decide) (hM.2.2.2.2.1 _ (tb_of (i := 26) rfl rfl)) (fun _ h => h) rfl (xty_Rec 3 (by decide)) rfl rfl hl hdg (fun H1 locs1 h1 h2 h3 => kk H1 locs1 ⟨h1, h2, h3⟩)
theorem gf_Rec_19 (hM : xM p s m meth c args D cI cL A R_Rec cc nL) (hP : va_P D xcl w H) (q0 : Nat) (he : w[q0]? = some (a, .inr (1, fs))) (hv : fs[4]? = some v) (hdg : decode cc pc = .ok (.getfield 19, 3)) (kk : W p l e R s m args below meth c H locs cells slots Q (F0 m (pc + 3) ls (v :: rest))) : W p l e R s m args below meth c H locs cells slots Q (F0 m pc ls (.ref a :: rest)) :=
  va_get hM.1 hM.2.1 hM.2.2.2.2.1 xws_Rec hM.2.2.2.1 hM.2.2.2.2.2.1.1 hP q0 he rfl 4 (by decide) (hM.2.2.2.2.1 _ (tb_of (i := 27) rfl rfl)) (fun _ h => h) hv hdg kk
theorem pf_Rec_19 (hM : xM p s m meth c args D cI cL A R_Rec cc nL) (hW : xW D A s.heap w H locs) (hin : meth.name = "<init>") (q0 : Nat) (he : w[q0]? = some (a, .inr (1, fs))) (hl : 4 < fs.length) (hdg : decode cc pc = .ok (.putfield 19, 3)) (kk : ∀ (H1 : Heap) (locs1 : List Loc), xW D A s.heap (w.set q0 (a, .inr (1, fs.set 4 (.ref x)))) H1 locs1 → W p l e R s m args below meth c H1 locs1 cells slots Q (F0 m (pc + 3) ls rest)) : W p l e R s m args below meth c H locs cells slots Q (F0 m pc ls (.ref x :: .ref a :: rest)) :=
  va_putF hM.1 hM.2.1 hM.2.2.2.2.1 xws_Rec t_Rec xty_Rec xnm_Rec hM.2.2.2.1 hM.2.2.2.2.2.1.1 hW.1 hW.2.1 hW.2.2 q0 he rfl 4 (by decide) (hM.2.2.2.2.1 _ (tb_of (i := 27) rfl rfl)) (fun _ h => h) rfl hin rfl (xty_Rec 4 (by decide)) rfl rfl hl hdg (fun H1 locs1 h1 h2 h3 => kk H1 locs1 ⟨h1, h2, h3⟩)
theorem nw_PT_16 (hM : xM p s m meth c args D cI cL A R_PT cc nL) (hW : xW D A s.heap w H locs) (hcells : cells + 1 ≤ R.cells) (hslots : slots + 6 ≤ R.slots) (hdg : decode cc pc = .ok (.new 16, 3)) (kk : ∀ (q : Nat) (H1 : Heap) (locs1 : List Loc), xW D A s.heap (w ++ [(q, .inr (2, [.null, .null, .null, .int 0, .null, .int 0]))]) H1 locs1 → W p l e R s m args below meth c H1 locs1 (cells + 1) (slots + 6) Q (F0 m (pc + 3) ls (.ref q :: rest))) : W p l e R s m args below meth c H locs cells slots Q (F0 m pc ls rest) :=
  va_new (ci := 2) (fs := [.null, .null, .null, .int 0, .null, .int 0]) (C := R_Tri) (T := F_Tri) (N := 6) hM.1 hM.2.1 hM.2.2.2.2.1 xws_Tri t_Tri xty_Tri hM.2.2.2.1 (hM.2.2.2.2.1 _ (tb_of (i := 40) rfl rfl)) (hM.2.2.2.2.1 _ (tb_of (i := 41) rfl rfl)) (hM.2.2.2.2.1 _ (tb_of (i := 3) rfl rfl)) hM.2.2.2.2.2.1.1 hW.1 hW.2.1 hW.2.2 hM.2.2.2.2.2.2 rfl (fun j hj => by rcases (show j = 0 ∨ j = 1 ∨ j = 2 ∨ j = 3 ∨ j = 4 ∨ j = 5 by omega) with rfl | rfl | rfl | rfl | rfl | rfl <;> rfl) hcells hslots hdg (fun q H1 h1 h2 h3 => kk q H1 locs ⟨h1, h2, h3⟩)
theorem oi_Tri (hM : xM p s m meth c args D cI cL A R_Tri cc nL) (hls : ls.size = nL) (hdg : decode cc pc = .ok (.invokespecial 3, 3)) (hfr : 1 ≤ R.frames) (hlo : 12 ≤ R.locals) (kk : W p l e R s m args below meth c H locs cells slots Q (F0 m (pc + 3) ls [])) : W p l e R s m args below meth c H locs cells slots Q (F0 m pc ls [.ref a]) :=
  W.objInit hM.1 hM.2.1 hM.2.2.2.1 (hM.2.2.2.2.1 (.methodLink R_Tri 3 objectInit) (tb_of (i := 45) rfl rfl)) (hM.2.2.2.2.1 (.instanceMethod objectInit) (tb_of (i := 15) rfl rfl)) (hM.2.2.2.2.1 (.code objectInit ⟨#[0xb1]⟩ 1 none) (tb_of (i := 16) rfl rfl)) rfl (hls.trans hM.2.2.1.symm) rfl hdg hfr (by simpa using hlo) kk
theorem gf_Tri_25 (hM : xM p s m meth c args D cI cL A R_Tri cc nL) (hP : va_P D xcl w H) (q0 : Nat) (he : w[q0]? = some (a, .inr (2, fs))) (hv : fs[0]? = some v) (hdg : decode cc pc = .ok (.getfield 25, 3)) (kk : W p l e R s m args below meth c H locs cells slots Q (F0 m (pc + 3) ls (v :: rest))) : W p l e R s m args below meth c H locs cells slots Q (F0 m pc ls (.ref a :: rest)) :=
  va_get hM.1 hM.2.1 hM.2.2.2.2.1 xws_Tri hM.2.2.2.1 hM.2.2.2.2.2.1.1 hP q0 he rfl 0 (by decide) (hM.2.2.2.2.1 _ (tb_of (i := 46) rfl rfl)) (fun _ h => h) hv hdg kk
theorem pf_Tri_25 (hM : xM p s m meth c args D cI cL A R_Tri cc nL) (hW : xW D A s.heap w H locs) (hin : meth.name = "<init>") (q0 : Nat) (he : w[q0]? = some (a, .inr (2, fs))) (hl : 0 < fs.length) (hdg : decode cc pc = .ok (.putfield 25, 3)) (kk : ∀ (H1 : Heap) (locs1 : List Loc), xW D A s.heap (w.set q0 (a, .inr (2, fs.set 0 (.ref x)))) H1 locs1 → W p l e R s m args below meth c H1 locs1 cells slots Q (F0 m (pc + 3) ls rest)) : W p l e R s m args below meth c H locs cells slots Q (F0 m pc ls (.ref x :: .ref a :: rest)) :=
  va_putF hM.1 hM.2.1 hM.2.2.2.2.1 xws_Tri t_Tri xty_Tri xnm_Tri hM.2.2.2.1 hM.2.2.2.2.2.1.1 hW.1 hW.2.1 hW.2.2 q0 he rfl 0 (by decide) (hM.2.2.2.2.1 _ (tb_of (i := 46) rfl rfl)) (fun _ h => h) rfl hin rfl (xty_Tri 0 (by decide)) rfl rfl hl hdg (fun H1 locs1 h1 h2 h3 => kk H1 locs1 ⟨h1, h2, h3⟩)
theorem gf_Tri_11 (hM : xM p s m meth c args D cI cL A R_Tri cc nL) (hP : va_P D xcl w H) (q0 : Nat) (he : w[q0]? = some (a, .inr (2, fs))) (hv : fs[1]? = some v) (hdg : decode cc pc = .ok (.getfield 11, 3)) (kk : W p l e R s m args below meth c H locs cells slots Q (F0 m (pc + 3) ls (v :: rest))) : W p l e R s m args below meth c H locs cells slots Q (F0 m pc ls (.ref a :: rest)) :=
  va_get hM.1 hM.2.1 hM.2.2.2.2.1 xws_Tri hM.2.2.2.1 hM.2.2.2.2.2.1.1 hP q0 he rfl 1 (by decide) (hM.2.2.2.2.1 _ (tb_of (i := 47) rfl rfl)) (fun _ h => h) hv hdg kk
theorem pf_Tri_11 (hM : xM p s m meth c args D cI cL A R_Tri cc nL) (hW : xW D A s.heap w H locs) (hin : meth.name = "<init>") (q0 : Nat) (he : w[q0]? = some (a, .inr (2, fs))) (hl : 1 < fs.length) (hdg : decode cc pc = .ok (.putfield 11, 3)) (kk : ∀ (H1 : Heap) (locs1 : List Loc), xW D A s.heap (w.set q0 (a, .inr (2, fs.set 1 (.ref x)))) H1 locs1 → W p l e R s m args below meth c H1 locs1 cells slots Q (F0 m (pc + 3) ls rest)) : W p l e R s m args below meth c H locs cells slots Q (F0 m pc ls (.ref x :: .ref a :: rest)) :=
  va_putF hM.1 hM.2.1 hM.2.2.2.2.1 xws_Tri t_Tri xty_Tri xnm_Tri hM.2.2.2.1 hM.2.2.2.2.2.1.1 hW.1 hW.2.1 hW.2.2 q0 he rfl 1 (by decide) (hM.2.2.2.2.1 _ (tb_of (i := 47) rfl rfl)) (fun _ h => h) rfl hin rfl (xty_Tri 1 (by decide)) rfl rfl hl hdg (fun H1 locs1 h1 h2 h3 => kk H1 locs1 ⟨h1, h2, h3⟩)
theorem gf_PT_51 (hM : xM p s m meth c args D cI cL A R_PT cc nL) (hP : va_P D xcl w H) (q0 : Nat) (he : w[q0]? = some (a, .inr (2, fs))) (hv : fs[1]? = some v) (hdg : decode cc pc = .ok (.getfield 51, 3)) (kk : W p l e R s m args below meth c H locs cells slots Q (F0 m (pc + 3) ls (v :: rest))) : W p l e R s m args below meth c H locs cells slots Q (F0 m pc ls (.ref a :: rest)) :=
  va_getN hM.1 hM.2.1 hM.2.2.2.2.1 xws_Tri hM.2.2.2.1 hM.2.2.2.2.2.1.1 hP q0 he rfl 1 (by decide) (hM.2.2.2.2.1 _ (tb_of (i := 48) rfl rfl)) (fun _ h => h) hv hdg kk
theorem gf_Tri_15 (hM : xM p s m meth c args D cI cL A R_Tri cc nL) (hP : va_P D xcl w H) (q0 : Nat) (he : w[q0]? = some (a, .inr (2, fs))) (hv : fs[2]? = some v) (hdg : decode cc pc = .ok (.getfield 15, 3)) (kk : W p l e R s m args below meth c H locs cells slots Q (F0 m (pc + 3) ls (v :: rest))) : W p l e R s m args below meth c H locs cells slots Q (F0 m pc ls (.ref a :: rest)) :=
  va_get hM.1 hM.2.1 hM.2.2.2.2.1 xws_Tri hM.2.2.2.1 hM.2.2.2.2.2.1.1 hP q0 he rfl 2 (by decide) (hM.2.2.2.2.1 _ (tb_of (i := 49) rfl rfl)) (fun _ h => h) hv hdg kk
theorem pf_Tri_15 (hM : xM p s m meth c args D cI cL A R_Tri cc nL) (hW : xW D A s.heap w H locs) (q0 : Nat) (he : w[q0]? = some (a, .inr (2, fs))) (hl : 2 < fs.length) (hdg : decode cc pc = .ok (.putfield 15, 3)) (kk : ∀ (H1 : Heap) (locs1 : List Loc), xW D A s.heap (w.set q0 (a, .inr (2, fs.set 2 (.ref x)))) H1 locs1 → W p l e R s m args below meth c H1 locs1 cells slots Q (F0 m (pc + 3) ls rest)) : W p l e R s m args below meth c H locs cells slots Q (F0 m pc ls (.ref x :: .ref a :: rest)) :=
  va_put hM.1 hM.2.1 hM.2.2.2.2.1 xws_Tri t_Tri xty_Tri xnm_Tri hM.2.2.2.1 hM.2.2.2.2.2.1.1 hW.1 hW.2.1 hW.2.2 q0 he rfl 2 (by decide) (hM.2.2.2.2.1 _ (tb_of (i := 49) rfl rfl)) (fun _ h => h) rfl (xty_Tri 2 (by decide)) rfl rfl hl hdg (fun H1 locs1 h1 h2 h3 => kk H1 locs1 ⟨h1, h2, h3⟩)
theorem gf_Tri_29 (hM : xM p s m meth c args D cI cL A R_Tri cc nL) (hP : va_P D xcl w H) (q0 : Nat) (he : w[q0]? = some (a, .inr (2, fs))) (hv : fs[3]? = some v) (hdg : decode cc pc = .ok (.getfield 29, 3)) (kk : W p l e R s m args below meth c H locs cells slots Q (F0 m (pc + 3) ls (v :: rest))) : W p l e R s m args below meth c H locs cells slots Q (F0 m pc ls (.ref a :: rest)) :=
  va_get hM.1 hM.2.1 hM.2.2.2.2.1 xws_Tri hM.2.2.2.1 hM.2.2.2.2.2.1.1 hP q0 he rfl 3 (by decide) (hM.2.2.2.2.1 _ (tb_of (i := 50) rfl rfl)) (fun _ h => h) hv hdg kk
theorem pf_Tri_29 (hM : xM p s m meth c args D cI cL A R_Tri cc nL) (hW : xW D A s.heap w H locs) (q0 : Nat) (he : w[q0]? = some (a, .inr (2, fs))) (hl : 3 < fs.length) (hdg : decode cc pc = .ok (.putfield 29, 3)) (kk : ∀ (H1 : Heap) (locs1 : List Loc), xW D A s.heap (w.set q0 (a, .inr (2, fs.set 3 (.int z)))) H1 locs1 → W p l e R s m args below meth c H1 locs1 cells slots Q (F0 m (pc + 3) ls rest)) : W p l e R s m args below meth c H locs cells slots Q (F0 m pc ls (.int z :: .ref a :: rest)) :=
  va_put hM.1 hM.2.1 hM.2.2.2.2.1 xws_Tri t_Tri xty_Tri xnm_Tri hM.2.2.2.1 hM.2.2.2.2.2.1.1 hW.1 hW.2.1 hW.2.2 q0 he rfl 3 (by decide) (hM.2.2.2.2.1 _ (tb_of (i := 50) rfl rfl)) (fun _ h => h) rfl (xty_Tri 3 (by decide)) rfl rfl hl hdg (fun H1 locs1 h1 h2 h3 => kk H1 locs1 ⟨h1, h2, h3⟩)
theorem gf_Tri_18 (hM : xM p s m meth c args D cI cL A R_Tri cc nL) (hP : va_P D xcl w H) (q0 : Nat) (he : w[q0]? = some (a, .inr (2, fs))) (hv : fs[4]? = some v) (hdg : decode cc pc = .ok (.getfield 18, 3)) (kk : W p l e R s m args below meth c H locs cells slots Q (F0 m (pc + 3) ls (v :: rest))) : W p l e R s m args below meth c H locs cells slots Q (F0 m pc ls (.ref a :: rest)) :=
  va_get hM.1 hM.2.1 hM.2.2.2.2.1 xws_Tri hM.2.2.2.1 hM.2.2.2.2.2.1.1 hP q0 he rfl 4 (by decide) (hM.2.2.2.2.1 _ (tb_of (i := 51) rfl rfl)) (fun _ h => h) hv hdg kk
theorem pf_Tri_18 (hM : xM p s m meth c args D cI cL A R_Tri cc nL) (hW : xW D A s.heap w H locs) (q0 : Nat) (he : w[q0]? = some (a, .inr (2, fs))) (hl : 4 < fs.length) (hdg : decode cc pc = .ok (.putfield 18, 3)) (kk : ∀ (H1 : Heap) (locs1 : List Loc), xW D A s.heap (w.set q0 (a, .inr (2, fs.set 4 (.ref x)))) H1 locs1 → W p l e R s m args below meth c H1 locs1 cells slots Q (F0 m (pc + 3) ls rest)) : W p l e R s m args below meth c H locs cells slots Q (F0 m pc ls (.ref x :: .ref a :: rest)) :=
  va_put hM.1 hM.2.1 hM.2.2.2.2.1 xws_Tri t_Tri xty_Tri xnm_Tri hM.2.2.2.1 hM.2.2.2.2.2.1.1 hW.1 hW.2.1 hW.2.2 q0 he rfl 4 (by decide) (hM.2.2.2.2.1 _ (tb_of (i := 51) rfl rfl)) (fun _ h => h) rfl (xty_Tri 4 (by decide)) rfl rfl hl hdg (fun H1 locs1 h1 h2 h3 => kk H1 locs1 ⟨h1, h2, h3⟩)
theorem gf_Tri_21 (hM : xM p s m meth c args D cI cL A R_Tri cc nL) (hP : va_P D xcl w H) (q0 : Nat) (he : w[q0]? = some (a, .inr (2, fs))) (hv : fs[5]? = some v) (hdg : decode cc pc = .ok (.getfield 21, 3)) (kk : W p l e R s m args below meth c H locs cells slots Q (F0 m (pc + 3) ls (v :: rest))) : W p l e R s m args below meth c H locs cells slots Q (F0 m pc ls (.ref a :: rest)) :=
  va_get hM.1 hM.2.1 hM.2.2.2.2.1 xws_Tri hM.2.2.2.1 hM.2.2.2.2.2.1.1 hP q0 he rfl 5 (by decide) (hM.2.2.2.2.1 _ (tb_of (i := 52) rfl rfl)) (fun _ h => h) hv hdg kk
theorem pf_Tri_21 (hM : xM p s m meth c args D cI cL A R_Tri cc nL) (hW : xW D A s.heap w H locs) (q0 : Nat) (he : w[q0]? = some (a, .inr (2, fs))) (hl : 5 < fs.length) (hdg : decode cc pc = .ok (.putfield 21, 3)) (kk : ∀ (H1 : Heap) (locs1 : List Loc), xW D A s.heap (w.set q0 (a, .inr (2, fs.set 5 (.int z)))) H1 locs1 → W p l e R s m args below meth c H1 locs1 cells slots Q (F0 m (pc + 3) ls rest)) : W p l e R s m args below meth c H locs cells slots Q (F0 m pc ls (.int z :: .ref a :: rest)) :=
  va_put hM.1 hM.2.1 hM.2.2.2.2.1 xws_Tri t_Tri xty_Tri xnm_Tri hM.2.2.2.1 hM.2.2.2.2.2.1.1 hW.1 hW.2.1 hW.2.2 q0 he rfl 5 (by decide) (hM.2.2.2.2.1 _ (tb_of (i := 52) rfl rfl)) (fun _ h => h) rfl (xty_Tri 5 (by decide)) rfl rfl hl hdg (fun H1 locs1 h1 h2 h3 => kk H1 locs1 ⟨h1, h2, h3⟩)
theorem gf_PT_10 (hM : xM p s m meth c args D cI cL A R_PT cc nL) (hP : va_P D xcl w H) (q0 : Nat) (he : w[q0]? = some (a, .inr (0, fs))) (hv : fs[0]? = some v) (hdg : decode cc pc = .ok (.getfield 10, 3)) (kk : W p l e R s m args below meth c H locs cells slots Q (F0 m (pc + 3) ls (v :: rest))) : W p l e R s m args below meth c H locs cells slots Q (F0 m pc ls (.ref a :: rest)) :=
  va_get hM.1 hM.2.1 hM.2.2.2.2.1 xws_PT hM.2.2.2.1 hM.2.2.2.2.2.1.1 hP q0 he rfl 0 (by decide) (hM.2.2.2.2.1 _ (tb_of (i := 93) rfl rfl)) (fun _ h => h) hv hdg kk
theorem pf_PT_10 (hM : xM p s m meth c args D cI cL A R_PT cc nL) (hW : xW D A s.heap w H locs) (hin : meth.name = "<init>") (q0 : Nat) (he : w[q0]? = some (a, .inr (0, fs))) (hl : 0 < fs.length) (hdg : decode cc pc = .ok (.putfield 10, 3)) (kk : ∀ (H1 : Heap) (locs1 : List Loc), xW D A s.heap (w.set q0 (a, .inr (0, fs.set 0 (.ref x)))) H1 locs1 → W p l e R s m args below meth c H1 locs1 cells slots Q (F0 m (pc + 3) ls rest)) : W p l e R s m args below meth c H locs cells slots Q (F0 m pc ls (.ref x :: .ref a :: rest)) :=
  va_putF hM.1 hM.2.1 hM.2.2.2.2.1 xws_PT t_PT xty_PT xnm_PT hM.2.2.2.1 hM.2.2.2.2.2.1.1 hW.1 hW.2.1 hW.2.2 q0 he rfl 0 (by decide) (hM.2.2.2.2.1 _ (tb_of (i := 93) rfl rfl)) (fun _ h => h) rfl hin rfl (xty_PT 0 (by decide)) rfl rfl hl hdg (fun H1 locs1 h1 h2 h3 => kk H1 locs1 ⟨h1, h2, h3⟩)
theorem gf_PT_21 (hM : xM p s m meth c args D cI cL A R_PT cc nL) (hP : va_P D xcl w H) (q0 : Nat) (he : w[q0]? = some (a, .inr (0, fs))) (hv : fs[1]? = some v) (hdg : decode cc pc = .ok (.getfield 21, 3)) (kk : W p l e R s m args below meth c H locs cells slots Q (F0 m (pc + 3) ls (v :: rest))) : W p l e R s m args below meth c H locs cells slots Q (F0 m pc ls (.ref a :: rest)) :=
  va_get hM.1 hM.2.1 hM.2.2.2.2.1 xws_PT hM.2.2.2.1 hM.2.2.2.2.2.1.1 hP q0 he rfl 1 (by decide) (hM.2.2.2.2.1 _ (tb_of (i := 94) rfl rfl)) (fun _ h => h) hv hdg kk
theorem pf_PT_21 (hM : xM p s m meth c args D cI cL A R_PT cc nL) (hW : xW D A s.heap w H locs) (hin : meth.name = "<init>") (q0 : Nat) (he : w[q0]? = some (a, .inr (0, fs))) (hl : 1 < fs.length) (hdg : decode cc pc = .ok (.putfield 21, 3)) (kk : ∀ (H1 : Heap) (locs1 : List Loc), xW D A s.heap (w.set q0 (a, .inr (0, fs.set 1 (.ref x)))) H1 locs1 → W p l e R s m args below meth c H1 locs1 cells slots Q (F0 m (pc + 3) ls rest)) : W p l e R s m args below meth c H locs cells slots Q (F0 m pc ls (.ref x :: .ref a :: rest)) :=
  va_putF hM.1 hM.2.1 hM.2.2.2.2.1 xws_PT t_PT xty_PT xnm_PT hM.2.2.2.1 hM.2.2.2.2.2.1.1 hW.1 hW.2.1 hW.2.2 q0 he rfl 1 (by decide) (hM.2.2.2.2.1 _ (tb_of (i := 94) rfl rfl)) (fun _ h => h) rfl hin rfl (xty_PT 1 (by decide)) rfl rfl hl hdg (fun H1 locs1 h1 h2 h3 => kk H1 locs1 ⟨h1, h2, h3⟩)
theorem ld_PT_36 (hM : xM p s m meth c args D cI cL A R_PT cc nL) (hdg : decode cc pc = .ok (.ldc 36, 2)) (kk : W p l e R s m args below meth c H locs cells slots Q (F0 m (pc + 2) ls (.int (nI 1114111) :: rest))) : W p l e R s m args below meth c H locs cells slots Q (F0 m pc ls rest) :=
  lv_ldc hM.1 hM.2.1 (v := nI 1114111) hM.2.2.2.1 (hM.2.2.2.2.1 (.constant R_PT 36 1114111) (tb_of (i := 120) rfl rfl)) hdg kk
theorem ld_PT_50 (hM : xM p s m meth c args D cI cL A R_PT cc nL) (hdg : decode cc pc = .ok (.ldc 50, 2)) (kk : W p l e R s m args below meth c H locs cells slots Q (F0 m (pc + 2) ls (.int (nI 1114112) :: rest))) : W p l e R s m args below meth c H locs cells slots Q (F0 m pc ls rest) :=
  lv_ldc hM.1 hM.2.1 (v := nI 1114112) hM.2.2.2.1 (hM.2.2.2.2.1 (.constant R_PT 50 1114112) (tb_of (i := 243) rfl rfl)) hdg kk
theorem nw_Law_35 (hM : xM p s m meth c args D cI cL A R_Law cc nL) (hW : xW D A s.heap w H locs) (hcells : cells + 1 ≤ R.cells) (hslots : slots + 4 ≤ R.slots) (hdg : decode cc pc = .ok (.new 35, 3)) (kk : ∀ (q : Nat) (H1 : Heap) (locs1 : List Loc), xW D A s.heap (w ++ [(q, .inr (3, [.int 0, .int 0, .null, .null]))]) H1 locs1 → W p l e R s m args below meth c H1 locs1 (cells + 1) (slots + 4) Q (F0 m (pc + 3) ls (.ref q :: rest))) : W p l e R s m args below meth c H locs cells slots Q (F0 m pc ls rest) :=
  va_new (ci := 3) (fs := [.int 0, .int 0, .null, .null]) (C := R_Mod) (T := F_Mod) (N := 4) hM.1 hM.2.1 hM.2.2.2.2.1 xws_Mod t_Mod xty_Mod hM.2.2.2.1 (hM.2.2.2.2.1 _ (tb_of (i := 258) rfl rfl)) (hM.2.2.2.2.1 _ (tb_of (i := 259) rfl rfl)) (hM.2.2.2.2.1 _ (tb_of (i := 4) rfl rfl)) hM.2.2.2.2.2.1.1 hW.1 hW.2.1 hW.2.2 hM.2.2.2.2.2.2 rfl (fun j hj => by rcases (show j = 0 ∨ j = 1 ∨ j = 2 ∨ j = 3 by omega) with rfl | rfl | rfl | rfl <;> rfl) hcells hslots hdg (fun q H1 h1 h2 h3 => kk q H1 locs ⟨h1, h2, h3⟩)
theorem oi_Mod (hM : xM p s m meth c args D cI cL A R_Mod cc nL) (hls : ls.size = nL) (hdg : decode cc pc = .ok (.invokespecial 1, 3)) (hfr : 1 ≤ R.frames) (hlo : 12 ≤ R.locals) (kk : W p l e R s m args below meth c H locs cells slots Q (F0 m (pc + 3) ls [])) : W p l e R s m args below meth c H locs cells slots Q (F0 m pc ls [.ref a]) :=
  W.objInit hM.1 hM.2.1 hM.2.2.2.1 (hM.2.2.2.2.1 (.methodLink R_Mod 1 objectInit) (tb_of (i := 263) rfl rfl)) (hM.2.2.2.2.1 (.instanceMethod objectInit) (tb_of (i := 15) rfl rfl)) (hM.2.2.2.2.1 (.code objectInit ⟨#[0xb1]⟩ 1 none) (tb_of (i := 16) rfl rfl)) rfl (hls.trans hM.2.2.1.symm) rfl hdg hfr (by simpa using hlo) kk
theorem ld_Mod_17 (hM : xM p s m meth c args D cI cL A R_Mod cc nL) (hdg : decode cc pc = .ok (.ldc 17, 2)) (kk : W p l e R s m args below meth c H locs cells slots Q (F0 m (pc + 2) ls (.int (nI 72000) :: rest))) : W p l e R s m args below meth c H locs cells slots Q (F0 m pc ls rest) :=
  lv_ldc hM.1 hM.2.1 (v := nI 72000) hM.2.2.2.1 (hM.2.2.2.2.1 (.constant R_Mod 17 72000) (tb_of (i := 264) rfl rfl)) hdg kk
theorem gf_Mod_21 (hM : xM p s m meth c args D cI cL A R_Mod cc nL) (hP : va_P D xcl w H) (q0 : Nat) (he : w[q0]? = some (a, .inr (3, fs))) (hv : fs[0]? = some v) (hdg : decode cc pc = .ok (.getfield 21, 3)) (kk : W p l e R s m args below meth c H locs cells slots Q (F0 m (pc + 3) ls (v :: rest))) : W p l e R s m args below meth c H locs cells slots Q (F0 m pc ls (.ref a :: rest)) :=
  va_get hM.1 hM.2.1 hM.2.2.2.2.1 xws_Mod hM.2.2.2.1 hM.2.2.2.2.2.1.1 hP q0 he rfl 0 (by decide) (hM.2.2.2.2.1 _ (tb_of (i := 265) rfl rfl)) (fun _ h => h) hv hdg kk
theorem pf_Mod_21 (hM : xM p s m meth c args D cI cL A R_Mod cc nL) (hW : xW D A s.heap w H locs) (q0 : Nat) (he : w[q0]? = some (a, .inr (3, fs))) (hl : 0 < fs.length) (hdg : decode cc pc = .ok (.putfield 21, 3)) (kk : ∀ (H1 : Heap) (locs1 : List Loc), xW D A s.heap (w.set q0 (a, .inr (3, fs.set 0 (.int z)))) H1 locs1 → W p l e R s m args below meth c H1 locs1 cells slots Q (F0 m (pc + 3) ls rest)) : W p l e R s m args below meth c H locs cells slots Q (F0 m pc ls (.int z :: .ref a :: rest)) :=
  va_put hM.1 hM.2.1 hM.2.2.2.2.1 xws_Mod t_Mod xty_Mod xnm_Mod hM.2.2.2.1 hM.2.2.2.2.2.1.1 hW.1 hW.2.1 hW.2.2 q0 he rfl 0 (by decide) (hM.2.2.2.2.1 _ (tb_of (i := 265) rfl rfl)) (fun _ h => h) rfl (xty_Mod 0 (by decide)) rfl rfl hl hdg (fun H1 locs1 h1 h2 h3 => kk H1 locs1 ⟨h1, h2, h3⟩)
theorem gf_Mod_7 (hM : xM p s m meth c args D cI cL A R_Mod cc nL) (hP : va_P D xcl w H) (q0 : Nat) (he : w[q0]? = some (a, .inr (3, fs))) (hv : fs[1]? = some v) (hdg : decode cc pc = .ok (.getfield 7, 3)) (kk : W p l e R s m args below meth c H locs cells slots Q (F0 m (pc + 3) ls (v :: rest))) : W p l e R s m args below meth c H locs cells slots Q (F0 m pc ls (.ref a :: rest)) :=
  va_get hM.1 hM.2.1 hM.2.2.2.2.1 xws_Mod hM.2.2.2.1 hM.2.2.2.2.2.1.1 hP q0 he rfl 1 (by decide) (hM.2.2.2.2.1 _ (tb_of (i := 266) rfl rfl)) (fun _ h => h) hv hdg kk
theorem pf_Mod_7 (hM : xM p s m meth c args D cI cL A R_Mod cc nL) (hW : xW D A s.heap w H locs) (q0 : Nat) (he : w[q0]? = some (a, .inr (3, fs))) (hl : 1 < fs.length) (hdg : decode cc pc = .ok (.putfield 7, 3)) (kk : ∀ (H1 : Heap) (locs1 : List Loc), xW D A s.heap (w.set q0 (a, .inr (3, fs.set 1 (.int z)))) H1 locs1 → W p l e R s m args below meth c H1 locs1 cells slots Q (F0 m (pc + 3) ls rest)) : W p l e R s m args below meth c H locs cells slots Q (F0 m pc ls (.int z :: .ref a :: rest)) :=
  va_put hM.1 hM.2.1 hM.2.2.2.2.1 xws_Mod t_Mod xty_Mod xnm_Mod hM.2.2.2.1 hM.2.2.2.2.2.1.1 hW.1 hW.2.1 hW.2.2 q0 he rfl 1 (by decide) (hM.2.2.2.2.1 _ (tb_of (i := 266) rfl rfl)) (fun _ h => h) rfl (xty_Mod 1 (by decide)) rfl rfl hl hdg (fun H1 locs1 h1 h2 h3 => kk H1 locs1 ⟨h1, h2, h3⟩)
theorem gf_Mod_13 (hM : xM p s m meth c args D cI cL A R_Mod cc nL) (hP : va_P D xcl w H) (q0 : Nat) (he : w[q0]? = some (a, .inr (3, fs))) (hv : fs[2]? = some v) (hdg : decode cc pc = .ok (.getfield 13, 3)) (kk : W p l e R s m args below meth c H locs cells slots Q (F0 m (pc + 3) ls (v :: rest))) : W p l e R s m args below meth c H locs cells slots Q (F0 m pc ls (.ref a :: rest)) :=
  va_get hM.1 hM.2.1 hM.2.2.2.2.1 xws_Mod hM.2.2.2.1 hM.2.2.2.2.2.1.1 hP q0 he rfl 2 (by decide) (hM.2.2.2.2.1 _ (tb_of (i := 267) rfl rfl)) (fun _ h => h) hv hdg kk
theorem pf_Mod_13 (hM : xM p s m meth c args D cI cL A R_Mod cc nL) (hW : xW D A s.heap w H locs) (hin : meth.name = "<init>") (q0 : Nat) (he : w[q0]? = some (a, .inr (3, fs))) (hl : 2 < fs.length) (hdg : decode cc pc = .ok (.putfield 13, 3)) (kk : ∀ (H1 : Heap) (locs1 : List Loc), xW D A s.heap (w.set q0 (a, .inr (3, fs.set 2 (.ref x)))) H1 locs1 → W p l e R s m args below meth c H1 locs1 cells slots Q (F0 m (pc + 3) ls rest)) : W p l e R s m args below meth c H locs cells slots Q (F0 m pc ls (.ref x :: .ref a :: rest)) :=
  va_putF hM.1 hM.2.1 hM.2.2.2.2.1 xws_Mod t_Mod xty_Mod xnm_Mod hM.2.2.2.1 hM.2.2.2.2.2.1.1 hW.1 hW.2.1 hW.2.2 q0 he rfl 2 (by decide) (hM.2.2.2.2.1 _ (tb_of (i := 267) rfl rfl)) (fun _ h => h) rfl hin rfl (xty_Mod 2 (by decide)) rfl rfl hl hdg (fun H1 locs1 h1 h2 h3 => kk H1 locs1 ⟨h1, h2, h3⟩)
theorem gf_Mod_18 (hM : xM p s m meth c args D cI cL A R_Mod cc nL) (hP : va_P D xcl w H) (q0 : Nat) (he : w[q0]? = some (a, .inr (3, fs))) (hv : fs[3]? = some v) (hdg : decode cc pc = .ok (.getfield 18, 3)) (kk : W p l e R s m args below meth c H locs cells slots Q (F0 m (pc + 3) ls (v :: rest))) : W p l e R s m args below meth c H locs cells slots Q (F0 m pc ls (.ref a :: rest)) :=
  va_get hM.1 hM.2.1 hM.2.2.2.2.1 xws_Mod hM.2.2.2.1 hM.2.2.2.2.2.1.1 hP q0 he rfl 3 (by decide) (hM.2.2.2.2.1 _ (tb_of (i := 268) rfl rfl)) (fun _ h => h) hv hdg kk
theorem pf_Mod_18 (hM : xM p s m meth c args D cI cL A R_Mod cc nL) (hW : xW D A s.heap w H locs) (hin : meth.name = "<init>") (q0 : Nat) (he : w[q0]? = some (a, .inr (3, fs))) (hl : 3 < fs.length) (hdg : decode cc pc = .ok (.putfield 18, 3)) (kk : ∀ (H1 : Heap) (locs1 : List Loc), xW D A s.heap (w.set q0 (a, .inr (3, fs.set 3 (.ref x)))) H1 locs1 → W p l e R s m args below meth c H1 locs1 cells slots Q (F0 m (pc + 3) ls rest)) : W p l e R s m args below meth c H locs cells slots Q (F0 m pc ls (.ref x :: .ref a :: rest)) :=
  va_putF hM.1 hM.2.1 hM.2.2.2.2.1 xws_Mod t_Mod xty_Mod xnm_Mod hM.2.2.2.1 hM.2.2.2.2.2.1.1 hW.1 hW.2.1 hW.2.2 q0 he rfl 3 (by decide) (hM.2.2.2.2.1 _ (tb_of (i := 268) rfl rfl)) (fun _ h => h) rfl hin rfl (xty_Mod 3 (by decide)) rfl rfl hl hdg (fun H1 locs1 h1 h2 h3 => kk H1 locs1 ⟨h1, h2, h3⟩)
theorem ld_Mod_24 (hM : xM p s m meth c args D cI cL A R_Mod cc nL) (hdg : decode cc pc = .ok (.ldc 24, 2)) (kk : W p l e R s m args below meth c H locs cells slots Q (F0 m (pc + 2) ls (.int (nI 1114111) :: rest))) : W p l e R s m args below meth c H locs cells slots Q (F0 m pc ls rest) :=
  lv_ldc hM.1 hM.2.1 (v := nI 1114111) hM.2.2.2.1 (hM.2.2.2.2.1 (.constant R_Mod 24 1114111) (tb_of (i := 294) rfl rfl)) hdg kk
end XF
theorem cb_PT_longer : xCB y_PT_longer b_PT_longer 3 (some (.array .int)) 1 := ⟨tb_of (i := 80) rfl rfl, tb_of (i := 1) rfl rfl, ⟨by decide, by decide⟩, by decide +kernel⟩
theorem cb_PT_init : xCB y_PT_init b_PT_init 1 (none : Option Jvm.ClassFile.FieldType) 0 := ⟨tb_of (i := 13) rfl rfl, tb_of (i := 1) rfl rfl, ⟨by decide, by decide⟩, by decide +kernel⟩
theorem cb_PT_in : xCB y_PT_in b_PT_in 3 (none : Option Jvm.ClassFile.FieldType) 3 := ⟨tb_of (i := 123) rfl rfl, tb_of (i := 1) rfl rfl, ⟨by decide, by decide⟩, by decide +kernel⟩
theorem cb_PT_set : xCB y_PT_set b_PT_set 5 (some .int) 4 := ⟨tb_of (i := 115) rfl rfl, tb_of (i := 1) rfl rfl, ⟨by decide, by decide⟩, by decide +kernel⟩
theorem cb_PT_mark : xCB y_PT_mark b_PT_mark 6 (some .int) 5 := ⟨tb_of (i := 119) rfl rfl, tb_of (i := 1) rfl rfl, ⟨by decide, by decide⟩, by decide +kernel⟩
theorem cb_PT_get : xCB y_PT_get b_PT_get 3 (some .int) 2 := ⟨tb_of (i := 229) rfl rfl, tb_of (i := 1) rfl rfl, ⟨by decide, by decide⟩, by decide +kernel⟩
theorem cb_PT_change : xCB y_PT_change b_PT_change 5 (some .int) 2 := ⟨tb_of (i := 241) rfl rfl, tb_of (i := 1) rfl rfl, ⟨by decide, by decide⟩, by decide +kernel⟩
theorem cb_PT_alike : xCB y_PT_alike b_PT_alike 3 (some .boolean) 2 := ⟨tb_of (i := 250) rfl rfl, tb_of (i := 1) rfl rfl, ⟨by decide, by decide⟩, by decide +kernel⟩
theorem cb_PT_hash : xCB y_PT_hash b_PT_hash 6 (some .int) 3 := ⟨tb_of (i := 257) rfl rfl, tb_of (i := 1) rfl rfl, ⟨by decide, by decide⟩, by decide +kernel⟩
theorem cb_PT_clear : xCB y_PT_clear b_PT_clear 3 (some .int) 0 := ⟨tb_of (i := 103) rfl rfl, tb_of (i := 1) rfl rfl, ⟨by decide, by decide⟩, by decide +kernel⟩
theorem cb_Mod_init : xCB y_Mod_init b_Mod_init 1 (none : Option Jvm.ClassFile.FieldType) 0 := ⟨tb_of (i := 262) rfl rfl, tb_of (i := 4) rfl rfl, ⟨by decide, by decide⟩, by decide +kernel⟩
theorem cb_Mod_thrown : xCB y_Mod_thrown b_Mod_thrown 1 (some .int) 0 := ⟨tb_of (i := 281) rfl rfl, tb_of (i := 4) rfl rfl, ⟨by decide, by decide⟩, by decide +kernel⟩
theorem cb_Mod_fail : xCB y_Mod_fail b_Mod_fail 2 (some .int) 1 := ⟨tb_of (i := 298) rfl rfl, tb_of (i := 4) rfl rfl, ⟨by decide, by decide⟩, by decide +kernel⟩
theorem cb_Mod_at : xCB y_Mod_at b_Mod_at 5 (some .int) 1 := ⟨tb_of (i := 306) rfl rfl, tb_of (i := 4) rfl rfl, ⟨by decide, by decide⟩, by decide +kernel⟩
theorem cb_Mod_cut : xCB y_Mod_cut b_Mod_cut 5 (none : Option Jvm.ClassFile.FieldType) 1 := ⟨tb_of (i := 302) rfl rfl, tb_of (i := 4) rfl rfl, ⟨by decide, by decide⟩, by decide +kernel⟩
theorem cb_Mod_out : xCB y_Mod_out b_Mod_out 2 (some .boolean) 1 := ⟨tb_of (i := 293) rfl rfl, tb_of (i := 4) rfl rfl, ⟨by decide, by decide⟩, by decide +kernel⟩
theorem cb_Mod_set : xCB y_Mod_set b_Mod_set 5 (some .int) 4 := ⟨tb_of (i := 285) rfl rfl, tb_of (i := 4) rfl rfl, ⟨by decide, by decide⟩, by decide +kernel⟩
theorem cb_Mod_mark : xCB y_Mod_mark b_Mod_mark 7 (some .int) 5 := ⟨tb_of (i := 289) rfl rfl, tb_of (i := 4) rfl rfl, ⟨by decide, by decide⟩, by decide +kernel⟩
theorem cb_Mod_get : xCB y_Mod_get b_Mod_get 3 (some .int) 2 := ⟨tb_of (i := 311) rfl rfl, tb_of (i := 4) rfl rfl, ⟨by decide, by decide⟩, by decide +kernel⟩
theorem cb_Mod_change : xCB y_Mod_change b_Mod_change 5 (some .int) 2 := ⟨tb_of (i := 315) rfl rfl, tb_of (i := 4) rfl rfl, ⟨by decide, by decide⟩, by decide +kernel⟩
theorem cb_Mod_alike : xCB y_Mod_alike b_Mod_alike 4 (some .boolean) 2 := ⟨tb_of (i := 319) rfl rfl, tb_of (i := 4) rfl rfl, ⟨by decide, by decide⟩, by decide +kernel⟩
theorem cb_Mod_hash : xCB y_Mod_hash b_Mod_hash 6 (some .int) 3 := ⟨tb_of (i := 323) rfl rfl, tb_of (i := 4) rfl rfl, ⟨by decide, by decide⟩, by decide +kernel⟩
theorem cb_Mod_clear : xCB y_Mod_clear b_Mod_clear 5 (some .int) 0 := ⟨tb_of (i := 327) rfl rfl, tb_of (i := 4) rfl rfl, ⟨by decide, by decide⟩, by decide +kernel⟩
theorem cb_Rec_init : xCB y_Rec_init b_Rec_init 1 (none : Option Jvm.ClassFile.FieldType) 0 := ⟨tb_of (i := 21) rfl rfl, tb_of (i := 2) rfl rfl, ⟨by decide, by decide⟩, by decide +kernel⟩
theorem cb_Rec_clear : xCB y_Rec_clear b_Rec_clear 2 (none : Option Jvm.ClassFile.FieldType) 0 := ⟨tb_of (i := 69) rfl rfl, tb_of (i := 2) rfl rfl, ⟨by decide, by decide⟩, by decide +kernel⟩
theorem cb_Rec_count : xCB y_Rec_count b_Rec_count 1 (some .int) 0 := ⟨tb_of (i := 210) rfl rfl, tb_of (i := 2) rfl rfl, ⟨by decide, by decide⟩, by decide +kernel⟩
theorem cb_Rec_keep : xCB y_Rec_keep b_Rec_keep 5 (none : Option Jvm.ClassFile.FieldType) 1 := ⟨tb_of (i := 218) rfl rfl, tb_of (i := 2) rfl rfl, ⟨by decide, by decide⟩, by decide +kernel⟩
theorem cb_Rec_field : xCB y_Rec_field b_Rec_field 3 (some .int) 2 := ⟨tb_of (i := 196) rfl rfl, tb_of (i := 2) rfl rfl, ⟨by decide, by decide⟩, by decide +kernel⟩
theorem cb_Rec_with : xCB y_Rec_with b_Rec_with 5 (some .int) 3 := ⟨tb_of (i := 200) rfl rfl, tb_of (i := 2) rfl rfl, ⟨by decide, by decide⟩, by decide +kernel⟩
theorem cb_Rec_slot : xCB y_Rec_slot b_Rec_slot 5 (some .int) 2 := ⟨tb_of (i := 77) rfl rfl, tb_of (i := 2) rfl rfl, ⟨by decide, by decide⟩, by decide +kernel⟩
theorem cb_Rec_intern : xCB y_Rec_intern b_Rec_intern 5 (some .int) 0 := ⟨tb_of (i := 73) rfl rfl, tb_of (i := 2) rfl rfl, ⟨by decide, by decide⟩, by decide +kernel⟩
theorem cb_Rec_spread : xCB y_Rec_spread b_Rec_spread 1 (none : Option Jvm.ClassFile.FieldType) 0 := ⟨tb_of (i := 84) rfl rfl, tb_of (i := 2) rfl rfl, ⟨by decide, by decide⟩, by decide +kernel⟩
theorem cb_Rec_link : xCB y_Rec_link b_Rec_link 3 (none : Option Jvm.ClassFile.FieldType) 0 := ⟨tb_of (i := 88) rfl rfl, tb_of (i := 2) rfl rfl, ⟨by decide, by decide⟩, by decide +kernel⟩
theorem cb_Tri_init : xCB y_Tri_init b_Tri_init 2 (none : Option Jvm.ClassFile.FieldType) 1 := ⟨tb_of (i := 44) rfl rfl, tb_of (i := 3) rfl rfl, ⟨by decide, by decide⟩, by decide +kernel⟩
theorem cb_Tri_clear : xCB y_Tri_clear b_Tri_clear 2 (none : Option Jvm.ClassFile.FieldType) 0 := ⟨tb_of (i := 92) rfl rfl, tb_of (i := 3) rfl rfl, ⟨by decide, by decide⟩, by decide +kernel⟩
theorem cb_Tri_record : xCB y_Tri_record b_Tri_record 3 (some .int) 1 := ⟨tb_of (i := 107) rfl rfl, tb_of (i := 3) rfl rfl, ⟨by decide, by decide⟩, by decide +kernel⟩
theorem cb_Tri_get : xCB y_Tri_get b_Tri_get 3 (some .int) 2 := ⟨tb_of (i := 233) rfl rfl, tb_of (i := 3) rfl rfl, ⟨by decide, by decide⟩, by decide +kernel⟩
theorem cb_Tri_own : xCB y_Tri_own b_Tri_own 4 (some .int) 1 := ⟨tb_of (i := 205) rfl rfl, tb_of (i := 3) rfl rfl, ⟨by decide, by decide⟩, by decide +kernel⟩
theorem cb_Tri_set : xCB y_Tri_set b_Tri_set 11 (none : Option Jvm.ClassFile.FieldType) 5 := ⟨tb_of (i := 188) rfl rfl, tb_of (i := 3) rfl rfl, ⟨by decide, by decide⟩, by decide +kernel⟩
theorem cb_Tri_squeeze : xCB y_Tri_squeeze b_Tri_squeeze 2 (none : Option Jvm.ClassFile.FieldType) 0 := ⟨tb_of (i := 214) rfl rfl, tb_of (i := 3) rfl rfl, ⟨by decide, by decide⟩, by decide +kernel⟩
theorem cb_Tri_changed : xCB y_Tri_changed b_Tri_changed 5 (some .int) 4 := ⟨tb_of (i := 192) rfl rfl, tb_of (i := 3) rfl rfl, ⟨by decide, by decide⟩, by decide +kernel⟩
theorem cv_PT_9 : xCIN R_PT 9 y_Rec_init "PropertyTrie" := ⟨tb_of (i := 19) rfl rfl, tb_of (i := 20) rfl rfl, rfl⟩
theorem cv_PT_18 : xCI R_PT 18 y_Tri_init := ⟨tb_of (i := 42) rfl rfl, tb_of (i := 43) rfl rfl, rfl⟩
theorem cv_PT_25 : xCV R_PT 25 y_Rec_clear := ⟨tb_of (i := 66) rfl rfl, tb_of (i := 67) rfl rfl, tb_of (i := 68) rfl rfl⟩
theorem cv_PT_28 : xCV R_PT 28 y_Tri_clear := ⟨tb_of (i := 89) rfl rfl, tb_of (i := 90) rfl rfl, tb_of (i := 91) rfl rfl⟩
theorem cv_PT_32 : xCV R_PT 32 y_PT_mark := ⟨tb_of (i := 116) rfl rfl, tb_of (i := 117) rfl rfl, tb_of (i := 118) rfl rfl⟩
theorem cv_PT_37 : xCS R_PT 37 y_PT_in := ⟨tb_of (i := 121) rfl rfl, tb_of (i := 122) rfl rfl⟩
theorem cv_PT_41 : xCV R_PT 41 y_Tri_set := ⟨tb_of (i := 185) rfl rfl, tb_of (i := 186) rfl rfl, tb_of (i := 187) rfl rfl⟩
theorem cv_PT_45 : xCV R_PT 45 y_Tri_get := ⟨tb_of (i := 230) rfl rfl, tb_of (i := 231) rfl rfl, tb_of (i := 232) rfl rfl⟩
theorem cv_PT_49 : xCV R_PT 49 y_PT_get := ⟨tb_of (i := 242) rfl rfl, tb_of (i := 227) rfl rfl, tb_of (i := 228) rfl rfl⟩
theorem cv_PT_55 : xCV R_PT 55 y_Tri_record := ⟨tb_of (i := 104) rfl rfl, tb_of (i := 105) rfl rfl, tb_of (i := 106) rfl rfl⟩
theorem cv_Mod_25 : xCV R_Mod 25 y_Mod_at := ⟨tb_of (i := 303) rfl rfl, tb_of (i := 305) rfl rfl, tb_sel (i := 11) rfl rfl⟩
theorem cv_Mod_29 : xCV R_Mod 29 y_Mod_mark := ⟨tb_of (i := 286) rfl rfl, tb_of (i := 287) rfl rfl, tb_of (i := 288) rfl rfl⟩
theorem cv_Mod_33 : xCV R_Mod 33 y_Mod_out := ⟨tb_of (i := 290) rfl rfl, tb_of (i := 292) rfl rfl, tb_sel (i := 8) rfl rfl⟩
theorem cv_Mod_37 : xCV R_Mod 37 y_Mod_fail := ⟨tb_of (i := 295) rfl rfl, tb_of (i := 297) rfl rfl, tb_sel (i := 9) rfl rfl⟩
theorem cv_Mod_40 : xCV R_Mod 40 y_Mod_cut := ⟨tb_of (i := 299) rfl rfl, tb_of (i := 301) rfl rfl, tb_sel (i := 10) rfl rfl⟩
theorem cv_Rec_26 : xCV R_Rec 26 y_Rec_intern := ⟨tb_of (i := 70) rfl rfl, tb_of (i := 72) rfl rfl, tb_sel (i := 0) rfl rfl⟩
theorem cv_Rec_30 : xCV R_Rec 30 y_Rec_link := ⟨tb_of (i := 85) rfl rfl, tb_of (i := 87) rfl rfl, tb_sel (i := 3) rfl rfl⟩
theorem cv_Rec_33 : xCV R_Rec 33 y_Rec_field := ⟨tb_of (i := 201) rfl rfl, tb_of (i := 194) rfl rfl, tb_of (i := 195) rfl rfl⟩
theorem cv_Rec_37 : xCV R_Rec 37 y_Rec_slot := ⟨tb_of (i := 74) rfl rfl, tb_of (i := 76) rfl rfl, tb_sel (i := 1) rfl rfl⟩
theorem cv_Rec_41 : xCSN R_Rec 41 y_PT_longer "PropertyTrie" := ⟨tb_of (i := 78) rfl rfl, tb_of (i := 79) rfl rfl⟩
theorem cv_Rec_47 : xCV R_Rec 47 y_Rec_spread := ⟨tb_of (i := 81) rfl rfl, tb_of (i := 83) rfl rfl, tb_sel (i := 2) rfl rfl⟩
theorem cv_Tri_32 : xCV R_Tri 32 y_Tri_record := ⟨tb_of (i := 234) rfl rfl, tb_of (i := 105) rfl rfl, tb_of (i := 106) rfl rfl⟩
theorem cv_Tri_36 : xCV R_Tri 36 y_Rec_field := ⟨tb_of (i := 193) rfl rfl, tb_of (i := 194) rfl rfl, tb_of (i := 195) rfl rfl⟩
theorem cv_Tri_42 : xCSN R_Tri 42 y_PT_longer "PropertyTrie" := ⟨tb_of (i := 206) rfl rfl, tb_of (i := 79) rfl rfl⟩
theorem cv_Tri_46 : xCV R_Tri 46 y_Tri_changed := ⟨tb_of (i := 189) rfl rfl, tb_of (i := 191) rfl rfl, tb_sel (i := 5) rfl rfl⟩
theorem cv_Tri_50 : xCV R_Tri 50 y_Tri_own := ⟨tb_of (i := 202) rfl rfl, tb_of (i := 204) rfl rfl, tb_sel (i := 6) rfl rfl⟩
theorem cv_Tri_53 : xCV R_Tri 53 y_Rec_count := ⟨tb_of (i := 207) rfl rfl, tb_of (i := 208) rfl rfl, tb_of (i := 209) rfl rfl⟩
theorem cv_Tri_57 : xCV R_Tri 57 y_Tri_squeeze := ⟨tb_of (i := 211) rfl rfl, tb_of (i := 213) rfl rfl, tb_sel (i := 7) rfl rfl⟩
theorem cv_Tri_60 : xCV R_Tri 60 y_Rec_keep := ⟨tb_of (i := 215) rfl rfl, tb_of (i := 216) rfl rfl, tb_of (i := 217) rfl rfl⟩
theorem cv_Tri_64 : xCV R_Tri 64 y_Rec_with := ⟨tb_of (i := 197) rfl rfl, tb_of (i := 198) rfl rfl, tb_of (i := 199) rfl rfl⟩
theorem cv_Law_7 : xCV R_Law 7 y_PT_set := ⟨tb_of (i := 112) rfl rfl, tb_of (i := 113) rfl rfl, tb_of (i := 114) rfl rfl⟩
theorem cv_Law_15 : xCV R_Law 15 y_PT_mark := ⟨tb_of (i := 222) rfl rfl, tb_of (i := 117) rfl rfl, tb_of (i := 118) rfl rfl⟩
theorem cv_Law_19 : xCV R_Law 19 y_PT_get := ⟨tb_of (i := 226) rfl rfl, tb_of (i := 227) rfl rfl, tb_of (i := 228) rfl rfl⟩
theorem cv_Law_23 : xCV R_Law 23 y_PT_change := ⟨tb_of (i := 238) rfl rfl, tb_of (i := 239) rfl rfl, tb_of (i := 240) rfl rfl⟩
theorem cv_Law_26 : xCV R_Law 26 y_PT_alike := ⟨tb_of (i := 247) rfl rfl, tb_of (i := 248) rfl rfl, tb_of (i := 249) rfl rfl⟩
theorem cv_Law_30 : xCV R_Law 30 y_PT_hash := ⟨tb_of (i := 254) rfl rfl, tb_of (i := 255) rfl rfl, tb_of (i := 256) rfl rfl⟩
theorem cv_Law_34 : xCI R_Law 34 y_PT_init := ⟨tb_of (i := 11) rfl rfl, tb_of (i := 12) rfl rfl, rfl⟩
theorem cv_Law_37 : xCI R_Law 37 y_Mod_init := ⟨tb_of (i := 260) rfl rfl, tb_of (i := 261) rfl rfl, rfl⟩
theorem cv_Law_38 : xCS R_Law 38 y_Law_set := ⟨tb_of (i := 108) rfl rfl, tb_of (i := 109) rfl rfl⟩
theorem cv_Law_43 : xCV R_Law 43 y_Mod_set := ⟨tb_of (i := 282) rfl rfl, tb_of (i := 283) rfl rfl, tb_of (i := 284) rfl rfl⟩
theorem cv_Law_44 : xCV R_Law 44 y_Mod_thrown := ⟨tb_of (i := 278) rfl rfl, tb_of (i := 279) rfl rfl, tb_of (i := 280) rfl rfl⟩
theorem cv_Law_48 : xCS R_Law 48 y_Law_mark := ⟨tb_of (i := 219) rfl rfl, tb_of (i := 220) rfl rfl⟩
theorem cv_Law_51 : xCV R_Law 51 y_Mod_mark := ⟨tb_of (i := 307) rfl rfl, tb_of (i := 287) rfl rfl, tb_of (i := 288) rfl rfl⟩
theorem cv_Law_52 : xCS R_Law 52 y_Law_get := ⟨tb_of (i := 223) rfl rfl, tb_of (i := 224) rfl rfl⟩
theorem cv_Law_55 : xCV R_Law 55 y_Mod_get := ⟨tb_of (i := 308) rfl rfl, tb_of (i := 309) rfl rfl, tb_of (i := 310) rfl rfl⟩
theorem cv_Law_56 : xCS R_Law 56 y_Law_change := ⟨tb_of (i := 235) rfl rfl, tb_of (i := 236) rfl rfl⟩
theorem cv_Law_58 : xCV R_Law 58 y_Mod_change := ⟨tb_of (i := 312) rfl rfl, tb_of (i := 313) rfl rfl, tb_of (i := 314) rfl rfl⟩
theorem cv_Law_59 : xCS R_Law 59 y_Law_alike := ⟨tb_of (i := 244) rfl rfl, tb_of (i := 245) rfl rfl⟩
theorem cv_Law_61 : xCV R_Law 61 y_Mod_alike := ⟨tb_of (i := 316) rfl rfl, tb_of (i := 317) rfl rfl, tb_of (i := 318) rfl rfl⟩
theorem cv_Law_62 : xCS R_Law 62 y_Law_hash := ⟨tb_of (i := 251) rfl rfl, tb_of (i := 252) rfl rfl⟩
theorem cv_Law_65 : xCV R_Law 65 y_Mod_hash := ⟨tb_of (i := 320) rfl rfl, tb_of (i := 321) rfl rfl, tb_of (i := 322) rfl rfl⟩
theorem cv_Law_66 : xCV R_Law 66 y_PT_clear := ⟨tb_of (i := 100) rfl rfl, tb_of (i := 101) rfl rfl, tb_of (i := 102) rfl rfl⟩
theorem cv_Law_69 : xCV R_Law 69 y_Mod_clear := ⟨tb_of (i := 324) rfl rfl, tb_of (i := 325) rfl rfl, tb_of (i := 326) rfl rfl⟩
end
section
def rm_longer (N : Nat) : Room := { frames := 0, cells := 1, slots := 2 * N, locals := 0 }
set_option maxHeartbeats 4000000 in
set_option maxRecDepth 100000 in
/-- longer(a): a new array of twice the length, the same numbers ahead -/
theorem c_longer (l : Launch) (D : va_G) (cI cL : ClassId) (a N : Nat) (f : Nat → Int32) (hN : N ≤ 33554432) : CT l D cI cL y_PT_longer (xws y_PT_longer b_PT_longer 3 (some (.array .int))) (rm_longer N) [.ref a] [(a, .inl (cI, N, .inl f))] (fun v k n w1 => ∃ (b : Nat) (g : Nat → Int32), v = some (.ref b) ∧ k = 1 ∧ n = 2 * N ∧ (∀ i, i < N → g i = f i) ∧ w1 = [(a, .inl (cI, N, .inl f)), (b, .inl (cI, 2 * N, .inl g))]) := by
  refine CT.ofR (own := R_PT) (cc := b_PT_longer) (nL := 3) (by decide) rfl (Nat.le_of_ble_eq_true rfl) ?_
  intro p e s m args below meth c A Q ls hM hl hW hnm RET
  have hx := hM.1
  have hb := hM.2.1
  have hl : lv_has ls 3 [(0, .ref a)] := hl
  refine lv_iconst (v := nI 2) hx hb d_PT_longer_0 (by decide) ?_
  refine lv_aload_n hx hb d_PT_longer_1 rfl (lv_at hl 0 rfl) ?_
  refine xn_alen hM hW.1 0 rfl d_PT_longer_2 ?_
  refine xn_imul hx hb d_PT_longer_3 ?_
  refine xn_newI hM hW (by omega) (Nat.le_refl _) (by show 0 + 2 * N ≤ 2 * N; omega) d_PT_longer_4 (fun b H locs hW => ?_)
  have hW : xW D A s.heap [(a, .inl (cI, N, .inl f)), (b, .inl (cI, 2 * N, .inl (fun _ => 0)))] H locs := hW
  refine lv_astore_n (lv' := [(1, .ref b), (0, .ref a)]) hx hb d_PT_longer_6 rfl hl (by decide) rfl (fun ls hl => ?_)
  refine lv_iconst (v := nI 0) hx hb d_PT_longer_7 (by decide) ?_
  refine lv_istore_n (lv' := [(2, .int (nI 0)), (1, .ref b), (0, .ref a)]) hx hb d_PT_longer_8 rfl hl (by decide) rfl (fun ls hl => ?_)
  have hl : lv_has ls 3 [(0, .ref a), (1, .ref b), (2, .int (nI 0))] := lv_sub hl [2, 1, 0] rfl
  suffices loop : ∀ (n i : Nat) (g : Nat → Int32) (ls : Array Slot) (H : Heap) (locs : List Loc), N - i = n → i ≤ N → (∀ j, j < i → g j = f j) → lv_has ls 3 [(0, .ref a), (1, .ref b), (2, .int (nI i))] → xW D A s.heap [(a, .inl (cI, N, .inl f)), (b, .inl (cI, 2 * N, .inl g))] H locs → W p l e (rm_longer N) s m args below meth c H locs (0 + 1) (0 + 2 * N) Q (F0 m 9 ls []) from
    loop _ 0 _ ls H locs rfl (Nat.zero_le _) (fun j hj => absurd hj (Nat.not_lt_zero _)) hl hW
  intro n
  induction n using Nat.strongRecOn with | ind n ih => ?_
  intro i g ls H locs hn hi hg hl hW
  refine lv_iload_n hx hb d_PT_longer_9 rfl (lv_at hl 2 rfl) ?_
  refine lv_aload_n hx hb d_PT_longer_10 rfl (lv_at hl 0 rfl) ?_
  refine xn_alen hM hW.1 0 rfl d_PT_longer_11 ?_
  refine xn_ge (tgt := 27) hx hb (by omega) (by omega) d_PT_longer_12 (by decide) (fun hge => ?_) (fun hlt => ?_)
  · refine lv_aload_n hx hb d_PT_longer_27 rfl (lv_at hl 1 rfl) ?_
    have e : i = N := by omega
    subst e
    exact RET hW ⟨b, g, rfl, rfl, by omega, hg, rfl⟩ d_PT_longer_28
  · refine lv_aload_n hx hb d_PT_longer_15 rfl (lv_at hl 1 rfl) ?_
    refine lv_iload_n hx hb d_PT_longer_16 rfl (lv_at hl 2 rfl) ?_
    refine lv_aload_n hx hb d_PT_longer_17 rfl (lv_at hl 0 rfl) ?_
    refine lv_iload_n hx hb d_PT_longer_18 rfl (lv_at hl 2 rfl) ?_
    refine xn_iald hM hW.1 0 rfl (by omega) (by omega) d_PT_longer_19 ?_
    refine xn_iast hM hW 1 rfl (by omega) (by omega) d_PT_longer_20 (fun H locs hW => ?_)
    have hW : xW D A s.heap [(a, .inl (cI, N, .inl f)), (b, .inl (cI, 2 * N, .inl (upd g i (f i))))] H locs := hW
    refine lv_iinc (lv' := [(2, .int (nI (i + 1))), (0, .ref a), (1, .ref b)]) (v := nI (i + 1)) hx hb d_PT_longer_21 hl (k := 2) rfl (nI_inc i) (by decide) rfl (fun ls hl => ?_)
    refine lv_goto (tgt := 9) hx hb d_PT_longer_24 (by decide) ?_
    have hl : lv_has ls 3 [(0, .ref a), (1, .ref b), (2, .int (nI (i + 1)))] := lv_sub hl [1, 2, 0] rfl
    refine ih (N - (i + 1)) (by omega) (i + 1) _ ls H locs rfl (by omega) (fun j hj => ?_) hl hW
    by_cases h : j = i
    · subst h; exact pk_us
    · rw [pk_un h]; exact hg j (by omega)
/-- the hash of eight numbers -/
def hsh (t : Nat → Int32) : Nat → Int32
  | 0 => nI 7
  | k + 1 => nI 31 * hsh t k + t k
def hs (t : Nat → Int32) (hl : Nat) : Nat := (hsh t 8 ^^^ ((hsh t 8).toUInt32 >>> ((nI 15).toUInt32 &&& Int32.toUInt32 31)).toInt32).toBitVec.toNat % hl
theorem hsh_congr {t u : Nat → Int32} : ∀ k, (∀ j, j < k → t j = u j) → hsh t k = hsh u k
  | 0, _ => rfl
  | k + 1, h => by
    show nI 31 * hsh t k + t k = nI 31 * hsh u k + u k
    rw [hsh_congr k (fun j hj => h j (by omega)), h k (by omega)]
theorem hs_congr {t u : Nat → Int32} (hl : Nat) (h : ∀ j, j < 8 → t j = u j) : hs t hl = hs u hl := by unfold hs; rw [hsh_congr 8 h]
theorem hs_lt (t : Nat → Int32) {hl : Nat} (h : 0 < hl) : hs t hl < hl := Nat.mod_lt _ h
abbrev rm_0 : Room := { frames := 0, cells := 0, slots := 0, locals := 0 }
set_option maxHeartbeats 4000000 in
set_option maxRecDepth 100000 in
/-- slot(from, at): the place in heads of the eight numbers from at on -/
theorem c_slot (l : Launch) (D : va_G) (cI cL : ClassId) (h0 af ah Nf hl2 at_ e2 : Nat) (v0 v1 v3 v4 : Value) (f g : Nat → Int32) (hf : at_ + 8 ≤ Nf) (hN : Nf < 2 ^ 31) (hp : hl2 = 2 ^ e2) (he2 : e2 ≤ 20) : CP l D cI cL y_Rec_slot (xws y_Rec_slot b_Rec_slot 5 (some .int)) rm_0 [.ref h0, .ref af, .int (nI at_)] [(h0, .inr (1, [v0, v1, .ref ah, v3, v4])), (af, .inl (cI, Nf, .inl f)), (ah, .inl (cI, hl2, .inl g))] (fun v => v = some (.int (nI (hs (fun i => f (at_ + i)) hl2)))) := by
  refine CP.ofI (own := R_Rec) (cc := b_Rec_slot) (nL := 5) (by decide) rfl (Nat.le_of_ble_eq_true rfl) ?_
  intro p e s m args below meth c Q ls hM hl hP RET
  have hx := hM.1
  have hb := hM.2.1
  have hl : lv_has ls 5 [(0, .ref h0), (1, .ref af), (2, .int (nI at_))] := hl
  have hq : hl2 < 2 ^ 31 := by subst hp; exact Nat.lt_of_le_of_lt (Nat.pow_le_pow_right (by decide) he2) (by decide)
  have hq0 : 1 ≤ hl2 := by subst hp; exact Nat.one_le_two_pow
  refine lv_bipush (v := nI 7) hx hb d_Rec_slot_0 (by decide) ?_
  refine lv_istore_n (lv' := [(3, .int (nI 7)), (0, .ref h0), (1, .ref af), (2, .int (nI at_))]) hx hb d_Rec_slot_2 rfl hl (by decide) rfl (fun ls hl => ?_)
  refine lv_iconst (v := nI 0) hx hb d_Rec_slot_3 (by decide) ?_
  refine lv_istore (lv' := [(4, .int (nI 0)), (3, .int (nI 7)), (0, .ref h0), (1, .ref af), (2, .int (nI at_))]) hx hb d_Rec_slot_4 hl (by decide) rfl (fun ls hl => ?_)
  have hl : lv_has ls 5 [(0, .ref h0), (1, .ref af), (2, .int (nI at_)), (3, .int (nI 7)), (4, .int (nI 0))] := lv_sub hl [2, 3, 4, 1, 0] rfl
  suffices loop : ∀ (n i : Nat) (ls : Array Slot), 8 - i = n → i ≤ 8 → lv_has ls 5 [(0, .ref h0), (1, .ref af), (2, .int (nI at_)), (3, .int (hsh (fun i => f (at_ + i)) i)), (4, .int (nI i))] → W p l e rm_0 s m args below meth c s.heap [] 0 0 Q (F0 m 6 ls []) from
    loop _ 0 ls rfl (Nat.zero_le _) hl
  intro n
  induction n using Nat.strongRecOn with | ind n ih => ?_
  intro i ls hn hi hl
  refine lv_iload hx hb d_Rec_slot_6 (lv_at hl 4 rfl) ?_
  refine lv_bipush (v := nI 8) hx hb d_Rec_slot_8 (by decide) ?_
  refine xn_ge (tgt := 31) hx hb (by omega) (by omega) d_Rec_slot_10 (by decide) (fun hge => ?_) (fun hlt => ?_)
  · have e : i = 8 := by omega
    subst e
    refine lv_iload_n hx hb d_Rec_slot_31 rfl (lv_at hl 3 rfl) ?_
    refine lv_iload_n hx hb d_Rec_slot_32 rfl (lv_at hl 3 rfl) ?_
    refine lv_bipush (v := nI 15) hx hb d_Rec_slot_33 (by decide) ?_
    refine lv_iushr (v := ((hsh (fun i => f (at_ + i)) 8).toUInt32 >>> ((nI 15).toUInt32 &&& Int32.toUInt32 31)).toInt32) hx hb d_Rec_slot_35 rfl ?_
    refine lv_ixor hx hb d_Rec_slot_36 ?_
    refine lv_aload_n hx hb d_Rec_slot_37 rfl (lv_at hl 0 rfl) ?_
    refine gf_Rec_16 hM hP 0 rfl rfl d_Rec_slot_38 ?_
    refine xn_alen hM hP 2 rfl d_Rec_slot_41 ?_
    refine lv_iconst (v := nI 1) hx hb d_Rec_slot_42 (by decide) ?_
    refine xn_isub hx hb hq0 d_Rec_slot_43 ?_
    refine lv_iand hx hb d_Rec_slot_44 ?_
    refine RET ?_ d_Rec_slot_45
    rw [pk_and _ e2 (by rw [pk_tn (by omega), hp])]
    rw [← hp]
    rfl
  · refine lv_bipush (v := nI 31) hx hb d_Rec_slot_13 (by decide) ?_
    refine lv_iload_n hx hb d_Rec_slot_15 rfl (lv_at hl 3 rfl) ?_
    refine lv_imul hx hb d_Rec_slot_16 ?_
    refine lv_aload_n hx hb d_Rec_slot_17 rfl (lv_at hl 1 rfl) ?_
    refine lv_iload_n hx hb d_Rec_slot_18 rfl (lv_at hl 2 rfl) ?_
    refine lv_iload hx hb d_Rec_slot_19 (lv_at hl 4 rfl) ?_
    refine xn_iadd hx hb d_Rec_slot_21 ?_
    refine xn_iald hM hP 1 rfl (by omega) (by omega) d_Rec_slot_22 ?_
    refine lv_iadd hx hb d_Rec_slot_23 ?_
    refine lv_istore_n (lv' := [(3, .int (((nI 31) * (hsh (fun i => f (at_ + i)) i)) + (f (at_ + i)))), (0, .ref h0), (1, .ref af), (2, .int (nI at_)), (4, .int (nI i))]) hx hb d_Rec_slot_24 rfl hl (by decide) rfl (fun ls hl => ?_)
    refine lv_iinc (lv' := [(4, .int (nI (i + 1))), (3, .int (((nI 31) * (hsh (fun i => f (at_ + i)) i)) + (f (at_ + i)))), (0, .ref h0), (1, .ref af), (2, .int (nI at_))]) (v := nI (i + 1)) hx hb d_Rec_slot_25 hl (k := 4) rfl (nI_inc i) (by decide) rfl (fun ls hl => ?_)
    refine lv_goto (tgt := 6) hx hb d_Rec_slot_28 (by decide) ?_
    have hl : lv_has ls 5 [(0, .ref h0), (1, .ref af), (2, .int (nI at_)), (3, .int (((nI 31) * (hsh (fun i => f (at_ + i)) i)) + (f (at_ + i)))), (4, .int (nI (i + 1)))] := lv_sub hl [2, 3, 4, 1, 0] rfl
    exact ih (8 - (i + 1)) (by omega) (i + 1) ls rfl (by omega) hl
set_option maxHeartbeats 4000000 in
set_option maxRecDepth 100000 in
/-- field(record, f) -/
theorem c_field (l : Launch) (D : va_G) (cI cL : ClassId) (h0 ar nl rec fd : Nat) (v1 v2 v3 v4 : Value) (f : Nat → Int32) (hr : rec < nl) (hfd : fd < 8) (hN : nl ≤ 8192) : CP l D cI cL y_Rec_field (xws y_Rec_field b_Rec_field 3 (some .int)) rm_0 [.ref h0, .int (nI rec), .int (nI fd)] [(h0, .inr (1, [.ref ar, v1, v2, v3, v4])), (ar, .inl (cI, 8 * nl, .inl f))] (fun v => v = some (.int (f (8 * rec + fd)))) := by
  refine CP.ofI (own := R_Rec) (cc := b_Rec_field) (nL := 3) (by decide) rfl (Nat.le_of_ble_eq_true rfl) ?_
  intro p e s m args below meth c Q ls hM hl hP RET
  have hx := hM.1
  have hb := hM.2.1
  have hl : lv_has ls 3 [(0, .ref h0), (1, .int (nI rec)), (2, .int (nI fd))] := hl
  refine lv_aload_n hx hb d_Rec_field_0 rfl (lv_at hl 0 rfl) ?_
  refine gf_Rec_9 hM hP 0 rfl rfl d_Rec_field_1 ?_
  refine lv_bipush (v := nI 8) hx hb d_Rec_field_4 (by decide) ?_
  refine lv_iload_n hx hb d_Rec_field_6 rfl (lv_at hl 1 rfl) ?_
  refine xn_imul hx hb d_Rec_field_7 ?_
  refine lv_iload_n hx hb d_Rec_field_8 rfl (lv_at hl 2 rfl) ?_
  refine xn_iadd hx hb d_Rec_field_9 ?_
  refine xn_iald hM hP 1 rfl (by omega) (by omega) d_Rec_field_10 ?_
  exact RET rfl d_Rec_field_11
set_option maxHeartbeats 4000000 in
set_option maxRecDepth 100000 in
/-- count() -/
theorem c_count (l : Launch) (D : va_G) (cI cL : ClassId) (h0 : Nat) (v0 v1 v2 v4 : Value) (z : Int32) : CP l D cI cL y_Rec_count (xws y_Rec_count b_Rec_count 1 (some .int)) rm_0 [.ref h0] [(h0, .inr (1, [v0, v1, v2, .int z, v4]))] (fun v => v = some (.int z)) := by
  refine CP.ofI (own := R_Rec) (cc := b_Rec_count) (nL := 1) (by decide) rfl (Nat.le_of_ble_eq_true rfl) ?_
  intro p e s m args below meth c Q ls hM hl hP RET
  have hx := hM.1
  have hb := hM.2.1
  have hl : lv_has ls 1 [(0, .ref h0)] := hl
  refine lv_aload_n hx hb d_Rec_count_0 rfl (lv_at hl 0 rfl) ?_
  refine gf_Rec_22 hM hP 0 rfl rfl d_Rec_count_1 ?_
  exact RET rfl d_Rec_count_4
end
section
/-! RECORDS, plain: chains of equal hashes, each number below the one ahead of it -/
/-- the last number below n whose hash is s, or -1 -/
def lb (h : Nat → Nat) : Nat → Nat → Int32
  | 0, _ => -1
  | n + 1, s => if h n = s then nI n else lb h n s
theorem lb_congr {h h' : Nat → Nat} {s : Nat} : ∀ n, (∀ j, j < n → h j = h' j) → lb h n s = lb h' n s
  | 0, _ => rfl
  | n + 1, e => by
    show (if h n = s then nI n else lb h n s) = (if h' n = s then nI n else lb h' n s)
    rw [e n (by omega), lb_congr n (fun j hj => e j (by omega))]
theorem lb_lt {h : Nat → Nat} {s : Nat} : ∀ n, n < 2 ^ 31 → lb h n s < 0 → ∀ j, j < n → h j ≠ s
  | 0, _, _, _, hj => absurd hj (Nat.not_lt_zero _)
  | n + 1, hn, hl, j, hj => by
    have hl : (if h n = s then nI n else lb h n s) < 0 := hl
    by_cases e : h n = s
    · rw [if_pos e] at hl
      exact absurd hl (nI_pos (by omega))
    · rw [if_neg e] at hl
      by_cases ej : j = n
      · rw [ej]; exact e
      · exact lb_lt n (by omega) hl j (by omega)
theorem lb_ge {h : Nat → Nat} {s : Nat} : ∀ n, n < 2 ^ 31 → ¬ lb h n s < 0 → ∃ j, j < n ∧ lb h n s = nI j ∧ h j = s ∧ ∀ x, j < x → x < n → h x ≠ s
  | 0, _, hl => absurd (show lb h 0 s < 0 by show (-1 : Int32) < 0; decide) hl
  | n + 1, hn, hl => by
    have e0 : lb h (n + 1) s = if h n = s then nI n else lb h n s := rfl
    rw [e0] at hl ⊢
    by_cases e : h n = s
    · rw [if_pos e]
      exact ⟨n, by omega, rfl, e, fun x h1 h2 => absurd h2 (by omega)⟩
    · rw [if_neg e] at hl ⊢
      obtain ⟨j, h1, h2, h3, h4⟩ := lb_ge n (by omega) hl
      refine ⟨j, by omega, h2, h3, fun x hx1 hx2 => ?_⟩
      by_cases ex : x = n
      · rw [ex]; exact e
      · exact h4 x hx1 (by omega)
/-- the hash of row r -/
def lk (rows : Nat → Int32) (hl r : Nat) : Nat := hs (fun i => rows (8 * r + i)) hl
def Linked (rows next heads : Nat → Int32) (n hl : Nat) : Prop := (∀ s, s < hl → heads s = lb (lk rows hl) n s) ∧ ∀ r, r < n → next r = lb (lk rows hl) r (lk rows hl r)
/-- rows a and b of two tables are the same -/
def Same (f : Nat → Int32) (a : Nat) (g : Nat → Int32) (b : Nat) : Prop := ∀ i, i < 8 → f (8 * a + i) = g (8 * b + i)
def Apart (rows : Nat → Int32) (n : Nat) : Prop := ∀ a b, a < b → b < n → ¬ Same rows a rows b
def NLs (x : Nat) : Prop := x = 64 ∨ x = 128 ∨ x = 256 ∨ x = 512 ∨ x = 1024 ∨ x = 2048 ∨ x = 4096 ∨ x = 8192
def HLs (x : Nat) : Prop := x = 256 ∨ x = 1024 ∨ x = 4096
/-- the records: n rows, room for nl, hl chains -/
def RI (rows next heads : Nat → Int32) (n nl hl : Nat) : Prop := n ≤ nl ∧ NLs nl ∧ HLs hl ∧ n ≤ 2 * hl ∧ Linked rows next heads n hl ∧ Apart rows n
theorem HLs.pow {hl : Nat} (h : HLs hl) : ∃ e, e ≤ 20 ∧ hl = 2 ^ e := by
  rcases h with rfl | rfl | rfl
  · exact ⟨8, by decide, by decide⟩
  · exact ⟨10, by decide, by decide⟩
  · exact ⟨12, by decide, by decide⟩
theorem HLs.le {hl : Nat} (h : HLs hl) : 256 ≤ hl ∧ hl ≤ 4096 := by rcases h with rfl | rfl | rfl <;> decide
theorem NLs.le {x : Nat} (h : NLs x) : 64 ≤ x ∧ x ≤ 8192 := by rcases h with rfl | rfl | rfl | rfl | rfl | rfl | rfl | rfl <;> decide
theorem NLs.twice {x : Nat} (h : NLs x) (h2 : x < 8192) : NLs (2 * x) := by
  rcases h with rfl | rfl | rfl | rfl | rfl | rfl | rfl | rfl
  · exact .inr (.inl rfl)
  · exact .inr (.inr (.inl rfl))
  · exact .inr (.inr (.inr (.inl rfl)))
  · exact .inr (.inr (.inr (.inr (.inl rfl))))
  · exact .inr (.inr (.inr (.inr (.inr (.inl rfl)))))
  · exact .inr (.inr (.inr (.inr (.inr (.inr (.inl rfl))))))
  · exact .inr (.inr (.inr (.inr (.inr (.inr (.inr rfl))))))
  · exact absurd h2 (by decide)
theorem HLs.four {x : Nat} (h : HLs x) (h2 : x < 4096) : HLs (4 * x) := by
  rcases h with rfl | rfl | rfl
  · exact .inr (.inl rfl)
  · exact .inr (.inr rfl)
  · exact absurd h2 (by decide)
theorem lk_congr {f g : Nat → Int32} (hl : Nat) {r : Nat} (h : Same f r g r) : lk f hl r = lk g hl r := hs_congr hl h
theorem Linked.congr {f g next heads : Nat → Int32} {n hl : Nat} (h : Linked f next heads n hl) (e : ∀ r, r < n → Same f r g r) : Linked g next heads n hl := by
  refine ⟨fun s hs => ?_, fun r hr => ?_⟩
  · rw [h.1 s hs]; exact lb_congr n (fun j hj => lk_congr hl (e j hj))
  · rw [h.2 r hr, lk_congr hl (e r hr)]; exact lb_congr r (fun j hj => lk_congr hl (e j (by omega)))
theorem Linked.add {rows next heads : Nat → Int32} {n hl S : Nat} (h : Linked rows next heads n hl) (hS : lk rows hl n = S) (hSl : S < hl) : Linked rows (upd next n (heads S)) (upd heads S (nI n)) (n + 1) hl := by
  refine ⟨fun s hs => ?_, fun r hr => ?_⟩
  · show _ = if lk rows hl n = s then nI n else lb (lk rows hl) n s
    by_cases e : s = S
    · subst e; rw [pk_us, if_pos hS]
    · rw [pk_un e, if_neg (by rw [hS]; exact fun q => e q.symm)]; exact h.1 s hs
  · by_cases e : r = n
    · subst e; rw [pk_us, hS]; exact h.1 S hSl
    · rw [pk_un e]; exact h.2 r (by omega)
theorem Same.rf {f : Nat → Int32} {a : Nat} : Same f a f a := fun _ _ => rfl
theorem Same.sy {f g : Nat → Int32} {a b : Nat} (h : Same f a g b) : Same g b f a := fun i hi => (h i hi).symm
theorem Same.tr {f g k : Nat → Int32} {a b d : Nat} (h : Same f a g b) (h2 : Same g b k d) : Same f a k d := fun i hi => (h i hi).trans (h2 i hi)
theorem Apart.congr {f g : Nat → Int32} {n : Nat} (h : Apart f n) (e : ∀ r, r < n → Same f r g r) : Apart g n := fun a b hab hb q => h a b hab hb (((e a (by omega)).tr q).tr (e b hb).sy)
theorem Apart.add {f : Nat → Int32} {n : Nat} (h : Apart f n) (e : ∀ r, r < n → ¬ Same f r f n) : Apart f (n + 1) := fun a b hab hb q => by
  by_cases eb : b = n
  · subst eb; exact e a hab q
  · exact h a b hab (by omega) q
end
section
abbrev rm_link : Room := { frames := 1, cells := 0, slots := 0, locals := 24 }
set_option maxHeartbeats 4000000 in
set_option maxRecDepth 100000 in
/-- link(): heads and next anew, out of the rows -/
theorem c_link (l : Launch) (D : va_G) (cI cL : ClassId) (h0 ar an ah nl hc n : Nat) (v4 : Value) (rows next heads : Nat → Int32) (hn : n ≤ nl) (hnl : nl ≤ 8192) (hH : HLs hc) : CT l D cI cL y_Rec_link (xws y_Rec_link b_Rec_link 3 none) rm_link [.ref h0] [(h0, .inr (1, [.ref ar, .ref an, .ref ah, .int (nI n), v4])), (ar, .inl (cI, 8 * nl, .inl rows)), (an, .inl (cI, nl, .inl next)), (ah, .inl (cI, hc, .inl heads))] (fun v k z w1 => v = none ∧ k = 0 ∧ z = 0 ∧ ∃ next2 heads2 : Nat → Int32, Linked rows next2 heads2 n hc ∧ w1 = [(h0, .inr (1, [.ref ar, .ref an, .ref ah, .int (nI n), v4])), (ar, .inl (cI, 8 * nl, .inl rows)), (an, .inl (cI, nl, .inl next2)), (ah, .inl (cI, hc, .inl heads2))]) := by
  refine CT.ofV (own := R_Rec) (cc := b_Rec_link) (nL := 3) (by decide) rfl (Nat.le_of_ble_eq_true rfl) ?_
  intro p e s m args below meth c A Q ls hM hl hW hnm RET
  have hx := hM.1
  have hb := hM.2.1
  have hl : lv_has ls 3 [(0, .ref h0)] := hl
  obtain ⟨e2, he2, hp2⟩ := hH.pow
  have hh := hH.le
  refine lv_iconst (v := nI 0) hx hb d_Rec_link_0 (by decide) ?_
  refine lv_istore_n (lv' := [(1, .int (nI 0)), (0, .ref h0)]) hx hb d_Rec_link_1 rfl hl (by decide) rfl (fun ls hl => ?_)
  have hl : lv_has ls 3 [(0, .ref h0), (1, .int (nI 0))] := lv_sub hl [1, 0] rfl
  suffices loop : ∀ (k i : Nat) (hd : Nat → Int32) (ls : Array Slot) (H : Heap) (locs : List Loc), hc - i = k → i ≤ hc → (∀ j, j < i → hd j = -1) → lv_has ls 3 [(0, .ref h0), (1, .int (nI i))] → xW D A s.heap [(h0, .inr (1, [.ref ar, .ref an, .ref ah, .int (nI n), v4])), (ar, .inl (cI, 8 * nl, .inl rows)), (an, .inl (cI, nl, .inl next)), (ah, .inl (cI, hc, .inl hd))] H locs → W p l e rm_link s m args below meth c H locs 0 0 Q (F0 m 2 ls []) from
    loop _ 0 _ ls s.heap [] rfl (Nat.zero_le _) (fun j hj => absurd hj (Nat.not_lt_zero _)) hl hW
  intro k
  induction k using Nat.strongRecOn with | ind k ih => ?_
  intro i hd ls H locs hk hi hg hl hW
  refine lv_iload_n hx hb d_Rec_link_2 rfl (lv_at hl 1 rfl) ?_
  refine lv_aload_n hx hb d_Rec_link_3 rfl (lv_at hl 0 rfl) ?_
  refine gf_Rec_16 hM hW.1 0 rfl rfl d_Rec_link_4 ?_
  refine xn_alen hM hW.1 3 rfl d_Rec_link_7 ?_
  refine xn_ge (tgt := 24) hx hb (by omega) (by omega) d_Rec_link_8 (by decide) (fun hge => ?_) (fun hlt => ?_)
  · have he : i = hc := by omega
    rw [he] at hg
    clear hge hk hi
    refine lv_iconst (v := nI 0) hx hb d_Rec_link_24 (by decide) ?_
    refine lv_istore_n (lv' := [(1, .int (nI 0)), (0, .ref h0)]) hx hb d_Rec_link_25 rfl hl (by decide) rfl (fun ls hl => ?_)
    have hl : lv_has ls 3 [(0, .ref h0), (1, .int (nI 0))] := lv_sub hl [1, 0] rfl
    suffices loop2 : ∀ (k r : Nat) (nx hd : Nat → Int32) (ls : Array Slot) (H : Heap) (locs : List Loc), n - r = k → r ≤ n → Linked rows nx hd r hc → lv_has ls 3 [(0, .ref h0), (1, .int (nI r))] → xW D A s.heap [(h0, .inr (1, [.ref ar, .ref an, .ref ah, .int (nI n), v4])), (ar, .inl (cI, 8 * nl, .inl rows)), (an, .inl (cI, nl, .inl nx)), (ah, .inl (cI, hc, .inl hd))] H locs → W p l e rm_link s m args below meth c H locs 0 0 Q (F0 m 26 ls []) from
      loop2 _ 0 _ _ ls H locs rfl (Nat.zero_le _) ⟨fun s hs => hg s hs, fun r hr => absurd hr (Nat.not_lt_zero _)⟩ hl hW
    intro k2
    induction k2 using Nat.strongRecOn with | ind k2 ih2 => ?_
    intro r nx hd ls H locs hk2 hr hL hl hW
    refine lv_iload_n hx hb d_Rec_link_26 rfl (lv_at hl 1 rfl) ?_
    refine lv_aload_n hx hb d_Rec_link_27 rfl (lv_at hl 0 rfl) ?_
    refine gf_Rec_22 hM hW.1 0 rfl rfl d_Rec_link_28 ?_
    refine xn_ge (tgt := 72) hx hb (by omega) (by omega) d_Rec_link_31 (by decide) (fun hge2 => ?_) (fun hlt2 => ?_)
    · have he : r = n := by omega
      rw [he] at hL
      exact RET hW ⟨rfl, rfl, rfl, nx, hd, hL, rfl⟩ d_Rec_link_72
    · refine lv_aload_n hx hb d_Rec_link_34 rfl (lv_at hl 0 rfl) ?_
      refine lv_aload_n hx hb d_Rec_link_35 rfl (lv_at hl 0 rfl) ?_
      refine gf_Rec_9 hM hW.1 0 rfl rfl d_Rec_link_36 ?_
      refine lv_bipush (v := nI 8) hx hb d_Rec_link_39 (by decide) ?_
      refine lv_iload_n hx hb d_Rec_link_41 rfl (lv_at hl 1 rfl) ?_
      refine xn_imul hx hb d_Rec_link_42 ?_
      refine x_callVP (rest := []) hM (c_slot l D cI cL h0 ar ah (8 * nl) hc (8 * r) e2 (.ref ar) (.ref an) (.int (nI n)) v4 rows hd (by omega) (by omega) hp2 he2) cb_Rec_slot cv_Rec_37 ⟨Nat.le_of_ble_eq_true rfl, Nat.le_of_ble_eq_true rfl⟩ ⟨Nat.le_of_ble_eq_true rfl, Nat.le_of_ble_eq_true rfl⟩ hW.1 [0, 1, 3] rfl 0 rfl rfl rfl hl.1 rfl (by decide) d_Rec_link_43 (fun v hv => ?_)
      subst hv
      have hS : lk rows hc r < hc := hs_lt _ (by omega)
      refine W.eq (g2 := F0 m 46 ls [.int (nI (lk rows hc r))]) rfl ?_
      refine lv_istore_n (lv' := [(2, .int (nI (lk rows hc r))), (0, .ref h0), (1, .int (nI r))]) hx hb d_Rec_link_46 rfl hl (by decide) rfl (fun ls hl => ?_)
      refine lv_aload_n hx hb d_Rec_link_47 rfl (lv_at hl 1 rfl) ?_
      refine gf_Rec_13 hM hW.1 0 rfl rfl d_Rec_link_48 ?_
      refine lv_iload_n hx hb d_Rec_link_51 rfl (lv_at hl 2 rfl) ?_
      refine lv_aload_n hx hb d_Rec_link_52 rfl (lv_at hl 1 rfl) ?_
      refine gf_Rec_16 hM hW.1 0 rfl rfl d_Rec_link_53 ?_
      refine lv_iload_n hx hb d_Rec_link_56 rfl (lv_at hl 0 rfl) ?_
      refine xn_iald hM hW.1 3 rfl (by omega) (by omega) d_Rec_link_57 ?_
      refine xn_iast hM hW 2 rfl (by omega) (by omega) d_Rec_link_58 (fun H locs hW => ?_)
      have hW : xW D A s.heap [(h0, .inr (1, [.ref ar, .ref an, .ref ah, .int (nI n), v4])), (ar, .inl (cI, 8 * nl, .inl rows)), (an, .inl (cI, nl, .inl (upd nx r (hd (lk rows hc r))))), (ah, .inl (cI, hc, .inl hd))] H locs := hW
      refine lv_aload_n hx hb d_Rec_link_59 rfl (lv_at hl 1 rfl) ?_
      refine gf_Rec_16 hM hW.1 0 rfl rfl d_Rec_link_60 ?_
      refine lv_iload_n hx hb d_Rec_link_63 rfl (lv_at hl 0 rfl) ?_
      refine lv_iload_n hx hb d_Rec_link_64 rfl (lv_at hl 2 rfl) ?_
      refine xn_iast hM hW 3 rfl (by omega) (by omega) d_Rec_link_65 (fun H locs hW => ?_)
      have hW : xW D A s.heap [(h0, .inr (1, [.ref ar, .ref an, .ref ah, .int (nI n), v4])), (ar, .inl (cI, 8 * nl, .inl rows)), (an, .inl (cI, nl, .inl (upd nx r (hd (lk rows hc r))))), (ah, .inl (cI, hc, .inl (upd hd (lk rows hc r) (nI r))))] H locs := hW
      refine lv_iinc (lv' := [(1, .int (nI (r + 1))), (2, .int (nI (lk rows hc r))), (0, .ref h0)]) (v := nI (r + 1)) hx hb d_Rec_link_66 hl (k := 2) rfl (nI_inc r) (by decide) rfl (fun ls hl => ?_)
      refine lv_goto (tgt := 26) hx hb d_Rec_link_69 (by decide) ?_
      have hl : lv_has ls 3 [(0, .ref h0), (1, .int (nI (r + 1)))] := lv_sub hl [2, 0] rfl
      exact ih2 (n - (r + 1)) (by omega) (r + 1) _ _ ls H locs rfl (by omega) (hL.add rfl hS) hl hW
  · refine lv_aload_n hx hb d_Rec_link_11 rfl (lv_at hl 0 rfl) ?_
    refine gf_Rec_16 hM hW.1 0 rfl rfl d_Rec_link_12 ?_
    refine lv_iload_n hx hb d_Rec_link_15 rfl (lv_at hl 1 rfl) ?_
    refine lv_iconst (v := -1) hx hb d_Rec_link_16 (by decide) ?_
    refine xn_iast hM hW 3 rfl (by omega) (by omega) d_Rec_link_17 (fun H locs hW => ?_)
    have hW : xW D A s.heap [(h0, .inr (1, [.ref ar, .ref an, .ref ah, .int (nI n), v4])), (ar, .inl (cI, 8 * nl, .inl rows)), (an, .inl (cI, nl, .inl next)), (ah, .inl (cI, hc, .inl (upd hd i (-1))))] H locs := hW
    refine lv_iinc (lv' := [(1, .int (nI (i + 1))), (0, .ref h0)]) (v := nI (i + 1)) hx hb d_Rec_link_18 hl (k := 1) rfl (nI_inc i) (by decide) rfl (fun ls hl => ?_)
    refine lv_goto (tgt := 2) hx hb d_Rec_link_21 (by decide) ?_
    have hl : lv_has ls 3 [(0, .ref h0), (1, .int (nI (i + 1)))] := lv_sub hl [1, 0] rfl
    refine ih (hc - (i + 1)) (by omega) (i + 1) _ ls H locs rfl (by omega) (fun j hj => ?_) hl hW
    by_cases h : j = i
    · subst h; exact pk_us
    · rw [pk_un h]; exact hg j (by omega)
abbrev rm_spread (hc : Nat) : Room := { frames := 2, cells := 1, slots := 4 * hc, locals := 46 }
set_option maxHeartbeats 4000000 in
set_option maxRecDepth 100000 in
/-- spread(): four times the chains -/
theorem c_spread (l : Launch) (D : va_G) (cI cL : ClassId) (h0 ar an ah nl hc n : Nat) (v4 : Value) (rows next heads : Nat → Int32) (hn : n ≤ nl) (hnl : nl ≤ 8192) (hH : HLs hc) (hH2 : HLs (4 * hc)) : CT l D cI cL y_Rec_spread (xws y_Rec_spread b_Rec_spread 1 none) (rm_spread hc) [.ref h0] [(h0, .inr (1, [.ref ar, .ref an, .ref ah, .int (nI n), v4])), (ar, .inl (cI, 8 * nl, .inl rows)), (an, .inl (cI, nl, .inl next)), (ah, .inl (cI, hc, .inl heads))] (fun v k z w1 => v = none ∧ k = 1 ∧ z = 4 * hc ∧ ∃ (ah2 : Nat) (next2 heads2 : Nat → Int32), Linked rows next2 heads2 n (4 * hc) ∧ w1 = [(h0, .inr (1, [.ref ar, .ref an, .ref ah2, .int (nI n), v4])), (ar, .inl (cI, 8 * nl, .inl rows)), (an, .inl (cI, nl, .inl next2)), (ah2, .inl (cI, 4 * hc, .inl heads2))]) := by
  refine CT.ofV (own := R_Rec) (cc := b_Rec_spread) (nL := 1) (by decide) rfl (Nat.le_of_ble_eq_true rfl) ?_
  intro p e s m args below meth c A Q ls hM hl hW hnm RET
  have hx := hM.1
  have hb := hM.2.1
  have hl : lv_has ls 1 [(0, .ref h0)] := hl
  have hh := hH.le
  refine lv_aload_n hx hb d_Rec_spread_0 rfl (lv_at hl 0 rfl) ?_
  refine lv_iconst (v := nI 4) hx hb d_Rec_spread_1 (by decide) ?_
  refine lv_aload_n hx hb d_Rec_spread_2 rfl (lv_at hl 0 rfl) ?_
  refine gf_Rec_16 hM hW.1 0 rfl rfl d_Rec_spread_3 ?_
  refine xn_alen hM hW.1 3 rfl d_Rec_spread_6 ?_
  refine xn_imul hx hb d_Rec_spread_7 ?_
  refine xn_newI hM hW (by omega) (Nat.le_refl _) (by show 0 + 4 * hc ≤ 4 * hc; omega) d_Rec_spread_8 (fun ah2 H locs hW => ?_)
  have hW : xW D A s.heap [(h0, .inr (1, [.ref ar, .ref an, .ref ah, .int (nI n), v4])), (ar, .inl (cI, 8 * nl, .inl rows)), (an, .inl (cI, nl, .inl next)), (ah, .inl (cI, hc, .inl heads)), (ah2, .inl (cI, 4 * hc, .inl (fun _ => 0)))] H locs := hW
  refine pf_Rec_16 hM hW 0 rfl (Nat.le_of_ble_eq_true rfl) d_Rec_spread_10 (fun H locs hW => ?_)
  have hW : xW D A s.heap [(h0, .inr (1, [.ref ar, .ref an, .ref ah2, .int (nI n), v4])), (ar, .inl (cI, 8 * nl, .inl rows)), (an, .inl (cI, nl, .inl next)), (ah, .inl (cI, hc, .inl heads)), (ah2, .inl (cI, 4 * hc, .inl (fun _ => 0)))] H locs := hW
  refine lv_aload_n hx hb d_Rec_spread_13 rfl (lv_at hl 0 rfl) ?_
  have hW : xW D A s.heap [(h0, .inr (1, [.ref ar, .ref an, .ref ah2, .int (nI n), v4])), (ar, .inl (cI, 8 * nl, .inl rows)), (an, .inl (cI, nl, .inl next)), (ah2, .inl (cI, 4 * hc, .inl (fun _ => 0)))] H locs := hW.sub [0, 1, 2, 4] (by decide) rfl
  have hW0 := hW
  refine x_callVT (rest := []) hM (c_link l D cI cL h0 ar an ah2 nl (4 * hc) n v4 rows next (fun _ => 0) hn hnl hH2) cb_Rec_link cv_Rec_30 ⟨Nat.le_of_ble_eq_true rfl, Nat.le_of_ble_eq_true rfl⟩ ⟨by show 0 + 1 + 0 ≤ 1; omega, by show 0 + 4 * hc + 0 ≤ 4 * hc; omega⟩ hW [0, 1, 2, 3] [] (by decide) rfl (wr := []) rfl (by decide) (by decide) 0 rfl rfl rfl hl.1 rfl (by decide) d_Rec_spread_14 (fun v k z w1 H locs hv hW => ?_)
  obtain ⟨rfl, rfl, rfl, nx, hd, hL, rfl⟩ := hv
  exact RET hW ⟨rfl, rfl, by omega, ah2, nx, hd, hL, rfl⟩ d_Rec_spread_17
end
section
/-- row j is the trial row -/
def IsT (rows : Nat → Int32) (j : Nat) (tr : Nat → Int32) : Prop := ∀ i, i < 8 → rows (8 * j + i) = tr i
/-- the cells of the records -/
abbrev wRec (cI : ClassId) (h0 ar an ah at_ nl hc n : Nat) (rows next heads tr : Nat → Int32) : va_W := [(h0, .inr (1, [.ref ar, .ref an, .ref ah, .int (nI n), .ref at_])), (ar, .inl (cI, 8 * nl, .inl rows)), (an, .inl (cI, nl, .inl next)), (ah, .inl (cI, hc, .inl heads)), (at_, .inl (cI, 8, .inl tr))]
/-- what has become of the records: r is the row that was asked for -/
def RecTo (rows : Nat → Int32) (n : Nat) (tr : Nat → Int32) (r : Nat) (rows2 : Nat → Int32) (n2 : Nat) : Prop := (∀ j, j < n → Same rows j rows2 j) ∧ r < n2 ∧ IsT rows2 r tr ∧ (n2 = n ∨ (n2 = n + 1 ∧ r = n))
abbrev rm_intern (nl hc : Nat) : Room := { frames := 3, cells := 3, slots := 18 * nl + 4 * hc, locals := 66 }
theorem RI.add {rows next heads rows2 next2 tr : Nat → Int32} {n nl nl2 hc : Nat} (h : RI rows next heads n nl hc) (hn : n < nl2) (h1 : ∀ j, j < n → Same rows j rows2 j) (h2 : ∀ j, j < n → next2 j = next j) (h3 : IsT rows2 n tr) (h4 : ∀ j, j < n → ¬ IsT rows j tr) : Linked rows2 (upd next2 n (heads (hs tr hc))) (upd heads (hs tr hc) (nI n)) (n + 1) hc ∧ Apart rows2 (n + 1) := by
  obtain ⟨-, -, hH, -, hL, hA⟩ := h
  have hh := hH.le
  have hL1 : Linked rows next2 heads n hc := ⟨hL.1, fun r hr => (h2 r hr).trans (hL.2 r hr)⟩
  have hk : lk rows2 hc n = hs tr hc := hs_congr hc h3
  refine ⟨(hL1.congr h1).add hk (hs_lt _ (by omega)), (hA.congr h1).add fun r hr q => h4 r hr fun i hi => ?_⟩
  exact ((h1 r hr i hi).trans (q i hi)).trans (h3 i hi)
set_option maxHeartbeats 4000000 in
set_option maxRecDepth 100000 in
/-- intern(): the row that is as the trial row, found or made -/
theorem c_intern (l : Launch) (D : va_G) (cI cL : ClassId) (h0 ar an ah at_ nl hc n : Nat) (rows next heads tr : Nat → Int32) (hI : RI rows next heads n nl hc) (hn : n < 8192) : CT l D cI cL y_Rec_intern (xws y_Rec_intern b_Rec_intern 5 (some .int)) (rm_intern nl hc) [.ref h0] (wRec cI h0 ar an ah at_ nl hc n rows next heads tr) (fun v k z w1 => ∃ (r n2 nl2 hc2 ar2 an2 ah2 : Nat) (rows2 next2 heads2 : Nat → Int32), v = some (.int (nI r)) ∧ k + nl + hc ≤ nl2 + hc2 ∧ z + 18 * nl + 2 * hc ≤ 18 * nl2 + 2 * hc2 ∧ RI rows2 next2 heads2 n2 nl2 hc2 ∧ RecTo rows n tr r rows2 n2 ∧ w1 = wRec cI h0 ar2 an2 ah2 at_ nl2 hc2 n2 rows2 next2 heads2 tr) := by
  refine CT.ofI (own := R_Rec) (cc := b_Rec_intern) (nL := 5) (by decide) rfl (Nat.le_of_ble_eq_true rfl) ?_
  intro p e s m args below meth c A Q ls hM hl hW hnm RET
  have hx := hM.1
  have hb := hM.2.1
  have hl : lv_has ls 5 [(0, .ref h0)] := hl
  have hW : xW D A s.heap [(h0, .inr (1, [.ref ar, .ref an, .ref ah, .int (nI n), .ref at_])), (ar, .inl (cI, 8 * nl, .inl rows)), (an, .inl (cI, nl, .inl next)), (ah, .inl (cI, hc, .inl heads)), (at_, .inl (cI, 8, .inl tr))] s.heap [] := hW
  have hI0 := hI
  obtain ⟨hnl, hNL, hH, hn2, hL, hAp⟩ := hI
  obtain ⟨e2, he2, hp2⟩ := hH.pow
  have hh := hH.le
  have hnn := hNL.le
  refine lv_aload_n hx hb d_Rec_intern_0 rfl (lv_at hl 0 rfl) ?_
  refine lv_aload_n hx hb d_Rec_intern_1 rfl (lv_at hl 0 rfl) ?_
  refine gf_Rec_19 hM hW.1 0 rfl rfl d_Rec_intern_2 ?_
  refine lv_iconst (v := nI 0) hx hb d_Rec_intern_5 (by decide) ?_
  refine x_callVP (rest := []) hM (c_slot l D cI cL h0 at_ ah 8 hc 0 e2 (.ref ar) (.ref an) (.int (nI n)) (.ref at_) tr heads (by omega) (by omega) hp2 he2) cb_Rec_slot cv_Rec_37 ⟨Nat.le_of_ble_eq_true rfl, Nat.le_of_ble_eq_true rfl⟩ ⟨Nat.le_of_ble_eq_true rfl, Nat.le_of_ble_eq_true rfl⟩ hW.1 [0, 4, 3] rfl 0 rfl rfl rfl hl.1 rfl (Nat.le_of_ble_eq_true rfl) d_Rec_intern_6 (fun v hv => ?_)
  subst hv
  rw [show hs (fun i => tr (0 + i)) hc = hs tr hc from hs_congr hc (fun j _ => by rw [Nat.zero_add])]
  have hS : hs tr hc < hc := hs_lt _ (by omega)
  generalize hSe : hs tr hc = S at hS ⊢
  refine W.eq (g2 := F0 m 9 ls [.int (nI S)]) rfl ?_
  refine lv_istore_n (lv' := [(1, .int (nI S)), (0, .ref h0)]) hx hb d_Rec_intern_9 rfl hl (by decide) rfl (fun ls hl => ?_)
  have hl : lv_has ls 5 [(0, .ref h0), (1, .int (nI S))] := lv_sub hl [1, 0] rfl
  have tail : ∀ (ar an nl2 cells slots : Nat) (rows2 next2 : Nat → Int32) (ls : Array Slot) (H : Heap) (locs : List Loc), (∀ j, j < n → ¬ IsT rows j tr) → n < nl2 → NLs nl2 → cells + nl ≤ nl2 → slots + 18 * nl ≤ 18 * nl2 → cells ≤ 2 → slots ≤ 18 * nl → (∀ j, j < n → Same rows j rows2 j) → (∀ j, j < n → next2 j = next j) → lv_has ls 5 [(0, .ref h0), (1, .int (nI S))] → xW D A s.heap [(h0, .inr (1, [.ref ar, .ref an, .ref ah, .int (nI n), .ref at_])), (ar, .inl (cI, 8 * nl2, .inl rows2)), (an, .inl (cI, nl2, .inl next2)), (ah, .inl (cI, hc, .inl heads)), (at_, .inl (cI, 8, .inl tr))] H locs → W p l e (rm_intern nl hc) s m args below meth c H locs cells slots Q (F0 m 121 ls []) := by
    intro ar an nl2 cells slots rows2 next2 ls H locs hno hn3 hNL2 hc1 hc2 hc3 hc4 hs1 hs2 hl hW
    have hnn2 := hNL2.le
    refine lv_iconst (v := nI 0) hx hb d_Rec_intern_121 (by decide) ?_
    refine lv_istore_n (lv' := [(2, .int (nI 0)), (0, .ref h0), (1, .int (nI S))]) hx hb d_Rec_intern_122 rfl hl (by decide) rfl (fun ls hl => ?_)
    have hl : lv_has ls 5 [(0, .ref h0), (1, .int (nI S)), (2, .int (nI 0))] := lv_sub hl [1, 2, 0] rfl
    suffices loop : ∀ (k i : Nat) (rw2 : Nat → Int32) (ls : Array Slot) (H : Heap) (locs : List Loc), 8 - i = k → i ≤ 8 → (∀ j, j < n → Same rows j rw2 j) → (∀ x, x < i → rw2 (8 * n + x) = tr x) → lv_has ls 5 [(0, .ref h0), (1, .int (nI S)), (2, .int (nI i))] → xW D A s.heap [(h0, .inr (1, [.ref ar, .ref an, .ref ah, .int (nI n), .ref at_])), (ar, .inl (cI, 8 * nl2, .inl rw2)), (an, .inl (cI, nl2, .inl next2)), (ah, .inl (cI, hc, .inl heads)), (at_, .inl (cI, 8, .inl tr))] H locs → W p l e (rm_intern nl hc) s m args below meth c H locs cells slots Q (F0 m 123 ls []) from
      loop _ 0 _ ls H locs rfl (Nat.zero_le _) hs1 (fun x hx => absurd hx (Nat.not_lt_zero _)) hl hW
    intro k
    induction k using Nat.strongRecOn with | ind k ih => ?_
    intro i rw2 ls H locs hk hi hs3 hs4 hl hW
    refine lv_iload_n hx hb d_Rec_intern_123 rfl (lv_at hl 2 rfl) ?_
    refine lv_bipush (v := nI 8) hx hb d_Rec_intern_124 (by decide) ?_
    refine xn_ge (tgt := 155) hx hb (by omega) (by omega) d_Rec_intern_126 (by decide) (fun hge => ?_) (fun hlt => ?_)
    · have hi8 : i = 8 := by omega
      rw [hi8] at hs4
      have hadd := RI.add hI0 hn3 hs3 hs2 hs4 hno
      rw [hSe] at hadd
      have hl : lv_has ls 5 [(0, .ref h0), (1, .int (nI S))] := lv_sub hl [0, 1] rfl
      refine lv_aload_n hx hb d_Rec_intern_155 rfl (lv_at hl 0 rfl) ?_
      refine gf_Rec_13 hM hW.1 0 rfl rfl d_Rec_intern_156 ?_
      refine lv_aload_n hx hb d_Rec_intern_159 rfl (lv_at hl 0 rfl) ?_
      refine gf_Rec_22 hM hW.1 0 rfl rfl d_Rec_intern_160 ?_
      refine lv_aload_n hx hb d_Rec_intern_163 rfl (lv_at hl 0 rfl) ?_
      refine gf_Rec_16 hM hW.1 0 rfl rfl d_Rec_intern_164 ?_
      refine lv_iload_n hx hb d_Rec_intern_167 rfl (lv_at hl 1 rfl) ?_
      refine xn_iald hM hW.1 3 rfl (by omega) (by omega) d_Rec_intern_168 ?_
      refine xn_iast hM hW 2 rfl (by omega) (by omega) d_Rec_intern_169 (fun H locs hW => ?_)
      have hW : xW D A s.heap [(h0, .inr (1, [.ref ar, .ref an, .ref ah, .int (nI n), .ref at_])), (ar, .inl (cI, 8 * nl2, .inl rw2)), (an, .inl (cI, nl2, .inl (upd next2 n (heads S)))), (ah, .inl (cI, hc, .inl heads)), (at_, .inl (cI, 8, .inl tr))] H locs := hW
      refine lv_aload_n hx hb d_Rec_intern_170 rfl (lv_at hl 0 rfl) ?_
      refine gf_Rec_16 hM hW.1 0 rfl rfl d_Rec_intern_171 ?_
      refine lv_iload_n hx hb d_Rec_intern_174 rfl (lv_at hl 1 rfl) ?_
      refine lv_aload_n hx hb d_Rec_intern_175 rfl (lv_at hl 0 rfl) ?_
      refine gf_Rec_22 hM hW.1 0 rfl rfl d_Rec_intern_176 ?_
      refine xn_iast hM hW 3 rfl (by omega) (by omega) d_Rec_intern_179 (fun H locs hW => ?_)
      have hW : xW D A s.heap [(h0, .inr (1, [.ref ar, .ref an, .ref ah, .int (nI n), .ref at_])), (ar, .inl (cI, 8 * nl2, .inl rw2)), (an, .inl (cI, nl2, .inl (upd next2 n (heads S)))), (ah, .inl (cI, hc, .inl (upd heads S (nI n)))), (at_, .inl (cI, 8, .inl tr))] H locs := hW
      refine lv_aload_n hx hb d_Rec_intern_180 rfl (lv_at hl 0 rfl) ?_
      refine lv_dup hx hb d_Rec_intern_181 rfl ?_
      refine gf_Rec_22 hM hW.1 0 rfl rfl d_Rec_intern_182 ?_
      refine lv_iconst (v := nI 1) hx hb d_Rec_intern_185 (by decide) ?_
      refine xn_iadd hx hb d_Rec_intern_186 ?_
      refine pf_Rec_22 hM hW 0 rfl (Nat.le_of_ble_eq_true rfl) d_Rec_intern_187 (fun H locs hW => ?_)
      have hW : xW D A s.heap [(h0, .inr (1, [.ref ar, .ref an, .ref ah, .int (nI (n + 1)), .ref at_])), (ar, .inl (cI, 8 * nl2, .inl rw2)), (an, .inl (cI, nl2, .inl (upd next2 n (heads S)))), (ah, .inl (cI, hc, .inl (upd heads S (nI n)))), (at_, .inl (cI, 8, .inl tr))] H locs := hW
      refine lv_aload_n hx hb d_Rec_intern_190 rfl (lv_at hl 0 rfl) ?_
      refine gf_Rec_22 hM hW.1 0 rfl rfl d_Rec_intern_191 ?_
      refine lv_iconst (v := nI 2) hx hb d_Rec_intern_194 (by decide) ?_
      refine lv_aload_n hx hb d_Rec_intern_195 rfl (lv_at hl 0 rfl) ?_
      refine gf_Rec_16 hM hW.1 0 rfl rfl d_Rec_intern_196 ?_
      refine xn_alen hM hW.1 3 rfl d_Rec_intern_199 ?_
      refine xn_imul hx hb d_Rec_intern_200 ?_
      refine xn_le (tgt := 208) hx hb (by omega) (by omega) d_Rec_intern_201 (by decide) (fun hle => ?_) (fun hgt => ?_)
      · refine lv_aload_n hx hb d_Rec_intern_208 rfl (lv_at hl 0 rfl) ?_
        refine gf_Rec_22 hM hW.1 0 rfl rfl d_Rec_intern_209 ?_
        refine lv_iconst (v := nI 1) hx hb d_Rec_intern_212 (by decide) ?_
        refine xn_isub hx hb (by omega) d_Rec_intern_213 ?_
        refine RET (w1 := wRec cI h0 ar an ah at_ nl2 hc (n + 1) rw2 _ _ tr) hW ⟨n + 1 - 1, n + 1, nl2, hc, ar, an, ah, rw2, _, _, rfl, by omega, by omega, ⟨by omega, hNL2, hH, by omega, hadd.1, hadd.2⟩, ⟨hs3, by omega, ?_, Or.inr ⟨rfl, by omega⟩⟩, rfl⟩ d_Rec_intern_214
        rw [Nat.add_sub_cancel]; exact hs4
      · refine lv_aload_n hx hb d_Rec_intern_204 rfl (lv_at hl 0 rfl) ?_
        have hH2 : HLs (4 * hc) := hH.four (by omega)
        refine x_callVT (rest := []) hM (c_spread l D cI cL h0 ar an ah nl2 hc (n + 1) (.ref at_) rw2 (upd next2 n (heads S)) (upd heads S (nI n)) (by omega) (by omega) hH hH2) cb_Rec_spread cv_Rec_47 ⟨Nat.le_of_ble_eq_true rfl, Nat.le_of_ble_eq_true rfl⟩ ⟨by show cells + 1 ≤ 3; omega, by show slots + 4 * hc ≤ 18 * nl + 4 * hc; omega⟩ hW [0, 1, 2, 3] [4] (by decide) rfl (wr := [(at_, .inl (cI, 8, .inl tr))]) rfl (by decide) (by decide) 0 rfl rfl rfl hl.1 rfl (Nat.le_of_ble_eq_true rfl) d_Rec_intern_205 (fun v k z w1 H locs hv hW => ?_)
        obtain ⟨rfl, rfl, rfl, ah2, nx, hd, hL2, rfl⟩ := hv
        have hW : xW D A s.heap [(h0, .inr (1, [.ref ar, .ref an, .ref ah2, .int (nI (n + 1)), .ref at_])), (ar, .inl (cI, 8 * nl2, .inl rw2)), (an, .inl (cI, nl2, .inl nx)), (ah2, .inl (cI, 4 * hc, .inl hd)), (at_, .inl (cI, 8, .inl tr))] H locs := hW.sub [1, 2, 3, 4, 0] (by decide) rfl
        refine W.eq (g2 := F0 m 208 ls []) rfl ?_
        refine lv_aload_n hx hb d_Rec_intern_208 rfl (lv_at hl 0 rfl) ?_
        refine gf_Rec_22 hM hW.1 0 rfl rfl d_Rec_intern_209 ?_
        refine lv_iconst (v := nI 1) hx hb d_Rec_intern_212 (by decide) ?_
        refine xn_isub hx hb (by omega) d_Rec_intern_213 ?_
        refine RET (w1 := wRec cI h0 ar an ah2 at_ nl2 (4 * hc) (n + 1) rw2 nx hd tr) hW ⟨n + 1 - 1, n + 1, nl2, 4 * hc, ar, an, ah2, rw2, nx, hd, rfl, by omega, by omega, ⟨by omega, hNL2, hH2, by omega, hL2, hadd.2⟩, ⟨hs3, by omega, ?_, Or.inr ⟨rfl, by omega⟩⟩, rfl⟩ d_Rec_intern_214
        rw [Nat.add_sub_cancel]; exact hs4
    · refine lv_aload_n hx hb d_Rec_intern_129 rfl (lv_at hl 0 rfl) ?_
      refine gf_Rec_9 hM hW.1 0 rfl rfl d_Rec_intern_130 ?_
      refine lv_bipush (v := nI 8) hx hb d_Rec_intern_133 (by decide) ?_
      refine lv_aload_n hx hb d_Rec_intern_135 rfl (lv_at hl 0 rfl) ?_
      refine gf_Rec_22 hM hW.1 0 rfl rfl d_Rec_intern_136 ?_
      refine xn_imul hx hb d_Rec_intern_139 ?_
      refine lv_iload_n hx hb d_Rec_intern_140 rfl (lv_at hl 2 rfl) ?_
      refine xn_iadd hx hb d_Rec_intern_141 ?_
      refine lv_aload_n hx hb d_Rec_intern_142 rfl (lv_at hl 0 rfl) ?_
      refine gf_Rec_19 hM hW.1 0 rfl rfl d_Rec_intern_143 ?_
      refine lv_iload_n hx hb d_Rec_intern_146 rfl (lv_at hl 2 rfl) ?_
      refine xn_iald hM hW.1 4 rfl (by omega) (by omega) d_Rec_intern_147 ?_
      refine xn_iast hM hW 1 rfl (by omega) (by omega) d_Rec_intern_148 (fun H locs hW => ?_)
      have hW : xW D A s.heap [(h0, .inr (1, [.ref ar, .ref an, .ref ah, .int (nI n), .ref at_])), (ar, .inl (cI, 8 * nl2, .inl (upd rw2 ((8 * n) + i) (tr i)))), (an, .inl (cI, nl2, .inl next2)), (ah, .inl (cI, hc, .inl heads)), (at_, .inl (cI, 8, .inl tr))] H locs := hW
      refine lv_iinc (lv' := [(2, .int (nI (i + 1))), (0, .ref h0), (1, .int (nI S))]) (v := nI (i + 1)) hx hb d_Rec_intern_149 hl (k := 2) rfl (nI_inc i) (by decide) rfl (fun ls hl => ?_)
      refine lv_goto (tgt := 123) hx hb d_Rec_intern_152 (by decide) ?_
      have hl : lv_has ls 5 [(0, .ref h0), (1, .int (nI S)), (2, .int (nI (i + 1)))] := lv_sub hl [1, 2, 0] rfl
      refine ih (8 - (i + 1)) (by omega) (i + 1) _ ls H locs rfl (by omega) (fun j hj x hx => ?_) (fun x hx => ?_) hl hW
      · rw [pk_un (by omega)]; exact hs3 j hj x hx
      · by_cases h : x = i
        · subst h; exact pk_us
        · rw [pk_un (by omega)]; exact hs4 x (by omega)
  have ins : ∀ (ls : Array Slot), (∀ j, j < n → ¬ IsT rows j tr) → lv_has ls 5 [(0, .ref h0), (1, .int (nI S))] → W p l e (rm_intern nl hc) s m args below meth c s.heap [] 0 0 Q (F0 m 87 ls []) := by
    intro ls hno hl
    refine lv_aload_n hx hb d_Rec_intern_87 rfl (lv_at hl 0 rfl) ?_
    refine gf_Rec_22 hM hW.1 0 rfl rfl d_Rec_intern_88 ?_
    refine lv_aload_n hx hb d_Rec_intern_91 rfl (lv_at hl 0 rfl) ?_
    refine gf_Rec_13 hM hW.1 0 rfl rfl d_Rec_intern_92 ?_
    refine xn_alen hM hW.1 2 rfl d_Rec_intern_95 ?_
    refine xn_ne (tgt := 121) hx hb (by omega) (by omega) d_Rec_intern_96 (by decide) (fun hne => ?_) (fun heq => ?_)
    · exact tail ar an nl 0 0 rows next ls s.heap [] hno (by omega) hNL (by omega) (by omega) (by omega) (by omega) (fun _ _ => Same.rf) (fun _ _ => rfl) hl hW
    · subst heq
      refine lv_aload_n hx hb d_Rec_intern_99 rfl (lv_at hl 0 rfl) ?_
      refine lv_aload_n hx hb d_Rec_intern_100 rfl (lv_at hl 0 rfl) ?_
      refine gf_Rec_9 hM hW.1 0 rfl rfl d_Rec_intern_101 ?_
      refine x_callSNT (rest := [.ref h0]) hM (c_longer l D cI cL ar (8 * n) rows (by omega)) cb_PT_longer cv_Rec_41 ⟨Nat.le_of_ble_eq_true rfl, Nat.le_of_ble_eq_true rfl⟩ ⟨by show 0 + 1 ≤ 3; omega, by show 0 + 2 * (8 * n) ≤ 18 * n + 4 * hc; omega⟩ hW [1] [0, 2, 3, 4] (by decide) rfl (wr := [(h0, .inr (1, [.ref ar, .ref an, .ref ah, .int (nI n), .ref at_])), (an, .inl (cI, n, .inl next)), (ah, .inl (cI, hc, .inl heads)), (at_, .inl (cI, 8, .inl tr))]) rfl (by decide) (by decide) rfl hl.1 rfl (Nat.le_of_ble_eq_true rfl) d_Rec_intern_104 (fun v k z w1 H locs hv hW => ?_)
      obtain ⟨ar2, rows2, rfl, rfl, rfl, hg, rfl⟩ := hv
      have hW : xW D A s.heap [(h0, .inr (1, [.ref ar, .ref an, .ref ah, .int (nI n), .ref at_])), (ar, .inl (cI, 8 * n, .inl rows)), (an, .inl (cI, n, .inl next)), (ah, .inl (cI, hc, .inl heads)), (at_, .inl (cI, 8, .inl tr)), (ar2, .inl (cI, 2 * (8 * n), .inl rows2))] H locs := hW.sub [0, 4, 1, 2, 3, 5] (by decide) rfl
      refine W.eq (g2 := F0 m 107 ls [.ref ar2, .ref h0]) rfl ?_
      refine pf_Rec_9 hM hW 0 rfl (Nat.le_of_ble_eq_true rfl) d_Rec_intern_107 (fun H locs hW => ?_)
      have hW : xW D A s.heap [(h0, .inr (1, [.ref ar2, .ref an, .ref ah, .int (nI n), .ref at_])), (ar, .inl (cI, 8 * n, .inl rows)), (an, .inl (cI, n, .inl next)), (ah, .inl (cI, hc, .inl heads)), (at_, .inl (cI, 8, .inl tr)), (ar2, .inl (cI, 2 * (8 * n), .inl rows2))] H locs := hW
      have hW : xW D A s.heap [(h0, .inr (1, [.ref ar2, .ref an, .ref ah, .int (nI n), .ref at_])), (ar2, .inl (cI, 2 * (8 * n), .inl rows2)), (an, .inl (cI, n, .inl next)), (ah, .inl (cI, hc, .inl heads)), (at_, .inl (cI, 8, .inl tr))] H locs := hW.sub [0, 5, 2, 3, 4] (by decide) rfl
      refine lv_aload_n hx hb d_Rec_intern_110 rfl (lv_at hl 0 rfl) ?_
      refine lv_aload_n hx hb d_Rec_intern_111 rfl (lv_at hl 0 rfl) ?_
      refine gf_Rec_13 hM hW.1 0 rfl rfl d_Rec_intern_112 ?_
      refine x_callSNT (rest := [.ref h0]) hM (c_longer l D cI cL an n next (by omega)) cb_PT_longer cv_Rec_41 ⟨Nat.le_of_ble_eq_true rfl, Nat.le_of_ble_eq_true rfl⟩ ⟨by show 0 + 1 + 1 ≤ 3; omega, by show 0 + 2 * (8 * n) + 2 * n ≤ 18 * n + 4 * hc; omega⟩ hW [2] [0, 1, 3, 4] (by decide) rfl (wr := [(h0, .inr (1, [.ref ar2, .ref an, .ref ah, .int (nI n), .ref at_])), (ar2, .inl (cI, 2 * (8 * n), .inl rows2)), (ah, .inl (cI, hc, .inl heads)), (at_, .inl (cI, 8, .inl tr))]) rfl (by decide) (by decide) rfl hl.1 rfl (Nat.le_of_ble_eq_true rfl) d_Rec_intern_115 (fun v k z w1 H locs hv hW => ?_)
      obtain ⟨an2, next2, rfl, rfl, rfl, hg2, rfl⟩ := hv
      have hW : xW D A s.heap [(h0, .inr (1, [.ref ar2, .ref an, .ref ah, .int (nI n), .ref at_])), (ar2, .inl (cI, 2 * (8 * n), .inl rows2)), (an, .inl (cI, n, .inl next)), (ah, .inl (cI, hc, .inl heads)), (at_, .inl (cI, 8, .inl tr)), (an2, .inl (cI, 2 * n, .inl next2))] H locs := hW.sub [0, 1, 4, 2, 3, 5] (by decide) rfl
      refine W.eq (g2 := F0 m 118 ls [.ref an2, .ref h0]) rfl ?_
      refine pf_Rec_13 hM hW 0 rfl (Nat.le_of_ble_eq_true rfl) d_Rec_intern_118 (fun H locs hW => ?_)
      have hW : xW D A s.heap [(h0, .inr (1, [.ref ar2, .ref an2, .ref ah, .int (nI n), .ref at_])), (ar2, .inl (cI, 2 * (8 * n), .inl rows2)), (an, .inl (cI, n, .inl next)), (ah, .inl (cI, hc, .inl heads)), (at_, .inl (cI, 8, .inl tr)), (an2, .inl (cI, 2 * n, .inl next2))] H locs := hW
      have hW : xW D A s.heap [(h0, .inr (1, [.ref ar2, .ref an2, .ref ah, .int (nI n), .ref at_])), (ar2, .inl (cI, 2 * (8 * n), .inl rows2)), (an2, .inl (cI, 2 * n, .inl next2)), (ah, .inl (cI, hc, .inl heads)), (at_, .inl (cI, 8, .inl tr))] H locs := hW.sub [0, 1, 5, 3, 4] (by decide) rfl
      rw [show 2 * (8 * n) = 8 * (2 * n) by omega] at hW
      exact tail ar2 an2 (2 * n) _ _ rows2 next2 ls H locs hno (by omega) (hNL.twice (by omega)) (by omega) (by omega) (by omega) (by omega) (fun j hj x hx => (hg _ (by omega)).symm) (fun j hj => hg2 j hj) hl hW
  refine lv_aload_n hx hb d_Rec_intern_10 rfl (lv_at hl 0 rfl) ?_
  refine gf_Rec_16 hM hW.1 0 rfl rfl d_Rec_intern_11 ?_
  refine lv_iload_n hx hb d_Rec_intern_14 rfl (lv_at hl 1 rfl) ?_
  refine xn_iald hM hW.1 3 rfl (by omega) (by omega) d_Rec_intern_15 ?_
  refine lv_istore_n (lv' := [(2, .int (heads S)), (0, .ref h0), (1, .int (nI S))]) hx hb d_Rec_intern_16 rfl hl (by decide) rfl (fun ls hl => ?_)
  have hl : lv_has ls 5 [(0, .ref h0), (1, .int (nI S)), (2, .int (heads S))] := lv_sub hl [1, 2, 0] rfl
  have h2 : heads S = lb (lk rows hc) n S := hL.1 S hS
  rw [h2] at hl
  suffices chain : ∀ (n0 : Nat) (ls : Array Slot), n0 ≤ n → (∀ j, n0 ≤ j → j < n → ¬ IsT rows j tr) → lv_has ls 5 [(0, .ref h0), (1, .int (nI S)), (2, .int (lb (lk rows hc) n0 S))] → W p l e (rm_intern nl hc) s m args below meth c s.heap [] 0 0 Q (F0 m 17 ls []) from
    chain n ls (Nat.le_refl _) (fun j h1 h2 => absurd h2 (by omega)) hl
  intro n0
  induction n0 using Nat.strongRecOn with | ind n0 ih => ?_
  intro ls hn0 hno hl
  refine lv_iload_n hx hb d_Rec_intern_17 rfl (lv_at hl 2 rfl) ?_
  refine lv_if_lt (tgt := 87) hx hb d_Rec_intern_18 (by decide) (fun hlt => ?_) (fun hge => ?_)
  · have hl : lv_has ls 5 [(0, .ref h0), (1, .int (nI S))] := lv_sub hl [0, 1] rfl
    refine ins ls (fun j hj q => ?_) hl
    by_cases hj0 : n0 ≤ j
    · exact hno j hj0 hj q
    · exact lb_lt n0 (by omega) hlt j (by omega) (by rw [← hSe]; exact hs_congr hc q)
  · obtain ⟨j, hj, ej, hkj, hb4⟩ := lb_ge n0 (by omega) hge
    rw [ej] at hl
    have at71 : ∀ (sm : Nat) (ls : Array Slot), (sm = 1 ∧ IsT rows j tr) ∨ (sm = 0 ∧ ¬ IsT rows j tr) → lv_has ls 5 [(0, .ref h0), (1, .int (nI S)), (2, .int (nI j)), (3, .int (nI sm))] → W p l e (rm_intern nl hc) s m args below meth c s.heap [] 0 0 Q (F0 m 71 ls []) := by
      intro sm ls hsm hl
      refine lv_iload_n hx hb d_Rec_intern_71 rfl (lv_at hl 3 rfl) ?_
      refine xn_ifeq (tgt := 77) hx hb (by omega) d_Rec_intern_72 (by decide) (fun h0_ => ?_) (fun h1_ => ?_)
      · refine lv_aload_n hx hb d_Rec_intern_77 rfl (lv_at hl 0 rfl) ?_
        refine gf_Rec_13 hM hW.1 0 rfl rfl d_Rec_intern_78 ?_
        refine lv_iload_n hx hb d_Rec_intern_81 rfl (lv_at hl 2 rfl) ?_
        refine xn_iald hM hW.1 2 rfl (by omega) (by omega) d_Rec_intern_82 ?_
        refine xn_top (show next j = lb (lk rows hc) j S from by rw [hL.2 j (by omega), hkj]) ?_
        refine lv_istore_n (lv' := [(2, .int (lb (lk rows hc) j S)), (0, .ref h0), (1, .int (nI S)), (3, .int (nI sm))]) hx hb d_Rec_intern_83 rfl hl (by decide) rfl (fun ls hl => ?_)
        refine lv_goto (tgt := 17) hx hb d_Rec_intern_84 (by decide) ?_
        have hl : lv_has ls 5 [(0, .ref h0), (1, .int (nI S)), (2, .int (lb (lk rows hc) j S))] := lv_sub hl [1, 2, 0] rfl
        refine ih j hj ls (by omega) (fun x h1 h2 q => ?_) hl
        by_cases e1 : x = j
        · subst e1; rcases hsm with ⟨q1, -⟩ | ⟨-, q2⟩
          · omega
          · exact q2 q
        by_cases e3 : n0 ≤ x
        · exact hno x e3 h2 q
        exact hb4 x (by omega) (by omega) (by rw [← hSe]; exact hs_congr hc q)
      · refine lv_iload_n hx hb d_Rec_intern_75 rfl (lv_at hl 2 rfl) ?_
        rcases hsm with ⟨-, hT⟩ | ⟨q1, -⟩
        · exact RET (w1 := wRec cI h0 ar an ah at_ nl hc n rows next heads tr) hW ⟨j, n, nl, hc, ar, an, ah, rows, next, heads, rfl, by omega, by omega, hI0, ⟨fun _ _ => Same.rf, by omega, hT, Or.inl rfl⟩, rfl⟩ d_Rec_intern_76
        · exact absurd q1 h1_
    refine lv_iconst (v := nI 1) hx hb d_Rec_intern_21 (by decide) ?_
    refine lv_istore_n (lv' := [(3, .int (nI 1)), (0, .ref h0), (1, .int (nI S)), (2, .int (nI j))]) hx hb d_Rec_intern_22 rfl hl (by decide) rfl (fun ls hl => ?_)
    refine lv_iconst (v := nI 0) hx hb d_Rec_intern_23 (by decide) ?_
    refine lv_istore (lv' := [(4, .int (nI 0)), (3, .int (nI 1)), (0, .ref h0), (1, .int (nI S)), (2, .int (nI j))]) hx hb d_Rec_intern_24 hl (by decide) rfl (fun ls hl => ?_)
    have hl : lv_has ls 5 [(0, .ref h0), (1, .int (nI S)), (2, .int (nI j)), (3, .int (nI 1)), (4, .int (nI 0))] := lv_sub hl [2, 3, 4, 1, 0] rfl
    suffices inner : ∀ (k i sm : Nat) (ls : Array Slot), 8 - i = k → i ≤ 8 → (sm = 1 ∧ ∀ x, x < i → rows (8 * j + x) = tr x) ∨ (sm = 0 ∧ ¬ IsT rows j tr) → lv_has ls 5 [(0, .ref h0), (1, .int (nI S)), (2, .int (nI j)), (3, .int (nI sm)), (4, .int (nI i))] → W p l e (rm_intern nl hc) s m args below meth c s.heap [] 0 0 Q (F0 m 26 ls []) from
      inner _ 0 1 ls rfl (Nat.zero_le _) (Or.inl ⟨rfl, fun x hx => absurd hx (Nat.not_lt_zero _)⟩) hl
    intro k
    induction k using Nat.strongRecOn with | ind k ih2 => ?_
    intro i sm ls hk hi hsm hl
    have hsm1 : sm ≤ 1 := by rcases hsm with ⟨q, -⟩ | ⟨q, -⟩ <;> omega
    refine lv_iload hx hb d_Rec_intern_26 (lv_at hl 4 rfl) ?_
    refine lv_bipush (v := nI 8) hx hb d_Rec_intern_28 (by decide) ?_
    refine xn_ge (tgt := 71) hx hb (by omega) (by omega) d_Rec_intern_30 (by decide) (fun hge2 => ?_) (fun hlt2 => ?_)
    · have hl : lv_has ls 5 [(0, .ref h0), (1, .int (nI S)), (2, .int (nI j)), (3, .int (nI sm))] := lv_sub hl [0, 1, 2, 3] rfl
      refine at71 sm ls ?_ hl
      rcases hsm with ⟨q1, q2⟩ | h
      · exact Or.inl ⟨q1, fun x hx => q2 x (by omega)⟩
      · exact Or.inr h
    · refine lv_iload_n hx hb d_Rec_intern_33 rfl (lv_at hl 3 rfl) ?_
      refine xn_ifeq (tgt := 71) hx hb (by omega) d_Rec_intern_34 (by decide) (fun hz => ?_) (fun hnz => ?_)
      · have hl : lv_has ls 5 [(0, .ref h0), (1, .int (nI S)), (2, .int (nI j)), (3, .int (nI sm))] := lv_sub hl [0, 1, 2, 3] rfl
        refine at71 sm ls ?_ hl
        rcases hsm with ⟨q1, q2⟩ | h
        · omega
        · exact Or.inr h
      · have hall : ∀ x, x < i → rows (8 * j + x) = tr x := by
          rcases hsm with ⟨-, q2⟩ | ⟨q1, -⟩
          · exact q2
          · exact absurd q1 hnz
        refine lv_aload_n hx hb d_Rec_intern_37 rfl (lv_at hl 0 rfl) ?_
        refine gf_Rec_9 hM hW.1 0 rfl rfl d_Rec_intern_38 ?_
        refine lv_bipush (v := nI 8) hx hb d_Rec_intern_41 (by decide) ?_
        refine lv_iload_n hx hb d_Rec_intern_43 rfl (lv_at hl 2 rfl) ?_
        refine xn_imul hx hb d_Rec_intern_44 ?_
        refine lv_iload hx hb d_Rec_intern_45 (lv_at hl 4 rfl) ?_
        refine xn_iadd hx hb d_Rec_intern_47 ?_
        refine xn_iald hM hW.1 1 rfl (by omega) (by omega) d_Rec_intern_48 ?_
        refine lv_aload_n hx hb d_Rec_intern_49 rfl (lv_at hl 0 rfl) ?_
        refine gf_Rec_19 hM hW.1 0 rfl rfl d_Rec_intern_50 ?_
        refine lv_iload hx hb d_Rec_intern_53 (lv_at hl 4 rfl) ?_
        refine xn_iald hM hW.1 4 rfl (by omega) (by omega) d_Rec_intern_55 ?_
        refine lv_icmp_ne (tgt := 63) hx hb d_Rec_intern_56 (by decide) (fun hd => ?_) (fun hs_ => ?_)
        · refine lv_iconst (v := nI 0) hx hb d_Rec_intern_63 (by decide) ?_
          refine lv_istore_n (lv' := [(3, .int (nI 0)), (0, .ref h0), (1, .int (nI S)), (2, .int (nI j)), (4, .int (nI i))]) hx hb d_Rec_intern_64 rfl hl (by decide) rfl (fun ls hl => ?_)
          refine lv_iinc (lv' := [(4, .int (nI (i + 1))), (3, .int (nI 0)), (0, .ref h0), (1, .int (nI S)), (2, .int (nI j))]) (v := nI (i + 1)) hx hb d_Rec_intern_65 hl (k := 4) rfl (nI_inc i) (by decide) rfl (fun ls hl => ?_)
          refine lv_goto (tgt := 26) hx hb d_Rec_intern_68 (by decide) ?_
          have hl : lv_has ls 5 [(0, .ref h0), (1, .int (nI S)), (2, .int (nI j)), (3, .int (nI 0)), (4, .int (nI (i + 1)))] := lv_sub hl [2, 3, 4, 1, 0] rfl
          exact ih2 (8 - (i + 1)) (by omega) (i + 1) 0 ls rfl (by omega) (Or.inr ⟨rfl, fun q => hd (q i hlt2)⟩) hl
        · refine lv_iconst (v := nI 1) hx hb d_Rec_intern_59 (by decide) ?_
          refine lv_goto (tgt := 64) hx hb d_Rec_intern_60 (by decide) ?_
          refine lv_istore_n (lv' := [(3, .int (nI 1)), (0, .ref h0), (1, .int (nI S)), (2, .int (nI j)), (4, .int (nI i))]) hx hb d_Rec_intern_64 rfl hl (by decide) rfl (fun ls hl => ?_)
          refine lv_iinc (lv' := [(4, .int (nI (i + 1))), (3, .int (nI 1)), (0, .ref h0), (1, .int (nI S)), (2, .int (nI j))]) (v := nI (i + 1)) hx hb d_Rec_intern_65 hl (k := 4) rfl (nI_inc i) (by decide) rfl (fun ls hl => ?_)
          refine lv_goto (tgt := 26) hx hb d_Rec_intern_68 (by decide) ?_
          have hl : lv_has ls 5 [(0, .ref h0), (1, .int (nI S)), (2, .int (nI j)), (3, .int (nI 1)), (4, .int (nI (i + 1)))] := lv_sub hl [2, 3, 4, 1, 0] rfl
          refine ih2 (8 - (i + 1)) (by omega) (i + 1) 1 ls rfl (by omega) (Or.inl ⟨rfl, fun x hx => ?_⟩) hl
          by_cases h : x = i
          · rw [h]; exact hs_
          · exact hall x (by omega)
end
section
abbrev rm_with (nl hc : Nat) : Room := { frames := 4, cells := 3, slots := 18 * nl + 4 * hc, locals := 90 }
set_option maxHeartbeats 4000000 in
set_option maxRecDepth 100000 in
/-- with(record, f, v): the row like another but in one field -/
theorem c_with (l : Launch) (D : va_G) (cI cL : ClassId) (h0 ar an ah at_ nl hc n rec fd : Nat) (x : Int32) (rows next heads tr : Nat → Int32) (hI : RI rows next heads n nl hc) (hn : n < 8192) (hr : rec < n) (hfd : fd < 8) : CT l D cI cL y_Rec_with (xws y_Rec_with b_Rec_with 5 (some .int)) (rm_with nl hc) [.ref h0, .int (nI rec), .int (nI fd), .int x] (wRec cI h0 ar an ah at_ nl hc n rows next heads tr) (fun v k z w1 => ∃ (r n2 nl2 hc2 ar2 an2 ah2 : Nat) (rows2 next2 heads2 tr2 : Nat → Int32), v = some (.int (nI r)) ∧ k + nl + hc ≤ nl2 + hc2 ∧ z + 18 * nl + 2 * hc ≤ 18 * nl2 + 2 * hc2 ∧ RI rows2 next2 heads2 n2 nl2 hc2 ∧ RecTo rows n (upd (fun i => rows (8 * rec + i)) fd x) r rows2 n2 ∧ w1 = wRec cI h0 ar2 an2 ah2 at_ nl2 hc2 n2 rows2 next2 heads2 tr2) := by
  refine CT.ofI (own := R_Rec) (cc := b_Rec_with) (nL := 5) (by decide) rfl (Nat.le_of_ble_eq_true rfl) ?_
  intro p e s m args below meth c A Q ls hM hl hW hnm RET
  have hx := hM.1
  have hb := hM.2.1
  have hl : lv_has ls 5 [(0, .ref h0), (1, .int (nI rec)), (2, .int (nI fd)), (3, .int x)] := hl
  have hW : xW D A s.heap [(h0, .inr (1, [.ref ar, .ref an, .ref ah, .int (nI n), .ref at_])), (ar, .inl (cI, 8 * nl, .inl rows)), (an, .inl (cI, nl, .inl next)), (ah, .inl (cI, hc, .inl heads)), (at_, .inl (cI, 8, .inl tr))] s.heap [] := hW
  have hI0 := hI
  obtain ⟨hnl, hNL, hH, hn2, hL, hAp⟩ := hI
  have hh := hH.le
  have hnn := hNL.le
  refine lv_aload_n hx hb d_Rec_with_0 rfl (lv_at hl 0 rfl) ?_
  refine lv_iload_n hx hb d_Rec_with_1 rfl (lv_at hl 1 rfl) ?_
  refine lv_iload_n hx hb d_Rec_with_2 rfl (lv_at hl 2 rfl) ?_
  refine x_callVP (rest := []) hM (c_field l D cI cL h0 ar nl rec fd (.ref an) (.ref ah) (.int (nI n)) (.ref at_) rows (by omega) hfd (by omega)) cb_Rec_field cv_Rec_33 ⟨Nat.le_of_ble_eq_true rfl, Nat.le_of_ble_eq_true rfl⟩ ⟨Nat.le_of_ble_eq_true rfl, Nat.le_of_ble_eq_true rfl⟩ hW.1 [0, 1] rfl 0 rfl rfl rfl hl.1 rfl (Nat.le_of_ble_eq_true rfl) d_Rec_with_3 (fun v hv => ?_)
  subst hv
  refine W.eq (g2 := F0 m 6 ls [.int (rows (8 * rec + fd))]) rfl ?_
  refine lv_iload_n hx hb d_Rec_with_6 rfl (lv_at hl 3 rfl) ?_
  refine lv_icmp_ne (tgt := 12) hx hb d_Rec_with_7 (by decide) (fun hne => ?_) (fun heq => ?_)
  · refine lv_iconst (v := nI 0) hx hb d_Rec_with_12 (by decide) ?_
    refine lv_istore (lv' := [(4, .int (nI 0)), (0, .ref h0), (1, .int (nI rec)), (2, .int (nI fd)), (3, .int x)]) hx hb d_Rec_with_13 hl (by decide) rfl (fun ls hl => ?_)
    have hl : lv_has ls 5 [(0, .ref h0), (1, .int (nI rec)), (2, .int (nI fd)), (3, .int x), (4, .int (nI 0))] := lv_sub hl [1, 2, 3, 4, 0] rfl
    suffices loop : ∀ (k i : Nat) (t2 : Nat → Int32) (ls : Array Slot) (H : Heap) (locs : List Loc), 8 - i = k → i ≤ 8 → (∀ j, j < i → t2 j = rows (8 * rec + j)) → lv_has ls 5 [(0, .ref h0), (1, .int (nI rec)), (2, .int (nI fd)), (3, .int x), (4, .int (nI i))] → xW D A s.heap [(h0, .inr (1, [.ref ar, .ref an, .ref ah, .int (nI n), .ref at_])), (ar, .inl (cI, 8 * nl, .inl rows)), (an, .inl (cI, nl, .inl next)), (ah, .inl (cI, hc, .inl heads)), (at_, .inl (cI, 8, .inl t2))] H locs → W p l e (rm_with nl hc) s m args below meth c H locs 0 0 Q (F0 m 15 ls []) from
      loop _ 0 _ ls s.heap [] rfl (Nat.zero_le _) (fun j hj => absurd hj (Nat.not_lt_zero _)) hl hW
    intro k
    induction k using Nat.strongRecOn with | ind k ih => ?_
    intro i t2 ls H locs hk hi hg hl hW
    refine lv_iload hx hb d_Rec_with_15 (lv_at hl 4 rfl) ?_
    refine lv_bipush (v := nI 8) hx hb d_Rec_with_17 (by decide) ?_
    refine xn_ge (tgt := 42) hx hb (by omega) (by omega) d_Rec_with_19 (by decide) (fun hge => ?_) (fun hlt => ?_)
    · refine lv_aload_n hx hb d_Rec_with_42 rfl (lv_at hl 0 rfl) ?_
      refine gf_Rec_19 hM hW.1 0 rfl rfl d_Rec_with_43 ?_
      refine lv_iload_n hx hb d_Rec_with_46 rfl (lv_at hl 2 rfl) ?_
      refine lv_iload_n hx hb d_Rec_with_47 rfl (lv_at hl 3 rfl) ?_
      refine xn_iast hM hW 4 rfl (by omega) (by omega) d_Rec_with_48 (fun H locs hW => ?_)
      have hW : xW D A s.heap [(h0, .inr (1, [.ref ar, .ref an, .ref ah, .int (nI n), .ref at_])), (ar, .inl (cI, 8 * nl, .inl rows)), (an, .inl (cI, nl, .inl next)), (ah, .inl (cI, hc, .inl heads)), (at_, .inl (cI, 8, .inl (upd t2 fd x)))] H locs := hW
      refine lv_aload_n hx hb d_Rec_with_49 rfl (lv_at hl 0 rfl) ?_
      refine x_callVT (rest := []) hM (c_intern l D cI cL h0 ar an ah at_ nl hc n rows next heads (upd t2 fd x) hI0 hn) cb_Rec_intern cv_Rec_26 ⟨Nat.le_of_ble_eq_true rfl, Nat.le_of_ble_eq_true rfl⟩ ⟨by show 0 + 3 ≤ 3; omega, by show 0 + (18 * nl + 4 * hc) ≤ 18 * nl + 4 * hc; omega⟩ hW [0, 1, 2, 3, 4] [] (by decide) rfl (wr := []) rfl (by decide) (by decide) 0 rfl rfl rfl hl.1 rfl (Nat.le_of_ble_eq_true rfl) d_Rec_with_50 (fun v k z w1 H locs hv hW => ?_)
      obtain ⟨r, n2, nl2, hc2, ar2, an2, ah2, rows2, next2, heads2, rfl, hk1, hk2, hR2, ⟨ht1, ht2, ht3, ht4⟩, rfl⟩ := hv
      refine W.eq (g2 := F0 m 53 ls [.int (nI r)]) rfl ?_
      refine RET (w1 := wRec cI h0 ar2 an2 ah2 at_ nl2 hc2 n2 rows2 next2 heads2 (upd t2 fd x)) hW ⟨r, n2, nl2, hc2, ar2, an2, ah2, rows2, next2, heads2, _, rfl, by omega, by omega, hR2, ⟨ht1, ht2, fun j hj => ?_, ht4⟩, rfl⟩ d_Rec_with_53
      rw [ht3 j hj]
      by_cases e1 : j = fd
      · rw [e1, pk_us, pk_us]
      · rw [pk_un e1, pk_un e1]; exact hg j (by omega)
    · refine lv_aload_n hx hb d_Rec_with_22 rfl (lv_at hl 0 rfl) ?_
      refine gf_Rec_19 hM hW.1 0 rfl rfl d_Rec_with_23 ?_
      refine lv_iload hx hb d_Rec_with_26 (lv_at hl 4 rfl) ?_
      refine lv_aload_n hx hb d_Rec_with_28 rfl (lv_at hl 0 rfl) ?_
      refine lv_iload_n hx hb d_Rec_with_29 rfl (lv_at hl 1 rfl) ?_
      refine lv_iload hx hb d_Rec_with_30 (lv_at hl 4 rfl) ?_
      refine x_callVP (rest := [.int (nI i), .ref at_]) hM (c_field l D cI cL h0 ar nl rec i (.ref an) (.ref ah) (.int (nI n)) (.ref at_) rows (by omega) hlt (by omega)) cb_Rec_field cv_Rec_33 ⟨Nat.le_of_ble_eq_true rfl, Nat.le_of_ble_eq_true rfl⟩ ⟨Nat.le_of_ble_eq_true rfl, Nat.le_of_ble_eq_true rfl⟩ hW.1 [0, 1] rfl 0 rfl rfl rfl hl.1 rfl (Nat.le_of_ble_eq_true rfl) d_Rec_with_32 (fun v hv => ?_)
      subst hv
      refine W.eq (g2 := F0 m 35 ls [.int (rows (8 * rec + i)), .int (nI i), .ref at_]) rfl ?_
      refine xn_iast hM hW 4 rfl (by omega) (by omega) d_Rec_with_35 (fun H locs hW => ?_)
      have hW : xW D A s.heap [(h0, .inr (1, [.ref ar, .ref an, .ref ah, .int (nI n), .ref at_])), (ar, .inl (cI, 8 * nl, .inl rows)), (an, .inl (cI, nl, .inl next)), (ah, .inl (cI, hc, .inl heads)), (at_, .inl (cI, 8, .inl (upd t2 i (rows (8 * rec + i)))))] H locs := hW
      refine lv_iinc (lv' := [(4, .int (nI (i + 1))), (0, .ref h0), (1, .int (nI rec)), (2, .int (nI fd)), (3, .int x)]) (v := nI (i + 1)) hx hb d_Rec_with_36 hl (k := 4) rfl (nI_inc i) (by decide) rfl (fun ls hl => ?_)
      refine lv_goto (tgt := 15) hx hb d_Rec_with_39 (by decide) ?_
      have hl : lv_has ls 5 [(0, .ref h0), (1, .int (nI rec)), (2, .int (nI fd)), (3, .int x), (4, .int (nI (i + 1)))] := lv_sub hl [1, 2, 3, 4, 0] rfl
      refine ih (8 - (i + 1)) (by omega) (i + 1) _ ls H locs rfl (by omega) (fun j hj => ?_) hl hW
      by_cases h : j = i
      · subst h; exact pk_us
      · rw [pk_un h]; exact hg j (by omega)
  · refine lv_iload_n hx hb d_Rec_with_10 rfl (lv_at hl 1 rfl) ?_
    refine RET (w1 := wRec cI h0 ar an ah at_ nl hc n rows next heads tr) hW ⟨rec, n, nl, hc, ar, an, ah, rows, next, heads, _, rfl, by omega, by omega, hI0, ⟨fun _ _ => Same.rf, hr, fun j hj => ?_, Or.inl rfl⟩, rfl⟩ d_Rec_with_11
    by_cases e1 : j = fd
    · rw [e1, pk_us]; exact heq
    · rw [pk_un e1]
abbrev rm_changed (nl hc : Nat) : Room := { frames := 5, cells := 3, slots := 18 * nl + 4 * hc, locals := 114 }
set_option maxHeartbeats 4000000 in
set_option maxRecDepth 100000 in
/-- changed(record, field, v, kept) -/
theorem c_changed (l : Launch) (D : va_G) (cI cL : ClassId) (t0 h0 ar an ah at_ nl hc n rec fd : Nat) (x kp : Int32) (v1 v2 v3 v4 v5 : Value) (rows next heads tr : Nat → Int32) (hI : RI rows next heads n nl hc) (hn : n < 8192) (hr : rec < n) (hfd : fd < 8) : CT l D cI cL y_Tri_changed (xws y_Tri_changed b_Tri_changed 5 (some .int)) (rm_changed nl hc) [.ref t0, .int (nI rec), .int (nI fd), .int x, .int kp] ((t0, .inr (2, [.ref h0, v1, v2, v3, v4, v5])) :: wRec cI h0 ar an ah at_ nl hc n rows next heads tr) (fun v k z w1 => ∃ (r n2 nl2 hc2 ar2 an2 ah2 : Nat) (rows2 next2 heads2 tr2 : Nat → Int32), v = some (.int (nI r)) ∧ k + nl + hc ≤ nl2 + hc2 ∧ z + 18 * nl + 2 * hc ≤ 18 * nl2 + 2 * hc2 ∧ RI rows2 next2 heads2 n2 nl2 hc2 ∧ RecTo rows n (upd (fun i => rows (8 * rec + i)) fd (rows (8 * rec + fd) &&& kp ||| x)) r rows2 n2 ∧ w1 = (t0, .inr (2, [.ref h0, v1, v2, v3, v4, v5])) :: wRec cI h0 ar2 an2 ah2 at_ nl2 hc2 n2 rows2 next2 heads2 tr2) := by
  refine CT.ofI (own := R_Tri) (cc := b_Tri_changed) (nL := 5) (by decide) rfl (Nat.le_of_ble_eq_true rfl) ?_
  intro p e s m args below meth c A Q ls hM hl hW hnm RET
  have hx := hM.1
  have hb := hM.2.1
  have hl : lv_has ls 5 [(0, .ref t0), (1, .int (nI rec)), (2, .int (nI fd)), (3, .int x), (4, .int kp)] := hl
  have hW : xW D A s.heap [(t0, .inr (2, [.ref h0, v1, v2, v3, v4, v5])), (h0, .inr (1, [.ref ar, .ref an, .ref ah, .int (nI n), .ref at_])), (ar, .inl (cI, 8 * nl, .inl rows)), (an, .inl (cI, nl, .inl next)), (ah, .inl (cI, hc, .inl heads)), (at_, .inl (cI, 8, .inl tr))] s.heap [] := hW
  have hI0 := hI
  obtain ⟨hnl, hNL, hH, hn2, hL, hAp⟩ := hI
  have hh := hH.le
  have hnn := hNL.le
  refine lv_aload_n hx hb d_Tri_changed_0 rfl (lv_at hl 0 rfl) ?_
  refine gf_Tri_25 hM hW.1 0 rfl rfl d_Tri_changed_1 ?_
  refine lv_iload_n hx hb d_Tri_changed_4 rfl (lv_at hl 1 rfl) ?_
  refine lv_iload_n hx hb d_Tri_changed_5 rfl (lv_at hl 2 rfl) ?_
  refine lv_aload_n hx hb d_Tri_changed_6 rfl (lv_at hl 0 rfl) ?_
  refine gf_Tri_25 hM hW.1 0 rfl rfl d_Tri_changed_7 ?_
  refine lv_iload_n hx hb d_Tri_changed_10 rfl (lv_at hl 1 rfl) ?_
  refine lv_iload_n hx hb d_Tri_changed_11 rfl (lv_at hl 2 rfl) ?_
  refine x_callVP (rest := [.int (nI fd), .int (nI rec), .ref h0]) hM (c_field l D cI cL h0 ar nl rec fd (.ref an) (.ref ah) (.int (nI n)) (.ref at_) rows (by omega) hfd (by omega)) cb_Rec_field cv_Tri_36 ⟨Nat.le_of_ble_eq_true rfl, Nat.le_of_ble_eq_true rfl⟩ ⟨Nat.le_of_ble_eq_true rfl, Nat.le_of_ble_eq_true rfl⟩ hW.1 [1, 2] rfl 1 rfl rfl rfl hl.1 rfl (Nat.le_of_ble_eq_true rfl) d_Tri_changed_12 (fun v hv => ?_)
  subst hv
  refine W.eq (g2 := F0 m 15 ls [.int (rows (8 * rec + fd)), .int (nI fd), .int (nI rec), .ref h0]) rfl ?_
  refine lv_iload hx hb d_Tri_changed_15 (lv_at hl 4 rfl) ?_
  refine lv_iand hx hb d_Tri_changed_17 ?_
  refine lv_iload_n hx hb d_Tri_changed_18 rfl (lv_at hl 3 rfl) ?_
  refine lv_ior hx hb d_Tri_changed_19 ?_
  refine x_callVT (rest := []) hM (c_with l D cI cL h0 ar an ah at_ nl hc n rec fd (rows (8 * rec + fd) &&& kp ||| x) rows next heads tr hI0 hn hr hfd) cb_Rec_with cv_Tri_64 ⟨Nat.le_of_ble_eq_true rfl, Nat.le_of_ble_eq_true rfl⟩ ⟨by show 0 + 3 ≤ 3; omega, by show 0 + (18 * nl + 4 * hc) ≤ 18 * nl + 4 * hc; omega⟩ hW [1, 2, 3, 4, 5] [0] (by decide) rfl (wr := [(t0, .inr (2, [.ref h0, v1, v2, v3, v4, v5]))]) rfl (by decide) (by decide) 1 rfl rfl rfl hl.1 rfl (Nat.le_of_ble_eq_true rfl) d_Tri_changed_20 (fun v k z w1 H locs hv hW => ?_)
  obtain ⟨r, n2, nl2, hc2, ar2, an2, ah2, rows2, next2, heads2, tr2, rfl, hk1, hk2, hR2, hto, rfl⟩ := hv
  refine W.eq (g2 := F0 m 23 ls [.int (nI r)]) rfl ?_
  exact RET (w1 := (t0, .inr (2, [.ref h0, v1, v2, v3, v4, v5])) :: wRec cI h0 ar2 an2 ah2 at_ nl2 hc2 n2 rows2 next2 heads2 tr2) hW ⟨r, n2, nl2, hc2, ar2, an2, ah2, rows2, next2, heads2, tr2, rfl, by omega, by omega, hR2, hto, rfl⟩ d_Tri_changed_23
abbrev rm_rclear (nl hc : Nat) : Room := { frames := 4, cells := 3, slots := 18 * nl + 4 * hc, locals := 90 }
set_option maxHeartbeats 4000000 in
set_option maxRecDepth 100000 in
/-- Records.clear(): one row, of zeros -/
theorem c_rclear (l : Launch) (D : va_G) (cI cL : ClassId) (h0 ar an ah at_ nl hc : Nat) (c0 : Int32) (rows next heads tr : Nat → Int32) (hNL : NLs nl) (hH : HLs hc) : CT l D cI cL y_Rec_clear (xws y_Rec_clear b_Rec_clear 2 none) (rm_rclear nl hc) [.ref h0] [(h0, .inr (1, [.ref ar, .ref an, .ref ah, .int c0, .ref at_])), (ar, .inl (cI, 8 * nl, .inl rows)), (an, .inl (cI, nl, .inl next)), (ah, .inl (cI, hc, .inl heads)), (at_, .inl (cI, 8, .inl tr))] (fun v k z w1 => ∃ (nl2 hc2 ar2 an2 ah2 : Nat) (rows2 next2 heads2 tr2 : Nat → Int32), v = none ∧ k + nl + hc ≤ nl2 + hc2 ∧ z + 18 * nl + 2 * hc ≤ 18 * nl2 + 2 * hc2 ∧ RI rows2 next2 heads2 1 nl2 hc2 ∧ (∀ i, i < 8 → rows2 i = 0) ∧ w1 = wRec cI h0 ar2 an2 ah2 at_ nl2 hc2 1 rows2 next2 heads2 tr2) := by
  refine CT.ofV (own := R_Rec) (cc := b_Rec_clear) (nL := 2) (by decide) rfl (Nat.le_of_ble_eq_true rfl) ?_
  intro p e s m args below meth c A Q ls hM hl hW hnm RET
  have hx := hM.1
  have hb := hM.2.1
  have hl : lv_has ls 2 [(0, .ref h0)] := hl
  have hW : xW D A s.heap [(h0, .inr (1, [.ref ar, .ref an, .ref ah, .int c0, .ref at_])), (ar, .inl (cI, 8 * nl, .inl rows)), (an, .inl (cI, nl, .inl next)), (ah, .inl (cI, hc, .inl heads)), (at_, .inl (cI, 8, .inl tr))] s.heap [] := hW
  have hh := hH.le
  have hnn := hNL.le
  refine lv_aload_n hx hb d_Rec_clear_0 rfl (lv_at hl 0 rfl) ?_
  refine lv_iconst (v := nI 0) hx hb d_Rec_clear_1 (by decide) ?_
  refine pf_Rec_22 hM hW 0 rfl (Nat.le_of_ble_eq_true rfl) d_Rec_clear_2 (fun H locs hW => ?_)
  have hW : xW D A s.heap [(h0, .inr (1, [.ref ar, .ref an, .ref ah, .int (nI 0), .ref at_])), (ar, .inl (cI, 8 * nl, .inl rows)), (an, .inl (cI, nl, .inl next)), (ah, .inl (cI, hc, .inl heads)), (at_, .inl (cI, 8, .inl tr))] H locs := hW
  refine lv_iconst (v := nI 0) hx hb d_Rec_clear_5 (by decide) ?_
  refine lv_istore_n (lv' := [(1, .int (nI 0)), (0, .ref h0)]) hx hb d_Rec_clear_6 rfl hl (by decide) rfl (fun ls hl => ?_)
  have hl : lv_has ls 2 [(0, .ref h0), (1, .int (nI 0))] := lv_sub hl [1, 0] rfl
  suffices loop : ∀ (k i : Nat) (hd : Nat → Int32) (ls : Array Slot) (H : Heap) (locs : List Loc), hc - i = k → i ≤ hc → (∀ j, j < i → hd j = -1) → lv_has ls 2 [(0, .ref h0), (1, .int (nI i))] → xW D A s.heap [(h0, .inr (1, [.ref ar, .ref an, .ref ah, .int (nI 0), .ref at_])), (ar, .inl (cI, 8 * nl, .inl rows)), (an, .inl (cI, nl, .inl next)), (ah, .inl (cI, hc, .inl hd)), (at_, .inl (cI, 8, .inl tr))] H locs → W p l e (rm_rclear nl hc) s m args below meth c H locs 0 0 Q (F0 m 7 ls []) from
    loop _ 0 _ ls H locs rfl (Nat.zero_le _) (fun j hj => absurd hj (Nat.not_lt_zero _)) hl hW
  intro k
  induction k using Nat.strongRecOn with | ind k ih => ?_
  intro i hd ls H locs hk hi hg hl hW
  refine lv_iload_n hx hb d_Rec_clear_7 rfl (lv_at hl 1 rfl) ?_
  refine lv_aload_n hx hb d_Rec_clear_8 rfl (lv_at hl 0 rfl) ?_
  refine gf_Rec_16 hM hW.1 0 rfl rfl d_Rec_clear_9 ?_
  refine xn_alen hM hW.1 3 rfl d_Rec_clear_12 ?_
  refine xn_ge (tgt := 29) hx hb (by omega) (by omega) d_Rec_clear_13 (by decide) (fun hge => ?_) (fun hlt => ?_)
  · have he : i = hc := by omega
    rw [he] at hg
    refine lv_iconst (v := nI 0) hx hb d_Rec_clear_29 (by decide) ?_
    refine lv_istore_n (lv' := [(1, .int (nI 0)), (0, .ref h0)]) hx hb d_Rec_clear_30 rfl hl (by decide) rfl (fun ls hl => ?_)
    have hl : lv_has ls 2 [(0, .ref h0), (1, .int (nI 0))] := lv_sub hl [1, 0] rfl
    suffices loop2 : ∀ (k i : Nat) (t2 : Nat → Int32) (ls : Array Slot) (H : Heap) (locs : List Loc), 8 - i = k → i ≤ 8 → (∀ j, j < i → t2 j = 0) → lv_has ls 2 [(0, .ref h0), (1, .int (nI i))] → xW D A s.heap [(h0, .inr (1, [.ref ar, .ref an, .ref ah, .int (nI 0), .ref at_])), (ar, .inl (cI, 8 * nl, .inl rows)), (an, .inl (cI, nl, .inl next)), (ah, .inl (cI, hc, .inl hd)), (at_, .inl (cI, 8, .inl t2))] H locs → W p l e (rm_rclear nl hc) s m args below meth c H locs 0 0 Q (F0 m 31 ls []) from
      loop2 _ 0 _ ls H locs rfl (Nat.zero_le _) (fun j hj => absurd hj (Nat.not_lt_zero _)) hl hW
    intro k2
    induction k2 using Nat.strongRecOn with | ind k2 ih2 => ?_
    intro i t2 ls H locs hk2 hi2 hg2 hl hW
    refine lv_iload_n hx hb d_Rec_clear_31 rfl (lv_at hl 1 rfl) ?_
    refine lv_bipush (v := nI 8) hx hb d_Rec_clear_32 (by decide) ?_
    refine xn_ge (tgt := 50) hx hb (by omega) (by omega) d_Rec_clear_34 (by decide) (fun hge2 => ?_) (fun hlt2 => ?_)
    · refine lv_aload_n hx hb d_Rec_clear_50 rfl (lv_at hl 0 rfl) ?_
      refine x_callVT (rest := []) hM (c_intern l D cI cL h0 ar an ah at_ nl hc 0 rows next hd t2 ⟨Nat.zero_le _, hNL, hH, Nat.zero_le _, ⟨fun s hs => hg s hs, fun r hr => absurd hr (Nat.not_lt_zero _)⟩, fun a b hab hb => absurd hb (Nat.not_lt_zero _)⟩ (by omega)) cb_Rec_intern cv_Rec_26 ⟨Nat.le_of_ble_eq_true rfl, Nat.le_of_ble_eq_true rfl⟩ ⟨by show 0 + 3 ≤ 3; omega, by show 0 + (18 * nl + 4 * hc) ≤ 18 * nl + 4 * hc; omega⟩ hW [0, 1, 2, 3, 4] [] (by decide) rfl (wr := []) rfl (by decide) (by decide) 0 rfl rfl rfl hl.1 rfl (Nat.le_of_ble_eq_true rfl) d_Rec_clear_51 (fun v k z w1 H locs hv hW => ?_)
      obtain ⟨r, n2, nl2, hc2, ar2, an2, ah2, rows2, next2, heads2, rfl, hk1, hk2, hR2, ⟨ht1, ht2, ht3, ht4⟩, rfl⟩ := hv
      refine W.eq (g2 := F0 m 54 ls [.int (nI r)]) rfl ?_
      have hn1 : n2 = 1 ∧ r = 0 := by omega
      obtain ⟨rfl, rfl⟩ := hn1
      refine lv_pop hx hb d_Rec_clear_54 rfl ?_
      refine RET (w1 := wRec cI h0 ar2 an2 ah2 at_ nl2 hc2 1 rows2 next2 heads2 t2) hW ⟨nl2, hc2, ar2, an2, ah2, rows2, next2, heads2, t2, rfl, by omega, by omega, hR2, fun i hi => ?_, rfl⟩ d_Rec_clear_55
      have h := ht3 i hi
      rw [Nat.mul_zero, Nat.zero_add] at h
      rw [h]; exact hg2 i (by omega)
    · refine lv_aload_n hx hb d_Rec_clear_37 rfl (lv_at hl 0 rfl) ?_
      refine gf_Rec_19 hM hW.1 0 rfl rfl d_Rec_clear_38 ?_
      refine lv_iload_n hx hb d_Rec_clear_41 rfl (lv_at hl 1 rfl) ?_
      refine lv_iconst (v := nI 0) hx hb d_Rec_clear_42 (by decide) ?_
      refine xn_iast hM hW 4 rfl (by omega) (by omega) d_Rec_clear_43 (fun H locs hW => ?_)
      have hW : xW D A s.heap [(h0, .inr (1, [.ref ar, .ref an, .ref ah, .int (nI 0), .ref at_])), (ar, .inl (cI, 8 * nl, .inl rows)), (an, .inl (cI, nl, .inl next)), (ah, .inl (cI, hc, .inl hd)), (at_, .inl (cI, 8, .inl (upd t2 i (nI 0))))] H locs := hW
      refine lv_iinc (lv' := [(1, .int (nI (i + 1))), (0, .ref h0)]) (v := nI (i + 1)) hx hb d_Rec_clear_44 hl (k := 1) rfl (nI_inc i) (by decide) rfl (fun ls hl => ?_)
      refine lv_goto (tgt := 31) hx hb d_Rec_clear_47 (by decide) ?_
      have hl : lv_has ls 2 [(0, .ref h0), (1, .int (nI (i + 1)))] := lv_sub hl [1, 0] rfl
      refine ih2 (8 - (i + 1)) (by omega) (i + 1) _ ls H locs rfl (by omega) (fun j hj => ?_) hl hW
      by_cases h : j = i
      · subst h; exact pk_us
      · rw [pk_un h]; exact hg2 j (by omega)
  · refine lv_aload_n hx hb d_Rec_clear_16 rfl (lv_at hl 0 rfl) ?_
    refine gf_Rec_16 hM hW.1 0 rfl rfl d_Rec_clear_17 ?_
    refine lv_iload_n hx hb d_Rec_clear_20 rfl (lv_at hl 1 rfl) ?_
    refine lv_iconst (v := -1) hx hb d_Rec_clear_21 (by decide) ?_
    refine xn_iast hM hW 3 rfl (by omega) (by omega) d_Rec_clear_22 (fun H locs hW => ?_)
    have hW : xW D A s.heap [(h0, .inr (1, [.ref ar, .ref an, .ref ah, .int (nI 0), .ref at_])), (ar, .inl (cI, 8 * nl, .inl rows)), (an, .inl (cI, nl, .inl next)), (ah, .inl (cI, hc, .inl (upd hd i (-1)))), (at_, .inl (cI, 8, .inl tr))] H locs := hW
    refine lv_iinc (lv' := [(1, .int (nI (i + 1))), (0, .ref h0)]) (v := nI (i + 1)) hx hb d_Rec_clear_23 hl (k := 1) rfl (nI_inc i) (by decide) rfl (fun ls hl => ?_)
    refine lv_goto (tgt := 7) hx hb d_Rec_clear_26 (by decide) ?_
    have hl : lv_has ls 2 [(0, .ref h0), (1, .int (nI (i + 1)))] := lv_sub hl [1, 0] rfl
    refine ih (hc - (i + 1)) (by omega) (i + 1) _ ls H locs rfl (by omega) (fun j hj => ?_) hl hW
    by_cases h : j = i
    · subst h; exact pk_us
    · rw [pk_un h]; exact hg j (by omega)
abbrev rm_rinit : Room := { frames := 1, cells := 4, slots := 840, locals := 12 }
set_option maxHeartbeats 4000000 in
set_option maxRecDepth 100000 in
/-- new Records -/
theorem c_rinit (l : Launch) (D : va_G) (cI cL : ClassId) (h0 : Nat) : CT l D cI cL y_Rec_init (xws y_Rec_init b_Rec_init 1 none) rm_rinit [.ref h0] [(h0, .inr (1, [.null, .null, .null, .int 0, .null]))] (fun v k z w1 => v = none ∧ k = 4 ∧ z = 840 ∧ ∃ ar an ah at_ : Nat, w1 = [(h0, .inr (1, [.ref ar, .ref an, .ref ah, .int 0, .ref at_])), (ar, .inl (cI, 8 * 64, .inl (fun _ => 0))), (an, .inl (cI, 64, .inl (fun _ => 0))), (ah, .inl (cI, 256, .inl (fun _ => 0))), (at_, .inl (cI, 8, .inl (fun _ => 0)))]) := by
  refine CT.ofV (own := R_Rec) (cc := b_Rec_init) (nL := 1) (by decide) rfl (Nat.le_of_ble_eq_true rfl) ?_
  intro p e s m args below meth c A Q ls hM hl hW hnm RET
  have hx := hM.1
  have hb := hM.2.1
  have hl : lv_has ls 1 [(0, .ref h0)] := hl
  refine lv_aload_n hx hb d_Rec_init_0 rfl (lv_at hl 0 rfl) ?_
  refine oi_Rec hM hl.1 d_Rec_init_1 (Nat.le_of_ble_eq_true rfl) (Nat.le_of_ble_eq_true rfl) ?_
  refine lv_aload_n hx hb d_Rec_init_4 rfl (lv_at hl 0 rfl) ?_
  refine lv_sipush (v := nI 512) hx hb d_Rec_init_5 (by decide) ?_
  refine xn_newI hM hW (by decide) (Nat.le_of_ble_eq_true rfl) (Nat.le_of_ble_eq_true rfl) d_Rec_init_8 (fun ar H locs hW => ?_)
  have hW : xW D A s.heap [(h0, .inr (1, [.null, .null, .null, .int 0, .null])), (ar, .inl (cI, 512, .inl (fun _ => 0)))] H locs := hW
  refine pf_Rec_9 hM hW 0 rfl (Nat.le_of_ble_eq_true rfl) d_Rec_init_10 (fun H locs hW => ?_)
  have hW : xW D A s.heap [(h0, .inr (1, [.ref ar, .null, .null, .int 0, .null])), (ar, .inl (cI, 512, .inl (fun _ => 0)))] H locs := hW
  refine lv_aload_n hx hb d_Rec_init_13 rfl (lv_at hl 0 rfl) ?_
  refine lv_bipush (v := nI 64) hx hb d_Rec_init_14 (by decide) ?_
  refine xn_newI hM hW (by decide) (Nat.le_of_ble_eq_true rfl) (Nat.le_of_ble_eq_true rfl) d_Rec_init_16 (fun an H locs hW => ?_)
  have hW : xW D A s.heap [(h0, .inr (1, [.ref ar, .null, .null, .int 0, .null])), (ar, .inl (cI, 512, .inl (fun _ => 0))), (an, .inl (cI, 64, .inl (fun _ => 0)))] H locs := hW
  refine pf_Rec_13 hM hW 0 rfl (Nat.le_of_ble_eq_true rfl) d_Rec_init_18 (fun H locs hW => ?_)
  have hW : xW D A s.heap [(h0, .inr (1, [.ref ar, .ref an, .null, .int 0, .null])), (ar, .inl (cI, 512, .inl (fun _ => 0))), (an, .inl (cI, 64, .inl (fun _ => 0)))] H locs := hW
  refine lv_aload_n hx hb d_Rec_init_21 rfl (lv_at hl 0 rfl) ?_
  refine lv_sipush (v := nI 256) hx hb d_Rec_init_22 (by decide) ?_
  refine xn_newI hM hW (by decide) (Nat.le_of_ble_eq_true rfl) (Nat.le_of_ble_eq_true rfl) d_Rec_init_25 (fun ah H locs hW => ?_)
  have hW : xW D A s.heap [(h0, .inr (1, [.ref ar, .ref an, .null, .int 0, .null])), (ar, .inl (cI, 512, .inl (fun _ => 0))), (an, .inl (cI, 64, .inl (fun _ => 0))), (ah, .inl (cI, 256, .inl (fun _ => 0)))] H locs := hW
  refine pf_Rec_16 hM hW 0 rfl (Nat.le_of_ble_eq_true rfl) d_Rec_init_27 (fun H locs hW => ?_)
  have hW : xW D A s.heap [(h0, .inr (1, [.ref ar, .ref an, .ref ah, .int 0, .null])), (ar, .inl (cI, 512, .inl (fun _ => 0))), (an, .inl (cI, 64, .inl (fun _ => 0))), (ah, .inl (cI, 256, .inl (fun _ => 0)))] H locs := hW
  refine lv_aload_n hx hb d_Rec_init_30 rfl (lv_at hl 0 rfl) ?_
  refine lv_bipush (v := nI 8) hx hb d_Rec_init_31 (by decide) ?_
  refine xn_newI hM hW (by decide) (Nat.le_of_ble_eq_true rfl) (Nat.le_of_ble_eq_true rfl) d_Rec_init_33 (fun at_ H locs hW => ?_)
  have hW : xW D A s.heap [(h0, .inr (1, [.ref ar, .ref an, .ref ah, .int 0, .null])), (ar, .inl (cI, 512, .inl (fun _ => 0))), (an, .inl (cI, 64, .inl (fun _ => 0))), (ah, .inl (cI, 256, .inl (fun _ => 0))), (at_, .inl (cI, 8, .inl (fun _ => 0)))] H locs := hW
  refine pf_Rec_19 hM hW hnm 0 rfl (Nat.le_of_ble_eq_true rfl) d_Rec_init_35 (fun H locs hW => ?_)
  have hW : xW D A s.heap [(h0, .inr (1, [.ref ar, .ref an, .ref ah, .int 0, .ref at_])), (ar, .inl (cI, 512, .inl (fun _ => 0))), (an, .inl (cI, 64, .inl (fun _ => 0))), (ah, .inl (cI, 256, .inl (fun _ => 0))), (at_, .inl (cI, 8, .inl (fun _ => 0)))] H locs := hW
  exact RET hW ⟨rfl, rfl, rfl, ar, an, ah, at_, rfl⟩ d_Rec_init_38
end
section
/-! RECORDS.keep, plain -/
def Kp (mk : Nat → Int32) (i : Nat) : Prop := i = 0 ∨ ¬ mk i < 0
/-- what has become of the rows and the marks: src a is where row a came from -/
def KeepTo (rows : Nat → Int32) (n : Nat) (mk : Nat → Int32) (n2 : Nat) (rows2 mk2 : Nat → Int32) (src : Nat → Nat) : Prop := n2 ≤ n ∧ (∀ a, a < n2 → src a < n ∧ Kp mk (src a) ∧ Same rows (src a) rows2 a ∧ mk2 (src a) = nI a) ∧ (∀ a b, a < b → b < n2 → src a < src b) ∧ ∀ i, i < n → Kp mk i → ∃ a, a < n2 ∧ src a = i
def KI (rows mk : Nat → Int32) (n i m : Nat) (rw2 mc : Nat → Int32) (src : Nat → Nat) : Prop := m ≤ i ∧ i ≤ n ∧ (∀ a, a < m → src a < i ∧ Kp mk (src a) ∧ Same rows (src a) rw2 a ∧ mc (src a) = nI a) ∧ (∀ a b, a < b → b < m → src a < src b) ∧ (∀ j, j < i → Kp mk j → ∃ a, a < m ∧ src a = j) ∧ (∀ j, i ≤ j → j < n → Same rows j rw2 j) ∧ ∀ j, i ≤ j → mc j = mk j
theorem KI.skip {rows mk : Nat → Int32} {n i m : Nat} {rw2 mc : Nat → Int32} {src : Nat → Nat} (h : KI rows mk n i m rw2 mc src) (hi : i < n) (hk : ¬ Kp mk i) : KI rows mk n (i + 1) m rw2 mc src := by
  obtain ⟨h1, h2, h3, h4, h5, h6, h7⟩ := h
  refine ⟨by omega, by omega, fun a ha => ?_, h4, fun j hj hkj => ?_, fun j hj => h6 j (by omega), fun j hj => h7 j (by omega)⟩
  · obtain ⟨q1, q2⟩ := h3 a ha
    exact ⟨by omega, q2⟩
  · by_cases e : j = i
    · subst e; exact absurd hkj hk
    · exact h5 j (by omega) hkj
theorem KI.keep {rows mk : Nat → Int32} {n i m : Nat} {rw2 r2 mc : Nat → Int32} {src : Nat → Nat} (h : KI rows mk n i m rw2 mc src) (hi : i < n) (hk : Kp mk i) (hr : ∀ x, x < 8 → r2 (8 * m + x) = rw2 (8 * i + x)) (ho : ∀ y, y < 8 * m ∨ 8 * m + 8 ≤ y → r2 y = rw2 y) : KI rows mk n (i + 1) (m + 1) r2 (upd mc i (nI m)) (fun a => if a = m then i else src a) := by
  obtain ⟨h1, h2, h3, h4, h5, h6, h7⟩ := h
  refine ⟨by omega, by omega, fun a ha => ?_, fun a b hab hb => ?_, fun j hj hkj => ?_, fun j hj hjn x hx => ?_, fun j hj => ?_⟩
  · by_cases e : a = m
    · subst e
      simp only [if_true]
      exact ⟨by omega, hk, fun x hx => by rw [hr x hx]; exact h6 i (Nat.le_refl _) hi x hx, pk_us⟩
    · simp only [if_neg e]
      obtain ⟨q1, q2, q3, q4⟩ := h3 a (by omega)
      exact ⟨by omega, q2, fun x hx => by rw [ho _ (Or.inl (by omega))]; exact q3 x hx, by rw [pk_un (by omega)]; exact q4⟩
  · by_cases e : b = m
    · subst e
      simp only [if_true, if_neg (show ¬ a = b by omega)]
      exact (h3 a hab).1
    · simp only [if_neg e, if_neg (show ¬ a = m by omega)]
      exact h4 a b hab (by omega)
  · by_cases e : j = i
    · exact ⟨m, by omega, by simp only [if_true]; exact e.symm⟩
    · obtain ⟨a, q1, q2⟩ := h5 j (by omega) hkj
      exact ⟨a, by omega, by simp only [if_neg (show ¬ a = m by omega)]; exact q2⟩
  · rw [ho _ (Or.inr (by omega))]; exact h6 j (by omega) hjn x hx
  · rw [pk_un (by omega)]; exact h7 j (by omega)
theorem KeepTo.apart {rows mk rows2 mk2 : Nat → Int32} {n n2 : Nat} {src : Nat → Nat} (h : KeepTo rows n mk n2 rows2 mk2 src) (hA : Apart rows n) : Apart rows2 n2 := fun a b hab hb q => by
  obtain ⟨h1, h2, h3, -⟩ := h
  obtain ⟨-, -, q3, -⟩ := h2 a (by omega)
  obtain ⟨p1, -, p3, -⟩ := h2 b hb
  exact hA (src a) (src b) (h3 a b hab hb) p1 ((q3.tr q).tr p3.sy)
end
section
abbrev rm_keep : Room := { frames := 2, cells := 0, slots := 0, locals := 46 }
set_option maxHeartbeats 4000000 in
set_option maxRecDepth 100000 in
/-- keep(marks): the rows that are marked stay, and the first one -/
theorem c_keep (l : Launch) (D : va_G) (cI cL : ClassId) (h0 ar an ah am nl hc ml n : Nat) (v4 : Value) (rows next heads mk : Nat → Int32) (hn : n ≤ nl) (hnl : nl ≤ 8192) (hH : HLs hc) (hml : n ≤ ml) (hm2 : ml < 2 ^ 31) : CT l D cI cL y_Rec_keep (xws y_Rec_keep b_Rec_keep 5 none) rm_keep [.ref h0, .ref am] [(h0, .inr (1, [.ref ar, .ref an, .ref ah, .int (nI n), v4])), (ar, .inl (cI, 8 * nl, .inl rows)), (an, .inl (cI, nl, .inl next)), (ah, .inl (cI, hc, .inl heads)), (am, .inl (cI, ml, .inl mk))] (fun v k z w1 => v = none ∧ k = 0 ∧ z = 0 ∧ ∃ (n2 : Nat) (rows2 next2 heads2 mk2 : Nat → Int32) (src : Nat → Nat), Linked rows2 next2 heads2 n2 hc ∧ KeepTo rows n mk n2 rows2 mk2 src ∧ w1 = [(h0, .inr (1, [.ref ar, .ref an, .ref ah, .int (nI n2), v4])), (ar, .inl (cI, 8 * nl, .inl rows2)), (an, .inl (cI, nl, .inl next2)), (ah, .inl (cI, hc, .inl heads2)), (am, .inl (cI, ml, .inl mk2))]) := by
  refine CT.ofV (own := R_Rec) (cc := b_Rec_keep) (nL := 5) (by decide) rfl (Nat.le_of_ble_eq_true rfl) ?_
  intro p e s m args below meth c A Q ls hM hl hW hnm RET
  have hx := hM.1
  have hb := hM.2.1
  have hl : lv_has ls 5 [(0, .ref h0), (1, .ref am)] := hl
  refine lv_iconst (v := nI 0) hx hb d_Rec_keep_0 (by decide) ?_
  refine lv_istore_n (lv' := [(2, .int (nI 0)), (0, .ref h0), (1, .ref am)]) hx hb d_Rec_keep_1 rfl hl (by decide) rfl (fun ls hl => ?_)
  refine lv_iconst (v := nI 0) hx hb d_Rec_keep_2 (by decide) ?_
  refine lv_istore_n (lv' := [(3, .int (nI 0)), (2, .int (nI 0)), (0, .ref h0), (1, .ref am)]) hx hb d_Rec_keep_3 rfl hl (by decide) rfl (fun ls hl => ?_)
  have hl : lv_has ls 5 [(0, .ref h0), (1, .ref am), (2, .int (nI 0)), (3, .int (nI 0))] := lv_sub hl [2, 3, 1, 0] rfl
  suffices loop : ∀ (k i q : Nat) (rw2 mc : Nat → Int32) (src : Nat → Nat) (ls : Array Slot) (H : Heap) (locs : List Loc), n - i = k → KI rows mk n i q rw2 mc src → lv_has ls 5 [(0, .ref h0), (1, .ref am), (2, .int (nI q)), (3, .int (nI i))] → xW D A s.heap [(h0, .inr (1, [.ref ar, .ref an, .ref ah, .int (nI n), v4])), (ar, .inl (cI, 8 * nl, .inl rw2)), (an, .inl (cI, nl, .inl next)), (ah, .inl (cI, hc, .inl heads)), (am, .inl (cI, ml, .inl mc))] H locs → W p l e rm_keep s m args below meth c H locs 0 0 Q (F0 m 4 ls []) from
    loop _ 0 0 rows mk (fun a => a) ls s.heap [] rfl ⟨Nat.le_refl _, Nat.zero_le _, fun a ha => absurd ha (Nat.not_lt_zero _), fun a b _ hb => absurd hb (Nat.not_lt_zero _), fun j hj => absurd hj (Nat.not_lt_zero _), fun _ _ _ => Same.rf, fun _ _ => rfl⟩ hl hW
  intro k
  induction k using Nat.strongRecOn with | ind k ih => ?_
  intro i q rw2 mc src ls H locs hk hK hl hW
  have hq := hK.1
  have hi := hK.2.1
  have kp : Kp mk i → i < n → W p l e rm_keep s m args below meth c H locs 0 0 Q (F0 m 25 ls []) := by
    intro hki hin
    refine lv_iconst (v := nI 0) hx hb d_Rec_keep_25 (by decide) ?_
    refine lv_istore (lv' := [(4, .int (nI 0)), (0, .ref h0), (1, .ref am), (2, .int (nI q)), (3, .int (nI i))]) hx hb d_Rec_keep_26 hl (by decide) rfl (fun ls hl => ?_)
    have hl : lv_has ls 5 [(0, .ref h0), (1, .ref am), (2, .int (nI q)), (3, .int (nI i)), (4, .int (nI 0))] := lv_sub hl [1, 2, 3, 4, 0] rfl
    suffices inner : ∀ (k f : Nat) (r2 : Nat → Int32) (ls : Array Slot) (H : Heap) (locs : List Loc), 8 - f = k → f ≤ 8 → (∀ x, x < f → r2 (8 * q + x) = rw2 (8 * i + x)) → (∀ y, y < 8 * q ∨ 8 * q + f ≤ y → r2 y = rw2 y) → lv_has ls 5 [(0, .ref h0), (1, .ref am), (2, .int (nI q)), (3, .int (nI i)), (4, .int (nI f))] → xW D A s.heap [(h0, .inr (1, [.ref ar, .ref an, .ref ah, .int (nI n), v4])), (ar, .inl (cI, 8 * nl, .inl r2)), (an, .inl (cI, nl, .inl next)), (ah, .inl (cI, hc, .inl heads)), (am, .inl (cI, ml, .inl mc))] H locs → W p l e rm_keep s m args below meth c H locs 0 0 Q (F0 m 28 ls []) from
      inner _ 0 rw2 ls H locs rfl (Nat.zero_le _) (fun x hx => absurd hx (Nat.not_lt_zero _)) (fun _ _ => rfl) hl hW
    intro k2
    induction k2 using Nat.strongRecOn with | ind k2 ih2 => ?_
    intro f r2 ls H locs hk2 hf hg1 hg2 hl hW
    refine lv_iload hx hb d_Rec_keep_28 (lv_at hl 4 rfl) ?_
    refine lv_bipush (v := nI 8) hx hb d_Rec_keep_30 (by decide) ?_
    refine xn_ge (tgt := 65) hx hb (by omega) (by omega) d_Rec_keep_32 (by decide) (fun hge => ?_) (fun hlt => ?_)
    · have hf8 : f = 8 := by omega
      rw [hf8] at hg1 hg2
      refine lv_aload_n hx hb d_Rec_keep_65 rfl (lv_at hl 1 rfl) ?_
      refine lv_iload_n hx hb d_Rec_keep_66 rfl (lv_at hl 3 rfl) ?_
      refine lv_iload_n hx hb d_Rec_keep_67 rfl (lv_at hl 2 rfl) ?_
      refine xn_iast hM hW 4 rfl (by omega) (by omega) d_Rec_keep_68 (fun H locs hW => ?_)
      have hW : xW D A s.heap [(h0, .inr (1, [.ref ar, .ref an, .ref ah, .int (nI n), v4])), (ar, .inl (cI, 8 * nl, .inl r2)), (an, .inl (cI, nl, .inl next)), (ah, .inl (cI, hc, .inl heads)), (am, .inl (cI, ml, .inl (upd mc i (nI q))))] H locs := hW
      refine lv_iinc (lv' := [(2, .int (nI (q + 1))), (0, .ref h0), (1, .ref am), (3, .int (nI i)), (4, .int (nI f))]) (v := nI (q + 1)) hx hb d_Rec_keep_69 hl (k := 2) rfl (nI_inc q) (by decide) rfl (fun ls hl => ?_)
      refine lv_iinc (lv' := [(3, .int (nI (i + 1))), (2, .int (nI (q + 1))), (0, .ref h0), (1, .ref am), (4, .int (nI f))]) (v := nI (i + 1)) hx hb d_Rec_keep_72 hl (k := 3) rfl (nI_inc i) (by decide) rfl (fun ls hl => ?_)
      refine lv_goto (tgt := 4) hx hb d_Rec_keep_75 (by decide) ?_
      have hl : lv_has ls 5 [(0, .ref h0), (1, .ref am), (2, .int (nI (q + 1))), (3, .int (nI (i + 1)))] := lv_sub hl [2, 3, 1, 0] rfl
      exact ih (n - (i + 1)) (by omega) (i + 1) (q + 1) _ _ _ ls H locs rfl (hK.keep hin hki hg1 hg2) hl hW
    · refine lv_aload_n hx hb d_Rec_keep_35 rfl (lv_at hl 0 rfl) ?_
      refine gf_Rec_9 hM hW.1 0 rfl rfl d_Rec_keep_36 ?_
      refine lv_bipush (v := nI 8) hx hb d_Rec_keep_39 (by decide) ?_
      refine lv_iload_n hx hb d_Rec_keep_41 rfl (lv_at hl 2 rfl) ?_
      refine xn_imul hx hb d_Rec_keep_42 ?_
      refine lv_iload hx hb d_Rec_keep_43 (lv_at hl 4 rfl) ?_
      refine xn_iadd hx hb d_Rec_keep_45 ?_
      refine lv_aload_n hx hb d_Rec_keep_46 rfl (lv_at hl 0 rfl) ?_
      refine gf_Rec_9 hM hW.1 0 rfl rfl d_Rec_keep_47 ?_
      refine lv_bipush (v := nI 8) hx hb d_Rec_keep_50 (by decide) ?_
      refine lv_iload_n hx hb d_Rec_keep_52 rfl (lv_at hl 3 rfl) ?_
      refine xn_imul hx hb d_Rec_keep_53 ?_
      refine lv_iload hx hb d_Rec_keep_54 (lv_at hl 4 rfl) ?_
      refine xn_iadd hx hb d_Rec_keep_56 ?_
      refine xn_iald hM hW.1 1 rfl (by omega) (by omega) d_Rec_keep_57 ?_
      refine xn_top (show r2 ((8 * i) + f) = rw2 (8 * i + f) from hg2 _ (Or.inr (by omega))) ?_
      refine xn_iast hM hW 1 rfl (by omega) (by omega) d_Rec_keep_58 (fun H locs hW => ?_)
      have hW : xW D A s.heap [(h0, .inr (1, [.ref ar, .ref an, .ref ah, .int (nI n), v4])), (ar, .inl (cI, 8 * nl, .inl (upd r2 ((8 * q) + f) (rw2 (8 * i + f))))), (an, .inl (cI, nl, .inl next)), (ah, .inl (cI, hc, .inl heads)), (am, .inl (cI, ml, .inl mc))] H locs := hW
      refine lv_iinc (lv' := [(4, .int (nI (f + 1))), (0, .ref h0), (1, .ref am), (2, .int (nI q)), (3, .int (nI i))]) (v := nI (f + 1)) hx hb d_Rec_keep_59 hl (k := 4) rfl (nI_inc f) (by decide) rfl (fun ls hl => ?_)
      refine lv_goto (tgt := 28) hx hb d_Rec_keep_62 (by decide) ?_
      have hl : lv_has ls 5 [(0, .ref h0), (1, .ref am), (2, .int (nI q)), (3, .int (nI i)), (4, .int (nI (f + 1)))] := lv_sub hl [1, 2, 3, 4, 0] rfl
      refine ih2 (8 - (f + 1)) (by omega) (f + 1) _ ls H locs rfl (by omega) (fun x hx => ?_) (fun y hy => ?_) hl hW
      · by_cases h : x = f
        · subst h; exact pk_us
        · rw [pk_un (by omega)]; exact hg1 x (by omega)
      · rw [pk_un (by omega)]; exact hg2 y (by omega)
  refine lv_iload_n hx hb d_Rec_keep_4 rfl (lv_at hl 3 rfl) ?_
  refine lv_aload_n hx hb d_Rec_keep_5 rfl (lv_at hl 0 rfl) ?_
  refine gf_Rec_22 hM hW.1 0 rfl rfl d_Rec_keep_6 ?_
  refine xn_ge (tgt := 78) hx hb (by omega) (by omega) d_Rec_keep_9 (by decide) (fun hge => ?_) (fun hlt => ?_)
  · refine lv_aload_n hx hb d_Rec_keep_78 rfl (lv_at hl 0 rfl) ?_
    refine lv_iload_n hx hb d_Rec_keep_79 rfl (lv_at hl 2 rfl) ?_
    refine pf_Rec_22 hM hW 0 rfl (Nat.le_of_ble_eq_true rfl) d_Rec_keep_80 (fun H locs hW => ?_)
    have hW : xW D A s.heap [(h0, .inr (1, [.ref ar, .ref an, .ref ah, .int (nI q), v4])), (ar, .inl (cI, 8 * nl, .inl rw2)), (an, .inl (cI, nl, .inl next)), (ah, .inl (cI, hc, .inl heads)), (am, .inl (cI, ml, .inl mc))] H locs := hW
    refine lv_aload_n hx hb d_Rec_keep_83 rfl (lv_at hl 0 rfl) ?_
    refine x_callVT (rest := []) hM (c_link l D cI cL h0 ar an ah nl hc q v4 rw2 next heads (by omega) hnl hH) cb_Rec_link cv_Rec_30 ⟨Nat.le_of_ble_eq_true rfl, Nat.le_of_ble_eq_true rfl⟩ ⟨Nat.le_of_ble_eq_true rfl, Nat.le_of_ble_eq_true rfl⟩ hW [0, 1, 2, 3] [4] (by decide) rfl (wr := [(am, .inl (cI, ml, .inl mc))]) rfl (by decide) (by decide) 0 rfl rfl rfl hl.1 rfl (Nat.le_of_ble_eq_true rfl) d_Rec_keep_84 (fun v k z w1 H locs hv hW => ?_)
    obtain ⟨rfl, rfl, rfl, nx, hd, hL, rfl⟩ := hv
    have hW : xW D A s.heap [(h0, .inr (1, [.ref ar, .ref an, .ref ah, .int (nI q), v4])), (ar, .inl (cI, 8 * nl, .inl rw2)), (an, .inl (cI, nl, .inl nx)), (ah, .inl (cI, hc, .inl hd)), (am, .inl (cI, ml, .inl mc))] H locs := hW.sub [1, 2, 3, 4, 0] (by decide) rfl
    have hin : i = n := by omega
    obtain ⟨h1, h2, h3, h4, h5, h6, h7⟩ := hK
    rw [hin] at h3 h5
    refine W.eq (g2 := F0 m 87 ls []) rfl ?_
    exact RET hW ⟨rfl, rfl, rfl, q, rw2, nx, hd, mc, src, hL, ⟨by omega, h3, h4, h5⟩, rfl⟩ d_Rec_keep_87
  · refine lv_iload_n hx hb d_Rec_keep_12 rfl (lv_at hl 3 rfl) ?_
    refine xn_ifle (tgt := 25) hx hb (by omega) d_Rec_keep_13 (by decide) (fun h0_ => ?_) (fun hpos => ?_)
    · exact kp (Or.inl h0_) hlt
    · refine lv_aload_n hx hb d_Rec_keep_16 rfl (lv_at hl 1 rfl) ?_
      refine lv_iload_n hx hb d_Rec_keep_17 rfl (lv_at hl 3 rfl) ?_
      refine xn_iald hM hW.1 4 rfl (by omega) (by omega) d_Rec_keep_18 ?_
      refine lv_if_ge (tgt := 25) hx hb d_Rec_keep_19 (by decide) (fun hge2 => ?_) (fun hlt2 => ?_)
      · refine kp (Or.inr fun h => ?_) hlt
        rw [hK.2.2.2.2.2.2 i (Nat.le_refl _)] at hge2
        exact absurd hge2 (by rw [Int32.not_le]; exact h)
      · have hnk : ¬ Kp mk i := fun h => by
          rcases h with h | h
          · omega
          · rw [hK.2.2.2.2.2.2 i (Nat.le_refl _)] at hlt2
            exact hlt2 (by rw [← Int32.not_lt]; exact h)
        refine lv_goto (tgt := 72) hx hb d_Rec_keep_22 (by decide) ?_
        refine lv_iinc (lv' := [(3, .int (nI (i + 1))), (0, .ref h0), (1, .ref am), (2, .int (nI q))]) (v := nI (i + 1)) hx hb d_Rec_keep_72 hl (k := 3) rfl (nI_inc i) (by decide) rfl (fun ls hl => ?_)
        refine lv_goto (tgt := 4) hx hb d_Rec_keep_75 (by decide) ?_
        have hl : lv_has ls 5 [(0, .ref h0), (1, .ref am), (2, .int (nI q)), (3, .int (nI (i + 1)))] := lv_sub hl [1, 2, 3, 0] rfl
        exact ih (n - (i + 1)) (by omega) (i + 1) q _ _ _ ls H locs rfl (hK.skip hlt hnk) hl hW
end
section
/-! TRIE, plain -/
/-- numbers that differ have different partners in a list: they are no more than the list is long -/
theorem pigeon {α : Type} {R : Nat → α → Prop} (inj : ∀ j j' t, R j t → R j' t → j = j') : ∀ (js : List Nat) (L : List α), js.Nodup → (∀ j ∈ js, ∃ t ∈ L, R j t) → js.length ≤ L.length
  | [], L, _, _ => Nat.zero_le _
  | j :: js, L, hn, h => by
    obtain ⟨t, ht, hR⟩ := h j List.mem_cons_self
    obtain ⟨L1, L2, rfl⟩ := List.append_of_mem ht
    have hn' := List.nodup_cons.mp hn
    have ih := pigeon inj js (L1 ++ L2) hn'.2 (fun j' hj' => by
      obtain ⟨t', ht', hR'⟩ := h j' (List.mem_cons_of_mem _ hj')
      refine ⟨t', ?_, hR'⟩
      rcases List.mem_append.mp ht' with q | q
      · exact List.mem_append_left _ q
      · rcases List.mem_cons.mp q with q | q
        · subst q
          exact absurd (inj _ _ _ hR hR' ▸ hj') hn'.1
        · exact List.mem_append_right _ q)
    simp only [List.length_append, List.length_cons] at ih ⊢
    omega
theorem pigeon_n {α : Type} {R : Nat → α → Prop} (n0 n : Nat) (L : List α) (inj : ∀ j j' t, n0 ≤ j → j < n → n0 ≤ j' → j' < n → R j t → R j' t → j = j') (h : ∀ j, n0 ≤ j → j < n → ∃ t ∈ L, R j t) : n ≤ n0 + L.length := by
  have := pigeon (R := fun j t => n0 ≤ j ∧ j < n ∧ R j t) (fun j j' t h1 h2 => inj j j' t h1.1 h1.2.1 h2.1 h2.2.1 h1.2.2 h2.2.2) (List.range' n0 (n - n0)) L (List.nodup_range' ..) (fun j hj => by
    rw [List.mem_range'_1] at hj
    obtain ⟨t, ht, hR⟩ := h j hj.1 (by omega)
    exact ⟨t, ht, hj.1, by omega, hR⟩)
  rw [List.length_range'] at this
  omega
/-- what the index holds of block k -/
def ng (k : Nat) : Int32 := -1 - nI k
theorem i_ss (a b : Int32) : a - (a - b) = b := by
  rw [Int32.sub_eq_add_neg a (a - b), Int32.sub_eq_add_neg a b, Int32.neg_add, Int32.sub_eq_add_neg (-a) (-b), Int32.neg_neg, ← Int32.add_assoc, Int32.add_right_neg, Int32.zero_add]
theorem ng_sub (k : Nat) : (-1 : Int32) - ng k = nI k := i_ss _ _
theorem ng_eq (k : Nat) : ng k = nI 0 - nI (k + 1) := by
  unfold ng
  rw [Int32.sub_eq_add_neg, Int32.sub_eq_add_neg, nI_0, nI_succ, Int32.neg_add, Int32.zero_add, Int32.add_comm, Int32.sub_eq_add_neg]
theorem ng_neg {k : Nat} (h : k < 2 ^ 29) : ng k < 0 := by
  rw [ng_eq, Int32.lt_iff_toInt_lt, pk_sub_toInt (by omega) (by omega), Int32.toInt_zero]
  omega
theorem ng_inj {k k' : Nat} (h : k < 2 ^ 29) (h' : k' < 2 ^ 29) (e : ng k = ng k') : k = k' := by
  have := congrArg (fun z => (-1 : Int32) - z) e
  simp only [ng_sub] at this
  exact (nI_eq (by omega) (by omega)).mp this
theorem ng_ne {k r : Nat} (h : k < 2 ^ 29) (hr : r < 2 ^ 31) : ng k ≠ nI r := fun e => nI_pos hr (e ▸ ng_neg h)
/-- the record of point p -/
def rp (ix bk : Nat → Int32) (p : Nat) : Int32 := if ix (p / 256) < 0 then bk (256 * (-1 - ix (p / 256)).toNatClampNeg + p % 256) else ix (p / 256)
theorem rp_pos {ix bk : Nat → Int32} {p r : Nat} (h : ix (p / 256) = nI r) (hr : r < 2 ^ 31) : rp ix bk p = nI r := by
  unfold rp; rw [h, if_neg (nI_pos hr)]
theorem rp_neg {ix bk : Nat → Int32} {p k : Nat} (h : ix (p / 256) = ng k) (hk : k < 2 ^ 29) : rp ix bk p = bk (256 * k + p % 256) := by
  unfold rp; rw [h, if_pos (ng_neg hk), ng_sub, nI_clamp (by omega)]
def BLs (x : Nat) : Prop := x = 4096 ∨ x = 8192 ∨ x = 16384 ∨ x = 32768 ∨ x = 65536 ∨ x = 131072 ∨ x = 262144 ∨ x = 524288 ∨ x = 1048576 ∨ x = 2097152
theorem BLs.le {x : Nat} (h : BLs x) : 4096 ≤ x ∧ x ≤ 2097152 := by rcases h with rfl | rfl | rfl | rfl | rfl | rfl | rfl | rfl | rfl | rfl <;> decide
theorem BLs.twice {x : Nat} (h : BLs x) (h2 : x < 2097152) : BLs (2 * x) := by
  unfold BLs at h ⊢
  omega
/-- index and blocks as they should be, over n records -/
def TI (ix bk : Nat → Int32) (used bl n : Nat) : Prop := 256 * used ≤ bl ∧ BLs bl ∧ n ≤ 8192 ∧ (∀ b, b < 4352 → (∃ r, r < n ∧ ix b = nI r) ∨ ∃ k, k < used ∧ ix b = ng k) ∧ (∀ q, q < 256 * used → ∃ r, r < n ∧ bk q = nI r) ∧ (∀ b d k, b < 4352 → d < 4352 → k < used → ix b = ng k → ix d = ng k → b = d) ∧ ∀ k, k < used → ∃ b, b < 4352 ∧ ix b = ng k
theorem TI.used {ix bk : Nat → Int32} {used bl n : Nat} (h : TI ix bk used bl n) : used ≤ 8192 := by
  have := h.1; have := h.2.1.le; omega
theorem TI.pt {ix bk : Nat → Int32} {used bl n p : Nat} (h : TI ix bk used bl n) (hp : p < 1114112) : ∃ r, r < n ∧ rp ix bk p = nI r := by
  have hu := h.used
  obtain ⟨-, -, hn, h4, h5, -, -⟩ := h
  rcases h4 (p / 256) (by omega) with ⟨r, hr, e⟩ | ⟨k, hk, e⟩
  · exact ⟨r, hr, rp_pos e (by omega)⟩
  · obtain ⟨r, hr, e2⟩ := h5 (256 * k + p % 256) (by omega)
    exact ⟨r, hr, (rp_neg e (by omega)).trans e2⟩
theorem TI.mono {ix bk : Nat → Int32} {used bl n n2 : Nat} (h : TI ix bk used bl n) (hn : n ≤ n2) (h2 : n2 ≤ 8192) : TI ix bk used bl n2 := by
  obtain ⟨h1, hb, -, h4, h5, h6, h7⟩ := h
  refine ⟨h1, hb, h2, fun b hb => ?_, fun q hq => ?_, h6, h7⟩
  · rcases h4 b hb with ⟨r, hr, e⟩ | q
    · exact Or.inl ⟨r, by omega, e⟩
    · exact Or.inr q
  · obtain ⟨r, hr, e⟩ := h5 q hq
    exact ⟨r, by omega, e⟩
/-- there is room for one more block while some place of the index holds a record -/
theorem TI.room {ix bk : Nat → Int32} {used bl n b r : Nat} (h : TI ix bk used bl n) (hb : b < 4352) (e : ix b = nI r) (hr : r < 2 ^ 31) : used < 4352 := by
  have hu := h.used
  obtain ⟨-, -, -, -, -, h6, h7⟩ := h
  have := pigeon_n (R := fun k d => d < 4352 ∧ ((k < used ∧ ix d = ng k) ∨ (k = used ∧ d = b))) 0 (used + 1) (List.range 4352) (fun j j' t _ hj _ hj' h1 h2 => by
    rcases h1.2 with ⟨q1, q2⟩ | ⟨q1, q2⟩ <;> rcases h2.2 with ⟨p1, p2⟩ | ⟨p1, p2⟩
    · exact ng_inj (by omega) (by omega) (q2.symm.trans p2)
    · subst p2; exact absurd (q2.symm.trans e) (ng_ne (by omega) hr)
    · subst q2; exact absurd (p2.symm.trans e) (ng_ne (by omega) hr)
    · omega) (fun k _ hk => by
    by_cases hku : k = used
    · exact ⟨b, List.mem_range.mpr hb, hb, Or.inr ⟨hku, rfl⟩⟩
    · obtain ⟨d, hd, ed⟩ := h7 k (by omega)
      exact ⟨d, List.mem_range.mpr hd, hd, Or.inl ⟨by omega, ed⟩⟩)
  rw [List.length_range] at this
  omega
theorem TI.own {ix bk bk2 : Nat → Int32} {used bl bl2 n b x : Nat} (h : TI ix bk used bl n) (hb : b < 4352) (e : ix b = nI x) (hx : x < n) (h1 : ∀ q, q < 256 * used → bk2 q = bk q) (h2 : ∀ i, i < 256 → bk2 (256 * used + i) = nI x) (hbl : 256 * used + 256 ≤ bl2) (hB : BLs bl2) : TI (upd ix b (ng used)) bk2 (used + 1) bl2 n ∧ ∀ p, p < 1114112 → rp (upd ix b (ng used)) bk2 p = rp ix bk p := by
  have hu := h.used
  obtain ⟨g1, g2, g3, g4, g5, g6, g7⟩ := h
  refine ⟨⟨by omega, hB, g3, fun d hd => ?_, fun q hq => ?_, fun d f k hd hf hk e1 e2 => ?_, fun k hk => ?_⟩, fun p hp => ?_⟩
  · by_cases hdb : d = b
    · subst hdb; exact Or.inr ⟨used, by omega, pk_us⟩
    · rw [pk_un hdb]
      rcases g4 d hd with q | ⟨k, hk, ek⟩
      · exact Or.inl q
      · exact Or.inr ⟨k, by omega, ek⟩
  · by_cases hq2 : q < 256 * used
    · rw [h1 q hq2]; exact g5 q hq2
    · have := h2 (q - 256 * used) (by omega)
      rw [show 256 * used + (q - 256 * used) = q by omega] at this
      exact ⟨x, hx, this⟩
  · by_cases hdb : d = b <;> by_cases hfb : f = b
    · omega
    · subst hdb
      rw [pk_us] at e1
      have hku := ng_inj (by omega) (by omega) e1
      rw [pk_un hfb] at e2
      rcases g4 f hf with ⟨r, hr, er⟩ | ⟨k', hk', ek'⟩
      · exact absurd (e2.symm.trans er) (ng_ne (by omega) (by omega))
      · have := ng_inj (by omega) (by omega) (ek'.symm.trans e2); omega
    · subst hfb
      rw [pk_us] at e2
      have hku := ng_inj (by omega) (by omega) e2
      rw [pk_un hdb] at e1
      rcases g4 d hd with ⟨r, hr, er⟩ | ⟨k', hk', ek'⟩
      · exact absurd (e1.symm.trans er) (ng_ne (by omega) (by omega))
      · have := ng_inj (by omega) (by omega) (ek'.symm.trans e1); omega
    · rw [pk_un hdb] at e1
      rw [pk_un hfb] at e2
      by_cases hku : k = used
      · subst hku
        rcases g4 d hd with ⟨r, hr, er⟩ | ⟨k', hk', ek'⟩
        · exact absurd (e1.symm.trans er) (ng_ne (by omega) (by omega))
        · have := ng_inj (by omega) (by omega) (ek'.symm.trans e1); omega
      · exact g6 d f k hd hf (by omega) e1 e2
  · by_cases hku : k = used
    · subst hku; exact ⟨b, hb, pk_us⟩
    · obtain ⟨d, hd, ed⟩ := g7 k (by omega)
      refine ⟨d, hd, ?_⟩
      rw [pk_un (fun q => by subst q; exact absurd (ed.symm.trans e) (ng_ne (by omega) (by omega)))]
      exact ed
  · by_cases hpb : p / 256 = b
    · rw [rp_neg (k := used) (by rw [hpb]; exact pk_us) (by omega), rp_pos (r := x) (by rw [hpb]; exact e) (by omega)]
      exact h2 _ (by omega)
    · rcases g4 (p / 256) (by omega) with ⟨r, hr, er⟩ | ⟨k', hk', ek'⟩
      · rw [rp_pos (r := r) (by rw [pk_un hpb]; exact er) (by omega), rp_pos er (by omega)]
      · rw [rp_neg (k := k') (by rw [pk_un hpb]; exact ek') (by omega), rp_neg ek' (by omega)]
        exact h1 _ (by omega)
theorem TI.setB {ix bk : Nat → Int32} {used bl n n2 p k r : Nat} (h : TI ix bk used bl n) (hn : n ≤ n2) (hn2 : n2 ≤ 8192) (hp : p < 1114112) (hk : k < used) (e : ix (p / 256) = ng k) (hr : r < n2) : TI ix (upd bk (256 * k + p % 256) (nI r)) used bl n2 ∧ ∀ q, q < 1114112 → rp ix (upd bk (256 * k + p % 256) (nI r)) q = if q = p then nI r else rp ix bk q := by
  have hu := h.used
  obtain ⟨g1, g2, g3, g4, g5, g6, g7⟩ := h.mono hn hn2
  refine ⟨⟨g1, g2, g3, g4, fun q hq => ?_, g6, g7⟩, fun q hq => ?_⟩
  · by_cases hqe : q = 256 * k + p % 256
    · rw [hqe, pk_us]; exact ⟨r, hr, rfl⟩
    · rw [pk_un hqe]; exact g5 q hq
  · by_cases hqp : q = p
    · subst hqp
      rw [rp_neg e (by omega), pk_us, if_pos rfl]
    · rw [if_neg hqp]
      rcases g4 (q / 256) (by omega) with ⟨r', hr', er⟩ | ⟨k', hk', ek'⟩
      · rw [rp_pos er (by omega), rp_pos er (by omega)]
      · rw [rp_neg ek' (by omega), rp_neg ek' (by omega)]
        refine pk_un fun heq => hqp ?_
        have hkk : k' = k := by omega
        subst hkk
        have := g6 (q / 256) (p / 256) k' (by omega) (by omega) hk ek' e
        omega
theorem TI.setI {ix bk : Nat → Int32} {used bl n n2 b r0 r : Nat} (h : TI ix bk used bl n) (hn : n ≤ n2) (hn2 : n2 ≤ 8192) (hb : b < 4352) (e : ix b = nI r0) (hr0 : r0 < n) (hr : r < n2) : TI (upd ix b (nI r)) bk used bl n2 ∧ ∀ q, q < 1114112 → rp (upd ix b (nI r)) bk q = if q / 256 = b then nI r else rp ix bk q := by
  have hu := h.used
  obtain ⟨g1, g2, g3, g4, g5, g6, g7⟩ := h.mono hn hn2
  refine ⟨⟨g1, g2, g3, fun d hd => ?_, g5, fun d f k hd hf hk e1 e2 => ?_, fun k hk => ?_⟩, fun q hq => ?_⟩
  · by_cases hdb : d = b
    · subst hdb; exact Or.inl ⟨r, hr, pk_us⟩
    · rw [pk_un hdb]; exact g4 d hd
  · by_cases hdb : d = b
    · subst hdb; rw [pk_us] at e1; exact absurd e1.symm (ng_ne (by omega) (by omega))
    · by_cases hfb : f = b
      · subst hfb; rw [pk_us] at e2; exact absurd e2.symm (ng_ne (by omega) (by omega))
      · rw [pk_un hdb] at e1
        rw [pk_un hfb] at e2
        exact g6 d f k hd hf hk e1 e2
  · obtain ⟨d, hd, ed⟩ := g7 k hk
    refine ⟨d, hd, ?_⟩
    rw [pk_un (fun q => by subst q; exact absurd (ed.symm.trans e) (ng_ne (by omega) (by omega)))]
    exact ed
  · by_cases hqb : q / 256 = b
    · rw [if_pos hqb]
      exact rp_pos (by rw [hqb]; exact pk_us) (by omega)
    · rw [if_neg hqb]
      rcases g4 (q / 256) (by omega) with ⟨r', hr', er⟩ | ⟨k', hk', ek'⟩
      · rw [rp_pos (r := r') (by rw [pk_un hqb]; exact er) (by omega), rp_pos er (by omega)]
      · rw [rp_neg (k := k') (by rw [pk_un hqb]; exact ek') (by omega), rp_neg ek' (by omega)]
end
section
abbrev rm_tinit : Room := { frames := 1, cells := 3, slots := 12544, locals := 12 }
set_option maxHeartbeats 4000000 in
set_option maxRecDepth 100000 in
/-- new Trie -/
theorem c_tinit (l : Launch) (D : va_G) (cI cL : ClassId) (t0 hr : Nat) : CT l D cI cL y_Tri_init (xws y_Tri_init b_Tri_init 2 none) rm_tinit [.ref t0, .ref hr] [(t0, .inr (2, [.null, .null, .null, .int 0, .null, .int 0]))] (fun v k z w1 => v = none ∧ k = 3 ∧ z = 12544 ∧ ∃ ai ab am : Nat, w1 = [(t0, .inr (2, [.ref hr, .ref ai, .ref ab, .int 0, .ref am, .int (nI 4096)])), (ai, .inl (cI, 4352, .inl (fun _ => 0))), (ab, .inl (cI, 4096, .inl (fun _ => 0))), (am, .inl (cI, 4096, .inl (fun _ => 0)))]) := by
  refine CT.ofV (own := R_Tri) (cc := b_Tri_init) (nL := 2) (by decide) rfl (Nat.le_of_ble_eq_true rfl) ?_
  intro p e s m args below meth c A Q ls hM hl hW hnm RET
  have hx := hM.1
  have hb := hM.2.1
  have hl : lv_has ls 2 [(0, .ref t0), (1, .ref hr)] := hl
  refine lv_aload_n hx hb d_Tri_init_0 rfl (lv_at hl 0 rfl) ?_
  refine oi_Tri hM hl.1 d_Tri_init_1 (Nat.le_of_ble_eq_true rfl) (Nat.le_of_ble_eq_true rfl) ?_
  refine lv_aload_n hx hb d_Tri_init_4 rfl (lv_at hl 0 rfl) ?_
  refine lv_sipush (v := nI 4352) hx hb d_Tri_init_5 (by decide) ?_
  refine xn_newI hM hW (by decide) (Nat.le_of_ble_eq_true rfl) (Nat.le_of_ble_eq_true rfl) d_Tri_init_8 (fun ai H locs hW => ?_)
  have hW : xW D A s.heap [(t0, .inr (2, [.null, .null, .null, .int 0, .null, .int 0])), (ai, .inl (cI, 4352, .inl (fun _ => 0)))] H locs := hW
  refine pf_Tri_11 hM hW hnm 0 rfl (Nat.le_of_ble_eq_true rfl) d_Tri_init_10 (fun H locs hW => ?_)
  have hW : xW D A s.heap [(t0, .inr (2, [.null, .ref ai, .null, .int 0, .null, .int 0])), (ai, .inl (cI, 4352, .inl (fun _ => 0)))] H locs := hW
  refine lv_aload_n hx hb d_Tri_init_13 rfl (lv_at hl 0 rfl) ?_
  refine lv_sipush (v := nI 4096) hx hb d_Tri_init_14 (by decide) ?_
  refine xn_newI hM hW (by decide) (Nat.le_of_ble_eq_true rfl) (Nat.le_of_ble_eq_true rfl) d_Tri_init_17 (fun ab H locs hW => ?_)
  have hW : xW D A s.heap [(t0, .inr (2, [.null, .ref ai, .null, .int 0, .null, .int 0])), (ai, .inl (cI, 4352, .inl (fun _ => 0))), (ab, .inl (cI, 4096, .inl (fun _ => 0)))] H locs := hW
  refine pf_Tri_15 hM hW 0 rfl (Nat.le_of_ble_eq_true rfl) d_Tri_init_19 (fun H locs hW => ?_)
  have hW : xW D A s.heap [(t0, .inr (2, [.null, .ref ai, .ref ab, .int 0, .null, .int 0])), (ai, .inl (cI, 4352, .inl (fun _ => 0))), (ab, .inl (cI, 4096, .inl (fun _ => 0)))] H locs := hW
  refine lv_aload_n hx hb d_Tri_init_22 rfl (lv_at hl 0 rfl) ?_
  refine lv_sipush (v := nI 4096) hx hb d_Tri_init_23 (by decide) ?_
  refine xn_newI hM hW (by decide) (Nat.le_of_ble_eq_true rfl) (Nat.le_of_ble_eq_true rfl) d_Tri_init_26 (fun am H locs hW => ?_)
  have hW : xW D A s.heap [(t0, .inr (2, [.null, .ref ai, .ref ab, .int 0, .null, .int 0])), (ai, .inl (cI, 4352, .inl (fun _ => 0))), (ab, .inl (cI, 4096, .inl (fun _ => 0))), (am, .inl (cI, 4096, .inl (fun _ => 0)))] H locs := hW
  refine pf_Tri_18 hM hW 0 rfl (Nat.le_of_ble_eq_true rfl) d_Tri_init_28 (fun H locs hW => ?_)
  have hW : xW D A s.heap [(t0, .inr (2, [.null, .ref ai, .ref ab, .int 0, .ref am, .int 0])), (ai, .inl (cI, 4352, .inl (fun _ => 0))), (ab, .inl (cI, 4096, .inl (fun _ => 0))), (am, .inl (cI, 4096, .inl (fun _ => 0)))] H locs := hW
  refine lv_aload_n hx hb d_Tri_init_31 rfl (lv_at hl 0 rfl) ?_
  refine lv_sipush (v := nI 4096) hx hb d_Tri_init_32 (by decide) ?_
  refine pf_Tri_21 hM hW 0 rfl (Nat.le_of_ble_eq_true rfl) d_Tri_init_35 (fun H locs hW => ?_)
  have hW : xW D A s.heap [(t0, .inr (2, [.null, .ref ai, .ref ab, .int 0, .ref am, .int (nI 4096)])), (ai, .inl (cI, 4352, .inl (fun _ => 0))), (ab, .inl (cI, 4096, .inl (fun _ => 0))), (am, .inl (cI, 4096, .inl (fun _ => 0)))] H locs := hW
  refine lv_aload_n hx hb d_Tri_init_38 rfl (lv_at hl 0 rfl) ?_
  refine lv_aload_n hx hb d_Tri_init_39 rfl (lv_at hl 1 rfl) ?_
  refine pf_Tri_25 hM hW hnm 0 rfl (Nat.le_of_ble_eq_true rfl) d_Tri_init_40 (fun H locs hW => ?_)
  have hW : xW D A s.heap [(t0, .inr (2, [.ref hr, .ref ai, .ref ab, .int 0, .ref am, .int (nI 4096)])), (ai, .inl (cI, 4352, .inl (fun _ => 0))), (ab, .inl (cI, 4096, .inl (fun _ => 0))), (am, .inl (cI, 4096, .inl (fun _ => 0)))] H locs := hW
  exact RET hW ⟨rfl, rfl, rfl, ai, ab, am, rfl⟩ d_Tri_init_43
set_option maxHeartbeats 4000000 in
set_option maxRecDepth 100000 in
/-- Trie.clear() -/
theorem c_tclear (l : Launch) (D : va_G) (cI cL : ClassId) (t0 ai : Nat) (u : Int32) (v0 v2 v4 v5 : Value) (ix : Nat → Int32) : CT l D cI cL y_Tri_clear (xws y_Tri_clear b_Tri_clear 2 none) rm_0 [.ref t0] [(t0, .inr (2, [v0, .ref ai, v2, .int u, v4, v5])), (ai, .inl (cI, 4352, .inl ix))] (fun v k z w1 => v = none ∧ k = 0 ∧ z = 0 ∧ ∃ ix2 : Nat → Int32, (∀ b, b < 4352 → ix2 b = nI 0) ∧ w1 = [(t0, .inr (2, [v0, .ref ai, v2, .int (nI 0), v4, v5])), (ai, .inl (cI, 4352, .inl ix2))]) := by
  refine CT.ofV (own := R_Tri) (cc := b_Tri_clear) (nL := 2) (by decide) rfl (Nat.le_of_ble_eq_true rfl) ?_
  intro p e s m args below meth c A Q ls hM hl hW hnm RET
  have hx := hM.1
  have hb := hM.2.1
  have hl : lv_has ls 2 [(0, .ref t0)] := hl
  refine lv_aload_n hx hb d_Tri_clear_0 rfl (lv_at hl 0 rfl) ?_
  refine lv_iconst (v := nI 0) hx hb d_Tri_clear_1 (by decide) ?_
  refine pf_Tri_29 hM hW 0 rfl (Nat.le_of_ble_eq_true rfl) d_Tri_clear_2 (fun H locs hW => ?_)
  have hW : xW D A s.heap [(t0, .inr (2, [v0, .ref ai, v2, .int (nI 0), v4, v5])), (ai, .inl (cI, 4352, .inl ix))] H locs := hW
  refine lv_iconst (v := nI 0) hx hb d_Tri_clear_5 (by decide) ?_
  refine lv_istore_n (lv' := [(1, .int (nI 0)), (0, .ref t0)]) hx hb d_Tri_clear_6 rfl hl (by decide) rfl (fun ls hl => ?_)
  have hl : lv_has ls 2 [(0, .ref t0), (1, .int (nI 0))] := lv_sub hl [1, 0] rfl
  suffices loop : ∀ (k i : Nat) (ix2 : Nat → Int32) (ls : Array Slot) (H : Heap) (locs : List Loc), 4352 - i = k → i ≤ 4352 → (∀ j, j < i → ix2 j = nI 0) → lv_has ls 2 [(0, .ref t0), (1, .int (nI i))] → xW D A s.heap [(t0, .inr (2, [v0, .ref ai, v2, .int (nI 0), v4, v5])), (ai, .inl (cI, 4352, .inl ix2))] H locs → W p l e rm_0 s m args below meth c H locs 0 0 Q (F0 m 7 ls []) from
    loop _ 0 _ ls H locs rfl (Nat.zero_le _) (fun j hj => absurd hj (Nat.not_lt_zero _)) hl hW
  intro k
  induction k using Nat.strongRecOn with | ind k ih => ?_
  intro i ix2 ls H locs hk hi hg hl hW
  refine lv_iload_n hx hb d_Tri_clear_7 rfl (lv_at hl 1 rfl) ?_
  refine lv_aload_n hx hb d_Tri_clear_8 rfl (lv_at hl 0 rfl) ?_
  refine gf_Tri_11 hM hW.1 0 rfl rfl d_Tri_clear_9 ?_
  refine xn_alen hM hW.1 1 rfl d_Tri_clear_12 ?_
  refine xn_ge (tgt := 29) hx hb (by omega) (by omega) d_Tri_clear_13 (by decide) (fun hge => ?_) (fun hlt => ?_)
  · exact RET hW ⟨rfl, rfl, rfl, ix2, fun b hb => hg b (by omega), rfl⟩ d_Tri_clear_29
  · refine lv_aload_n hx hb d_Tri_clear_16 rfl (lv_at hl 0 rfl) ?_
    refine gf_Tri_11 hM hW.1 0 rfl rfl d_Tri_clear_17 ?_
    refine lv_iload_n hx hb d_Tri_clear_20 rfl (lv_at hl 1 rfl) ?_
    refine lv_iconst (v := nI 0) hx hb d_Tri_clear_21 (by decide) ?_
    refine xn_iast hM hW 1 rfl (by omega) (by omega) d_Tri_clear_22 (fun H locs hW => ?_)
    have hW : xW D A s.heap [(t0, .inr (2, [v0, .ref ai, v2, .int (nI 0), v4, v5])), (ai, .inl (cI, 4352, .inl (upd ix2 i (nI 0))))] H locs := hW
    refine lv_iinc (lv' := [(1, .int (nI (i + 1))), (0, .ref t0)]) (v := nI (i + 1)) hx hb d_Tri_clear_23 hl (k := 1) rfl (nI_inc i) (by decide) rfl (fun ls hl => ?_)
    refine lv_goto (tgt := 7) hx hb d_Tri_clear_26 (by decide) ?_
    have hl : lv_has ls 2 [(0, .ref t0), (1, .int (nI (i + 1)))] := lv_sub hl [1, 0] rfl
    refine ih (4352 - (i + 1)) (by omega) (i + 1) _ ls H locs rfl (by omega) (fun j hj => ?_) hl hW
    by_cases h : j = i
    · subst h; exact pk_us
    · rw [pk_un h]; exact hg j (by omega)
set_option maxHeartbeats 4000000 in
set_option maxRecDepth 100000 in
/-- record(p) -/
theorem c_record (l : Launch) (D : va_G) (cI cL : ClassId) (t0 ai ab bl used n pt : Nat) (v0 v3 v4 v5 : Value) (ix bk : Nat → Int32) (hT : TI ix bk used bl n) (hp : pt < 1114112) : CP l D cI cL y_Tri_record (xws y_Tri_record b_Tri_record 3 (some .int)) rm_0 [.ref t0, .int (nI pt)] [(t0, .inr (2, [v0, .ref ai, .ref ab, v3, v4, v5])), (ai, .inl (cI, 4352, .inl ix)), (ab, .inl (cI, bl, .inl bk))] (fun v => v = some (.int (rp ix bk pt))) := by
  refine CP.ofI (own := R_Tri) (cc := b_Tri_record) (nL := 3) (by decide) rfl (Nat.le_of_ble_eq_true rfl) ?_
  intro p e s m args below meth c Q ls hM hl hP RET
  have hx := hM.1
  have hb := hM.2.1
  have hl : lv_has ls 3 [(0, .ref t0), (1, .int (nI pt))] := hl
  have hu := hT.used
  obtain ⟨g1, g2, g3, g4, g5, g6, g7⟩ := hT
  have hbl := g2.le
  refine lv_aload_n hx hb d_Tri_record_0 rfl (lv_at hl 0 rfl) ?_
  refine gf_Tri_11 hM hP 0 rfl rfl d_Tri_record_1 ?_
  refine lv_iload_n hx hb d_Tri_record_4 rfl (lv_at hl 1 rfl) ?_
  refine lv_bipush (v := nI 8) hx hb d_Tri_record_5 (by decide) ?_
  refine xn_shr8 hx hb (by omega) d_Tri_record_7 ?_
  refine xn_iald hM hP 1 rfl (by omega) (by omega) d_Tri_record_8 ?_
  refine lv_istore_n (lv' := [(2, .int (ix (pt / 256))), (0, .ref t0), (1, .int (nI pt))]) hx hb d_Tri_record_9 rfl hl (by decide) rfl (fun ls hl => ?_)
  refine lv_iload_n hx hb d_Tri_record_10 rfl (lv_at hl 0 rfl) ?_
  refine lv_if_lt (tgt := 18) hx hb d_Tri_record_11 (by decide) (fun hlt => ?_) (fun hge => ?_)
  · obtain ⟨k, hk, ek⟩ : ∃ k, k < used ∧ ix (pt / 256) = ng k := by
      rcases g4 (pt / 256) (by omega) with ⟨r, hr, er⟩ | q
      · rw [er] at hlt; exact absurd hlt (nI_pos (by omega))
      · exact q
    rw [ek] at hl
    refine lv_aload_n hx hb d_Tri_record_18 rfl (lv_at hl 1 rfl) ?_
    refine gf_Tri_15 hM hP 0 rfl rfl d_Tri_record_19 ?_
    refine lv_sipush (v := nI 256) hx hb d_Tri_record_22 (by decide) ?_
    refine lv_iconst (v := -1) hx hb d_Tri_record_25 (by decide) ?_
    refine lv_iload_n hx hb d_Tri_record_26 rfl (lv_at hl 0 rfl) ?_
    refine lv_isub hx hb d_Tri_record_27 ?_
    refine xn_top (show (-1) - (ng k) = nI k from ng_sub k) ?_
    refine xn_imul hx hb d_Tri_record_28 ?_
    refine lv_iload_n hx hb d_Tri_record_29 rfl (lv_at hl 2 rfl) ?_
    refine lv_sipush (v := nI 255) hx hb d_Tri_record_30 (by decide) ?_
    refine xn_and255 hx hb (by omega) d_Tri_record_33 ?_
    refine xn_iadd hx hb d_Tri_record_34 ?_
    refine xn_iald hM hP 2 rfl (by omega) (by omega) d_Tri_record_35 ?_
    exact RET (by rw [rp_neg ek (by omega)]) d_Tri_record_36
  · refine lv_iload_n hx hb d_Tri_record_14 rfl (lv_at hl 0 rfl) ?_
    refine lv_goto (tgt := 36) hx hb d_Tri_record_15 (by decide) ?_
    refine RET ?_ d_Tri_record_36
    unfold rp
    rw [if_neg hge]
abbrev rm_get : Room := { frames := 1, cells := 0, slots := 0, locals := 22 }
set_option maxHeartbeats 4000000 in
set_option maxRecDepth 100000 in
/-- Trie.get(p, field) -/
theorem c_tget (l : Launch) (D : va_G) (cI cL : ClassId) (t0 ai ab h0 ar bl used n nl pt fd : Nat) (v3 v4 v5 u1 u2 u3 u4 : Value) (ix bk rows : Nat → Int32) (hT : TI ix bk used bl n) (hp : pt < 1114112) (hn : n ≤ nl) (hnl : nl ≤ 8192) (hfd : fd < 8) : CP l D cI cL y_Tri_get (xws y_Tri_get b_Tri_get 3 (some .int)) rm_get [.ref t0, .int (nI pt), .int (nI fd)] [(t0, .inr (2, [.ref h0, .ref ai, .ref ab, v3, v4, v5])), (ai, .inl (cI, 4352, .inl ix)), (ab, .inl (cI, bl, .inl bk)), (h0, .inr (1, [.ref ar, u1, u2, u3, u4])), (ar, .inl (cI, 8 * nl, .inl rows))] (fun v => v = some (.int (rows (8 * (rp ix bk pt).toNatClampNeg + fd)))) := by
  refine CP.ofI (own := R_Tri) (cc := b_Tri_get) (nL := 3) (by decide) rfl (Nat.le_of_ble_eq_true rfl) ?_
  intro p e s m args below meth c Q ls hM hl hP RET
  have hx := hM.1
  have hb := hM.2.1
  have hl : lv_has ls 3 [(0, .ref t0), (1, .int (nI pt)), (2, .int (nI fd))] := hl
  have hT3 := hT.2.2.1
  obtain ⟨rc, hrc, erc⟩ := hT.pt hp
  refine lv_aload_n hx hb d_Tri_get_0 rfl (lv_at hl 0 rfl) ?_
  refine gf_Tri_25 hM hP 0 rfl rfl d_Tri_get_1 ?_
  refine lv_aload_n hx hb d_Tri_get_4 rfl (lv_at hl 0 rfl) ?_
  refine lv_iload_n hx hb d_Tri_get_5 rfl (lv_at hl 1 rfl) ?_
  refine x_callVP (rest := [.ref h0]) hM (c_record l D cI cL t0 ai ab bl used n pt (.ref h0) v3 v4 v5 ix bk hT hp) cb_Tri_record cv_Tri_32 ⟨Nat.le_of_ble_eq_true rfl, Nat.le_of_ble_eq_true rfl⟩ ⟨Nat.le_of_ble_eq_true rfl, Nat.le_of_ble_eq_true rfl⟩ hP [0, 1, 2] rfl 0 rfl rfl rfl hl.1 rfl (Nat.le_of_ble_eq_true rfl) d_Tri_get_6 (fun v hv => ?_)
  rw [erc] at hv
  subst hv
  refine W.eq (g2 := F0 m 9 ls [.int (nI rc), .ref h0]) rfl ?_
  refine lv_iload_n hx hb d_Tri_get_9 rfl (lv_at hl 2 rfl) ?_
  refine x_callVP (rest := []) hM (c_field l D cI cL h0 ar nl rc fd u1 u2 u3 u4 rows (by omega) hfd hnl) cb_Rec_field cv_Tri_36 ⟨Nat.le_of_ble_eq_true rfl, Nat.le_of_ble_eq_true rfl⟩ ⟨Nat.le_of_ble_eq_true rfl, Nat.le_of_ble_eq_true rfl⟩ hP [3, 4] rfl 3 rfl rfl rfl hl.1 rfl (Nat.le_of_ble_eq_true rfl) d_Tri_get_10 (fun v hv => ?_)
  subst hv
  refine W.eq (g2 := F0 m 13 ls [.int (rows (8 * rc + fd))]) rfl ?_
  exact RET (by rw [erc, nI_clamp (by omega)]) d_Tri_get_13
abbrev rm_own (bl : Nat) : Room := { frames := 1, cells := 1, slots := 2 * (2097152 - bl), locals := 22 }
set_option maxHeartbeats 4000000 in
set_option maxRecDepth 100000 in
/-- own(b): block b of the points has a block of its own, found or made -/
theorem c_own (l : Launch) (D : va_G) (cI cL : ClassId) (t0 ai ab bl used n b : Nat) (v0 v4 v5 : Value) (ix bk : Nat → Int32) (hT : TI ix bk used bl n) (hbb : b < 4352) : CT l D cI cL y_Tri_own (xws y_Tri_own b_Tri_own 4 (some .int)) (rm_own bl) [.ref t0, .int (nI b)] [(t0, .inr (2, [v0, .ref ai, .ref ab, .int (nI used), v4, v5])), (ai, .inl (cI, 4352, .inl ix)), (ab, .inl (cI, bl, .inl bk))] (fun v k z w1 => ∃ (q used2 bl2 ab2 : Nat) (ix2 bk2 : Nat → Int32), v = some (.int (nI q)) ∧ 4096 * k + bl ≤ bl2 ∧ z + 2 * bl ≤ 2 * bl2 ∧ TI ix2 bk2 used2 bl2 n ∧ q < used2 ∧ ix2 b = ng q ∧ (∀ p, p < 1114112 → rp ix2 bk2 p = rp ix bk p) ∧ w1 = [(t0, .inr (2, [v0, .ref ai, .ref ab2, .int (nI used2), v4, v5])), (ai, .inl (cI, 4352, .inl ix2)), (ab2, .inl (cI, bl2, .inl bk2))]) := by
  refine CT.ofI (own := R_Tri) (cc := b_Tri_own) (nL := 4) (by decide) rfl (Nat.le_of_ble_eq_true rfl) ?_
  intro p e s m args below meth c A Q ls hM hl hW hnm RET
  have hx := hM.1
  have hb := hM.2.1
  have hl : lv_has ls 4 [(0, .ref t0), (1, .int (nI b))] := hl
  have hu := hT.used
  have hT0 := hT
  obtain ⟨g1, g2, g3, g4, g5, g6, g7⟩ := hT
  have hbl := g2.le
  refine lv_aload_n hx hb d_Tri_own_0 rfl (lv_at hl 0 rfl) ?_
  refine gf_Tri_11 hM hW.1 0 rfl rfl d_Tri_own_1 ?_
  refine lv_iload_n hx hb d_Tri_own_4 rfl (lv_at hl 1 rfl) ?_
  refine xn_iald hM hW.1 1 rfl (by omega) (by omega) d_Tri_own_5 ?_
  refine lv_istore_n (lv' := [(2, .int (ix b)), (0, .ref t0), (1, .int (nI b))]) hx hb d_Tri_own_6 rfl hl (by decide) rfl (fun ls hl => ?_)
  refine lv_iload_n hx hb d_Tri_own_7 rfl (lv_at hl 0 rfl) ?_
  refine lv_if_ge (tgt := 15) hx hb d_Tri_own_8 (by decide) (fun hge => ?_) (fun hlt => ?_)
  · obtain ⟨x, hxn, ex⟩ : ∃ x, x < n ∧ ix b = nI x := by
      rcases g4 b hbb with q | ⟨k, hk, ek⟩
      · exact q
      · rw [ek] at hge; exact absurd (ng_neg (k := k) (by omega)) (by rw [Int32.not_lt]; exact hge)
    rw [ex] at hl
    have hroom := hT0.room hbb ex (by omega)
    have hl : lv_has ls 4 [(0, .ref t0), (1, .int (nI b)), (2, .int (nI x))] := lv_sub hl [1, 2, 0] rfl
    have tail : ∀ (ab2 bl2 cells slots : Nat) (bk2 : Nat → Int32) (ls : Array Slot) (H : Heap) (locs : List Loc), 256 * used + 256 ≤ bl2 → BLs bl2 → 4096 * cells + bl ≤ bl2 → slots + 2 * bl ≤ 2 * bl2 → (∀ q, q < 256 * used → bk2 q = bk q) → lv_has ls 4 [(0, .ref t0), (1, .int (nI b)), (2, .int (nI x))] → xW D A s.heap [(t0, .inr (2, [v0, .ref ai, .ref ab2, .int (nI used), v4, v5])), (ai, .inl (cI, 4352, .inl ix)), (ab2, .inl (cI, bl2, .inl bk2))] H locs → W p l e (rm_own bl) s m args below meth c H locs cells slots Q (F0 m 42 ls []) := by
      intro ab2 bl2 cells slots bk2 ls H locs hb1 hb2 hc1 hc2 hs1 hl hW
      have hb3 := hb2.le
      refine lv_iconst (v := nI 0) hx hb d_Tri_own_42 (by decide) ?_
      refine lv_istore_n (lv' := [(3, .int (nI 0)), (0, .ref t0), (1, .int (nI b)), (2, .int (nI x))]) hx hb d_Tri_own_43 rfl hl (by decide) rfl (fun ls hl => ?_)
      have hl : lv_has ls 4 [(0, .ref t0), (1, .int (nI b)), (2, .int (nI x)), (3, .int (nI 0))] := lv_sub hl [1, 2, 3, 0] rfl
      suffices loop : ∀ (k i : Nat) (bk3 : Nat → Int32) (ls : Array Slot) (H : Heap) (locs : List Loc), 256 - i = k → i ≤ 256 → (∀ q, q < 256 * used → bk3 q = bk q) → (∀ j, j < i → bk3 (256 * used + j) = nI x) → lv_has ls 4 [(0, .ref t0), (1, .int (nI b)), (2, .int (nI x)), (3, .int (nI i))] → xW D A s.heap [(t0, .inr (2, [v0, .ref ai, .ref ab2, .int (nI used), v4, v5])), (ai, .inl (cI, 4352, .inl ix)), (ab2, .inl (cI, bl2, .inl bk3))] H locs → W p l e (rm_own bl) s m args below meth c H locs cells slots Q (F0 m 44 ls []) from
        loop _ 0 _ ls H locs rfl (Nat.zero_le _) hs1 (fun j hj => absurd hj (Nat.not_lt_zero _)) hl hW
      intro k
      induction k using Nat.strongRecOn with | ind k ih => ?_
      intro i bk3 ls H locs hk hi hg1 hg2 hl hW
      refine lv_iload_n hx hb d_Tri_own_44 rfl (lv_at hl 3 rfl) ?_
      refine lv_sipush (v := nI 256) hx hb d_Tri_own_45 (by decide) ?_
      refine xn_ge (tgt := 73) hx hb (by omega) (by omega) d_Tri_own_48 (by decide) (fun hge2 => ?_) (fun hlt2 => ?_)
      · have hi6 : i = 256 := by omega
        rw [hi6] at hg2
        have hown := hT0.own hbb ex hxn hg1 hg2 hb1 hb2
        refine lv_aload_n hx hb d_Tri_own_73 rfl (lv_at hl 0 rfl) ?_
        refine gf_Tri_11 hM hW.1 0 rfl rfl d_Tri_own_74 ?_
        refine lv_iload_n hx hb d_Tri_own_77 rfl (lv_at hl 1 rfl) ?_
        refine lv_iconst (v := -1) hx hb d_Tri_own_78 (by decide) ?_
        refine lv_aload_n hx hb d_Tri_own_79 rfl (lv_at hl 0 rfl) ?_
        refine gf_Tri_29 hM hW.1 0 rfl rfl d_Tri_own_80 ?_
        refine lv_isub hx hb d_Tri_own_83 ?_
        refine xn_top (show (-1) - (nI used) = ng used from rfl) ?_
        refine xn_iast hM hW 1 rfl (by omega) (by omega) d_Tri_own_84 (fun H locs hW => ?_)
        have hW : xW D A s.heap [(t0, .inr (2, [v0, .ref ai, .ref ab2, .int (nI used), v4, v5])), (ai, .inl (cI, 4352, .inl (upd ix b (ng used)))), (ab2, .inl (cI, bl2, .inl bk3))] H locs := hW
        refine lv_aload_n hx hb d_Tri_own_85 rfl (lv_at hl 0 rfl) ?_
        refine lv_dup hx hb d_Tri_own_86 rfl ?_
        refine gf_Tri_29 hM hW.1 0 rfl rfl d_Tri_own_87 ?_
        refine lv_iconst (v := nI 1) hx hb d_Tri_own_90 (by decide) ?_
        refine xn_iadd hx hb d_Tri_own_91 ?_
        refine pf_Tri_29 hM hW 0 rfl (Nat.le_of_ble_eq_true rfl) d_Tri_own_92 (fun H locs hW => ?_)
        have hW : xW D A s.heap [(t0, .inr (2, [v0, .ref ai, .ref ab2, .int (nI (used + 1)), v4, v5])), (ai, .inl (cI, 4352, .inl (upd ix b (ng used)))), (ab2, .inl (cI, bl2, .inl bk3))] H locs := hW
        refine lv_aload_n hx hb d_Tri_own_95 rfl (lv_at hl 0 rfl) ?_
        refine gf_Tri_29 hM hW.1 0 rfl rfl d_Tri_own_96 ?_
        refine lv_iconst (v := nI 1) hx hb d_Tri_own_99 (by decide) ?_
        refine xn_isub hx hb (by omega) d_Tri_own_100 ?_
        refine RET hW ⟨used + 1 - 1, used + 1, bl2, ab2, _, bk3, rfl, hc1, hc2, hown.1, by omega, ?_, hown.2, rfl⟩ d_Tri_own_101
        rw [Nat.add_sub_cancel]; exact pk_us
      · refine lv_aload_n hx hb d_Tri_own_51 rfl (lv_at hl 0 rfl) ?_
        refine gf_Tri_15 hM hW.1 0 rfl rfl d_Tri_own_52 ?_
        refine lv_sipush (v := nI 256) hx hb d_Tri_own_55 (by decide) ?_
        refine lv_aload_n hx hb d_Tri_own_58 rfl (lv_at hl 0 rfl) ?_
        refine gf_Tri_29 hM hW.1 0 rfl rfl d_Tri_own_59 ?_
        refine xn_imul hx hb d_Tri_own_62 ?_
        refine lv_iload_n hx hb d_Tri_own_63 rfl (lv_at hl 3 rfl) ?_
        refine xn_iadd hx hb d_Tri_own_64 ?_
        refine lv_iload_n hx hb d_Tri_own_65 rfl (lv_at hl 2 rfl) ?_
        refine xn_iast hM hW 2 rfl (by omega) (by omega) d_Tri_own_66 (fun H locs hW => ?_)
        have hW : xW D A s.heap [(t0, .inr (2, [v0, .ref ai, .ref ab2, .int (nI used), v4, v5])), (ai, .inl (cI, 4352, .inl ix)), (ab2, .inl (cI, bl2, .inl (upd bk3 ((256 * used) + i) (nI x))))] H locs := hW
        refine lv_iinc (lv' := [(3, .int (nI (i + 1))), (0, .ref t0), (1, .int (nI b)), (2, .int (nI x))]) (v := nI (i + 1)) hx hb d_Tri_own_67 hl (k := 3) rfl (nI_inc i) (by decide) rfl (fun ls hl => ?_)
        refine lv_goto (tgt := 44) hx hb d_Tri_own_70 (by decide) ?_
        have hl : lv_has ls 4 [(0, .ref t0), (1, .int (nI b)), (2, .int (nI x)), (3, .int (nI (i + 1)))] := lv_sub hl [1, 2, 3, 0] rfl
        refine ih (256 - (i + 1)) (by omega) (i + 1) _ ls H locs rfl (by omega) (fun q hq => ?_) (fun j hj => ?_) hl hW
        · rw [pk_un (by omega)]; exact hg1 q hq
        · by_cases h : j = i
          · subst h; exact pk_us
          · rw [pk_un (by omega)]; exact hg2 j (by omega)
    refine lv_sipush (v := nI 256) hx hb d_Tri_own_15 (by decide) ?_
    refine lv_aload_n hx hb d_Tri_own_18 rfl (lv_at hl 0 rfl) ?_
    refine gf_Tri_29 hM hW.1 0 rfl rfl d_Tri_own_19 ?_
    refine xn_imul hx hb d_Tri_own_22 ?_
    refine lv_aload_n hx hb d_Tri_own_23 rfl (lv_at hl 0 rfl) ?_
    refine gf_Tri_15 hM hW.1 0 rfl rfl d_Tri_own_24 ?_
    refine xn_alen hM hW.1 2 rfl d_Tri_own_27 ?_
    refine xn_ne (tgt := 42) hx hb (by omega) (by omega) d_Tri_own_28 (by decide) (fun hne => ?_) (fun heq => ?_)
    · exact tail ab bl 0 0 bk ls s.heap [] (by unfold BLs at g2; omega) g2 (by omega) (by omega) (fun _ _ => rfl) hl hW
    · refine lv_aload_n hx hb d_Tri_own_31 rfl (lv_at hl 0 rfl) ?_
      refine lv_aload_n hx hb d_Tri_own_32 rfl (lv_at hl 0 rfl) ?_
      refine gf_Tri_15 hM hW.1 0 rfl rfl d_Tri_own_33 ?_
      refine x_callSNT (rest := [.ref t0]) hM (c_longer l D cI cL ab bl bk (by omega)) cb_PT_longer cv_Tri_42 ⟨Nat.le_of_ble_eq_true rfl, Nat.le_of_ble_eq_true rfl⟩ ⟨by show 0 + 1 ≤ 1; omega, by show 0 + 2 * bl ≤ 2 * (2097152 - bl); unfold BLs at g2; omega⟩ hW [2] [0, 1] (by decide) rfl (wr := [(t0, .inr (2, [v0, .ref ai, .ref ab, .int (nI used), v4, v5])), (ai, .inl (cI, 4352, .inl ix))]) rfl (by decide) (by decide) rfl hl.1 rfl (Nat.le_of_ble_eq_true rfl) d_Tri_own_36 (fun v k z w1 H locs hv hW => ?_)
      obtain ⟨ab2, bk2, rfl, rfl, rfl, hg, rfl⟩ := hv
      have hW : xW D A s.heap [(t0, .inr (2, [v0, .ref ai, .ref ab, .int (nI used), v4, v5])), (ai, .inl (cI, 4352, .inl ix)), (ab, .inl (cI, bl, .inl bk)), (ab2, .inl (cI, 2 * bl, .inl bk2))] H locs := hW.sub [0, 1, 2, 3] (by decide) rfl
      refine W.eq (g2 := F0 m 39 ls [.ref ab2, .ref t0]) rfl ?_
      refine pf_Tri_15 hM hW 0 rfl (Nat.le_of_ble_eq_true rfl) d_Tri_own_39 (fun H locs hW => ?_)
      have hW : xW D A s.heap [(t0, .inr (2, [v0, .ref ai, .ref ab2, .int (nI used), v4, v5])), (ai, .inl (cI, 4352, .inl ix)), (ab, .inl (cI, bl, .inl bk)), (ab2, .inl (cI, 2 * bl, .inl bk2))] H locs := hW
      have hW : xW D A s.heap [(t0, .inr (2, [v0, .ref ai, .ref ab2, .int (nI used), v4, v5])), (ai, .inl (cI, 4352, .inl ix)), (ab2, .inl (cI, 2 * bl, .inl bk2))] H locs := hW.sub [0, 1, 3] (by decide) rfl
      exact tail ab2 (2 * bl) _ _ bk2 ls H locs (by omega) (g2.twice (by omega)) (by omega) (by omega) (fun q hq => hg q (by omega)) hl hW
  · obtain ⟨k, hk, ek⟩ : ∃ k, k < used ∧ ix b = ng k := by
      rcases g4 b hbb with ⟨r, hr, er⟩ | q
      · rw [er] at hlt; exact absurd (nI_pos' (n := r) (by omega)) hlt
      · exact q
    rw [ek] at hl
    refine lv_iconst (v := -1) hx hb d_Tri_own_11 (by decide) ?_
    refine lv_iload_n hx hb d_Tri_own_12 rfl (lv_at hl 0 rfl) ?_
    refine lv_isub hx hb d_Tri_own_13 ?_
    refine xn_top (show (-1) - (ng k) = nI k from ng_sub k) ?_
    exact RET hW ⟨k, used, bl, ab, ix, bk, rfl, by omega, by omega, hT0, hk, ek, fun _ _ => rfl, rfl⟩ d_Tri_own_14
end
section
/-! TRIE.squeeze, plain -/
/-- record i is some point's -/
def Rf (ix bk : Nat → Int32) (used i : Nat) : Prop := (∃ b, b < 4352 ∧ ix b = nI i) ∨ ∃ q, q < 256 * used ∧ bk q = nI i
def MkI (ix bk mk : Nat → Int32) (used n : Nat) (S : Nat → Prop) : Prop := (∀ i, i < n → S i → ¬ mk i < 0) ∧ ∀ i, i < n → ¬ mk i < 0 → Rf ix bk used i
theorem MkI.add {ix bk mk : Nat → Int32} {used n r : Nat} {S S2 : Nat → Prop} (h : MkI ix bk mk used n S) (hr : Rf ix bk used r) (hS : ∀ i, i < n → S2 i → S i ∨ i = r) : MkI ix bk (upd mk r (nI 0)) used n S2 := by
  refine ⟨fun i hi hs => ?_, fun i hi hm => ?_⟩
  · by_cases e : i = r
    · rw [e, pk_us]; exact nI_pos (by decide)
    · rw [pk_un e]
      rcases hS i hi hs with q | q
      · exact h.1 i hi q
      · exact absurd q e
  · by_cases e : i = r
    · rw [e]; exact hr
    · rw [pk_un e] at hm; exact h.2 i hi hm
theorem MkI.to {ix bk mk : Nat → Int32} {used n : Nat} {S S2 : Nat → Prop} (h : MkI ix bk mk used n S) (hS : ∀ i, i < n → S2 i → S i) : MkI ix bk mk used n S2 := ⟨fun i hi hs => h.1 i hi (hS i hi hs), h.2⟩
def trm (mk2 : Nat → Int32) (z : Int32) : Int32 := if z < 0 then z else mk2 z.toNatClampNeg
theorem trm_n {mk2 : Nat → Int32} {r : Nat} (hr : r < 2 ^ 31) : trm mk2 (nI r) = mk2 r := by unfold trm; rw [if_neg (nI_pos hr), nI_clamp hr]
theorem trm_g {mk2 : Nat → Int32} {k : Nat} (hk : k < 2 ^ 29) : trm mk2 (ng k) = ng k := by unfold trm; rw [if_pos (ng_neg hk)]
/-- what squeeze does -/
def SqTo (rows ix bk : Nat → Int32) (n : Nat) (rows2 ix2 bk2 : Nat → Int32) (n2 used bl : Nat) : Prop := TI ix2 bk2 used bl n2 ∧ (Apart rows n → Apart rows2 n2) ∧ (∀ p, p < 1114112 → ∀ i, i < 8 → rows2 (8 * (rp ix2 bk2 p).toNatClampNeg + i) = rows (8 * (rp ix bk p).toNatClampNeg + i)) ∧ (∀ j, j < n2 → j = 0 ∨ ∃ p, p < 1114112 ∧ ∀ i, i < 8 → rows2 (8 * j + i) = rows (8 * (rp ix bk p).toNatClampNeg + i)) ∧ Same rows 0 rows2 0 ∧ 0 < n2 ∧ n2 ≤ n
theorem sq_to {rows mk rows2 mk2 ix bk ix2 bk2 : Nat → Int32} {n n2 used bl : Nat} {src : Nat → Nat} (hT : TI ix bk used bl n) (hK : KeepTo rows n mk n2 rows2 mk2 src) (hm : MkI ix bk mk used n (Rf ix bk used)) (h0 : 0 < n) (hix : ∀ b, b < 4352 → ix2 b = trm mk2 (ix b)) (hbk : ∀ q, q < 256 * used → bk2 q = mk2 (bk q).toNatClampNeg) : SqTo rows ix bk n rows2 ix2 bk2 n2 used bl := by
  have hu := hT.used
  have hT0 := hT
  have hK0 := hK
  obtain ⟨g1, g2, g3, g4, g5, g6, g7⟩ := hT
  obtain ⟨k1, k2, k3, k4⟩ := hK
  have key : ∀ i, i < n → Rf ix bk used i → ∃ a, a < n2 ∧ mk2 i = nI a ∧ Same rows i rows2 a := fun i hi hr => by
    obtain ⟨a, ha, e⟩ := k4 i hi (Or.inr (hm.1 i hi hr))
    obtain ⟨-, -, q3, q4⟩ := k2 a ha
    rw [e] at q3 q4
    exact ⟨a, ha, q4, q3⟩
  have zero : ∀ a, a < n2 → src a = 0 → a = 0 := fun a ha e => by
    rcases Nat.eq_zero_or_pos a with h | h
    · exact h
    · have := k3 0 a h ha; omega
  obtain ⟨a0, ha0, e0⟩ := k4 0 h0 (Or.inl rfl)
  have ea0 := zero a0 ha0 e0
  have ixn : ∀ b, b < 4352 → ∀ r, r < n → ix b = nI r → ∃ a, a < n2 ∧ ix2 b = nI a ∧ Same rows r rows2 a := fun b hb r hr e => by
    obtain ⟨a, q1, q2, q3⟩ := key r hr (Or.inl ⟨b, hb, e⟩)
    exact ⟨a, q1, by rw [hix b hb, e, trm_n (by omega)]; exact q2, q3⟩
  have ixg : ∀ b, b < 4352 → ∀ k, k < used → ix b = ng k → ix2 b = ng k := fun b hb k hk e => by rw [hix b hb, e, trm_g (by omega)]
  have bkn : ∀ q, q < 256 * used → ∀ r, r < n → bk q = nI r → ∃ a, a < n2 ∧ bk2 q = nI a ∧ Same rows r rows2 a := fun q hq r hr e => by
    obtain ⟨a, q1, q2, q3⟩ := key r hr (Or.inr ⟨q, hq, e⟩)
    exact ⟨a, q1, by rw [hbk q hq, e, nI_clamp (by omega)]; exact q2, q3⟩
  have back : ∀ b, b < 4352 → ∀ k, k < used → ix2 b = ng k → ix b = ng k := fun b hb k hk e => by
    rcases g4 b hb with ⟨r, hr, er⟩ | ⟨k', hk', ek'⟩
    · obtain ⟨a, q1, q2, -⟩ := ixn b hb r hr er
      exact absurd (e.symm.trans q2) (ng_ne (by omega) (by omega))
    · have := ng_inj (by omega) (by omega) ((ixg b hb k' hk' ek').symm.trans e)
      rw [← this]; exact ek'
  have hTI : TI ix2 bk2 used bl n2 := by
    refine ⟨g1, g2, by omega, fun b hb => ?_, fun q hq => ?_, fun b d k hb hd hk e1 e2 => g6 b d k hb hd hk (back b hb k hk e1) (back d hd k hk e2), fun k hk => ?_⟩
    · rcases g4 b hb with ⟨r, hr, er⟩ | ⟨k', hk', ek'⟩
      · obtain ⟨a, q1, q2, -⟩ := ixn b hb r hr er
        exact Or.inl ⟨a, q1, q2⟩
      · exact Or.inr ⟨k', hk', ixg b hb k' hk' ek'⟩
    · obtain ⟨r, hr, er⟩ := g5 q hq
      obtain ⟨a, q1, q2, -⟩ := bkn q hq r hr er
      exact ⟨a, q1, q2⟩
    · obtain ⟨b, hb, eb⟩ := g7 k hk
      exact ⟨b, hb, ixg b hb k hk eb⟩
  refine ⟨hTI, fun hA => hK0.apart hA, fun p hp i hi => ?_, fun j hj => ?_, ?_, by omega, k1⟩
  · rcases g4 (p / 256) (by omega) with ⟨r, hr, er⟩ | ⟨k', hk', ek'⟩
    · obtain ⟨a, q1, q2, q3⟩ := ixn (p / 256) (by omega) r hr er
      rw [rp_pos er (by omega), rp_pos q2 (by omega), nI_clamp (by omega), nI_clamp (by omega)]
      exact (q3 i hi).symm
    · obtain ⟨r, hr, er⟩ := g5 (256 * k' + p % 256) (by omega)
      obtain ⟨a, q1, q2, q3⟩ := bkn (256 * k' + p % 256) (by omega) r hr er
      rw [rp_neg ek' (by omega), rp_neg (ixg (p / 256) (by omega) k' hk' ek') (by omega), er, q2, nI_clamp (by omega), nI_clamp (by omega)]
      exact (q3 i hi).symm
  · obtain ⟨p1, p2, p3, -⟩ := k2 j hj
    rcases p2 with h | h
    · exact Or.inl (zero j hj h)
    · right
      rcases hm.2 (src j) p1 h with ⟨b, hb, eb⟩ | ⟨q, hq, eq⟩
      · refine ⟨256 * b, by omega, fun i hi => ?_⟩
        rw [rp_pos (r := src j) (by rw [Nat.mul_div_cancel_left b (by decide)]; exact eb) (by omega), nI_clamp (by omega)]
        exact (p3 i hi).symm
      · obtain ⟨b, hb, eb⟩ := g7 (q / 256) (by omega)
        refine ⟨256 * b + q % 256, by omega, fun i hi => ?_⟩
        rw [rp_neg (k := q / 256) (by rw [show (256 * b + q % 256) / 256 = b by omega]; exact eb) (by omega), show 256 * (q / 256) + (256 * b + q % 256) % 256 = q by omega, eq, nI_clamp (by omega)]
        exact (p3 i hi).symm
  · subst ea0
    obtain ⟨-, -, q3, -⟩ := k2 0 ha0
    rw [e0] at q3
    exact q3
end
section
abbrev rm_squeeze (ml : Nat) : Room := { frames := 3, cells := 1, slots := 2 * (8192 - ml), locals := 70 }
set_option maxHeartbeats 4000000 in
set_option maxRecDepth 100000 in
/-- squeeze(): records that no point has go -/
theorem c_squeeze (l : Launch) (D : va_G) (cI cL : ClassId) (t0 h0 ai ab am ar an ah nl hc n used bl ml : Nat) (v4 v5 : Value) (rows next heads ix bk mk : Nat → Int32) (hT : TI ix bk used bl n) (hn : n ≤ nl) (hnl : nl ≤ 8192) (hH : HLs hc) (h0n : 0 < n) (hml : ml = 4096 ∨ ml = 8192) : CT l D cI cL y_Tri_squeeze (xws y_Tri_squeeze b_Tri_squeeze 2 none) (rm_squeeze ml) [.ref t0] [(t0, .inr (2, [.ref h0, .ref ai, .ref ab, .int (nI used), .ref am, v5])), (ai, .inl (cI, 4352, .inl ix)), (ab, .inl (cI, bl, .inl bk)), (am, .inl (cI, ml, .inl mk)), (h0, .inr (1, [.ref ar, .ref an, .ref ah, .int (nI n), v4])), (ar, .inl (cI, 8 * nl, .inl rows)), (an, .inl (cI, nl, .inl next)), (ah, .inl (cI, hc, .inl heads))] (fun v k z w1 => ∃ (am2 ml2 n2 most2 : Nat) (rows2 next2 heads2 ix2 bk2 mk2 : Nat → Int32), v = none ∧ k + ml ≤ ml2 ∧ z + 2 * ml ≤ 2 * ml2 ∧ (ml2 = 4096 ∨ ml2 = 8192) ∧ Linked rows2 next2 heads2 n2 hc ∧ SqTo rows ix bk n rows2 ix2 bk2 n2 used bl ∧ ((2 * n2 < 4096 ∧ most2 = 4096) ∨ (4096 ≤ 2 * n2 ∧ most2 = 2 * n2)) ∧ w1 = [(t0, .inr (2, [.ref h0, .ref ai, .ref ab, .int (nI used), .ref am2, .int (nI most2)])), (ai, .inl (cI, 4352, .inl ix2)), (ab, .inl (cI, bl, .inl bk2)), (am2, .inl (cI, ml2, .inl mk2)), (h0, .inr (1, [.ref ar, .ref an, .ref ah, .int (nI n2), v4])), (ar, .inl (cI, 8 * nl, .inl rows2)), (an, .inl (cI, nl, .inl next2)), (ah, .inl (cI, hc, .inl heads2))]) := by
  refine CT.ofV (own := R_Tri) (cc := b_Tri_squeeze) (nL := 2) (by decide) rfl (Nat.le_of_ble_eq_true rfl) ?_
  intro p e s m args below meth c A Q ls hM hl hW hnm RET
  have hx := hM.1
  have hb := hM.2.1
  have hl : lv_has ls 2 [(0, .ref t0)] := hl
  have hu := hT.used
  have hT0 := hT
  obtain ⟨g1, g2, g3, g4, g5, g6, g7⟩ := hT
  have hbl := g2.le
  have hh := hH.le
  suffices loop1 : ∀ (k am ml2 cells slots : Nat) (mk : Nat → Int32) (ls : Array Slot) (H : Heap) (locs : List Loc), 8192 - ml2 = k → (ml2 = 4096 ∨ ml2 = 8192) → cells ≤ 1 → cells + ml ≤ ml2 → slots + 2 * ml ≤ 2 * ml2 → lv_has ls 2 [(0, .ref t0)] → xW D A s.heap [(t0, .inr (2, [.ref h0, .ref ai, .ref ab, .int (nI used), .ref am, v5])), (ai, .inl (cI, 4352, .inl ix)), (ab, .inl (cI, bl, .inl bk)), (am, .inl (cI, ml2, .inl mk)), (h0, .inr (1, [.ref ar, .ref an, .ref ah, .int (nI n), v4])), (ar, .inl (cI, 8 * nl, .inl rows)), (an, .inl (cI, nl, .inl next)), (ah, .inl (cI, hc, .inl heads))] H locs → W p l e (rm_squeeze ml) s m args below meth c H locs cells slots Q (F0 m 0 ls []) from
    loop1 _ am ml 0 0 mk ls s.heap [] rfl hml (by omega) (by omega) (by omega) hl hW
  intro k
  induction k using Nat.strongRecOn with | ind k ih => ?_
  intro am ml2 cells slots mk ls H locs hk hml2 hc0 hc1 hc2 hl hW
  have hs0 : slots ≤ 2 * (8192 - ml) := by omega
  refine lv_aload_n hx hb d_Tri_squeeze_0 rfl (lv_at hl 0 rfl) ?_
  refine gf_Tri_18 hM hW.1 0 rfl rfl d_Tri_squeeze_1 ?_
  refine xn_alen hM hW.1 3 rfl d_Tri_squeeze_4 ?_
  refine lv_aload_n hx hb d_Tri_squeeze_5 rfl (lv_at hl 0 rfl) ?_
  refine gf_Tri_25 hM hW.1 0 rfl rfl d_Tri_squeeze_6 ?_
  refine x_callVP (rest := [.int (nI ml2)]) hM (c_count l D cI cL h0 (.ref ar) (.ref an) (.ref ah) v4 (nI n)) cb_Rec_count cv_Tri_53 ⟨Nat.le_of_ble_eq_true rfl, Nat.le_of_ble_eq_true rfl⟩ ⟨by show cells + 0 ≤ 1; omega, by show slots + 0 ≤ 2 * (8192 - ml); omega⟩ hW.1 [4] rfl 4 rfl rfl rfl hl.1 rfl (Nat.le_of_ble_eq_true rfl) d_Tri_squeeze_9 (fun v hv => ?_)
  subst hv
  refine W.eq (g2 := F0 m 12 ls [.int (nI n), .int (nI ml2)]) rfl ?_
  refine xn_ge (tgt := 29) hx hb (by omega) (by omega) d_Tri_squeeze_12 (by decide) (fun hge => ?_) (fun hlt => ?_)
  · refine lv_iconst (v := nI 0) hx hb d_Tri_squeeze_29 (by decide) ?_
    refine lv_istore_n (lv' := [(1, .int (nI 0)), (0, .ref t0)]) hx hb d_Tri_squeeze_30 rfl hl (by decide) rfl (fun ls hl => ?_)
    have hl : lv_has ls 2 [(0, .ref t0), (1, .int (nI 0))] := lv_sub hl [1, 0] rfl
    suffices loop2 : ∀ (k i : Nat) (mk : Nat → Int32) (ls : Array Slot) (H : Heap) (locs : List Loc), n - i = k → i ≤ n → (∀ j, j < i → mk j = -1) → lv_has ls 2 [(0, .ref t0), (1, .int (nI i))] → xW D A s.heap [(t0, .inr (2, [.ref h0, .ref ai, .ref ab, .int (nI used), .ref am, v5])), (ai, .inl (cI, 4352, .inl ix)), (ab, .inl (cI, bl, .inl bk)), (am, .inl (cI, ml2, .inl mk)), (h0, .inr (1, [.ref ar, .ref an, .ref ah, .int (nI n), v4])), (ar, .inl (cI, 8 * nl, .inl rows)), (an, .inl (cI, nl, .inl next)), (ah, .inl (cI, hc, .inl heads))] H locs → W p l e (rm_squeeze ml) s m args below meth c H locs cells slots Q (F0 m 31 ls []) from
      loop2 _ 0 _ ls H locs rfl (Nat.zero_le _) (fun j hj => absurd hj (Nat.not_lt_zero _)) hl hW
    intro k2
    induction k2 using Nat.strongRecOn with | ind k2 ih2 => ?_
    intro i mk ls H locs hk2 hi hg hl hW
    refine lv_iload_n hx hb d_Tri_squeeze_31 rfl (lv_at hl 1 rfl) ?_
    refine lv_aload_n hx hb d_Tri_squeeze_32 rfl (lv_at hl 0 rfl) ?_
    refine gf_Tri_25 hM hW.1 0 rfl rfl d_Tri_squeeze_33 ?_
    refine x_callVP (rest := [.int (nI i)]) hM (c_count l D cI cL h0 (.ref ar) (.ref an) (.ref ah) v4 (nI n)) cb_Rec_count cv_Tri_53 ⟨Nat.le_of_ble_eq_true rfl, Nat.le_of_ble_eq_true rfl⟩ ⟨by show cells + 0 ≤ 1; omega, by show slots + 0 ≤ 2 * (8192 - ml); omega⟩ hW.1 [4] rfl 4 rfl rfl rfl hl.1 rfl (Nat.le_of_ble_eq_true rfl) d_Tri_squeeze_36 (fun v hv => ?_)
    subst hv
    refine W.eq (g2 := F0 m 39 ls [.int (nI n), .int (nI i)]) rfl ?_
    refine xn_ge (tgt := 55) hx hb (by omega) (by omega) d_Tri_squeeze_39 (by decide) (fun hge2 => ?_) (fun hlt2 => ?_)
    · have hmi : MkI ix bk mk used n (fun _ => False) := ⟨fun _ _ h => h.elim, fun j hj h => absurd (by rw [hg j (by omega)]; decide) h⟩
      refine lv_iconst (v := nI 0) hx hb d_Tri_squeeze_55 (by decide) ?_
      refine lv_istore_n (lv' := [(1, .int (nI 0)), (0, .ref t0)]) hx hb d_Tri_squeeze_56 rfl hl (by decide) rfl (fun ls hl => ?_)
      have hl : lv_has ls 2 [(0, .ref t0), (1, .int (nI 0))] := lv_sub hl [1, 0] rfl
      suffices loop3 : ∀ (k i : Nat) (mk : Nat → Int32) (ls : Array Slot) (H : Heap) (locs : List Loc), 4352 - i = k → i ≤ 4352 → MkI ix bk mk used n (fun j => ∃ b, b < i ∧ ix b = nI j) → lv_has ls 2 [(0, .ref t0), (1, .int (nI i))] → xW D A s.heap [(t0, .inr (2, [.ref h0, .ref ai, .ref ab, .int (nI used), .ref am, v5])), (ai, .inl (cI, 4352, .inl ix)), (ab, .inl (cI, bl, .inl bk)), (am, .inl (cI, ml2, .inl mk)), (h0, .inr (1, [.ref ar, .ref an, .ref ah, .int (nI n), v4])), (ar, .inl (cI, 8 * nl, .inl rows)), (an, .inl (cI, nl, .inl next)), (ah, .inl (cI, hc, .inl heads))] H locs → W p l e (rm_squeeze ml) s m args below meth c H locs cells slots Q (F0 m 57 ls []) from
        loop3 _ 0 _ ls H locs rfl (Nat.zero_le _) (hmi.to fun j _ h => by obtain ⟨b, hb, -⟩ := h; omega) hl hW
      intro k3
      induction k3 using Nat.strongRecOn with | ind k3 ih3 => ?_
      intro i mk ls H locs hk3 hi3 hmi hl hW
      refine lv_iload_n hx hb d_Tri_squeeze_57 rfl (lv_at hl 1 rfl) ?_
      refine lv_aload_n hx hb d_Tri_squeeze_58 rfl (lv_at hl 0 rfl) ?_
      refine gf_Tri_11 hM hW.1 0 rfl rfl d_Tri_squeeze_59 ?_
      refine xn_alen hM hW.1 1 rfl d_Tri_squeeze_62 ?_
      refine xn_ge (tgt := 93) hx hb (by omega) (by omega) d_Tri_squeeze_63 (by decide) (fun hge3 => ?_) (fun hlt3 => ?_)
      · refine lv_iconst (v := nI 0) hx hb d_Tri_squeeze_93 (by decide) ?_
        refine lv_istore_n (lv' := [(1, .int (nI 0)), (0, .ref t0)]) hx hb d_Tri_squeeze_94 rfl hl (by decide) rfl (fun ls hl => ?_)
        have hl : lv_has ls 2 [(0, .ref t0), (1, .int (nI 0))] := lv_sub hl [1, 0] rfl
        suffices loop4 : ∀ (k i : Nat) (mk : Nat → Int32) (ls : Array Slot) (H : Heap) (locs : List Loc), 256 * used - i = k → i ≤ 256 * used → MkI ix bk mk used n (fun j => (∃ b, b < 4352 ∧ ix b = nI j) ∨ ∃ q, q < i ∧ bk q = nI j) → lv_has ls 2 [(0, .ref t0), (1, .int (nI i))] → xW D A s.heap [(t0, .inr (2, [.ref h0, .ref ai, .ref ab, .int (nI used), .ref am, v5])), (ai, .inl (cI, 4352, .inl ix)), (ab, .inl (cI, bl, .inl bk)), (am, .inl (cI, ml2, .inl mk)), (h0, .inr (1, [.ref ar, .ref an, .ref ah, .int (nI n), v4])), (ar, .inl (cI, 8 * nl, .inl rows)), (an, .inl (cI, nl, .inl next)), (ah, .inl (cI, hc, .inl heads))] H locs → W p l e (rm_squeeze ml) s m args below meth c H locs cells slots Q (F0 m 95 ls []) from
          loop4 _ 0 _ ls H locs rfl (Nat.zero_le _) (hmi.to fun j _ h => by
            rcases h with ⟨b, hb, e⟩ | ⟨q, hq, -⟩
            · exact ⟨b, by omega, e⟩
            · omega) hl hW
        intro k4
        induction k4 using Nat.strongRecOn with | ind k4 ih4 => ?_
        intro i mk ls H locs hk4 hi4 hmi hl hW
        refine lv_iload_n hx hb d_Tri_squeeze_95 rfl (lv_at hl 1 rfl) ?_
        refine lv_sipush (v := nI 256) hx hb d_Tri_squeeze_96 (by decide) ?_
        refine lv_aload_n hx hb d_Tri_squeeze_99 rfl (lv_at hl 0 rfl) ?_
        refine gf_Tri_29 hM hW.1 0 rfl rfl d_Tri_squeeze_100 ?_
        refine xn_imul hx hb d_Tri_squeeze_103 ?_
        refine xn_ge (tgt := 125) hx hb (by omega) (by omega) d_Tri_squeeze_104 (by decide) (fun hge4 => ?_) (fun hlt4 => ?_)
        · have hi4e : i = 256 * used := by omega
          rw [hi4e] at hmi
          refine lv_aload_n hx hb d_Tri_squeeze_125 rfl (lv_at hl 0 rfl) ?_
          refine gf_Tri_25 hM hW.1 0 rfl rfl d_Tri_squeeze_126 ?_
          refine lv_aload_n hx hb d_Tri_squeeze_129 rfl (lv_at hl 0 rfl) ?_
          refine gf_Tri_18 hM hW.1 0 rfl rfl d_Tri_squeeze_130 ?_
          refine x_callVT (rest := []) hM (c_keep l D cI cL h0 ar an ah am nl hc ml2 n v4 rows next heads mk hn hnl hH hge (by omega)) cb_Rec_keep cv_Tri_60 ⟨Nat.le_of_ble_eq_true rfl, Nat.le_of_ble_eq_true rfl⟩ ⟨by show cells + 0 ≤ 1; omega, by show slots + 0 ≤ 2 * (8192 - ml); omega⟩ hW [4, 5, 6, 7, 3] [0, 1, 2] (by decide) rfl (wr := [(t0, .inr (2, [.ref h0, .ref ai, .ref ab, .int (nI used), .ref am, v5])), (ai, .inl (cI, 4352, .inl ix)), (ab, .inl (cI, bl, .inl bk))]) rfl (by decide) (by decide) 4 rfl rfl rfl hl.1 rfl (Nat.le_of_ble_eq_true rfl) d_Tri_squeeze_133 (fun v k z w1 H locs hv hW => ?_)
          obtain ⟨rfl, rfl, rfl, n2, rows2, next2, heads2, mk2, src, hL2, hK2, rfl⟩ := hv
          have hW : xW D A s.heap [(t0, .inr (2, [.ref h0, .ref ai, .ref ab, .int (nI used), .ref am, v5])), (ai, .inl (cI, 4352, .inl ix)), (ab, .inl (cI, bl, .inl bk)), (am, .inl (cI, ml2, .inl mk2)), (h0, .inr (1, [.ref ar, .ref an, .ref ah, .int (nI n2), v4])), (ar, .inl (cI, 8 * nl, .inl rows2)), (an, .inl (cI, nl, .inl next2)), (ah, .inl (cI, hc, .inl heads2))] H locs := hW.sub [0, 1, 2, 7, 3, 4, 5, 6] (by decide) rfl
          refine W.eq (g2 := F0 m 136 ls []) rfl ?_
          refine lv_iconst (v := nI 0) hx hb d_Tri_squeeze_136 (by decide) ?_
          refine lv_istore_n (lv' := [(1, .int (nI 0)), (0, .ref t0)]) hx hb d_Tri_squeeze_137 rfl hl (by decide) rfl (fun ls hl => ?_)
          have hl : lv_has ls 2 [(0, .ref t0), (1, .int (nI 0))] := lv_sub hl [1, 0] rfl
          suffices loop6 : ∀ (k i : Nat) (ix3 : Nat → Int32) (ls : Array Slot) (H : Heap) (locs : List Loc), 4352 - i = k → i ≤ 4352 → (∀ b, b < i → ix3 b = trm mk2 (ix b)) → (∀ b, i ≤ b → ix3 b = ix b) → lv_has ls 2 [(0, .ref t0), (1, .int (nI i))] → xW D A s.heap [(t0, .inr (2, [.ref h0, .ref ai, .ref ab, .int (nI used), .ref am, v5])), (ai, .inl (cI, 4352, .inl ix3)), (ab, .inl (cI, bl, .inl bk)), (am, .inl (cI, ml2, .inl mk2)), (h0, .inr (1, [.ref ar, .ref an, .ref ah, .int (nI n2), v4])), (ar, .inl (cI, 8 * nl, .inl rows2)), (an, .inl (cI, nl, .inl next2)), (ah, .inl (cI, hc, .inl heads2))] H locs → W p l e (rm_squeeze ml) s m args below meth c H locs (cells + 0) (slots + 0) Q (F0 m 138 ls []) from
            loop6 _ 0 _ ls H locs rfl (Nat.zero_le _) (fun j hj => absurd hj (Nat.not_lt_zero _)) (fun _ _ => rfl) hl hW
          intro k6
          induction k6 using Nat.strongRecOn with | ind k6 ih6 => ?_
          intro i ix3 ls H locs hk6 hi6 hx1 hx2 hl hW
          refine lv_iload_n hx hb d_Tri_squeeze_138 rfl (lv_at hl 1 rfl) ?_
          refine lv_aload_n hx hb d_Tri_squeeze_139 rfl (lv_at hl 0 rfl) ?_
          refine gf_Tri_11 hM hW.1 0 rfl rfl d_Tri_squeeze_140 ?_
          refine xn_alen hM hW.1 1 rfl d_Tri_squeeze_143 ?_
          refine xn_ge (tgt := 179) hx hb (by omega) (by omega) d_Tri_squeeze_144 (by decide) (fun hge6 => ?_) (fun hlt6 => ?_)
          · refine lv_iconst (v := nI 0) hx hb d_Tri_squeeze_179 (by decide) ?_
            refine lv_istore_n (lv' := [(1, .int (nI 0)), (0, .ref t0)]) hx hb d_Tri_squeeze_180 rfl hl (by decide) rfl (fun ls hl => ?_)
            have hl : lv_has ls 2 [(0, .ref t0), (1, .int (nI 0))] := lv_sub hl [1, 0] rfl
            have hi6e : i = 4352 := by omega
            rw [hi6e] at hx1
            suffices loop7 : ∀ (k i : Nat) (bk3 : Nat → Int32) (ls : Array Slot) (H : Heap) (locs : List Loc), 256 * used - i = k → i ≤ 256 * used → (∀ q, q < i → bk3 q = mk2 (bk q).toNatClampNeg) → (∀ q, i ≤ q → bk3 q = bk q) → lv_has ls 2 [(0, .ref t0), (1, .int (nI i))] → xW D A s.heap [(t0, .inr (2, [.ref h0, .ref ai, .ref ab, .int (nI used), .ref am, v5])), (ai, .inl (cI, 4352, .inl ix3)), (ab, .inl (cI, bl, .inl bk3)), (am, .inl (cI, ml2, .inl mk2)), (h0, .inr (1, [.ref ar, .ref an, .ref ah, .int (nI n2), v4])), (ar, .inl (cI, 8 * nl, .inl rows2)), (an, .inl (cI, nl, .inl next2)), (ah, .inl (cI, hc, .inl heads2))] H locs → W p l e (rm_squeeze ml) s m args below meth c H locs (cells + 0) (slots + 0) Q (F0 m 181 ls []) from
              loop7 _ 0 _ ls H locs rfl (Nat.zero_le _) (fun j hj => absurd hj (Nat.not_lt_zero _)) (fun _ _ => rfl) hl hW
            intro k7
            induction k7 using Nat.strongRecOn with | ind k7 ih7 => ?_
            intro i bk3 ls H locs hk7 hi7 hb1 hb2 hl hW
            refine lv_iload_n hx hb d_Tri_squeeze_181 rfl (lv_at hl 1 rfl) ?_
            refine lv_sipush (v := nI 256) hx hb d_Tri_squeeze_182 (by decide) ?_
            refine lv_aload_n hx hb d_Tri_squeeze_185 rfl (lv_at hl 0 rfl) ?_
            refine gf_Tri_29 hM hW.1 0 rfl rfl d_Tri_squeeze_186 ?_
            refine xn_imul hx hb d_Tri_squeeze_189 ?_
            refine xn_ge (tgt := 216) hx hb (by omega) (by omega) d_Tri_squeeze_190 (by decide) (fun hge7 => ?_) (fun hlt7 => ?_)
            · have hi7e : i = 256 * used := by omega
              rw [hi7e] at hb1
              have hSq : SqTo rows ix bk n rows2 ix3 bk3 n2 used bl := sq_to hT0 hK2 hmi h0n hx1 hb1
              have hn2 : n2 ≤ n := hK2.1
              refine lv_aload_n hx hb d_Tri_squeeze_216 rfl (lv_at hl 0 rfl) ?_
              refine lv_iconst (v := nI 2) hx hb d_Tri_squeeze_217 (by decide) ?_
              refine lv_aload_n hx hb d_Tri_squeeze_218 rfl (lv_at hl 0 rfl) ?_
              refine gf_Tri_25 hM hW.1 0 rfl rfl d_Tri_squeeze_219 ?_
              refine x_callVP (rest := [.int (nI 2), .ref t0]) hM (c_count l D cI cL h0 (.ref ar) (.ref an) (.ref ah) v4 (nI n2)) cb_Rec_count cv_Tri_53 ⟨Nat.le_of_ble_eq_true rfl, Nat.le_of_ble_eq_true rfl⟩ ⟨by show cells + 0 + 0 ≤ 1; omega, by show slots + 0 + 0 ≤ 2 * (8192 - ml); omega⟩ hW.1 [4] rfl 4 rfl rfl rfl hl.1 rfl (Nat.le_of_ble_eq_true rfl) d_Tri_squeeze_222 (fun v hv => ?_)
              subst hv
              refine W.eq (g2 := F0 m 225 ls [.int (nI n2), .int (nI 2), .ref t0]) rfl ?_
              refine xn_imul hx hb d_Tri_squeeze_225 ?_
              refine lv_sipush (v := nI 4096) hx hb d_Tri_squeeze_226 (by decide) ?_
              refine xn_ge (tgt := 238) hx hb (by omega) (by omega) d_Tri_squeeze_229 (by decide) (fun hge8 => ?_) (fun hlt8 => ?_)
              · refine lv_iconst (v := nI 2) hx hb d_Tri_squeeze_238 (by decide) ?_
                refine lv_aload_n hx hb d_Tri_squeeze_239 rfl (lv_at hl 0 rfl) ?_
                refine gf_Tri_25 hM hW.1 0 rfl rfl d_Tri_squeeze_240 ?_
                refine x_callVP (rest := [.int (nI 2), .ref t0]) hM (c_count l D cI cL h0 (.ref ar) (.ref an) (.ref ah) v4 (nI n2)) cb_Rec_count cv_Tri_53 ⟨Nat.le_of_ble_eq_true rfl, Nat.le_of_ble_eq_true rfl⟩ ⟨by show cells + 0 + 0 ≤ 1; omega, by show slots + 0 + 0 ≤ 2 * (8192 - ml); omega⟩ hW.1 [4] rfl 4 rfl rfl rfl hl.1 rfl (Nat.le_of_ble_eq_true rfl) d_Tri_squeeze_243 (fun v hv => ?_)
                subst hv
                refine W.eq (g2 := F0 m 246 ls [.int (nI n2), .int (nI 2), .ref t0]) rfl ?_
                refine xn_imul hx hb d_Tri_squeeze_246 ?_
                refine pf_Tri_21 hM hW 0 rfl (Nat.le_of_ble_eq_true rfl) d_Tri_squeeze_247 (fun H locs hW => ?_)
                have hW : xW D A s.heap [(t0, .inr (2, [.ref h0, .ref ai, .ref ab, .int (nI used), .ref am, .int (nI (2 * n2))])), (ai, .inl (cI, 4352, .inl ix3)), (ab, .inl (cI, bl, .inl bk3)), (am, .inl (cI, ml2, .inl mk2)), (h0, .inr (1, [.ref ar, .ref an, .ref ah, .int (nI n2), v4])), (ar, .inl (cI, 8 * nl, .inl rows2)), (an, .inl (cI, nl, .inl next2)), (ah, .inl (cI, hc, .inl heads2))] H locs := hW
                exact RET hW ⟨am, ml2, n2, 2 * n2, rows2, next2, heads2, ix3, bk3, mk2, rfl, by omega, by omega, hml2, hL2, hSq, Or.inr ⟨hge8, rfl⟩, rfl⟩ d_Tri_squeeze_250
              · refine lv_sipush (v := nI 4096) hx hb d_Tri_squeeze_232 (by decide) ?_
                refine lv_goto (tgt := 247) hx hb d_Tri_squeeze_235 (by decide) ?_
                refine pf_Tri_21 hM hW 0 rfl (Nat.le_of_ble_eq_true rfl) d_Tri_squeeze_247 (fun H locs hW => ?_)
                have hW : xW D A s.heap [(t0, .inr (2, [.ref h0, .ref ai, .ref ab, .int (nI used), .ref am, .int (nI 4096)])), (ai, .inl (cI, 4352, .inl ix3)), (ab, .inl (cI, bl, .inl bk3)), (am, .inl (cI, ml2, .inl mk2)), (h0, .inr (1, [.ref ar, .ref an, .ref ah, .int (nI n2), v4])), (ar, .inl (cI, 8 * nl, .inl rows2)), (an, .inl (cI, nl, .inl next2)), (ah, .inl (cI, hc, .inl heads2))] H locs := hW
                exact RET hW ⟨am, ml2, n2, 4096, rows2, next2, heads2, ix3, bk3, mk2, rfl, by omega, by omega, hml2, hL2, hSq, Or.inl ⟨hlt8, rfl⟩, rfl⟩ d_Tri_squeeze_250
            · obtain ⟨rr, hrr, err⟩ := g5 i hlt7
              have eb3 : bk3 i = nI rr := (hb2 i (Nat.le_refl _)).trans err
              refine lv_aload_n hx hb d_Tri_squeeze_193 rfl (lv_at hl 0 rfl) ?_
              refine gf_Tri_15 hM hW.1 0 rfl rfl d_Tri_squeeze_194 ?_
              refine lv_iload_n hx hb d_Tri_squeeze_197 rfl (lv_at hl 1 rfl) ?_
              refine lv_aload_n hx hb d_Tri_squeeze_198 rfl (lv_at hl 0 rfl) ?_
              refine gf_Tri_18 hM hW.1 0 rfl rfl d_Tri_squeeze_199 ?_
              refine lv_aload_n hx hb d_Tri_squeeze_202 rfl (lv_at hl 0 rfl) ?_
              refine gf_Tri_15 hM hW.1 0 rfl rfl d_Tri_squeeze_203 ?_
              refine lv_iload_n hx hb d_Tri_squeeze_206 rfl (lv_at hl 1 rfl) ?_
              refine xn_iald hM hW.1 2 rfl (by omega) (by omega) d_Tri_squeeze_207 ?_
              refine xn_top (show bk3 i = nI rr from eb3) ?_
              refine xn_iald hM hW.1 3 rfl (by omega) (by omega) d_Tri_squeeze_208 ?_
              refine xn_iast hM hW 2 rfl (by omega) (by omega) d_Tri_squeeze_209 (fun H locs hW => ?_)
              have hW : xW D A s.heap [(t0, .inr (2, [.ref h0, .ref ai, .ref ab, .int (nI used), .ref am, v5])), (ai, .inl (cI, 4352, .inl ix3)), (ab, .inl (cI, bl, .inl (upd bk3 i (mk2 rr)))), (am, .inl (cI, ml2, .inl mk2)), (h0, .inr (1, [.ref ar, .ref an, .ref ah, .int (nI n2), v4])), (ar, .inl (cI, 8 * nl, .inl rows2)), (an, .inl (cI, nl, .inl next2)), (ah, .inl (cI, hc, .inl heads2))] H locs := hW
              refine lv_iinc (lv' := [(1, .int (nI (i + 1))), (0, .ref t0)]) (v := nI (i + 1)) hx hb d_Tri_squeeze_210 hl (k := 1) rfl (nI_inc i) (by decide) rfl (fun ls hl => ?_)
              refine lv_goto (tgt := 181) hx hb d_Tri_squeeze_213 (by decide) ?_
              have hl : lv_has ls 2 [(0, .ref t0), (1, .int (nI (i + 1)))] := lv_sub hl [1, 0] rfl
              refine ih7 (256 * used - (i + 1)) (by omega) (i + 1) _ ls H locs rfl (by omega) (fun q hq => ?_) (fun q hq => ?_) hl hW
              · by_cases h : q = i
                · rw [h, pk_us, err, nI_clamp (by omega)]
                · rw [pk_un h]; exact hb1 q (by omega)
              · rw [pk_un (by omega)]; exact hb2 q (by omega)
          · refine lv_aload_n hx hb d_Tri_squeeze_147 rfl (lv_at hl 0 rfl) ?_
            refine gf_Tri_11 hM hW.1 0 rfl rfl d_Tri_squeeze_148 ?_
            refine lv_iload_n hx hb d_Tri_squeeze_151 rfl (lv_at hl 1 rfl) ?_
            refine xn_iald hM hW.1 1 rfl (by omega) (by omega) d_Tri_squeeze_152 ?_
            refine lv_if_lt (tgt := 173) hx hb d_Tri_squeeze_153 (by decide) (fun hneg => ?_) (fun hpos => ?_)
            · refine lv_iinc (lv' := [(1, .int (nI (i + 1))), (0, .ref t0)]) (v := nI (i + 1)) hx hb d_Tri_squeeze_173 hl (k := 1) rfl (nI_inc i) (by decide) rfl (fun ls hl => ?_)
              refine lv_goto (tgt := 138) hx hb d_Tri_squeeze_176 (by decide) ?_
              have hl : lv_has ls 2 [(0, .ref t0), (1, .int (nI (i + 1)))] := lv_sub hl [1, 0] rfl
              refine ih6 (4352 - (i + 1)) (by omega) (i + 1) ix3 ls H locs rfl (by omega) (fun b hb => ?_) (fun b hb => hx2 b (by omega)) hl hW
              by_cases h : b = i
              · rw [h, hx2 i (Nat.le_refl _)]; rw [hx2 i (Nat.le_refl _)] at hneg; unfold trm; rw [if_pos hneg]
              · exact hx1 b (by omega)
            · rw [hx2 i (Nat.le_refl _)] at hpos
              obtain ⟨rr, hrr, err⟩ : ∃ r, r < n ∧ ix i = nI r := by
                rcases g4 i hlt6 with q | ⟨k, hk, ek⟩
                · exact q
                · rw [ek] at hpos; exact absurd (ng_neg (by omega)) hpos
              have eb3 : ix3 i = nI rr := (hx2 i (Nat.le_refl _)).trans err
              refine lv_aload_n hx hb d_Tri_squeeze_156 rfl (lv_at hl 0 rfl) ?_
              refine gf_Tri_11 hM hW.1 0 rfl rfl d_Tri_squeeze_157 ?_
              refine lv_iload_n hx hb d_Tri_squeeze_160 rfl (lv_at hl 1 rfl) ?_
              refine lv_aload_n hx hb d_Tri_squeeze_161 rfl (lv_at hl 0 rfl) ?_
              refine gf_Tri_18 hM hW.1 0 rfl rfl d_Tri_squeeze_162 ?_
              refine lv_aload_n hx hb d_Tri_squeeze_165 rfl (lv_at hl 0 rfl) ?_
              refine gf_Tri_11 hM hW.1 0 rfl rfl d_Tri_squeeze_166 ?_
              refine lv_iload_n hx hb d_Tri_squeeze_169 rfl (lv_at hl 1 rfl) ?_
              refine xn_iald hM hW.1 1 rfl (by omega) (by omega) d_Tri_squeeze_170 ?_
              refine xn_top (show ix3 i = nI rr from eb3) ?_
              refine xn_iald hM hW.1 3 rfl (by omega) (by omega) d_Tri_squeeze_171 ?_
              refine xn_iast hM hW 1 rfl (by omega) (by omega) d_Tri_squeeze_172 (fun H locs hW => ?_)
              have hW : xW D A s.heap [(t0, .inr (2, [.ref h0, .ref ai, .ref ab, .int (nI used), .ref am, v5])), (ai, .inl (cI, 4352, .inl (upd ix3 i (mk2 rr)))), (ab, .inl (cI, bl, .inl bk)), (am, .inl (cI, ml2, .inl mk2)), (h0, .inr (1, [.ref ar, .ref an, .ref ah, .int (nI n2), v4])), (ar, .inl (cI, 8 * nl, .inl rows2)), (an, .inl (cI, nl, .inl next2)), (ah, .inl (cI, hc, .inl heads2))] H locs := hW
              refine lv_iinc (lv' := [(1, .int (nI (i + 1))), (0, .ref t0)]) (v := nI (i + 1)) hx hb d_Tri_squeeze_173 hl (k := 1) rfl (nI_inc i) (by decide) rfl (fun ls hl => ?_)
              refine lv_goto (tgt := 138) hx hb d_Tri_squeeze_176 (by decide) ?_
              have hl : lv_has ls 2 [(0, .ref t0), (1, .int (nI (i + 1)))] := lv_sub hl [1, 0] rfl
              refine ih6 (4352 - (i + 1)) (by omega) (i + 1) _ ls H locs rfl (by omega) (fun b hb => ?_) (fun b hb => ?_) hl hW
              · by_cases h : b = i
                · rw [h, pk_us, err, trm_n (by omega)]
                · rw [pk_un h]; exact hx1 b (by omega)
              · rw [pk_un (by omega)]; exact hx2 b (by omega)
        · obtain ⟨rr, hrr, err⟩ := g5 i hlt4
          refine lv_aload_n hx hb d_Tri_squeeze_107 rfl (lv_at hl 0 rfl) ?_
          refine gf_Tri_18 hM hW.1 0 rfl rfl d_Tri_squeeze_108 ?_
          refine lv_aload_n hx hb d_Tri_squeeze_111 rfl (lv_at hl 0 rfl) ?_
          refine gf_Tri_15 hM hW.1 0 rfl rfl d_Tri_squeeze_112 ?_
          refine lv_iload_n hx hb d_Tri_squeeze_115 rfl (lv_at hl 1 rfl) ?_
          refine xn_iald hM hW.1 2 rfl (by omega) (by omega) d_Tri_squeeze_116 ?_
          refine xn_top (show bk i = nI rr from err) ?_
          refine lv_iconst (v := nI 0) hx hb d_Tri_squeeze_117 (by decide) ?_
          refine xn_iast hM hW 3 rfl (by omega) (by omega) d_Tri_squeeze_118 (fun H locs hW => ?_)
          have hW : xW D A s.heap [(t0, .inr (2, [.ref h0, .ref ai, .ref ab, .int (nI used), .ref am, v5])), (ai, .inl (cI, 4352, .inl ix)), (ab, .inl (cI, bl, .inl bk)), (am, .inl (cI, ml2, .inl (upd mk rr (nI 0)))), (h0, .inr (1, [.ref ar, .ref an, .ref ah, .int (nI n), v4])), (ar, .inl (cI, 8 * nl, .inl rows)), (an, .inl (cI, nl, .inl next)), (ah, .inl (cI, hc, .inl heads))] H locs := hW
          refine lv_iinc (lv' := [(1, .int (nI (i + 1))), (0, .ref t0)]) (v := nI (i + 1)) hx hb d_Tri_squeeze_119 hl (k := 1) rfl (nI_inc i) (by decide) rfl (fun ls hl => ?_)
          refine lv_goto (tgt := 95) hx hb d_Tri_squeeze_122 (by decide) ?_
          have hl : lv_has ls 2 [(0, .ref t0), (1, .int (nI (i + 1)))] := lv_sub hl [1, 0] rfl
          refine ih4 (256 * used - (i + 1)) (by omega) (i + 1) _ ls H locs rfl (by omega) (hmi.add (Or.inr ⟨i, hlt4, err⟩) fun j hj h => ?_) hl hW
          rcases h with h | ⟨q, hq, e⟩
          · exact Or.inl (Or.inl h)
          · by_cases hqi : q = i
            · right; subst hqi; exact (nI_eq (by omega) (by omega)).mp (e.symm.trans err)
            · exact Or.inl (Or.inr ⟨q, by omega, e⟩)
      · refine lv_aload_n hx hb d_Tri_squeeze_66 rfl (lv_at hl 0 rfl) ?_
        refine gf_Tri_11 hM hW.1 0 rfl rfl d_Tri_squeeze_67 ?_
        refine lv_iload_n hx hb d_Tri_squeeze_70 rfl (lv_at hl 1 rfl) ?_
        refine xn_iald hM hW.1 1 rfl (by omega) (by omega) d_Tri_squeeze_71 ?_
        refine lv_if_lt (tgt := 87) hx hb d_Tri_squeeze_72 (by decide) (fun hneg => ?_) (fun hpos => ?_)
        · refine lv_iinc (lv' := [(1, .int (nI (i + 1))), (0, .ref t0)]) (v := nI (i + 1)) hx hb d_Tri_squeeze_87 hl (k := 1) rfl (nI_inc i) (by decide) rfl (fun ls hl => ?_)
          refine lv_goto (tgt := 57) hx hb d_Tri_squeeze_90 (by decide) ?_
          have hl : lv_has ls 2 [(0, .ref t0), (1, .int (nI (i + 1)))] := lv_sub hl [1, 0] rfl
          refine ih3 (4352 - (i + 1)) (by omega) (i + 1) _ ls H locs rfl (by omega) (hmi.to fun j hj h => ?_) hl hW
          obtain ⟨b, hb, e⟩ := h
          by_cases hbi : b = i
          · subst hbi; rw [e] at hneg; exact absurd hneg (nI_pos (by omega))
          · exact ⟨b, by omega, e⟩
        · obtain ⟨rr, hrr, err⟩ : ∃ r, r < n ∧ ix i = nI r := by
            rcases g4 i hlt3 with q | ⟨k, hk, ek⟩
            · exact q
            · rw [ek] at hpos; exact absurd (ng_neg (by omega)) hpos
          refine lv_aload_n hx hb d_Tri_squeeze_75 rfl (lv_at hl 0 rfl) ?_
          refine gf_Tri_18 hM hW.1 0 rfl rfl d_Tri_squeeze_76 ?_
          refine lv_aload_n hx hb d_Tri_squeeze_79 rfl (lv_at hl 0 rfl) ?_
          refine gf_Tri_11 hM hW.1 0 rfl rfl d_Tri_squeeze_80 ?_
          refine lv_iload_n hx hb d_Tri_squeeze_83 rfl (lv_at hl 1 rfl) ?_
          refine xn_iald hM hW.1 1 rfl (by omega) (by omega) d_Tri_squeeze_84 ?_
          refine xn_top (show ix i = nI rr from err) ?_
          refine lv_iconst (v := nI 0) hx hb d_Tri_squeeze_85 (by decide) ?_
          refine xn_iast hM hW 3 rfl (by omega) (by omega) d_Tri_squeeze_86 (fun H locs hW => ?_)
          have hW : xW D A s.heap [(t0, .inr (2, [.ref h0, .ref ai, .ref ab, .int (nI used), .ref am, v5])), (ai, .inl (cI, 4352, .inl ix)), (ab, .inl (cI, bl, .inl bk)), (am, .inl (cI, ml2, .inl (upd mk rr (nI 0)))), (h0, .inr (1, [.ref ar, .ref an, .ref ah, .int (nI n), v4])), (ar, .inl (cI, 8 * nl, .inl rows)), (an, .inl (cI, nl, .inl next)), (ah, .inl (cI, hc, .inl heads))] H locs := hW
          refine lv_iinc (lv' := [(1, .int (nI (i + 1))), (0, .ref t0)]) (v := nI (i + 1)) hx hb d_Tri_squeeze_87 hl (k := 1) rfl (nI_inc i) (by decide) rfl (fun ls hl => ?_)
          refine lv_goto (tgt := 57) hx hb d_Tri_squeeze_90 (by decide) ?_
          have hl : lv_has ls 2 [(0, .ref t0), (1, .int (nI (i + 1)))] := lv_sub hl [1, 0] rfl
          refine ih3 (4352 - (i + 1)) (by omega) (i + 1) _ ls H locs rfl (by omega) (hmi.add (Or.inl ⟨i, hlt3, err⟩) fun j hj h => ?_) hl hW
          obtain ⟨b, hb, e⟩ := h
          by_cases hbi : b = i
          · right; subst hbi; exact (nI_eq (by omega) (by omega)).mp (e.symm.trans err)
          · exact Or.inl ⟨b, by omega, e⟩
    · refine lv_aload_n hx hb d_Tri_squeeze_42 rfl (lv_at hl 0 rfl) ?_
      refine gf_Tri_18 hM hW.1 0 rfl rfl d_Tri_squeeze_43 ?_
      refine lv_iload_n hx hb d_Tri_squeeze_46 rfl (lv_at hl 1 rfl) ?_
      refine lv_iconst (v := -1) hx hb d_Tri_squeeze_47 (by decide) ?_
      refine xn_iast hM hW 3 rfl (by omega) (by omega) d_Tri_squeeze_48 (fun H locs hW => ?_)
      have hW : xW D A s.heap [(t0, .inr (2, [.ref h0, .ref ai, .ref ab, .int (nI used), .ref am, v5])), (ai, .inl (cI, 4352, .inl ix)), (ab, .inl (cI, bl, .inl bk)), (am, .inl (cI, ml2, .inl (upd mk i (-1)))), (h0, .inr (1, [.ref ar, .ref an, .ref ah, .int (nI n), v4])), (ar, .inl (cI, 8 * nl, .inl rows)), (an, .inl (cI, nl, .inl next)), (ah, .inl (cI, hc, .inl heads))] H locs := hW
      refine lv_iinc (lv' := [(1, .int (nI (i + 1))), (0, .ref t0)]) (v := nI (i + 1)) hx hb d_Tri_squeeze_49 hl (k := 1) rfl (nI_inc i) (by decide) rfl (fun ls hl => ?_)
      refine lv_goto (tgt := 31) hx hb d_Tri_squeeze_52 (by decide) ?_
      have hl : lv_has ls 2 [(0, .ref t0), (1, .int (nI (i + 1)))] := lv_sub hl [1, 0] rfl
      refine ih2 (n - (i + 1)) (by omega) (i + 1) _ ls H locs rfl (by omega) (fun j hj => ?_) hl hW
      by_cases h : j = i
      · subst h; exact pk_us
      · rw [pk_un h]; exact hg j (by omega)
  · have hm4 : ml2 = 4096 := by omega
    have hc0e : cells = 0 := by omega
    subst hm4 hc0e
    refine lv_aload_n hx hb d_Tri_squeeze_15 rfl (lv_at hl 0 rfl) ?_
    refine lv_aload_n hx hb d_Tri_squeeze_16 rfl (lv_at hl 0 rfl) ?_
    refine gf_Tri_18 hM hW.1 0 rfl rfl d_Tri_squeeze_17 ?_
    refine x_callSNT (rest := [.ref t0]) hM (c_longer l D cI cL am 4096 mk (by omega)) cb_PT_longer cv_Tri_42 ⟨Nat.le_of_ble_eq_true rfl, Nat.le_of_ble_eq_true rfl⟩ ⟨by show 0 + 1 ≤ 1; omega, by show slots + 2 * 4096 ≤ 2 * (8192 - ml); omega⟩ hW [3] [0, 1, 2, 4, 5, 6, 7] (by decide) rfl (wr := [(t0, .inr (2, [.ref h0, .ref ai, .ref ab, .int (nI used), .ref am, v5])), (ai, .inl (cI, 4352, .inl ix)), (ab, .inl (cI, bl, .inl bk)), (h0, .inr (1, [.ref ar, .ref an, .ref ah, .int (nI n), v4])), (ar, .inl (cI, 8 * nl, .inl rows)), (an, .inl (cI, nl, .inl next)), (ah, .inl (cI, hc, .inl heads))]) rfl (by decide) (by decide) rfl hl.1 rfl (Nat.le_of_ble_eq_true rfl) d_Tri_squeeze_20 (fun v k z w1 H locs hv hW => ?_)
    obtain ⟨am2, mk2, rfl, rfl, rfl, hg, rfl⟩ := hv
    have hW : xW D A s.heap [(t0, .inr (2, [.ref h0, .ref ai, .ref ab, .int (nI used), .ref am, v5])), (ai, .inl (cI, 4352, .inl ix)), (ab, .inl (cI, bl, .inl bk)), (am, .inl (cI, 4096, .inl mk)), (h0, .inr (1, [.ref ar, .ref an, .ref ah, .int (nI n), v4])), (ar, .inl (cI, 8 * nl, .inl rows)), (an, .inl (cI, nl, .inl next)), (ah, .inl (cI, hc, .inl heads)), (am2, .inl (cI, 2 * 4096, .inl mk2))] H locs := hW.sub [0, 1, 2, 7, 3, 4, 5, 6, 8] (by decide) rfl
    refine W.eq (g2 := F0 m 23 ls [.ref am2, .ref t0]) rfl ?_
    refine pf_Tri_18 hM hW 0 rfl (Nat.le_of_ble_eq_true rfl) d_Tri_squeeze_23 (fun H locs hW => ?_)
    have hW : xW D A s.heap [(t0, .inr (2, [.ref h0, .ref ai, .ref ab, .int (nI used), .ref am2, v5])), (ai, .inl (cI, 4352, .inl ix)), (ab, .inl (cI, bl, .inl bk)), (am, .inl (cI, 4096, .inl mk)), (h0, .inr (1, [.ref ar, .ref an, .ref ah, .int (nI n), v4])), (ar, .inl (cI, 8 * nl, .inl rows)), (an, .inl (cI, nl, .inl next)), (ah, .inl (cI, hc, .inl heads)), (am2, .inl (cI, 2 * 4096, .inl mk2))] H locs := hW
    have hW : xW D A s.heap [(t0, .inr (2, [.ref h0, .ref ai, .ref ab, .int (nI used), .ref am2, v5])), (ai, .inl (cI, 4352, .inl ix)), (ab, .inl (cI, bl, .inl bk)), (am2, .inl (cI, 2 * 4096, .inl mk2)), (h0, .inr (1, [.ref ar, .ref an, .ref ah, .int (nI n), v4])), (ar, .inl (cI, 8 * nl, .inl rows)), (an, .inl (cI, nl, .inl next)), (ah, .inl (cI, hc, .inl heads))] H locs := hW.sub [0, 1, 2, 8, 4, 5, 6, 7] (by decide) rfl
    refine lv_goto (tgt := 0) hx hb d_Tri_squeeze_26 (by decide) ?_
    exact ih (8192 - 2 * 4096) (by omega) am2 (2 * 4096) _ _ mk2 ls H locs rfl (by omega) (by omega) (by omega) (by omega) hl hW
end
section
/-! TRIE.set, plain: the map from points to rows -/
def chg (fd : Nat) (x kp : Int32) (t : Nat → Int32) : Nat → Int32 := upd t fd (t fd &&& kp ||| x)
theorem chg_congr {fd : Nat} {x kp : Int32} {t u : Nat → Int32} (hf : fd < 8) (h : ∀ i, i < 8 → t i = u i) : ∀ i, i < 8 → chg fd x kp t i = chg fd x kp u i := fun i hi => by
  unfold chg
  by_cases e : i = fd
  · rw [e, pk_us, pk_us, h fd hf]
  · rw [pk_un e, pk_un e]; exact h i hi
/-- the list L has every point's row -/
def Cov (g : Nat → Nat → Int32) (L : List (Nat → Int32)) : Prop := ∀ q, q < 1114112 → ∃ t ∈ L, ∀ i, i < 8 → g q i = t i
/-- the points from a to b (b out) changed -/
def gset (g : Nat → Nat → Int32) (a b fd : Nat) (x kp : Int32) : Nat → Nat → Int32 := fun q => if a ≤ q ∧ q < b then chg fd x kp (g q) else g q
/-- the trie holds the map g -/
def GP (rows ix bk : Nat → Int32) (g : Nat → Nat → Int32) : Prop := ∀ q, q < 1114112 → ∀ i, i < 8 → rows (8 * (rp ix bk q).toNatClampNeg + i) = g q i
def PC (nl hc bl ml : Nat) : Nat := 4096 * (nl + hc + ml) + bl
def PS (nl hc bl ml : Nat) : Nat := 18 * nl + 2 * hc + 2 * bl + 2 * ml
/-- the trie and its records between two calls -/
def XS (g : Nat → Nat → Int32) (rows next heads ix bk : Nat → Int32) (n nl hc used bl ml most : Nat) : Prop := RI rows next heads n nl hc ∧ TI ix bk used bl n ∧ GP rows ix bk g ∧ n ≤ most ∧ 4096 ≤ most ∧ most ≤ 4102 ∧ (ml = 4096 ∨ ml = 8192) ∧ (∀ i, i < 8 → rows i = 0) ∧ 0 < n
/-- within set, behind the points below q -/
def SI (g : Nat → Nat → Int32) (L : List (Nat → Int32)) (fd : Nat) (x kp : Int32) (a n0 q : Nat) (rows next heads ix bk : Nat → Int32) (n nl hc used bl : Nat) : Prop := RI rows next heads n nl hc ∧ TI ix bk used bl n ∧ GP rows ix bk (gset g a q fd x kp) ∧ (∀ i, i < 8 → rows i = 0) ∧ 0 < n ∧ n0 ≤ n ∧ (∀ j, n0 ≤ j → j < n → ∃ t ∈ L, ∀ i, i < 8 → rows (8 * j + i) = chg fd x kp t i) ∧ a ≤ q
theorem SI.bound {g : Nat → Nat → Int32} {L : List (Nat → Int32)} {fd : Nat} {x kp : Int32} {a n0 q : Nat} {rows next heads ix bk : Nat → Int32} {n nl hc used bl : Nat} (h : SI g L fd x kp a n0 q rows next heads ix bk n nl hc used bl) : n ≤ n0 + L.length := by
  obtain ⟨hR, -, -, -, -, h6, h7, -⟩ := h
  have hA := hR.2.2.2.2.2
  refine pigeon_n (R := fun j t => ∀ i, i < 8 → rows (8 * j + i) = chg fd x kp t i) n0 n L (fun j j' t _ hj _ hj' h1 h2 => ?_) h7
  rcases Nat.lt_trichotomy j j' with h | h | h
  · exact absurd (fun i hi => (h1 i hi).trans (h2 i hi).symm) (hA j j' h hj')
  · exact h
  · exact absurd (fun i hi => (h2 i hi).trans (h1 i hi).symm) (hA j' j h hj)
theorem SI.step {g : Nat → Nat → Int32} {L : List (Nat → Int32)} {fd : Nat} {x kp : Int32} {a n0 q q2 r0 r : Nat} {rows next heads ix bk rows2 next2 heads2 ix2 bk2 : Nat → Int32} {n nl hc used bl n2 nl2 hc2 : Nat} (h : SI g L fd x kp a n0 q rows next heads ix bk n nl hc used bl) (hf : fd < 8) (hC : Cov g L) (hq : q < q2) (hq2 : q2 ≤ 1114112) (h0 : ∀ y, q ≤ y → y < q2 → rp ix bk y = nI r0) (hr0 : r0 < n)
    (hto : RecTo rows n (upd (fun i => rows (8 * r0 + i)) fd (rows (8 * r0 + fd) &&& kp ||| x)) r rows2 n2) (hR2 : RI rows2 next2 heads2 n2 nl2 hc2) (hT2 : TI ix2 bk2 used bl n2) (hrp : ∀ y, y < 1114112 → rp ix2 bk2 y = if q ≤ y ∧ y < q2 then nI r else rp ix bk y) : SI g L fd x kp a n0 q2 rows2 next2 heads2 ix2 bk2 n2 nl2 hc2 used bl := by
  obtain ⟨-, hT, hG, h4, h5, h6, h7, h8⟩ := h
  obtain ⟨t1, t2, t3, t4⟩ := hto
  have hn8 := hT.2.2.1
  have hn82 := hT2.2.2.1
  have row0 : ∀ y, q ≤ y → y < q2 → ∀ i, i < 8 → rows (8 * r0 + i) = g y i := fun y hy1 hy2 i hi => by
    have := hG y (by omega) i hi
    rw [h0 y hy1 hy2, nI_clamp (by omega)] at this
    rw [this]; unfold gset; rw [if_neg (by omega)]
  have t3' : ∀ i, i < 8 → rows2 (8 * r + i) = chg fd x kp (fun i => rows (8 * r0 + i)) i := t3
  refine ⟨hR2, hT2, fun y hy i hi => ?_, fun i hi => ?_, by omega, by omega, fun j hj1 hj2 => ?_, by omega⟩
  · rw [hrp y hy]
    by_cases e : q ≤ y ∧ y < q2
    · rw [if_pos e, nI_clamp (by omega), t3' i hi]
      unfold gset
      rw [if_pos (by omega)]
      exact chg_congr hf (row0 y e.1 e.2) i hi
    · rw [if_neg e]
      obtain ⟨ry, hry, ery⟩ := hT.pt hy
      have hg := hG y hy i hi
      rw [ery, nI_clamp (by omega)] at hg ⊢
      rw [← t1 ry hry i hi, hg]
      unfold gset
      by_cases e2 : a ≤ y ∧ y < q
      · rw [if_pos e2, if_pos (by omega)]
      · rw [if_neg e2, if_neg (by omega)]
  · have := t1 0 h5 i hi
    rw [Nat.mul_zero, Nat.zero_add] at this
    rw [← this]; exact h4 i hi
  · by_cases e : j < n
    · obtain ⟨t, ht, hh⟩ := h7 j hj1 e
      exact ⟨t, ht, fun i hi => by rw [← t1 j e i hi]; exact hh i hi⟩
    · obtain ⟨t, ht, hh⟩ := hC q (by omega)
      refine ⟨t, ht, fun i hi => ?_⟩
      have hjr : j = r := by omega
      rw [hjr, t3' i hi]
      exact chg_congr hf (fun i hi => (row0 q (Nat.le_refl _) hq i hi).trans (hh i hi)) i hi
/-- the records that squeeze leaves are no more than the points' rows, and the first -/
theorem sq_bound {g : Nat → Nat → Int32} {L : List (Nat → Int32)} {fd : Nat} {x kp : Int32} {a b : Nat} {rows ix bk rows2 ix2 bk2 : Nat → Int32} {n n2 used bl : Nat} (hf : fd < 8) (hC : Cov g L) (hG : GP rows ix bk (gset g a b fd x kp)) (hS : SqTo rows ix bk n rows2 ix2 bk2 n2 used bl) (hA : Apart rows2 n2) : n2 ≤ 1 + 2 * L.length := by
  obtain ⟨-, -, -, h4, -, -, -⟩ := hS
  have := pigeon_n (R := fun j t => ∀ i, i < 8 → rows2 (8 * j + i) = t i) 0 n2 ((fun i => rows2 i) :: (L ++ L.map (chg fd x kp))) (fun j j' t _ hj _ hj' h1 h2 => by
    rcases Nat.lt_trichotomy j j' with h | h | h
    · exact absurd (fun i hi => (h1 i hi).trans (h2 i hi).symm) (hA j j' h hj')
    · exact h
    · exact absurd (fun i hi => (h2 i hi).trans (h1 i hi).symm) (hA j' j h hj)) (fun j _ hj => by
    rcases h4 j hj with e | ⟨q, hq, hh⟩
    · exact ⟨_, List.mem_cons_self, fun i hi => by rw [e, Nat.mul_zero, Nat.zero_add]⟩
    · obtain ⟨t, ht, hg⟩ := hC q hq
      by_cases e : a ≤ q ∧ q < b
      · refine ⟨chg fd x kp t, List.mem_cons_of_mem _ (List.mem_append_right _ (List.mem_map_of_mem ht)), fun i hi => ?_⟩
        rw [hh i hi, hG q hq i hi]
        unfold gset
        rw [if_pos e]
        exact chg_congr hf hg i hi
      · refine ⟨t, List.mem_cons_of_mem _ (List.mem_append_left _ ht), fun i hi => ?_⟩
        rw [hh i hi, hG q hq i hi]
        unfold gset
        rw [if_neg e]
        exact hg i hi)
  simp only [List.length_cons, List.length_append, List.length_map] at this
  omega
end
section
/-- all the cells of the trie and its records -/
abbrev wAll (cI : ClassId) (t0 h0 ai ab am ar an ah at_ nl hc n used bl ml most : Nat) (rows next heads tr ix bk mk : Nat → Int32) : va_W := [(t0, .inr (2, [.ref h0, .ref ai, .ref ab, .int (nI used), .ref am, .int (nI most)])), (ai, .inl (cI, 4352, .inl ix)), (ab, .inl (cI, bl, .inl bk)), (am, .inl (cI, ml, .inl mk)), (h0, .inr (1, [.ref ar, .ref an, .ref ah, .int (nI n), .ref at_])), (ar, .inl (cI, 8 * nl, .inl rows)), (an, .inl (cI, nl, .inl next)), (ah, .inl (cI, hc, .inl heads)), (at_, .inl (cI, 8, .inl tr))]
abbrev rm_set (P : Nat) : Room := { frames := 6, cells := 30000, slots := 4600000 - P, locals := 138 }
set_option maxHeartbeats 4000000 in
set_option maxRecDepth 100000 in
/-- Trie.set(first, last, field, v, kept) -/
theorem c_tset (l : Launch) (D : va_G) (cI cL : ClassId) (t0 h0 ai ab am ar an ah at_ nl hc n used bl ml most a la fd : Nat) (x kp : Int32) (rows next heads tr ix bk mk : Nat → Int32) (g : Nat → Nat → Int32) (L : List (Nat → Int32)) (hX : XS g rows next heads ix bk n nl hc used bl ml most) (hC : Cov g L) (hLl : L.length ≤ 1025) (hab : a ≤ la) (hla : la < 1114112) (hfd : fd < 8) : CT l D cI cL y_Tri_set (xws y_Tri_set b_Tri_set 11 none) (rm_set (PS nl hc bl ml)) [.ref t0, .int (nI a), .int (nI la), .int (nI fd), .int x, .int kp] (wAll cI t0 h0 ai ab am ar an ah at_ nl hc n used bl ml most rows next heads tr ix bk mk) (fun v k z w1 => ∃ (ab2 am2 ar2 an2 ah2 nl2 hc2 n2 used2 bl2 ml2 most2 : Nat) (rows2 next2 heads2 tr2 ix2 bk2 mk2 : Nat → Int32), v = none ∧ 4096 * k + PC nl hc bl ml ≤ PC nl2 hc2 bl2 ml2 ∧ z + PS nl hc bl ml ≤ PS nl2 hc2 bl2 ml2 ∧ XS (gset g a (la + 1) fd x kp) rows2 next2 heads2 ix2 bk2 n2 nl2 hc2 used2 bl2 ml2 most2 ∧ w1 = wAll cI t0 h0 ai ab2 am2 ar2 an2 ah2 at_ nl2 hc2 n2 used2 bl2 ml2 most2 rows2 next2 heads2 tr2 ix2 bk2 mk2) := by
  refine CT.ofV (own := R_Tri) (cc := b_Tri_set) (nL := 11) (by decide) rfl (Nat.le_of_ble_eq_true rfl) ?_
  intro p e s m args below meth c A Q ls hM hl hW hnm RET
  have hx := hM.1
  have hb := hM.2.1
  have hl : lv_has ls 11 [(0, .ref t0), (1, .int (nI a)), (2, .int (nI la)), (3, .int (nI fd)), (4, .int x), (5, .int kp)] := hl
  have hW : xW D A s.heap [(t0, .inr (2, [.ref h0, .ref ai, .ref ab, .int (nI used), .ref am, .int (nI most)])), (ai, .inl (cI, 4352, .inl ix)), (ab, .inl (cI, bl, .inl bk)), (am, .inl (cI, ml, .inl mk)), (h0, .inr (1, [.ref ar, .ref an, .ref ah, .int (nI n), .ref at_])), (ar, .inl (cI, 8 * nl, .inl rows)), (an, .inl (cI, nl, .inl next)), (ah, .inl (cI, hc, .inl heads)), (at_, .inl (cI, 8, .inl tr))] s.heap [] := hW
  obtain ⟨hR0, hT0, hG0, hmo, hm1, hm2, hml, hz0, hn0⟩ := hX
  have hSI : SI g L fd x kp a n a rows next heads ix bk n nl hc used bl := ⟨hR0, hT0, fun q hq i hi => by unfold gset; rw [if_neg (by omega)]; exact hG0 q hq i hi, hz0, hn0, Nat.le_refl _, fun j h1 h2 => absurd h2 (by omega), Nat.le_refl _⟩
  generalize hP0 : PS nl hc bl ml = P0 at RET ⊢
  generalize hC0 : PC nl hc bl ml = C0 at RET ⊢
  have hP0l : P0 ≤ PS nl hc bl ml := by omega
  have hC0l : C0 ≤ PC nl hc bl ml := by omega
  have hPm : P0 ≤ 4366336 := by
    have h1 := hR0.2.1.le
    have h2 := hR0.2.2.1.le
    have h3 := hT0.2.1.le
    unfold PS at hP0; omega
  refine lv_iload_n hx hb d_Tri_set_0 rfl (lv_at hl 1 rfl) ?_
  refine lv_istore (lv' := [(6, .int (nI a)), (0, .ref t0), (1, .int (nI a)), (2, .int (nI la)), (3, .int (nI fd)), (4, .int x), (5, .int kp)]) hx hb d_Tri_set_1 hl (by decide) rfl (fun ls hl => ?_)
  have hl : lv_has ls 11 [(0, .ref t0), (1, .int (nI a)), (2, .int (nI la)), (3, .int (nI fd)), (4, .int x), (5, .int kp), (6, .int (nI a))] := lv_sub hl [1, 2, 3, 4, 5, 6, 0] rfl
  suffices loop : ∀ (k : Nat) (q ab ar an ah nl hc n1 used bl cells slots : Nat) (rows next heads tr ix bk : Nat → Int32) (ls : Array Slot) (H : Heap) (locs : List Loc), la + 1 - q = k → q ≤ la + 1 → SI g L fd x kp a n q rows next heads ix bk n1 nl hc used bl → 4096 * cells + C0 ≤ PC nl hc bl ml → slots + P0 ≤ PS nl hc bl ml → lv_has ls 11 [(0, .ref t0), (1, .int (nI a)), (2, .int (nI la)), (3, .int (nI fd)), (4, .int x), (5, .int kp), (6, .int (nI q))] → xW D A s.heap [(t0, .inr (2, [.ref h0, .ref ai, .ref ab, .int (nI used), .ref am, .int (nI most)])), (ai, .inl (cI, 4352, .inl ix)), (ab, .inl (cI, bl, .inl bk)), (am, .inl (cI, ml, .inl mk)), (h0, .inr (1, [.ref ar, .ref an, .ref ah, .int (nI n1), .ref at_])), (ar, .inl (cI, 8 * nl, .inl rows)), (an, .inl (cI, nl, .inl next)), (ah, .inl (cI, hc, .inl heads)), (at_, .inl (cI, 8, .inl tr))] H locs → W p l e (rm_set P0) s m args below meth c H locs cells slots Q (F0 m 3 ls []) from
    loop _ a ab ar an ah nl hc n used bl 0 0 rows next heads tr ix bk ls s.heap [] rfl (by omega) hSI (by omega) (by omega) hl hW
  clear hR0 hT0 hG0 hz0 hSI hP0 hC0 hP0l hC0l
  intro k
  induction k using Nat.strongRecOn with | ind k ih => ?_
  intro q ab ar an ah nl hc n1 used bl cells slots rows next heads tr ix bk ls H locs hk hq hS hc1 hc2 hl hW
  have hbd := hS.bound
  have hRI := hS.1
  have hTI := hS.2.1
  have hNL := hRI.2.1.le
  have hHC := hRI.2.2.1.le
  have hBL := hTI.2.1.le
  have hNn := hRI.1
  have hbc : cells ≤ 21000 := by unfold PC at hc1; omega
  have hbs : slots + P0 ≤ 4366336 := by unfold PS at hc2; omega
  refine lv_iload hx hb d_Tri_set_3 (lv_at hl 6 rfl) ?_
  refine lv_iload_n hx hb d_Tri_set_5 rfl (lv_at hl 2 rfl) ?_
  refine xn_gt (tgt := 182) hx hb (by omega) (by omega) d_Tri_set_6 (by decide) (fun hgt => ?_) (fun hle => ?_)
  · have hqe : q = la + 1 := by omega
    subst hqe
    have hG := hS.2.2.1
    have hz := hS.2.2.2.1
    have hn1 := hS.2.2.2.2.1
    have hl : lv_has ls 11 [(0, .ref t0)] := lv_sub hl [0] rfl
    refine lv_aload_n hx hb d_Tri_set_182 rfl (lv_at hl 0 rfl) ?_
    refine gf_Tri_25 hM hW.1 0 rfl rfl d_Tri_set_183 ?_
    refine x_callVP (rest := []) hM (c_count l D cI cL h0 (.ref ar) (.ref an) (.ref ah) (.ref at_) (nI n1)) cb_Rec_count cv_Tri_53 ⟨Nat.le_of_ble_eq_true rfl, Nat.le_of_ble_eq_true rfl⟩ ⟨by show cells + 0 ≤ 30000; omega, by show slots + 0 ≤ 4600000 - P0; omega⟩ hW.1 [4] rfl 4 rfl rfl rfl hl.1 rfl (Nat.le_of_ble_eq_true rfl) d_Tri_set_186 (fun v hv => ?_)
    subst hv
    refine W.eq (g2 := F0 m 189 ls [.int (nI n1)]) rfl ?_
    refine lv_aload_n hx hb d_Tri_set_189 rfl (lv_at hl 0 rfl) ?_
    refine gf_Tri_21 hM hW.1 0 rfl rfl d_Tri_set_190 ?_
    refine xn_le (tgt := 200) hx hb (by omega) (by omega) d_Tri_set_193 (by decide) (fun hle1 => ?_) (fun hgt1 => ?_)
    · exact RET (w1 := wAll cI t0 h0 ai ab am ar an ah at_ nl hc n1 used bl ml most rows next heads tr ix bk mk) hW ⟨ab, am, ar, an, ah, nl, hc, n1, used, bl, ml, most, rows, next, heads, tr, ix, bk, mk, rfl, hc1, hc2, ⟨hRI, hTI, hG, hle1, hm1, hm2, hml, hz, hn1⟩, rfl⟩ d_Tri_set_200
    · refine lv_aload_n hx hb d_Tri_set_196 rfl (lv_at hl 0 rfl) ?_
      refine x_callVT (rest := []) hM (c_squeeze l D cI cL t0 h0 ai ab am ar an ah nl hc n1 used bl ml (.ref at_) (.int (nI most)) rows next heads ix bk mk hTI hNn (by omega) hRI.2.2.1 hn1 hml) cb_Tri_squeeze cv_Tri_57 ⟨Nat.le_of_ble_eq_true rfl, Nat.le_of_ble_eq_true rfl⟩ ⟨by show cells + 1 ≤ 30000; omega, by show slots + 2 * (8192 - ml) ≤ 4600000 - P0; unfold PS at hc2; omega⟩ hW [0, 1, 2, 3, 4, 5, 6, 7] [8] (by decide) rfl (wr := [(at_, .inl (cI, 8, .inl tr))]) rfl (by decide) (by decide) 0 rfl rfl rfl hl.1 rfl (Nat.le_of_ble_eq_true rfl) d_Tri_set_197 (fun v k1 z1 w1 H locs hv hW => ?_)
      obtain ⟨am2, ml2, n2, most2, rows2, next2, heads2, ix2, bk2, mk2, rfl, hk1, hk2, hml2, hL2, hSq, hmost, rfl⟩ := hv
      have hW : xW D A s.heap [(t0, .inr (2, [.ref h0, .ref ai, .ref ab, .int (nI used), .ref am2, .int (nI most2)])), (ai, .inl (cI, 4352, .inl ix2)), (ab, .inl (cI, bl, .inl bk2)), (am2, .inl (cI, ml2, .inl mk2)), (h0, .inr (1, [.ref ar, .ref an, .ref ah, .int (nI n2), .ref at_])), (ar, .inl (cI, 8 * nl, .inl rows2)), (an, .inl (cI, nl, .inl next2)), (ah, .inl (cI, hc, .inl heads2)), (at_, .inl (cI, 8, .inl tr))] H locs := hW.sub [1, 2, 3, 4, 5, 6, 7, 8, 0] (by decide) rfl
      refine W.eq (g2 := F0 m 200 ls []) rfl ?_
      have hSq0 := hSq
      obtain ⟨s1, s2, s3, s4, s5, s6, s7⟩ := hSq
      have hA2 := s2 hRI.2.2.2.2.2
      have hb2 := sq_bound hfd hC hG hSq0 hA2
      refine RET (w1 := wAll cI t0 h0 ai ab am2 ar an ah at_ nl hc n2 used bl ml2 most2 rows2 next2 heads2 tr ix2 bk2 mk2) hW ⟨ab, am2, ar, an, ah, nl, hc, n2, used, bl, ml2, most2, rows2, next2, heads2, tr, ix2, bk2, mk2, rfl, by unfold PC at hc1 ⊢; omega, by unfold PS at hc2 ⊢; omega, ⟨⟨by omega, hRI.2.1, hRI.2.2.1, by have := hRI.2.2.2.1; omega, hL2, hA2⟩, s1, fun y hy i hi => (s3 y hy i hi).trans (hG y hy i hi), by omega, by omega, by omega, hml2, fun i hi => ?_, s6⟩, rfl⟩ d_Tri_set_200
      have := s5 i hi
      rw [Nat.mul_zero, Nat.zero_add] at this
      rw [← this]; exact hz i hi
  · refine lv_iload hx hb d_Tri_set_9 (lv_at hl 6 rfl) ?_
    refine lv_bipush (v := nI 8) hx hb d_Tri_set_11 (by decide) ?_
    refine xn_shr8 hx hb (by omega) d_Tri_set_13 ?_
    refine lv_istore (lv' := [(7, .int (nI (q / 256))), (0, .ref t0), (1, .int (nI a)), (2, .int (nI la)), (3, .int (nI fd)), (4, .int x), (5, .int kp), (6, .int (nI q))]) hx hb d_Tri_set_14 hl (by decide) rfl (fun ls hl => ?_)
    have hl : lv_has ls 11 [(0, .ref t0), (1, .int (nI a)), (2, .int (nI la)), (3, .int (nI fd)), (4, .int x), (5, .int kp), (6, .int (nI q)), (7, .int (nI (q / 256)))] := lv_sub hl [1, 2, 3, 4, 5, 6, 7, 0] rfl
    have part : ∀ (ls : Array Slot), lv_has ls 11 [(0, .ref t0), (1, .int (nI a)), (2, .int (nI la)), (3, .int (nI fd)), (4, .int x), (5, .int kp), (6, .int (nI q)), (7, .int (nI (q / 256)))] → W p l e (rm_set P0) s m args below meth c H locs cells slots Q (F0 m 89 ls []) := by
      intro ls hl
      refine lv_sipush (v := nI 256) hx hb d_Tri_set_89 (by decide) ?_
      refine lv_aload_n hx hb d_Tri_set_92 rfl (lv_at hl 0 rfl) ?_
      refine lv_iload hx hb d_Tri_set_93 (lv_at hl 7 rfl) ?_
      refine x_callVT (rest := [.int (nI 256)]) hM (c_own l D cI cL t0 ai ab bl used n1 (q / 256) (.ref h0) (.ref am) (.int (nI most)) ix bk hTI (by omega)) cb_Tri_own cv_Tri_50 ⟨Nat.le_of_ble_eq_true rfl, Nat.le_of_ble_eq_true rfl⟩ ⟨by show cells + 1 ≤ 30000; omega, by show slots + 2 * (2097152 - bl) ≤ 4600000 - P0; unfold PS at hc2; omega⟩ hW [0, 1, 2] [3, 4, 5, 6, 7, 8] (by decide) rfl (wr := [(am, .inl (cI, ml, .inl mk)), (h0, .inr (1, [.ref ar, .ref an, .ref ah, .int (nI n1), .ref at_])), (ar, .inl (cI, 8 * nl, .inl rows)), (an, .inl (cI, nl, .inl next)), (ah, .inl (cI, hc, .inl heads)), (at_, .inl (cI, 8, .inl tr))]) rfl (by decide) (by decide) 0 rfl rfl rfl hl.1 rfl (Nat.le_of_ble_eq_true rfl) d_Tri_set_95 (fun v k1 z1 w1 H locs hv hW => ?_)
      obtain ⟨kb, used2, bl2, ab2, ix2, bk2, rfl, hk1, hk2, hT2, hkb, ekb, hrp, rfl⟩ := hv
      have hW : xW D A s.heap [(t0, .inr (2, [.ref h0, .ref ai, .ref ab2, .int (nI used2), .ref am, .int (nI most)])), (ai, .inl (cI, 4352, .inl ix2)), (ab2, .inl (cI, bl2, .inl bk2)), (am, .inl (cI, ml, .inl mk)), (h0, .inr (1, [.ref ar, .ref an, .ref ah, .int (nI n1), .ref at_])), (ar, .inl (cI, 8 * nl, .inl rows)), (an, .inl (cI, nl, .inl next)), (ah, .inl (cI, hc, .inl heads)), (at_, .inl (cI, 8, .inl tr))] H locs := hW.sub [6, 7, 8, 0, 1, 2, 3, 4, 5] (by decide) rfl
      refine W.eq (g2 := F0 m 98 ls [.int (nI kb), .int (nI 256)]) rfl ?_
      have hS2 : SI g L fd x kp a n q rows next heads ix2 bk2 n1 nl hc used2 bl2 := ⟨hRI, hT2, fun y hy i hi => by rw [hrp y hy]; exact hS.2.2.1 y hy i hi, hS.2.2.2⟩
      replace hc1 : 4096 * (cells + k1) + C0 ≤ PC nl hc bl2 ml := by unfold PC at hc1 ⊢; omega
      replace hc2 : slots + z1 + P0 ≤ PS nl hc bl2 ml := by unfold PS at hc2 ⊢; omega
      generalize cells + k1 = cells at hc1 ⊢
      generalize slots + z1 = slots at hc2 ⊢
      refine xn_imul hx hb d_Tri_set_98 ?_
      refine lv_istore (lv' := [(9, .int (nI (256 * kb))), (0, .ref t0), (1, .int (nI a)), (2, .int (nI la)), (3, .int (nI fd)), (4, .int x), (5, .int kp), (6, .int (nI q)), (7, .int (nI (q / 256)))]) hx hb d_Tri_set_99 hl (by decide) rfl (fun ls hl => ?_)
      have hl : lv_has ls 11 [(0, .ref t0), (1, .int (nI a)), (2, .int (nI la)), (3, .int (nI fd)), (4, .int x), (5, .int kp), (6, .int (nI q)), (7, .int (nI (q / 256))), (9, .int (nI (256 * kb)))] := lv_sub hl [1, 2, 3, 4, 5, 6, 7, 8, 0] rfl
      have inner : ∀ (en : Nat), q ≤ en → en ≤ la → en / 256 = q / 256 → ∀ (k : Nat) (y ar an ah nl hc n1 cells slots : Nat) (rows next heads tr bk : Nat → Int32) (ls : Array Slot) (H : Heap) (locs : List Loc), en + 1 - y = k → q ≤ y → y ≤ en + 1 → SI g L fd x kp a n y rows next heads ix2 bk n1 nl hc used2 bl2 → 4096 * cells + C0 ≤ PC nl hc bl2 ml → slots + P0 ≤ PS nl hc bl2 ml → lv_has ls 11 [(0, .ref t0), (1, .int (nI a)), (2, .int (nI la)), (3, .int (nI fd)), (4, .int x), (5, .int kp), (6, .int (nI y)), (7, .int (nI (q / 256))), (9, .int (nI (256 * kb))), (10, .int (nI en))] → xW D A s.heap [(t0, .inr (2, [.ref h0, .ref ai, .ref ab2, .int (nI used2), .ref am, .int (nI most)])), (ai, .inl (cI, 4352, .inl ix2)), (ab2, .inl (cI, bl2, .inl bk)), (am, .inl (cI, ml, .inl mk)), (h0, .inr (1, [.ref ar, .ref an, .ref ah, .int (nI n1), .ref at_])), (ar, .inl (cI, 8 * nl, .inl rows)), (an, .inl (cI, nl, .inl next)), (ah, .inl (cI, hc, .inl heads)), (at_, .inl (cI, 8, .inl tr))] H locs → W p l e (rm_set P0) s m args below meth c H locs cells slots Q (F0 m 129 ls []) := by
        clear hl hW hbd hRI hTI hNL hHC hBL hNn hbc hbs hc1 hc2 hrp hT2 hS hS2 hk1 hk2
        intro en he1 he2 he3 k2
        induction k2 using Nat.strongRecOn with | ind k2 ih2 => ?_
        intro y ar an ah nl hc n1 cells slots rows next heads tr bk ls H locs hk2 hy1 hy2 hS hc1 hc2 hl hW
        have hbd := hS.bound
        have hRI := hS.1
        have hTI := hS.2.1
        have hNL := hRI.2.1.le
        have hHC := hRI.2.2.1.le
        have hBL := hTI.2.1.le
        have hNn := hRI.1
        have hbc : cells ≤ 21000 := by unfold PC at hc1; omega
        have hbs : slots + P0 ≤ 4366336 := by unfold PS at hc2; omega
        have hub := hTI.1
        refine lv_iload hx hb d_Tri_set_129 (lv_at hl 6 rfl) ?_
        refine lv_iload hx hb d_Tri_set_131 (lv_at hl 9 rfl) ?_
        refine xn_gt (tgt := 179) hx hb (by omega) (by omega) d_Tri_set_133 (by decide) (fun hgt2 => ?_) (fun hle2 => ?_)
        · refine lv_goto (tgt := 3) hx hb d_Tri_set_179 (by decide) ?_
          have hl : lv_has ls 11 [(0, .ref t0), (1, .int (nI a)), (2, .int (nI la)), (3, .int (nI fd)), (4, .int x), (5, .int kp), (6, .int (nI y))] := lv_sub hl [0, 1, 2, 3, 4, 5, 6] rfl
          exact ih (la + 1 - y) (by omega) y ab2 ar an ah nl hc n1 used2 bl2 cells slots rows next heads tr ix2 bk ls H locs rfl (by omega) hS hc1 hc2 hl hW
        · have hyb : y / 256 = q / 256 := by omega
          have eky : ix2 (y / 256) = ng kb := by rw [hyb]; exact ekb
          obtain ⟨r0, hr0, er0⟩ := hTI.2.2.2.2.1 (256 * kb + y % 256) (by omega)
          refine lv_aload_n hx hb d_Tri_set_136 rfl (lv_at hl 0 rfl) ?_
          refine gf_Tri_15 hM hW.1 0 rfl rfl d_Tri_set_137 ?_
          refine lv_iload hx hb d_Tri_set_140 (lv_at hl 8 rfl) ?_
          refine lv_iload hx hb d_Tri_set_142 (lv_at hl 6 rfl) ?_
          refine lv_sipush (v := nI 255) hx hb d_Tri_set_144 (by decide) ?_
          refine xn_and255 hx hb (by omega) d_Tri_set_147 ?_
          refine xn_iadd hx hb d_Tri_set_148 ?_
          refine lv_aload_n hx hb d_Tri_set_149 rfl (lv_at hl 0 rfl) ?_
          refine lv_aload_n hx hb d_Tri_set_150 rfl (lv_at hl 0 rfl) ?_
          refine gf_Tri_15 hM hW.1 0 rfl rfl d_Tri_set_151 ?_
          refine lv_iload hx hb d_Tri_set_154 (lv_at hl 8 rfl) ?_
          refine lv_iload hx hb d_Tri_set_156 (lv_at hl 6 rfl) ?_
          refine lv_sipush (v := nI 255) hx hb d_Tri_set_158 (by decide) ?_
          refine xn_and255 hx hb (by omega) d_Tri_set_161 ?_
          refine xn_iadd hx hb d_Tri_set_162 ?_
          refine xn_iald hM hW.1 2 rfl (by omega) (by omega) d_Tri_set_163 ?_
          refine xn_top (show bk ((256 * kb) + (y % 256)) = nI r0 from er0) ?_
          refine lv_iload_n hx hb d_Tri_set_164 rfl (lv_at hl 3 rfl) ?_
          refine lv_iload hx hb d_Tri_set_165 (lv_at hl 4 rfl) ?_
          refine lv_iload hx hb d_Tri_set_167 (lv_at hl 5 rfl) ?_
          refine x_callVT (rest := [.int (nI ((256 * kb) + (y % 256))), .ref ab2]) hM (c_changed l D cI cL t0 h0 ar an ah at_ nl hc n1 r0 fd x kp (.ref ai) (.ref ab2) (.int (nI used2)) (.ref am) (.int (nI most)) rows next heads tr hRI (by omega) hr0 hfd) cb_Tri_changed cv_Tri_46 ⟨Nat.le_of_ble_eq_true rfl, Nat.le_of_ble_eq_true rfl⟩ ⟨by show cells + 3 ≤ 30000; omega, by show slots + (18 * nl + 4 * hc) ≤ 4600000 - P0; omega⟩ hW [0, 4, 5, 6, 7, 8] [1, 2, 3] (by decide) rfl (wr := [(ai, .inl (cI, 4352, .inl ix2)), (ab2, .inl (cI, bl2, .inl bk)), (am, .inl (cI, ml, .inl mk))]) rfl (by decide) (by decide) 0 rfl rfl rfl hl.1 rfl (Nat.le_of_ble_eq_true rfl) d_Tri_set_169 (fun v k1 z1 w1 H locs hv hW => ?_)
          obtain ⟨r1, n2, nl2, hcc2, ar2, an2, ah2, rows2, next2, heads2, tr2, rfl, hk1, hk2, hR2, hto, rfl⟩ := hv
          have hW : xW D A s.heap [(t0, .inr (2, [.ref h0, .ref ai, .ref ab2, .int (nI used2), .ref am, .int (nI most)])), (ai, .inl (cI, 4352, .inl ix2)), (ab2, .inl (cI, bl2, .inl bk)), (am, .inl (cI, ml, .inl mk)), (h0, .inr (1, [.ref ar2, .ref an2, .ref ah2, .int (nI n2), .ref at_])), (ar2, .inl (cI, 8 * nl2, .inl rows2)), (an2, .inl (cI, nl2, .inl next2)), (ah2, .inl (cI, hcc2, .inl heads2)), (at_, .inl (cI, 8, .inl tr2))] H locs := hW.sub [3, 0, 1, 2, 4, 5, 6, 7, 8] (by decide) rfl
          refine W.eq (g2 := F0 m 172 ls [.int (nI r1), .int (nI ((256 * kb) + (y % 256))), .ref ab2]) rfl ?_
          have hnn2 : n1 ≤ n2 := by obtain ⟨-, -, -, h⟩ := hto; omega
          have hr1 : r1 < n2 := hto.2.1
          have hn28 : n2 ≤ 8192 := by have := hR2.1; have := hR2.2.1.le; omega
          have hsb := hTI.setB hnn2 hn28 (by omega) hkb eky hr1
          have hS2 := hS.step hfd hC (Nat.lt_succ_self y) (by omega) (fun z hz1 hz2 => (show z = y by omega) ▸ (rp_neg eky (by omega)).trans er0) hr0 hto hR2 hsb.1 (fun z hz => by
            rw [hsb.2 z hz]
            by_cases hzy : z = y
            · rw [if_pos hzy, if_pos (by omega)]
            · rw [if_neg hzy, if_neg (by omega)])
          refine xn_iast hM hW 2 rfl (by omega) (by omega) d_Tri_set_172 (fun H locs hW => ?_)
          have hW : xW D A s.heap [(t0, .inr (2, [.ref h0, .ref ai, .ref ab2, .int (nI used2), .ref am, .int (nI most)])), (ai, .inl (cI, 4352, .inl ix2)), (ab2, .inl (cI, bl2, .inl (upd bk ((256 * kb) + (y % 256)) (nI r1)))), (am, .inl (cI, ml, .inl mk)), (h0, .inr (1, [.ref ar2, .ref an2, .ref ah2, .int (nI n2), .ref at_])), (ar2, .inl (cI, 8 * nl2, .inl rows2)), (an2, .inl (cI, nl2, .inl next2)), (ah2, .inl (cI, hcc2, .inl heads2)), (at_, .inl (cI, 8, .inl tr2))] H locs := hW
          refine lv_iinc (lv' := [(6, .int (nI (y + 1))), (0, .ref t0), (1, .int (nI a)), (2, .int (nI la)), (3, .int (nI fd)), (4, .int x), (5, .int kp), (7, .int (nI (q / 256))), (9, .int (nI (256 * kb))), (10, .int (nI en))]) (v := nI (y + 1)) hx hb d_Tri_set_173 hl (k := 6) rfl (nI_inc y) (by decide) rfl (fun ls hl => ?_)
          refine lv_goto (tgt := 129) hx hb d_Tri_set_176 (by decide) ?_
          have hl : lv_has ls 11 [(0, .ref t0), (1, .int (nI a)), (2, .int (nI la)), (3, .int (nI fd)), (4, .int x), (5, .int kp), (6, .int (nI (y + 1))), (7, .int (nI (q / 256))), (9, .int (nI (256 * kb))), (10, .int (nI en))] := lv_sub hl [1, 2, 3, 4, 5, 6, 0, 7, 8, 9] rfl
          exact ih2 (en + 1 - (y + 1)) (by omega) (y + 1) ar2 an2 ah2 nl2 hcc2 n2 (cells + k1) (slots + z1) rows2 next2 heads2 tr2 _ ls H locs rfl (by omega) (by omega) hS2 (by unfold PC at hc1 ⊢; omega) (by unfold PS at hc2 ⊢; omega) hl hW
      refine lv_iload_n hx hb d_Tri_set_101 rfl (lv_at hl 2 rfl) ?_
      refine lv_iload hx hb d_Tri_set_102 (lv_at hl 7 rfl) ?_
      refine lv_bipush (v := nI 8) hx hb d_Tri_set_104 (by decide) ?_
      refine xn_shl8 hx hb (by omega) d_Tri_set_106 ?_
      refine lv_sipush (v := nI 255) hx hb d_Tri_set_107 (by decide) ?_
      refine xn_iadd hx hb d_Tri_set_110 ?_
      refine xn_ge (tgt := 118) hx hb (by omega) (by omega) d_Tri_set_111 (by decide) (fun hge4 => ?_) (fun hlt4 => ?_)
      · refine lv_iload hx hb d_Tri_set_118 (lv_at hl 7 rfl) ?_
        refine lv_bipush (v := nI 8) hx hb d_Tri_set_120 (by decide) ?_
        refine xn_shl8 hx hb (by omega) d_Tri_set_122 ?_
        refine lv_sipush (v := nI 255) hx hb d_Tri_set_123 (by decide) ?_
        refine xn_iadd hx hb d_Tri_set_126 ?_
        refine lv_istore (lv' := [(10, .int (nI (((q / 256) * 256) + 255))), (0, .ref t0), (1, .int (nI a)), (2, .int (nI la)), (3, .int (nI fd)), (4, .int x), (5, .int kp), (6, .int (nI q)), (7, .int (nI (q / 256))), (9, .int (nI (256 * kb)))]) hx hb d_Tri_set_127 hl (by decide) rfl (fun ls hl => ?_)
        have hl : lv_has ls 11 [(0, .ref t0), (1, .int (nI a)), (2, .int (nI la)), (3, .int (nI fd)), (4, .int x), (5, .int kp), (6, .int (nI q)), (7, .int (nI (q / 256))), (9, .int (nI (256 * kb))), (10, .int (nI (((q / 256) * 256) + 255)))] := lv_sub hl [1, 2, 3, 4, 5, 6, 7, 8, 9, 0] rfl
        exact inner (q / 256 * 256 + 255) (by omega) (by omega) (by omega) _ q ar an ah nl hc n1 _ _ rows next heads tr bk2 ls H locs rfl (Nat.le_refl _) (by omega) hS2 hc1 hc2 hl hW
      · refine lv_iload_n hx hb d_Tri_set_114 rfl (lv_at hl 2 rfl) ?_
        refine lv_goto (tgt := 127) hx hb d_Tri_set_115 (by decide) ?_
        refine lv_istore (lv' := [(10, .int (nI la)), (0, .ref t0), (1, .int (nI a)), (2, .int (nI la)), (3, .int (nI fd)), (4, .int x), (5, .int kp), (6, .int (nI q)), (7, .int (nI (q / 256))), (9, .int (nI (256 * kb)))]) hx hb d_Tri_set_127 hl (by decide) rfl (fun ls hl => ?_)
        have hl : lv_has ls 11 [(0, .ref t0), (1, .int (nI a)), (2, .int (nI la)), (3, .int (nI fd)), (4, .int x), (5, .int kp), (6, .int (nI q)), (7, .int (nI (q / 256))), (9, .int (nI (256 * kb))), (10, .int (nI la))] := lv_sub hl [1, 2, 3, 4, 5, 6, 7, 8, 9, 0] rfl
        exact inner (la) (by omega) (by omega) (by omega) _ q ar an ah nl hc n1 _ _ rows next heads tr bk2 ls H locs rfl (Nat.le_refl _) (by omega) hS2 hc1 hc2 hl hW
    refine lv_iload hx hb d_Tri_set_16 (lv_at hl 6 rfl) ?_
    refine lv_sipush (v := nI 255) hx hb d_Tri_set_18 (by decide) ?_
    refine xn_and255 hx hb (by omega) d_Tri_set_21 ?_
    refine xn_ifne (tgt := 39) hx hb (by omega) d_Tri_set_22 (by decide) (fun hne => ?_) (fun heq => ?_)
    · refine lv_iconst (v := nI 0) hx hb d_Tri_set_39 (by decide) ?_
      refine lv_istore (lv' := [(8, .int (nI 0)), (0, .ref t0), (1, .int (nI a)), (2, .int (nI la)), (3, .int (nI fd)), (4, .int x), (5, .int kp), (6, .int (nI q)), (7, .int (nI (q / 256)))]) hx hb d_Tri_set_40 hl (by decide) rfl (fun ls hl => ?_)
      refine lv_iload hx hb d_Tri_set_42 (lv_at hl 0 rfl) ?_
      refine xn_ifeq (tgt := 89) hx hb (by omega) d_Tri_set_44 (by decide) (fun h_ => ?_) (fun hnz => ?_)
      · have hl : lv_has ls 11 [(0, .ref t0), (1, .int (nI a)), (2, .int (nI la)), (3, .int (nI fd)), (4, .int x), (5, .int kp), (6, .int (nI q)), (7, .int (nI (q / 256)))] := lv_sub hl [1, 2, 3, 4, 5, 6, 7, 8] rfl
        exact part ls hl
      · exact absurd rfl hnz
    · refine lv_iload hx hb d_Tri_set_25 (lv_at hl 6 rfl) ?_
      refine lv_sipush (v := nI 255) hx hb d_Tri_set_27 (by decide) ?_
      refine xn_iadd hx hb d_Tri_set_30 ?_
      refine lv_iload_n hx hb d_Tri_set_31 rfl (lv_at hl 2 rfl) ?_
      refine xn_gt (tgt := 39) hx hb (by omega) (by omega) d_Tri_set_32 (by decide) (fun hgt6 => ?_) (fun hle6 => ?_)
      · refine lv_iconst (v := nI 0) hx hb d_Tri_set_39 (by decide) ?_
        refine lv_istore (lv' := [(8, .int (nI 0)), (0, .ref t0), (1, .int (nI a)), (2, .int (nI la)), (3, .int (nI fd)), (4, .int x), (5, .int kp), (6, .int (nI q)), (7, .int (nI (q / 256)))]) hx hb d_Tri_set_40 hl (by decide) rfl (fun ls hl => ?_)
        refine lv_iload hx hb d_Tri_set_42 (lv_at hl 0 rfl) ?_
        refine xn_ifeq (tgt := 89) hx hb (by omega) d_Tri_set_44 (by decide) (fun h_ => ?_) (fun hnz => ?_)
        · have hl : lv_has ls 11 [(0, .ref t0), (1, .int (nI a)), (2, .int (nI la)), (3, .int (nI fd)), (4, .int x), (5, .int kp), (6, .int (nI q)), (7, .int (nI (q / 256)))] := lv_sub hl [1, 2, 3, 4, 5, 6, 7, 8] rfl
          exact part ls hl
        · exact absurd rfl hnz
      · refine lv_iconst (v := nI 1) hx hb d_Tri_set_35 (by decide) ?_
        refine lv_goto (tgt := 40) hx hb d_Tri_set_36 (by decide) ?_
        refine lv_istore (lv' := [(8, .int (nI 1)), (0, .ref t0), (1, .int (nI a)), (2, .int (nI la)), (3, .int (nI fd)), (4, .int x), (5, .int kp), (6, .int (nI q)), (7, .int (nI (q / 256)))]) hx hb d_Tri_set_40 hl (by decide) rfl (fun ls hl => ?_)
        refine lv_iload hx hb d_Tri_set_42 (lv_at hl 0 rfl) ?_
        refine xn_ifeq (tgt := 89) hx hb (by omega) d_Tri_set_44 (by decide) (fun h_ => ?_) (fun hnz => ?_)
        · exact absurd h_ (by decide)
        · refine lv_aload_n hx hb d_Tri_set_47 rfl (lv_at hl 1 rfl) ?_
          refine gf_Tri_11 hM hW.1 0 rfl rfl d_Tri_set_48 ?_
          refine lv_iload hx hb d_Tri_set_51 (lv_at hl 8 rfl) ?_
          refine xn_iald hM hW.1 1 rfl (by omega) (by omega) d_Tri_set_53 ?_
          refine lv_if_lt (tgt := 89) hx hb d_Tri_set_54 (by decide) (fun hneg => ?_) (fun hpos => ?_)
          · have hl : lv_has ls 11 [(0, .ref t0), (1, .int (nI a)), (2, .int (nI la)), (3, .int (nI fd)), (4, .int x), (5, .int kp), (6, .int (nI q)), (7, .int (nI (q / 256)))] := lv_sub hl [1, 2, 3, 4, 5, 6, 7, 8] rfl
            exact part ls hl
          · obtain ⟨r0, hr0, er0⟩ : ∃ r, r < n1 ∧ ix (q / 256) = nI r := by
              rcases hTI.2.2.2.1 (q / 256) (by omega) with h | ⟨k, hk, ek⟩
              · exact h
              · rw [ek] at hpos; exact absurd (ng_neg (by have := hTI.used; omega)) hpos
            refine lv_aload_n hx hb d_Tri_set_57 rfl (lv_at hl 1 rfl) ?_
            refine gf_Tri_11 hM hW.1 0 rfl rfl d_Tri_set_58 ?_
            refine lv_iload hx hb d_Tri_set_61 (lv_at hl 8 rfl) ?_
            refine lv_aload_n hx hb d_Tri_set_63 rfl (lv_at hl 1 rfl) ?_
            refine lv_aload_n hx hb d_Tri_set_64 rfl (lv_at hl 1 rfl) ?_
            refine gf_Tri_11 hM hW.1 0 rfl rfl d_Tri_set_65 ?_
            refine lv_iload hx hb d_Tri_set_68 (lv_at hl 8 rfl) ?_
            refine xn_iald hM hW.1 1 rfl (by omega) (by omega) d_Tri_set_70 ?_
            refine xn_top (show ix (q / 256) = nI r0 from er0) ?_
            refine lv_iload_n hx hb d_Tri_set_71 rfl (lv_at hl 4 rfl) ?_
            refine lv_iload hx hb d_Tri_set_72 (lv_at hl 5 rfl) ?_
            refine lv_iload hx hb d_Tri_set_74 (lv_at hl 6 rfl) ?_
            refine x_callVT (rest := [.int (nI (q / 256)), .ref ai]) hM (c_changed l D cI cL t0 h0 ar an ah at_ nl hc n1 r0 fd x kp (.ref ai) (.ref ab) (.int (nI used)) (.ref am) (.int (nI most)) rows next heads tr hRI (by omega) hr0 hfd) cb_Tri_changed cv_Tri_46 ⟨Nat.le_of_ble_eq_true rfl, Nat.le_of_ble_eq_true rfl⟩ ⟨by show cells + 3 ≤ 30000; omega, by show slots + (18 * nl + 4 * hc) ≤ 4600000 - P0; omega⟩ hW [0, 4, 5, 6, 7, 8] [1, 2, 3] (by decide) rfl (wr := [(ai, .inl (cI, 4352, .inl ix)), (ab, .inl (cI, bl, .inl bk)), (am, .inl (cI, ml, .inl mk))]) rfl (by decide) (by decide) 0 rfl rfl rfl hl.1 rfl (Nat.le_of_ble_eq_true rfl) d_Tri_set_76 (fun v k1 z1 w1 H locs hv hW => ?_)
            obtain ⟨r1, n2, nl2, hcc2, ar2, an2, ah2, rows2, next2, heads2, tr2, rfl, hk1, hk2, hR2, hto, rfl⟩ := hv
            have hW : xW D A s.heap [(t0, .inr (2, [.ref h0, .ref ai, .ref ab, .int (nI used), .ref am, .int (nI most)])), (ai, .inl (cI, 4352, .inl ix)), (ab, .inl (cI, bl, .inl bk)), (am, .inl (cI, ml, .inl mk)), (h0, .inr (1, [.ref ar2, .ref an2, .ref ah2, .int (nI n2), .ref at_])), (ar2, .inl (cI, 8 * nl2, .inl rows2)), (an2, .inl (cI, nl2, .inl next2)), (ah2, .inl (cI, hcc2, .inl heads2)), (at_, .inl (cI, 8, .inl tr2))] H locs := hW.sub [3, 0, 1, 2, 4, 5, 6, 7, 8] (by decide) rfl
            refine W.eq (g2 := F0 m 79 ls [.int (nI r1), .int (nI (q / 256)), .ref ai]) rfl ?_
            have hnn2 : n1 ≤ n2 := by obtain ⟨-, -, -, h⟩ := hto; omega
            have hr1 : r1 < n2 := hto.2.1
            have hn28 : n2 ≤ 8192 := by have := hR2.1; have := hR2.2.1.le; omega
            have hsb := hTI.setI hnn2 hn28 (b := q / 256) (by omega) er0 hr0 hr1
            have hS2 := hS.step (q2 := q + 256) hfd hC (by omega) (by omega) (fun z hz1 hz2 => rp_pos (by rw [show z / 256 = q / 256 by omega]; exact er0) (by omega)) hr0 hto hR2 hsb.1 (fun z hz => by
              rw [hsb.2 z hz]
              by_cases hzy : z / 256 = q / 256
              · rw [if_pos hzy, if_pos (by omega)]
              · rw [if_neg hzy, if_neg (by omega)])
            refine xn_iast hM hW 1 rfl (by omega) (by omega) d_Tri_set_79 (fun H locs hW => ?_)
            have hW : xW D A s.heap [(t0, .inr (2, [.ref h0, .ref ai, .ref ab, .int (nI used), .ref am, .int (nI most)])), (ai, .inl (cI, 4352, .inl (upd ix (q / 256) (nI r1)))), (ab, .inl (cI, bl, .inl bk)), (am, .inl (cI, ml, .inl mk)), (h0, .inr (1, [.ref ar2, .ref an2, .ref ah2, .int (nI n2), .ref at_])), (ar2, .inl (cI, 8 * nl2, .inl rows2)), (an2, .inl (cI, nl2, .inl next2)), (ah2, .inl (cI, hcc2, .inl heads2)), (at_, .inl (cI, 8, .inl tr2))] H locs := hW
            refine lv_iincW (lv' := [(6, .int (nI (q + 256))), (8, .int (nI 1)), (0, .ref t0), (1, .int (nI a)), (2, .int (nI la)), (3, .int (nI fd)), (4, .int x), (5, .int kp), (7, .int (nI (q / 256)))]) (v := nI (q + 256)) hx hb d_Tri_set_80 hl (k := 7) rfl (nI_inc256 q) (by decide) rfl (fun ls hl => ?_)
            refine lv_goto (tgt := 3) hx hb d_Tri_set_86 (by decide) ?_
            have hl : lv_has ls 11 [(0, .ref t0), (1, .int (nI a)), (2, .int (nI la)), (3, .int (nI fd)), (4, .int x), (5, .int kp), (6, .int (nI (q + 256)))] := lv_sub hl [2, 3, 4, 5, 6, 7, 0] rfl
            exact ih (la + 1 - (q + 256)) (by omega) (q + 256) ab ar2 an2 ah2 nl2 hcc2 n2 used bl (cells + k1) (slots + z1) rows2 next2 heads2 tr2 _ bk ls H locs rfl (by omega) hS2 (by unfold PC at hc1 ⊢; omega) (by unfold PS at hc2 ⊢; omega) hl hW
end
section
/-! more rows: methods that read alone and answer nothing; static calls of such -/
theorem CP.ofV {l : Launch} {D : va_G} {cI cL : ClassId} {y : MethodName} {rm : Room} {av : List Value} {wc : va_W} {own : String} {cc : ByteArray} {nL : Nat} {Post : Option Value → Prop} (hy : plainName y.cls = true) (hown : y.cls = own) (hav : (lg_sl av).length ≤ nL)
    (body : ∀ (p : Program) (e : Env) (s : State) (m : MethodId) (args : Array Value) (below : List Frame) (meth : Method) (c : Code) (Q : State → Prop) (ls : Array Slot), xM p s m meth c args D cI cL (fun _ => True) own cc nL → lv_has ls nL (lv_args 0 av) → va_P D xcl wc s.heap →
      (∀ {pc : Nat} {ls : Array Slot}, Post none → decode cc pc = .ok (.return_, 1) → W p l e rm s m args below meth c s.heap [] 0 0 Q (F0 m pc ls [])) →
      W p l e rm s m args below meth c s.heap [] 0 0 Q (F0 m 0 ls [])) : CP l D cI cL y (xws y cc nL none) rm av wc Post := by
  refine MX.ofW (cc := cc) (nL := nL) (ret := none) hy rfl ?_
  intro p e s m args below meth c s₁ B hml hv
  obtain ⟨rfl, hP, hK⟩ := hv
  have hlocks := B.notSynchronized
  have hr := B.returns
  have hM : xM p s m meth c av.toArray D cI cL (fun _ => True) own cc nL := xM.of hown B hml hK (fun q h => trivial)
  have hl := lv_entry av (n := nL) hav
  rw [lg_entry_eq]
  generalize (lg_sl av ++ List.replicate (nL - (lg_sl av).length) Slot.unset).toArray = ls at hl ⊢
  refine body p e s m _ below meth c _ ls hM hl hP ?_
  intro pc ls hp hd
  refine W.imp (fun t ht => xMQ.of (k := 0) (n := 0) ht) ?_
  exact W.vret hM.1 hM.2.1 hr (fun t ht hWm => ⟨⟨_, rfl, hp⟩, ht, rfl, rfl⟩) (fun q hq => by cases hq) hd hlocks
section XSP
variable {p : Program} {l : Launch} {e : Env} {R : Room} {s : State} {m : MethodId} {args : Array Value} {below : List Frame} {meth : Method} {c : Code} {H : Heap} {locs : List Loc} {cells slots : Nat} {Q : State → Prop}
variable {D : va_G} {cI cL : ClassId} {A : Nat → Prop} {own : String} {cc b : ByteArray} {nL nY idx np pc : Nat} {y : MethodName} {rm : Room} {ret : Option FieldType} {ls : Array Slot} {As rest st0 : List Value} {w wc : va_W}
theorem x_callSP {Post : Option Value → Prop} (hM : xM p s m meth c args D cI cL A own cc nL) (hc : CP l D cI cL y (xws y b nY ret) rm As wc Post) (cb : xCB y b nY ret np) (cv : xCS own idx y) (hR : rm.frames + 1 ≤ R.frames ∧ 8 + (nY + 11) + rm.locals ≤ R.locals)
    (hf : cells + rm.cells ≤ R.cells ∧ slots + rm.slots ≤ R.slots) (hP : va_P D xcl w H) (isC : List Nat) (hC : isC.map (fun i => w[i]?) = wc.map some)
    (hn : As.length = np) (hls : ls.size = nL) (hst : st0 = As.reverse ++ rest) (hW : (rest.map fun v => v.category).sum ≤ 8) (hdg : decode cc pc = .ok (.invokestatic idx, 3))
    (kk : ∀ v : Option Value, Post v → W p l e R s m args below meth c H locs cells slots Q (F0 m (pc + 3) ls (v.toList ++ rest))) : W p l e R s m args below meth c H locs cells slots Q (F0 m pc ls st0) :=
  x_goP (xRunS hM hc x_blindP cb cv hR hf (x_preP hM.2.2.2.2.2.1 hP isC hC) hn hls hst hW hdg) kk
end XSP
/-! what the two sides answer, of the map g -/
def isChange (g : Nat → Nat → Int32) (pt fd : Nat) (z : Int32) : Prop := (∃ q, pt < q ∧ q < 1114112 ∧ z = nI q ∧ g q fd ≠ g pt fd ∧ ∀ y, pt ≤ y → y < q → g y fd = g pt fd) ∨ (z = -1 ∧ ∀ y, pt ≤ y → y < 1114112 → g y fd = g pt fd)
theorem isChange.one {g : Nat → Nat → Int32} {pt fd : Nat} {z z' : Int32} (h : isChange g pt fd z) (h' : isChange g pt fd z') : z = z' := by
  rcases h with ⟨q, a1, a2, a3, a4, a5⟩ | ⟨a3, a5⟩ <;> rcases h' with ⟨q', b1, b2, b3, b4, b5⟩ | ⟨b3, b5⟩
  · rcases Nat.lt_trichotomy q q' with e | e | e
    · exact absurd (b5 q (by omega) e) a4
    · rw [a3, b3, e]
    · exact absurd (a5 q' (by omega) e) b4
  · exact absurd (b5 q (by omega) a2) a4
  · exact absurd (a5 q' (by omega) b2) b4
  · rw [a3, b3]
def SameG (g : Nat → Nat → Int32) (a b : Nat) : Prop := ∀ i, i < 8 → g a i = g b i
def isAlike (g : Nat → Nat → Int32) (a b : Nat) (z : Int32) : Prop := (z = nI 1 ∧ SameG g a b) ∨ (z = nI 0 ∧ ¬ SameG g a b)
theorem isAlike.one {g : Nat → Nat → Int32} {a b : Nat} {z z' : Int32} (h : isAlike g a b z) (h' : isAlike g a b z') : z = z' := by
  rcases h with ⟨a1, a2⟩ | ⟨a1, a2⟩ <;> rcases h' with ⟨b1, b2⟩ | ⟨b1, b2⟩
  · rw [a1, b1]
  · exact absurd a2 b2
  · exact absurd b2 a2
  · rw [a1, b1]
def hF (g : Nat → Nat → Int32) (a fd : Nat) : Nat → Int32
  | 0 => nI 1
  | k + 1 => nI 31 * hF g a fd k + g (a + k) fd
def isZ (g : Nat → Nat → Int32) (q : Nat) : Prop := ∀ i, i < 8 → g q i = 0
/-- how many of the first k points have a row that isn't all zeros -/
def isCount (g : Nat → Nat → Int32) : Nat → Nat → Prop
  | 0, c => c = 0
  | k + 1, c => (isZ g k ∧ isCount g k c) ∨ (¬ isZ g k ∧ ∃ d, c = d + 1 ∧ isCount g k d)
theorem isCount.one {g : Nat → Nat → Int32} : ∀ {k c c' : Nat}, isCount g k c → isCount g k c' → c = c'
  | 0, _, _, h, h' => h.trans h'.symm
  | k + 1, c, c', h, h' => by
    rcases h with ⟨a1, a2⟩ | ⟨a1, d, a2, a3⟩ <;> rcases h' with ⟨b1, b2⟩ | ⟨b1, d', b2, b3⟩
    · exact isCount.one a2 b2
    · exact absurd a1 b1
    · exact absurd b1 a1
    · rw [a2, b2, isCount.one a3 b3]
theorem isCount.le {g : Nat → Nat → Int32} : ∀ {k c : Nat}, isCount g k c → c ≤ k
  | 0, c, h => Nat.le_of_eq h
  | k + 1, c, h => by
    rcases h with ⟨-, a2⟩ | ⟨-, d, a2, a3⟩
    · have := isCount.le a2; omega
    · have := isCount.le a3; omega
end
section
/-- all the cells of a PropertyTrie -/
abbrev wPT (cI : ClassId) (x0 t0 h0 ai ab am ar an ah at_ nl hc n used bl ml most : Nat) (rows next heads tr ix bk mk : Nat → Int32) : va_W := [(x0, .inr (0, [.ref h0, .ref t0])), (t0, .inr (2, [.ref h0, .ref ai, .ref ab, .int (nI used), .ref am, .int (nI most)])), (ai, .inl (cI, 4352, .inl ix)), (ab, .inl (cI, bl, .inl bk)), (am, .inl (cI, ml, .inl mk)), (h0, .inr (1, [.ref ar, .ref an, .ref ah, .int (nI n), .ref at_])), (ar, .inl (cI, 8 * nl, .inl rows)), (an, .inl (cI, nl, .inl next)), (ah, .inl (cI, hc, .inl heads)), (at_, .inl (cI, 8, .inl tr))]
set_option maxHeartbeats 4000000 in
set_option maxRecDepth 100000 in
/-- in(v, low, high), within -/
theorem c_in_ok (l : Launch) (D : va_G) (cI cL : ClassId) (z lo hi : Int32) (h1 : ¬ z < lo) (h2 : z ≤ hi) : CP l D cI cL y_PT_in (xws y_PT_in b_PT_in 3 none) rm_0 [.int z, .int lo, .int hi] [] (fun v => v = none) := by
  refine CP.ofV (own := R_PT) (cc := b_PT_in) (nL := 3) (by decide) rfl (Nat.le_of_ble_eq_true rfl) ?_
  intro p e s m args below meth c Q ls hM hl hP RET
  have hx := hM.1
  have hb := hM.2.1
  have hl : lv_has ls 3 [(0, .int z), (1, .int lo), (2, .int hi)] := hl
  refine lv_iload_n hx hb d_PT_in_0 rfl (lv_at hl 0 rfl) ?_
  refine lv_iload_n hx hb d_PT_in_1 rfl (lv_at hl 1 rfl) ?_
  refine lv_icmp_lt (tgt := 10) hx hb d_PT_in_2 (by decide) (fun hlt => ?_) (fun hge => ?_)
  · exact absurd hlt h1
  · refine lv_iload_n hx hb d_PT_in_5 rfl (lv_at hl 0 rfl) ?_
    refine lv_iload_n hx hb d_PT_in_6 rfl (lv_at hl 2 rfl) ?_
    refine lv_icmp_le (tgt := 18) hx hb d_PT_in_7 (by decide) (fun hle => ?_) (fun hgt => ?_)
    · exact RET rfl d_PT_in_18
    · exact absurd h2 hgt
theorem in_n {a lo hi : Nat} (h1 : lo ≤ a) (h2 : a ≤ hi) (h3 : hi < 2 ^ 31) : ¬ nI a < nI lo ∧ nI a ≤ nI hi := ⟨nI_nlt h1 (by omega), nI_le h2 h3⟩
abbrev rm_pget : Room := { frames := 2, cells := 0, slots := 0, locals := 44 }
set_option maxHeartbeats 4000000 in
set_option maxRecDepth 100000 in
/-- get(point, field), within -/
theorem c_pget (l : Launch) (D : va_G) (cI cL : ClassId) (x0 t0 h0 ai ab am ar an ah at_ nl hc n used bl ml most : Nat) (rows next heads tr ix bk mk : Nat → Int32) (g : Nat → Nat → Int32) (hX : XS g rows next heads ix bk n nl hc used bl ml most) (pt fd : Nat) (hp : pt < 1114112) (hfd : fd < 8) : CP l D cI cL y_PT_get (xws y_PT_get b_PT_get 3 (some .int)) rm_pget [.ref x0, .int (nI pt), .int (nI fd)] (wPT cI x0 t0 h0 ai ab am ar an ah at_ nl hc n used bl ml most rows next heads tr ix bk mk) (fun v => v = some (.int (g pt fd))) := by
  refine CP.ofI (own := R_PT) (cc := b_PT_get) (nL := 3) (by decide) rfl (Nat.le_of_ble_eq_true rfl) ?_
  intro p e s m args below meth c Q ls hM hl hP RET
  have hx := hM.1
  have hb := hM.2.1
  have hl : lv_has ls 3 [(0, .ref x0), (1, .int (nI pt)), (2, .int (nI fd))] := hl
  have hP : va_P D xcl [(x0, .inr (0, [.ref h0, .ref t0])), (t0, .inr (2, [.ref h0, .ref ai, .ref ab, .int (nI used), .ref am, .int (nI most)])), (ai, .inl (cI, 4352, .inl ix)), (ab, .inl (cI, bl, .inl bk)), (am, .inl (cI, ml, .inl mk)), (h0, .inr (1, [.ref ar, .ref an, .ref ah, .int (nI n), .ref at_])), (ar, .inl (cI, 8 * nl, .inl rows)), (an, .inl (cI, nl, .inl next)), (ah, .inl (cI, hc, .inl heads)), (at_, .inl (cI, 8, .inl tr))] s.heap := hP
  obtain ⟨hRI, hTI, hG, hmo, hm1, hm2, hml, hz0, hn0⟩ := hX
  have hNL := hRI.2.1.le
  have hHC := hRI.2.2.1.le
  have hBL := hTI.2.1.le
  have hNn := hRI.1
  refine lv_iload_n hx hb d_PT_get_0 rfl (lv_at hl 1 rfl) ?_
  refine lv_iconst (v := nI 0) hx hb d_PT_get_1 (by decide) ?_
  refine ld_PT_36 hM d_PT_get_2 ?_
  refine x_callSP (rest := []) hM (c_in_ok l D cI cL (nI pt) (nI 0) (nI 1114111) (nI_nlt (by omega) (by omega)) (nI_le (by omega) (by omega))) cb_PT_in cv_PT_37 ⟨Nat.le_of_ble_eq_true rfl, Nat.le_of_ble_eq_true rfl⟩ ⟨Nat.le_of_ble_eq_true rfl, Nat.le_of_ble_eq_true rfl⟩ hP [] rfl rfl hl.1 rfl (Nat.le_of_ble_eq_true rfl) d_PT_get_4 (fun v hv => ?_)
  subst hv
  refine W.eq (g2 := F0 m 7 ls []) rfl ?_
  refine lv_iload_n hx hb d_PT_get_7 rfl (lv_at hl 2 rfl) ?_
  refine lv_iconst (v := nI 0) hx hb d_PT_get_8 (by decide) ?_
  refine lv_bipush (v := nI 7) hx hb d_PT_get_9 (by decide) ?_
  refine x_callSP (rest := []) hM (c_in_ok l D cI cL (nI fd) (nI 0) (nI 7) (nI_nlt (by omega) (by omega)) (nI_le (by omega) (by omega))) cb_PT_in cv_PT_37 ⟨Nat.le_of_ble_eq_true rfl, Nat.le_of_ble_eq_true rfl⟩ ⟨Nat.le_of_ble_eq_true rfl, Nat.le_of_ble_eq_true rfl⟩ hP [] rfl rfl hl.1 rfl (Nat.le_of_ble_eq_true rfl) d_PT_get_11 (fun v hv => ?_)
  subst hv
  refine W.eq (g2 := F0 m 14 ls []) rfl ?_
  refine lv_aload_n hx hb d_PT_get_14 rfl (lv_at hl 0 rfl) ?_
  refine gf_PT_21 hM hP 0 rfl rfl d_PT_get_15 ?_
  refine lv_iload_n hx hb d_PT_get_18 rfl (lv_at hl 1 rfl) ?_
  refine lv_iload_n hx hb d_PT_get_19 rfl (lv_at hl 2 rfl) ?_
  refine x_callVP (rest := []) hM (c_tget l D cI cL t0 ai ab h0 ar bl used n nl pt fd (.int (nI used)) (.ref am) (.int (nI most)) (.ref an) (.ref ah) (.int (nI n)) (.ref at_) ix bk rows hTI (by omega) hNn (by omega) (by omega)) cb_Tri_get cv_PT_45 ⟨Nat.le_of_ble_eq_true rfl, Nat.le_of_ble_eq_true rfl⟩ ⟨Nat.le_of_ble_eq_true rfl, Nat.le_of_ble_eq_true rfl⟩ hP [1, 2, 3, 5, 6] rfl 1 rfl rfl rfl hl.1 rfl (Nat.le_of_ble_eq_true rfl) d_PT_get_20 (fun v hv => ?_)
  rw [hG pt (by omega) fd (by omega)] at hv
  subst hv
  refine W.eq (g2 := F0 m 23 ls [.int (g pt fd)]) rfl ?_
  exact RET rfl d_PT_get_23
abbrev rm_pchange : Room := { frames := 3, cells := 0, slots := 0, locals := 66 }
set_option maxHeartbeats 4000000 in
set_option maxRecDepth 100000 in
/-- change(p, field), within -/
theorem c_pchange (l : Launch) (D : va_G) (cI cL : ClassId) (x0 t0 h0 ai ab am ar an ah at_ nl hc n used bl ml most : Nat) (rows next heads tr ix bk mk : Nat → Int32) (g : Nat → Nat → Int32) (hX : XS g rows next heads ix bk n nl hc used bl ml most) (pt fd : Nat) (hp : pt < 1114112) (hfd : fd < 8) : CP l D cI cL y_PT_change (xws y_PT_change b_PT_change 5 (some .int)) rm_pchange [.ref x0, .int (nI pt), .int (nI fd)] (wPT cI x0 t0 h0 ai ab am ar an ah at_ nl hc n used bl ml most rows next heads tr ix bk mk) (fun v => ∃ z : Int32, v = some (.int z) ∧ isChange g pt fd z) := by
  refine CP.ofI (own := R_PT) (cc := b_PT_change) (nL := 5) (by decide) rfl (Nat.le_of_ble_eq_true rfl) ?_
  intro p e s m args below meth c Q ls hM hl hP RET
  have hx := hM.1
  have hb := hM.2.1
  have hl : lv_has ls 5 [(0, .ref x0), (1, .int (nI pt)), (2, .int (nI fd))] := hl
  have hP : va_P D xcl [(x0, .inr (0, [.ref h0, .ref t0])), (t0, .inr (2, [.ref h0, .ref ai, .ref ab, .int (nI used), .ref am, .int (nI most)])), (ai, .inl (cI, 4352, .inl ix)), (ab, .inl (cI, bl, .inl bk)), (am, .inl (cI, ml, .inl mk)), (h0, .inr (1, [.ref ar, .ref an, .ref ah, .int (nI n), .ref at_])), (ar, .inl (cI, 8 * nl, .inl rows)), (an, .inl (cI, nl, .inl next)), (ah, .inl (cI, hc, .inl heads)), (at_, .inl (cI, 8, .inl tr))] s.heap := hP
  have hX0 := hX
  obtain ⟨hRI, hTI, hG, hmo, hm1, hm2, hml, hz0, hn0⟩ := hX
  have hNL := hRI.2.1.le
  have hHC := hRI.2.2.1.le
  have hBL := hTI.2.1.le
  have hNn := hRI.1
  refine lv_aload_n hx hb d_PT_change_0 rfl (lv_at hl 0 rfl) ?_
  refine lv_iload_n hx hb d_PT_change_1 rfl (lv_at hl 1 rfl) ?_
  refine lv_iload_n hx hb d_PT_change_2 rfl (lv_at hl 2 rfl) ?_
  refine x_callVP (rest := []) hM (c_pget l D cI cL x0 t0 h0 ai ab am ar an ah at_ nl hc n used bl ml most rows next heads tr ix bk mk g hX0 pt fd hp hfd) cb_PT_get cv_PT_49 ⟨Nat.le_of_ble_eq_true rfl, Nat.le_of_ble_eq_true rfl⟩ ⟨Nat.le_of_ble_eq_true rfl, Nat.le_of_ble_eq_true rfl⟩ hP [0, 1, 2, 3, 4, 5, 6, 7, 8, 9] rfl 0 rfl rfl rfl hl.1 rfl (Nat.le_of_ble_eq_true rfl) d_PT_change_3 (fun v hv => ?_)
  subst hv
  refine W.eq (g2 := F0 m 6 ls [.int (g pt fd)]) rfl ?_
  refine lv_istore_n (lv' := [(3, .int (g pt fd)), (0, .ref x0), (1, .int (nI pt)), (2, .int (nI fd))]) hx hb d_PT_change_6 rfl hl (by decide) rfl (fun ls hl => ?_)
  refine lv_iload_n hx hb d_PT_change_7 rfl (lv_at hl 2 rfl) ?_
  refine lv_istore (lv' := [(4, .int (nI pt)), (3, .int (g pt fd)), (0, .ref x0), (1, .int (nI pt)), (2, .int (nI fd))]) hx hb d_PT_change_8 hl (by decide) rfl (fun ls hl => ?_)
  have hl : lv_has ls 5 [(0, .ref x0), (1, .int (nI pt)), (2, .int (nI fd)), (3, .int (g pt fd)), (4, .int (nI pt))] := lv_sub hl [2, 3, 4, 1, 0] rfl
  suffices loop : ∀ (k q : Nat) (ls : Array Slot), 1114112 - q = k → pt ≤ q → q ≤ 1114112 → (∀ y, pt ≤ y → y < q → g y fd = g pt fd) → lv_has ls 5 [(0, .ref x0), (1, .int (nI pt)), (2, .int (nI fd)), (3, .int (g pt fd)), (4, .int (nI q))] → W p l e rm_pchange s m args below meth c s.heap [] 0 0 Q (F0 m 10 ls []) from
    loop _ pt ls rfl (Nat.le_refl _) (by omega) (fun y h1 h2 => absurd h2 (by omega)) hl
  intro k
  induction k using Nat.strongRecOn with | ind k ih => ?_
  intro q ls hk hq1 hq2 hg hl
  refine lv_iload hx hb d_PT_change_10 (lv_at hl 4 rfl) ?_
  refine ld_PT_50 hM d_PT_change_12 ?_
  refine xn_ge (tgt := 88) hx hb (by omega) (by omega) d_PT_change_14 (by decide) (fun hge => ?_) (fun hlt => ?_)
  · refine lv_iconst (v := -1) hx hb d_PT_change_88 (by decide) ?_
    exact RET ⟨-1, rfl, Or.inr ⟨rfl, fun y h1 h2 => hg y h1 (by omega)⟩⟩ d_PT_change_89
  · have at65 : ∀ (ls : Array Slot), lv_has ls 5 [(0, .ref x0), (1, .int (nI pt)), (2, .int (nI fd)), (3, .int (g pt fd)), (4, .int (nI q))] → W p l e rm_pchange s m args below meth c s.heap [] 0 0 Q (F0 m 65 ls []) := by
      intro ls hl
      refine lv_aload_n hx hb d_PT_change_65 rfl (lv_at hl 0 rfl) ?_
      refine gf_PT_21 hM hP 0 rfl rfl d_PT_change_66 ?_
      refine lv_iload hx hb d_PT_change_69 (lv_at hl 4 rfl) ?_
      refine lv_iload_n hx hb d_PT_change_71 rfl (lv_at hl 2 rfl) ?_
      refine x_callVP (rest := []) hM (c_tget l D cI cL t0 ai ab h0 ar bl used n nl q fd (.int (nI used)) (.ref am) (.int (nI most)) (.ref an) (.ref ah) (.int (nI n)) (.ref at_) ix bk rows hTI (by omega) hNn (by omega) (by omega)) cb_Tri_get cv_PT_45 ⟨Nat.le_of_ble_eq_true rfl, Nat.le_of_ble_eq_true rfl⟩ ⟨Nat.le_of_ble_eq_true rfl, Nat.le_of_ble_eq_true rfl⟩ hP [1, 2, 3, 5, 6] rfl 1 rfl rfl rfl hl.1 rfl (Nat.le_of_ble_eq_true rfl) d_PT_change_72 (fun v hv => ?_)
      rw [hG q (by omega) fd (by omega)] at hv
      subst hv
      refine W.eq (g2 := F0 m 75 ls [.int (g q fd)]) rfl ?_
      refine lv_iload_n hx hb d_PT_change_75 rfl (lv_at hl 3 rfl) ?_
      refine lv_icmp_eq (tgt := 82) hx hb d_PT_change_76 (by decide) (fun heq => ?_) (fun hne => ?_)
      · refine lv_iinc (lv' := [(4, .int (nI (q + 1))), (0, .ref x0), (1, .int (nI pt)), (2, .int (nI fd)), (3, .int (g pt fd))]) (v := nI (q + 1)) hx hb d_PT_change_82 hl (k := 4) rfl (nI_inc q) (by decide) rfl (fun ls hl => ?_)
        refine lv_goto (tgt := 10) hx hb d_PT_change_85 (by decide) ?_
        have hl : lv_has ls 5 [(0, .ref x0), (1, .int (nI pt)), (2, .int (nI fd)), (3, .int (g pt fd)), (4, .int (nI (q + 1)))] := lv_sub hl [1, 2, 3, 4, 0] rfl
        refine ih (1114112 - (q + 1)) (by omega) (q + 1) ls rfl (by omega) (by omega) (fun y h1 h2 => ?_) hl
        by_cases e1 : y = q
        · rw [e1]; exact heq
        · exact hg y h1 (by omega)
      · refine lv_iload hx hb d_PT_change_79 (lv_at hl 4 rfl) ?_
        exact RET ⟨nI q, rfl, Or.inl ⟨q, Nat.lt_of_le_of_ne hq1 (fun e1 => hne (by rw [e1])), hlt, rfl, hne, hg⟩⟩ d_PT_change_81
    refine lv_iload hx hb d_PT_change_17 (lv_at hl 4 rfl) ?_
    refine lv_sipush (v := nI 255) hx hb d_PT_change_19 (by decide) ?_
    refine xn_and255 hx hb (by omega) d_PT_change_22 ?_
    refine xn_ifne (tgt := 65) hx hb (by omega) d_PT_change_23 (by decide) (fun hne0 => ?_) (fun heq0 => ?_)
    · exact at65 ls hl
    · refine lv_aload_n hx hb d_PT_change_26 rfl (lv_at hl 0 rfl) ?_
      refine gf_PT_21 hM hP 0 rfl rfl d_PT_change_27 ?_
      refine gf_PT_51 hM hP 1 rfl rfl d_PT_change_30 ?_
      refine lv_iload hx hb d_PT_change_33 (lv_at hl 4 rfl) ?_
      refine lv_bipush (v := nI 8) hx hb d_PT_change_35 (by decide) ?_
      refine xn_shr8 hx hb (by omega) d_PT_change_37 ?_
      refine xn_iald hM hP 2 rfl (by omega) (by omega) d_PT_change_38 ?_
      refine lv_if_lt (tgt := 65) hx hb d_PT_change_39 (by decide) (fun hneg => ?_) (fun hpos => ?_)
      · exact at65 ls hl
      · refine lv_aload_n hx hb d_PT_change_42 rfl (lv_at hl 0 rfl) ?_
        refine gf_PT_21 hM hP 0 rfl rfl d_PT_change_43 ?_
        refine lv_iload hx hb d_PT_change_46 (lv_at hl 4 rfl) ?_
        refine lv_iload_n hx hb d_PT_change_48 rfl (lv_at hl 2 rfl) ?_
        refine x_callVP (rest := []) hM (c_tget l D cI cL t0 ai ab h0 ar bl used n nl q fd (.int (nI used)) (.ref am) (.int (nI most)) (.ref an) (.ref ah) (.int (nI n)) (.ref at_) ix bk rows hTI (by omega) hNn (by omega) (by omega)) cb_Tri_get cv_PT_45 ⟨Nat.le_of_ble_eq_true rfl, Nat.le_of_ble_eq_true rfl⟩ ⟨Nat.le_of_ble_eq_true rfl, Nat.le_of_ble_eq_true rfl⟩ hP [1, 2, 3, 5, 6] rfl 1 rfl rfl rfl hl.1 rfl (Nat.le_of_ble_eq_true rfl) d_PT_change_49 (fun v hv => ?_)
        rw [hG q (by omega) fd (by omega)] at hv
        subst hv
        refine W.eq (g2 := F0 m 52 ls [.int (g q fd)]) rfl ?_
        refine lv_iload_n hx hb d_PT_change_52 rfl (lv_at hl 3 rfl) ?_
        refine lv_icmp_ne (tgt := 65) hx hb d_PT_change_53 (by decide) (fun hne4 => ?_) (fun heq4 => ?_)
        · exact at65 ls hl
        · obtain ⟨rr, hrr, err⟩ : ∃ r, r < n ∧ ix (q / 256) = nI r := by
            rcases hTI.2.2.2.1 (q / 256) (by omega) with h | ⟨k, hk, ek⟩
            · exact h
            · rw [ek] at hpos; exact absurd (ng_neg (by have := hTI.used; omega)) hpos
          refine lv_iincW (lv' := [(4, .int (nI (q + 256))), (0, .ref x0), (1, .int (nI pt)), (2, .int (nI fd)), (3, .int (g pt fd))]) (v := nI (q + 256)) hx hb d_PT_change_56 hl (k := 4) rfl (nI_inc256 q) (by decide) rfl (fun ls hl => ?_)
          refine lv_goto (tgt := 10) hx hb d_PT_change_62 (by decide) ?_
          have hl : lv_has ls 5 [(0, .ref x0), (1, .int (nI pt)), (2, .int (nI fd)), (3, .int (g pt fd)), (4, .int (nI (q + 256)))] := lv_sub hl [1, 2, 3, 4, 0] rfl
          refine ih (1114112 - (q + 256)) (by omega) (q + 256) ls rfl (by omega) (by omega) (fun y h1 h2 => ?_) hl
          by_cases e1 : y < q
          · exact hg y h1 e1
          · rw [← heq4, ← hG y (by omega) fd hfd, ← hG q (by omega) fd hfd, rp_pos (r := rr) (by rw [show y / 256 = q / 256 by omega]; exact err) (by omega), rp_pos err (by omega)]
abbrev rm_palike : Room := { frames := 1, cells := 0, slots := 0, locals := 22 }
set_option maxHeartbeats 4000000 in
set_option maxRecDepth 100000 in
/-- alike(p, q), within -/
theorem c_palike (l : Launch) (D : va_G) (cI cL : ClassId) (x0 t0 h0 ai ab am ar an ah at_ nl hc n used bl ml most : Nat) (rows next heads tr ix bk mk : Nat → Int32) (g : Nat → Nat → Int32) (hX : XS g rows next heads ix bk n nl hc used bl ml most) (pa pb : Nat) (hpa : pa < 1114112) (hpb : pb < 1114112) : CP l D cI cL y_PT_alike (xws y_PT_alike b_PT_alike 3 (some .boolean)) rm_palike [.ref x0, .int (nI pa), .int (nI pb)] (wPT cI x0 t0 h0 ai ab am ar an ah at_ nl hc n used bl ml most rows next heads tr ix bk mk) (fun v => ∃ z : Int32, v = some (.int z) ∧ isAlike g pa pb z) := by
  refine CP.ofZ (own := R_PT) (cc := b_PT_alike) (nL := 3) (by decide) rfl (Nat.le_of_ble_eq_true rfl) ?_
  intro p e s m args below meth c Q ls hM hl hP RET
  have hx := hM.1
  have hb := hM.2.1
  have hl : lv_has ls 3 [(0, .ref x0), (1, .int (nI pa)), (2, .int (nI pb))] := hl
  have hP : va_P D xcl [(x0, .inr (0, [.ref h0, .ref t0])), (t0, .inr (2, [.ref h0, .ref ai, .ref ab, .int (nI used), .ref am, .int (nI most)])), (ai, .inl (cI, 4352, .inl ix)), (ab, .inl (cI, bl, .inl bk)), (am, .inl (cI, ml, .inl mk)), (h0, .inr (1, [.ref ar, .ref an, .ref ah, .int (nI n), .ref at_])), (ar, .inl (cI, 8 * nl, .inl rows)), (an, .inl (cI, nl, .inl next)), (ah, .inl (cI, hc, .inl heads)), (at_, .inl (cI, 8, .inl tr))] s.heap := hP
  obtain ⟨hRI, hTI, hG, hmo, hm1, hm2, hml, hz0, hn0⟩ := hX
  have hNL := hRI.2.1.le
  have hHC := hRI.2.2.1.le
  have hBL := hTI.2.1.le
  have hNn := hRI.1
  obtain ⟨ra, hra, era⟩ := hTI.pt hpa
  obtain ⟨rb, hrb, erb⟩ := hTI.pt hpb
  have hsame : SameG g pa pb ↔ Same rows ra rows rb := by
    have ha := hG pa hpa
    have hb := hG pb hpb
    rw [era, nI_clamp (by omega)] at ha
    rw [erb, nI_clamp (by omega)] at hb
    exact ⟨fun h i hi => ((ha i hi).trans (h i hi)).trans (hb i hi).symm, fun h i hi => ((ha i hi).symm.trans (h i hi)).trans (hb i hi)⟩
  refine lv_iload_n hx hb d_PT_alike_0 rfl (lv_at hl 1 rfl) ?_
  refine lv_iconst (v := nI 0) hx hb d_PT_alike_1 (by decide) ?_
  refine ld_PT_36 hM d_PT_alike_2 ?_
  refine x_callSP (rest := []) hM (c_in_ok l D cI cL (nI pa) (nI 0) (nI 1114111) (nI_nlt (by omega) (by omega)) (nI_le (by omega) (by omega))) cb_PT_in cv_PT_37 ⟨Nat.le_of_ble_eq_true rfl, Nat.le_of_ble_eq_true rfl⟩ ⟨Nat.le_of_ble_eq_true rfl, Nat.le_of_ble_eq_true rfl⟩ hP [] rfl rfl hl.1 rfl (Nat.le_of_ble_eq_true rfl) d_PT_alike_4 (fun v hv => ?_)
  subst hv
  refine W.eq (g2 := F0 m 7 ls []) rfl ?_
  refine lv_iload_n hx hb d_PT_alike_7 rfl (lv_at hl 2 rfl) ?_
  refine lv_iconst (v := nI 0) hx hb d_PT_alike_8 (by decide) ?_
  refine ld_PT_36 hM d_PT_alike_9 ?_
  refine x_callSP (rest := []) hM (c_in_ok l D cI cL (nI pb) (nI 0) (nI 1114111) (nI_nlt (by omega) (by omega)) (nI_le (by omega) (by omega))) cb_PT_in cv_PT_37 ⟨Nat.le_of_ble_eq_true rfl, Nat.le_of_ble_eq_true rfl⟩ ⟨Nat.le_of_ble_eq_true rfl, Nat.le_of_ble_eq_true rfl⟩ hP [] rfl rfl hl.1 rfl (Nat.le_of_ble_eq_true rfl) d_PT_alike_11 (fun v hv => ?_)
  subst hv
  refine W.eq (g2 := F0 m 14 ls []) rfl ?_
  refine lv_aload_n hx hb d_PT_alike_14 rfl (lv_at hl 0 rfl) ?_
  refine gf_PT_21 hM hP 0 rfl rfl d_PT_alike_15 ?_
  refine lv_iload_n hx hb d_PT_alike_18 rfl (lv_at hl 1 rfl) ?_
  refine x_callVP (rest := []) hM (c_record l D cI cL t0 ai ab bl used n pa (.ref h0) (.int (nI used)) (.ref am) (.int (nI most)) ix bk hTI (by omega)) cb_Tri_record cv_PT_55 ⟨Nat.le_of_ble_eq_true rfl, Nat.le_of_ble_eq_true rfl⟩ ⟨Nat.le_of_ble_eq_true rfl, Nat.le_of_ble_eq_true rfl⟩ hP [1, 2, 3] rfl 1 rfl rfl rfl hl.1 rfl (Nat.le_of_ble_eq_true rfl) d_PT_alike_19 (fun v hv => ?_)
  rw [era] at hv
  subst hv
  refine W.eq (g2 := F0 m 22 ls [.int (nI ra)]) rfl ?_
  refine lv_aload_n hx hb d_PT_alike_22 rfl (lv_at hl 0 rfl) ?_
  refine gf_PT_21 hM hP 0 rfl rfl d_PT_alike_23 ?_
  refine lv_iload_n hx hb d_PT_alike_26 rfl (lv_at hl 2 rfl) ?_
  refine x_callVP (rest := [.int (nI ra)]) hM (c_record l D cI cL t0 ai ab bl used n pb (.ref h0) (.int (nI used)) (.ref am) (.int (nI most)) ix bk hTI (by omega)) cb_Tri_record cv_PT_55 ⟨Nat.le_of_ble_eq_true rfl, Nat.le_of_ble_eq_true rfl⟩ ⟨Nat.le_of_ble_eq_true rfl, Nat.le_of_ble_eq_true rfl⟩ hP [1, 2, 3] rfl 1 rfl rfl rfl hl.1 rfl (Nat.le_of_ble_eq_true rfl) d_PT_alike_27 (fun v hv => ?_)
  rw [erb] at hv
  subst hv
  refine W.eq (g2 := F0 m 30 ls [.int (nI rb), .int (nI ra)]) rfl ?_
  refine xn_ne (tgt := 37) hx hb (by omega) (by omega) d_PT_alike_30 (by decide) (fun hne => ?_) (fun heq => ?_)
  · refine lv_iconst (v := nI 0) hx hb d_PT_alike_37 (by decide) ?_
    refine RET ⟨nI 0, rfl, Or.inr ⟨rfl, fun h => ?_⟩⟩ (Or.inl (by decide)) d_PT_alike_38
    have hs := hsame.mp h
    have hA := hRI.2.2.2.2.2
    rcases Nat.lt_trichotomy ra rb with e1 | e1 | e1
    · exact hA ra rb e1 hrb hs
    · exact hne e1
    · exact hA rb ra e1 hra hs.sy
  · refine lv_iconst (v := nI 1) hx hb d_PT_alike_33 (by decide) ?_
    refine lv_goto (tgt := 38) hx hb d_PT_alike_34 (by decide) ?_
    refine RET ⟨nI 1, rfl, Or.inl ⟨rfl, hsame.mpr (by rw [heq]; exact Same.rf)⟩⟩ (Or.inr (by decide)) d_PT_alike_38
set_option maxHeartbeats 4000000 in
set_option maxRecDepth 100000 in
/-- hash(first, last, field), within -/
theorem c_phash (l : Launch) (D : va_G) (cI cL : ClassId) (x0 t0 h0 ai ab am ar an ah at_ nl hc n used bl ml most : Nat) (rows next heads tr ix bk mk : Nat → Int32) (g : Nat → Nat → Int32) (hX : XS g rows next heads ix bk n nl hc used bl ml most) (pa pb fd : Nat) (hab : pa ≤ pb) (hpb : pb < 1114112) (hd : pb - pa ≤ 3999) (hfd : fd < 8) : CP l D cI cL y_PT_hash (xws y_PT_hash b_PT_hash 6 (some .int)) rm_pget [.ref x0, .int (nI pa), .int (nI pb), .int (nI fd)] (wPT cI x0 t0 h0 ai ab am ar an ah at_ nl hc n used bl ml most rows next heads tr ix bk mk) (fun v => v = some (.int (hF g pa fd (pb + 1 - pa)))) := by
  refine CP.ofI (own := R_PT) (cc := b_PT_hash) (nL := 6) (by decide) rfl (Nat.le_of_ble_eq_true rfl) ?_
  intro p e s m args below meth c Q ls hM hl hP RET
  have hx := hM.1
  have hb := hM.2.1
  have hl : lv_has ls 6 [(0, .ref x0), (1, .int (nI pa)), (2, .int (nI pb)), (3, .int (nI fd))] := hl
  have hP : va_P D xcl [(x0, .inr (0, [.ref h0, .ref t0])), (t0, .inr (2, [.ref h0, .ref ai, .ref ab, .int (nI used), .ref am, .int (nI most)])), (ai, .inl (cI, 4352, .inl ix)), (ab, .inl (cI, bl, .inl bk)), (am, .inl (cI, ml, .inl mk)), (h0, .inr (1, [.ref ar, .ref an, .ref ah, .int (nI n), .ref at_])), (ar, .inl (cI, 8 * nl, .inl rows)), (an, .inl (cI, nl, .inl next)), (ah, .inl (cI, hc, .inl heads)), (at_, .inl (cI, 8, .inl tr))] s.heap := hP
  obtain ⟨hRI, hTI, hG, hmo, hm1, hm2, hml, hz0, hn0⟩ := hX
  have hNL := hRI.2.1.le
  have hHC := hRI.2.2.1.le
  have hBL := hTI.2.1.le
  have hNn := hRI.1
  refine lv_iload_n hx hb d_PT_hash_0 rfl (lv_at hl 1 rfl) ?_
  refine lv_iconst (v := nI 0) hx hb d_PT_hash_1 (by decide) ?_
  refine ld_PT_36 hM d_PT_hash_2 ?_
  refine x_callSP (rest := []) hM (c_in_ok l D cI cL (nI pa) (nI 0) (nI 1114111) (nI_nlt (by omega) (by omega)) (nI_le (by omega) (by omega))) cb_PT_in cv_PT_37 ⟨Nat.le_of_ble_eq_true rfl, Nat.le_of_ble_eq_true rfl⟩ ⟨Nat.le_of_ble_eq_true rfl, Nat.le_of_ble_eq_true rfl⟩ hP [] rfl rfl hl.1 rfl (Nat.le_of_ble_eq_true rfl) d_PT_hash_4 (fun v hv => ?_)
  subst hv
  refine W.eq (g2 := F0 m 7 ls []) rfl ?_
  refine lv_iload_n hx hb d_PT_hash_7 rfl (lv_at hl 2 rfl) ?_
  refine lv_iload_n hx hb d_PT_hash_8 rfl (lv_at hl 1 rfl) ?_
  refine ld_PT_36 hM d_PT_hash_9 ?_
  refine x_callSP (rest := []) hM (c_in_ok l D cI cL (nI pb) (nI pa) (nI 1114111) (nI_nlt (by omega) (by omega)) (nI_le (by omega) (by omega))) cb_PT_in cv_PT_37 ⟨Nat.le_of_ble_eq_true rfl, Nat.le_of_ble_eq_true rfl⟩ ⟨Nat.le_of_ble_eq_true rfl, Nat.le_of_ble_eq_true rfl⟩ hP [] rfl rfl hl.1 rfl (Nat.le_of_ble_eq_true rfl) d_PT_hash_11 (fun v hv => ?_)
  subst hv
  refine W.eq (g2 := F0 m 14 ls []) rfl ?_
  refine lv_iload_n hx hb d_PT_hash_14 rfl (lv_at hl 2 rfl) ?_
  refine lv_iload_n hx hb d_PT_hash_15 rfl (lv_at hl 1 rfl) ?_
  refine xn_isub hx hb (by omega) d_PT_hash_16 ?_
  refine lv_iconst (v := nI 0) hx hb d_PT_hash_17 (by decide) ?_
  refine lv_sipush (v := nI 3999) hx hb d_PT_hash_18 (by decide) ?_
  refine x_callSP (rest := []) hM (c_in_ok l D cI cL (nI (pb - pa)) (nI 0) (nI 3999) (nI_nlt (by omega) (by omega)) (nI_le (by omega) (by omega))) cb_PT_in cv_PT_37 ⟨Nat.le_of_ble_eq_true rfl, Nat.le_of_ble_eq_true rfl⟩ ⟨Nat.le_of_ble_eq_true rfl, Nat.le_of_ble_eq_true rfl⟩ hP [] rfl rfl hl.1 rfl (Nat.le_of_ble_eq_true rfl) d_PT_hash_21 (fun v hv => ?_)
  subst hv
  refine W.eq (g2 := F0 m 24 ls []) rfl ?_
  refine lv_iload_n hx hb d_PT_hash_24 rfl (lv_at hl 3 rfl) ?_
  refine lv_iconst (v := nI 0) hx hb d_PT_hash_25 (by decide) ?_
  refine lv_bipush (v := nI 7) hx hb d_PT_hash_26 (by decide) ?_
  refine x_callSP (rest := []) hM (c_in_ok l D cI cL (nI fd) (nI 0) (nI 7) (nI_nlt (by omega) (by omega)) (nI_le (by omega) (by omega))) cb_PT_in cv_PT_37 ⟨Nat.le_of_ble_eq_true rfl, Nat.le_of_ble_eq_true rfl⟩ ⟨Nat.le_of_ble_eq_true rfl, Nat.le_of_ble_eq_true rfl⟩ hP [] rfl rfl hl.1 rfl (Nat.le_of_ble_eq_true rfl) d_PT_hash_28 (fun v hv => ?_)
  subst hv
  refine W.eq (g2 := F0 m 31 ls []) rfl ?_
  refine lv_iconst (v := nI 1) hx hb d_PT_hash_31 (by decide) ?_
  refine lv_istore (lv' := [(4, .int (nI 1)), (0, .ref x0), (1, .int (nI pa)), (2, .int (nI pb)), (3, .int (nI fd))]) hx hb d_PT_hash_32 hl (by decide) rfl (fun ls hl => ?_)
  refine lv_iload_n hx hb d_PT_hash_34 rfl (lv_at hl 2 rfl) ?_
  refine lv_istore (lv' := [(5, .int (nI pa)), (4, .int (nI 1)), (0, .ref x0), (1, .int (nI pa)), (2, .int (nI pb)), (3, .int (nI fd))]) hx hb d_PT_hash_35 hl (by decide) rfl (fun ls hl => ?_)
  have hl : lv_has ls 6 [(0, .ref x0), (1, .int (nI pa)), (2, .int (nI pb)), (3, .int (nI fd)), (4, .int (nI 1)), (5, .int (nI pa))] := lv_sub hl [2, 3, 4, 5, 1, 0] rfl
  suffices loop : ∀ (k q : Nat) (ls : Array Slot), pb + 1 - q = k → pa ≤ q → q ≤ pb + 1 → lv_has ls 6 [(0, .ref x0), (1, .int (nI pa)), (2, .int (nI pb)), (3, .int (nI fd)), (4, .int (hF g pa fd (q - pa))), (5, .int (nI q))] → W p l e rm_pget s m args below meth c s.heap [] 0 0 Q (F0 m 37 ls []) from
    loop _ pa ls rfl (Nat.le_refl _) (by omega) (by rw [Nat.sub_self]; exact hl)
  intro k
  induction k using Nat.strongRecOn with | ind k ih => ?_
  intro q ls hk hq1 hq2 hl
  refine lv_iload hx hb d_PT_hash_37 (lv_at hl 5 rfl) ?_
  refine lv_iload_n hx hb d_PT_hash_39 rfl (lv_at hl 2 rfl) ?_
  refine xn_gt (tgt := 67) hx hb (by omega) (by omega) d_PT_hash_40 (by decide) (fun hgt => ?_) (fun hle => ?_)
  · refine lv_iload hx hb d_PT_hash_67 (lv_at hl 4 rfl) ?_
    refine RET ?_ d_PT_hash_69
    rw [show q = pb + 1 by omega]
  · refine lv_bipush (v := nI 31) hx hb d_PT_hash_43 (by decide) ?_
    refine lv_iload hx hb d_PT_hash_45 (lv_at hl 4 rfl) ?_
    refine lv_imul hx hb d_PT_hash_47 ?_
    refine lv_aload_n hx hb d_PT_hash_48 rfl (lv_at hl 0 rfl) ?_
    refine gf_PT_21 hM hP 0 rfl rfl d_PT_hash_49 ?_
    refine lv_iload hx hb d_PT_hash_52 (lv_at hl 5 rfl) ?_
    refine lv_iload_n hx hb d_PT_hash_54 rfl (lv_at hl 3 rfl) ?_
    refine x_callVP (rest := [.int ((nI 31) * (hF g pa fd (q - pa)))]) hM (c_tget l D cI cL t0 ai ab h0 ar bl used n nl q fd (.int (nI used)) (.ref am) (.int (nI most)) (.ref an) (.ref ah) (.int (nI n)) (.ref at_) ix bk rows hTI (by omega) hNn (by omega) (by omega)) cb_Tri_get cv_PT_45 ⟨Nat.le_of_ble_eq_true rfl, Nat.le_of_ble_eq_true rfl⟩ ⟨Nat.le_of_ble_eq_true rfl, Nat.le_of_ble_eq_true rfl⟩ hP [1, 2, 3, 5, 6] rfl 1 rfl rfl rfl hl.1 rfl (Nat.le_of_ble_eq_true rfl) d_PT_hash_55 (fun v hv => ?_)
    rw [hG q (by omega) fd (by omega)] at hv
    subst hv
    refine W.eq (g2 := F0 m 58 ls [.int (g q fd), .int ((nI 31) * (hF g pa fd (q - pa)))]) rfl ?_
    refine lv_iadd hx hb d_PT_hash_58 ?_
    refine lv_istore (lv' := [(4, .int (((nI 31) * (hF g pa fd (q - pa))) + (g q fd))), (0, .ref x0), (1, .int (nI pa)), (2, .int (nI pb)), (3, .int (nI fd)), (5, .int (nI q))]) hx hb d_PT_hash_59 hl (by decide) rfl (fun ls hl => ?_)
    refine lv_iinc (lv' := [(5, .int (nI (q + 1))), (4, .int (((nI 31) * (hF g pa fd (q - pa))) + (g q fd))), (0, .ref x0), (1, .int (nI pa)), (2, .int (nI pb)), (3, .int (nI fd))]) (v := nI (q + 1)) hx hb d_PT_hash_61 hl (k := 5) rfl (nI_inc q) (by decide) rfl (fun ls hl => ?_)
    refine lv_goto (tgt := 37) hx hb d_PT_hash_64 (by decide) ?_
    have hl : lv_has ls 6 [(0, .ref x0), (1, .int (nI pa)), (2, .int (nI pb)), (3, .int (nI fd)), (4, .int (((nI 31) * (hF g pa fd (q - pa))) + (g q fd))), (5, .int (nI (q + 1)))] := lv_sub hl [2, 3, 4, 5, 1, 0] rfl
    refine ih (pb + 1 - (q + 1)) (by omega) (q + 1) ls rfl (by omega) (by omega) ?_
    have e1 : hF g pa fd (q + 1 - pa) = nI 31 * hF g pa fd (q - pa) + g q fd := by
      rw [show q + 1 - pa = (q - pa) + 1 by omega]
      show nI 31 * hF g pa fd (q - pa) + g (pa + (q - pa)) fd = _
      rw [show pa + (q - pa) = q by omega]
    rw [e1]; exact hl
abbrev rm_pmark (P : Nat) : Room := { frames := 7, cells := 30000, slots := 4600000 - P, locals := 168 }
set_option maxHeartbeats 4000000 in
set_option maxRecDepth 100000 in
/-- mark(first, last, field, v, kept), within -/
theorem c_pmark (l : Launch) (D : va_G) (cI cL : ClassId) (x0 t0 h0 ai ab am ar an ah at_ nl hc n used bl ml most : Nat) (rows next heads tr ix bk mk : Nat → Int32) (g : Nat → Nat → Int32) (hX : XS g rows next heads ix bk n nl hc used bl ml most) (L : List (Nat → Int32)) (hC : Cov g L) (hLl : L.length ≤ 1025) (pa pb fd : Nat) (x kp : Int32) (hab : pa ≤ pb) (hpb : pb < 1114112) (hfd : fd < 8) : CT l D cI cL y_PT_mark (xws y_PT_mark b_PT_mark 6 (some .int)) (rm_pmark (PS nl hc bl ml)) [.ref x0, .int (nI pa), .int (nI pb), .int (nI fd), .int x, .int kp] (wPT cI x0 t0 h0 ai ab am ar an ah at_ nl hc n used bl ml most rows next heads tr ix bk mk) (fun v k z w1 => ∃ (ab2 am2 ar2 an2 ah2 nl2 hc2 n2 used2 bl2 ml2 most2 : Nat) (rows2 next2 heads2 tr2 ix2 bk2 mk2 : Nat → Int32), v = some (.int (nI (pb - pa + 1))) ∧ 4096 * k + PC nl hc bl ml ≤ PC nl2 hc2 bl2 ml2 ∧ z + PS nl hc bl ml ≤ PS nl2 hc2 bl2 ml2 ∧ XS (gset g pa (pb + 1) fd x kp) rows2 next2 heads2 ix2 bk2 n2 nl2 hc2 used2 bl2 ml2 most2 ∧ w1 = (wPT cI x0 t0 h0 ai ab2 am2 ar2 an2 ah2 at_ nl2 hc2 n2 used2 bl2 ml2 most2 rows2 next2 heads2 tr2 ix2 bk2 mk2)) := by
  refine CT.ofI (own := R_PT) (cc := b_PT_mark) (nL := 6) (by decide) rfl (Nat.le_of_ble_eq_true rfl) ?_
  intro p e s m args below meth c A Q ls hM hl hW hnm RET
  have hx := hM.1
  have hb := hM.2.1
  have hl : lv_has ls 6 [(0, .ref x0), (1, .int (nI pa)), (2, .int (nI pb)), (3, .int (nI fd)), (4, .int x), (5, .int kp)] := hl
  have hW : xW D A s.heap [(x0, .inr (0, [.ref h0, .ref t0])), (t0, .inr (2, [.ref h0, .ref ai, .ref ab, .int (nI used), .ref am, .int (nI most)])), (ai, .inl (cI, 4352, .inl ix)), (ab, .inl (cI, bl, .inl bk)), (am, .inl (cI, ml, .inl mk)), (h0, .inr (1, [.ref ar, .ref an, .ref ah, .int (nI n), .ref at_])), (ar, .inl (cI, 8 * nl, .inl rows)), (an, .inl (cI, nl, .inl next)), (ah, .inl (cI, hc, .inl heads)), (at_, .inl (cI, 8, .inl tr))] s.heap [] := hW
  refine lv_iload_n hx hb d_PT_mark_0 rfl (lv_at hl 1 rfl) ?_
  refine lv_iconst (v := nI 0) hx hb d_PT_mark_1 (by decide) ?_
  refine ld_PT_36 hM d_PT_mark_2 ?_
  refine x_callSP (rest := []) hM (c_in_ok l D cI cL (nI pa) (nI 0) (nI 1114111) (nI_nlt (by omega) (by omega)) (nI_le (by omega) (by omega))) cb_PT_in cv_PT_37 ⟨Nat.le_of_ble_eq_true rfl, Nat.le_of_ble_eq_true rfl⟩ ⟨Nat.le_of_ble_eq_true rfl, Nat.zero_le _⟩ hW.1 [] rfl rfl hl.1 rfl (Nat.le_of_ble_eq_true rfl) d_PT_mark_4 (fun v hv => ?_)
  subst hv
  refine W.eq (g2 := F0 m 7 ls []) rfl ?_
  refine lv_iload_n hx hb d_PT_mark_7 rfl (lv_at hl 2 rfl) ?_
  refine lv_iload_n hx hb d_PT_mark_8 rfl (lv_at hl 1 rfl) ?_
  refine ld_PT_36 hM d_PT_mark_9 ?_
  refine x_callSP (rest := []) hM (c_in_ok l D cI cL (nI pb) (nI pa) (nI 1114111) (nI_nlt (by omega) (by omega)) (nI_le (by omega) (by omega))) cb_PT_in cv_PT_37 ⟨Nat.le_of_ble_eq_true rfl, Nat.le_of_ble_eq_true rfl⟩ ⟨Nat.le_of_ble_eq_true rfl, Nat.zero_le _⟩ hW.1 [] rfl rfl hl.1 rfl (Nat.le_of_ble_eq_true rfl) d_PT_mark_11 (fun v hv => ?_)
  subst hv
  refine W.eq (g2 := F0 m 14 ls []) rfl ?_
  refine lv_iload_n hx hb d_PT_mark_14 rfl (lv_at hl 3 rfl) ?_
  refine lv_iconst (v := nI 0) hx hb d_PT_mark_15 (by decide) ?_
  refine lv_bipush (v := nI 7) hx hb d_PT_mark_16 (by decide) ?_
  refine x_callSP (rest := []) hM (c_in_ok l D cI cL (nI fd) (nI 0) (nI 7) (nI_nlt (by omega) (by omega)) (nI_le (by omega) (by omega))) cb_PT_in cv_PT_37 ⟨Nat.le_of_ble_eq_true rfl, Nat.le_of_ble_eq_true rfl⟩ ⟨Nat.le_of_ble_eq_true rfl, Nat.zero_le _⟩ hW.1 [] rfl rfl hl.1 rfl (Nat.le_of_ble_eq_true rfl) d_PT_mark_18 (fun v hv => ?_)
  subst hv
  refine W.eq (g2 := F0 m 21 ls []) rfl ?_
  refine lv_aload_n hx hb d_PT_mark_21 rfl (lv_at hl 0 rfl) ?_
  refine gf_PT_21 hM hW.1 0 rfl rfl d_PT_mark_22 ?_
  refine lv_iload_n hx hb d_PT_mark_25 rfl (lv_at hl 1 rfl) ?_
  refine lv_iload_n hx hb d_PT_mark_26 rfl (lv_at hl 2 rfl) ?_
  refine lv_iload_n hx hb d_PT_mark_27 rfl (lv_at hl 3 rfl) ?_
  refine lv_iload hx hb d_PT_mark_28 (lv_at hl 4 rfl) ?_
  refine lv_iload hx hb d_PT_mark_30 (lv_at hl 5 rfl) ?_
  refine x_callVT (rest := []) hM (c_tset l D cI cL t0 h0 ai ab am ar an ah at_ nl hc n used bl ml most pa pb fd x kp rows next heads tr ix bk mk g L hX hC hLl hab hpb hfd) cb_Tri_set cv_PT_41 ⟨Nat.le_of_ble_eq_true rfl, Nat.le_of_ble_eq_true rfl⟩ ⟨Nat.le_of_ble_eq_true rfl, by show 0 + (4600000 - PS nl hc bl ml) ≤ 4600000 - PS nl hc bl ml; omega⟩ hW [1, 2, 3, 4, 5, 6, 7, 8, 9] [0] (by decide) rfl (wr := [(x0, .inr (0, [.ref h0, .ref t0]))]) rfl (by decide) (by decide) 1 rfl rfl rfl hl.1 rfl (Nat.le_of_ble_eq_true rfl) d_PT_mark_32 (fun v k z w1 H locs hv hW => ?_)
  obtain ⟨ab2, am2, ar2, an2, ah2, nl2, hc2, n2, used2, bl2, ml2, most2, rows2, next2, heads2, tr2, ix2, bk2, mk2, rfl, hk1, hk2, hX2, rfl⟩ := hv
  have hW : xW D A s.heap [(x0, .inr (0, [.ref h0, .ref t0])), (t0, .inr (2, [.ref h0, .ref ai, .ref ab2, .int (nI used2), .ref am2, .int (nI most2)])), (ai, .inl (cI, 4352, .inl ix2)), (ab2, .inl (cI, bl2, .inl bk2)), (am2, .inl (cI, ml2, .inl mk2)), (h0, .inr (1, [.ref ar2, .ref an2, .ref ah2, .int (nI n2), .ref at_])), (ar2, .inl (cI, 8 * nl2, .inl rows2)), (an2, .inl (cI, nl2, .inl next2)), (ah2, .inl (cI, hc2, .inl heads2)), (at_, .inl (cI, 8, .inl tr2))] H locs := hW.sub [0, 1, 2, 3, 4, 5, 6, 7, 8, 9] (by decide) rfl
  refine W.eq (g2 := F0 m 35 ls []) rfl ?_
  refine lv_iload_n hx hb d_PT_mark_35 rfl (lv_at hl 2 rfl) ?_
  refine lv_iload_n hx hb d_PT_mark_36 rfl (lv_at hl 1 rfl) ?_
  refine xn_isub hx hb (by omega) d_PT_mark_37 ?_
  refine lv_iconst (v := nI 1) hx hb d_PT_mark_38 (by decide) ?_
  refine xn_iadd hx hb d_PT_mark_39 ?_
  exact RET (w1 := wPT cI x0 t0 h0 ai ab2 am2 ar2 an2 ah2 at_ nl2 hc2 n2 used2 bl2 ml2 most2 rows2 next2 heads2 tr2 ix2 bk2 mk2) hW ⟨ab2, am2, ar2, an2, ah2, nl2, hc2, n2, used2, bl2, ml2, most2, rows2, next2, heads2, tr2, ix2, bk2, mk2, rfl, by omega, by omega, hX2, rfl⟩ d_PT_mark_40
abbrev rm_pset (P : Nat) : Room := { frames := 8, cells := 30000, slots := 4600000 - P, locals := 193 }
set_option maxHeartbeats 4000000 in
set_option maxRecDepth 100000 in
/-- set(first, last, field, v), within -/
theorem c_pset (l : Launch) (D : va_G) (cI cL : ClassId) (x0 t0 h0 ai ab am ar an ah at_ nl hc n used bl ml most : Nat) (rows next heads tr ix bk mk : Nat → Int32) (g : Nat → Nat → Int32) (hX : XS g rows next heads ix bk n nl hc used bl ml most) (L : List (Nat → Int32)) (hC : Cov g L) (hLl : L.length ≤ 1025) (pa pb fd : Nat) (x : Int32) (hab : pa ≤ pb) (hpb : pb < 1114112) (hfd : fd < 8) : CT l D cI cL y_PT_set (xws y_PT_set b_PT_set 5 (some .int)) (rm_pset (PS nl hc bl ml)) [.ref x0, .int (nI pa), .int (nI pb), .int (nI fd), .int x] (wPT cI x0 t0 h0 ai ab am ar an ah at_ nl hc n used bl ml most rows next heads tr ix bk mk) (fun v k z w1 => ∃ (ab2 am2 ar2 an2 ah2 nl2 hc2 n2 used2 bl2 ml2 most2 : Nat) (rows2 next2 heads2 tr2 ix2 bk2 mk2 : Nat → Int32), v = some (.int (nI (pb - pa + 1))) ∧ 4096 * k + PC nl hc bl ml ≤ PC nl2 hc2 bl2 ml2 ∧ z + PS nl hc bl ml ≤ PS nl2 hc2 bl2 ml2 ∧ XS (gset g pa (pb + 1) fd x (nI 0)) rows2 next2 heads2 ix2 bk2 n2 nl2 hc2 used2 bl2 ml2 most2 ∧ w1 = (wPT cI x0 t0 h0 ai ab2 am2 ar2 an2 ah2 at_ nl2 hc2 n2 used2 bl2 ml2 most2 rows2 next2 heads2 tr2 ix2 bk2 mk2)) := by
  refine CT.ofI (own := R_PT) (cc := b_PT_set) (nL := 5) (by decide) rfl (Nat.le_of_ble_eq_true rfl) ?_
  intro p e s m args below meth c A Q ls hM hl hW hnm RET
  have hx := hM.1
  have hb := hM.2.1
  have hl : lv_has ls 5 [(0, .ref x0), (1, .int (nI pa)), (2, .int (nI pb)), (3, .int (nI fd)), (4, .int x)] := hl
  have hW : xW D A s.heap [(x0, .inr (0, [.ref h0, .ref t0])), (t0, .inr (2, [.ref h0, .ref ai, .ref ab, .int (nI used), .ref am, .int (nI most)])), (ai, .inl (cI, 4352, .inl ix)), (ab, .inl (cI, bl, .inl bk)), (am, .inl (cI, ml, .inl mk)), (h0, .inr (1, [.ref ar, .ref an, .ref ah, .int (nI n), .ref at_])), (ar, .inl (cI, 8 * nl, .inl rows)), (an, .inl (cI, nl, .inl next)), (ah, .inl (cI, hc, .inl heads)), (at_, .inl (cI, 8, .inl tr))] s.heap [] := hW
  refine lv_aload_n hx hb d_PT_set_0 rfl (lv_at hl 0 rfl) ?_
  refine lv_iload_n hx hb d_PT_set_1 rfl (lv_at hl 1 rfl) ?_
  refine lv_iload_n hx hb d_PT_set_2 rfl (lv_at hl 2 rfl) ?_
  refine lv_iload_n hx hb d_PT_set_3 rfl (lv_at hl 3 rfl) ?_
  refine lv_iload hx hb d_PT_set_4 (lv_at hl 4 rfl) ?_
  refine lv_iconst (v := nI 0) hx hb d_PT_set_6 (by decide) ?_
  refine x_callVT (rest := []) hM (c_pmark l D cI cL x0 t0 h0 ai ab am ar an ah at_ nl hc n used bl ml most rows next heads tr ix bk mk g hX L hC hLl pa pb fd x (nI 0) hab hpb hfd) cb_PT_mark cv_PT_32 ⟨Nat.le_of_ble_eq_true rfl, Nat.le_of_ble_eq_true rfl⟩ ⟨Nat.le_of_ble_eq_true rfl, by show 0 + (4600000 - PS nl hc bl ml) ≤ 4600000 - PS nl hc bl ml; omega⟩ hW [0, 1, 2, 3, 4, 5, 6, 7, 8, 9] [] (by decide) rfl (wr := []) rfl (by decide) (by decide) 0 rfl rfl rfl hl.1 rfl (Nat.le_of_ble_eq_true rfl) d_PT_set_7 (fun v k z w1 H locs hv hW => ?_)
  obtain ⟨ab2, am2, ar2, an2, ah2, nl2, hc2, n2, used2, bl2, ml2, most2, rows2, next2, heads2, tr2, ix2, bk2, mk2, rfl, hk1, hk2, hX2, rfl⟩ := hv
  refine W.eq (g2 := F0 m 10 ls [.int (nI (pb - pa + 1))]) rfl ?_
  exact RET (w1 := wPT cI x0 t0 h0 ai ab2 am2 ar2 an2 ah2 at_ nl2 hc2 n2 used2 bl2 ml2 most2 rows2 next2 heads2 tr2 ix2 bk2 mk2) hW ⟨ab2, am2, ar2, an2, ah2, nl2, hc2, n2, used2, bl2, ml2, most2, rows2, next2, heads2, tr2, ix2, bk2, mk2, rfl, by omega, by omega, hX2, rfl⟩ d_PT_set_10
theorem XS_zero {rows next heads ix bk : Nat → Int32} {nl hc bl ml most : Nat} (hR : RI rows next heads 1 nl hc) (hz : ∀ i, i < 8 → rows i = 0) (hix : ∀ b, b < 4352 → ix b = nI 0) (hB : BLs bl) (hm1 : 4096 ≤ most) (hm2 : most ≤ 4102) (hml : ml = 4096 ∨ ml = 8192) : XS (fun _ _ => 0) rows next heads ix bk 1 nl hc 0 bl ml most := by
  refine ⟨hR, ⟨by omega, hB, by decide, fun b hb => Or.inl ⟨0, by decide, hix b hb⟩, fun q hq => absurd hq (by omega), fun b d k _ _ hk => absurd hk (by omega), fun k hk => absurd hk (by omega)⟩, fun q hq i hi => ?_, by omega, hm1, hm2, hml, hz, by decide⟩
  rw [rp_pos (hix (q / 256) (by omega)) (by decide), nI_clamp (by decide), Nat.mul_zero, Nat.zero_add]
  exact hz i hi
abbrev rm_pclear (P : Nat) : Room := { frames := 5, cells := 30000, slots := 4600000 - P, locals := 111 }
set_option maxHeartbeats 4000000 in
set_option maxRecDepth 100000 in
/-- clear() -/
theorem c_pclear (l : Launch) (D : va_G) (cI cL : ClassId) (x0 t0 h0 ai ab am ar an ah at_ nl hc n used bl ml most : Nat) (rows next heads tr ix bk mk : Nat → Int32) (g : Nat → Nat → Int32) (hX : XS g rows next heads ix bk n nl hc used bl ml most) : CT l D cI cL y_PT_clear (xws y_PT_clear b_PT_clear 3 (some .int)) (rm_pclear (PS nl hc bl ml)) [.ref x0] (wPT cI x0 t0 h0 ai ab am ar an ah at_ nl hc n used bl ml most rows next heads tr ix bk mk) (fun v k z w1 => ∃ c : Nat, isCount g 1024 c ∧ ∃ (ab2 am2 ar2 an2 ah2 nl2 hc2 n2 used2 bl2 ml2 most2 : Nat) (rows2 next2 heads2 tr2 ix2 bk2 mk2 : Nat → Int32), v = some (.int (nI c)) ∧ 4096 * k + PC nl hc bl ml ≤ PC nl2 hc2 bl2 ml2 ∧ z + PS nl hc bl ml ≤ PS nl2 hc2 bl2 ml2 ∧ XS (fun _ _ => 0) rows2 next2 heads2 ix2 bk2 n2 nl2 hc2 used2 bl2 ml2 most2 ∧ w1 = (wPT cI x0 t0 h0 ai ab2 am2 ar2 an2 ah2 at_ nl2 hc2 n2 used2 bl2 ml2 most2 rows2 next2 heads2 tr2 ix2 bk2 mk2)) := by
  refine CT.ofI (own := R_PT) (cc := b_PT_clear) (nL := 3) (by decide) rfl (Nat.le_of_ble_eq_true rfl) ?_
  intro p e s m args below meth c A Q ls hM hl hW hnm RET
  have hx := hM.1
  have hb := hM.2.1
  have hl : lv_has ls 3 [(0, .ref x0)] := hl
  have hW : xW D A s.heap [(x0, .inr (0, [.ref h0, .ref t0])), (t0, .inr (2, [.ref h0, .ref ai, .ref ab, .int (nI used), .ref am, .int (nI most)])), (ai, .inl (cI, 4352, .inl ix)), (ab, .inl (cI, bl, .inl bk)), (am, .inl (cI, ml, .inl mk)), (h0, .inr (1, [.ref ar, .ref an, .ref ah, .int (nI n), .ref at_])), (ar, .inl (cI, 8 * nl, .inl rows)), (an, .inl (cI, nl, .inl next)), (ah, .inl (cI, hc, .inl heads)), (at_, .inl (cI, 8, .inl tr))] s.heap [] := hW
  obtain ⟨hRI, hTI, hG, hmo, hm1, hm2, hml, hz0, hn0⟩ := hX
  have hNL := hRI.2.1.le
  have hHC := hRI.2.2.1.le
  have hBL := hTI.2.1.le
  have hNn := hRI.1
  have hPm : PS nl hc bl ml ≤ 4366336 := by unfold PS; omega
  refine lv_iconst (v := nI 0) hx hb d_PT_clear_0 (by decide) ?_
  refine lv_istore_n (lv' := [(1, .int (nI 0)), (0, .ref x0)]) hx hb d_PT_clear_1 rfl hl (by decide) rfl (fun ls hl => ?_)
  refine lv_iconst (v := nI 0) hx hb d_PT_clear_2 (by decide) ?_
  refine lv_istore_n (lv' := [(2, .int (nI 0)), (1, .int (nI 0)), (0, .ref x0)]) hx hb d_PT_clear_3 rfl hl (by decide) rfl (fun ls hl => ?_)
  have hl : lv_has ls 3 [(0, .ref x0), (1, .int (nI 0)), (2, .int (nI 0))] := lv_sub hl [2, 1, 0] rfl
  suffices loop : ∀ (k q cn : Nat) (ls : Array Slot), 1024 - q = k → q ≤ 1024 → isCount g q cn → lv_has ls 3 [(0, .ref x0), (1, .int (nI cn)), (2, .int (nI q))] → W p l e (rm_pclear (PS nl hc bl ml)) s m args below meth c s.heap [] 0 0 Q (F0 m 4 ls []) from
    loop _ 0 0 ls rfl (Nat.zero_le _) rfl hl
  intro k
  induction k using Nat.strongRecOn with | ind k ih => ?_
  intro q cn ls hk hq hcn hl
  have hcl := hcn.le
  refine lv_iload_n hx hb d_PT_clear_4 rfl (lv_at hl 2 rfl) ?_
  refine lv_sipush (v := nI 1024) hx hb d_PT_clear_5 (by decide) ?_
  refine xn_ge (tgt := 31) hx hb (by omega) (by omega) d_PT_clear_8 (by decide) (fun hge => ?_) (fun hlt => ?_)
  · have hq4 : q = 1024 := by omega
    rw [hq4] at hcn
    refine lv_aload_n hx hb d_PT_clear_31 rfl (lv_at hl 0 rfl) ?_
    refine gf_PT_10 hM hW.1 0 rfl rfl d_PT_clear_32 ?_
    refine x_callVT (rest := []) hM (c_rclear l D cI cL h0 ar an ah at_ nl hc (nI n) rows next heads tr hRI.2.1 hRI.2.2.1) cb_Rec_clear cv_PT_25 ⟨Nat.le_of_ble_eq_true rfl, Nat.le_of_ble_eq_true rfl⟩ ⟨Nat.le_of_ble_eq_true rfl, by show 0 + (18 * nl + 4 * hc) ≤ 4600000 - PS nl hc bl ml; omega⟩ hW [5, 6, 7, 8, 9] [0, 1, 2, 3, 4] (by decide) rfl (wr := [(x0, .inr (0, [.ref h0, .ref t0])), (t0, .inr (2, [.ref h0, .ref ai, .ref ab, .int (nI used), .ref am, .int (nI most)])), (ai, .inl (cI, 4352, .inl ix)), (ab, .inl (cI, bl, .inl bk)), (am, .inl (cI, ml, .inl mk))]) rfl (by decide) (by decide) 5 rfl rfl rfl hl.1 rfl (Nat.le_of_ble_eq_true rfl) d_PT_clear_35 (fun v k1 z1 w1 H locs hv hW => ?_)
    obtain ⟨nl2, hc2, ar2, an2, ah2, rows2, next2, heads2, tr2, rfl, hk1, hk2, hR2, hz2, rfl⟩ := hv
    have hW : xW D A s.heap [(x0, .inr (0, [.ref h0, .ref t0])), (t0, .inr (2, [.ref h0, .ref ai, .ref ab, .int (nI used), .ref am, .int (nI most)])), (ai, .inl (cI, 4352, .inl ix)), (ab, .inl (cI, bl, .inl bk)), (am, .inl (cI, ml, .inl mk)), (h0, .inr (1, [.ref ar2, .ref an2, .ref ah2, .int (nI 1), .ref at_])), (ar2, .inl (cI, 8 * nl2, .inl rows2)), (an2, .inl (cI, nl2, .inl next2)), (ah2, .inl (cI, hc2, .inl heads2)), (at_, .inl (cI, 8, .inl tr2))] H locs := hW.sub [0, 1, 2, 3, 4, 5, 6, 7, 8, 9] (by decide) rfl
    refine W.eq (g2 := F0 m 38 ls []) rfl ?_
    refine lv_aload_n hx hb d_PT_clear_38 rfl (lv_at hl 0 rfl) ?_
    refine gf_PT_21 hM hW.1 0 rfl rfl d_PT_clear_39 ?_
    have hr1 := hR2.2.1.le
    have hr2 := hR2.2.2.1.le
    refine x_callVT (rest := []) hM (c_tclear l D cI cL t0 ai (nI used) (.ref h0) (.ref ab) (.ref am) (.int (nI most)) ix) cb_Tri_clear cv_PT_28 ⟨Nat.le_of_ble_eq_true rfl, Nat.le_of_ble_eq_true rfl⟩ ⟨by show 0 + k1 + 0 ≤ 30000; omega, by show 0 + z1 + 0 ≤ 4600000 - PS nl hc bl ml; unfold PS; omega⟩ hW [1, 2] [0, 3, 4, 5, 6, 7, 8, 9] (by decide) rfl (wr := [(x0, .inr (0, [.ref h0, .ref t0])), (ab, .inl (cI, bl, .inl bk)), (am, .inl (cI, ml, .inl mk)), (h0, .inr (1, [.ref ar2, .ref an2, .ref ah2, .int (nI 1), .ref at_])), (ar2, .inl (cI, 8 * nl2, .inl rows2)), (an2, .inl (cI, nl2, .inl next2)), (ah2, .inl (cI, hc2, .inl heads2)), (at_, .inl (cI, 8, .inl tr2))]) rfl (by decide) (by decide) 1 rfl rfl rfl hl.1 rfl (Nat.le_of_ble_eq_true rfl) d_PT_clear_42 (fun v k3 z3 w1 H locs hv hW => ?_)
    obtain ⟨rfl, rfl, rfl, ix2, hix2, rfl⟩ := hv
    have hW : xW D A s.heap [(x0, .inr (0, [.ref h0, .ref t0])), (t0, .inr (2, [.ref h0, .ref ai, .ref ab, .int (nI 0), .ref am, .int (nI most)])), (ai, .inl (cI, 4352, .inl ix2)), (ab, .inl (cI, bl, .inl bk)), (am, .inl (cI, ml, .inl mk)), (h0, .inr (1, [.ref ar2, .ref an2, .ref ah2, .int (nI 1), .ref at_])), (ar2, .inl (cI, 8 * nl2, .inl rows2)), (an2, .inl (cI, nl2, .inl next2)), (ah2, .inl (cI, hc2, .inl heads2)), (at_, .inl (cI, 8, .inl tr2))] H locs := hW.sub [0, 8, 9, 1, 2, 3, 4, 5, 6, 7] (by decide) rfl
    refine W.eq (g2 := F0 m 45 ls []) rfl ?_
    refine lv_iload_n hx hb d_PT_clear_45 rfl (lv_at hl 1 rfl) ?_
    exact RET (w1 := wPT cI x0 t0 h0 ai ab am ar2 an2 ah2 at_ nl2 hc2 1 0 bl ml most rows2 next2 heads2 tr2 ix2 bk mk) hW ⟨cn, hcn, ab, am, ar2, an2, ah2, nl2, hc2, 1, 0, bl, ml, most, rows2, next2, heads2, tr2, ix2, bk, mk, rfl, by unfold PC; omega, by unfold PS; omega, XS_zero hR2 hz2 hix2 hTI.2.1 hm1 hm2 hml, rfl⟩ d_PT_clear_46
  · obtain ⟨rq, hrq, erq⟩ := hTI.pt (p := q) (by omega)
    refine lv_aload_n hx hb d_PT_clear_11 rfl (lv_at hl 0 rfl) ?_
    refine gf_PT_21 hM hW.1 0 rfl rfl d_PT_clear_12 ?_
    refine lv_iload_n hx hb d_PT_clear_15 rfl (lv_at hl 2 rfl) ?_
    refine x_callVP (rest := []) hM (c_record l D cI cL t0 ai ab bl used n q (.ref h0) (.int (nI used)) (.ref am) (.int (nI most)) ix bk hTI (by omega)) cb_Tri_record cv_PT_55 ⟨Nat.le_of_ble_eq_true rfl, Nat.le_of_ble_eq_true rfl⟩ ⟨Nat.le_of_ble_eq_true rfl, Nat.zero_le _⟩ hW.1 [1, 2, 3] rfl 1 rfl rfl rfl hl.1 rfl (Nat.le_of_ble_eq_true rfl) d_PT_clear_16 (fun v hv => ?_)
    rw [erq] at hv
    subst hv
    refine W.eq (g2 := F0 m 19 ls [.int (nI rq)]) rfl ?_
    have hgq := hG q (by omega)
    rw [erq, nI_clamp (by omega)] at hgq
    refine xn_ifeq (tgt := 25) hx hb (by omega) d_PT_clear_19 (by decide) (fun h0_ => ?_) (fun hn0_ => ?_)
    · refine lv_iinc (lv' := [(2, .int (nI (q + 1))), (0, .ref x0), (1, .int (nI cn))]) (v := nI (q + 1)) hx hb d_PT_clear_25 hl (k := 2) rfl (nI_inc q) (by decide) rfl (fun ls hl => ?_)
      refine lv_goto (tgt := 4) hx hb d_PT_clear_28 (by decide) ?_
      have hl : lv_has ls 3 [(0, .ref x0), (1, .int (nI cn)), (2, .int (nI (q + 1)))] := lv_sub hl [1, 2, 0] rfl
      exact ih (1024 - (q + 1)) (by omega) (q + 1) cn ls rfl (by omega) (Or.inl ⟨fun i hi => by rw [← hgq i hi, h0_, Nat.mul_zero, Nat.zero_add]; exact hz0 i hi, hcn⟩) hl
    · refine lv_iinc (lv' := [(1, .int (nI (cn + 1))), (0, .ref x0), (2, .int (nI q))]) (v := nI (cn + 1)) hx hb d_PT_clear_22 hl (k := 1) rfl (nI_inc cn) (by decide) rfl (fun ls hl => ?_)
      refine lv_iinc (lv' := [(2, .int (nI (q + 1))), (1, .int (nI (cn + 1))), (0, .ref x0)]) (v := nI (q + 1)) hx hb d_PT_clear_25 hl (k := 2) rfl (nI_inc q) (by decide) rfl (fun ls hl => ?_)
      refine lv_goto (tgt := 4) hx hb d_PT_clear_28 (by decide) ?_
      have hl : lv_has ls 3 [(0, .ref x0), (1, .int (nI (cn + 1))), (2, .int (nI (q + 1)))] := lv_sub hl [2, 1, 0] rfl
      refine ih (1024 - (q + 1)) (by omega) (q + 1) (cn + 1) ls rfl (by omega) (Or.inr ⟨fun hz => ?_, cn, rfl, hcn⟩) hl
      exact hRI.2.2.2.2.2 0 rq (by omega) hrq (fun i hi => by rw [Nat.mul_zero, Nat.zero_add, hz0 i hi, hgq i hi]; exact (hz i hi).symm)
abbrev rm_pinit : Room := { frames := 5, cells := 30000, slots := 200000, locals := 111 }
set_option maxHeartbeats 4000000 in
set_option maxRecDepth 100000 in
/-- new PropertyTrie -/
theorem c_pinit (l : Launch) (D : va_G) (cI cL : ClassId) (x0 : Nat) : CT l D cI cL y_PT_init (xws y_PT_init b_PT_init 1 none) rm_pinit [.ref x0] [(x0, .inr (0, [.null, .null]))] (fun v k z w1 => ∃ t0 h0 ai at_ : Nat, ∃ (ab2 am2 ar2 an2 ah2 nl2 hc2 n2 used2 bl2 ml2 most2 : Nat) (rows2 next2 heads2 tr2 ix2 bk2 mk2 : Nat → Int32), v = none ∧ 4096 * k ≤ 40960 + PC nl2 hc2 bl2 ml2 ∧ z ≤ 14000 + PS nl2 hc2 bl2 ml2 ∧ XS (fun _ _ => 0) rows2 next2 heads2 ix2 bk2 n2 nl2 hc2 used2 bl2 ml2 most2 ∧ w1 = (wPT cI x0 t0 h0 ai ab2 am2 ar2 an2 ah2 at_ nl2 hc2 n2 used2 bl2 ml2 most2 rows2 next2 heads2 tr2 ix2 bk2 mk2)) := by
  refine CT.ofV (own := R_PT) (cc := b_PT_init) (nL := 1) (by decide) rfl (Nat.le_of_ble_eq_true rfl) ?_
  intro p e s m args below meth c A Q ls hM hl hW hnm RET
  have hx := hM.1
  have hb := hM.2.1
  have hl : lv_has ls 1 [(0, .ref x0)] := hl
  refine lv_aload_n hx hb d_PT_init_0 rfl (lv_at hl 0 rfl) ?_
  refine oi_PT hM hl.1 d_PT_init_1 (Nat.le_of_ble_eq_true rfl) (Nat.le_of_ble_eq_true rfl) ?_
  refine lv_aload_n hx hb d_PT_init_4 rfl (lv_at hl 0 rfl) ?_
  refine nw_PT_7 hM hW (Nat.le_of_ble_eq_true rfl) (Nat.le_of_ble_eq_true rfl) d_PT_init_5 (fun h0 H locs hW => ?_)
  have hW : xW D A s.heap [(x0, .inr (0, [.null, .null])), (h0, .inr (1, [.null, .null, .null, .int 0, .null]))] H locs := hW
  refine lv_dup hx hb d_PT_init_8 rfl ?_
  refine x_callINT (rest := [.ref h0, .ref x0]) hM (c_rinit l D cI cL h0) cb_Rec_init cv_PT_9 ⟨Nat.le_of_ble_eq_true rfl, Nat.le_of_ble_eq_true rfl⟩ ⟨Nat.le_of_ble_eq_true rfl, Nat.le_of_ble_eq_true rfl⟩ hW [1] [0] (by decide) rfl (wr := [(x0, .inr (0, [.null, .null]))]) rfl (by decide) (by decide) rfl hl.1 rfl (Nat.le_of_ble_eq_true rfl) d_PT_init_9 (fun v k z w1 H locs hv hW => ?_)
  obtain ⟨rfl, rfl, rfl, ar, an, ah, at_, rfl⟩ := hv
  have hW : xW D A s.heap [(x0, .inr (0, [.null, .null])), (h0, .inr (1, [.ref ar, .ref an, .ref ah, .int 0, .ref at_])), (ar, .inl (cI, 8 * 64, .inl (fun _ => 0))), (an, .inl (cI, 64, .inl (fun _ => 0))), (ah, .inl (cI, 256, .inl (fun _ => 0))), (at_, .inl (cI, 8, .inl (fun _ => 0)))] H locs := hW.sub [0, 1, 2, 3, 4, 5] (by decide) rfl
  refine W.eq (g2 := F0 m 12 ls [.ref h0, .ref x0]) rfl ?_
  refine pf_PT_10 hM hW hnm 0 rfl (Nat.le_of_ble_eq_true rfl) d_PT_init_12 (fun H locs hW => ?_)
  have hW : xW D A s.heap [(x0, .inr (0, [.ref h0, .null])), (h0, .inr (1, [.ref ar, .ref an, .ref ah, .int 0, .ref at_])), (ar, .inl (cI, 8 * 64, .inl (fun _ => 0))), (an, .inl (cI, 64, .inl (fun _ => 0))), (ah, .inl (cI, 256, .inl (fun _ => 0))), (at_, .inl (cI, 8, .inl (fun _ => 0)))] H locs := hW
  refine lv_aload_n hx hb d_PT_init_15 rfl (lv_at hl 0 rfl) ?_
  refine nw_PT_16 hM hW (Nat.le_of_ble_eq_true rfl) (Nat.le_of_ble_eq_true rfl) d_PT_init_16 (fun t0 H locs hW => ?_)
  have hW : xW D A s.heap [(x0, .inr (0, [.ref h0, .null])), (h0, .inr (1, [.ref ar, .ref an, .ref ah, .int 0, .ref at_])), (ar, .inl (cI, 8 * 64, .inl (fun _ => 0))), (an, .inl (cI, 64, .inl (fun _ => 0))), (ah, .inl (cI, 256, .inl (fun _ => 0))), (at_, .inl (cI, 8, .inl (fun _ => 0))), (t0, .inr (2, [.null, .null, .null, .int 0, .null, .int 0]))] H locs := hW
  refine lv_dup hx hb d_PT_init_19 rfl ?_
  refine lv_aload_n hx hb d_PT_init_20 rfl (lv_at hl 0 rfl) ?_
  refine gf_PT_10 hM hW.1 0 rfl rfl d_PT_init_21 ?_
  refine x_callIT (rest := [.ref t0, .ref x0]) hM (c_tinit l D cI cL t0 h0) cb_Tri_init cv_PT_18 ⟨Nat.le_of_ble_eq_true rfl, Nat.le_of_ble_eq_true rfl⟩ ⟨Nat.le_of_ble_eq_true rfl, Nat.le_of_ble_eq_true rfl⟩ hW [6] [0, 1, 2, 3, 4, 5] (by decide) rfl (wr := [(x0, .inr (0, [.ref h0, .null])), (h0, .inr (1, [.ref ar, .ref an, .ref ah, .int 0, .ref at_])), (ar, .inl (cI, 8 * 64, .inl (fun _ => 0))), (an, .inl (cI, 64, .inl (fun _ => 0))), (ah, .inl (cI, 256, .inl (fun _ => 0))), (at_, .inl (cI, 8, .inl (fun _ => 0)))]) rfl (by decide) (by decide) rfl hl.1 rfl (Nat.le_of_ble_eq_true rfl) d_PT_init_24 (fun v k z w1 H locs hv hW => ?_)
  obtain ⟨rfl, rfl, rfl, ai, ab, am, rfl⟩ := hv
  have hW : xW D A s.heap [(x0, .inr (0, [.ref h0, .null])), (h0, .inr (1, [.ref ar, .ref an, .ref ah, .int 0, .ref at_])), (ar, .inl (cI, 8 * 64, .inl (fun _ => 0))), (an, .inl (cI, 64, .inl (fun _ => 0))), (ah, .inl (cI, 256, .inl (fun _ => 0))), (at_, .inl (cI, 8, .inl (fun _ => 0))), (t0, .inr (2, [.ref h0, .ref ai, .ref ab, .int 0, .ref am, .int (nI 4096)])), (ai, .inl (cI, 4352, .inl (fun _ => 0))), (ab, .inl (cI, 4096, .inl (fun _ => 0))), (am, .inl (cI, 4096, .inl (fun _ => 0)))] H locs := hW.sub [0, 1, 2, 3, 4, 5, 6, 7, 8, 9] (by decide) rfl
  refine W.eq (g2 := F0 m 27 ls [.ref t0, .ref x0]) rfl ?_
  refine pf_PT_21 hM hW hnm 0 rfl (Nat.le_of_ble_eq_true rfl) d_PT_init_27 (fun H locs hW => ?_)
  have hW : xW D A s.heap [(x0, .inr (0, [.ref h0, .ref t0])), (h0, .inr (1, [.ref ar, .ref an, .ref ah, .int 0, .ref at_])), (ar, .inl (cI, 8 * 64, .inl (fun _ => 0))), (an, .inl (cI, 64, .inl (fun _ => 0))), (ah, .inl (cI, 256, .inl (fun _ => 0))), (at_, .inl (cI, 8, .inl (fun _ => 0))), (t0, .inr (2, [.ref h0, .ref ai, .ref ab, .int 0, .ref am, .int (nI 4096)])), (ai, .inl (cI, 4352, .inl (fun _ => 0))), (ab, .inl (cI, 4096, .inl (fun _ => 0))), (am, .inl (cI, 4096, .inl (fun _ => 0)))] H locs := hW
  refine lv_aload_n hx hb d_PT_init_30 rfl (lv_at hl 0 rfl) ?_
  refine gf_PT_10 hM hW.1 0 rfl rfl d_PT_init_31 ?_
  refine x_callVT (rest := []) hM (c_rclear l D cI cL h0 ar an ah at_ 64 256 0 (fun _ => 0) (fun _ => 0) (fun _ => 0) (fun _ => 0) (Or.inl rfl) (Or.inl rfl)) cb_Rec_clear cv_PT_25 ⟨Nat.le_of_ble_eq_true rfl, Nat.le_of_ble_eq_true rfl⟩ ⟨Nat.le_of_ble_eq_true rfl, Nat.le_of_ble_eq_true rfl⟩ hW [1, 2, 3, 4, 5] [0, 6, 7, 8, 9] (by decide) rfl (wr := [(x0, .inr (0, [.ref h0, .ref t0])), (t0, .inr (2, [.ref h0, .ref ai, .ref ab, .int 0, .ref am, .int (nI 4096)])), (ai, .inl (cI, 4352, .inl (fun _ => 0))), (ab, .inl (cI, 4096, .inl (fun _ => 0))), (am, .inl (cI, 4096, .inl (fun _ => 0)))]) rfl (by decide) (by decide) 1 rfl rfl rfl hl.1 rfl (Nat.le_of_ble_eq_true rfl) d_PT_init_34 (fun v k1 z1 w1 H locs hv hW => ?_)
  obtain ⟨nl2, hc2, ar2, an2, ah2, rows2, next2, heads2, tr2, rfl, hk1, hk2, hR2, hz2, rfl⟩ := hv
  have hr1 := hR2.2.1.le
  have hr2 := hR2.2.2.1.le
  have hW : xW D A s.heap [(x0, .inr (0, [.ref h0, .ref t0])), (h0, .inr (1, [.ref ar2, .ref an2, .ref ah2, .int (nI 1), .ref at_])), (ar2, .inl (cI, 8 * nl2, .inl rows2)), (an2, .inl (cI, nl2, .inl next2)), (ah2, .inl (cI, hc2, .inl heads2)), (at_, .inl (cI, 8, .inl tr2)), (t0, .inr (2, [.ref h0, .ref ai, .ref ab, .int 0, .ref am, .int (nI 4096)])), (ai, .inl (cI, 4352, .inl (fun _ => 0))), (ab, .inl (cI, 4096, .inl (fun _ => 0))), (am, .inl (cI, 4096, .inl (fun _ => 0)))] H locs := hW.sub [0, 5, 6, 7, 8, 9, 1, 2, 3, 4] (by decide) rfl
  refine W.eq (g2 := F0 m 37 ls []) rfl ?_
  refine lv_aload_n hx hb d_PT_init_37 rfl (lv_at hl 0 rfl) ?_
  refine gf_PT_21 hM hW.1 0 rfl rfl d_PT_init_38 ?_
  refine x_callVT (rest := []) hM (c_tclear l D cI cL t0 ai 0 (.ref h0) (.ref ab) (.ref am) (.int (nI 4096)) (fun _ => 0)) cb_Tri_clear cv_PT_28 ⟨Nat.le_of_ble_eq_true rfl, Nat.le_of_ble_eq_true rfl⟩ ⟨by show 0 + 1 + 4 + 1 + 3 + k1 + 0 ≤ 30000; omega, by show 0 + 5 + 840 + 6 + 12544 + z1 + 0 ≤ 200000; omega⟩ hW [6, 7] [0, 1, 2, 3, 4, 5, 8, 9] (by decide) rfl (wr := [(x0, .inr (0, [.ref h0, .ref t0])), (h0, .inr (1, [.ref ar2, .ref an2, .ref ah2, .int (nI 1), .ref at_])), (ar2, .inl (cI, 8 * nl2, .inl rows2)), (an2, .inl (cI, nl2, .inl next2)), (ah2, .inl (cI, hc2, .inl heads2)), (at_, .inl (cI, 8, .inl tr2)), (ab, .inl (cI, 4096, .inl (fun _ => 0))), (am, .inl (cI, 4096, .inl (fun _ => 0)))]) rfl (by decide) (by decide) 6 rfl rfl rfl hl.1 rfl (Nat.le_of_ble_eq_true rfl) d_PT_init_41 (fun v k3 z3 w1 H locs hv hW => ?_)
  obtain ⟨rfl, rfl, rfl, ix2, hix2, rfl⟩ := hv
  have hW : xW D A s.heap [(x0, .inr (0, [.ref h0, .ref t0])), (h0, .inr (1, [.ref ar2, .ref an2, .ref ah2, .int (nI 1), .ref at_])), (ar2, .inl (cI, 8 * nl2, .inl rows2)), (an2, .inl (cI, nl2, .inl next2)), (ah2, .inl (cI, hc2, .inl heads2)), (at_, .inl (cI, 8, .inl tr2)), (t0, .inr (2, [.ref h0, .ref ai, .ref ab, .int (nI 0), .ref am, .int (nI 4096)])), (ai, .inl (cI, 4352, .inl ix2)), (ab, .inl (cI, 4096, .inl (fun _ => 0))), (am, .inl (cI, 4096, .inl (fun _ => 0)))] H locs := hW.sub [0, 1, 2, 3, 4, 5, 8, 9, 6, 7] (by decide) rfl
  refine W.eq (g2 := F0 m 44 ls []) rfl ?_
  have hW : xW D A s.heap [(x0, .inr (0, [.ref h0, .ref t0])), (t0, .inr (2, [.ref h0, .ref ai, .ref ab, .int (nI 0), .ref am, .int (nI 4096)])), (ai, .inl (cI, 4352, .inl ix2)), (ab, .inl (cI, 4096, .inl (fun _ => 0))), (am, .inl (cI, 4096, .inl (fun _ => 0))), (h0, .inr (1, [.ref ar2, .ref an2, .ref ah2, .int (nI 1), .ref at_])), (ar2, .inl (cI, 8 * nl2, .inl rows2)), (an2, .inl (cI, nl2, .inl next2)), (ah2, .inl (cI, hc2, .inl heads2)), (at_, .inl (cI, 8, .inl tr2))] H locs := hW.sub [0, 6, 7, 8, 9, 1, 2, 3, 4, 5] (by decide) rfl
  exact RET (w1 := wPT cI x0 t0 h0 ai ab am ar2 an2 ah2 at_ nl2 hc2 1 0 4096 4096 4096 rows2 next2 heads2 tr2 ix2 (fun _ => 0) (fun _ => 0)) hW ⟨t0, h0, ai, at_, ab, am, ar2, an2, ah2, nl2, hc2, 1, 0, 4096, 4096, 4096, rows2, next2, heads2, tr2, ix2, (fun _ => 0), (fun _ => 0), rfl, by unfold PC; omega, by unfold PS; omega, XS_zero hR2 hz2 hix2 (Or.inl rfl) (by decide) (by decide) (Or.inl rfl), rfl⟩ d_PT_init_44
end
section
/-! THE MODEL, plain: stretches of points -/
theorem nI_dec1 {k : Nat} (h : 0 < k) : nI k + Int32.ofInt (-1) = nI (k - 1) := by
  obtain ⟨j, rfl⟩ : ∃ j, k = j + 1 := ⟨k - 1, by omega⟩
  rw [Nat.add_sub_cancel]; exact nI_dec j
def ML (st : Nat → Int32) (sN : Nat → Nat) (cnt : Nat) : Prop := 0 < cnt ∧ sN 0 = 0 ∧ (∀ k, k < cnt → st k = nI (sN k) ∧ sN k < 1114112) ∧ ∀ j k, j < k → k < cnt → sN j < sN k
/-- k is the stretch of point q -/
def AtP (sN : Nat → Nat) (cnt q k : Nat) : Prop := k < cnt ∧ sN k ≤ q ∧ ∀ j, k < j → j < cnt → q < sN j
/-- the stretches hold the map g -/
def MI (g : Nat → Nat → Int32) (st fs : Nat → Int32) (sN : Nat → Nat) (cnt : Nat) : Prop := ML st sN cnt ∧ ∀ q, q < 1114112 → ∀ k, AtP sN cnt q k → ∀ i, i < 8 → fs (8 * k + i) = g q i
theorem AtP.ex {st : Nat → Int32} {sN : Nat → Nat} {cnt : Nat} (h : ML st sN cnt) (q : Nat) : ∃ k, AtP sN cnt q k := by
  have : ∀ c, 0 < c → ∃ k, k < c ∧ sN k ≤ q ∧ ∀ j, k < j → j < c → q < sN j := by
    intro c
    induction c with
    | zero => intro h; omega
    | succ c ih =>
      intro _
      by_cases hc : sN c ≤ q
      · exact ⟨c, by omega, hc, fun j h1 h2 => absurd h2 (by omega)⟩
      · rcases Nat.eq_zero_or_pos c with e | e
        · exact absurd (by rw [e, h.2.1]; exact Nat.zero_le _) hc
        · obtain ⟨k, h1, h2, h3⟩ := ih e
          refine ⟨k, by omega, h2, fun j h4 h5 => ?_⟩
          by_cases ej : j = c
          · rw [ej]; omega
          · exact h3 j h4 (by omega)
  exact this cnt h.1
theorem AtP.one {sN : Nat → Nat} {cnt q k k' : Nat} (h : AtP sN cnt q k) (h' : AtP sN cnt q k') : k = k' := by
  rcases Nat.lt_trichotomy k k' with e | e | e
  · have := h.2.2 k' e h'.1; have := h'.2.1; omega
  · exact e
  · have := h'.2.2 k e h.1; have := h.2.1; omega
theorem MI.cov {g : Nat → Nat → Int32} {st fs : Nat → Int32} {sN : Nat → Nat} {cnt : Nat} (h : MI g st fs sN cnt) : Cov g ((List.range cnt).map (fun k i => fs (8 * k + i))) := fun q hq => by
  obtain ⟨k, hk⟩ := AtP.ex h.1 q
  exact ⟨_, List.mem_map_of_mem (List.mem_range.mpr hk.1), fun i hi => (h.2 q hq k hk i hi).symm⟩
theorem MI.cut {g : Nat → Nat → Int32} {st fs st2 fs2 : Nat → Int32} {sN : Nat → Nat} {cnt q k : Nat} (h : MI g st fs sN cnt) (hq : q < 1114112) (hk : AtP sN cnt q k) (hne : sN k ≠ q) (h1 : ∀ x, x ≤ k → st2 x = st x) (h2 : st2 (k + 1) = nI q) (h3 : ∀ x, k + 1 < x → x ≤ cnt → st2 x = st (x - 1)) (h4 : ∀ x, x ≤ k → ∀ i, i < 8 → fs2 (8 * x + i) = fs (8 * x + i)) (h5 : ∀ x, k < x → x ≤ cnt → ∀ i, i < 8 → fs2 (8 * x + i) = fs (8 * (x - 1) + i)) : MI g st2 fs2 (fun x => if x ≤ k then sN x else if x = k + 1 then q else sN (x - 1)) (cnt + 1) := by
  obtain ⟨⟨l1, l2, l3, l4⟩, hg⟩ := h
  obtain ⟨k1, k2, k3⟩ := hk
  refine ⟨⟨by omega, ?_, fun x hx => ?_, fun j x hjx hx => ?_⟩, fun y hy x hx i hi => ?_⟩
  · simp only [Nat.zero_le, if_true]; exact l2
  · by_cases e1 : x ≤ k
    · simp only [if_pos e1]
      rw [h1 x e1]; exact l3 x (by omega)
    · by_cases e2 : x = k + 1
      · simp only [if_neg e1, if_pos e2]
        rw [e2]; exact ⟨h2, hq⟩
      · simp only [if_neg e1, if_neg e2]
        rw [h3 x (by omega) (by omega)]; exact l3 (x - 1) (by omega)
  · by_cases e1 : x ≤ k
    · simp only [if_pos e1, if_pos (show j ≤ k by omega)]
      exact l4 j x hjx (by omega)
    · by_cases e2 : x = k + 1
      · simp only [if_neg e1, if_pos e2]
        simp only [if_pos (show j ≤ k by omega)]
        by_cases e3 : j = k
        · rw [e3]; omega
        · have := l4 j k (by omega) k1; omega
      · simp only [if_neg e1, if_neg e2]
        by_cases e3 : j ≤ k
        · simp only [if_pos e3]
          exact l4 j (x - 1) (by omega) (by omega)
        · by_cases e4 : j = k + 1
          · simp only [if_neg e3, if_pos e4]
            exact k3 (x - 1) (by omega) (by omega)
          · simp only [if_neg e3, if_neg e4]
            exact l4 (j - 1) (x - 1) (by omega) (by omega)
  · obtain ⟨x1, x2, x3⟩ := hx
    have up : ∀ j, k < j → j < cnt → x < j + 1 → y < sN j := fun j hj1 hj2 hj3 => by
      have := x3 (j + 1) hj3 (by omega)
      simp only [if_neg (show ¬ j + 1 ≤ k by omega), if_neg (show ¬ j + 1 = k + 1 by omega), Nat.add_sub_cancel] at this
      exact this
    by_cases e1 : x ≤ k
    · simp only [if_pos e1] at x2
      rw [h4 x e1 i hi]
      refine hg y hy x ⟨by omega, x2, fun j hj1 hj2 => ?_⟩ i hi
      by_cases e2 : j ≤ k
      · have := x3 j hj1 (by omega)
        simp only [if_pos e2] at this
        exact this
      · exact up j (by omega) hj2 (by omega)
    · rw [h5 x (by omega) (by omega) i hi]
      by_cases e2 : x = k + 1
      · simp only [if_neg e1, if_pos e2] at x2
        rw [e2, Nat.add_sub_cancel]
        exact hg y hy k ⟨k1, by omega, fun j hj1 hj2 => up j hj1 hj2 (by omega)⟩ i hi
      · simp only [if_neg e1, if_neg e2] at x2
        exact hg y hy (x - 1) ⟨by omega, x2, fun j hj1 hj2 => up j (by omega) hj2 (by omega)⟩ i hi
/-- the points from pa to pb changed, where pa and pb + 1 are ends of stretches -/
theorem MI.mark {g : Nat → Nat → Int32} {st fs fs2 : Nat → Int32} {sN : Nat → Nat} {cnt pa pb k1 k2 fd : Nat} {x kp : Int32} (h : MI g st fs sN cnt) (hf : fd < 8) (h1 : k1 < cnt) (e1 : sN k1 = pa) (h2 : pb + 1 = 1114112 ∨ ∃ k, k < cnt ∧ sN k = pb + 1) (h3 : ∀ y, k1 ≤ y → y < k2 → sN y ≤ pb) (h12 : k1 ≤ k2) (h4 : k2 = cnt ∨ (k2 < cnt ∧ pb < sN k2)) (h5 : ∀ y, k1 ≤ y → y < k2 → ∀ i, i < 8 → fs2 (8 * y + i) = chg fd x kp (fun i => fs (8 * y + i)) i) (h6 : ∀ y, y < k1 ∨ k2 ≤ y → ∀ i, i < 8 → fs2 (8 * y + i) = fs (8 * y + i)) : MI (gset g pa (pb + 1) fd x kp) st fs2 sN cnt := by
  obtain ⟨hL, hg⟩ := h
  have l4 := hL.2.2.2
  refine ⟨hL, fun q hq y hy i hi => ?_⟩
  obtain ⟨y1, y2, y3⟩ := id hy
  unfold gset
  by_cases c1 : k1 ≤ y ∧ y < k2
  · have hpa : pa ≤ q := by
      by_cases e : k1 = y
      · subst e; omega
      · have := l4 k1 y (by omega) y1; omega
    have hpb : q < pb + 1 := by
      rcases h2 with e | ⟨k, hk, ek⟩
      · omega
      · have hs := h3 y c1.1 c1.2
        have hyk : y < k := by
          rcases Nat.lt_trichotomy y k with e | e | e
          · exact e
          · subst e; omega
          · have := l4 k y e y1; omega
        have := y3 k hyk hk
        omega
    rw [if_pos ⟨hpa, hpb⟩, h5 y c1.1 c1.2 i hi]
    exact chg_congr hf (fun i hi => hg q hq y hy i hi) i hi
  · rw [h6 y (by omega) i hi, hg q hq y hy i hi]
    by_cases e : y < k1
    · have := y3 k1 e h1
      rw [if_neg (by omega)]
    · rcases h4 with e4 | ⟨e4, e5⟩
      · omega
      · have : pb < q := by
          by_cases e6 : y = k2
          · subst e6; omega
          · have := l4 k2 y (by omega) y1; omega
        rw [if_neg (by omega)]
def okP (z : Int32) : Prop := ∃ q, q < 1114112 ∧ z = nI q
def okF (z : Int32) : Prop := ∃ f, f < 8 ∧ z = nI f
def okM (z1 z2 z3 : Int32) : Prop := ∃ pa pb fd, z1 = nI pa ∧ z2 = nI pb ∧ z3 = nI fd ∧ pa ≤ pb ∧ pb < 1114112 ∧ fd < 8
theorem okP_of {z : Int32} (h : ¬ z < 0) (h2 : z ≤ nI 1114111) : okP z := by
  obtain ⟨j, hj, e⟩ := nI_of2 (n := 1114111) (M := nI 1114111) (by decide) h h2
  exact ⟨j, by omega, e⟩
theorem okF_of {z : Int32} (h : ¬ z < 0) (h2 : z ≤ nI 7) : okF z := by
  obtain ⟨j, hj, e⟩ := nI_of2 (n := 7) (M := nI 7) (by decide) h h2
  exact ⟨j, by omega, e⟩
theorem okP.lo {z : Int32} (h : okP z) : ¬ z < 0 := by obtain ⟨q, hq, rfl⟩ := h; exact nI_pos (by omega)
theorem okP.hi {z : Int32} (h : okP z) : z ≤ nI 1114111 := by obtain ⟨q, hq, rfl⟩ := h; exact nI_le (by omega) (by decide)
theorem okF.lo {z : Int32} (h : okF z) : ¬ z < 0 := by obtain ⟨q, hq, rfl⟩ := h; exact nI_pos (by omega)
theorem okF.hi {z : Int32} (h : okF z) : z ≤ nI 7 := by obtain ⟨q, hq, rfl⟩ := h; exact nI_le (by omega) (by decide)
end
section
/-- all the cells of the model -/
abbrev wMod (cI : ClassId) (m0 as_ af : Nat) (fl : Value) (cnt : Nat) (st fs : Nat → Int32) : va_W := [(m0, .inr (3, [fl, .int (nI cnt), .ref as_, .ref af])), (as_, .inl (cI, 9000, .inl st)), (af, .inl (cI, 72000, .inl fs))]
abbrev rm_minit : Room := { frames := 1, cells := 2, slots := 81000, locals := 12 }
set_option maxHeartbeats 4000000 in
set_option maxRecDepth 100000 in
/-- new PropertyTrieModel -/
theorem c_minit (l : Launch) (D : va_G) (cI cL : ClassId) (m0 : Nat) : CT l D cI cL y_Mod_init (xws y_Mod_init b_Mod_init 1 none) rm_minit [.ref m0] [(m0, .inr (3, [.int 0, .int 0, .null, .null]))] (fun v k z w1 => v = none ∧ k = 2 ∧ z = 81000 ∧ ∃ as_ af : Nat, w1 = wMod cI m0 as_ af (.int 0) 1 (fun _ => 0) (fun _ => 0)) := by
  refine CT.ofV (own := R_Mod) (cc := b_Mod_init) (nL := 1) (by decide) rfl (Nat.le_of_ble_eq_true rfl) ?_
  intro p e s m args below meth c A Q ls hM hl hW hnm RET
  have hx := hM.1
  have hb := hM.2.1
  have hl : lv_has ls 1 [(0, .ref m0)] := hl
  refine lv_aload_n hx hb d_Mod_init_0 rfl (lv_at hl 0 rfl) ?_
  refine oi_Mod hM hl.1 d_Mod_init_1 (Nat.le_of_ble_eq_true rfl) (Nat.le_of_ble_eq_true rfl) ?_
  refine lv_aload_n hx hb d_Mod_init_4 rfl (lv_at hl 0 rfl) ?_
  refine lv_iconst (v := nI 1) hx hb d_Mod_init_5 (by decide) ?_
  refine pf_Mod_7 hM hW 0 rfl (Nat.le_of_ble_eq_true rfl) d_Mod_init_6 (fun H locs hW => ?_)
  have hW : xW D A s.heap [(m0, .inr (3, [.int 0, .int (nI 1), .null, .null]))] H locs := hW
  refine lv_aload_n hx hb d_Mod_init_9 rfl (lv_at hl 0 rfl) ?_
  refine lv_sipush (v := nI 9000) hx hb d_Mod_init_10 (by decide) ?_
  refine xn_newI hM hW (by decide) (Nat.le_of_ble_eq_true rfl) (Nat.le_of_ble_eq_true rfl) d_Mod_init_13 (fun as_ H locs hW => ?_)
  have hW : xW D A s.heap [(m0, .inr (3, [.int 0, .int (nI 1), .null, .null])), (as_, .inl (cI, 9000, .inl (fun _ => 0)))] H locs := hW
  refine pf_Mod_13 hM hW hnm 0 rfl (Nat.le_of_ble_eq_true rfl) d_Mod_init_15 (fun H locs hW => ?_)
  have hW : xW D A s.heap [(m0, .inr (3, [.int 0, .int (nI 1), .ref as_, .null])), (as_, .inl (cI, 9000, .inl (fun _ => 0)))] H locs := hW
  refine lv_aload_n hx hb d_Mod_init_18 rfl (lv_at hl 0 rfl) ?_
  refine ld_Mod_17 hM d_Mod_init_19 ?_
  refine xn_newI hM hW (by decide) (Nat.le_of_ble_eq_true rfl) (Nat.le_of_ble_eq_true rfl) d_Mod_init_21 (fun af H locs hW => ?_)
  have hW : xW D A s.heap [(m0, .inr (3, [.int 0, .int (nI 1), .ref as_, .null])), (as_, .inl (cI, 9000, .inl (fun _ => 0))), (af, .inl (cI, 72000, .inl (fun _ => 0)))] H locs := hW
  refine pf_Mod_18 hM hW hnm 0 rfl (Nat.le_of_ble_eq_true rfl) d_Mod_init_23 (fun H locs hW => ?_)
  have hW : xW D A s.heap [(m0, .inr (3, [.int 0, .int (nI 1), .ref as_, .ref af])), (as_, .inl (cI, 9000, .inl (fun _ => 0))), (af, .inl (cI, 72000, .inl (fun _ => 0)))] H locs := hW
  exact RET hW ⟨rfl, rfl, rfl, as_, af, rfl⟩ d_Mod_init_26
set_option maxHeartbeats 4000000 in
set_option maxRecDepth 100000 in
theorem c_thrown (l : Launch) (D : va_G) (cI cL : ClassId) (m0 : Nat) (z : Int32) (v1 v2 v3 : Value) : CP l D cI cL y_Mod_thrown (xws y_Mod_thrown b_Mod_thrown 1 (some .int)) rm_0 [.ref m0] [(m0, .inr (3, [.int z, v1, v2, v3]))] (fun v => v = some (.int z)) := by
  refine CP.ofI (own := R_Mod) (cc := b_Mod_thrown) (nL := 1) (by decide) rfl (Nat.le_of_ble_eq_true rfl) ?_
  intro p e s m args below meth c Q ls hM hl hP RET
  have hx := hM.1
  have hb := hM.2.1
  have hl : lv_has ls 1 [(0, .ref m0)] := hl
  refine lv_aload_n hx hb d_Mod_thrown_0 rfl (lv_at hl 0 rfl) ?_
  refine gf_Mod_21 hM hP 0 rfl rfl d_Mod_thrown_1 ?_
  exact RET rfl d_Mod_thrown_4
set_option maxHeartbeats 4000000 in
set_option maxRecDepth 100000 in
theorem c_fail (l : Launch) (D : va_G) (cI cL : ClassId) (m0 : Nat) (zf : Int32) (v0 v1 v2 v3 : Value) : CT l D cI cL y_Mod_fail (xws y_Mod_fail b_Mod_fail 2 (some .int)) rm_0 [.ref m0, .int zf] [(m0, .inr (3, [v0, v1, v2, v3]))] (fun v k z w1 => v = some (.int (nI 0)) ∧ k = 0 ∧ z = 0 ∧ w1 = [(m0, .inr (3, [.int zf, v1, v2, v3]))]) := by
  refine CT.ofI (own := R_Mod) (cc := b_Mod_fail) (nL := 2) (by decide) rfl (Nat.le_of_ble_eq_true rfl) ?_
  intro p e s m args below meth c A Q ls hM hl hW hnm RET
  have hx := hM.1
  have hb := hM.2.1
  have hl : lv_has ls 2 [(0, .ref m0), (1, .int zf)] := hl
  refine lv_aload_n hx hb d_Mod_fail_0 rfl (lv_at hl 0 rfl) ?_
  refine lv_iload_n hx hb d_Mod_fail_1 rfl (lv_at hl 1 rfl) ?_
  refine pf_Mod_21 hM hW 0 rfl (Nat.le_of_ble_eq_true rfl) d_Mod_fail_2 (fun H locs hW => ?_)
  have hW : xW D A s.heap [(m0, .inr (3, [.int zf, v1, v2, v3]))] H locs := hW
  refine lv_iconst (v := nI 0) hx hb d_Mod_fail_5 (by decide) ?_
  exact RET hW ⟨rfl, rfl, rfl, rfl⟩ d_Mod_fail_6
set_option maxHeartbeats 4000000 in
set_option maxRecDepth 100000 in
theorem c_out (l : Launch) (D : va_G) (cI cL : ClassId) (m0 : Nat) (z : Int32) : CP l D cI cL y_Mod_out (xws y_Mod_out b_Mod_out 2 (some .boolean)) rm_0 [.ref m0, .int z] [] (fun v => ∃ b : Nat, v = some (.int (nI b)) ∧ b ≤ 1 ∧ (b = 0 ↔ okP z)) := by
  refine CP.ofZ (own := R_Mod) (cc := b_Mod_out) (nL := 2) (by decide) rfl (Nat.le_of_ble_eq_true rfl) ?_
  intro p e s m args below meth c Q ls hM hl hP RET
  have hx := hM.1
  have hb := hM.2.1
  have hl : lv_has ls 2 [(0, .ref m0), (1, .int z)] := hl
  refine lv_iload_n hx hb d_Mod_out_0 rfl (lv_at hl 1 rfl) ?_
  refine lv_if_lt (tgt := 10) hx hb d_Mod_out_1 (by decide) (fun hlt => ?_) (fun hge => ?_)
  · refine lv_iconst (v := nI 1) hx hb d_Mod_out_10 (by decide) ?_
    refine lv_goto (tgt := 15) hx hb d_Mod_out_11 (by decide) ?_
    exact RET ⟨1, rfl, by decide, fun h => absurd h (by decide), fun h => absurd hlt h.lo⟩ (Or.inr (by decide)) d_Mod_out_15
  · refine lv_iload_n hx hb d_Mod_out_4 rfl (lv_at hl 1 rfl) ?_
    refine ld_Mod_24 hM d_Mod_out_5 ?_
    refine lv_icmp_le (tgt := 14) hx hb d_Mod_out_7 (by decide) (fun hle => ?_) (fun hgt => ?_)
    · refine lv_iconst (v := nI 0) hx hb d_Mod_out_14 (by decide) ?_
      exact RET ⟨0, rfl, by decide, fun _ => okP_of hge hle, fun _ => rfl⟩ (Or.inl (by decide)) d_Mod_out_15
    · refine lv_iconst (v := nI 1) hx hb d_Mod_out_10 (by decide) ?_
      refine lv_goto (tgt := 15) hx hb d_Mod_out_11 (by decide) ?_
      exact RET ⟨1, rfl, by decide, fun h => absurd h (by decide), fun h => absurd h.hi hgt⟩ (Or.inr (by decide)) d_Mod_out_15
set_option maxHeartbeats 4000000 in
set_option maxRecDepth 100000 in
/-- at(p): the stretch of a point -/
theorem c_at (l : Launch) (D : va_G) (cI cL : ClassId) (m0 as_ cnt pt : Nat) (v0 v3 : Value) (st : Nat → Int32) (sN : Nat → Nat) (hL : ML st sN cnt) (hc : cnt ≤ 9000) (hp : pt < 1114112) : CP l D cI cL y_Mod_at (xws y_Mod_at b_Mod_at 5 (some .int)) rm_0 [.ref m0, .int (nI pt)] [(m0, .inr (3, [v0, .int (nI cnt), .ref as_, v3])), (as_, .inl (cI, 9000, .inl st))] (fun v => ∃ k, v = some (.int (nI k)) ∧ AtP sN cnt pt k) := by
  refine CP.ofI (own := R_Mod) (cc := b_Mod_at) (nL := 5) (by decide) rfl (Nat.le_of_ble_eq_true rfl) ?_
  intro p e s m args below meth c Q ls hM hl hP RET
  have hx := hM.1
  have hb := hM.2.1
  have hl : lv_has ls 5 [(0, .ref m0), (1, .int (nI pt))] := hl
  obtain ⟨l1, l2, l3, l4⟩ := hL
  refine lv_iconst (v := nI 0) hx hb d_Mod_at_0 (by decide) ?_
  refine lv_istore_n (lv' := [(2, .int (nI 0)), (0, .ref m0), (1, .int (nI pt))]) hx hb d_Mod_at_1 rfl hl (by decide) rfl (fun ls hl => ?_)
  refine lv_aload_n hx hb d_Mod_at_2 rfl (lv_at hl 1 rfl) ?_
  refine gf_Mod_7 hM hP 0 rfl rfl d_Mod_at_3 ?_
  refine lv_iconst (v := nI 1) hx hb d_Mod_at_6 (by decide) ?_
  refine xn_isub hx hb (by omega) d_Mod_at_7 ?_
  refine lv_istore_n (lv' := [(3, .int (nI (cnt - 1))), (2, .int (nI 0)), (0, .ref m0), (1, .int (nI pt))]) hx hb d_Mod_at_8 rfl hl (by decide) rfl (fun ls hl => ?_)
  have hl : lv_has ls 5 [(0, .ref m0), (1, .int (nI pt)), (2, .int (nI 0)), (3, .int (nI (cnt - 1)))] := lv_sub hl [2, 3, 1, 0] rfl
  suffices loop : ∀ (k lo hi : Nat) (ls : Array Slot), hi - lo = k → lo ≤ hi → hi < cnt → sN lo ≤ pt → (∀ j, hi < j → j < cnt → pt < sN j) → lv_has ls 5 [(0, .ref m0), (1, .int (nI pt)), (2, .int (nI lo)), (3, .int (nI hi))] → W p l e rm_0 s m args below meth c s.heap [] 0 0 Q (F0 m 9 ls []) from
    loop _ 0 (cnt - 1) ls rfl (by omega) (by omega) (by omega) (fun j h1 h2 => absurd h2 (by omega)) hl
  intro k
  induction k using Nat.strongRecOn with | ind k ih => ?_
  intro lo hi ls hk h1 h2 h3 h4 hl
  refine lv_iload_n hx hb d_Mod_at_9 rfl (lv_at hl 2 rfl) ?_
  refine lv_iload_n hx hb d_Mod_at_10 rfl (lv_at hl 3 rfl) ?_
  refine xn_ge (tgt := 48) hx hb (by omega) (by omega) d_Mod_at_11 (by decide) (fun hge => ?_) (fun hlt => ?_)
  · refine lv_iload_n hx hb d_Mod_at_48 rfl (lv_at hl 2 rfl) ?_
    exact RET ⟨lo, rfl, by omega, h3, fun j hj1 hj2 => h4 j (by omega) hj2⟩ d_Mod_at_49
  · have hmd := l3 ((lo + hi + 1) / 2) (by omega)
    have hmd2 := hmd.2
    refine lv_iload_n hx hb d_Mod_at_14 rfl (lv_at hl 2 rfl) ?_
    refine lv_iload_n hx hb d_Mod_at_15 rfl (lv_at hl 3 rfl) ?_
    refine xn_iadd hx hb d_Mod_at_16 ?_
    refine lv_iconst (v := nI 1) hx hb d_Mod_at_17 (by decide) ?_
    refine xn_iadd hx hb d_Mod_at_18 ?_
    refine lv_iconst (v := nI 2) hx hb d_Mod_at_19 (by decide) ?_
    refine xn_idiv hx hb (by omega) (by omega) (by omega) d_Mod_at_20 ?_
    refine lv_istore (lv' := [(4, .int (nI (((lo + hi) + 1) / 2))), (0, .ref m0), (1, .int (nI pt)), (2, .int (nI lo)), (3, .int (nI hi))]) hx hb d_Mod_at_21 hl (by decide) rfl (fun ls hl => ?_)
    refine lv_aload_n hx hb d_Mod_at_23 rfl (lv_at hl 1 rfl) ?_
    refine gf_Mod_13 hM hP 0 rfl rfl d_Mod_at_24 ?_
    refine lv_iload hx hb d_Mod_at_27 (lv_at hl 0 rfl) ?_
    refine xn_iald hM hP 1 rfl (by omega) (by omega) d_Mod_at_29 ?_
    refine xn_top (show st (((lo + hi) + 1) / 2) = nI (sN ((lo + hi + 1) / 2)) from hmd.1) ?_
    refine lv_iload_n hx hb d_Mod_at_30 rfl (lv_at hl 2 rfl) ?_
    refine xn_gt (tgt := 40) hx hb (by omega) (by omega) d_Mod_at_31 (by decide) (fun hgt2 => ?_) (fun hle2 => ?_)
    · refine lv_iload hx hb d_Mod_at_40 (lv_at hl 0 rfl) ?_
      refine lv_iconst (v := nI 1) hx hb d_Mod_at_42 (by decide) ?_
      refine xn_isub hx hb (by omega) d_Mod_at_43 ?_
      refine lv_istore_n (lv' := [(3, .int (nI ((((lo + hi) + 1) / 2) - 1))), (4, .int (nI (((lo + hi) + 1) / 2))), (0, .ref m0), (1, .int (nI pt)), (2, .int (nI lo))]) hx hb d_Mod_at_44 rfl hl (by decide) rfl (fun ls hl => ?_)
      refine lv_goto (tgt := 9) hx hb d_Mod_at_45 (by decide) ?_
      have hl : lv_has ls 5 [(0, .ref m0), (1, .int (nI pt)), (2, .int (nI lo)), (3, .int (nI ((((lo + hi) + 1) / 2) - 1)))] := lv_sub hl [2, 3, 4, 0] rfl
      refine ih ((lo + hi + 1) / 2 - 1 - lo) (by omega) lo ((lo + hi + 1) / 2 - 1) ls rfl (by omega) (by omega) h3 (fun j hj1 hj2 => ?_) hl
      by_cases e1 : j = (lo + hi + 1) / 2
      · rw [e1]; exact hgt2
      · exact Nat.lt_trans hgt2 (l4 _ j (by omega) hj2)
    · refine lv_iload hx hb d_Mod_at_34 (lv_at hl 0 rfl) ?_
      refine lv_istore_n (lv' := [(2, .int (nI (((lo + hi) + 1) / 2))), (4, .int (nI (((lo + hi) + 1) / 2))), (0, .ref m0), (1, .int (nI pt)), (3, .int (nI hi))]) hx hb d_Mod_at_36 rfl hl (by decide) rfl (fun ls hl => ?_)
      refine lv_goto (tgt := 45) hx hb d_Mod_at_37 (by decide) ?_
      refine lv_goto (tgt := 9) hx hb d_Mod_at_45 (by decide) ?_
      have hl : lv_has ls 5 [(0, .ref m0), (1, .int (nI pt)), (2, .int (nI (((lo + hi) + 1) / 2))), (3, .int (nI hi))] := lv_sub hl [2, 3, 0, 4] rfl
      exact ih (hi - (lo + hi + 1) / 2) (by omega) ((lo + hi + 1) / 2) hi ls rfl (by omega) h2 hle2 h4 hl
abbrev rm_cut : Room := { frames := 1, cells := 0, slots := 0, locals := 24 }
set_option maxHeartbeats 4000000 in
set_option maxRecDepth 100000 in
/-- cut(p): a stretch begins at a point -/
theorem c_cut (l : Launch) (D : va_G) (cI cL : ClassId) (m0 as_ af cnt pt : Nat) (fl : Value) (st fs : Nat → Int32) (sN : Nat → Nat) (g : Nat → Nat → Int32) (hI : MI g st fs sN cnt) (hc : cnt < 9000) (hp : pt ≤ 1114112) : CT l D cI cL y_Mod_cut (xws y_Mod_cut b_Mod_cut 5 none) rm_cut [.ref m0, .int (nI pt)] (wMod cI m0 as_ af fl cnt st fs) (fun v k z w1 => ∃ (cnt2 : Nat) (st2 fs2 : Nat → Int32) (sN2 : Nat → Nat), v = none ∧ k = 0 ∧ z = 0 ∧ MI g st2 fs2 sN2 cnt2 ∧ cnt2 ≤ cnt + 1 ∧ (pt = 1114112 ∨ ∃ k, k < cnt2 ∧ sN2 k = pt) ∧ (∀ k, k < cnt → ∃ k2, k2 < cnt2 ∧ sN2 k2 = sN k) ∧ w1 = wMod cI m0 as_ af fl cnt2 st2 fs2) := by
  refine CT.ofV (own := R_Mod) (cc := b_Mod_cut) (nL := 5) (by decide) rfl (Nat.le_of_ble_eq_true rfl) ?_
  intro p e s m args below meth c A Q ls hM hl hW hnm RET
  have hx := hM.1
  have hb := hM.2.1
  have hl : lv_has ls 5 [(0, .ref m0), (1, .int (nI pt))] := hl
  have hW : xW D A s.heap [(m0, .inr (3, [fl, .int (nI cnt), .ref as_, .ref af])), (as_, .inl (cI, 9000, .inl st)), (af, .inl (cI, 72000, .inl fs))] s.heap [] := hW
  have hI0 := hI
  obtain ⟨⟨l1, l2, l3, l4⟩, hg⟩ := hI
  refine lv_iload_n hx hb d_Mod_cut_0 rfl (lv_at hl 1 rfl) ?_
  refine ld_Mod_24 hM d_Mod_cut_1 ?_
  refine xn_le (tgt := 7) hx hb (by omega) (by omega) d_Mod_cut_3 (by decide) (fun hle => ?_) (fun hgt => ?_)
  · refine lv_aload_n hx hb d_Mod_cut_7 rfl (lv_at hl 0 rfl) ?_
    refine lv_iload_n hx hb d_Mod_cut_8 rfl (lv_at hl 1 rfl) ?_
    refine x_callVP (rest := []) hM (c_at l D cI cL m0 as_ cnt pt fl (.ref af) st sN hI0.1 (by omega) (by omega)) cb_Mod_at cv_Mod_25 ⟨Nat.le_of_ble_eq_true rfl, Nat.le_of_ble_eq_true rfl⟩ ⟨Nat.le_of_ble_eq_true rfl, Nat.le_of_ble_eq_true rfl⟩ hW.1 [0, 1] rfl 0 rfl rfl rfl hl.1 rfl (Nat.le_of_ble_eq_true rfl) d_Mod_cut_9 (fun v hv => ?_)
    obtain ⟨k, rfl, hk⟩ := hv
    have hk1 := hk.1
    have hk2 := hk.2.1
    have hk3 := l3 k hk1
    refine W.eq (g2 := F0 m 12 ls [.int (nI k)]) rfl ?_
    refine lv_istore_n (lv' := [(2, .int (nI k)), (0, .ref m0), (1, .int (nI pt))]) hx hb d_Mod_cut_12 rfl hl (by decide) rfl (fun ls hl => ?_)
    refine lv_aload_n hx hb d_Mod_cut_13 rfl (lv_at hl 1 rfl) ?_
    refine gf_Mod_13 hM hW.1 0 rfl rfl d_Mod_cut_14 ?_
    refine lv_iload_n hx hb d_Mod_cut_17 rfl (lv_at hl 0 rfl) ?_
    refine xn_iald hM hW.1 1 rfl (by omega) (by omega) d_Mod_cut_18 ?_
    refine xn_top (show st k = nI (sN k) from hk3.1) ?_
    refine lv_iload_n hx hb d_Mod_cut_19 rfl (lv_at hl 2 rfl) ?_
    refine xn_ne (tgt := 24) hx hb (by omega) (by omega) d_Mod_cut_20 (by decide) (fun hne => ?_) (fun heq => ?_)
    · refine lv_aload_n hx hb d_Mod_cut_24 rfl (lv_at hl 1 rfl) ?_
      refine gf_Mod_7 hM hW.1 0 rfl rfl d_Mod_cut_25 ?_
      refine lv_istore_n (lv' := [(3, .int (nI cnt)), (2, .int (nI k)), (0, .ref m0), (1, .int (nI pt))]) hx hb d_Mod_cut_28 rfl hl (by decide) rfl (fun ls hl => ?_)
      have hl : lv_has ls 5 [(0, .ref m0), (1, .int (nI pt)), (2, .int (nI k)), (3, .int (nI cnt))] := lv_sub hl [2, 3, 1, 0] rfl
      suffices loop : ∀ (u j : Nat) (st2 fs2 : Nat → Int32) (ls : Array Slot) (H : Heap) (locs : List Loc), j = u → k + 1 ≤ j → j ≤ cnt → (∀ x, x ≤ j → st2 x = st x) → (∀ x, j < x → x ≤ cnt → st2 x = st (x - 1)) → (∀ x, x ≤ j → ∀ i, i < 8 → fs2 (8 * x + i) = fs (8 * x + i)) → (∀ x, j < x → x ≤ cnt → ∀ i, i < 8 → fs2 (8 * x + i) = fs (8 * (x - 1) + i)) → lv_has ls 5 [(0, .ref m0), (1, .int (nI pt)), (2, .int (nI k)), (3, .int (nI j))] → xW D A s.heap [(m0, .inr (3, [fl, .int (nI cnt), .ref as_, .ref af])), (as_, .inl (cI, 9000, .inl st2)), (af, .inl (cI, 72000, .inl fs2))] H locs → W p l e rm_cut s m args below meth c H locs 0 0 Q (F0 m 29 ls []) from
        loop _ cnt st fs ls s.heap [] rfl (by omega) (Nat.le_refl _) (fun _ _ => rfl) (fun x h1 h2 => absurd h2 (by omega)) (fun _ _ _ _ => rfl) (fun x h1 h2 => absurd h2 (by omega)) hl hW
      intro u
      induction u using Nat.strongRecOn with | ind u ih => ?_
      intro j st2 fs2 ls H locs hu hj1 hj2 i1 i2 i3 i4 hl hW
      refine lv_iload_n hx hb d_Mod_cut_29 rfl (lv_at hl 3 rfl) ?_
      refine lv_iload_n hx hb d_Mod_cut_30 rfl (lv_at hl 2 rfl) ?_
      refine lv_iconst (v := nI 1) hx hb d_Mod_cut_31 (by decide) ?_
      refine xn_iadd hx hb d_Mod_cut_32 ?_
      refine xn_le (tgt := 99) hx hb (by omega) (by omega) d_Mod_cut_33 (by decide) (fun hle2 => ?_) (fun hgt2 => ?_)
      · have hjk : j = k + 1 := by omega
        subst hjk
        refine lv_aload_n hx hb d_Mod_cut_99 rfl (lv_at hl 0 rfl) ?_
        refine gf_Mod_13 hM hW.1 0 rfl rfl d_Mod_cut_100 ?_
        refine lv_iload_n hx hb d_Mod_cut_103 rfl (lv_at hl 2 rfl) ?_
        refine lv_iconst (v := nI 1) hx hb d_Mod_cut_104 (by decide) ?_
        refine xn_iadd hx hb d_Mod_cut_105 ?_
        refine lv_iload_n hx hb d_Mod_cut_106 rfl (lv_at hl 1 rfl) ?_
        refine xn_iast hM hW 1 rfl (by omega) (by omega) d_Mod_cut_107 (fun H locs hW => ?_)
        have hW : xW D A s.heap [(m0, .inr (3, [fl, .int (nI cnt), .ref as_, .ref af])), (as_, .inl (cI, 9000, .inl (upd st2 (k + 1) (nI pt)))), (af, .inl (cI, 72000, .inl fs2))] H locs := hW
        refine lv_iconst (v := nI 0) hx hb d_Mod_cut_108 (by decide) ?_
        refine lv_istore_n (lv' := [(3, .int (nI 0)), (0, .ref m0), (1, .int (nI pt)), (2, .int (nI k))]) hx hb d_Mod_cut_109 rfl hl (by decide) rfl (fun ls hl => ?_)
        have hl : lv_has ls 5 [(0, .ref m0), (1, .int (nI pt)), (2, .int (nI k)), (3, .int (nI 0))] := lv_sub hl [1, 2, 3, 0] rfl
        suffices loop2 : ∀ (u f : Nat) (fs3 : Nat → Int32) (ls : Array Slot) (H : Heap) (locs : List Loc), 8 - f = u → f ≤ 8 → (∀ i, i < f → fs3 (8 * k + 8 + i) = fs (8 * k + i)) → (∀ y, y < 8 * k + 8 ∨ 8 * k + 8 + f ≤ y → fs3 y = fs2 y) → lv_has ls 5 [(0, .ref m0), (1, .int (nI pt)), (2, .int (nI k)), (3, .int (nI f))] → xW D A s.heap [(m0, .inr (3, [fl, .int (nI cnt), .ref as_, .ref af])), (as_, .inl (cI, 9000, .inl (upd st2 (k + 1) (nI pt)))), (af, .inl (cI, 72000, .inl fs3))] H locs → W p l e rm_cut s m args below meth c H locs 0 0 Q (F0 m 110 ls []) from
          loop2 _ 0 fs2 ls H locs rfl (Nat.zero_le _) (fun x hx => absurd hx (Nat.not_lt_zero _)) (fun _ _ => rfl) hl hW
        intro u2
        induction u2 using Nat.strongRecOn with | ind u2 ih2 => ?_
        intro f fs3 ls H locs hu2 hf j1 j2 hl hW
        refine lv_iload_n hx hb d_Mod_cut_110 rfl (lv_at hl 3 rfl) ?_
        refine lv_bipush (v := nI 8) hx hb d_Mod_cut_111 (by decide) ?_
        refine xn_ge (tgt := 147) hx hb (by omega) (by omega) d_Mod_cut_113 (by decide) (fun hge3 => ?_) (fun hlt3 => ?_)
        · have hf8 : f = 8 := by omega
          subst hf8
          refine lv_aload_n hx hb d_Mod_cut_147 rfl (lv_at hl 0 rfl) ?_
          refine lv_dup hx hb d_Mod_cut_148 rfl ?_
          refine gf_Mod_7 hM hW.1 0 rfl rfl d_Mod_cut_149 ?_
          refine lv_iconst (v := nI 1) hx hb d_Mod_cut_152 (by decide) ?_
          refine xn_iadd hx hb d_Mod_cut_153 ?_
          refine pf_Mod_7 hM hW 0 rfl (Nat.le_of_ble_eq_true rfl) d_Mod_cut_154 (fun H locs hW => ?_)
          have hW : xW D A s.heap [(m0, .inr (3, [fl, .int (nI (cnt + 1)), .ref as_, .ref af])), (as_, .inl (cI, 9000, .inl (upd st2 (k + 1) (nI pt)))), (af, .inl (cI, 72000, .inl fs3))] H locs := hW
          have hcut := hI0.cut (st2 := upd st2 (k + 1) (nI pt)) (fs2 := fs3) (by omega) hk hne (fun x hx => by rw [pk_un (by omega)]; exact i1 x (by omega)) pk_us (fun x h1 h2 => by rw [pk_un (by omega)]; exact i2 x h1 h2) (fun x hx i hi => by rw [j2 _ (Or.inl (by omega))]; exact i3 x (by omega) i hi) (fun x h1 h2 i hi => by
            by_cases e1 : x = k + 1
            · have := j1 i hi
              rw [e1, show 8 * (k + 1) + i = 8 * k + 8 + i by omega, Nat.add_sub_cancel]; exact this
            · rw [j2 _ (Or.inr (by omega))]; exact i4 x (by omega) h2 i hi)
          refine RET (w1 := wMod cI m0 as_ af fl (cnt + 1) _ fs3) hW ⟨cnt + 1, _, fs3, _, rfl, rfl, rfl, hcut, by omega, Or.inr ⟨k + 1, by omega, ?_⟩, fun x hx => ?_, rfl⟩ d_Mod_cut_157
          · simp only [if_neg (show ¬ k + 1 ≤ k by omega), if_true]
          · by_cases e1 : x ≤ k
            · exact ⟨x, by omega, by simp only [if_pos e1]⟩
            · exact ⟨x + 1, by omega, by simp only [if_neg (show ¬ x + 1 ≤ k by omega), if_neg (show ¬ x + 1 = k + 1 by omega), Nat.add_sub_cancel]⟩
        · refine lv_aload_n hx hb d_Mod_cut_116 rfl (lv_at hl 0 rfl) ?_
          refine gf_Mod_18 hM hW.1 0 rfl rfl d_Mod_cut_117 ?_
          refine lv_bipush (v := nI 8) hx hb d_Mod_cut_120 (by decide) ?_
          refine lv_iload_n hx hb d_Mod_cut_122 rfl (lv_at hl 2 rfl) ?_
          refine xn_imul hx hb d_Mod_cut_123 ?_
          refine lv_bipush (v := nI 8) hx hb d_Mod_cut_124 (by decide) ?_
          refine xn_iadd hx hb d_Mod_cut_126 ?_
          refine lv_iload_n hx hb d_Mod_cut_127 rfl (lv_at hl 3 rfl) ?_
          refine xn_iadd hx hb d_Mod_cut_128 ?_
          refine lv_aload_n hx hb d_Mod_cut_129 rfl (lv_at hl 0 rfl) ?_
          refine gf_Mod_18 hM hW.1 0 rfl rfl d_Mod_cut_130 ?_
          refine lv_bipush (v := nI 8) hx hb d_Mod_cut_133 (by decide) ?_
          refine lv_iload_n hx hb d_Mod_cut_135 rfl (lv_at hl 2 rfl) ?_
          refine xn_imul hx hb d_Mod_cut_136 ?_
          refine lv_iload_n hx hb d_Mod_cut_137 rfl (lv_at hl 3 rfl) ?_
          refine xn_iadd hx hb d_Mod_cut_138 ?_
          refine xn_iald hM hW.1 2 rfl (by omega) (by omega) d_Mod_cut_139 ?_
          refine xn_top (show fs3 ((8 * k) + f) = fs (8 * k + f) from (j2 _ (Or.inl (by omega))).trans (i3 k (by omega) f hlt3)) ?_
          refine xn_iast hM hW 2 rfl (by omega) (by omega) d_Mod_cut_140 (fun H locs hW => ?_)
          have hW : xW D A s.heap [(m0, .inr (3, [fl, .int (nI cnt), .ref as_, .ref af])), (as_, .inl (cI, 9000, .inl (upd st2 (k + 1) (nI pt)))), (af, .inl (cI, 72000, .inl (upd fs3 (((8 * k) + 8) + f) (fs (8 * k + f)))))] H locs := hW
          refine lv_iinc (lv' := [(3, .int (nI (f + 1))), (0, .ref m0), (1, .int (nI pt)), (2, .int (nI k))]) (v := nI (f + 1)) hx hb d_Mod_cut_141 hl (k := 3) rfl (nI_inc f) (by decide) rfl (fun ls hl => ?_)
          refine lv_goto (tgt := 110) hx hb d_Mod_cut_144 (by decide) ?_
          have hl : lv_has ls 5 [(0, .ref m0), (1, .int (nI pt)), (2, .int (nI k)), (3, .int (nI (f + 1)))] := lv_sub hl [1, 2, 3, 0] rfl
          refine ih2 (8 - (f + 1)) (by omega) (f + 1) _ ls H locs rfl (by omega) (fun x hx => ?_) (fun y hy => ?_) hl hW
          · by_cases e1 : x = f
            · subst e1; exact pk_us
            · rw [pk_un (by omega)]; exact j1 x (by omega)
          · rw [pk_un (by omega)]; exact j2 y (by omega)
      · refine lv_aload_n hx hb d_Mod_cut_36 rfl (lv_at hl 0 rfl) ?_
        refine gf_Mod_13 hM hW.1 0 rfl rfl d_Mod_cut_37 ?_
        refine lv_iload_n hx hb d_Mod_cut_40 rfl (lv_at hl 3 rfl) ?_
        refine lv_aload_n hx hb d_Mod_cut_41 rfl (lv_at hl 0 rfl) ?_
        refine gf_Mod_13 hM hW.1 0 rfl rfl d_Mod_cut_42 ?_
        refine lv_iload_n hx hb d_Mod_cut_45 rfl (lv_at hl 3 rfl) ?_
        refine lv_iconst (v := nI 1) hx hb d_Mod_cut_46 (by decide) ?_
        refine xn_isub hx hb (by omega) d_Mod_cut_47 ?_
        refine xn_iald hM hW.1 1 rfl (by omega) (by omega) d_Mod_cut_48 ?_
        refine xn_top (show st2 (j - 1) = st (j - 1) from i1 _ (by omega)) ?_
        refine xn_iast hM hW 1 rfl (by omega) (by omega) d_Mod_cut_49 (fun H locs hW => ?_)
        have hW : xW D A s.heap [(m0, .inr (3, [fl, .int (nI cnt), .ref as_, .ref af])), (as_, .inl (cI, 9000, .inl (upd st2 j (st (j - 1))))), (af, .inl (cI, 72000, .inl fs2))] H locs := hW
        refine lv_iconst (v := nI 0) hx hb d_Mod_cut_50 (by decide) ?_
        refine lv_istore (lv' := [(4, .int (nI 0)), (0, .ref m0), (1, .int (nI pt)), (2, .int (nI k)), (3, .int (nI j))]) hx hb d_Mod_cut_51 hl (by decide) rfl (fun ls hl => ?_)
        have hl : lv_has ls 5 [(0, .ref m0), (1, .int (nI pt)), (2, .int (nI k)), (3, .int (nI j)), (4, .int (nI 0))] := lv_sub hl [1, 2, 3, 4, 0] rfl
        suffices loop3 : ∀ (u f : Nat) (fs3 : Nat → Int32) (ls : Array Slot) (H : Heap) (locs : List Loc), 8 - f = u → f ≤ 8 → (∀ i, i < f → fs3 (8 * j + i) = fs (8 * (j - 1) + i)) → (∀ y, y < 8 * j ∨ 8 * j + f ≤ y → fs3 y = fs2 y) → lv_has ls 5 [(0, .ref m0), (1, .int (nI pt)), (2, .int (nI k)), (3, .int (nI j)), (4, .int (nI f))] → xW D A s.heap [(m0, .inr (3, [fl, .int (nI cnt), .ref as_, .ref af])), (as_, .inl (cI, 9000, .inl (upd st2 j (st (j - 1))))), (af, .inl (cI, 72000, .inl fs3))] H locs → W p l e rm_cut s m args below meth c H locs 0 0 Q (F0 m 53 ls []) from
          loop3 _ 0 fs2 ls H locs rfl (Nat.zero_le _) (fun x hx => absurd hx (Nat.not_lt_zero _)) (fun _ _ => rfl) hl hW
        intro u3
        induction u3 using Nat.strongRecOn with | ind u3 ih3 => ?_
        intro f fs3 ls H locs hu3 hf j1 j2 hl hW
        refine lv_iload hx hb d_Mod_cut_53 (lv_at hl 4 rfl) ?_
        refine lv_bipush (v := nI 8) hx hb d_Mod_cut_55 (by decide) ?_
        refine xn_ge (tgt := 93) hx hb (by omega) (by omega) d_Mod_cut_57 (by decide) (fun hge4 => ?_) (fun hlt4 => ?_)
        · have hf8 : f = 8 := by omega
          subst hf8
          have hl : lv_has ls 5 [(0, .ref m0), (1, .int (nI pt)), (2, .int (nI k)), (3, .int (nI j))] := lv_sub hl [0, 1, 2, 3] rfl
          refine lv_iinc (lv' := [(3, .int (nI (j - 1))), (0, .ref m0), (1, .int (nI pt)), (2, .int (nI k))]) (v := nI (j - 1)) hx hb d_Mod_cut_93 hl (k := 3) rfl (nI_dec1 (by omega)) (by decide) rfl (fun ls hl => ?_)
          refine lv_goto (tgt := 29) hx hb d_Mod_cut_96 (by decide) ?_
          have hl : lv_has ls 5 [(0, .ref m0), (1, .int (nI pt)), (2, .int (nI k)), (3, .int (nI (j - 1)))] := lv_sub hl [1, 2, 3, 0] rfl
          refine ih (j - 1) (by omega) (j - 1) _ fs3 ls H locs rfl (by omega) (by omega) (fun x hx => ?_) (fun x h1 h2 => ?_) (fun x hx i hi => ?_) (fun x h1 h2 i hi => ?_) hl hW
          · rw [pk_un (by omega)]; exact i1 x (by omega)
          · by_cases e1 : x = j
            · subst e1; exact pk_us
            · rw [pk_un e1]; exact i2 x (by omega) h2
          · rw [j2 _ (Or.inl (by omega))]; exact i3 x (by omega) i hi
          · by_cases e1 : x = j
            · subst e1; exact j1 i hi
            · rw [j2 _ (Or.inr (by omega))]; exact i4 x (by omega) h2 i hi
        · refine lv_aload_n hx hb d_Mod_cut_60 rfl (lv_at hl 0 rfl) ?_
          refine gf_Mod_18 hM hW.1 0 rfl rfl d_Mod_cut_61 ?_
          refine lv_bipush (v := nI 8) hx hb d_Mod_cut_64 (by decide) ?_
          refine lv_iload_n hx hb d_Mod_cut_66 rfl (lv_at hl 3 rfl) ?_
          refine xn_imul hx hb d_Mod_cut_67 ?_
          refine lv_iload hx hb d_Mod_cut_68 (lv_at hl 4 rfl) ?_
          refine xn_iadd hx hb d_Mod_cut_70 ?_
          refine lv_aload_n hx hb d_Mod_cut_71 rfl (lv_at hl 0 rfl) ?_
          refine gf_Mod_18 hM hW.1 0 rfl rfl d_Mod_cut_72 ?_
          refine lv_bipush (v := nI 8) hx hb d_Mod_cut_75 (by decide) ?_
          refine lv_iload_n hx hb d_Mod_cut_77 rfl (lv_at hl 3 rfl) ?_
          refine xn_imul hx hb d_Mod_cut_78 ?_
          refine lv_bipush (v := nI 8) hx hb d_Mod_cut_79 (by decide) ?_
          refine xn_isub hx hb (by omega) d_Mod_cut_81 ?_
          refine lv_iload hx hb d_Mod_cut_82 (lv_at hl 4 rfl) ?_
          refine xn_iadd hx hb d_Mod_cut_84 ?_
          refine xn_iald hM hW.1 2 rfl (by omega) (by omega) d_Mod_cut_85 ?_
          refine xn_top (show fs3 (((8 * j) - 8) + f) = fs (8 * (j - 1) + f) from (j2 _ (Or.inl (by omega))).trans (by rw [show 8 * j - 8 + f = 8 * (j - 1) + f by omega]; exact i3 (j - 1) (by omega) f hlt4)) ?_
          refine xn_iast hM hW 2 rfl (by omega) (by omega) d_Mod_cut_86 (fun H locs hW => ?_)
          have hW : xW D A s.heap [(m0, .inr (3, [fl, .int (nI cnt), .ref as_, .ref af])), (as_, .inl (cI, 9000, .inl (upd st2 j (st (j - 1))))), (af, .inl (cI, 72000, .inl (upd fs3 ((8 * j) + f) (fs (8 * (j - 1) + f)))))] H locs := hW
          refine lv_iinc (lv' := [(4, .int (nI (f + 1))), (0, .ref m0), (1, .int (nI pt)), (2, .int (nI k)), (3, .int (nI j))]) (v := nI (f + 1)) hx hb d_Mod_cut_87 hl (k := 4) rfl (nI_inc f) (by decide) rfl (fun ls hl => ?_)
          refine lv_goto (tgt := 53) hx hb d_Mod_cut_90 (by decide) ?_
          have hl : lv_has ls 5 [(0, .ref m0), (1, .int (nI pt)), (2, .int (nI k)), (3, .int (nI j)), (4, .int (nI (f + 1)))] := lv_sub hl [1, 2, 3, 4, 0] rfl
          refine ih3 (8 - (f + 1)) (by omega) (f + 1) _ ls H locs rfl (by omega) (fun x hx => ?_) (fun y hy => ?_) hl hW
          · by_cases e1 : x = f
            · subst e1; exact pk_us
            · rw [pk_un (by omega)]; exact j1 x (by omega)
          · rw [pk_un (by omega)]; exact j2 y (by omega)
    · exact RET (w1 := wMod cI m0 as_ af fl cnt st fs) hW ⟨cnt, st, fs, sN, rfl, rfl, rfl, hI0, by omega, Or.inr ⟨k, hk1, heq⟩, fun x hx => ⟨x, hx, rfl⟩, rfl⟩ d_Mod_cut_23
  · exact RET (w1 := wMod cI m0 as_ af fl cnt st fs) hW ⟨cnt, st, fs, sN, rfl, rfl, rfl, hI0, by omega, Or.inl (by omega), fun x hx => ⟨x, hx, rfl⟩, rfl⟩ d_Mod_cut_6
end
section
abbrev rm_mmark : Room := { frames := 2, cells := 0, slots := 0, locals := 48 }
set_option maxHeartbeats 4000000 in
set_option maxRecDepth 100000 in
/-- Model.mark -/
theorem c_mmark (l : Launch) (D : va_G) (cI cL : ClassId) (m0 as_ af cnt : Nat) (fl : Value) (st fs : Nat → Int32) (sN : Nat → Nat) (g : Nat → Nat → Int32) (hI : MI g st fs sN cnt) (hc : cnt ≤ 8000) (z1 z2 z3 z4 z5 : Int32) : CT l D cI cL y_Mod_mark (xws y_Mod_mark b_Mod_mark 7 (some .int)) rm_mmark [.ref m0, .int z1, .int z2, .int z3, .int z4, .int z5] (wMod cI m0 as_ af fl cnt st fs) (fun v k z w1 => k = 0 ∧ z = 0 ∧ ((∃ (pa pb fd cnt2 : Nat) (st2 fs2 : Nat → Int32) (sN2 : Nat → Nat), z1 = nI pa ∧ z2 = nI pb ∧ z3 = nI fd ∧ pa ≤ pb ∧ pb < 1114112 ∧ fd < 8 ∧ v = some (.int (nI (pb - pa + 1))) ∧ MI (gset g pa (pb + 1) fd z4 z5) st2 fs2 sN2 cnt2 ∧ cnt2 ≤ cnt + 2 ∧ w1 = wMod cI m0 as_ af (.int (nI 0)) cnt2 st2 fs2) ∨ (¬ okM z1 z2 z3 ∧ v = some (.int (nI 0)) ∧ w1 = wMod cI m0 as_ af (.int (nI 1)) cnt st fs))) := by
  refine CT.ofI (own := R_Mod) (cc := b_Mod_mark) (nL := 7) (by decide) rfl (Nat.le_of_ble_eq_true rfl) ?_
  intro p e s m args below meth c A Q ls hM hl hW hnm RET
  have hx := hM.1
  have hb := hM.2.1
  have hl : lv_has ls 7 [(0, .ref m0), (1, .int z1), (2, .int z2), (3, .int z3), (4, .int z4), (5, .int z5)] := hl
  have hW : xW D A s.heap [(m0, .inr (3, [fl, .int (nI cnt), .ref as_, .ref af])), (as_, .inl (cI, 9000, .inl st)), (af, .inl (cI, 72000, .inl fs))] s.heap [] := hW
  have hI0 := hI
  refine lv_aload_n hx hb d_Mod_mark_0 rfl (lv_at hl 0 rfl) ?_
  refine lv_iconst (v := nI 0) hx hb d_Mod_mark_1 (by decide) ?_
  refine pf_Mod_21 hM hW 0 rfl (Nat.le_of_ble_eq_true rfl) d_Mod_mark_2 (fun H locs hW => ?_)
  have hW : xW D A s.heap [(m0, .inr (3, [.int (nI 0), .int (nI cnt), .ref as_, .ref af])), (as_, .inl (cI, 9000, .inl st)), (af, .inl (cI, 72000, .inl fs))] H locs := hW
  have fl_ : ∀ (ls : Array Slot), ¬ okM z1 z2 z3 → lv_has ls 7 [(0, .ref m0)] → W p l e rm_mmark s m args below meth c H locs 0 0 Q (F0 m 36 ls []) := by
    intro ls hbad hl
    refine lv_aload_n hx hb d_Mod_mark_36 rfl (lv_at hl 0 rfl) ?_
    refine lv_iconst (v := nI 1) hx hb d_Mod_mark_37 (by decide) ?_
    refine x_callVT (rest := []) hM (c_fail l D cI cL m0 (nI 1) (.int (nI 0)) (.int (nI cnt)) (.ref as_) (.ref af)) cb_Mod_fail cv_Mod_37 ⟨Nat.le_of_ble_eq_true rfl, Nat.le_of_ble_eq_true rfl⟩ ⟨Nat.le_of_ble_eq_true rfl, Nat.le_of_ble_eq_true rfl⟩ hW [0] [1, 2] (by decide) rfl (wr := [(as_, .inl (cI, 9000, .inl st)), (af, .inl (cI, 72000, .inl fs))]) rfl (by decide) (by decide) 0 rfl rfl rfl hl.1 rfl (Nat.le_of_ble_eq_true rfl) d_Mod_mark_38 (fun v k z w1 H locs hv hW => ?_)
    obtain ⟨rfl, rfl, rfl, rfl⟩ := hv
    have hW : xW D A s.heap [(m0, .inr (3, [.int (nI 1), .int (nI cnt), .ref as_, .ref af])), (as_, .inl (cI, 9000, .inl st)), (af, .inl (cI, 72000, .inl fs))] H locs := hW.sub [2, 0, 1] (by decide) rfl
    refine W.eq (g2 := F0 m 41 ls [.int (nI 0)]) rfl ?_
    exact RET (w1 := wMod cI m0 as_ af (.int (nI 1)) cnt st fs) hW ⟨rfl, rfl, Or.inr ⟨hbad, rfl, rfl⟩⟩ d_Mod_mark_41
  refine lv_aload_n hx hb d_Mod_mark_5 rfl (lv_at hl 0 rfl) ?_
  refine lv_iload_n hx hb d_Mod_mark_6 rfl (lv_at hl 1 rfl) ?_
  refine x_callVP (rest := []) hM (c_out l D cI cL m0 z1) cb_Mod_out cv_Mod_33 ⟨Nat.le_of_ble_eq_true rfl, Nat.le_of_ble_eq_true rfl⟩ ⟨Nat.le_of_ble_eq_true rfl, Nat.le_of_ble_eq_true rfl⟩ hW.1 [] rfl 0 rfl rfl rfl hl.1 rfl (Nat.le_of_ble_eq_true rfl) d_Mod_mark_7 (fun v hv => ?_)
  obtain ⟨b1, rfl, hb11, hb1⟩ := hv
  refine W.eq (g2 := F0 m 10 ls [.int (nI b1)]) rfl ?_
  refine xn_ifne (tgt := 36) hx hb (by omega) d_Mod_mark_10 (by decide) (fun hq1_ => ?_) (fun hq1_ => ?_)
  · have hl : lv_has ls 7 [(0, .ref m0)] := lv_sub hl [0] rfl
    exact fl_ ls (fun ⟨pa, pb, fd, e1, e2, e3, h1, h2, h3⟩ => hq1_ (hb1.mpr ⟨pa, by omega, e1⟩)) hl
  · have hok1 := hb1.mp hq1_
    refine lv_aload_n hx hb d_Mod_mark_13 rfl (lv_at hl 0 rfl) ?_
    refine lv_iload_n hx hb d_Mod_mark_14 rfl (lv_at hl 2 rfl) ?_
    refine x_callVP (rest := []) hM (c_out l D cI cL m0 z2) cb_Mod_out cv_Mod_33 ⟨Nat.le_of_ble_eq_true rfl, Nat.le_of_ble_eq_true rfl⟩ ⟨Nat.le_of_ble_eq_true rfl, Nat.le_of_ble_eq_true rfl⟩ hW.1 [] rfl 0 rfl rfl rfl hl.1 rfl (Nat.le_of_ble_eq_true rfl) d_Mod_mark_15 (fun v hv => ?_)
    obtain ⟨b2, rfl, hb21, hb2⟩ := hv
    refine W.eq (g2 := F0 m 18 ls [.int (nI b2)]) rfl ?_
    refine xn_ifne (tgt := 36) hx hb (by omega) d_Mod_mark_18 (by decide) (fun hb2_ => ?_) (fun hb2_ => ?_)
    · have hl : lv_has ls 7 [(0, .ref m0)] := lv_sub hl [0] rfl
      exact fl_ ls (fun ⟨pa, pb, fd, e1, e2, e3, h1, h2, h3⟩ => hb2_ (hb2.mpr ⟨pb, by omega, e2⟩)) hl
    · have hok2 := hb2.mp hb2_
      obtain ⟨pa, hpa, rfl⟩ := hok1
      obtain ⟨pb, hpb, rfl⟩ := hok2
      refine lv_iload_n hx hb d_Mod_mark_21 rfl (lv_at hl 2 rfl) ?_
      refine lv_iload_n hx hb d_Mod_mark_22 rfl (lv_at hl 1 rfl) ?_
      refine xn_lt (tgt := 36) hx hb (by omega) (by omega) d_Mod_mark_23 (by decide) (fun hlt => ?_) (fun hge => ?_)
      · have hl : lv_has ls 7 [(0, .ref m0)] := lv_sub hl [0] rfl
        refine fl_ ls (fun ⟨pa2, pb2, fd, e1, e2, e3, h1, h2, h3⟩ => ?_) hl
        have e4 := (nI_eq (by omega) (by omega)).mp e1
        have e5 := (nI_eq (by omega) (by omega)).mp e2
        omega
      · refine lv_iload_n hx hb d_Mod_mark_26 rfl (lv_at hl 3 rfl) ?_
        refine lv_if_lt (tgt := 36) hx hb d_Mod_mark_27 (by decide) (fun hneg => ?_) (fun hpos => ?_)
        · have hl : lv_has ls 7 [(0, .ref m0)] := lv_sub hl [0] rfl
          exact fl_ ls (fun ⟨pa2, pb2, fd, e1, e2, e3, h1, h2, h3⟩ => (okF.lo ⟨fd, h3, e3⟩) hneg) hl
        · refine lv_iload_n hx hb d_Mod_mark_30 rfl (lv_at hl 3 rfl) ?_
          refine lv_bipush (v := nI 7) hx hb d_Mod_mark_31 (by decide) ?_
          refine lv_icmp_le (tgt := 42) hx hb d_Mod_mark_33 (by decide) (fun hle7 => ?_) (fun hgt7 => ?_)
          · obtain ⟨fd, hfd, rfl⟩ := okF_of hpos hle7
            refine lv_aload_n hx hb d_Mod_mark_42 rfl (lv_at hl 0 rfl) ?_
            refine lv_iload_n hx hb d_Mod_mark_43 rfl (lv_at hl 1 rfl) ?_
            refine x_callVT (rest := []) hM (c_cut l D cI cL m0 as_ af cnt pa (.int (nI 0)) st fs sN g hI0 (by omega) (by omega)) cb_Mod_cut cv_Mod_40 ⟨Nat.le_of_ble_eq_true rfl, Nat.le_of_ble_eq_true rfl⟩ ⟨Nat.le_of_ble_eq_true rfl, Nat.le_of_ble_eq_true rfl⟩ hW [0, 1, 2] [] (by decide) rfl (wr := []) rfl (by decide) (by decide) 0 rfl rfl rfl hl.1 rfl (Nat.le_of_ble_eq_true rfl) d_Mod_mark_44 (fun v k z w1 H locs hv hW => ?_)
            obtain ⟨cnt2, st2, fs2, sN2, rfl, rfl, rfl, hI2, hc2, hs2, hold2, rfl⟩ := hv
            have hW : xW D A s.heap [(m0, .inr (3, [.int (nI 0), .int (nI cnt2), .ref as_, .ref af])), (as_, .inl (cI, 9000, .inl st2)), (af, .inl (cI, 72000, .inl fs2))] H locs := hW.sub [0, 1, 2] (by decide) rfl
            refine W.eq (g2 := F0 m 47 ls []) rfl ?_
            refine lv_aload_n hx hb d_Mod_mark_47 rfl (lv_at hl 0 rfl) ?_
            refine lv_iload_n hx hb d_Mod_mark_48 rfl (lv_at hl 2 rfl) ?_
            refine lv_iconst (v := nI 1) hx hb d_Mod_mark_49 (by decide) ?_
            refine xn_iadd hx hb d_Mod_mark_50 ?_
            refine x_callVT (rest := []) hM (c_cut l D cI cL m0 as_ af cnt2 (pb + 1) (.int (nI 0)) st2 fs2 sN2 g hI2 (by omega) (by omega)) cb_Mod_cut cv_Mod_40 ⟨Nat.le_of_ble_eq_true rfl, Nat.le_of_ble_eq_true rfl⟩ ⟨Nat.le_of_ble_eq_true rfl, Nat.le_of_ble_eq_true rfl⟩ hW [0, 1, 2] [] (by decide) rfl (wr := []) rfl (by decide) (by decide) 0 rfl rfl rfl hl.1 rfl (Nat.le_of_ble_eq_true rfl) d_Mod_mark_51 (fun v k z w1 H locs hv hW => ?_)
            obtain ⟨cnt3, st3, fs3, sN3, rfl, rfl, rfl, hI3, hc3, hs3, hold3, rfl⟩ := hv
            have hW : xW D A s.heap [(m0, .inr (3, [.int (nI 0), .int (nI cnt3), .ref as_, .ref af])), (as_, .inl (cI, 9000, .inl st3)), (af, .inl (cI, 72000, .inl fs3))] H locs := hW.sub [0, 1, 2] (by decide) rfl
            refine W.eq (g2 := F0 m 54 ls []) rfl ?_
            obtain ⟨kk, hkk, ekk⟩ : ∃ k, k < cnt3 ∧ sN3 k = pa := by
              rcases hs2 with h | ⟨k, hk, ek⟩
              · omega
              · obtain ⟨k3, hk3, ek3⟩ := hold3 k hk
                exact ⟨k3, hk3, ek3.trans ek⟩
            have hL3 := hI3.1
            have hmono := hL3.2.2.2
            have hst := hL3.2.2.1
            refine lv_aload_n hx hb d_Mod_mark_54 rfl (lv_at hl 0 rfl) ?_
            refine lv_iload_n hx hb d_Mod_mark_55 rfl (lv_at hl 1 rfl) ?_
            refine x_callVP (rest := []) hM (c_at l D cI cL m0 as_ cnt3 pa (.int (nI 0)) (.ref af) st3 sN3 hI3.1 (by omega) (by omega)) cb_Mod_at cv_Mod_25 ⟨Nat.le_of_ble_eq_true rfl, Nat.le_of_ble_eq_true rfl⟩ ⟨Nat.le_of_ble_eq_true rfl, Nat.le_of_ble_eq_true rfl⟩ hW.1 [0, 1] rfl 0 rfl rfl rfl hl.1 rfl (Nat.le_of_ble_eq_true rfl) d_Mod_mark_56 (fun v hv => ?_)
            obtain ⟨k1, rfl, hk1⟩ := hv
            have hk11 := hk1.1
            refine W.eq (g2 := F0 m 59 ls [.int (nI k1)]) rfl ?_
            have ek1 : sN3 k1 = pa := by
              have h1 := hk1.2.1
              rcases Nat.lt_trichotomy k1 kk with h | h | h
              · have := hk1.2.2 kk h hkk; omega
              · rw [h]; exact ekk
              · have := hmono kk k1 h hk11; omega
            refine lv_istore (lv' := [(6, .int (nI k1)), (0, .ref m0), (1, .int (nI pa)), (2, .int (nI pb)), (3, .int (nI fd)), (4, .int z4), (5, .int z5)]) hx hb d_Mod_mark_59 hl (by decide) rfl (fun ls hl => ?_)
            have hl : lv_has ls 7 [(0, .ref m0), (1, .int (nI pa)), (2, .int (nI pb)), (3, .int (nI fd)), (4, .int z4), (5, .int z5), (6, .int (nI k1))] := lv_sub hl [1, 2, 3, 4, 5, 6, 0] rfl
            suffices loop : ∀ (u k : Nat) (fs4 : Nat → Int32) (ls : Array Slot) (H : Heap) (locs : List Loc), cnt3 - k = u → k1 ≤ k → k ≤ cnt3 → (∀ y, k1 ≤ y → y < k → sN3 y ≤ pb) → (∀ y, k1 ≤ y → y < k → ∀ i, i < 8 → fs4 (8 * y + i) = chg fd z4 z5 (fun i => fs3 (8 * y + i)) i) → (∀ y, y < k1 ∨ k ≤ y → ∀ i, i < 8 → fs4 (8 * y + i) = fs3 (8 * y + i)) → lv_has ls 7 [(0, .ref m0), (1, .int (nI pa)), (2, .int (nI pb)), (3, .int (nI fd)), (4, .int z4), (5, .int z5), (6, .int (nI k))] → xW D A s.heap [(m0, .inr (3, [.int (nI 0), .int (nI cnt3), .ref as_, .ref af])), (as_, .inl (cI, 9000, .inl st3)), (af, .inl (cI, 72000, .inl fs4))] H locs → W p l e rm_mmark s m args below meth c H locs (0 + 0 + 0) (0 + 0 + 0) Q (F0 m 61 ls []) from
              loop _ k1 fs3 ls H locs rfl (Nat.le_refl _) (by omega) (fun y h1 h2 => absurd h2 (by omega)) (fun y h1 h2 => absurd h2 (by omega)) (fun _ _ _ _ => rfl) hl hW
            intro u
            induction u using Nat.strongRecOn with | ind u ih => ?_
            intro k fs4 ls H locs hu hk2 hk3 i1 i2 i3 hl hW
            have fin : k = cnt3 ∨ (k < cnt3 ∧ pb < sN3 k) → ∀ (ls : Array Slot), lv_has ls 7 [(0, .ref m0), (1, .int (nI pa)), (2, .int (nI pb)), (3, .int (nI fd)), (4, .int z4), (5, .int z5), (6, .int (nI k))] → W p l e rm_mmark s m args below meth c H locs (0 + 0 + 0) (0 + 0 + 0) Q (F0 m 117 ls []) := by
              intro hend ls hl
              refine lv_iload_n hx hb d_Mod_mark_117 rfl (lv_at hl 2 rfl) ?_
              refine lv_iload_n hx hb d_Mod_mark_118 rfl (lv_at hl 1 rfl) ?_
              refine xn_isub hx hb (by omega) d_Mod_mark_119 ?_
              refine lv_iconst (v := nI 1) hx hb d_Mod_mark_120 (by decide) ?_
              refine xn_iadd hx hb d_Mod_mark_121 ?_
              exact RET (w1 := wMod cI m0 as_ af (.int (nI 0)) cnt3 st3 fs4) hW ⟨by omega, by omega, Or.inl ⟨pa, pb, fd, cnt3, st3, fs4, sN3, rfl, rfl, rfl, hge, hpb, hfd, rfl, hI3.mark hfd hk11 ek1 (hs3.imp (fun h => h) (fun h => h)) i1 hk2 hend i2 i3, by omega, rfl⟩⟩ d_Mod_mark_122
            refine lv_iload hx hb d_Mod_mark_61 (lv_at hl 6 rfl) ?_
            refine lv_aload_n hx hb d_Mod_mark_63 rfl (lv_at hl 0 rfl) ?_
            refine gf_Mod_7 hM hW.1 0 rfl rfl d_Mod_mark_64 ?_
            refine xn_ge (tgt := 117) hx hb (by omega) (by omega) d_Mod_mark_67 (by decide) (fun hge2 => ?_) (fun hlt2 => ?_)
            · exact fin (Or.inl (by omega)) ls hl
            · have hsk := hst k hlt2
              have hsk2 := hsk.2
              refine lv_aload_n hx hb d_Mod_mark_70 rfl (lv_at hl 0 rfl) ?_
              refine gf_Mod_13 hM hW.1 0 rfl rfl d_Mod_mark_71 ?_
              refine lv_iload hx hb d_Mod_mark_74 (lv_at hl 6 rfl) ?_
              refine xn_iald hM hW.1 1 rfl (by omega) (by omega) d_Mod_mark_76 ?_
              refine xn_top (show st3 k = nI (sN3 k) from hsk.1) ?_
              refine lv_iload_n hx hb d_Mod_mark_77 rfl (lv_at hl 2 rfl) ?_
              refine xn_gt (tgt := 117) hx hb (by omega) (by omega) d_Mod_mark_78 (by decide) (fun hgt3 => ?_) (fun hle3 => ?_)
              · exact fin (Or.inr ⟨hlt2, hgt3⟩) ls hl
              · refine lv_aload_n hx hb d_Mod_mark_81 rfl (lv_at hl 0 rfl) ?_
                refine gf_Mod_18 hM hW.1 0 rfl rfl d_Mod_mark_82 ?_
                refine lv_bipush (v := nI 8) hx hb d_Mod_mark_85 (by decide) ?_
                refine lv_iload hx hb d_Mod_mark_87 (lv_at hl 6 rfl) ?_
                refine xn_imul hx hb d_Mod_mark_89 ?_
                refine lv_iload_n hx hb d_Mod_mark_90 rfl (lv_at hl 3 rfl) ?_
                refine xn_iadd hx hb d_Mod_mark_91 ?_
                refine lv_aload_n hx hb d_Mod_mark_92 rfl (lv_at hl 0 rfl) ?_
                refine gf_Mod_18 hM hW.1 0 rfl rfl d_Mod_mark_93 ?_
                refine lv_bipush (v := nI 8) hx hb d_Mod_mark_96 (by decide) ?_
                refine lv_iload hx hb d_Mod_mark_98 (lv_at hl 6 rfl) ?_
                refine xn_imul hx hb d_Mod_mark_100 ?_
                refine lv_iload_n hx hb d_Mod_mark_101 rfl (lv_at hl 3 rfl) ?_
                refine xn_iadd hx hb d_Mod_mark_102 ?_
                refine xn_iald hM hW.1 2 rfl (by omega) (by omega) d_Mod_mark_103 ?_
                refine lv_iload hx hb d_Mod_mark_104 (lv_at hl 5 rfl) ?_
                refine lv_iand hx hb d_Mod_mark_106 ?_
                refine lv_iload hx hb d_Mod_mark_107 (lv_at hl 4 rfl) ?_
                refine lv_ior hx hb d_Mod_mark_109 ?_
                refine xn_iast hM hW 2 rfl (by omega) (by omega) d_Mod_mark_110 (fun H locs hW => ?_)
                have hW : xW D A s.heap [(m0, .inr (3, [.int (nI 0), .int (nI cnt3), .ref as_, .ref af])), (as_, .inl (cI, 9000, .inl st3)), (af, .inl (cI, 72000, .inl (upd fs4 ((8 * k) + fd) (((fs4 ((8 * k) + fd)) &&& z5) ||| z4))))] H locs := hW
                refine lv_iinc (lv' := [(6, .int (nI (k + 1))), (0, .ref m0), (1, .int (nI pa)), (2, .int (nI pb)), (3, .int (nI fd)), (4, .int z4), (5, .int z5)]) (v := nI (k + 1)) hx hb d_Mod_mark_111 hl (k := 6) rfl (nI_inc k) (by decide) rfl (fun ls hl => ?_)
                refine lv_goto (tgt := 61) hx hb d_Mod_mark_114 (by decide) ?_
                have hl : lv_has ls 7 [(0, .ref m0), (1, .int (nI pa)), (2, .int (nI pb)), (3, .int (nI fd)), (4, .int z4), (5, .int z5), (6, .int (nI (k + 1)))] := lv_sub hl [1, 2, 3, 4, 5, 6, 0] rfl
                refine ih (cnt3 - (k + 1)) (by omega) (k + 1) _ ls H locs rfl (by omega) (by omega) (fun y h1 h2 => ?_) (fun y h1 h2 i hi => ?_) (fun y h1 i hi => ?_) hl hW
                · by_cases e1 : y = k
                  · rw [e1]; exact hle3
                  · exact i1 y h1 (by omega)
                · by_cases e1 : y = k
                  · subst e1
                    unfold chg
                    by_cases e2 : i = fd
                    · rw [e2, pk_us, pk_us, i3 y (Or.inr (Nat.le_refl _)) fd hfd]
                    · rw [pk_un (by omega), pk_un e2]; exact i3 y (Or.inr (Nat.le_refl _)) i hi
                  · rw [pk_un (by omega)]; exact i2 y h1 (by omega) i hi
                · rw [pk_un (by omega)]; exact i3 y (by omega) i hi
          · have hl : lv_has ls 7 [(0, .ref m0)] := lv_sub hl [0] rfl
            exact fl_ ls (fun ⟨pa2, pb2, fd, e1, e2, e3, h1, h2, h3⟩ => hgt7 (okF.hi ⟨fd, h3, e3⟩)) hl
abbrev rm_mset : Room := { frames := 3, cells := 0, slots := 0, locals := 74 }
set_option maxHeartbeats 4000000 in
set_option maxRecDepth 100000 in
/-- Model.set -/
theorem c_mset (l : Launch) (D : va_G) (cI cL : ClassId) (m0 as_ af cnt : Nat) (fl : Value) (st fs : Nat → Int32) (sN : Nat → Nat) (g : Nat → Nat → Int32) (hI : MI g st fs sN cnt) (hc : cnt ≤ 8000) (z1 z2 z3 z4 : Int32) : CT l D cI cL y_Mod_set (xws y_Mod_set b_Mod_set 5 (some .int)) rm_mset [.ref m0, .int z1, .int z2, .int z3, .int z4] (wMod cI m0 as_ af fl cnt st fs) (fun v k z w1 => k = 0 ∧ z = 0 ∧ ((∃ (pa pb fd cnt2 : Nat) (st2 fs2 : Nat → Int32) (sN2 : Nat → Nat), z1 = nI pa ∧ z2 = nI pb ∧ z3 = nI fd ∧ pa ≤ pb ∧ pb < 1114112 ∧ fd < 8 ∧ v = some (.int (nI (pb - pa + 1))) ∧ MI (gset g pa (pb + 1) fd z4 (nI 0)) st2 fs2 sN2 cnt2 ∧ cnt2 ≤ cnt + 2 ∧ w1 = wMod cI m0 as_ af (.int (nI 0)) cnt2 st2 fs2) ∨ (¬ okM z1 z2 z3 ∧ v = some (.int (nI 0)) ∧ w1 = wMod cI m0 as_ af (.int (nI 1)) cnt st fs))) := by
  refine CT.ofI (own := R_Mod) (cc := b_Mod_set) (nL := 5) (by decide) rfl (Nat.le_of_ble_eq_true rfl) ?_
  intro p e s m args below meth c A Q ls hM hl hW hnm RET
  have hx := hM.1
  have hb := hM.2.1
  have hl : lv_has ls 5 [(0, .ref m0), (1, .int z1), (2, .int z2), (3, .int z3), (4, .int z4)] := hl
  have hW : xW D A s.heap [(m0, .inr (3, [fl, .int (nI cnt), .ref as_, .ref af])), (as_, .inl (cI, 9000, .inl st)), (af, .inl (cI, 72000, .inl fs))] s.heap [] := hW
  refine lv_aload_n hx hb d_Mod_set_0 rfl (lv_at hl 0 rfl) ?_
  refine lv_iload_n hx hb d_Mod_set_1 rfl (lv_at hl 1 rfl) ?_
  refine lv_iload_n hx hb d_Mod_set_2 rfl (lv_at hl 2 rfl) ?_
  refine lv_iload_n hx hb d_Mod_set_3 rfl (lv_at hl 3 rfl) ?_
  refine lv_iload hx hb d_Mod_set_4 (lv_at hl 4 rfl) ?_
  refine lv_iconst (v := nI 0) hx hb d_Mod_set_6 (by decide) ?_
  refine x_callVT (rest := []) hM (c_mmark l D cI cL m0 as_ af cnt fl st fs sN g hI hc z1 z2 z3 z4 (nI 0)) cb_Mod_mark cv_Mod_29 ⟨Nat.le_of_ble_eq_true rfl, Nat.le_of_ble_eq_true rfl⟩ ⟨Nat.le_of_ble_eq_true rfl, Nat.le_of_ble_eq_true rfl⟩ hW [0, 1, 2] [] (by decide) rfl (wr := []) rfl (by decide) (by decide) 0 rfl rfl rfl hl.1 rfl (Nat.le_of_ble_eq_true rfl) d_Mod_set_7 (fun v k z w1 H locs hv hW => ?_)
  obtain ⟨rfl, rfl, h | ⟨h1, rfl, rfl⟩⟩ := hv
  · obtain ⟨pa, pb, fd, cnt2, st2, fs2, sN2, h1, h2, h3, h4, h5, h6, rfl, h8, h9, rfl⟩ := h
    refine W.eq (g2 := F0 m 10 ls [.int (nI (pb - pa + 1))]) rfl ?_
    exact RET (w1 := wMod cI m0 as_ af (.int (nI 0)) cnt2 st2 fs2) hW ⟨rfl, rfl, Or.inl ⟨pa, pb, fd, cnt2, st2, fs2, sN2, h1, h2, h3, h4, h5, h6, rfl, h8, h9, rfl⟩⟩ d_Mod_set_10
  · refine W.eq (g2 := F0 m 10 ls [.int (nI 0)]) rfl ?_
    exact RET (w1 := wMod cI m0 as_ af (.int (nI 1)) cnt st fs) hW ⟨rfl, rfl, Or.inr ⟨h1, rfl, rfl⟩⟩ d_Mod_set_10
abbrev rm_mget : Room := { frames := 1, cells := 0, slots := 0, locals := 24 }
set_option maxHeartbeats 4000000 in
set_option maxRecDepth 100000 in
/-- Model.get -/
theorem c_mget (l : Launch) (D : va_G) (cI cL : ClassId) (m0 as_ af cnt : Nat) (fl : Value) (st fs : Nat → Int32) (sN : Nat → Nat) (g : Nat → Nat → Int32) (hI : MI g st fs sN cnt) (hc : cnt ≤ 8000) (z1 z2 : Int32) : CT l D cI cL y_Mod_get (xws y_Mod_get b_Mod_get 3 (some .int)) rm_mget [.ref m0, .int z1, .int z2] (wMod cI m0 as_ af fl cnt st fs) (fun v k z w1 => k = 0 ∧ z = 0 ∧ ((∃ pt fd : Nat, z1 = nI pt ∧ z2 = nI fd ∧ pt < 1114112 ∧ fd < 8 ∧ v = some (.int (g pt fd)) ∧ w1 = wMod cI m0 as_ af (.int (nI 0)) cnt st fs) ∨ (¬ (okP z1 ∧ okF z2) ∧ v = some (.int (nI 0)) ∧ w1 = wMod cI m0 as_ af (.int (nI 1)) cnt st fs))) := by
  refine CT.ofI (own := R_Mod) (cc := b_Mod_get) (nL := 3) (by decide) rfl (Nat.le_of_ble_eq_true rfl) ?_
  intro p e s m args below meth c A Q ls hM hl hW hnm RET
  have hx := hM.1
  have hb := hM.2.1
  have hl : lv_has ls 3 [(0, .ref m0), (1, .int z1), (2, .int z2)] := hl
  have hW : xW D A s.heap [(m0, .inr (3, [fl, .int (nI cnt), .ref as_, .ref af])), (as_, .inl (cI, 9000, .inl st)), (af, .inl (cI, 72000, .inl fs))] s.heap [] := hW
  have hI0 := hI
  refine lv_aload_n hx hb d_Mod_get_0 rfl (lv_at hl 0 rfl) ?_
  refine lv_iconst (v := nI 0) hx hb d_Mod_get_1 (by decide) ?_
  refine pf_Mod_21 hM hW 0 rfl (Nat.le_of_ble_eq_true rfl) d_Mod_get_2 (fun H locs hW => ?_)
  have hW : xW D A s.heap [(m0, .inr (3, [.int (nI 0), .int (nI cnt), .ref as_, .ref af])), (as_, .inl (cI, 9000, .inl st)), (af, .inl (cI, 72000, .inl fs))] H locs := hW
  have fl_ : ∀ (ls : Array Slot), ¬ (okP z1 ∧ okF z2) → lv_has ls 3 [(0, .ref m0)] → W p l e rm_mget s m args below meth c H locs 0 0 Q (F0 m 23 ls []) := by
    intro ls hbad hl
    refine lv_aload_n hx hb d_Mod_get_23 rfl (lv_at hl 0 rfl) ?_
    refine lv_iconst (v := nI 1) hx hb d_Mod_get_24 (by decide) ?_
    refine x_callVT (rest := []) hM (c_fail l D cI cL m0 (nI 1) (.int (nI 0)) (.int (nI cnt)) (.ref as_) (.ref af)) cb_Mod_fail cv_Mod_37 ⟨Nat.le_of_ble_eq_true rfl, Nat.le_of_ble_eq_true rfl⟩ ⟨Nat.le_of_ble_eq_true rfl, Nat.le_of_ble_eq_true rfl⟩ hW [0] [1, 2] (by decide) rfl (wr := [(as_, .inl (cI, 9000, .inl st)), (af, .inl (cI, 72000, .inl fs))]) rfl (by decide) (by decide) 0 rfl rfl rfl hl.1 rfl (Nat.le_of_ble_eq_true rfl) d_Mod_get_25 (fun v k z w1 H locs hv hW => ?_)
    obtain ⟨rfl, rfl, rfl, rfl⟩ := hv
    have hW : xW D A s.heap [(m0, .inr (3, [.int (nI 1), .int (nI cnt), .ref as_, .ref af])), (as_, .inl (cI, 9000, .inl st)), (af, .inl (cI, 72000, .inl fs))] H locs := hW.sub [2, 0, 1] (by decide) rfl
    refine W.eq (g2 := F0 m 28 ls [.int (nI 0)]) rfl ?_
    refine lv_goto (tgt := 46) hx hb d_Mod_get_28 (by decide) ?_
    exact RET (w1 := wMod cI m0 as_ af (.int (nI 1)) cnt st fs) hW ⟨rfl, rfl, Or.inr ⟨hbad, rfl, rfl⟩⟩ d_Mod_get_46
  refine lv_aload_n hx hb d_Mod_get_5 rfl (lv_at hl 0 rfl) ?_
  refine lv_iload_n hx hb d_Mod_get_6 rfl (lv_at hl 1 rfl) ?_
  refine x_callVP (rest := []) hM (c_out l D cI cL m0 z1) cb_Mod_out cv_Mod_33 ⟨Nat.le_of_ble_eq_true rfl, Nat.le_of_ble_eq_true rfl⟩ ⟨Nat.le_of_ble_eq_true rfl, Nat.le_of_ble_eq_true rfl⟩ hW.1 [] rfl 0 rfl rfl rfl hl.1 rfl (Nat.le_of_ble_eq_true rfl) d_Mod_get_7 (fun v hv => ?_)
  obtain ⟨b1, rfl, hb11, hb1⟩ := hv
  refine W.eq (g2 := F0 m 10 ls [.int (nI b1)]) rfl ?_
  refine xn_ifne (tgt := 23) hx hb (by omega) d_Mod_get_10 (by decide) (fun hq1_ => ?_) (fun hq1_ => ?_)
  · have hl : lv_has ls 3 [(0, .ref m0)] := lv_sub hl [0] rfl
    exact fl_ ls (fun h => hq1_ (hb1.mpr h.1)) hl
  · obtain ⟨pt, hpt, rfl⟩ := hb1.mp hq1_
    refine lv_iload_n hx hb d_Mod_get_13 rfl (lv_at hl 2 rfl) ?_
    refine lv_if_lt (tgt := 23) hx hb d_Mod_get_14 (by decide) (fun hneg => ?_) (fun hpos => ?_)
    · have hl : lv_has ls 3 [(0, .ref m0)] := lv_sub hl [0] rfl
      exact fl_ ls (fun h => h.2.lo hneg) hl
    · refine lv_iload_n hx hb d_Mod_get_17 rfl (lv_at hl 2 rfl) ?_
      refine lv_bipush (v := nI 7) hx hb d_Mod_get_18 (by decide) ?_
      refine lv_icmp_le (tgt := 31) hx hb d_Mod_get_20 (by decide) (fun hle7 => ?_) (fun hgt7 => ?_)
      · obtain ⟨fd, hfd, rfl⟩ := okF_of hpos hle7
        refine lv_aload_n hx hb d_Mod_get_31 rfl (lv_at hl 0 rfl) ?_
        refine gf_Mod_18 hM hW.1 0 rfl rfl d_Mod_get_32 ?_
        refine lv_bipush (v := nI 8) hx hb d_Mod_get_35 (by decide) ?_
        refine lv_aload_n hx hb d_Mod_get_37 rfl (lv_at hl 0 rfl) ?_
        refine lv_iload_n hx hb d_Mod_get_38 rfl (lv_at hl 1 rfl) ?_
        refine x_callVP (rest := [.int (nI 8), .ref af]) hM (c_at l D cI cL m0 as_ cnt pt (.int (nI 0)) (.ref af) st sN hI0.1 (by omega) (by omega)) cb_Mod_at cv_Mod_25 ⟨Nat.le_of_ble_eq_true rfl, Nat.le_of_ble_eq_true rfl⟩ ⟨Nat.le_of_ble_eq_true rfl, Nat.le_of_ble_eq_true rfl⟩ hW.1 [0, 1] rfl 0 rfl rfl rfl hl.1 rfl (Nat.le_of_ble_eq_true rfl) d_Mod_get_39 (fun v hv => ?_)
        obtain ⟨k, rfl, hk⟩ := hv
        have hk1 := hk.1
        refine W.eq (g2 := F0 m 42 ls [.int (nI k), .int (nI 8), .ref af]) rfl ?_
        refine xn_imul hx hb d_Mod_get_42 ?_
        refine lv_iload_n hx hb d_Mod_get_43 rfl (lv_at hl 2 rfl) ?_
        refine xn_iadd hx hb d_Mod_get_44 ?_
        refine xn_iald hM hW.1 2 rfl (by omega) (by omega) d_Mod_get_45 ?_
        refine xn_top (show fs ((8 * k) + fd) = g pt fd from hI0.2 pt hpt k hk fd hfd) ?_
        exact RET (w1 := wMod cI m0 as_ af (.int (nI 0)) cnt st fs) hW ⟨rfl, rfl, Or.inl ⟨pt, fd, rfl, rfl, hpt, hfd, rfl, rfl⟩⟩ d_Mod_get_46
      · have hl : lv_has ls 3 [(0, .ref m0)] := lv_sub hl [0] rfl
        exact fl_ ls (fun h => hgt7 h.2.hi) hl
set_option maxHeartbeats 4000000 in
set_option maxRecDepth 100000 in
/-- Model.change -/
theorem c_mchange (l : Launch) (D : va_G) (cI cL : ClassId) (m0 as_ af cnt : Nat) (fl : Value) (st fs : Nat → Int32) (sN : Nat → Nat) (g : Nat → Nat → Int32) (hI : MI g st fs sN cnt) (hc : cnt ≤ 8000) (z1 z2 : Int32) : CT l D cI cL y_Mod_change (xws y_Mod_change b_Mod_change 5 (some .int)) rm_mget [.ref m0, .int z1, .int z2] (wMod cI m0 as_ af fl cnt st fs) (fun v k z w1 => k = 0 ∧ z = 0 ∧ ((∃ (pt fd : Nat) (y : Int32), z1 = nI pt ∧ z2 = nI fd ∧ pt < 1114112 ∧ fd < 8 ∧ v = some (.int y) ∧ isChange g pt fd y ∧ w1 = wMod cI m0 as_ af (.int (nI 0)) cnt st fs) ∨ (¬ (okP z1 ∧ okF z2) ∧ v = some (.int (nI 0)) ∧ w1 = wMod cI m0 as_ af (.int (nI 1)) cnt st fs))) := by
  refine CT.ofI (own := R_Mod) (cc := b_Mod_change) (nL := 5) (by decide) rfl (Nat.le_of_ble_eq_true rfl) ?_
  intro p e s m args below meth c A Q ls hM hl hW hnm RET
  have hx := hM.1
  have hb := hM.2.1
  have hl : lv_has ls 5 [(0, .ref m0), (1, .int z1), (2, .int z2)] := hl
  have hW : xW D A s.heap [(m0, .inr (3, [fl, .int (nI cnt), .ref as_, .ref af])), (as_, .inl (cI, 9000, .inl st)), (af, .inl (cI, 72000, .inl fs))] s.heap [] := hW
  have hI0 := hI
  refine lv_aload_n hx hb d_Mod_change_0 rfl (lv_at hl 0 rfl) ?_
  refine lv_iconst (v := nI 0) hx hb d_Mod_change_1 (by decide) ?_
  refine pf_Mod_21 hM hW 0 rfl (Nat.le_of_ble_eq_true rfl) d_Mod_change_2 (fun H locs hW => ?_)
  have hW : xW D A s.heap [(m0, .inr (3, [.int (nI 0), .int (nI cnt), .ref as_, .ref af])), (as_, .inl (cI, 9000, .inl st)), (af, .inl (cI, 72000, .inl fs))] H locs := hW
  have fl_ : ∀ (ls : Array Slot), ¬ (okP z1 ∧ okF z2) → lv_has ls 5 [(0, .ref m0)] → W p l e rm_mget s m args below meth c H locs 0 0 Q (F0 m 23 ls []) := by
    intro ls hbad hl
    refine lv_aload_n hx hb d_Mod_change_23 rfl (lv_at hl 0 rfl) ?_
    refine lv_iconst (v := nI 1) hx hb d_Mod_change_24 (by decide) ?_
    refine x_callVT (rest := []) hM (c_fail l D cI cL m0 (nI 1) (.int (nI 0)) (.int (nI cnt)) (.ref as_) (.ref af)) cb_Mod_fail cv_Mod_37 ⟨Nat.le_of_ble_eq_true rfl, Nat.le_of_ble_eq_true rfl⟩ ⟨Nat.le_of_ble_eq_true rfl, Nat.le_of_ble_eq_true rfl⟩ hW [0] [1, 2] (by decide) rfl (wr := [(as_, .inl (cI, 9000, .inl st)), (af, .inl (cI, 72000, .inl fs))]) rfl (by decide) (by decide) 0 rfl rfl rfl hl.1 rfl (Nat.le_of_ble_eq_true rfl) d_Mod_change_25 (fun v k z w1 H locs hv hW => ?_)
    obtain ⟨rfl, rfl, rfl, rfl⟩ := hv
    have hW : xW D A s.heap [(m0, .inr (3, [.int (nI 1), .int (nI cnt), .ref as_, .ref af])), (as_, .inl (cI, 9000, .inl st)), (af, .inl (cI, 72000, .inl fs))] H locs := hW.sub [2, 0, 1] (by decide) rfl
    refine W.eq (g2 := F0 m 28 ls [.int (nI 0)]) rfl ?_
    exact RET (w1 := wMod cI m0 as_ af (.int (nI 1)) cnt st fs) hW ⟨rfl, rfl, Or.inr ⟨hbad, rfl, rfl⟩⟩ d_Mod_change_28
  refine lv_aload_n hx hb d_Mod_change_5 rfl (lv_at hl 0 rfl) ?_
  refine lv_iload_n hx hb d_Mod_change_6 rfl (lv_at hl 1 rfl) ?_
  refine x_callVP (rest := []) hM (c_out l D cI cL m0 z1) cb_Mod_out cv_Mod_33 ⟨Nat.le_of_ble_eq_true rfl, Nat.le_of_ble_eq_true rfl⟩ ⟨Nat.le_of_ble_eq_true rfl, Nat.le_of_ble_eq_true rfl⟩ hW.1 [] rfl 0 rfl rfl rfl hl.1 rfl (Nat.le_of_ble_eq_true rfl) d_Mod_change_7 (fun v hv => ?_)
  obtain ⟨b1, rfl, hb11, hb1⟩ := hv
  refine W.eq (g2 := F0 m 10 ls [.int (nI b1)]) rfl ?_
  refine xn_ifne (tgt := 23) hx hb (by omega) d_Mod_change_10 (by decide) (fun hq1_ => ?_) (fun hq1_ => ?_)
  · have hl : lv_has ls 5 [(0, .ref m0)] := lv_sub hl [0] rfl
    exact fl_ ls (fun h => hq1_ (hb1.mpr h.1)) hl
  · obtain ⟨pt, hpt, rfl⟩ := hb1.mp hq1_
    refine lv_iload_n hx hb d_Mod_change_13 rfl (lv_at hl 2 rfl) ?_
    refine lv_if_lt (tgt := 23) hx hb d_Mod_change_14 (by decide) (fun hneg => ?_) (fun hpos => ?_)
    · have hl : lv_has ls 5 [(0, .ref m0)] := lv_sub hl [0] rfl
      exact fl_ ls (fun h => h.2.lo hneg) hl
    · refine lv_iload_n hx hb d_Mod_change_17 rfl (lv_at hl 2 rfl) ?_
      refine lv_bipush (v := nI 7) hx hb d_Mod_change_18 (by decide) ?_
      refine lv_icmp_le (tgt := 29) hx hb d_Mod_change_20 (by decide) (fun hle7 => ?_) (fun hgt7 => ?_)
      · obtain ⟨fd, hfd, rfl⟩ := okF_of hpos hle7
        refine lv_aload_n hx hb d_Mod_change_29 rfl (lv_at hl 0 rfl) ?_
        refine lv_iload_n hx hb d_Mod_change_30 rfl (lv_at hl 1 rfl) ?_
        refine x_callVP (rest := []) hM (c_at l D cI cL m0 as_ cnt pt (.int (nI 0)) (.ref af) st sN hI0.1 (by omega) (by omega)) cb_Mod_at cv_Mod_25 ⟨Nat.le_of_ble_eq_true rfl, Nat.le_of_ble_eq_true rfl⟩ ⟨Nat.le_of_ble_eq_true rfl, Nat.le_of_ble_eq_true rfl⟩ hW.1 [0, 1] rfl 0 rfl rfl rfl hl.1 rfl (Nat.le_of_ble_eq_true rfl) d_Mod_change_31 (fun v hv => ?_)
        obtain ⟨k0, rfl, hk0⟩ := hv
        have hk01 := hk0.1
        refine W.eq (g2 := F0 m 34 ls [.int (nI k0)]) rfl ?_
        refine lv_istore_n (lv' := [(3, .int (nI k0)), (0, .ref m0), (1, .int (nI pt)), (2, .int (nI fd))]) hx hb d_Mod_change_34 rfl hl (by decide) rfl (fun ls hl => ?_)
        refine lv_aload_n hx hb d_Mod_change_35 rfl (lv_at hl 1 rfl) ?_
        refine gf_Mod_18 hM hW.1 0 rfl rfl d_Mod_change_36 ?_
        refine lv_bipush (v := nI 8) hx hb d_Mod_change_39 (by decide) ?_
        refine lv_iload_n hx hb d_Mod_change_41 rfl (lv_at hl 0 rfl) ?_
        refine xn_imul hx hb d_Mod_change_42 ?_
        refine lv_iload_n hx hb d_Mod_change_43 rfl (lv_at hl 3 rfl) ?_
        refine xn_iadd hx hb d_Mod_change_44 ?_
        refine xn_iald hM hW.1 2 rfl (by omega) (by omega) d_Mod_change_45 ?_
        refine xn_top (show fs ((8 * k0) + fd) = g pt fd from hI0.2 pt hpt k0 hk0 fd hfd) ?_
        refine lv_istore (lv' := [(4, .int (g pt fd)), (3, .int (nI k0)), (0, .ref m0), (1, .int (nI pt)), (2, .int (nI fd))]) hx hb d_Mod_change_46 hl (by decide) rfl (fun ls hl => ?_)
        have hl : lv_has ls 5 [(0, .ref m0), (1, .int (nI pt)), (2, .int (nI fd)), (3, .int (nI k0)), (4, .int (g pt fd))] := lv_sub hl [2, 3, 4, 1, 0] rfl
        obtain ⟨hL, hgI⟩ := hI
        have hmono := hL.2.2.2
        have hst := hL.2.2.1
        suffices loop : ∀ (u k : Nat) (ls : Array Slot), cnt - k = u → k0 ≤ k → k ≤ cnt → (∀ x, k0 ≤ x → x < k → fs (8 * x + fd) = g pt fd) → lv_has ls 5 [(0, .ref m0), (1, .int (nI pt)), (2, .int (nI fd)), (3, .int (nI k)), (4, .int (g pt fd))] → W p l e rm_mget s m args below meth c H locs 0 0 Q (F0 m 48 ls []) from
          loop _ k0 ls rfl (Nat.le_refl _) (by omega) (fun x h1 h2 => absurd h2 (by omega)) hl
        intro u
        induction u using Nat.strongRecOn with | ind u ih => ?_
        intro k ls hu hk1 hk2 i1 hl
        have mid : ∀ y, pt ≤ y → y < 1114112 → (k < cnt → y < sN k) → g y fd = g pt fd := by
          intro y h1 h2 h3
          obtain ⟨x, hx⟩ := AtP.ex hL y
          obtain ⟨x1, x2, x3⟩ := id hx
          have hx0 : k0 ≤ x := by
            rcases Nat.lt_or_ge x k0 with h | h
            · have := x3 k0 h hk01; have := hk0.2.1; omega
            · exact h
          have hxk : x < k := by
            rcases Nat.lt_or_ge x k with h | h
            · exact h
            · exfalso
              have hkc : k < cnt := by omega
              have h4 := h3 hkc
              rcases Nat.eq_or_lt_of_le h with e1 | e1
              · subst e1; omega
              · have := hmono k x e1 x1; omega
          rw [← hgI y h2 x hx fd hfd]; exact i1 x hx0 hxk
        have fin : (∀ h : k < cnt, fs (8 * k + fd) ≠ g pt fd) → ∀ (ls : Array Slot), lv_has ls 5 [(0, .ref m0), (1, .int (nI pt)), (2, .int (nI fd)), (3, .int (nI k)), (4, .int (g pt fd))] → W p l e rm_mget s m args below meth c H locs 0 0 Q (F0 m 78 ls []) := by
          intro hend ls hl
          refine lv_iload_n hx hb d_Mod_change_78 rfl (lv_at hl 3 rfl) ?_
          refine lv_aload_n hx hb d_Mod_change_79 rfl (lv_at hl 0 rfl) ?_
          refine gf_Mod_7 hM hW.1 0 rfl rfl d_Mod_change_80 ?_
          refine xn_ne (tgt := 90) hx hb (by omega) (by omega) d_Mod_change_83 (by decide) (fun hne5 => ?_) (fun heq5 => ?_)
          · have hkc : k < cnt := by omega
            have hsk := hst k hkc
            refine lv_aload_n hx hb d_Mod_change_90 rfl (lv_at hl 0 rfl) ?_
            refine gf_Mod_13 hM hW.1 0 rfl rfl d_Mod_change_91 ?_
            refine lv_iload_n hx hb d_Mod_change_94 rfl (lv_at hl 3 rfl) ?_
            refine xn_iald hM hW.1 1 rfl (by omega) (by omega) d_Mod_change_95 ?_
            refine xn_top (show st k = nI (sN k) from hsk.1) ?_
            have hk0k : k0 < k := by
              rcases Nat.eq_or_lt_of_le hk1 with e1 | e1
              · exact absurd (by rw [← e1]; exact hgI pt hpt k0 hk0 fd hfd) (hend hkc)
              · exact e1
            have hatk : AtP sN cnt (sN k) k := ⟨hkc, Nat.le_refl _, fun j h1 h2 => hmono k j h1 h2⟩
            exact RET (w1 := wMod cI m0 as_ af (.int (nI 0)) cnt st fs) hW ⟨rfl, rfl, Or.inl ⟨pt, fd, nI (sN k), rfl, rfl, hpt, hfd, rfl, Or.inl ⟨sN k, hk0.2.2 k hk0k hkc, hsk.2, rfl, by rw [← hgI (sN k) hsk.2 k hatk fd hfd]; exact hend hkc, fun y h1 h2 => mid y h1 (by have := hsk.2; omega) (fun _ => h2)⟩, rfl⟩⟩ d_Mod_change_96
          · refine lv_iconst (v := -1) hx hb d_Mod_change_86 (by decide) ?_
            refine lv_goto (tgt := 96) hx hb d_Mod_change_87 (by decide) ?_
            exact RET (w1 := wMod cI m0 as_ af (.int (nI 0)) cnt st fs) hW ⟨rfl, rfl, Or.inl ⟨pt, fd, -1, rfl, rfl, hpt, hfd, rfl, Or.inr ⟨rfl, fun y h1 h2 => mid y h1 h2 (fun h => by omega)⟩, rfl⟩⟩ d_Mod_change_96
        refine lv_iload_n hx hb d_Mod_change_48 rfl (lv_at hl 3 rfl) ?_
        refine lv_aload_n hx hb d_Mod_change_49 rfl (lv_at hl 0 rfl) ?_
        refine gf_Mod_7 hM hW.1 0 rfl rfl d_Mod_change_50 ?_
        refine xn_ge (tgt := 78) hx hb (by omega) (by omega) d_Mod_change_53 (by decide) (fun hge => ?_) (fun hlt => ?_)
        · exact fin (fun h => by omega) ls hl
        · refine lv_aload_n hx hb d_Mod_change_56 rfl (lv_at hl 0 rfl) ?_
          refine gf_Mod_18 hM hW.1 0 rfl rfl d_Mod_change_57 ?_
          refine lv_bipush (v := nI 8) hx hb d_Mod_change_60 (by decide) ?_
          refine lv_iload_n hx hb d_Mod_change_62 rfl (lv_at hl 3 rfl) ?_
          refine xn_imul hx hb d_Mod_change_63 ?_
          refine lv_iload_n hx hb d_Mod_change_64 rfl (lv_at hl 2 rfl) ?_
          refine xn_iadd hx hb d_Mod_change_65 ?_
          refine xn_iald hM hW.1 2 rfl (by omega) (by omega) d_Mod_change_66 ?_
          refine lv_iload hx hb d_Mod_change_67 (lv_at hl 4 rfl) ?_
          refine lv_icmp_ne (tgt := 78) hx hb d_Mod_change_69 (by decide) (fun hne => ?_) (fun heq => ?_)
          · exact fin (fun _ => hne) ls hl
          · refine lv_iinc (lv' := [(3, .int (nI (k + 1))), (0, .ref m0), (1, .int (nI pt)), (2, .int (nI fd)), (4, .int (g pt fd))]) (v := nI (k + 1)) hx hb d_Mod_change_72 hl (k := 3) rfl (nI_inc k) (by decide) rfl (fun ls hl => ?_)
            refine lv_goto (tgt := 48) hx hb d_Mod_change_75 (by decide) ?_
            have hl : lv_has ls 5 [(0, .ref m0), (1, .int (nI pt)), (2, .int (nI fd)), (3, .int (nI (k + 1))), (4, .int (g pt fd))] := lv_sub hl [1, 2, 3, 0, 4] rfl
            refine ih (cnt - (k + 1)) (by omega) (k + 1) ls rfl (by omega) (by omega) (fun x h1 h2 => ?_) hl
            by_cases e1 : x = k
            · rw [e1]; exact heq
            · exact i1 x h1 (by omega)
      · have hl : lv_has ls 5 [(0, .ref m0)] := lv_sub hl [0] rfl
        exact fl_ ls (fun h => hgt7 h.2.hi) hl
set_option maxHeartbeats 4000000 in
set_option maxRecDepth 100000 in
/-- Model.alike -/
theorem c_malike (l : Launch) (D : va_G) (cI cL : ClassId) (m0 as_ af cnt : Nat) (fl : Value) (st fs : Nat → Int32) (sN : Nat → Nat) (g : Nat → Nat → Int32) (hI : MI g st fs sN cnt) (hc : cnt ≤ 8000) (z1 z2 : Int32) : CT l D cI cL y_Mod_alike (xws y_Mod_alike b_Mod_alike 4 (some .boolean)) rm_mget [.ref m0, .int z1, .int z2] (wMod cI m0 as_ af fl cnt st fs) (fun v k z w1 => k = 0 ∧ z = 0 ∧ ((∃ (pa pb : Nat) (y : Int32), z1 = nI pa ∧ z2 = nI pb ∧ pa < 1114112 ∧ pb < 1114112 ∧ v = some (.int y) ∧ isAlike g pa pb y ∧ w1 = wMod cI m0 as_ af (.int (nI 0)) cnt st fs) ∨ (¬ (okP z1 ∧ okP z2) ∧ v = some (.int (nI 0)) ∧ w1 = wMod cI m0 as_ af (.int (nI 1)) cnt st fs))) := by
  refine CT.ofZ (own := R_Mod) (cc := b_Mod_alike) (nL := 4) (by decide) rfl (Nat.le_of_ble_eq_true rfl) ?_
  intro p e s m args below meth c A Q ls hM hl hW hnm RET
  have hx := hM.1
  have hb := hM.2.1
  have hl : lv_has ls 4 [(0, .ref m0), (1, .int z1), (2, .int z2)] := hl
  have hW : xW D A s.heap [(m0, .inr (3, [fl, .int (nI cnt), .ref as_, .ref af])), (as_, .inl (cI, 9000, .inl st)), (af, .inl (cI, 72000, .inl fs))] s.heap [] := hW
  have hI0 := hI
  refine lv_aload_n hx hb d_Mod_alike_0 rfl (lv_at hl 0 rfl) ?_
  refine lv_iconst (v := nI 0) hx hb d_Mod_alike_1 (by decide) ?_
  refine pf_Mod_21 hM hW 0 rfl (Nat.le_of_ble_eq_true rfl) d_Mod_alike_2 (fun H locs hW => ?_)
  have hW : xW D A s.heap [(m0, .inr (3, [.int (nI 0), .int (nI cnt), .ref as_, .ref af])), (as_, .inl (cI, 9000, .inl st)), (af, .inl (cI, 72000, .inl fs))] H locs := hW
  have fl_ : ∀ (ls : Array Slot), ¬ (okP z1 ∧ okP z2) → lv_has ls 4 [(0, .ref m0)] → W p l e rm_mget s m args below meth c H locs 0 0 Q (F0 m 21 ls []) := by
    intro ls hbad hl
    refine lv_aload_n hx hb d_Mod_alike_21 rfl (lv_at hl 0 rfl) ?_
    refine lv_iconst (v := nI 1) hx hb d_Mod_alike_22 (by decide) ?_
    refine x_callVT (rest := []) hM (c_fail l D cI cL m0 (nI 1) (.int (nI 0)) (.int (nI cnt)) (.ref as_) (.ref af)) cb_Mod_fail cv_Mod_37 ⟨Nat.le_of_ble_eq_true rfl, Nat.le_of_ble_eq_true rfl⟩ ⟨Nat.le_of_ble_eq_true rfl, Nat.le_of_ble_eq_true rfl⟩ hW [0] [1, 2] (by decide) rfl (wr := [(as_, .inl (cI, 9000, .inl st)), (af, .inl (cI, 72000, .inl fs))]) rfl (by decide) (by decide) 0 rfl rfl rfl hl.1 rfl (Nat.le_of_ble_eq_true rfl) d_Mod_alike_23 (fun v k z w1 H locs hv hW => ?_)
    obtain ⟨rfl, rfl, rfl, rfl⟩ := hv
    have hW : xW D A s.heap [(m0, .inr (3, [.int (nI 1), .int (nI cnt), .ref as_, .ref af])), (as_, .inl (cI, 9000, .inl st)), (af, .inl (cI, 72000, .inl fs))] H locs := hW.sub [2, 0, 1] (by decide) rfl
    refine W.eq (g2 := F0 m 26 ls [.int (nI 0)]) rfl ?_
    refine xn_ifle (tgt := 33) hx hb (by omega) d_Mod_alike_26 (by decide) (fun h_ => ?_) (fun h_ => ?_)
    · refine lv_iconst (v := nI 0) hx hb d_Mod_alike_33 (by decide) ?_
      exact RET (w1 := wMod cI m0 as_ af (.int (nI 1)) cnt st fs) hW ⟨rfl, rfl, Or.inr ⟨hbad, rfl, rfl⟩⟩ (Or.inl (by decide)) d_Mod_alike_34
    · exact absurd h_ (by decide)
  refine lv_aload_n hx hb d_Mod_alike_5 rfl (lv_at hl 0 rfl) ?_
  refine lv_iload_n hx hb d_Mod_alike_6 rfl (lv_at hl 1 rfl) ?_
  refine x_callVP (rest := []) hM (c_out l D cI cL m0 z1) cb_Mod_out cv_Mod_33 ⟨Nat.le_of_ble_eq_true rfl, Nat.le_of_ble_eq_true rfl⟩ ⟨Nat.le_of_ble_eq_true rfl, Nat.le_of_ble_eq_true rfl⟩ hW.1 [] rfl 0 rfl rfl rfl hl.1 rfl (Nat.le_of_ble_eq_true rfl) d_Mod_alike_7 (fun v hv => ?_)
  obtain ⟨b1, rfl, hb11, hb1⟩ := hv
  refine W.eq (g2 := F0 m 10 ls [.int (nI b1)]) rfl ?_
  refine xn_ifne (tgt := 21) hx hb (by omega) d_Mod_alike_10 (by decide) (fun hq1_ => ?_) (fun hq1_ => ?_)
  · have hl : lv_has ls 4 [(0, .ref m0)] := lv_sub hl [0] rfl
    exact fl_ ls (fun h => hq1_ (hb1.mpr h.1)) hl
  · obtain ⟨pa, hpa, rfl⟩ := hb1.mp hq1_
    refine lv_aload_n hx hb d_Mod_alike_13 rfl (lv_at hl 0 rfl) ?_
    refine lv_iload_n hx hb d_Mod_alike_14 rfl (lv_at hl 2 rfl) ?_
    refine x_callVP (rest := []) hM (c_out l D cI cL m0 z2) cb_Mod_out cv_Mod_33 ⟨Nat.le_of_ble_eq_true rfl, Nat.le_of_ble_eq_true rfl⟩ ⟨Nat.le_of_ble_eq_true rfl, Nat.le_of_ble_eq_true rfl⟩ hW.1 [] rfl 0 rfl rfl rfl hl.1 rfl (Nat.le_of_ble_eq_true rfl) d_Mod_alike_15 (fun v hv => ?_)
    obtain ⟨b2, rfl, hb21, hb2⟩ := hv
    refine W.eq (g2 := F0 m 18 ls [.int (nI b2)]) rfl ?_
    refine xn_ifeq (tgt := 35) hx hb (by omega) d_Mod_alike_18 (by decide) (fun hb2_ => ?_) (fun hb2_ => ?_)
    · obtain ⟨pb, hpb, rfl⟩ := hb2.mp hb2_
      refine lv_iconst (v := nI 0) hx hb d_Mod_alike_35 (by decide) ?_
      refine lv_istore_n (lv' := [(3, .int (nI 0)), (0, .ref m0), (1, .int (nI pa)), (2, .int (nI pb))]) hx hb d_Mod_alike_36 rfl hl (by decide) rfl (fun ls hl => ?_)
      have hl : lv_has ls 4 [(0, .ref m0), (1, .int (nI pa)), (2, .int (nI pb)), (3, .int (nI 0))] := lv_sub hl [1, 2, 3, 0] rfl
      suffices loop : ∀ (u f : Nat) (ls : Array Slot), 8 - f = u → f ≤ 8 → (∀ i, i < f → g pa i = g pb i) → lv_has ls 4 [(0, .ref m0), (1, .int (nI pa)), (2, .int (nI pb)), (3, .int (nI f))] → W p l e rm_mget s m args below meth c H locs 0 0 Q (F0 m 37 ls []) from
        loop _ 0 ls rfl (Nat.zero_le _) (fun x hx => absurd hx (Nat.not_lt_zero _)) hl
      intro u
      induction u using Nat.strongRecOn with | ind u ih => ?_
      intro f ls hu hf i1 hl
      refine lv_iload_n hx hb d_Mod_alike_37 rfl (lv_at hl 3 rfl) ?_
      refine lv_bipush (v := nI 8) hx hb d_Mod_alike_38 (by decide) ?_
      refine xn_ge (tgt := 84) hx hb (by omega) (by omega) d_Mod_alike_40 (by decide) (fun hge => ?_) (fun hlt => ?_)
      · refine lv_iconst (v := nI 1) hx hb d_Mod_alike_84 (by decide) ?_
        exact RET (w1 := wMod cI m0 as_ af (.int (nI 0)) cnt st fs) hW ⟨rfl, rfl, Or.inl ⟨pa, pb, nI 1, rfl, rfl, hpa, hpb, rfl, Or.inl ⟨rfl, fun i hi => i1 i (by omega)⟩, rfl⟩⟩ (Or.inr (by decide)) d_Mod_alike_85
      · refine lv_aload_n hx hb d_Mod_alike_43 rfl (lv_at hl 0 rfl) ?_
        refine gf_Mod_18 hM hW.1 0 rfl rfl d_Mod_alike_44 ?_
        refine lv_bipush (v := nI 8) hx hb d_Mod_alike_47 (by decide) ?_
        refine lv_aload_n hx hb d_Mod_alike_49 rfl (lv_at hl 0 rfl) ?_
        refine lv_iload_n hx hb d_Mod_alike_50 rfl (lv_at hl 1 rfl) ?_
        refine x_callVP (rest := [.int (nI 8), .ref af]) hM (c_at l D cI cL m0 as_ cnt pa (.int (nI 0)) (.ref af) st sN hI0.1 (by omega) (by omega)) cb_Mod_at cv_Mod_25 ⟨Nat.le_of_ble_eq_true rfl, Nat.le_of_ble_eq_true rfl⟩ ⟨Nat.le_of_ble_eq_true rfl, Nat.le_of_ble_eq_true rfl⟩ hW.1 [0, 1] rfl 0 rfl rfl rfl hl.1 rfl (Nat.le_of_ble_eq_true rfl) d_Mod_alike_51 (fun v hv => ?_)
        obtain ⟨ka, rfl, hka⟩ := hv
        have hka1 := hka.1
        refine W.eq (g2 := F0 m 54 ls [.int (nI ka), .int (nI 8), .ref af]) rfl ?_
        refine xn_imul hx hb d_Mod_alike_54 ?_
        refine lv_iload_n hx hb d_Mod_alike_55 rfl (lv_at hl 3 rfl) ?_
        refine xn_iadd hx hb d_Mod_alike_56 ?_
        refine xn_iald hM hW.1 2 rfl (by omega) (by omega) d_Mod_alike_57 ?_
        refine xn_top (show fs ((8 * ka) + f) = g pa f from hI0.2 pa hpa ka hka f hlt) ?_
        refine lv_aload_n hx hb d_Mod_alike_58 rfl (lv_at hl 0 rfl) ?_
        refine gf_Mod_18 hM hW.1 0 rfl rfl d_Mod_alike_59 ?_
        refine lv_bipush (v := nI 8) hx hb d_Mod_alike_62 (by decide) ?_
        refine lv_aload_n hx hb d_Mod_alike_64 rfl (lv_at hl 0 rfl) ?_
        refine lv_iload_n hx hb d_Mod_alike_65 rfl (lv_at hl 2 rfl) ?_
        refine x_callVP (rest := [.int (nI 8), .ref af, .int (g pa f)]) hM (c_at l D cI cL m0 as_ cnt pb (.int (nI 0)) (.ref af) st sN hI0.1 (by omega) (by omega)) cb_Mod_at cv_Mod_25 ⟨Nat.le_of_ble_eq_true rfl, Nat.le_of_ble_eq_true rfl⟩ ⟨Nat.le_of_ble_eq_true rfl, Nat.le_of_ble_eq_true rfl⟩ hW.1 [0, 1] rfl 0 rfl rfl rfl hl.1 rfl (Nat.le_of_ble_eq_true rfl) d_Mod_alike_66 (fun v hv => ?_)
        obtain ⟨kb, rfl, hkb⟩ := hv
        have hkb1 := hkb.1
        refine W.eq (g2 := F0 m 69 ls [.int (nI kb), .int (nI 8), .ref af, .int (g pa f)]) rfl ?_
        refine xn_imul hx hb d_Mod_alike_69 ?_
        refine lv_iload_n hx hb d_Mod_alike_70 rfl (lv_at hl 3 rfl) ?_
        refine xn_iadd hx hb d_Mod_alike_71 ?_
        refine xn_iald hM hW.1 2 rfl (by omega) (by omega) d_Mod_alike_72 ?_
        refine xn_top (show fs ((8 * kb) + f) = g pb f from hI0.2 pb hpb kb hkb f hlt) ?_
        refine lv_icmp_eq (tgt := 78) hx hb d_Mod_alike_73 (by decide) (fun heq => ?_) (fun hne => ?_)
        · refine lv_iinc (lv' := [(3, .int (nI (f + 1))), (0, .ref m0), (1, .int (nI pa)), (2, .int (nI pb))]) (v := nI (f + 1)) hx hb d_Mod_alike_78 hl (k := 3) rfl (nI_inc f) (by decide) rfl (fun ls hl => ?_)
          refine lv_goto (tgt := 37) hx hb d_Mod_alike_81 (by decide) ?_
          have hl : lv_has ls 4 [(0, .ref m0), (1, .int (nI pa)), (2, .int (nI pb)), (3, .int (nI (f + 1)))] := lv_sub hl [1, 2, 3, 0] rfl
          refine ih (8 - (f + 1)) (by omega) (f + 1) ls rfl (by omega) (fun i hi => ?_) hl
          by_cases e1 : i = f
          · rw [e1]; exact heq
          · exact i1 i (by omega)
        · refine lv_iconst (v := nI 0) hx hb d_Mod_alike_76 (by decide) ?_
          exact RET (w1 := wMod cI m0 as_ af (.int (nI 0)) cnt st fs) hW ⟨rfl, rfl, Or.inl ⟨pa, pb, nI 0, rfl, rfl, hpa, hpb, rfl, Or.inr ⟨rfl, fun h => hne (h f hlt)⟩, rfl⟩⟩ (Or.inl (by decide)) d_Mod_alike_77
    · have hl : lv_has ls 4 [(0, .ref m0)] := lv_sub hl [0] rfl
      exact fl_ ls (fun h => hb2_ (hb2.mpr h.2)) hl
set_option maxHeartbeats 4000000 in
set_option maxRecDepth 100000 in
/-- Model.hash -/
theorem c_mhash (l : Launch) (D : va_G) (cI cL : ClassId) (m0 as_ af cnt : Nat) (fl : Value) (st fs : Nat → Int32) (sN : Nat → Nat) (g : Nat → Nat → Int32) (hI : MI g st fs sN cnt) (hc : cnt ≤ 8000) (z1 z2 z3 : Int32) : CT l D cI cL y_Mod_hash (xws y_Mod_hash b_Mod_hash 6 (some .int)) rm_mget [.ref m0, .int z1, .int z2, .int z3] (wMod cI m0 as_ af fl cnt st fs) (fun v k z w1 => k = 0 ∧ z = 0 ∧ ((∃ pa pb fd : Nat, z1 = nI pa ∧ z2 = nI pb ∧ z3 = nI fd ∧ pa ≤ pb ∧ pb < 1114112 ∧ fd < 8 ∧ pb - pa ≤ 3999 ∧ v = some (.int (hF g pa fd (pb + 1 - pa))) ∧ w1 = wMod cI m0 as_ af (.int (nI 0)) cnt st fs) ∨ (¬ (okM z1 z2 z3 ∧ z2 - z1 ≤ nI 3999) ∧ v = some (.int (nI 0)) ∧ w1 = wMod cI m0 as_ af (.int (nI 1)) cnt st fs))) := by
  refine CT.ofI (own := R_Mod) (cc := b_Mod_hash) (nL := 6) (by decide) rfl (Nat.le_of_ble_eq_true rfl) ?_
  intro p e s m args below meth c A Q ls hM hl hW hnm RET
  have hx := hM.1
  have hb := hM.2.1
  have hl : lv_has ls 6 [(0, .ref m0), (1, .int z1), (2, .int z2), (3, .int z3)] := hl
  have hW : xW D A s.heap [(m0, .inr (3, [fl, .int (nI cnt), .ref as_, .ref af])), (as_, .inl (cI, 9000, .inl st)), (af, .inl (cI, 72000, .inl fs))] s.heap [] := hW
  have hI0 := hI
  refine lv_aload_n hx hb d_Mod_hash_0 rfl (lv_at hl 0 rfl) ?_
  refine lv_iconst (v := nI 0) hx hb d_Mod_hash_1 (by decide) ?_
  refine pf_Mod_21 hM hW 0 rfl (Nat.le_of_ble_eq_true rfl) d_Mod_hash_2 (fun H locs hW => ?_)
  have hW : xW D A s.heap [(m0, .inr (3, [.int (nI 0), .int (nI cnt), .ref as_, .ref af])), (as_, .inl (cI, 9000, .inl st)), (af, .inl (cI, 72000, .inl fs))] H locs := hW
  have fl_ : ∀ (ls : Array Slot), ¬ (okM z1 z2 z3 ∧ z2 - z1 ≤ nI 3999) → lv_has ls 6 [(0, .ref m0)] → W p l e rm_mget s m args below meth c H locs 0 0 Q (F0 m 45 ls []) := by
    intro ls hbad hl
    refine lv_aload_n hx hb d_Mod_hash_45 rfl (lv_at hl 0 rfl) ?_
    refine lv_iconst (v := nI 1) hx hb d_Mod_hash_46 (by decide) ?_
    refine x_callVT (rest := []) hM (c_fail l D cI cL m0 (nI 1) (.int (nI 0)) (.int (nI cnt)) (.ref as_) (.ref af)) cb_Mod_fail cv_Mod_37 ⟨Nat.le_of_ble_eq_true rfl, Nat.le_of_ble_eq_true rfl⟩ ⟨Nat.le_of_ble_eq_true rfl, Nat.le_of_ble_eq_true rfl⟩ hW [0] [1, 2] (by decide) rfl (wr := [(as_, .inl (cI, 9000, .inl st)), (af, .inl (cI, 72000, .inl fs))]) rfl (by decide) (by decide) 0 rfl rfl rfl hl.1 rfl (Nat.le_of_ble_eq_true rfl) d_Mod_hash_47 (fun v k z w1 H locs hv hW => ?_)
    obtain ⟨rfl, rfl, rfl, rfl⟩ := hv
    have hW : xW D A s.heap [(m0, .inr (3, [.int (nI 1), .int (nI cnt), .ref as_, .ref af])), (as_, .inl (cI, 9000, .inl st)), (af, .inl (cI, 72000, .inl fs))] H locs := hW.sub [2, 0, 1] (by decide) rfl
    refine W.eq (g2 := F0 m 50 ls [.int (nI 0)]) rfl ?_
    exact RET (w1 := wMod cI m0 as_ af (.int (nI 1)) cnt st fs) hW ⟨rfl, rfl, Or.inr ⟨hbad, rfl, rfl⟩⟩ d_Mod_hash_50
  refine lv_aload_n hx hb d_Mod_hash_5 rfl (lv_at hl 0 rfl) ?_
  refine lv_iload_n hx hb d_Mod_hash_6 rfl (lv_at hl 1 rfl) ?_
  refine x_callVP (rest := []) hM (c_out l D cI cL m0 z1) cb_Mod_out cv_Mod_33 ⟨Nat.le_of_ble_eq_true rfl, Nat.le_of_ble_eq_true rfl⟩ ⟨Nat.le_of_ble_eq_true rfl, Nat.le_of_ble_eq_true rfl⟩ hW.1 [] rfl 0 rfl rfl rfl hl.1 rfl (Nat.le_of_ble_eq_true rfl) d_Mod_hash_7 (fun v hv => ?_)
  obtain ⟨b1, rfl, hb11, hb1⟩ := hv
  refine W.eq (g2 := F0 m 10 ls [.int (nI b1)]) rfl ?_
  refine xn_ifne (tgt := 45) hx hb (by omega) d_Mod_hash_10 (by decide) (fun hq1_ => ?_) (fun hq1_ => ?_)
  · have hl : lv_has ls 6 [(0, .ref m0)] := lv_sub hl [0] rfl
    exact fl_ ls (fun ⟨⟨pa2, pb2, fd2, e1, e2, e3, h1, h2, h3⟩, h4⟩ => hq1_ (hb1.mpr ⟨pa2, by omega, e1⟩)) hl
  · have hok1 := hb1.mp hq1_
    refine lv_aload_n hx hb d_Mod_hash_13 rfl (lv_at hl 0 rfl) ?_
    refine lv_iload_n hx hb d_Mod_hash_14 rfl (lv_at hl 2 rfl) ?_
    refine x_callVP (rest := []) hM (c_out l D cI cL m0 z2) cb_Mod_out cv_Mod_33 ⟨Nat.le_of_ble_eq_true rfl, Nat.le_of_ble_eq_true rfl⟩ ⟨Nat.le_of_ble_eq_true rfl, Nat.le_of_ble_eq_true rfl⟩ hW.1 [] rfl 0 rfl rfl rfl hl.1 rfl (Nat.le_of_ble_eq_true rfl) d_Mod_hash_15 (fun v hv => ?_)
    obtain ⟨b2, rfl, hb21, hb2⟩ := hv
    refine W.eq (g2 := F0 m 18 ls [.int (nI b2)]) rfl ?_
    refine xn_ifne (tgt := 45) hx hb (by omega) d_Mod_hash_18 (by decide) (fun hb2_ => ?_) (fun hb2_ => ?_)
    · have hl : lv_has ls 6 [(0, .ref m0)] := lv_sub hl [0] rfl
      exact fl_ ls (fun ⟨⟨pa2, pb2, fd2, e1, e2, e3, h1, h2, h3⟩, h4⟩ => hb2_ (hb2.mpr ⟨pb2, by omega, e2⟩)) hl
    · have hok2 := hb2.mp hb2_
      obtain ⟨pa, hpa, rfl⟩ := hok1
      obtain ⟨pb, hpb, rfl⟩ := hok2
      refine lv_iload_n hx hb d_Mod_hash_21 rfl (lv_at hl 2 rfl) ?_
      refine lv_iload_n hx hb d_Mod_hash_22 rfl (lv_at hl 1 rfl) ?_
      refine xn_lt (tgt := 45) hx hb (by omega) (by omega) d_Mod_hash_23 (by decide) (fun hlt => ?_) (fun hge => ?_)
      · have hl : lv_has ls 6 [(0, .ref m0)] := lv_sub hl [0] rfl
        refine fl_ ls (fun ⟨⟨pa2, pb2, fd2, e1, e2, e3, h1, h2, h3⟩, h4⟩ => ?_) hl
        have e4 := (nI_eq (by omega) (by omega)).mp e1
        have e5 := (nI_eq (by omega) (by omega)).mp e2
        omega
      · refine lv_iload_n hx hb d_Mod_hash_26 rfl (lv_at hl 2 rfl) ?_
        refine lv_iload_n hx hb d_Mod_hash_27 rfl (lv_at hl 1 rfl) ?_
        refine xn_isub hx hb (by omega) d_Mod_hash_28 ?_
        refine lv_sipush (v := nI 3999) hx hb d_Mod_hash_29 (by decide) ?_
        refine xn_gt (tgt := 45) hx hb (by omega) (by omega) d_Mod_hash_32 (by decide) (fun hgt9 => ?_) (fun hle9 => ?_)
        · have hl : lv_has ls 6 [(0, .ref m0)] := lv_sub hl [0] rfl
          refine fl_ ls (fun ⟨⟨pa2, pb2, fd2, e1, e2, e3, h1, h2, h3⟩, h4⟩ => ?_) hl
          rw [pk_sub hge] at h4
          exact absurd ((nI_leI (by omega) (by omega)).mp h4) (by omega)
        · refine lv_iload_n hx hb d_Mod_hash_35 rfl (lv_at hl 3 rfl) ?_
          refine lv_if_lt (tgt := 45) hx hb d_Mod_hash_36 (by decide) (fun hneg => ?_) (fun hpos => ?_)
          · have hl : lv_has ls 6 [(0, .ref m0)] := lv_sub hl [0] rfl
            exact fl_ ls (fun ⟨⟨pa2, pb2, fd2, e1, e2, e3, h1, h2, h3⟩, h4⟩ => (okF.lo ⟨fd2, h3, e3⟩) hneg) hl
          · refine lv_iload_n hx hb d_Mod_hash_39 rfl (lv_at hl 3 rfl) ?_
            refine lv_bipush (v := nI 7) hx hb d_Mod_hash_40 (by decide) ?_
            refine lv_icmp_le (tgt := 51) hx hb d_Mod_hash_42 (by decide) (fun hle7 => ?_) (fun hgt7 => ?_)
            · obtain ⟨fd, hfd, rfl⟩ := okF_of hpos hle7
              refine lv_iconst (v := nI 1) hx hb d_Mod_hash_51 (by decide) ?_
              refine lv_istore (lv' := [(4, .int (nI 1)), (0, .ref m0), (1, .int (nI pa)), (2, .int (nI pb)), (3, .int (nI fd))]) hx hb d_Mod_hash_52 hl (by decide) rfl (fun ls hl => ?_)
              refine lv_iload_n hx hb d_Mod_hash_54 rfl (lv_at hl 2 rfl) ?_
              refine lv_istore (lv' := [(5, .int (nI pa)), (4, .int (nI 1)), (0, .ref m0), (1, .int (nI pa)), (2, .int (nI pb)), (3, .int (nI fd))]) hx hb d_Mod_hash_55 hl (by decide) rfl (fun ls hl => ?_)
              have hl : lv_has ls 6 [(0, .ref m0), (1, .int (nI pa)), (2, .int (nI pb)), (3, .int (nI fd)), (4, .int (nI 1)), (5, .int (nI pa))] := lv_sub hl [2, 3, 4, 5, 1, 0] rfl
              suffices loop : ∀ (u q : Nat) (ls : Array Slot), pb + 1 - q = u → pa ≤ q → q ≤ pb + 1 → lv_has ls 6 [(0, .ref m0), (1, .int (nI pa)), (2, .int (nI pb)), (3, .int (nI fd)), (4, .int (hF g pa fd (q - pa))), (5, .int (nI q))] → W p l e rm_mget s m args below meth c H locs 0 0 Q (F0 m 57 ls []) from
                loop _ pa ls rfl (Nat.le_refl _) (by omega) (by rw [Nat.sub_self]; exact hl)
              intro u
              induction u using Nat.strongRecOn with | ind u ih => ?_
              intro q ls hu hq1 hq2 hl
              refine lv_iload hx hb d_Mod_hash_57 (lv_at hl 5 rfl) ?_
              refine lv_iload_n hx hb d_Mod_hash_59 rfl (lv_at hl 2 rfl) ?_
              refine xn_gt (tgt := 93) hx hb (by omega) (by omega) d_Mod_hash_60 (by decide) (fun hgt2 => ?_) (fun hle2 => ?_)
              · refine lv_iload hx hb d_Mod_hash_93 (lv_at hl 4 rfl) ?_
                refine RET (w1 := wMod cI m0 as_ af (.int (nI 0)) cnt st fs) hW ⟨rfl, rfl, Or.inl ⟨pa, pb, fd, rfl, rfl, rfl, hge, hpb, hfd, hle9, ?_, rfl⟩⟩ d_Mod_hash_95
                rw [show q = pb + 1 by omega]
              · refine lv_bipush (v := nI 31) hx hb d_Mod_hash_63 (by decide) ?_
                refine lv_iload hx hb d_Mod_hash_65 (lv_at hl 4 rfl) ?_
                refine lv_imul hx hb d_Mod_hash_67 ?_
                refine lv_aload_n hx hb d_Mod_hash_68 rfl (lv_at hl 0 rfl) ?_
                refine gf_Mod_18 hM hW.1 0 rfl rfl d_Mod_hash_69 ?_
                refine lv_bipush (v := nI 8) hx hb d_Mod_hash_72 (by decide) ?_
                refine lv_aload_n hx hb d_Mod_hash_74 rfl (lv_at hl 0 rfl) ?_
                refine lv_iload hx hb d_Mod_hash_75 (lv_at hl 5 rfl) ?_
                refine x_callVP (rest := [.int (nI 8), .ref af, .int ((nI 31) * (hF g pa fd (q - pa)))]) hM (c_at l D cI cL m0 as_ cnt q (.int (nI 0)) (.ref af) st sN hI0.1 (by omega) (by omega)) cb_Mod_at cv_Mod_25 ⟨Nat.le_of_ble_eq_true rfl, Nat.le_of_ble_eq_true rfl⟩ ⟨Nat.le_of_ble_eq_true rfl, Nat.le_of_ble_eq_true rfl⟩ hW.1 [0, 1] rfl 0 rfl rfl rfl hl.1 rfl (Nat.le_of_ble_eq_true rfl) d_Mod_hash_77 (fun v hv => ?_)
                obtain ⟨k, rfl, hk⟩ := hv
                have hk1 := hk.1
                refine W.eq (g2 := F0 m 80 ls [.int (nI k), .int (nI 8), .ref af, .int ((nI 31) * (hF g pa fd (q - pa)))]) rfl ?_
                refine xn_imul hx hb d_Mod_hash_80 ?_
                refine lv_iload_n hx hb d_Mod_hash_81 rfl (lv_at hl 3 rfl) ?_
                refine xn_iadd hx hb d_Mod_hash_82 ?_
                refine xn_iald hM hW.1 2 rfl (by omega) (by omega) d_Mod_hash_83 ?_
                refine xn_top (show fs ((8 * k) + fd) = g q fd from hI0.2 q (by omega) k hk fd hfd) ?_
                refine lv_iadd hx hb d_Mod_hash_84 ?_
                refine lv_istore (lv' := [(4, .int (((nI 31) * (hF g pa fd (q - pa))) + (g q fd))), (0, .ref m0), (1, .int (nI pa)), (2, .int (nI pb)), (3, .int (nI fd)), (5, .int (nI q))]) hx hb d_Mod_hash_85 hl (by decide) rfl (fun ls hl => ?_)
                refine lv_iinc (lv' := [(5, .int (nI (q + 1))), (4, .int (((nI 31) * (hF g pa fd (q - pa))) + (g q fd))), (0, .ref m0), (1, .int (nI pa)), (2, .int (nI pb)), (3, .int (nI fd))]) (v := nI (q + 1)) hx hb d_Mod_hash_87 hl (k := 5) rfl (nI_inc q) (by decide) rfl (fun ls hl => ?_)
                refine lv_goto (tgt := 57) hx hb d_Mod_hash_90 (by decide) ?_
                have hl : lv_has ls 6 [(0, .ref m0), (1, .int (nI pa)), (2, .int (nI pb)), (3, .int (nI fd)), (4, .int (((nI 31) * (hF g pa fd (q - pa))) + (g q fd))), (5, .int (nI (q + 1)))] := lv_sub hl [2, 3, 4, 5, 1, 0] rfl
                refine ih (pb + 1 - (q + 1)) (by omega) (q + 1) ls rfl (by omega) (by omega) ?_
                have e1 : hF g pa fd (q + 1 - pa) = nI 31 * hF g pa fd (q - pa) + g q fd := by
                  rw [show q + 1 - pa = (q - pa) + 1 by omega]
                  show nI 31 * hF g pa fd (q - pa) + g (pa + (q - pa)) fd = _
                  rw [show pa + (q - pa) = q by omega]
                rw [e1]; exact hl
            · have hl : lv_has ls 6 [(0, .ref m0)] := lv_sub hl [0] rfl
              exact fl_ ls (fun ⟨⟨pa2, pb2, fd2, e1, e2, e3, h1, h2, h3⟩, h4⟩ => hgt7 (okF.hi ⟨fd2, h3, e3⟩)) hl
set_option maxHeartbeats 4000000 in
set_option maxRecDepth 100000 in
/-- Model.clear -/
theorem c_mclear (l : Launch) (D : va_G) (cI cL : ClassId) (m0 as_ af cnt : Nat) (fl : Value) (st fs : Nat → Int32) (sN : Nat → Nat) (g : Nat → Nat → Int32) (hI : MI g st fs sN cnt) (hc : cnt ≤ 8000) : CT l D cI cL y_Mod_clear (xws y_Mod_clear b_Mod_clear 5 (some .int)) rm_mget [.ref m0] (wMod cI m0 as_ af fl cnt st fs) (fun v k z w1 => k = 0 ∧ z = 0 ∧ ∃ (c : Nat) (fs2 : Nat → Int32), isCount g 1024 c ∧ v = some (.int (nI c)) ∧ MI (fun _ _ => 0) st fs2 sN 1 ∧ w1 = wMod cI m0 as_ af (.int (nI 0)) 1 st fs2) := by
  refine CT.ofI (own := R_Mod) (cc := b_Mod_clear) (nL := 5) (by decide) rfl (Nat.le_of_ble_eq_true rfl) ?_
  intro p e s m args below meth c A Q ls hM hl hW hnm RET
  have hx := hM.1
  have hb := hM.2.1
  have hl : lv_has ls 5 [(0, .ref m0)] := hl
  have hW : xW D A s.heap [(m0, .inr (3, [fl, .int (nI cnt), .ref as_, .ref af])), (as_, .inl (cI, 9000, .inl st)), (af, .inl (cI, 72000, .inl fs))] s.heap [] := hW
  have hI0 := hI
  refine lv_aload_n hx hb d_Mod_clear_0 rfl (lv_at hl 0 rfl) ?_
  refine lv_iconst (v := nI 0) hx hb d_Mod_clear_1 (by decide) ?_
  refine pf_Mod_21 hM hW 0 rfl (Nat.le_of_ble_eq_true rfl) d_Mod_clear_2 (fun H locs hW => ?_)
  have hW : xW D A s.heap [(m0, .inr (3, [.int (nI 0), .int (nI cnt), .ref as_, .ref af])), (as_, .inl (cI, 9000, .inl st)), (af, .inl (cI, 72000, .inl fs))] H locs := hW
  refine lv_iconst (v := nI 0) hx hb d_Mod_clear_5 (by decide) ?_
  refine lv_istore_n (lv' := [(1, .int (nI 0)), (0, .ref m0)]) hx hb d_Mod_clear_6 rfl hl (by decide) rfl (fun ls hl => ?_)
  refine lv_iconst (v := nI 0) hx hb d_Mod_clear_7 (by decide) ?_
  refine lv_istore_n (lv' := [(2, .int (nI 0)), (1, .int (nI 0)), (0, .ref m0)]) hx hb d_Mod_clear_8 rfl hl (by decide) rfl (fun ls hl => ?_)
  have hl : lv_has ls 5 [(0, .ref m0), (1, .int (nI 0)), (2, .int (nI 0))] := lv_sub hl [2, 1, 0] rfl
  suffices loop : ∀ (u q cn : Nat) (ls : Array Slot), 1024 - q = u → q ≤ 1024 → isCount g q cn → lv_has ls 5 [(0, .ref m0), (1, .int (nI cn)), (2, .int (nI q))] → W p l e rm_mget s m args below meth c H locs 0 0 Q (F0 m 9 ls []) from
    loop _ 0 0 ls rfl (Nat.zero_le _) rfl hl
  intro u
  induction u using Nat.strongRecOn with | ind u ih => ?_
  intro q cn ls hu hq hcn hl
  have hcl := hcn.le
  refine lv_iload_n hx hb d_Mod_clear_9 rfl (lv_at hl 2 rfl) ?_
  refine lv_sipush (v := nI 1024) hx hb d_Mod_clear_10 (by decide) ?_
  refine xn_ge (tgt := 73) hx hb (by omega) (by omega) d_Mod_clear_13 (by decide) (fun hge => ?_) (fun hlt => ?_)
  · have hq4 : q = 1024 := by omega
    rw [hq4] at hcn
    refine lv_aload_n hx hb d_Mod_clear_73 rfl (lv_at hl 0 rfl) ?_
    refine lv_iconst (v := nI 1) hx hb d_Mod_clear_74 (by decide) ?_
    refine pf_Mod_7 hM hW 0 rfl (Nat.le_of_ble_eq_true rfl) d_Mod_clear_75 (fun H locs hW => ?_)
    have hW : xW D A s.heap [(m0, .inr (3, [.int (nI 0), .int (nI 1), .ref as_, .ref af])), (as_, .inl (cI, 9000, .inl st)), (af, .inl (cI, 72000, .inl fs))] H locs := hW
    refine lv_iconst (v := nI 0) hx hb d_Mod_clear_78 (by decide) ?_
    refine lv_istore_n (lv' := [(2, .int (nI 0)), (0, .ref m0), (1, .int (nI cn))]) hx hb d_Mod_clear_79 rfl hl (by decide) rfl (fun ls hl => ?_)
    have hl : lv_has ls 5 [(0, .ref m0), (1, .int (nI cn)), (2, .int (nI 0))] := lv_sub hl [1, 2, 0] rfl
    suffices loop2 : ∀ (u f : Nat) (fs2 : Nat → Int32) (ls : Array Slot) (H : Heap) (locs : List Loc), 8 - f = u → f ≤ 8 → (∀ i, i < f → fs2 i = 0) → lv_has ls 5 [(0, .ref m0), (1, .int (nI cn)), (2, .int (nI f))] → xW D A s.heap [(m0, .inr (3, [.int (nI 0), .int (nI 1), .ref as_, .ref af])), (as_, .inl (cI, 9000, .inl st)), (af, .inl (cI, 72000, .inl fs2))] H locs → W p l e rm_mget s m args below meth c H locs 0 0 Q (F0 m 80 ls []) from
      loop2 _ 0 _ ls H locs rfl (Nat.zero_le _) (fun x hx => absurd hx (Nat.not_lt_zero _)) hl hW
    intro u2
    induction u2 using Nat.strongRecOn with | ind u2 ih2 => ?_
    intro f fs2 ls H locs hu2 hf i1 hl hW
    refine lv_iload_n hx hb d_Mod_clear_80 rfl (lv_at hl 2 rfl) ?_
    refine lv_bipush (v := nI 8) hx hb d_Mod_clear_81 (by decide) ?_
    refine xn_ge (tgt := 99) hx hb (by omega) (by omega) d_Mod_clear_83 (by decide) (fun hge2 => ?_) (fun hlt2 => ?_)
    · refine lv_iload_n hx hb d_Mod_clear_99 rfl (lv_at hl 1 rfl) ?_
      obtain ⟨⟨l1, l2, l3, l4⟩, hg⟩ := hI0
      refine RET (w1 := wMod cI m0 as_ af (.int (nI 0)) 1 st fs2) hW ⟨rfl, rfl, cn, fs2, hcn, rfl, ⟨⟨by decide, l2, fun k hk => l3 k (by omega), fun j k h1 h2 => absurd h2 (by omega)⟩, fun y hy k hk i hi => ?_⟩, rfl⟩ d_Mod_clear_100
      have hk0 := hk.1
      rw [show k = 0 by omega, Nat.mul_zero, Nat.zero_add]; exact i1 i (by omega)
    · refine lv_aload_n hx hb d_Mod_clear_86 rfl (lv_at hl 0 rfl) ?_
      refine gf_Mod_18 hM hW.1 0 rfl rfl d_Mod_clear_87 ?_
      refine lv_iload_n hx hb d_Mod_clear_90 rfl (lv_at hl 2 rfl) ?_
      refine lv_iconst (v := nI 0) hx hb d_Mod_clear_91 (by decide) ?_
      refine xn_iast hM hW 2 rfl (by omega) (by omega) d_Mod_clear_92 (fun H locs hW => ?_)
      have hW : xW D A s.heap [(m0, .inr (3, [.int (nI 0), .int (nI 1), .ref as_, .ref af])), (as_, .inl (cI, 9000, .inl st)), (af, .inl (cI, 72000, .inl (upd fs2 f (nI 0))))] H locs := hW
      refine lv_iinc (lv' := [(2, .int (nI (f + 1))), (0, .ref m0), (1, .int (nI cn))]) (v := nI (f + 1)) hx hb d_Mod_clear_93 hl (k := 2) rfl (nI_inc f) (by decide) rfl (fun ls hl => ?_)
      refine lv_goto (tgt := 80) hx hb d_Mod_clear_96 (by decide) ?_
      have hl : lv_has ls 5 [(0, .ref m0), (1, .int (nI cn)), (2, .int (nI (f + 1)))] := lv_sub hl [1, 2, 0] rfl
      refine ih2 (8 - (f + 1)) (by omega) (f + 1) _ ls H locs rfl (by omega) (fun x hx => ?_) hl hW
      by_cases e1 : x = f
      · subst e1; exact pk_us
      · rw [pk_un e1]; exact i1 x (by omega)
  · refine lv_iconst (v := nI 0) hx hb d_Mod_clear_16 (by decide) ?_
    refine lv_istore_n (lv' := [(3, .int (nI 0)), (0, .ref m0), (1, .int (nI cn)), (2, .int (nI q))]) hx hb d_Mod_clear_17 rfl hl (by decide) rfl (fun ls hl => ?_)
    refine lv_iconst (v := nI 0) hx hb d_Mod_clear_18 (by decide) ?_
    refine lv_istore (lv' := [(4, .int (nI 0)), (3, .int (nI 0)), (0, .ref m0), (1, .int (nI cn)), (2, .int (nI q))]) hx hb d_Mod_clear_19 hl (by decide) rfl (fun ls hl => ?_)
    have hl : lv_has ls 5 [(0, .ref m0), (1, .int (nI cn)), (2, .int (nI q)), (3, .int (nI 0)), (4, .int (nI 0))] := lv_sub hl [2, 3, 4, 1, 0] rfl
    suffices loop3 : ∀ (u f sm : Nat) (ls : Array Slot), 8 - f = u → f ≤ 8 → ((sm = 0 ∧ ∀ i, i < f → g q i = 0) ∨ (sm = 1 ∧ ¬ isZ g q)) → lv_has ls 5 [(0, .ref m0), (1, .int (nI cn)), (2, .int (nI q)), (3, .int (nI sm)), (4, .int (nI f))] → W p l e rm_mget s m args below meth c H locs 0 0 Q (F0 m 21 ls []) from
      loop3 _ 0 0 ls rfl (Nat.zero_le _) (Or.inl ⟨rfl, fun x hx => absurd hx (Nat.not_lt_zero _)⟩) hl
    intro u3
    induction u3 using Nat.strongRecOn with | ind u3 ih3 => ?_
    intro f sm ls hu3 hf i1 hl
    have hsm : sm ≤ 1 := by rcases i1 with ⟨h, -⟩ | ⟨h, -⟩ <;> omega
    refine lv_iload hx hb d_Mod_clear_21 (lv_at hl 4 rfl) ?_
    refine lv_bipush (v := nI 8) hx hb d_Mod_clear_23 (by decide) ?_
    refine xn_ge (tgt := 55) hx hb (by omega) (by omega) d_Mod_clear_25 (by decide) (fun hge3 => ?_) (fun hlt3 => ?_)
    · refine lv_iload_n hx hb d_Mod_clear_55 rfl (lv_at hl 1 rfl) ?_
      refine lv_iload_n hx hb d_Mod_clear_56 rfl (lv_at hl 3 rfl) ?_
      refine xn_ifeq (tgt := 64) hx hb (by omega) d_Mod_clear_57 (by decide) (fun hz4 => ?_) (fun hn4 => ?_)
      · refine lv_iconst (v := nI 0) hx hb d_Mod_clear_64 (by decide) ?_
        refine xn_iadd hx hb d_Mod_clear_65 ?_
        refine lv_istore_n (lv' := [(1, .int (nI (cn + 0))), (0, .ref m0), (2, .int (nI q)), (3, .int (nI sm)), (4, .int (nI f))]) hx hb d_Mod_clear_66 rfl hl (by decide) rfl (fun ls hl => ?_)
        refine lv_iinc (lv' := [(2, .int (nI (q + 1))), (1, .int (nI (cn + 0))), (0, .ref m0), (3, .int (nI sm)), (4, .int (nI f))]) (v := nI (q + 1)) hx hb d_Mod_clear_67 hl (k := 2) rfl (nI_inc q) (by decide) rfl (fun ls hl => ?_)
        refine lv_goto (tgt := 9) hx hb d_Mod_clear_70 (by decide) ?_
        have hl : lv_has ls 5 [(0, .ref m0), (1, .int (nI (cn + 0))), (2, .int (nI (q + 1)))] := lv_sub hl [2, 1, 0] rfl
        refine ih (1024 - (q + 1)) (by omega) (q + 1) (cn + 0) ls rfl (by omega) (Or.inl ⟨?_, hcn⟩) hl
        rcases i1 with ⟨-, h⟩ | ⟨h, -⟩
        · exact fun i hi => h i (by omega)
        · omega
      · refine lv_iconst (v := nI 1) hx hb d_Mod_clear_60 (by decide) ?_
        refine lv_goto (tgt := 65) hx hb d_Mod_clear_61 (by decide) ?_
        refine xn_iadd hx hb d_Mod_clear_65 ?_
        refine lv_istore_n (lv' := [(1, .int (nI (cn + 1))), (0, .ref m0), (2, .int (nI q)), (3, .int (nI sm)), (4, .int (nI f))]) hx hb d_Mod_clear_66 rfl hl (by decide) rfl (fun ls hl => ?_)
        refine lv_iinc (lv' := [(2, .int (nI (q + 1))), (1, .int (nI (cn + 1))), (0, .ref m0), (3, .int (nI sm)), (4, .int (nI f))]) (v := nI (q + 1)) hx hb d_Mod_clear_67 hl (k := 2) rfl (nI_inc q) (by decide) rfl (fun ls hl => ?_)
        refine lv_goto (tgt := 9) hx hb d_Mod_clear_70 (by decide) ?_
        have hl : lv_has ls 5 [(0, .ref m0), (1, .int (nI (cn + 1))), (2, .int (nI (q + 1)))] := lv_sub hl [2, 1, 0] rfl
        refine ih (1024 - (q + 1)) (by omega) (q + 1) (cn + 1) ls rfl (by omega) (Or.inr ⟨?_, cn, rfl, hcn⟩) hl
        rcases i1 with ⟨h, -⟩ | ⟨-, h⟩
        · exact absurd h hn4
        · exact h
    · refine lv_aload_n hx hb d_Mod_clear_28 rfl (lv_at hl 0 rfl) ?_
      refine gf_Mod_18 hM hW.1 0 rfl rfl d_Mod_clear_29 ?_
      refine lv_bipush (v := nI 8) hx hb d_Mod_clear_32 (by decide) ?_
      refine lv_aload_n hx hb d_Mod_clear_34 rfl (lv_at hl 0 rfl) ?_
      refine lv_iload_n hx hb d_Mod_clear_35 rfl (lv_at hl 2 rfl) ?_
      refine x_callVP (rest := [.int (nI 8), .ref af]) hM (c_at l D cI cL m0 as_ cnt q (.int (nI 0)) (.ref af) st sN hI0.1 (by omega) (by omega)) cb_Mod_at cv_Mod_25 ⟨Nat.le_of_ble_eq_true rfl, Nat.le_of_ble_eq_true rfl⟩ ⟨Nat.le_of_ble_eq_true rfl, Nat.le_of_ble_eq_true rfl⟩ hW.1 [0, 1] rfl 0 rfl rfl rfl hl.1 rfl (Nat.le_of_ble_eq_true rfl) d_Mod_clear_36 (fun v hv => ?_)
      obtain ⟨k, rfl, hk⟩ := hv
      have hk1 := hk.1
      refine W.eq (g2 := F0 m 39 ls [.int (nI k), .int (nI 8), .ref af]) rfl ?_
      refine xn_imul hx hb d_Mod_clear_39 ?_
      refine lv_iload hx hb d_Mod_clear_40 (lv_at hl 4 rfl) ?_
      refine xn_iadd hx hb d_Mod_clear_42 ?_
      refine xn_iald hM hW.1 2 rfl (by omega) (by omega) d_Mod_clear_43 ?_
      refine xn_top (show fs ((8 * k) + f) = g q f from hI0.2 q (by omega) k hk f hlt3) ?_
      refine lv_if_eq (tgt := 49) hx hb d_Mod_clear_44 (by decide) (fun hz5 => ?_) (fun hn5 => ?_)
      · refine lv_iinc (lv' := [(4, .int (nI (f + 1))), (0, .ref m0), (1, .int (nI cn)), (2, .int (nI q)), (3, .int (nI sm))]) (v := nI (f + 1)) hx hb d_Mod_clear_49 hl (k := 4) rfl (nI_inc f) (by decide) rfl (fun ls hl => ?_)
        refine lv_goto (tgt := 21) hx hb d_Mod_clear_52 (by decide) ?_
        have hl : lv_has ls 5 [(0, .ref m0), (1, .int (nI cn)), (2, .int (nI q)), (3, .int (nI sm)), (4, .int (nI (f + 1)))] := lv_sub hl [1, 2, 3, 4, 0] rfl
        refine ih3 (8 - (f + 1)) (by omega) (f + 1) sm ls rfl (by omega) ?_ hl
        rcases i1 with ⟨h, h2⟩ | h
        · refine Or.inl ⟨h, fun i hi => ?_⟩
          by_cases e1 : i = f
          · rw [e1]; exact hz5
          · exact h2 i (by omega)
        · exact Or.inr h
      · refine lv_iconst (v := nI 1) hx hb d_Mod_clear_47 (by decide) ?_
        refine lv_istore_n (lv' := [(3, .int (nI 1)), (0, .ref m0), (1, .int (nI cn)), (2, .int (nI q)), (4, .int (nI f))]) hx hb d_Mod_clear_48 rfl hl (by decide) rfl (fun ls hl => ?_)
        refine lv_iinc (lv' := [(4, .int (nI (f + 1))), (3, .int (nI 1)), (0, .ref m0), (1, .int (nI cn)), (2, .int (nI q))]) (v := nI (f + 1)) hx hb d_Mod_clear_49 hl (k := 4) rfl (nI_inc f) (by decide) rfl (fun ls hl => ?_)
        refine lv_goto (tgt := 21) hx hb d_Mod_clear_52 (by decide) ?_
        have hl : lv_has ls 5 [(0, .ref m0), (1, .int (nI cn)), (2, .int (nI q)), (3, .int (nI 1)), (4, .int (nI (f + 1)))] := lv_sub hl [2, 3, 4, 1, 0] rfl
        exact ih3 (8 - (f + 1)) (by omega) (f + 1) 1 ls rfl (by omega) (Or.inr ⟨rfl, fun h => hn5 (h f hlt3)⟩) hl
end
section
/-! THROWS: methods that end by an IllegalArgumentException -/
def zst : List Cond := [.isRef (.static "java/lang/Throwable" "UNASSIGNED_STACK" "[Ljava/lang/StackTraceElement;"), .isRef (.static "java/lang/Throwable" "SUPPRESSED_SENTINEL" "Ljava/util/List;"), .laysStatic "java/lang/Throwable" "UNASSIGNED_STACK" "[Ljava/lang/StackTraceElement;", .laysStatic "java/lang/Throwable" "SUPPRESSED_SENTINEL" "Ljava/util/List;"]
/-- Throwable's two statics can be read -/
def Zs (U : State) : Prop := ∀ c ∈ zst, c.before #[] U = true
theorem z_ref {C n d : String} {A A' : Array Value} {u U : State} (hvm : u.vm = U.vm) (hh : ∀ (q : Nat) (cell : Cell), u.heap[q]? = some cell → U.heap[q]? = some cell) (h : (Cond.isRef (.static C n d)).before A u = true) : (Cond.isRef (.static C n d)).before A' U = true := by
  have e1 : U.fieldNamed? C n d true = u.fieldNamed? C n d true := by unfold State.fieldNamed? State.fieldFound?; rw [hvm]
  simp only [Cond.before, Cond.holds, Cond.value, Term.eval] at h ⊢
  rw [e1]
  cases hf : u.fieldNamed? C n d true with
  | none => simp [hf] at h
  | some x =>
    obtain ⟨c, k, sl⟩ := x
    cases hs : k.statics with
    | none => simp [hf, hs] at h
    | some a =>
      cases hc : u.heap[a]? with
      | none => simp [hf, hs, hc] at h
      | some cell => simpa [hf, hs, hc, hh a cell hc] using h
theorem z_lay {C n d : String} {A A' : Array Value} {u U : State} (hvm : u.vm = U.vm) (hh : ∀ (q : Nat) (cell : Cell), u.heap[q]? = some cell → U.heap[q]? = some cell) (h : (Cond.laysStatic C n d).before A u = true) : (Cond.laysStatic C n d).before A' U = true := by
  have e1 : U.fieldFound? C n d = u.fieldFound? C n d := by unfold State.fieldFound?; rw [hvm]
  simp only [Cond.before, Cond.holds, Cond.value] at h ⊢
  rw [e1, ← hvm]
  cases hf : u.vm.findClass C with
  | none => simp [hf] at h
  | some c0 =>
    cases hg : u.fieldFound? C n d with
    | none => simp [hf, hg] at h
    | some x =>
      obtain ⟨c, k, i, f⟩ := x
      cases hs : k.statics with
      | none => simp [hf, hg, hs] at h
      | some a =>
        cases hc : u.heap[a]? with
        | none => simp [hf, hg, hs, hc] at h
        | some cell => simpa [hf, hg, hs, hc, hh a cell hc] using h
theorem z_one {c : Cond} (hc : c ∈ zst) {A A' : Array Value} {u U : State} (hvm : u.vm = U.vm) (hh : ∀ (q : Nat) (cell : Cell), u.heap[q]? = some cell → U.heap[q]? = some cell) (h : c.before A u = true) : c.before A' U = true := by
  simp only [zst, List.mem_cons, List.not_mem_nil, or_false] at hc
  rcases hc with rfl | rfl | rfl | rfl
  · exact z_ref hvm hh h
  · exact z_ref hvm hh h
  · exact z_lay hvm hh h
  · exact z_lay hvm hh h
theorem z_keeps : ∀ c ∈ zst, c.keeps = true := by decide +kernel
theorem Zs.moved {u U : State} (hW : u.WarmedH U.vm) (hh : ∀ (q : Nat) (cell : Cell), u.heap[q]? = some cell → U.heap[q]? = some cell) (h : Zs u) : Zs U := fun c hc =>
  z_one hc (u := u.setVm U.vm) rfl hh (Cond.holds_shifted (State.Shifted.of_warmed hW) c [] (z_keeps c hc) (h c hc))
def iae : String := "java/lang/IllegalArgumentException"
def own0 : List Cond := Bundle.ownAtoms0 "PropertyTrie" 31 "java/lang/IllegalArgumentException" ["java/lang/RuntimeException", "java/lang/Exception"]
theorem own0_in : ∀ c ∈ own0, c ∈ xtb ∨ c ∈ zst := by decide +kernel
/-- it ended by a new IllegalArgumentException, and nothing old was written -/
def thr (st : State) (o : Outcome) (t : State) : Prop := ∃ (x k n : Nat), o = .threw x ∧ st.WarmedH t.vm ∧ st.sameButNew ({ t with vm := st.vm } : State) [] k n ∧ k ≤ 1 ∧ n ≤ 6 ∧ ∃ cell : Cell, t.heap[x]? = some cell ∧ cell.vm.isStatics = false ∧ st.vm.findClass iae = some cell.cls
def CB (l : Launch) (D : va_G) (cI cL : ClassId) (y : MethodName) (ws : List Cond) (rm : Room) (av : List Value) (wc : va_W) : Prop :=
  MetFree l y (headSpec ws rm) (va_Pc av (fun U => va_P D xcl wc U.heap ∧ xK D cI cL U ∧ Zs U)) (fun _ _ _ _ _ => True) (fun _ st o t => thr st o t)
theorem CB.ofW {l : Launch} {D : va_G} {cI cL : ClassId} {y : MethodName} {rm : Room} {av : List Value} {wc : va_W} {own : String} {cc : ByteArray} {nL : Nat} {ret : Option FieldType} (hy : plainName y.cls = true) (hown : y.cls = own) (hav : (lg_sl av).length ≤ nL)
    (body : ∀ (p : Program) (e : Env) (s : State) (m : MethodId) (args : Array Value) (below : List Frame) (meth : Method) (c : Code) (Q : State → Prop) (ls : Array Slot), xM p s m meth c args D cI cL (fun _ => True) own cc nL → lv_has ls nL (lv_args 0 av) → va_P D xcl wc s.heap → Zs s → c.exceptionTable.toList = [] → meth.locks = false →
      (∀ (t : State) (o : Outcome), t.status = .running → Ended t below o → thr s o t → Q t) →
      W p l e rm s m args below meth c s.heap [] 0 0 Q (F0 m 0 ls [])) : CB l D cI cL y (xws y cc nL ret) rm av wc := by
  refine MetFree.of_bodyS (code := cc) (maxLocals := nL) (ret := ret) hy ?_ ?_
  · intro args s m h hn
    obtain ⟨meth, c, h1, h2, h3, h4, h5, h6, -, -⟩ := Cond.code_spec hn (atoms_spec (ws := xws y cc nL ret) h _ List.mem_cons_self)
    exact ⟨meth, c, h1, h2, h3, h4, h5, h6⟩
  · intro p e s m args below meth c s₁ B hml hv _
    obtain ⟨rfl, hP, hK, hZ⟩ := hv
    have hh0 : s₁.heap = s.heap := by rw [B.state]; rfl
    have hlocks := B.notSynchronized
    have hM : xM p s m meth c av.toArray D cI cL (fun _ => True) own cc nL := xM.of hown B hml hK (fun q h => trivial)
    have hex := B.noHandlers (atoms_spec (ws := xws y cc nL ret) B.pre _ List.mem_cons_self)
    have hex2 : c.exceptionTable.toList = [] := by
      rw [Array.isEmpty_iff] at hex
      rw [hex]
    have hl := lv_entry av (n := nL) hav
    have key := body p e s m _ below meth c (fun t => ∃ o, t.status = .running ∧ Ended t below o ∧ thr s o t) _ hM hl hP hZ hex2 hlocks (fun t o h1 h2 h3 => ⟨o, h1, h2, h3⟩)
    rw [← lg_entry_eq] at key
    obtain ⟨t, a1, o, b1, b2, b3⟩ := key s₁ hh0 (Stand.of_body B)
    exact ⟨t, o, a1, b1, b2, b3⟩
abbrev rm_inb : Room := { frames := 6, cells := 1, slots := 6, locals := 81 }
set_option maxHeartbeats 4000000 in
set_option maxRecDepth 100000 in
/-- in(v, low, high), without -/
theorem c_in_bad (l : Launch) (hfl : l.flags = pinnedFlags ++ [noTraceFlag]) (D : va_G) (cI cL : ClassId) (z lo hi : Int32) (hbad : z < lo ∨ ¬ z ≤ hi) : CB l D cI cL y_PT_in (xws y_PT_in b_PT_in 3 none) rm_inb [.int z, .int lo, .int hi] [] := by
  refine CB.ofW (own := R_PT) (cc := b_PT_in) (nL := 3) (by decide) rfl (Nat.le_of_ble_eq_true rfl) ?_
  intro p e s m args below meth c Q ls hM hl hP hZ hex hlk END
  have hx := hM.1
  have hb := hM.2.1
  have hown := hM.2.2.2.1
  have hts := hM.2.2.2.2.1
  have hl : lv_has ls 3 [(0, .int z), (1, .int lo), (2, .int hi)] := hl
  have at10 : W p l e rm_inb s m args below meth c s.heap [] 0 0 Q (F0 m 10 ls []) := by
    refine W.newc hx hb hown (hts (.classLink R_PT 29 iae) (tb_of (i := 124) rfl rfl)) (hts (.instantiable iae 6) (tb_of (i := 125) rfl rfl)) (hts (.initialized iae) (tb_of (i := 8) rfl rfl)) rfl d_PT_in_10 (Nat.le_of_ble_eq_true rfl) (Nat.le_of_ble_eq_true rfl) (fun cC kC h1 h2 h3 h4 => ?_)
    refine W.eq (g2 := F0 m 13 ls [.ref s.heap.size]) rfl ?_
    refine lv_dup hx hb d_PT_in_13 rfl ?_
    intro T hT X
    have hat : ∀ a ∈ own0, a.before args s = true := fun a ha => by
      rcases own0_in a ha with h | h
      · exact hts a h
      · exact z_one h rfl (fun _ _ q => q) (hZ a h)
    obtain ⟨U, hst, hrun, hend, hW, hsame, ce, hce, hO⟩ := X.ctorThrow0 hx (Launch.traces_off hfl X.admits) (own := R_PT) (cls := iae) (names := ["java/lang/RuntimeException", "java/lang/Exception"]) (ic := 31) hown (by decide) (by decide) hat (fun y hy => by cases hy) h1 h2 (a := s.heap.size) (by rw [hT]; simp) (Nat.le_refl _) (g := F0 m 14 ls [.ref s.heap.size, .ref s.heap.size]) rfl (hl.1.trans hM.2.2.1.symm) rfl rfl (rest := []) rfl (by rw [hb]; exact d_PT_in_14) (by rw [hb]; exact d_PT_in_17) (fun y hy => by rw [hex] at hy; cases hy) (by decide) (Nat.le_of_ble_eq_true rfl) hlk
    exact ⟨U, hst, END U _ hrun hend ⟨s.heap.size, 0 + 1, 0 + 6, rfl, hW, hsame, by omega, by omega, ce, hce, by rw [hO.vm]; rfl, hO.cls⟩⟩
  refine lv_iload_n hx hb d_PT_in_0 rfl (lv_at hl 0 rfl) ?_
  refine lv_iload_n hx hb d_PT_in_1 rfl (lv_at hl 1 rfl) ?_
  refine lv_icmp_lt (tgt := 10) hx hb d_PT_in_2 (by decide) (fun hlt => at10) (fun hge => ?_)
  refine lv_iload_n hx hb d_PT_in_5 rfl (lv_at hl 0 rfl) ?_
  refine lv_iload_n hx hb d_PT_in_6 rfl (lv_at hl 2 rfl) ?_
  refine lv_icmp_le (tgt := 18) hx hb d_PT_in_7 (by decide) (fun hle => ?_) (fun hgt => at10)
  rcases hbad with h | h
  · exact absurd h hge
  · exact absurd hle h
end
section
/-! calls of methods that throw: out of a method without handlers, or into its one handler -/
section XFLY
variable {p : Program} {l : Launch} {e : Env} {R : Room} {s : State} {m : MethodId} {args : Array Value} {below : List Frame} {meth : Method} {c : Code} {T : State} {locs : List Loc} {cells slots : Nat} {Q : State → Prop}
variable {D : va_G} {cI cL : ClassId} {A : Nat → Prop} {own : String} {cc b : ByteArray} {nL nY idx np pc ci q0 rv : Nat} {y : MethodName} {rm : Room} {ret : Option FieldType} {ls : Array Slot} {As rest st0 : List Value} {w wc : va_W}
theorem x_fly {Pc : Array Value → State → Prop} {Qq : Array Value → State → Outcome → State → Prop} (hMf : MetFree l y (headSpec (xws y b nY ret) rm) Pc (fun _ _ _ _ _ => True) Qq) (X : Stand p l e R s m args below meth c T locs cells slots) {g : JFrame} (hg : g.method = m) (hsize : g.locals.size = c.maxLocals) {ig : Instr} {len : Nat} (hdg : decode c.code g.pc = .ok (ig, len)) (hW8 : 2 * g.monitorRoom + (g.stack.map fun v => v.category).sum ≤ 8)
    {mk : MethodId} {a : Array Value} (hn : T.methodNamed? y = some mk) (hts : ∀ w ∈ xtb, w.before args s = true) (cb : xCB y b nY ret np) (hR : rm.frames + 1 ≤ R.frames ∧ 8 + (nY + 11) + rm.locals ≤ R.locals) (hf : cells + rm.cells ≤ R.cells ∧ slots + rm.slots ≤ R.slots) (hPc : Pc a (T.calling g mk a)) :
    ∃ (o : Outcome) (t : State), Steps p.tables e below (doInvoke e (T.setTop g) [] mk a).1 t ∧ Ended t (.java g :: below) o ∧ Qq a (T.calling g mk a) o t := by
  have hws : ∀ w ∈ xtb, ∀ (a' : Array Value) (U : State), s.WarmedH U.vm → w.before a' U = true := fun w hw a' U hW => x_warm (List.mem_filter.mp hw).2 hW (hts w hw)
  have h1 : (headSpec (xws y b nY ret) rm).pre.before a T = true := atoms_intro fun w hw => by
    rcases List.mem_cons.mp hw with rfl | hw
    · exact hws _ cb.1 _ _ X.warmed
    · exact hws _ hw _ _ X.warmed
  obtain ⟨methY, cY, hmY, hcY, -, hlY, -, -, -, -⟩ := Cond.code_spec hn (hws _ cb.1 a T X.warmed)
  obtain ⟨kY, hkY, -⟩ := className_of_methodNamed hn
  have hinitY : kY.init = .initialized := Cond.initialized_spec (findClass_of_methodNamed hn) hkY (hws _ cb.2.1 a T X.warmed)
  have h : At T g.method c below := by rw [hg]; exact X.here
  have hR2 := hR.2
  have happ : (headSpec (xws y b nY ret) rm).appliesLoose y e.platform (T.calling g mk a) = true :=
    Spec.appliesLoose_calling (g := g) h hdg hn hkY hinitY (X.room_calling (g := g) (R' := rm) hsize hmY hcY hR.1 (by rw [hlY]; omega) hf.1 hf.2) h1
  obtain ⟨mid, hmid⟩ := h.above
  have hfr : (T.setTop g).frames = (.java g :: mid) ++ below := by rw [State.frames_setTop' g h.top, hmid]; rfl
  obtain ⟨o, t, hsteps, -, hend, hq⟩ := Steps.callFree hMf p X.admits X.cas X.clock (acts := []) hfr happ hPc trivial
  rw [State.frames_setTop' g h.top, X.tail] at hend
  exact ⟨o, t, hsteps, hend, hq⟩
/-- a thrower has been called: what is known behind it -/
theorem x_thrown (X : Stand p l e R s m args below meth c T locs cells slots) {g : JFrame} (hg : g.method = m) {mk : MethodId} {a : Array Value} {o : Outcome} {t : State} (hend : Ended t (.java g :: below) o) (hq : thr (T.calling g mk a) o t) :
    ∃ (x k n : Nat) (T' : State) (cell : Cell), Stand p l e R s m args below meth c T' locs (cells + k) (slots + n) ∧ k ≤ 1 ∧ n ≤ 6 ∧ t = (T'.setTop g).pushFrame (.throwing x) ∧ T'.heap[x]? = some cell ∧ cell.vm.isStatics = false ∧ s.vm.findClass iae = some cell.cls ∧ T.sameButNew (T'.setVm T.vm) [] k n := by
  obtain ⟨x, k, n, rfl, hW, hsame, hk, hn, cell, hc, hv, hcl⟩ := hq
  obtain ⟨T', X', hW', hs', ht⟩ := X.outOfThrown hg hend hW hsame
  rw [List.append_nil] at X'
  refine ⟨x, k, n, T', cell, X', hk, hn, ht, ?_, hv, ?_, hs'⟩
  · rw [ht, throwing_heap] at hc; exact hc
  · have h1 : T.vm.findClass iae = some cell.cls := hcl
    rw [X.warmed.alike.findClass] at h1; exact h1
/-- nothing old was written: old cells are as they were -/
theorem same_old {u t : State} {k n : Nat} (h : u.sameButNew t [] k n) : ∀ (q : Nat) (cell : Cell), u.heap[q]? = some cell → t.heap[q]? = some cell := fun q cell hc => by
  obtain ⟨-, -, -, -, -, h6⟩ := h
  obtain ⟨c', h1, h2, h3, h4⟩ := h6 q cell hc
  have hs : c'.slots = cell.slots := by
    apply Array.ext_getElem?
    intro i
    exact h4 i (by simp)
  rw [h1, h2, hs]
theorem x_leave (X : Stand p l e R s m args below meth c T [] cells slots) (x : Addr) {g : JFrame} (hg : g.method = m) (hlocked : g.locked = none) (hentered : g.entered = []) (hex : c.exceptionTable.toList = []) (hlk : meth.locks = false) {cell : Cell} (hc : T.heap[x]? = some cell) (hv : cell.vm.isStatics = false) (hcl : s.vm.findClass iae = some cell.cls) (h1 : cells ≤ 1) (h2 : slots ≤ 6) (END : ∀ (t : State) (o : Outcome), t.status = .running → Ended t below o → thr s o t → Q t) :
    ∃ U : State, Steps p.tables e below ((T.setTop g).pushFrame (.throwing x)) U ∧ Q U := by
  obtain ⟨a1, a2, a3, a4, a5⟩ := X.leaveThrown x hg hlocked hentered (fun y hy => by rw [hex] at hy; cases hy) hlk
  exact ⟨_, a1, END _ _ a2 a3 ⟨x, cells, slots, rfl, a4, a5, h1, h2, cell, hc, hv, hcl⟩⟩
/-- invokestatic of a thrower: the method throws too -/
theorem x_thrS (hM : xM p s m meth c args D cI cL A own cc nL) (hc : CB l D cI cL y (xws y b nY ret) rm As wc) (cb : xCB y b nY ret np) (cv : xCS own idx y) (hR : rm.frames + 1 ≤ R.frames ∧ 8 + (nY + 11) + rm.locals ≤ R.locals) (hf : 0 + rm.cells ≤ R.cells ∧ 0 + rm.slots ≤ R.slots)
    (hP : va_P D xcl w s.heap) (isC : List Nat) (hC : isC.map (fun i => w[i]?) = wc.map some) (hZ : Zs s) (hn : As.length = np) (hls : ls.size = nL) (hst : st0 = As.reverse ++ rest) (hW8 : (rest.map fun v => v.category).sum ≤ 8) (hdg : decode cc pc = .ok (.invokestatic idx, 3)) (hex : c.exceptionTable.toList = []) (hlk : meth.locks = false)
    (END : ∀ (t : State) (o : Outcome), t.status = .running → Ended t below o → thr s o t → Q t) : W p l e R s m args below meth c s.heap [] 0 0 Q (F0 m pc ls st0) := by
  obtain ⟨hx, hb, hml, ho, hts, hK, -⟩ := hM
  intro T hT X
  obtain ⟨mk, hnamed⟩ := Cond.code_named (hts _ cb.1)
  obtain ⟨methM, cM, hmethM, -, -, -, -, -, -, hsigM⟩ := Cond.code_spec hnamed (hts _ cb.1)
  have hstatic : methM.isStatic = true := Cond.static_spec hnamed hmethM (hts _ cv.2)
  obtain ⟨kP, hkP, -⟩ := className_of_methodNamed hnamed
  have hinitP : kP.init = .initialized := Cond.initialized_spec (findClass_of_methodNamed hnamed) hkP (hts _ cb.2.1)
  obtain ⟨vm₁, X₁, hstep₁⟩ := X.invokestatic hx ho (hts _ cv.1) hnamed hmethM hstatic hkP hinitP cb.2.2.1 (g := F0 m pc ls st0) rfl (argsL := As) (rest := rest) (cb.2.2.len hn _ hsigM) hst (by rw [hb]; exact hdg)
  have hpre := x_preP (av := As) hK hP isC hC
  obtain ⟨o, t, hsteps, hend, hq⟩ := x_fly (a := As.toArray) hc X₁ (g := F0 m pc ls rest) rfl (hls.trans hml.symm) (by rw [hb]; exact hdg) (lv_room hW8) (X₁.named hnamed) hts cb hR hf
    ⟨rfl, (hpre (T.setVm vm₁) hT X₁.warmed).2.1, ((hpre (T.setVm vm₁) hT X₁.warmed).2.2).moved (Vm.Alike.refl _), hZ.moved (U := (T.setVm vm₁).calling (F0 m pc ls rest) mk As.toArray) X₁.warmed (fun q cell h => by show T.heap[q]? = _; rw [hT]; exact h)⟩
  obtain ⟨x, k, n, T', cell, X', hk, hn', ht, hc', hv, hcl, -⟩ := x_thrown X₁ rfl hend hq
  obtain ⟨U, a1, a2⟩ := x_leave X' x (g := F0 m pc ls rest) rfl rfl rfl hex hlk hc' hv hcl (by omega) (by omega) END
  exact ⟨U, hstep₁ _ fun acts => by rw [doInvoke_state]; exact hsteps.trans (by rw [ht]; exact a1), a2⟩
/-- invokevirtual of a thrower: the method throws too -/
theorem x_thrV {fs : List Value} {Tt : u_T} {N : Nat} (hM : xM p s m meth c args D cI cL A own cc nL) (hc : CB l D cI cL y (xws y b nY ret) rm (.ref rv :: As) wc) (cb : xCB y b nY ret np) (cv : xCV own idx y) (hR : rm.frames + 1 ≤ R.frames ∧ 8 + (nY + 11) + rm.locals ≤ R.locals) (hf : 0 + rm.cells ≤ R.cells ∧ 0 + rm.slots ≤ R.slots)
    (hP : va_P D xcl w s.heap) (isC : List Nat) (hC : isC.map (fun i => w[i]?) = wc.map some) (q0 : Nat) (he : w[q0]? = some (rv, .inr (ci, fs))) (hci : xcl[ci]? = some (y.cls, Tt, N)) (hZ : Zs s) (hn : As.length = np) (hls : ls.size = nL) (hst : st0 = As.reverse ++ .ref rv :: rest) (hW8 : (rest.map fun v => v.category).sum ≤ 8) (hdg : decode cc pc = .ok (.invokevirtual idx, 3)) (hex : c.exceptionTable.toList = []) (hlk : meth.locks = false)
    (END : ∀ (t : State) (o : Outcome), t.status = .running → Ended t below o → thr s o t → Q t) : W p l e R s m args below meth c s.heap [] 0 0 Q (F0 m pc ls st0) := by
  obtain ⟨hx, hb, hml, ho, hts, hK, -⟩ := hM
  obtain ⟨cellB, hcB, hoB, hclB⟩ := x_recv (y := y) hK hP he hci
  intro T hT X
  obtain ⟨mk, methM, hnamed, hmethM, hstM, habM⟩ := Cond.instanceMethod_spec (hts _ cv.2.1)
  obtain ⟨methM', cM, hmethM', -, -, -, -, -, -, hsigM⟩ := Cond.code_spec hnamed (hts _ cb.1)
  cases hmethM.symm.trans hmethM'
  obtain ⟨c2, r2, m2, q1, q2, q3, q4, kP, hkP, hkPi⟩ := Cond.selects_spec (hts _ cv.2.2)
  cases hclB.symm.trans q1
  cases (State.methodFound?_of_named hnamed cb.2.2.1).symm.trans q2
  cases hnamed.symm.trans q3
  have hselP : selectMethod e.platform s.vm cellB.cls mk = .method mk := by rw [Launch.admits_selectMethod X.admits]; exact q4
  obtain ⟨vm₁, X₁, hstep₁⟩ := X.invokevirtual hx ho (hts _ cv.1) hnamed hmethM hstM hkP hkPi cb.2.2.1 (a := rv) (cell := cellB) (by rw [hT]; exact hcB)
    (fun z h => by rw [h] at hoB; cases hoB) hselP hmethM habM hkP hkPi (g := F0 m pc ls st0) rfl (argsL := As) (rest := rest) (cb.2.2.len hn _ hsigM) hst (by rw [hb]; exact hdg)
  have hpre := x_preP (av := .ref rv :: As) hK hP isC hC
  obtain ⟨o, t, hsteps, hend, hq⟩ := x_fly (a := (Value.ref rv :: As).toArray) hc X₁ (g := F0 m pc ls rest) rfl (hls.trans hml.symm) (by rw [hb]; exact hdg) (lv_room hW8) (X₁.named hnamed) hts cb hR hf
    ⟨rfl, (hpre (T.setVm vm₁) hT X₁.warmed).2.1, ((hpre (T.setVm vm₁) hT X₁.warmed).2.2).moved (Vm.Alike.refl _), hZ.moved (U := (T.setVm vm₁).calling (F0 m pc ls rest) mk (Value.ref rv :: As).toArray) X₁.warmed (fun q cell h => by show T.heap[q]? = _; rw [hT]; exact h)⟩
  obtain ⟨x, k, n, T', cell, X', hk, hn', ht, hc', hv, hcl, -⟩ := x_thrown X₁ rfl hend hq
  obtain ⟨U, a1, a2⟩ := x_leave X' x (g := F0 m pc ls rest) rfl rfl rfl hex hlk hc' hv hcl (by omega) (by omega) END
  exact ⟨U, hstep₁ _ fun acts => by rw [doInvoke_state]; exact hsteps.trans (by rw [ht]; exact a1), a2⟩
end XFLY
end
section
abbrev rm_b1 : Room := { frames := 7, cells := 1, slots := 6, locals := 103 }
abbrev rm_b2 : Room := { frames := 8, cells := 1, slots := 6, locals := 128 }
set_option maxHeartbeats 4000000 in
set_option maxRecDepth 100000 in
theorem c_pmark_bad (l : Launch) (hfl : l.flags = pinnedFlags ++ [noTraceFlag]) (D : va_G) (cI cL : ClassId) (x0 : Nat) (z1 z2 z3 z4 z5 : Int32) (hbad : ¬ okM z1 z2 z3) : CB l D cI cL y_PT_mark (xws y_PT_mark b_PT_mark 6 (some .int)) rm_b1 [.ref x0, .int z1, .int z2, .int z3, .int z4, .int z5] [] := by
  refine CB.ofW (own := R_PT) (cc := b_PT_mark) (nL := 6) (by decide) rfl (Nat.le_of_ble_eq_true rfl) ?_
  intro p e s m args below meth c Q ls hM hl hP hZ hex hlk END
  have hx := hM.1
  have hb := hM.2.1
  have hl : lv_has ls 6 [(0, .ref x0), (1, .int z1), (2, .int z2), (3, .int z3), (4, .int z4), (5, .int z5)] := hl
  refine lv_iload_n hx hb d_PT_mark_0 rfl (lv_at hl 1 rfl) ?_
  refine lv_iconst (v := nI 0) hx hb d_PT_mark_1 (by decide) ?_
  refine ld_PT_36 hM d_PT_mark_2 ?_
  by_cases h1 : z1 < nI 0 ∨ ¬ z1 ≤ nI 1114111
  · exact x_thrS (rest := []) hM (c_in_bad l hfl D cI cL (z1) (nI 0) (nI 1114111) h1) cb_PT_in cv_PT_37 ⟨Nat.le_of_ble_eq_true rfl, Nat.le_of_ble_eq_true rfl⟩ ⟨Nat.le_of_ble_eq_true rfl, Nat.le_of_ble_eq_true rfl⟩ hP [] rfl hZ rfl hl.1 rfl (Nat.le_of_ble_eq_true rfl) d_PT_mark_4 hex hlk END
  refine x_callSP (rest := []) hM (c_in_ok l D cI cL (z1) (nI 0) (nI 1114111) (fun q => h1 (Or.inl q)) (Decidable.of_not_not fun q => h1 (Or.inr q))) cb_PT_in cv_PT_37 ⟨Nat.le_of_ble_eq_true rfl, Nat.le_of_ble_eq_true rfl⟩ ⟨Nat.le_of_ble_eq_true rfl, Nat.le_of_ble_eq_true rfl⟩ hP [] rfl rfl hl.1 rfl (Nat.le_of_ble_eq_true rfl) d_PT_mark_4 (fun v hv => ?_)
  subst hv
  refine W.eq (g2 := F0 m 7 ls []) rfl ?_
  refine lv_iload_n hx hb d_PT_mark_7 rfl (lv_at hl 2 rfl) ?_
  refine lv_iload_n hx hb d_PT_mark_8 rfl (lv_at hl 1 rfl) ?_
  refine ld_PT_36 hM d_PT_mark_9 ?_
  by_cases h2 : z2 < z1 ∨ ¬ z2 ≤ nI 1114111
  · exact x_thrS (rest := []) hM (c_in_bad l hfl D cI cL (z2) (z1) (nI 1114111) h2) cb_PT_in cv_PT_37 ⟨Nat.le_of_ble_eq_true rfl, Nat.le_of_ble_eq_true rfl⟩ ⟨Nat.le_of_ble_eq_true rfl, Nat.le_of_ble_eq_true rfl⟩ hP [] rfl hZ rfl hl.1 rfl (Nat.le_of_ble_eq_true rfl) d_PT_mark_11 hex hlk END
  refine x_callSP (rest := []) hM (c_in_ok l D cI cL (z2) (z1) (nI 1114111) (fun q => h2 (Or.inl q)) (Decidable.of_not_not fun q => h2 (Or.inr q))) cb_PT_in cv_PT_37 ⟨Nat.le_of_ble_eq_true rfl, Nat.le_of_ble_eq_true rfl⟩ ⟨Nat.le_of_ble_eq_true rfl, Nat.le_of_ble_eq_true rfl⟩ hP [] rfl rfl hl.1 rfl (Nat.le_of_ble_eq_true rfl) d_PT_mark_11 (fun v hv => ?_)
  subst hv
  refine W.eq (g2 := F0 m 14 ls []) rfl ?_
  refine lv_iload_n hx hb d_PT_mark_14 rfl (lv_at hl 3 rfl) ?_
  refine lv_iconst (v := nI 0) hx hb d_PT_mark_15 (by decide) ?_
  refine lv_bipush (v := nI 7) hx hb d_PT_mark_16 (by decide) ?_
  by_cases h3 : z3 < nI 0 ∨ ¬ z3 ≤ nI 7
  · exact x_thrS (rest := []) hM (c_in_bad l hfl D cI cL (z3) (nI 0) (nI 7) h3) cb_PT_in cv_PT_37 ⟨Nat.le_of_ble_eq_true rfl, Nat.le_of_ble_eq_true rfl⟩ ⟨Nat.le_of_ble_eq_true rfl, Nat.le_of_ble_eq_true rfl⟩ hP [] rfl hZ rfl hl.1 rfl (Nat.le_of_ble_eq_true rfl) d_PT_mark_18 hex hlk END
  refine x_callSP (rest := []) hM (c_in_ok l D cI cL (z3) (nI 0) (nI 7) (fun q => h3 (Or.inl q)) (Decidable.of_not_not fun q => h3 (Or.inr q))) cb_PT_in cv_PT_37 ⟨Nat.le_of_ble_eq_true rfl, Nat.le_of_ble_eq_true rfl⟩ ⟨Nat.le_of_ble_eq_true rfl, Nat.le_of_ble_eq_true rfl⟩ hP [] rfl rfl hl.1 rfl (Nat.le_of_ble_eq_true rfl) d_PT_mark_18 (fun v hv => ?_)
  subst hv
  refine W.eq (g2 := F0 m 21 ls []) rfl ?_
  exfalso
  obtain ⟨pa, hpa, rfl⟩ := okP_of (z := z1) (fun q => h1 (Or.inl q)) (Decidable.of_not_not fun q => h1 (Or.inr q))
  have hz2 : ¬ z2 < 0 := fun q => h2 (Or.inl (by rw [Int32.lt_iff_toInt_lt] at q ⊢; rw [nI_toInt (by omega)]; rw [Int32.toInt_zero] at q; omega))
  obtain ⟨pb, hpb, rfl⟩ := okP_of (z := z2) hz2 (Decidable.of_not_not fun q => h2 (Or.inr q))
  obtain ⟨fd, hfd, rfl⟩ := okF_of (z := z3) (fun q => h3 (Or.inl q)) (Decidable.of_not_not fun q => h3 (Or.inr q))
  exact hbad ⟨pa, pb, fd, rfl, rfl, rfl, Nat.le_of_not_lt fun q => h2 (Or.inl (nI_lt q (by omega))), hpb, hfd⟩
set_option maxHeartbeats 4000000 in
set_option maxRecDepth 100000 in
theorem c_pset_bad (l : Launch) (hfl : l.flags = pinnedFlags ++ [noTraceFlag]) (D : va_G) (cI cL : ClassId) (x0 : Nat) (v0 v1 : Value) (z1 z2 z3 z4 : Int32) (hbad : ¬ okM z1 z2 z3) : CB l D cI cL y_PT_set (xws y_PT_set b_PT_set 5 (some .int)) rm_b2 [.ref x0, .int z1, .int z2, .int z3, .int z4] [(x0, .inr (0, [v0, v1]))] := by
  refine CB.ofW (own := R_PT) (cc := b_PT_set) (nL := 5) (by decide) rfl (Nat.le_of_ble_eq_true rfl) ?_
  intro p e s m args below meth c Q ls hM hl hP hZ hex hlk END
  have hx := hM.1
  have hb := hM.2.1
  have hl : lv_has ls 5 [(0, .ref x0), (1, .int z1), (2, .int z2), (3, .int z3), (4, .int z4)] := hl
  refine lv_aload_n hx hb d_PT_set_0 rfl (lv_at hl 0 rfl) ?_
  refine lv_iload_n hx hb d_PT_set_1 rfl (lv_at hl 1 rfl) ?_
  refine lv_iload_n hx hb d_PT_set_2 rfl (lv_at hl 2 rfl) ?_
  refine lv_iload_n hx hb d_PT_set_3 rfl (lv_at hl 3 rfl) ?_
  refine lv_iload hx hb d_PT_set_4 (lv_at hl 4 rfl) ?_
  refine lv_iconst (v := nI 0) hx hb d_PT_set_6 (by decide) ?_
  exact x_thrV (rest := []) hM (c_pmark_bad l hfl D cI cL x0 z1 z2 z3 z4 (nI 0) hbad) cb_PT_mark cv_PT_32 ⟨Nat.le_of_ble_eq_true rfl, Nat.le_of_ble_eq_true rfl⟩ ⟨Nat.le_of_ble_eq_true rfl, Nat.le_of_ble_eq_true rfl⟩ hP [] rfl 0 rfl rfl hZ rfl hl.1 rfl (Nat.le_of_ble_eq_true rfl) d_PT_set_7 hex hlk END
set_option maxHeartbeats 4000000 in
set_option maxRecDepth 100000 in
theorem c_pget_bad (l : Launch) (hfl : l.flags = pinnedFlags ++ [noTraceFlag]) (D : va_G) (cI cL : ClassId) (x0 : Nat) (z1 z2 : Int32) (hbad : ¬ (okP z1 ∧ okF z2)) : CB l D cI cL y_PT_get (xws y_PT_get b_PT_get 3 (some .int)) rm_b1 [.ref x0, .int z1, .int z2] [] := by
  refine CB.ofW (own := R_PT) (cc := b_PT_get) (nL := 3) (by decide) rfl (Nat.le_of_ble_eq_true rfl) ?_
  intro p e s m args below meth c Q ls hM hl hP hZ hex hlk END
  have hx := hM.1
  have hb := hM.2.1
  have hl : lv_has ls 3 [(0, .ref x0), (1, .int z1), (2, .int z2)] := hl
  refine lv_iload_n hx hb d_PT_get_0 rfl (lv_at hl 1 rfl) ?_
  refine lv_iconst (v := nI 0) hx hb d_PT_get_1 (by decide) ?_
  refine ld_PT_36 hM d_PT_get_2 ?_
  by_cases h1 : z1 < nI 0 ∨ ¬ z1 ≤ nI 1114111
  · exact x_thrS (rest := []) hM (c_in_bad l hfl D cI cL (z1) (nI 0) (nI 1114111) h1) cb_PT_in cv_PT_37 ⟨Nat.le_of_ble_eq_true rfl, Nat.le_of_ble_eq_true rfl⟩ ⟨Nat.le_of_ble_eq_true rfl, Nat.le_of_ble_eq_true rfl⟩ hP [] rfl hZ rfl hl.1 rfl (Nat.le_of_ble_eq_true rfl) d_PT_get_4 hex hlk END
  refine x_callSP (rest := []) hM (c_in_ok l D cI cL (z1) (nI 0) (nI 1114111) (fun q => h1 (Or.inl q)) (Decidable.of_not_not fun q => h1 (Or.inr q))) cb_PT_in cv_PT_37 ⟨Nat.le_of_ble_eq_true rfl, Nat.le_of_ble_eq_true rfl⟩ ⟨Nat.le_of_ble_eq_true rfl, Nat.le_of_ble_eq_true rfl⟩ hP [] rfl rfl hl.1 rfl (Nat.le_of_ble_eq_true rfl) d_PT_get_4 (fun v hv => ?_)
  subst hv
  refine W.eq (g2 := F0 m 7 ls []) rfl ?_
  refine lv_iload_n hx hb d_PT_get_7 rfl (lv_at hl 2 rfl) ?_
  refine lv_iconst (v := nI 0) hx hb d_PT_get_8 (by decide) ?_
  refine lv_bipush (v := nI 7) hx hb d_PT_get_9 (by decide) ?_
  by_cases h3 : z2 < nI 0 ∨ ¬ z2 ≤ nI 7
  · exact x_thrS (rest := []) hM (c_in_bad l hfl D cI cL (z2) (nI 0) (nI 7) h3) cb_PT_in cv_PT_37 ⟨Nat.le_of_ble_eq_true rfl, Nat.le_of_ble_eq_true rfl⟩ ⟨Nat.le_of_ble_eq_true rfl, Nat.le_of_ble_eq_true rfl⟩ hP [] rfl hZ rfl hl.1 rfl (Nat.le_of_ble_eq_true rfl) d_PT_get_11 hex hlk END
  refine x_callSP (rest := []) hM (c_in_ok l D cI cL (z2) (nI 0) (nI 7) (fun q => h3 (Or.inl q)) (Decidable.of_not_not fun q => h3 (Or.inr q))) cb_PT_in cv_PT_37 ⟨Nat.le_of_ble_eq_true rfl, Nat.le_of_ble_eq_true rfl⟩ ⟨Nat.le_of_ble_eq_true rfl, Nat.le_of_ble_eq_true rfl⟩ hP [] rfl rfl hl.1 rfl (Nat.le_of_ble_eq_true rfl) d_PT_get_11 (fun v hv => ?_)
  subst hv
  refine W.eq (g2 := F0 m 14 ls []) rfl ?_
  exact absurd ⟨okP_of (fun q => h1 (Or.inl q)) (Decidable.of_not_not fun q => h1 (Or.inr q)), okF_of (fun q => h3 (Or.inl q)) (Decidable.of_not_not fun q => h3 (Or.inr q))⟩ hbad
set_option maxHeartbeats 4000000 in
set_option maxRecDepth 100000 in
theorem c_pchange_bad (l : Launch) (hfl : l.flags = pinnedFlags ++ [noTraceFlag]) (D : va_G) (cI cL : ClassId) (x0 : Nat) (v0 v1 : Value) (z1 z2 : Int32) (hbad : ¬ (okP z1 ∧ okF z2)) : CB l D cI cL y_PT_change (xws y_PT_change b_PT_change 5 (some .int)) rm_b2 [.ref x0, .int z1, .int z2] [(x0, .inr (0, [v0, v1]))] := by
  refine CB.ofW (own := R_PT) (cc := b_PT_change) (nL := 5) (by decide) rfl (Nat.le_of_ble_eq_true rfl) ?_
  intro p e s m args below meth c Q ls hM hl hP hZ hex hlk END
  have hx := hM.1
  have hb := hM.2.1
  have hl : lv_has ls 5 [(0, .ref x0), (1, .int z1), (2, .int z2)] := hl
  refine lv_aload_n hx hb d_PT_change_0 rfl (lv_at hl 0 rfl) ?_
  refine lv_iload_n hx hb d_PT_change_1 rfl (lv_at hl 1 rfl) ?_
  refine lv_iload_n hx hb d_PT_change_2 rfl (lv_at hl 2 rfl) ?_
  exact x_thrV (rest := []) hM (c_pget_bad l hfl D cI cL x0 z1 z2 hbad) cb_PT_get cv_PT_49 ⟨Nat.le_of_ble_eq_true rfl, Nat.le_of_ble_eq_true rfl⟩ ⟨Nat.le_of_ble_eq_true rfl, Nat.le_of_ble_eq_true rfl⟩ hP [] rfl 0 rfl rfl hZ rfl hl.1 rfl (Nat.le_of_ble_eq_true rfl) d_PT_change_3 hex hlk END
set_option maxHeartbeats 4000000 in
set_option maxRecDepth 100000 in
theorem c_palike_bad (l : Launch) (hfl : l.flags = pinnedFlags ++ [noTraceFlag]) (D : va_G) (cI cL : ClassId) (x0 : Nat) (z1 z2 : Int32) (hbad : ¬ (okP z1 ∧ okP z2)) : CB l D cI cL y_PT_alike (xws y_PT_alike b_PT_alike 3 (some .boolean)) rm_b1 [.ref x0, .int z1, .int z2] [] := by
  refine CB.ofW (own := R_PT) (cc := b_PT_alike) (nL := 3) (by decide) rfl (Nat.le_of_ble_eq_true rfl) ?_
  intro p e s m args below meth c Q ls hM hl hP hZ hex hlk END
  have hx := hM.1
  have hb := hM.2.1
  have hl : lv_has ls 3 [(0, .ref x0), (1, .int z1), (2, .int z2)] := hl
  refine lv_iload_n hx hb d_PT_alike_0 rfl (lv_at hl 1 rfl) ?_
  refine lv_iconst (v := nI 0) hx hb d_PT_alike_1 (by decide) ?_
  refine ld_PT_36 hM d_PT_alike_2 ?_
  by_cases h1 : z1 < nI 0 ∨ ¬ z1 ≤ nI 1114111
  · exact x_thrS (rest := []) hM (c_in_bad l hfl D cI cL (z1) (nI 0) (nI 1114111) h1) cb_PT_in cv_PT_37 ⟨Nat.le_of_ble_eq_true rfl, Nat.le_of_ble_eq_true rfl⟩ ⟨Nat.le_of_ble_eq_true rfl, Nat.le_of_ble_eq_true rfl⟩ hP [] rfl hZ rfl hl.1 rfl (Nat.le_of_ble_eq_true rfl) d_PT_alike_4 hex hlk END
  refine x_callSP (rest := []) hM (c_in_ok l D cI cL (z1) (nI 0) (nI 1114111) (fun q => h1 (Or.inl q)) (Decidable.of_not_not fun q => h1 (Or.inr q))) cb_PT_in cv_PT_37 ⟨Nat.le_of_ble_eq_true rfl, Nat.le_of_ble_eq_true rfl⟩ ⟨Nat.le_of_ble_eq_true rfl, Nat.le_of_ble_eq_true rfl⟩ hP [] rfl rfl hl.1 rfl (Nat.le_of_ble_eq_true rfl) d_PT_alike_4 (fun v hv => ?_)
  subst hv
  refine W.eq (g2 := F0 m 7 ls []) rfl ?_
  refine lv_iload_n hx hb d_PT_alike_7 rfl (lv_at hl 2 rfl) ?_
  refine lv_iconst (v := nI 0) hx hb d_PT_alike_8 (by decide) ?_
  refine ld_PT_36 hM d_PT_alike_9 ?_
  by_cases h3 : z2 < nI 0 ∨ ¬ z2 ≤ nI 1114111
  · exact x_thrS (rest := []) hM (c_in_bad l hfl D cI cL (z2) (nI 0) (nI 1114111) h3) cb_PT_in cv_PT_37 ⟨Nat.le_of_ble_eq_true rfl, Nat.le_of_ble_eq_true rfl⟩ ⟨Nat.le_of_ble_eq_true rfl, Nat.le_of_ble_eq_true rfl⟩ hP [] rfl hZ rfl hl.1 rfl (Nat.le_of_ble_eq_true rfl) d_PT_alike_11 hex hlk END
  refine x_callSP (rest := []) hM (c_in_ok l D cI cL (z2) (nI 0) (nI 1114111) (fun q => h3 (Or.inl q)) (Decidable.of_not_not fun q => h3 (Or.inr q))) cb_PT_in cv_PT_37 ⟨Nat.le_of_ble_eq_true rfl, Nat.le_of_ble_eq_true rfl⟩ ⟨Nat.le_of_ble_eq_true rfl, Nat.le_of_ble_eq_true rfl⟩ hP [] rfl rfl hl.1 rfl (Nat.le_of_ble_eq_true rfl) d_PT_alike_11 (fun v hv => ?_)
  subst hv
  refine W.eq (g2 := F0 m 14 ls []) rfl ?_
  exact absurd ⟨okP_of (fun q => h1 (Or.inl q)) (Decidable.of_not_not fun q => h1 (Or.inr q)), okP_of (fun q => h3 (Or.inl q)) (Decidable.of_not_not fun q => h3 (Or.inr q))⟩ hbad
set_option maxHeartbeats 4000000 in
set_option maxRecDepth 100000 in
theorem c_phash_bad (l : Launch) (hfl : l.flags = pinnedFlags ++ [noTraceFlag]) (D : va_G) (cI cL : ClassId) (x0 : Nat) (z1 z2 z3 : Int32) (hbad : ¬ (okM z1 z2 z3 ∧ z2 - z1 ≤ nI 3999)) : CB l D cI cL y_PT_hash (xws y_PT_hash b_PT_hash 6 (some .int)) rm_b1 [.ref x0, .int z1, .int z2, .int z3] [] := by
  refine CB.ofW (own := R_PT) (cc := b_PT_hash) (nL := 6) (by decide) rfl (Nat.le_of_ble_eq_true rfl) ?_
  intro p e s m args below meth c Q ls hM hl hP hZ hex hlk END
  have hx := hM.1
  have hb := hM.2.1
  have hl : lv_has ls 6 [(0, .ref x0), (1, .int z1), (2, .int z2), (3, .int z3)] := hl
  refine lv_iload_n hx hb d_PT_hash_0 rfl (lv_at hl 1 rfl) ?_
  refine lv_iconst (v := nI 0) hx hb d_PT_hash_1 (by decide) ?_
  refine ld_PT_36 hM d_PT_hash_2 ?_
  by_cases h1 : z1 < nI 0 ∨ ¬ z1 ≤ nI 1114111
  · exact x_thrS (rest := []) hM (c_in_bad l hfl D cI cL (z1) (nI 0) (nI 1114111) h1) cb_PT_in cv_PT_37 ⟨Nat.le_of_ble_eq_true rfl, Nat.le_of_ble_eq_true rfl⟩ ⟨Nat.le_of_ble_eq_true rfl, Nat.le_of_ble_eq_true rfl⟩ hP [] rfl hZ rfl hl.1 rfl (Nat.le_of_ble_eq_true rfl) d_PT_hash_4 hex hlk END
  refine x_callSP (rest := []) hM (c_in_ok l D cI cL (z1) (nI 0) (nI 1114111) (fun q => h1 (Or.inl q)) (Decidable.of_not_not fun q => h1 (Or.inr q))) cb_PT_in cv_PT_37 ⟨Nat.le_of_ble_eq_true rfl, Nat.le_of_ble_eq_true rfl⟩ ⟨Nat.le_of_ble_eq_true rfl, Nat.le_of_ble_eq_true rfl⟩ hP [] rfl rfl hl.1 rfl (Nat.le_of_ble_eq_true rfl) d_PT_hash_4 (fun v hv => ?_)
  subst hv
  refine W.eq (g2 := F0 m 7 ls []) rfl ?_
  refine lv_iload_n hx hb d_PT_hash_7 rfl (lv_at hl 2 rfl) ?_
  refine lv_iload_n hx hb d_PT_hash_8 rfl (lv_at hl 1 rfl) ?_
  refine ld_PT_36 hM d_PT_hash_9 ?_
  by_cases h2 : z2 < z1 ∨ ¬ z2 ≤ nI 1114111
  · exact x_thrS (rest := []) hM (c_in_bad l hfl D cI cL (z2) (z1) (nI 1114111) h2) cb_PT_in cv_PT_37 ⟨Nat.le_of_ble_eq_true rfl, Nat.le_of_ble_eq_true rfl⟩ ⟨Nat.le_of_ble_eq_true rfl, Nat.le_of_ble_eq_true rfl⟩ hP [] rfl hZ rfl hl.1 rfl (Nat.le_of_ble_eq_true rfl) d_PT_hash_11 hex hlk END
  refine x_callSP (rest := []) hM (c_in_ok l D cI cL (z2) (z1) (nI 1114111) (fun q => h2 (Or.inl q)) (Decidable.of_not_not fun q => h2 (Or.inr q))) cb_PT_in cv_PT_37 ⟨Nat.le_of_ble_eq_true rfl, Nat.le_of_ble_eq_true rfl⟩ ⟨Nat.le_of_ble_eq_true rfl, Nat.le_of_ble_eq_true rfl⟩ hP [] rfl rfl hl.1 rfl (Nat.le_of_ble_eq_true rfl) d_PT_hash_11 (fun v hv => ?_)
  subst hv
  refine W.eq (g2 := F0 m 14 ls []) rfl ?_
  refine lv_iload_n hx hb d_PT_hash_14 rfl (lv_at hl 2 rfl) ?_
  refine lv_iload_n hx hb d_PT_hash_15 rfl (lv_at hl 1 rfl) ?_
  refine lv_isub hx hb d_PT_hash_16 ?_
  refine lv_iconst (v := nI 0) hx hb d_PT_hash_17 (by decide) ?_
  refine lv_sipush (v := nI 3999) hx hb d_PT_hash_18 (by decide) ?_
  by_cases h4 : z2 - z1 < nI 0 ∨ ¬ z2 - z1 ≤ nI 3999
  · exact x_thrS (rest := []) hM (c_in_bad l hfl D cI cL (z2 - z1) (nI 0) (nI 3999) h4) cb_PT_in cv_PT_37 ⟨Nat.le_of_ble_eq_true rfl, Nat.le_of_ble_eq_true rfl⟩ ⟨Nat.le_of_ble_eq_true rfl, Nat.le_of_ble_eq_true rfl⟩ hP [] rfl hZ rfl hl.1 rfl (Nat.le_of_ble_eq_true rfl) d_PT_hash_21 hex hlk END
  refine x_callSP (rest := []) hM (c_in_ok l D cI cL (z2 - z1) (nI 0) (nI 3999) (fun q => h4 (Or.inl q)) (Decidable.of_not_not fun q => h4 (Or.inr q))) cb_PT_in cv_PT_37 ⟨Nat.le_of_ble_eq_true rfl, Nat.le_of_ble_eq_true rfl⟩ ⟨Nat.le_of_ble_eq_true rfl, Nat.le_of_ble_eq_true rfl⟩ hP [] rfl rfl hl.1 rfl (Nat.le_of_ble_eq_true rfl) d_PT_hash_21 (fun v hv => ?_)
  subst hv
  refine W.eq (g2 := F0 m 24 ls []) rfl ?_
  refine lv_iload_n hx hb d_PT_hash_24 rfl (lv_at hl 3 rfl) ?_
  refine lv_iconst (v := nI 0) hx hb d_PT_hash_25 (by decide) ?_
  refine lv_bipush (v := nI 7) hx hb d_PT_hash_26 (by decide) ?_
  by_cases h3 : z3 < nI 0 ∨ ¬ z3 ≤ nI 7
  · exact x_thrS (rest := []) hM (c_in_bad l hfl D cI cL (z3) (nI 0) (nI 7) h3) cb_PT_in cv_PT_37 ⟨Nat.le_of_ble_eq_true rfl, Nat.le_of_ble_eq_true rfl⟩ ⟨Nat.le_of_ble_eq_true rfl, Nat.le_of_ble_eq_true rfl⟩ hP [] rfl hZ rfl hl.1 rfl (Nat.le_of_ble_eq_true rfl) d_PT_hash_28 hex hlk END
  refine x_callSP (rest := []) hM (c_in_ok l D cI cL (z3) (nI 0) (nI 7) (fun q => h3 (Or.inl q)) (Decidable.of_not_not fun q => h3 (Or.inr q))) cb_PT_in cv_PT_37 ⟨Nat.le_of_ble_eq_true rfl, Nat.le_of_ble_eq_true rfl⟩ ⟨Nat.le_of_ble_eq_true rfl, Nat.le_of_ble_eq_true rfl⟩ hP [] rfl rfl hl.1 rfl (Nat.le_of_ble_eq_true rfl) d_PT_hash_28 (fun v hv => ?_)
  subst hv
  refine W.eq (g2 := F0 m 31 ls []) rfl ?_
  exfalso
  have h5 : z2 - z1 ≤ nI 3999 := Decidable.of_not_not fun q => h4 (Or.inr q)
  obtain ⟨pa, hpa, rfl⟩ := okP_of (z := z1) (fun q => h1 (Or.inl q)) (Decidable.of_not_not fun q => h1 (Or.inr q))
  have hz2 : ¬ z2 < 0 := fun q => h2 (Or.inl (by rw [Int32.lt_iff_toInt_lt] at q ⊢; rw [nI_toInt (by omega)]; rw [Int32.toInt_zero] at q; omega))
  obtain ⟨pb, hpb, rfl⟩ := okP_of (z := z2) hz2 (Decidable.of_not_not fun q => h2 (Or.inr q))
  obtain ⟨fd, hfd, rfl⟩ := okF_of (z := z3) (fun q => h3 (Or.inl q)) (Decidable.of_not_not fun q => h3 (Or.inr q))
  exact hbad ⟨⟨pa, pb, fd, rfl, rfl, rfl, Nat.le_of_not_lt fun q => h2 (Or.inl (nI_lt q (by omega))), hpb, hfd⟩, h5⟩
end
section
/-! a method with one handler that catches IllegalArgumentException, whether its catch type has been resolved or not -/
theorem x_seek {e : Env} {u : State} {g : JFrame} {a : Addr} {x : ExceptionTableEntry} {meth : Method} {c : Code} {cX : ClassId} {cell : Cell} {kX : Class} (hm : u.vm.method? g.method = some meth) (hc : meth.code = some c) (htab : c.exceptionTable.toList = [x]) (hx : covers x g.pc = true) (h0 : x.catchType ≠ 0) (hl : u.vm.ClassLinks e.platform g.method.cls x.catchType cX) (hcell : u.heap[a]? = some cell) (hobj : cell.vm.isStatics = false) (hcl : cell.cls = cX) (hk : u.vm.classes[cX]? = some kX) (hself : u.vm.assignable cX cX = true) (P : Handler → Pre) (E : CtlPost) (d : Bool) (acts : List Action) :
    wp (findHandler g a) P E e d acts u ↔ P (.found x.handlerPc) d acts (u.setVm (u.vm.noted g.method.cls x.catchType (.cls cX))) := by
  have hal : u.vm.Alike (u.vm.noted g.method.cls x.catchType (.cls cX)) := (Vm.Alike.refl u.vm).noted _ _ _
  obtain ⟨k2, hk2, -⟩ := hal.2.2 _ _ hk
  have hfit : (u.vm.noted g.method.cls x.catchType (.cls cX)).assignable cX cX = true := by rw [hal.assignable]; exact hself
  obtain ⟨r1, r2⟩ := (resolveClass_links e.toSetting hl).op (op := VmOp.resolveClass g.method.cls x.catchType) rfl
  have hob : ∀ k, cell.vm ≠ .statics k := VmData.ne_statics_of hobj
  simp only [covers] at hx
  rw [W.findHandler_eq hm hc, htab]
  simp [findHandler.go, hx, h0, r1, r2, hcell, hob, hcl, hk2, hfit, VmOp.dirties, VmOp.acts]
section XCATCH
variable {p : Program} {l : Launch} {e : Env} {R : Room} {s : State} {m : MethodId} {args : Array Value} {below : List Frame} {meth : Method} {c : Code} {T : State} {locs : List Loc} {cells slots : Nat} {Q : State → Prop}
variable {D : va_G} {cI cL : ClassId} {A : Nat → Prop} {own : String} {cc b : ByteArray} {nL nY idx np pc ci q0 rv : Nat} {y : MethodName} {rm : Room} {ret : Option FieldType} {ls : Array Slot} {As rest st0 : List Value} {w wc : va_W}
theorem x_catch (X : Stand p l e R s m args below meth c T locs cells slots) (a : Addr) {g : JFrame} (hg : g.method = m) (hown : s.vm.findClass own = some m.cls) {x : ExceptionTableEntry} (htab : c.exceptionTable.toList = [x]) (hx : covers x g.pc = true) (h0 : x.catchType ≠ 0) (hlink : (Cond.classLink own x.catchType iae).before args s = true) (hcast : (Cond.castable iae iae).before args s = true) {cell : Cell} (hcell : T.heap[a]? = some cell) (hobj : cell.vm.isStatics = false) (hcl : s.vm.findClass iae = some cell.cls) :
    ∃ vm' : Vm, Stand p l e R s m args below meth c (T.setVm vm') locs cells slots ∧ ∀ tg, Steps p.tables e below ((T.setVm vm').setTop { g with pc := x.handlerPc, stack := [.ref a] }) tg → Steps p.tables e below ((T.setTop g).pushFrame (.throwing a)) tg := by
  subst hg
  have hpl : e.platform.magicAccessors = ({} : Platform).magicAccessors := by rw [X.admits.platform]
  obtain ⟨c1, hc1, hln⟩ := Cond.classLink_spec hown hlink e.platform hpl
  cases hcl.symm.trans hc1
  obtain ⟨c2, c3, hc2, hc3, hasg⟩ := Cond.castable_spec hcast
  cases hcl.symm.trans hc2
  cases hcl.symm.trans hc3
  obtain ⟨dk, _, _, kt, hd, _, _, _, _, hkt, _, hopen⟩ := hln.here
  obtain ⟨kt2, hkt2, -⟩ := X.warmed.alike.2.2 _ _ hkt
  have hseek := x_seek (e := e) (u := (T.setTop g).pushFrame (.throwing a)) (g := g) (a := a) (x := x) X.method' X.code htab hx h0 (X.warmed.classLinks hln) hcell hobj rfl hkt2 (by rw [throwing_vm, X.warmed.alike.assignable]; exact hasg)
  refine ⟨_, X.noted (X.warmed.noted hd hopen (State.rightAt_cls hln)), fun tg hrest => ?_⟩
  obtain ⟨hgo, hwi⟩ := X.here.throwing (g := g) a
  refine Steps.head hgo hwi ?_
  obtain ⟨g0, hr⟩ := X.frames_eq
  have hfr : ((T.setTop g).pushFrame (.throwing a)).frames = .throwing a :: .java g :: below := by rw [frames_entered X.here.top, X.tail]
  have hone : (stepThrowing e ((T.setTop g).pushFrame (.throwing a)) a (.java g :: below)).1 = (((T.setTop g).pushFrame (.throwing a)).setVm (T.vm.noted g.method.cls x.catchType (.cls cell.cls))).setFrames (.java { g with pc := x.handlerPc, stack := [.ref a] } :: below) := by
    simp only [stepThrowing, searchFrame, vmDo]
    generalize hres : Sem.go _ e false [] ((T.setTop g).pushFrame (.throwing a)) = res
    obtain ⟨as, rfl, -⟩ := Sem.eq_ok_of hres (a := Handler.found x.handlerPc) (s' := ((T.setTop g).pushFrame (.throwing a)).setVm (T.vm.noted g.method.cls x.catchType (.cls cell.cls))) (acts' := []) (by simp [hseek]; rfl)
    rfl
  rw [stepThread_throwing hfr, hone]
  have hr2 : (T.setVm (T.vm.noted g.method.cls x.catchType (.cls cell.cls))).frames = .java g0 :: below := hr
  rw [State.setTop_of_frames _ hr2] at hrest
  have e1 : (((T.setTop g).pushFrame (.throwing a)).setVm (T.vm.noted g.method.cls x.catchType (.cls cell.cls))).setFrames (.java { g with pc := x.handlerPc, stack := [.ref a] } :: below) = (T.setVm (T.vm.noted g.method.cls x.catchType (.cls cell.cls))).setFrames (.java { g with pc := x.handlerPc, stack := [.ref a] } :: below) := by
    have e0 : ∀ (V : Vm) (F G : List Frame), ((T.setFrames F).setVm V).setFrames G = (T.setVm V).setFrames G := fun V F G => by
      have h1 : (T.setFrames F).setVm V = (T.setVm V).setFrames F := rfl
      rw [h1, State.setFrames_setFrames]
    rw [State.pushFrame, State.setTop_of_frames _ hr, State.setFrames_setFrames, e0]
  rw [e1]
  exact hrest
/-- invokevirtual of a thrower, caught by the method's one handler -/
theorem x_catV {fs : List Value} {Tt : u_T} {N : Nat} {pa pb ph pt : Nat} (hM : xM p s m meth c args D cI cL A own cc nL) (hc : CB l D cI cL y (xws y b nY ret) rm (.ref rv :: As) wc) (cb : xCB y b nY ret np) (cv : xCV own idx y) (hR : rm.frames + 1 ≤ R.frames ∧ 8 + (nY + 11) + rm.locals ≤ R.locals) (hf : 0 + rm.cells ≤ R.cells ∧ 0 + rm.slots ≤ R.slots)
    (hW : xW D A s.heap w s.heap []) (isC : List Nat) (hC : isC.map (fun i => w[i]?) = wc.map some) (q0 : Nat) (he : w[q0]? = some (rv, .inr (ci, fs))) (hci : xcl[ci]? = some (y.cls, Tt, N)) (hZ : Zs s) (hn : As.length = np) (hls : ls.size = nL) (hst : st0 = As.reverse ++ .ref rv :: rest) (hW8 : (rest.map fun v => v.category).sum ≤ 8) (hdg : decode cc pc = .ok (.invokevirtual idx, 3))
    (htab : c.exceptionTable.toList.map (fun h => (h.startPc, h.endPc, h.handlerPc, h.catchType)) = [(pa, pb, ph, pt)]) (hin : pa ≤ pc ∧ pc < pb) (hpt : pt ≠ 0) (hlink : Cond.classLink own pt iae ∈ xtb)
    (kk : ∀ (x k n : Nat) (H1 : Heap), k ≤ 1 → n ≤ 6 → xW D A s.heap w H1 [] → W p l e R s m args below meth c H1 [] (0 + k) (0 + n) Q (F0 m ph ls [.ref x])) : W p l e R s m args below meth c s.heap [] 0 0 Q (F0 m pc ls st0) := by
  obtain ⟨hx, hb, hml, ho, hts, hK, -⟩ := hM
  obtain ⟨cellB, hcB, hoB, hclB⟩ := x_recv (y := y) hK hW.1 he hci
  obtain ⟨x0, hx0⟩ : ∃ x0, c.exceptionTable.toList = [x0] := by
    cases hq : c.exceptionTable.toList with
    | nil => rw [hq] at htab; simp at htab
    | cons x0 r =>
      cases r with
      | nil => exact ⟨x0, rfl⟩
      | cons x1 r => rw [hq] at htab; simp at htab
  rw [hx0] at htab
  simp only [List.map_cons, List.map_nil, List.cons.injEq, and_true, Prod.mk.injEq] at htab
  obtain ⟨e1, e2, e3, e4⟩ := htab
  intro T hT X
  obtain ⟨mk, methM, hnamed, hmethM, hstM, habM⟩ := Cond.instanceMethod_spec (hts _ cv.2.1)
  obtain ⟨methM', cM, hmethM', -, -, -, -, -, -, hsigM⟩ := Cond.code_spec hnamed (hts _ cb.1)
  cases hmethM.symm.trans hmethM'
  obtain ⟨c2, r2, m2, q1, q2, q3, q4, kP, hkP, hkPi⟩ := Cond.selects_spec (hts _ cv.2.2)
  cases hclB.symm.trans q1
  cases (State.methodFound?_of_named hnamed cb.2.2.1).symm.trans q2
  cases hnamed.symm.trans q3
  have hselP : selectMethod e.platform s.vm cellB.cls mk = .method mk := by rw [Launch.admits_selectMethod X.admits]; exact q4
  obtain ⟨vm₁, X₁, hstep₁⟩ := X.invokevirtual hx ho (hts _ cv.1) hnamed hmethM hstM hkP hkPi cb.2.2.1 (a := rv) (cell := cellB) (by rw [hT]; exact hcB)
    (fun z h => by rw [h] at hoB; cases hoB) hselP hmethM habM hkP hkPi (g := F0 m pc ls st0) rfl (argsL := As) (rest := rest) (cb.2.2.len hn _ hsigM) hst (by rw [hb]; exact hdg)
  have hpre := x_preP (av := .ref rv :: As) hK hW.1 isC hC
  obtain ⟨o, t, hsteps, hend, hq⟩ := x_fly (a := (Value.ref rv :: As).toArray) hc X₁ (g := F0 m pc ls rest) rfl (hls.trans hml.symm) (by rw [hb]; exact hdg) (lv_room hW8) (X₁.named hnamed) hts cb hR hf
    ⟨rfl, (hpre (T.setVm vm₁) hT X₁.warmed).2.1, ((hpre (T.setVm vm₁) hT X₁.warmed).2.2).moved (Vm.Alike.refl _), hZ.moved (U := (T.setVm vm₁).calling (F0 m pc ls rest) mk (Value.ref rv :: As).toArray) X₁.warmed (fun q cell h => by show T.heap[q]? = _; rw [hT]; exact h)⟩
  obtain ⟨x, k, n, T', cell, X', hk, hn', ht, hc', hv, hcl, hsame⟩ := x_thrown X₁ rfl hend hq
  obtain ⟨vm2, X2, hstep2⟩ := x_catch X' x (g := F0 m pc ls rest) rfl ho hx0 (by simp only [covers, e1, e2, Bool.and_eq_true, decide_eq_true_eq]; exact hin) (by rw [e4]; exact hpt) (by rw [e4]; exact hts _ hlink) (hts (.castable iae iae) (tb_of (i := 126) rfl rfl)) hc' hv hcl
  have hold : ∀ (q : Nat) (cell : Cell), s.heap[q]? = some cell → T'.heap[q]? = some cell := fun q cell h => same_old hsame q cell (by show T.heap[q]? = _; rw [hT]; exact h)
  have hkeep : ∀ q : Nat, q < s.heap.size → T'.heap[q]? = s.heap[q]? := fun q hq => by
    rw [Array.getElem?_eq_getElem hq]; exact hold q _ (Array.getElem?_eq_getElem hq)
  have hsz : s.heap.size ≤ T'.heap.size := by
    have := hsame.2.1
    have h1 : (T.setVm vm₁).heap.size = s.heap.size := by show T.heap.size = _; rw [hT]
    rw [h1] at this; exact this
  obtain ⟨U, a1, a2⟩ := kk x k n T'.heap hk hn' ⟨hW.1.kept (fun j q hj => hkeep _ (va_at.lt (hW.1 j q hj))), hW.2.1, hsz, fun q h1 _ => hkeep q h1, fun q h => by cases h⟩ (T'.setVm vm2) rfl X2
  refine ⟨U, hstep₁ _ fun acts => ?_, a2⟩
  rw [doInvoke_state]
  refine hsteps.trans ?_
  rw [ht]
  refine hstep2 U ?_
  rw [e3]
  exact a1
end XCATCH
end
section
/-! methods with a handler: their contracts, their calls; arrays of longs -/
def xwsW (y : MethodName) (b : ByteArray) (nL : Nat) (ret : Option FieldType) (hh : List (Nat × Nat × Nat × Nat)) : List Cond := .codeWith y b nL ret hh :: xtb
def CW (l : Launch) (D : va_G) (cI cL : ClassId) (y : MethodName) (b : ByteArray) (nL : Nat) (ret : Option FieldType) (hh : List (Nat × Nat × Nat × Nat)) (rm : Room) (av : List Value) (wc : va_W) (Post : Option Value → Nat → Nat → va_W → Prop) : Prop :=
  ∀ sz : Nat, MX l y (xwsW y b nL ret hh) rm (va_Pc av (fun U => U.heap.size = sz ∧ va_P D xcl wc U.heap ∧ xK D cI cL U ∧ va_D (fun _ => True) wc ∧ Zs U))
    (fun _ st o t k n => (∃ (v : Option Value) (w1 : va_W), o = .returned v ∧ Post v k n w1 ∧ va_P D xcl w1 t.heap ∧ va_D (va_A wc sz) w1) ∧ va_F (va_A wc sz) st t) (va_A wc sz)
theorem CW.ofI {l : Launch} {D : va_G} {cI cL : ClassId} {y : MethodName} {rm : Room} {av : List Value} {wc : va_W} {own : String} {cc : ByteArray} {nL : Nat} {hh : List (Nat × Nat × Nat × Nat)} {Post : Option Value → Nat → Nat → va_W → Prop} (hy : plainName y.cls = true) (hown : y.cls = own) (hav : (lg_sl av).length ≤ nL)
    (body : ∀ (p : Program) (e : Env) (s : State) (m : MethodId) (args : Array Value) (below : List Frame) (meth : Method) (c : Code) (A : Nat → Prop) (Q : State → Prop) (ls : Array Slot), xM p s m meth c args D cI cL A own cc nL → lv_has ls nL (lv_args 0 av) → xW D A s.heap wc s.heap [] → Zs s → c.exceptionTable.toList.map (fun h => (h.startPc, h.endPc, h.handlerPc, h.catchType)) = hh →
      (∀ {H : Heap} {locs : List Loc} {k n pc : Nat} {ls : Array Slot} {r : Int32} {w1 : va_W}, xW D A s.heap w1 H locs → Post (some (.int r)) k n w1 → decode cc pc = .ok (.ireturn, 1) → W p l e rm s m args below meth c H locs k n Q (F0 m pc ls [.int r])) →
      W p l e rm s m args below meth c s.heap [] 0 0 Q (F0 m 0 ls [])) : CW l D cI cL y cc nL (some .int) hh rm av wc Post := by
  intro sz
  refine MetFree.of_bodyS (code := cc) (maxLocals := nL) (ret := some .int) hy ?_ ?_
  · intro args s m h hn
    obtain ⟨m9, meth, c, hn9, h1, h2, h3, h4, -, h5, h6, -⟩ := Cond.codeWith_spec (atoms_spec (ws := xwsW y cc nL (some .int) hh) h _ List.mem_cons_self)
    cases hn.symm.trans hn9
    exact ⟨meth, c, h1, h2, h3, h4, h5, h6⟩
  · intro p e s m args below meth c s₁ B hml hv _
    obtain ⟨rfl, hsz, hP, hK, hD0, hZ⟩ := hv
    subst hsz
    have hlocks := B.notSynchronized
    have hr := B.returns
    have hM : xM p s m meth c av.toArray D cI cL (va_A wc s.heap.size) own cc nL := by
      subst hown
      exact ⟨B.exec, B.bytes, hml, findClass_of_methodNamed B.named, fun w hw => atoms_spec (ws := xwsW y cc nL (some .int) hh) B.pre w (List.mem_cons_of_mem _ hw), hK, fun q h => Or.inr h⟩
    obtain ⟨m9, meth9, c9, hn9, g1, g2, -, -, g5, -, -, -⟩ := Cond.codeWith_spec (atoms_spec (ws := xwsW y cc nL (some .int) hh) B.pre _ List.mem_cons_self)
    cases B.named.symm.trans hn9
    cases B.method.symm.trans g1
    cases (Stand.of_body B).code.symm.trans g2
    have hl := lv_entry av (n := nL) hav
    have hh0 : s₁.heap = s.heap := by rw [B.state]; rfl
    have key : W p l e rm s m av.toArray below meth c s.heap [] 0 0 (xMQ below (fun _ st o t k n => (∃ (v : Option Value) (w1 : va_W), o = .returned v ∧ Post v k n w1 ∧ va_P D xcl w1 t.heap ∧ va_D (va_A wc s.heap.size) w1) ∧ va_F (va_A wc s.heap.size) st t) av.toArray s (va_A wc s.heap.size)) (entryFrame m av.toArray nL) := by
      rw [lg_entry_eq]
      refine body p e s m _ below meth c (va_A wc s.heap.size) _ _ hM hl ⟨hP, hD0.self, va_S.rf⟩ hZ g5 ?_
      intro H locs k n pc ls r w1 hW hp hd
      refine W.imp (fun t ht => xMQ.of (k := k) (n := n) ht) ?_
      exact W.iret hM.1 hM.2.1 hr (fun t ht hWm => ⟨⟨_, w1, rfl, hp, by rw [ht]; exact hW.1, hW.2.1⟩, hW.2.2.F ht⟩) hW.2.2.2.2 hd hlocks
    obtain ⟨t, a1, o, b1, b2, b3⟩ := key s₁ hh0 (Stand.of_body B)
    exact ⟨t, o, a1, b1, b2, b3⟩
section XCW
variable {p : Program} {l : Launch} {e : Env} {R : Room} {s : State} {m : MethodId} {args : Array Value} {below : List Frame} {meth : Method} {c : Code} {H : Heap} {locs : List Loc} {cells slots : Nat} {Q : State → Prop}
variable {D : va_G} {cI cL : ClassId} {A : Nat → Prop} {own : String} {cc b : ByteArray} {nL nY idx np pc a : Nat} {y : MethodName} {rm : Room} {ret : Option FieldType} {hh : List (Nat × Nat × Nat × Nat)} {ls : Array Slot} {As rest st0 : List Value} {w wc wr : va_W}
theorem x_callSW {Post : Option Value → Nat → Nat → va_W → Prop} (hM : xM p s m meth c args D cI cL A own cc nL) (hc : CW l D cI cL y b nY ret hh rm As wc Post) (hcode : Cond.codeWith y b nY ret hh ∈ xtb) (hini : Cond.initialized y.cls ∈ xtb) (hnm : xNm y np) (cv : xCS own idx y) (hR : rm.frames + 1 ≤ R.frames ∧ 8 + (nY + 11) + rm.locals ≤ R.locals)
    (hf : cells + rm.cells ≤ R.cells ∧ slots + rm.slots ≤ R.slots) (hZ : Zs s) (hold : ∀ (q : Nat) (cell : Cell), s.heap[q]? = some cell → H[q]? = some cell) (hW : xW D A s.heap w H locs) (isC isR : List Nat) (hnC : va_nd isC = true) (hC : isC.map (fun i => w[i]?) = wc.map some) (hRr : isR.map (fun i => w[i]?) = wr.map some) (hnR : va_nd isR = true) (hdis : ∀ i ∈ isR, i ∉ isC)
    (hn : As.length = np) (hls : ls.size = nL) (hst : st0 = As.reverse ++ rest) (hWt : (rest.map fun v => v.category).sum ≤ 8) (hdg : decode cc pc = .ok (.invokestatic idx, 3))
    (kk : ∀ (v : Option Value) (k n : Nat) (w1 : va_W) (H1 : Heap) (locs1 : List Loc), Post v k n w1 → xW D A s.heap (wr ++ w1) H1 locs1 → W p l e R s m args below meth c H1 locs1 (cells + k) (slots + n) Q (F0 m (pc + 3) ls (v.toList ++ rest))) : W p l e R s m args below meth c H locs cells slots Q (F0 m pc ls st0) := by
  have hA := hM.2.2.2.2.2.2
  have hpre := x_preT (av := As) hM.2.2.2.2.2.1 hW isC hnC hC
  obtain ⟨hx, hb, hml, ho, hts, hK, -⟩ := hM
  have hws : ∀ w ∈ xtb, ∀ (a' : Array Value) (U : State), s.WarmedH U.vm → w.before a' U = true := fun w hw a' U hW => x_warm (List.mem_filter.mp hw).2 hW (hts w hw)
  have hblind : FrameBlind (va_Pc As (fun U => U.heap.size = H.size ∧ va_P D xcl wc U.heap ∧ xK D cI cL U ∧ va_D (fun _ => True) wc ∧ Zs U)) := fun a U g mk h => ⟨h.1, h.2.1, h.2.2.1, h.2.2.2.1.moved (Vm.Alike.refl U.vm), h.2.2.2.2.1, fun cd hcd => z_one hcd (u := U) rfl (fun _ _ q => q) (h.2.2.2.2.2 cd hcd)⟩
  have hBk : Back l R p e below s args y 3 8 (xPre R rm (va_Pc As (fun U => U.heap.size = H.size ∧ va_P D xcl wc U.heap ∧ xK D cI cL U ∧ va_D (fun _ => True) wc ∧ Zs U))) (xPost (fun _ st o t k n => (∃ (v : Option Value) (w1 : va_W), o = .returned v ∧ Post v k n w1 ∧ va_P D xcl w1 t.heap ∧ va_D (va_A wc H.size) w1) ∧ va_F (va_A wc H.size) st t) (va_A wc H.size)) := by
    refine va_ofFreeW (hh := hh) (S := headSpec (xwsW y b nY ret hh) rm) (P := _) (K := fun _ _ _ _ _ => True) (bytes := b) (maxL := nY) (ret := ret)
      (E := fun a st o t L k n => (∀ q ∈ L, va_A wc H.size q.base) ∧ ((∃ (v : Option Value) (w1 : va_W), o = .returned v ∧ Post v k n w1 ∧ va_P D xcl w1 t.heap ∧ va_D (va_A wc H.size) w1) ∧ va_F (va_A wc H.size) st t)) (hc H.size) hR.1 hR.2 ?_ ?_ (fun _ _ _ _ _ _ _ _ _ => trivial) ?_ ?_
    · intro m meth c A a X hp
      refine ⟨atoms_intro fun w hw => ?_, hws _ hcode _ _ X.warmed, hws _ hini _ _ X.warmed, hp.1, hp.2.1⟩
      rcases List.mem_cons.mp hw with rfl | hw
      · exact hws _ hcode _ _ X.warmed
      · exact hws _ hw _ _ X.warmed
    · intro m meth c A a g mk X hp
      exact hblind _ _ _ _ hp.2.2
    · intro a st o t ⟨L, k, n, hF, hL, hq⟩
      exact ⟨L, k, n, hF, hL, hq⟩
    · intro m meth c A a g mk v t L k n X hp hq hF ⟨hL, hq2⟩
      exact ⟨g, mk, t, L, k, n, rfl, rfl, hq2, rfl, hL, rfl, rfl⟩
  refine x_goT ?_ hA hW isC isR hC hRr hnR hdis kk
  intro T hT X
  obtain ⟨mk, methM, cM, hnamed, hmethM, -, -, -, -, -, -, hsigM⟩ := Cond.codeWith_spec (hts _ hcode)
  have hstatic : methM.isStatic = true := Cond.static_spec hnamed hmethM (hts _ cv.2)
  obtain ⟨kP, hkP, -⟩ := className_of_methodNamed hnamed
  have hinitP : kP.init = .initialized := Cond.initialized_spec (findClass_of_methodNamed hnamed) hkP (hts _ hini)
  obtain ⟨vm₁, X₁, hstep₁⟩ := X.invokestatic hx ho (hts _ cv.1) hnamed hmethM hstatic hkP hinitP hnm.1 (g := F0 m pc ls st0) rfl (argsL := As) (rest := rest) (hnm.len hn _ hsigM) hst (by rw [hb]; exact hdg)
  have hq0 := hpre (T.setVm vm₁) hT X₁.warmed
  obtain ⟨v, ⟨U', l2, c2, s2⟩, X', ⟨g', mk', t, L, k, n, e1, e2, hq, h1, hL, h2, h3⟩, hsteps⟩ := hBk m meth c ⟨T.setVm vm₁, locs, cells, slots⟩ (F0 m pc ls rest) (.invokestatic idx) mk As.toArray X₁ rfl (hls.trans hml.symm) (by rw [hb]; exact hdg) (lv_room hWt) (X₁.named hnamed)
    ⟨hf.1, hf.2, hq0.1, hq0.2.1, hq0.2.2.1, hq0.2.2.2.1, hq0.2.2.2.2, hZ.moved (U := T.setVm vm₁) X₁.warmed (fun q cell h => by show T.heap[q]? = _; rw [hT]; exact hold q cell h)⟩
  dsimp only [Pt.U, Pt.locs, Pt.cells, Pt.slots] at X' e1 e2 h1 h2 h3 hsteps
  subst h1; subst h2; subst h3
  exact ⟨v, (T.setVm vm₁).calling g' mk' As.toArray, t, U', L, k, n, hT, X', hL, e1, e2, hq, fun tg h => hstep₁ _ fun acts => by rw [doInvoke_state]; exact hsteps.trans h⟩
theorem xn_last {n : Nat} {f : Nat → Int64} {k : Nat} {x : Int64} (hM : xM p s m meth c args D cI cL A own cc nL) (hW : xW D A s.heap w H locs) (q0 : Nat) (ha : w[q0]? = some (a, .inl (cL, n, .inr (.inl f)))) (hk : k < n) (hn : n < 2 ^ 31) (hdg : decode cc pc = .ok (.lastore, 1))
    (kk : ∀ (H1 : Heap) (locs1 : List Loc), xW D A s.heap (w.set q0 (a, .inl (cL, n, .inr (.inl (vp_updL f k x))))) H1 locs1 → W p l e R s m args below meth c H1 locs1 cells slots Q (F0 m (pc + 1) ls rest)) : W p l e R s m args below meth c H locs cells slots Q (F0 m pc ls (.long x :: .int (nI k) :: .ref a :: rest)) :=
  va_last hM.1 hM.2.1 hM.2.2.2.2.2.1.1 hW.1 hW.2.1 hW.2.2 q0 1 ha rfl (vp_in_nI hk hn) hdg (fun H1 locs1 h1 h2 h3 => by
    rw [nI_clamp (Nat.lt_trans hk hn)] at h1 h2
    exact kk H1 locs1 ⟨h1, h2, h3⟩)
theorem xn_lald {n : Nat} {f : Nat → Int64} {k : Nat} (hM : xM p s m meth c args D cI cL A own cc nL) (hP : va_P D xcl w H) (q0 : Nat) (ha : w[q0]? = some (a, .inl (cL, n, .inr (.inl f)))) (hk : k < n) (hn : n < 2 ^ 31) (hdg : decode cc pc = .ok (.laload, 1))
    (kk : W p l e R s m args below meth c H locs cells slots Q (F0 m (pc + 1) ls (.long (f k) :: rest))) : W p l e R s m args below meth c H locs cells slots Q (F0 m pc ls (.int (nI k) :: .ref a :: rest)) :=
  va_lald hM.1 hM.2.1 hM.2.2.2.2.2.1.1 hP q0 1 ha rfl (vp_in_nI hk hn) hdg (by rw [nI_clamp (Nat.lt_trans hk hn)]; exact kk)
theorem xn_newL {N : Nat} (hM : xM p s m meth c args D cI cL A own cc nL) (hW : xW D A s.heap w H locs) (hN : N ≤ 67108864) (hcells : cells + 1 ≤ R.cells) (hslots : slots + N ≤ R.slots) (hdg : decode cc pc = .ok (.newarray .long, 2))
    (kk : ∀ (q : Nat) (H1 : Heap) (locs1 : List Loc), xW D A s.heap (w ++ [(q, .inl (cL, N, .inr (.inl (fun _ => 0))))]) H1 locs1 → W p l e R s m args below meth c H1 locs1 (cells + 1) (slots + N) Q (F0 m (pc + 2) ls (.ref q :: rest))) : W p l e R s m args below meth c H locs cells slots Q (F0 m pc ls (.int (nI N) :: rest)) := by
  obtain ⟨hx, hb, hml, ho, hts, hK, hA⟩ := hM
  obtain ⟨hP, hD, hS⟩ := hW
  refine va_newaK hx hb (atype := .long) (hts (.arrayClass .long) (tb_of (i := 328) rfl rfl)) (g := F0 m pc ls (.int (nI N) :: rest)) rfl hdg rfl (nI_pos (by omega)) (N := N) (nI_clamp (by omega)) (by show N * 8 ≤ _; omega) hcells hslots rfl ?_
  intro H' cA h1 h2 h3 h4 h5
  have hc : cA = cL := Option.some.inj (h5.symm.trans hK.2.2)
  subst hc
  have hv : ∀ (k : Nat) (q : Nat × va_E), w[k]? = some q → H'[q.1]? = H[q.1]? := fun k q hk => h3 _ (va_at.lt (hP k q hk))
  refine kk H.size H' locs ⟨(hP.kept hv).app (fun k q hk => ?_), hD.push hP rfl (hA _ hS.1), Nat.le_trans hS.1 (by omega), fun q h1' h2' => by rw [h3 q (Nat.lt_of_lt_of_le h1' hS.1)]; exact hS.2.1 q h1' h2', hS.2.2⟩
  rcases k with _ | k
  · simp only [List.getElem?_cons_zero, Option.some.injEq] at hk
    subst hk
    exact h1
  · simp at hk
end XCW
end
section
/-- the cells of a PropertyTrie and of the law's out -/
abbrev wPO (cI cL : ClassId) (x0 t0 h0 ai ab am ar an ah at_ nl hc n used bl ml most ao : Nat) (rows next heads tr ix bk mk : Nat → Int32) (lf : Nat → Int64) : va_W := [(x0, .inr (0, [.ref h0, .ref t0])), (t0, .inr (2, [.ref h0, .ref ai, .ref ab, .int (nI used), .ref am, .int (nI most)])), (ai, .inl (cI, 4352, .inl ix)), (ab, .inl (cI, bl, .inl bk)), (am, .inl (cI, ml, .inl mk)), (h0, .inr (1, [.ref ar, .ref an, .ref ah, .int (nI n), .ref at_])), (ar, .inl (cI, 8 * nl, .inl rows)), (an, .inl (cI, nl, .inl next)), (ah, .inl (cI, hc, .inl heads)), (at_, .inl (cI, 8, .inl tr)), (ao, .inl (cL, 1, .inr (.inl lf)))]
abbrev rm_lset (P : Nat) : Room := { frames := 9, cells := 30000, slots := 4600000 - P, locals := 217 }
abbrev rm_lget : Room := { frames := 4, cells := 0, slots := 0, locals := 90 }
abbrev rm_lb : Room := { frames := 9, cells := 1, slots := 6, locals := 152 }
set_option maxHeartbeats 4000000 in
set_option maxRecDepth 100000 in
theorem c_lset (l : Launch) (D : va_G) (cI cL : ClassId) (x0 t0 h0 ai ab am ar an ah at_ nl hc n used bl ml most ao : Nat) (rows next heads tr ix bk mk : Nat → Int32) (lf : Nat → Int64) (g : Nat → Nat → Int32) (hX : XS g rows next heads ix bk n nl hc used bl ml most) (L : List (Nat → Int32)) (hC : Cov g L) (hLl : L.length ≤ 1025) (pa pb fd : Nat) (x : Int32) (hab : pa ≤ pb) (hpb : pb < 1114112) (hfd : fd < 8) : CW l D cI cL y_Law_set b_Law_set 7 (some .int) [(0, 14, 17, 13)] (rm_lset (PS nl hc bl ml)) [.ref x0, .int (nI pa), .int (nI pb), .int (nI fd), .int x, .ref ao] (wPO cI cL x0 t0 h0 ai ab am ar an ah at_ nl hc n used bl ml most ao rows next heads tr ix bk mk lf) (fun v k z w1 => ∃ (ab2 am2 ar2 an2 ah2 nl2 hc2 n2 used2 bl2 ml2 most2 : Nat) (rows2 next2 heads2 tr2 ix2 bk2 mk2 : Nat → Int32), v = some (.int (nI 0)) ∧ 4096 * k + PC nl hc bl ml ≤ PC nl2 hc2 bl2 ml2 ∧ z + PS nl hc bl ml ≤ PS nl2 hc2 bl2 ml2 ∧ XS (gset g pa (pb + 1) fd x (nI 0)) rows2 next2 heads2 ix2 bk2 n2 nl2 hc2 used2 bl2 ml2 most2 ∧ w1 = wPO cI cL x0 t0 h0 ai ab2 am2 ar2 an2 ah2 at_ nl2 hc2 n2 used2 bl2 ml2 most2 ao rows2 next2 heads2 tr2 ix2 bk2 mk2 (vp_updL lf 0 (nI (pb - pa + 1)).toInt64)) := by
  refine CW.ofI (own := R_Law) (cc := b_Law_set) (nL := 7) (by decide) rfl (Nat.le_of_ble_eq_true rfl) ?_
  intro p e s m args below meth c A Q ls hM hl hW hZ htab RET
  have hx := hM.1
  have hb := hM.2.1
  have hl : lv_has ls 7 [(0, .ref x0), (1, .int (nI pa)), (2, .int (nI pb)), (3, .int (nI fd)), (4, .int x), (5, .ref ao)] := hl
  have hW : xW D A s.heap [(x0, .inr (0, [.ref h0, .ref t0])), (t0, .inr (2, [.ref h0, .ref ai, .ref ab, .int (nI used), .ref am, .int (nI most)])), (ai, .inl (cI, 4352, .inl ix)), (ab, .inl (cI, bl, .inl bk)), (am, .inl (cI, ml, .inl mk)), (h0, .inr (1, [.ref ar, .ref an, .ref ah, .int (nI n), .ref at_])), (ar, .inl (cI, 8 * nl, .inl rows)), (an, .inl (cI, nl, .inl next)), (ah, .inl (cI, hc, .inl heads)), (at_, .inl (cI, 8, .inl tr)), (ao, .inl (cL, 1, .inr (.inl lf)))] s.heap [] := hW
  refine lv_aload hx hb d_Law_set_0 (lv_at hl 5 rfl) ?_
  refine lv_iconst (v := nI 0) hx hb d_Law_set_2 (by decide) ?_
  refine lv_aload_n hx hb d_Law_set_3 rfl (lv_at hl 0 rfl) ?_
  refine lv_iload_n hx hb d_Law_set_4 rfl (lv_at hl 1 rfl) ?_
  refine lv_iload_n hx hb d_Law_set_5 rfl (lv_at hl 2 rfl) ?_
  refine lv_iload_n hx hb d_Law_set_6 rfl (lv_at hl 3 rfl) ?_
  refine lv_iload hx hb d_Law_set_7 (lv_at hl 4 rfl) ?_
  refine x_callVT (rest := [.int (nI 0), .ref ao]) hM (c_pset l D cI cL x0 t0 h0 ai ab am ar an ah at_ nl hc n used bl ml most rows next heads tr ix bk mk g hX L hC hLl pa pb fd x hab hpb hfd) cb_PT_set cv_Law_7 ⟨Nat.le_of_ble_eq_true rfl, Nat.le_of_ble_eq_true rfl⟩ ⟨Nat.le_of_ble_eq_true rfl, by show 0 + (4600000 - PS nl hc bl ml) ≤ 4600000 - PS nl hc bl ml; omega⟩ hW [0, 1, 2, 3, 4, 5, 6, 7, 8, 9] [10] (by decide) rfl (wr := [(ao, .inl (cL, 1, .inr (.inl lf)))]) rfl (by decide) (by decide) 0 rfl rfl rfl hl.1 rfl (Nat.le_of_ble_eq_true rfl) d_Law_set_9 (fun v k z w1 H locs hv hW => ?_)
  obtain ⟨ab2, am2, ar2, an2, ah2, nl2, hc2, n2, used2, bl2, ml2, most2, rows2, next2, heads2, tr2, ix2, bk2, mk2, rfl, hk1, hk2, hX2, rfl⟩ := hv
  have hW : xW D A s.heap [(x0, .inr (0, [.ref h0, .ref t0])), (t0, .inr (2, [.ref h0, .ref ai, .ref ab2, .int (nI used2), .ref am2, .int (nI most2)])), (ai, .inl (cI, 4352, .inl ix2)), (ab2, .inl (cI, bl2, .inl bk2)), (am2, .inl (cI, ml2, .inl mk2)), (h0, .inr (1, [.ref ar2, .ref an2, .ref ah2, .int (nI n2), .ref at_])), (ar2, .inl (cI, 8 * nl2, .inl rows2)), (an2, .inl (cI, nl2, .inl next2)), (ah2, .inl (cI, hc2, .inl heads2)), (at_, .inl (cI, 8, .inl tr2)), (ao, .inl (cL, 1, .inr (.inl lf)))] H locs := hW.sub [1, 2, 3, 4, 5, 6, 7, 8, 9, 10, 0] (by decide) rfl
  refine W.eq (g2 := F0 m 12 ls [.int (nI (pb - pa + 1)), .int (nI 0), .ref ao]) rfl ?_
  refine lv_i2l (v := (nI (pb - pa + 1)).toInt64) hx hb d_Law_set_12 rfl ?_
  refine xn_last hM hW 10 rfl (by decide) (by decide) d_Law_set_13 (fun H locs hW => ?_)
  have hW : xW D A s.heap [(x0, .inr (0, [.ref h0, .ref t0])), (t0, .inr (2, [.ref h0, .ref ai, .ref ab2, .int (nI used2), .ref am2, .int (nI most2)])), (ai, .inl (cI, 4352, .inl ix2)), (ab2, .inl (cI, bl2, .inl bk2)), (am2, .inl (cI, ml2, .inl mk2)), (h0, .inr (1, [.ref ar2, .ref an2, .ref ah2, .int (nI n2), .ref at_])), (ar2, .inl (cI, 8 * nl2, .inl rows2)), (an2, .inl (cI, nl2, .inl next2)), (ah2, .inl (cI, hc2, .inl heads2)), (at_, .inl (cI, 8, .inl tr2)), (ao, .inl (cL, 1, .inr (.inl (vp_updL lf 0 ((nI (pb - pa + 1)).toInt64)))))] H locs := hW
  refine lv_goto (tgt := 21) hx hb d_Law_set_14 (by decide) ?_
  refine lv_iconst (v := nI 0) hx hb d_Law_set_21 (by decide) ?_
  exact RET (w1 := wPO cI cL x0 t0 h0 ai ab2 am2 ar2 an2 ah2 at_ nl2 hc2 n2 used2 bl2 ml2 most2 ao rows2 next2 heads2 tr2 ix2 bk2 mk2 _) hW ⟨ab2, am2, ar2, an2, ah2, nl2, hc2, n2, used2, bl2, ml2, most2, rows2, next2, heads2, tr2, ix2, bk2, mk2, rfl, by omega, by omega, hX2, rfl⟩ d_Law_set_22
set_option maxHeartbeats 4000000 in
set_option maxRecDepth 100000 in
theorem c_lmark (l : Launch) (D : va_G) (cI cL : ClassId) (x0 t0 h0 ai ab am ar an ah at_ nl hc n used bl ml most ao : Nat) (rows next heads tr ix bk mk : Nat → Int32) (lf : Nat → Int64) (g : Nat → Nat → Int32) (hX : XS g rows next heads ix bk n nl hc used bl ml most) (L : List (Nat → Int32)) (hC : Cov g L) (hLl : L.length ≤ 1025) (pa pb fd : Nat) (x kp : Int32) (hab : pa ≤ pb) (hpb : pb < 1114112) (hfd : fd < 8) : CW l D cI cL y_Law_mark b_Law_mark 8 (some .int) [(0, 16, 19, 13)] (rm_lset (PS nl hc bl ml)) [.ref x0, .int (nI pa), .int (nI pb), .int (nI fd), .int x, .int kp, .ref ao] (wPO cI cL x0 t0 h0 ai ab am ar an ah at_ nl hc n used bl ml most ao rows next heads tr ix bk mk lf) (fun v k z w1 => ∃ (ab2 am2 ar2 an2 ah2 nl2 hc2 n2 used2 bl2 ml2 most2 : Nat) (rows2 next2 heads2 tr2 ix2 bk2 mk2 : Nat → Int32), v = some (.int (nI 0)) ∧ 4096 * k + PC nl hc bl ml ≤ PC nl2 hc2 bl2 ml2 ∧ z + PS nl hc bl ml ≤ PS nl2 hc2 bl2 ml2 ∧ XS (gset g pa (pb + 1) fd x kp) rows2 next2 heads2 ix2 bk2 n2 nl2 hc2 used2 bl2 ml2 most2 ∧ w1 = wPO cI cL x0 t0 h0 ai ab2 am2 ar2 an2 ah2 at_ nl2 hc2 n2 used2 bl2 ml2 most2 ao rows2 next2 heads2 tr2 ix2 bk2 mk2 (vp_updL lf 0 (nI (pb - pa + 1)).toInt64)) := by
  refine CW.ofI (own := R_Law) (cc := b_Law_mark) (nL := 8) (by decide) rfl (Nat.le_of_ble_eq_true rfl) ?_
  intro p e s m args below meth c A Q ls hM hl hW hZ htab RET
  have hx := hM.1
  have hb := hM.2.1
  have hl : lv_has ls 8 [(0, .ref x0), (1, .int (nI pa)), (2, .int (nI pb)), (3, .int (nI fd)), (4, .int x), (5, .int kp), (6, .ref ao)] := hl
  have hW : xW D A s.heap [(x0, .inr (0, [.ref h0, .ref t0])), (t0, .inr (2, [.ref h0, .ref ai, .ref ab, .int (nI used), .ref am, .int (nI most)])), (ai, .inl (cI, 4352, .inl ix)), (ab, .inl (cI, bl, .inl bk)), (am, .inl (cI, ml, .inl mk)), (h0, .inr (1, [.ref ar, .ref an, .ref ah, .int (nI n), .ref at_])), (ar, .inl (cI, 8 * nl, .inl rows)), (an, .inl (cI, nl, .inl next)), (ah, .inl (cI, hc, .inl heads)), (at_, .inl (cI, 8, .inl tr)), (ao, .inl (cL, 1, .inr (.inl lf)))] s.heap [] := hW
  refine lv_aload hx hb d_Law_mark_0 (lv_at hl 6 rfl) ?_
  refine lv_iconst (v := nI 0) hx hb d_Law_mark_2 (by decide) ?_
  refine lv_aload_n hx hb d_Law_mark_3 rfl (lv_at hl 0 rfl) ?_
  refine lv_iload_n hx hb d_Law_mark_4 rfl (lv_at hl 1 rfl) ?_
  refine lv_iload_n hx hb d_Law_mark_5 rfl (lv_at hl 2 rfl) ?_
  refine lv_iload_n hx hb d_Law_mark_6 rfl (lv_at hl 3 rfl) ?_
  refine lv_iload hx hb d_Law_mark_7 (lv_at hl 4 rfl) ?_
  refine lv_iload hx hb d_Law_mark_9 (lv_at hl 5 rfl) ?_
  refine x_callVT (rest := [.int (nI 0), .ref ao]) hM (c_pmark l D cI cL x0 t0 h0 ai ab am ar an ah at_ nl hc n used bl ml most rows next heads tr ix bk mk g hX L hC hLl pa pb fd x kp hab hpb hfd) cb_PT_mark cv_Law_15 ⟨Nat.le_of_ble_eq_true rfl, Nat.le_of_ble_eq_true rfl⟩ ⟨Nat.le_of_ble_eq_true rfl, by show 0 + (4600000 - PS nl hc bl ml) ≤ 4600000 - PS nl hc bl ml; omega⟩ hW [0, 1, 2, 3, 4, 5, 6, 7, 8, 9] [10] (by decide) rfl (wr := [(ao, .inl (cL, 1, .inr (.inl lf)))]) rfl (by decide) (by decide) 0 rfl rfl rfl hl.1 rfl (Nat.le_of_ble_eq_true rfl) d_Law_mark_11 (fun v k z w1 H locs hv hW => ?_)
  obtain ⟨ab2, am2, ar2, an2, ah2, nl2, hc2, n2, used2, bl2, ml2, most2, rows2, next2, heads2, tr2, ix2, bk2, mk2, rfl, hk1, hk2, hX2, rfl⟩ := hv
  have hW : xW D A s.heap [(x0, .inr (0, [.ref h0, .ref t0])), (t0, .inr (2, [.ref h0, .ref ai, .ref ab2, .int (nI used2), .ref am2, .int (nI most2)])), (ai, .inl (cI, 4352, .inl ix2)), (ab2, .inl (cI, bl2, .inl bk2)), (am2, .inl (cI, ml2, .inl mk2)), (h0, .inr (1, [.ref ar2, .ref an2, .ref ah2, .int (nI n2), .ref at_])), (ar2, .inl (cI, 8 * nl2, .inl rows2)), (an2, .inl (cI, nl2, .inl next2)), (ah2, .inl (cI, hc2, .inl heads2)), (at_, .inl (cI, 8, .inl tr2)), (ao, .inl (cL, 1, .inr (.inl lf)))] H locs := hW.sub [1, 2, 3, 4, 5, 6, 7, 8, 9, 10, 0] (by decide) rfl
  refine W.eq (g2 := F0 m 14 ls [.int (nI (pb - pa + 1)), .int (nI 0), .ref ao]) rfl ?_
  refine lv_i2l (v := (nI (pb - pa + 1)).toInt64) hx hb d_Law_mark_14 rfl ?_
  refine xn_last hM hW 10 rfl (by decide) (by decide) d_Law_mark_15 (fun H locs hW => ?_)
  have hW : xW D A s.heap [(x0, .inr (0, [.ref h0, .ref t0])), (t0, .inr (2, [.ref h0, .ref ai, .ref ab2, .int (nI used2), .ref am2, .int (nI most2)])), (ai, .inl (cI, 4352, .inl ix2)), (ab2, .inl (cI, bl2, .inl bk2)), (am2, .inl (cI, ml2, .inl mk2)), (h0, .inr (1, [.ref ar2, .ref an2, .ref ah2, .int (nI n2), .ref at_])), (ar2, .inl (cI, 8 * nl2, .inl rows2)), (an2, .inl (cI, nl2, .inl next2)), (ah2, .inl (cI, hc2, .inl heads2)), (at_, .inl (cI, 8, .inl tr2)), (ao, .inl (cL, 1, .inr (.inl (vp_updL lf 0 ((nI (pb - pa + 1)).toInt64)))))] H locs := hW
  refine lv_goto (tgt := 23) hx hb d_Law_mark_16 (by decide) ?_
  refine lv_iconst (v := nI 0) hx hb d_Law_mark_23 (by decide) ?_
  exact RET (w1 := wPO cI cL x0 t0 h0 ai ab2 am2 ar2 an2 ah2 at_ nl2 hc2 n2 used2 bl2 ml2 most2 ao rows2 next2 heads2 tr2 ix2 bk2 mk2 _) hW ⟨ab2, am2, ar2, an2, ah2, nl2, hc2, n2, used2, bl2, ml2, most2, rows2, next2, heads2, tr2, ix2, bk2, mk2, rfl, by omega, by omega, hX2, rfl⟩ d_Law_mark_24
set_option maxHeartbeats 4000000 in
set_option maxRecDepth 100000 in
theorem c_lget (l : Launch) (D : va_G) (cI cL : ClassId) (x0 t0 h0 ai ab am ar an ah at_ nl hc n used bl ml most ao : Nat) (rows next heads tr ix bk mk : Nat → Int32) (lf : Nat → Int64) (g : Nat → Nat → Int32) (hX : XS g rows next heads ix bk n nl hc used bl ml most) (pt fd : Nat) (hp : pt < 1114112) (hfd : fd < 8) : CW l D cI cL y_Law_get b_Law_get 5 (some .int) [(0, 10, 13, 13)] rm_lget [.ref x0, .int (nI pt), .int (nI fd), .ref ao] (wPO cI cL x0 t0 h0 ai ab am ar an ah at_ nl hc n used bl ml most ao rows next heads tr ix bk mk lf) (fun v k z w1 => v = some (.int (nI 0)) ∧ k = 0 ∧ z = 0 ∧ w1 = wPO cI cL x0 t0 h0 ai ab am ar an ah at_ nl hc n used bl ml most ao rows next heads tr ix bk mk (vp_updL lf 0 (g pt fd).toInt64)) := by
  refine CW.ofI (own := R_Law) (cc := b_Law_get) (nL := 5) (by decide) rfl (Nat.le_of_ble_eq_true rfl) ?_
  intro p e s m args below meth c A Q ls hM hl hW hZ htab RET
  have hx := hM.1
  have hb := hM.2.1
  have hl : lv_has ls 5 [(0, .ref x0), (1, .int (nI pt)), (2, .int (nI fd)), (3, .ref ao)] := hl
  have hW : xW D A s.heap [(x0, .inr (0, [.ref h0, .ref t0])), (t0, .inr (2, [.ref h0, .ref ai, .ref ab, .int (nI used), .ref am, .int (nI most)])), (ai, .inl (cI, 4352, .inl ix)), (ab, .inl (cI, bl, .inl bk)), (am, .inl (cI, ml, .inl mk)), (h0, .inr (1, [.ref ar, .ref an, .ref ah, .int (nI n), .ref at_])), (ar, .inl (cI, 8 * nl, .inl rows)), (an, .inl (cI, nl, .inl next)), (ah, .inl (cI, hc, .inl heads)), (at_, .inl (cI, 8, .inl tr)), (ao, .inl (cL, 1, .inr (.inl lf)))] s.heap [] := hW
  refine lv_aload_n hx hb d_Law_get_0 rfl (lv_at hl 3 rfl) ?_
  refine lv_iconst (v := nI 0) hx hb d_Law_get_1 (by decide) ?_
  refine lv_aload_n hx hb d_Law_get_2 rfl (lv_at hl 0 rfl) ?_
  refine lv_iload_n hx hb d_Law_get_3 rfl (lv_at hl 1 rfl) ?_
  refine lv_iload_n hx hb d_Law_get_4 rfl (lv_at hl 2 rfl) ?_
  refine x_callVP (rest := [.int (nI 0), .ref ao]) hM (c_pget l D cI cL x0 t0 h0 ai ab am ar an ah at_ nl hc n used bl ml most rows next heads tr ix bk mk g hX pt fd hp hfd) cb_PT_get cv_Law_19 ⟨Nat.le_of_ble_eq_true rfl, Nat.le_of_ble_eq_true rfl⟩ ⟨Nat.le_of_ble_eq_true rfl, Nat.le_of_ble_eq_true rfl⟩ hW.1 [0, 1, 2, 3, 4, 5, 6, 7, 8, 9] rfl 0 rfl rfl rfl hl.1 rfl (Nat.le_of_ble_eq_true rfl) d_Law_get_5 (fun v hv => ?_)
  subst hv
  refine W.eq (g2 := F0 m 8 ls [.int (g pt fd), .int (nI 0), .ref ao]) rfl ?_
  refine lv_i2l (v := (g pt fd).toInt64) hx hb d_Law_get_8 rfl ?_
  refine xn_last hM hW 10 rfl (by decide) (by decide) d_Law_get_9 (fun H locs hW => ?_)
  have hW : xW D A s.heap [(x0, .inr (0, [.ref h0, .ref t0])), (t0, .inr (2, [.ref h0, .ref ai, .ref ab, .int (nI used), .ref am, .int (nI most)])), (ai, .inl (cI, 4352, .inl ix)), (ab, .inl (cI, bl, .inl bk)), (am, .inl (cI, ml, .inl mk)), (h0, .inr (1, [.ref ar, .ref an, .ref ah, .int (nI n), .ref at_])), (ar, .inl (cI, 8 * nl, .inl rows)), (an, .inl (cI, nl, .inl next)), (ah, .inl (cI, hc, .inl heads)), (at_, .inl (cI, 8, .inl tr)), (ao, .inl (cL, 1, .inr (.inl (vp_updL lf 0 ((g pt fd).toInt64)))))] H locs := hW
  refine lv_goto (tgt := 17) hx hb d_Law_get_10 (by decide) ?_
  refine lv_iconst (v := nI 0) hx hb d_Law_get_17 (by decide) ?_
  exact RET hW ⟨rfl, rfl, rfl, rfl⟩ d_Law_get_18
set_option maxHeartbeats 4000000 in
set_option maxRecDepth 100000 in
theorem c_lchange (l : Launch) (D : va_G) (cI cL : ClassId) (x0 t0 h0 ai ab am ar an ah at_ nl hc n used bl ml most ao : Nat) (rows next heads tr ix bk mk : Nat → Int32) (lf : Nat → Int64) (g : Nat → Nat → Int32) (hX : XS g rows next heads ix bk n nl hc used bl ml most) (pt fd : Nat) (hp : pt < 1114112) (hfd : fd < 8) : CW l D cI cL y_Law_change b_Law_change 5 (some .int) [(0, 10, 13, 13)] rm_lget [.ref x0, .int (nI pt), .int (nI fd), .ref ao] (wPO cI cL x0 t0 h0 ai ab am ar an ah at_ nl hc n used bl ml most ao rows next heads tr ix bk mk lf) (fun v k z w1 => ∃ y : Int32, v = some (.int (nI 0)) ∧ k = 0 ∧ z = 0 ∧ isChange g pt fd y ∧ w1 = wPO cI cL x0 t0 h0 ai ab am ar an ah at_ nl hc n used bl ml most ao rows next heads tr ix bk mk (vp_updL lf 0 y.toInt64)) := by
  refine CW.ofI (own := R_Law) (cc := b_Law_change) (nL := 5) (by decide) rfl (Nat.le_of_ble_eq_true rfl) ?_
  intro p e s m args below meth c A Q ls hM hl hW hZ htab RET
  have hx := hM.1
  have hb := hM.2.1
  have hl : lv_has ls 5 [(0, .ref x0), (1, .int (nI pt)), (2, .int (nI fd)), (3, .ref ao)] := hl
  have hW : xW D A s.heap [(x0, .inr (0, [.ref h0, .ref t0])), (t0, .inr (2, [.ref h0, .ref ai, .ref ab, .int (nI used), .ref am, .int (nI most)])), (ai, .inl (cI, 4352, .inl ix)), (ab, .inl (cI, bl, .inl bk)), (am, .inl (cI, ml, .inl mk)), (h0, .inr (1, [.ref ar, .ref an, .ref ah, .int (nI n), .ref at_])), (ar, .inl (cI, 8 * nl, .inl rows)), (an, .inl (cI, nl, .inl next)), (ah, .inl (cI, hc, .inl heads)), (at_, .inl (cI, 8, .inl tr)), (ao, .inl (cL, 1, .inr (.inl lf)))] s.heap [] := hW
  refine lv_aload_n hx hb d_Law_change_0 rfl (lv_at hl 3 rfl) ?_
  refine lv_iconst (v := nI 0) hx hb d_Law_change_1 (by decide) ?_
  refine lv_aload_n hx hb d_Law_change_2 rfl (lv_at hl 0 rfl) ?_
  refine lv_iload_n hx hb d_Law_change_3 rfl (lv_at hl 1 rfl) ?_
  refine lv_iload_n hx hb d_Law_change_4 rfl (lv_at hl 2 rfl) ?_
  refine x_callVP (rest := [.int (nI 0), .ref ao]) hM (c_pchange l D cI cL x0 t0 h0 ai ab am ar an ah at_ nl hc n used bl ml most rows next heads tr ix bk mk g hX pt fd hp hfd) cb_PT_change cv_Law_23 ⟨Nat.le_of_ble_eq_true rfl, Nat.le_of_ble_eq_true rfl⟩ ⟨Nat.le_of_ble_eq_true rfl, Nat.le_of_ble_eq_true rfl⟩ hW.1 [0, 1, 2, 3, 4, 5, 6, 7, 8, 9] rfl 0 rfl rfl rfl hl.1 rfl (Nat.le_of_ble_eq_true rfl) d_Law_change_5 (fun v hv => ?_)
  obtain ⟨y, rfl, hy⟩ := hv
  refine W.eq (g2 := F0 m 8 ls [.int y, .int (nI 0), .ref ao]) rfl ?_
  refine lv_i2l (v := (y).toInt64) hx hb d_Law_change_8 rfl ?_
  refine xn_last hM hW 10 rfl (by decide) (by decide) d_Law_change_9 (fun H locs hW => ?_)
  have hW : xW D A s.heap [(x0, .inr (0, [.ref h0, .ref t0])), (t0, .inr (2, [.ref h0, .ref ai, .ref ab, .int (nI used), .ref am, .int (nI most)])), (ai, .inl (cI, 4352, .inl ix)), (ab, .inl (cI, bl, .inl bk)), (am, .inl (cI, ml, .inl mk)), (h0, .inr (1, [.ref ar, .ref an, .ref ah, .int (nI n), .ref at_])), (ar, .inl (cI, 8 * nl, .inl rows)), (an, .inl (cI, nl, .inl next)), (ah, .inl (cI, hc, .inl heads)), (at_, .inl (cI, 8, .inl tr)), (ao, .inl (cL, 1, .inr (.inl (vp_updL lf 0 ((y).toInt64)))))] H locs := hW
  refine lv_goto (tgt := 17) hx hb d_Law_change_10 (by decide) ?_
  refine lv_iconst (v := nI 0) hx hb d_Law_change_17 (by decide) ?_
  exact RET hW ⟨y, rfl, rfl, rfl, hy, rfl⟩ d_Law_change_18
set_option maxHeartbeats 4000000 in
set_option maxRecDepth 100000 in
theorem c_lhash (l : Launch) (D : va_G) (cI cL : ClassId) (x0 t0 h0 ai ab am ar an ah at_ nl hc n used bl ml most ao : Nat) (rows next heads tr ix bk mk : Nat → Int32) (lf : Nat → Int64) (g : Nat → Nat → Int32) (hX : XS g rows next heads ix bk n nl hc used bl ml most) (pa pb fd : Nat) (hab : pa ≤ pb) (hpb : pb < 1114112) (hd : pb - pa ≤ 3999) (hfd : fd < 8) : CW l D cI cL y_Law_hash b_Law_hash 6 (some .int) [(0, 12, 15, 13)] rm_lget [.ref x0, .int (nI pa), .int (nI pb), .int (nI fd), .ref ao] (wPO cI cL x0 t0 h0 ai ab am ar an ah at_ nl hc n used bl ml most ao rows next heads tr ix bk mk lf) (fun v k z w1 => v = some (.int (nI 0)) ∧ k = 0 ∧ z = 0 ∧ w1 = wPO cI cL x0 t0 h0 ai ab am ar an ah at_ nl hc n used bl ml most ao rows next heads tr ix bk mk (vp_updL lf 0 (hF g pa fd (pb + 1 - pa)).toInt64)) := by
  refine CW.ofI (own := R_Law) (cc := b_Law_hash) (nL := 6) (by decide) rfl (Nat.le_of_ble_eq_true rfl) ?_
  intro p e s m args below meth c A Q ls hM hl hW hZ htab RET
  have hx := hM.1
  have hb := hM.2.1
  have hl : lv_has ls 6 [(0, .ref x0), (1, .int (nI pa)), (2, .int (nI pb)), (3, .int (nI fd)), (4, .ref ao)] := hl
  have hW : xW D A s.heap [(x0, .inr (0, [.ref h0, .ref t0])), (t0, .inr (2, [.ref h0, .ref ai, .ref ab, .int (nI used), .ref am, .int (nI most)])), (ai, .inl (cI, 4352, .inl ix)), (ab, .inl (cI, bl, .inl bk)), (am, .inl (cI, ml, .inl mk)), (h0, .inr (1, [.ref ar, .ref an, .ref ah, .int (nI n), .ref at_])), (ar, .inl (cI, 8 * nl, .inl rows)), (an, .inl (cI, nl, .inl next)), (ah, .inl (cI, hc, .inl heads)), (at_, .inl (cI, 8, .inl tr)), (ao, .inl (cL, 1, .inr (.inl lf)))] s.heap [] := hW
  refine lv_aload hx hb d_Law_hash_0 (lv_at hl 4 rfl) ?_
  refine lv_iconst (v := nI 0) hx hb d_Law_hash_2 (by decide) ?_
  refine lv_aload_n hx hb d_Law_hash_3 rfl (lv_at hl 0 rfl) ?_
  refine lv_iload_n hx hb d_Law_hash_4 rfl (lv_at hl 1 rfl) ?_
  refine lv_iload_n hx hb d_Law_hash_5 rfl (lv_at hl 2 rfl) ?_
  refine lv_iload_n hx hb d_Law_hash_6 rfl (lv_at hl 3 rfl) ?_
  refine x_callVP (rest := [.int (nI 0), .ref ao]) hM (c_phash l D cI cL x0 t0 h0 ai ab am ar an ah at_ nl hc n used bl ml most rows next heads tr ix bk mk g hX pa pb fd hab hpb hd hfd) cb_PT_hash cv_Law_30 ⟨Nat.le_of_ble_eq_true rfl, Nat.le_of_ble_eq_true rfl⟩ ⟨Nat.le_of_ble_eq_true rfl, Nat.le_of_ble_eq_true rfl⟩ hW.1 [0, 1, 2, 3, 4, 5, 6, 7, 8, 9] rfl 0 rfl rfl rfl hl.1 rfl (Nat.le_of_ble_eq_true rfl) d_Law_hash_7 (fun v hv => ?_)
  subst hv
  refine W.eq (g2 := F0 m 10 ls [.int (hF g pa fd (pb + 1 - pa)), .int (nI 0), .ref ao]) rfl ?_
  refine lv_i2l (v := (hF g pa fd (pb + 1 - pa)).toInt64) hx hb d_Law_hash_10 rfl ?_
  refine xn_last hM hW 10 rfl (by decide) (by decide) d_Law_hash_11 (fun H locs hW => ?_)
  have hW : xW D A s.heap [(x0, .inr (0, [.ref h0, .ref t0])), (t0, .inr (2, [.ref h0, .ref ai, .ref ab, .int (nI used), .ref am, .int (nI most)])), (ai, .inl (cI, 4352, .inl ix)), (ab, .inl (cI, bl, .inl bk)), (am, .inl (cI, ml, .inl mk)), (h0, .inr (1, [.ref ar, .ref an, .ref ah, .int (nI n), .ref at_])), (ar, .inl (cI, 8 * nl, .inl rows)), (an, .inl (cI, nl, .inl next)), (ah, .inl (cI, hc, .inl heads)), (at_, .inl (cI, 8, .inl tr)), (ao, .inl (cL, 1, .inr (.inl (vp_updL lf 0 ((hF g pa fd (pb + 1 - pa)).toInt64)))))] H locs := hW
  refine lv_goto (tgt := 19) hx hb d_Law_hash_12 (by decide) ?_
  refine lv_iconst (v := nI 0) hx hb d_Law_hash_19 (by decide) ?_
  exact RET hW ⟨rfl, rfl, rfl, rfl⟩ d_Law_hash_20
set_option maxHeartbeats 4000000 in
set_option maxRecDepth 100000 in
theorem c_lalike (l : Launch) (D : va_G) (cI cL : ClassId) (x0 t0 h0 ai ab am ar an ah at_ nl hc n used bl ml most ao : Nat) (rows next heads tr ix bk mk : Nat → Int32) (lf : Nat → Int64) (g : Nat → Nat → Int32) (hX : XS g rows next heads ix bk n nl hc used bl ml most) (pa pb : Nat) (hpa : pa < 1114112) (hpb : pb < 1114112) : CW l D cI cL y_Law_alike b_Law_alike 5 (some .int) [(0, 17, 20, 13)] rm_lget [.ref x0, .int (nI pa), .int (nI pb), .ref ao] (wPO cI cL x0 t0 h0 ai ab am ar an ah at_ nl hc n used bl ml most ao rows next heads tr ix bk mk lf) (fun v k z w1 => ∃ y : Int32, v = some (.int (nI 0)) ∧ k = 0 ∧ z = 0 ∧ isAlike g pa pb y ∧ w1 = wPO cI cL x0 t0 h0 ai ab am ar an ah at_ nl hc n used bl ml most ao rows next heads tr ix bk mk (vp_updL lf 0 y.toInt64)) := by
  refine CW.ofI (own := R_Law) (cc := b_Law_alike) (nL := 5) (by decide) rfl (Nat.le_of_ble_eq_true rfl) ?_
  intro p e s m args below meth c A Q ls hM hl hW hZ htab RET
  have hx := hM.1
  have hb := hM.2.1
  have hl : lv_has ls 5 [(0, .ref x0), (1, .int (nI pa)), (2, .int (nI pb)), (3, .ref ao)] := hl
  have hW : xW D A s.heap [(x0, .inr (0, [.ref h0, .ref t0])), (t0, .inr (2, [.ref h0, .ref ai, .ref ab, .int (nI used), .ref am, .int (nI most)])), (ai, .inl (cI, 4352, .inl ix)), (ab, .inl (cI, bl, .inl bk)), (am, .inl (cI, ml, .inl mk)), (h0, .inr (1, [.ref ar, .ref an, .ref ah, .int (nI n), .ref at_])), (ar, .inl (cI, 8 * nl, .inl rows)), (an, .inl (cI, nl, .inl next)), (ah, .inl (cI, hc, .inl heads)), (at_, .inl (cI, 8, .inl tr)), (ao, .inl (cL, 1, .inr (.inl lf)))] s.heap [] := hW
  refine lv_aload_n hx hb d_Law_alike_0 rfl (lv_at hl 3 rfl) ?_
  refine lv_iconst (v := nI 0) hx hb d_Law_alike_1 (by decide) ?_
  refine lv_aload_n hx hb d_Law_alike_2 rfl (lv_at hl 0 rfl) ?_
  refine lv_iload_n hx hb d_Law_alike_3 rfl (lv_at hl 1 rfl) ?_
  refine lv_iload_n hx hb d_Law_alike_4 rfl (lv_at hl 2 rfl) ?_
  refine x_callVP (rest := [.int (nI 0), .ref ao]) hM (c_palike l D cI cL x0 t0 h0 ai ab am ar an ah at_ nl hc n used bl ml most rows next heads tr ix bk mk g hX pa pb hpa hpb) cb_PT_alike cv_Law_26 ⟨Nat.le_of_ble_eq_true rfl, Nat.le_of_ble_eq_true rfl⟩ ⟨Nat.le_of_ble_eq_true rfl, Nat.le_of_ble_eq_true rfl⟩ hW.1 [0, 1, 2, 3, 4, 5, 6, 7, 8, 9] rfl 0 rfl rfl rfl hl.1 rfl (Nat.le_of_ble_eq_true rfl) d_Law_alike_5 (fun v hv => ?_)
  obtain ⟨y, rfl, hy⟩ := hv
  refine W.eq (g2 := F0 m 8 ls [.int y, .int (nI 0), .ref ao]) rfl ?_
  rcases id hy with ⟨e1, -⟩ | ⟨e1, -⟩
  · rw [e1]
    refine W.eq (g2 := F0 m 8 ls [.int (nI 1), .int (nI 0), .ref ao]) rfl ?_
    refine xn_ifeq (tgt := 15) hx hb (by omega) d_Law_alike_8 (by decide) (fun hz => ?_) (fun hz => ?_)
    · exact absurd hz (by decide)
    · refine lv_lconst (v := 1) hx hb d_Law_alike_11 rfl ?_
      refine lv_goto (tgt := 16) hx hb d_Law_alike_12 (by decide) ?_
      refine xn_last hM hW 10 rfl (by decide) (by decide) d_Law_alike_16 (fun H locs hW => ?_)
      have hW : xW D A s.heap [(x0, .inr (0, [.ref h0, .ref t0])), (t0, .inr (2, [.ref h0, .ref ai, .ref ab, .int (nI used), .ref am, .int (nI most)])), (ai, .inl (cI, 4352, .inl ix)), (ab, .inl (cI, bl, .inl bk)), (am, .inl (cI, ml, .inl mk)), (h0, .inr (1, [.ref ar, .ref an, .ref ah, .int (nI n), .ref at_])), (ar, .inl (cI, 8 * nl, .inl rows)), (an, .inl (cI, nl, .inl next)), (ah, .inl (cI, hc, .inl heads)), (at_, .inl (cI, 8, .inl tr)), (ao, .inl (cL, 1, .inr (.inl (vp_updL lf 0 1))))] H locs := hW
      refine lv_goto (tgt := 24) hx hb d_Law_alike_17 (by decide) ?_
      refine lv_iconst (v := nI 0) hx hb d_Law_alike_24 (by decide) ?_
      refine RET (w1 := wPO cI cL x0 t0 h0 ai ab am ar an ah at_ nl hc n used bl ml most ao rows next heads tr ix bk mk _) hW ⟨y, rfl, rfl, rfl, hy, ?_⟩ d_Law_alike_25
      rw [e1]; rfl
  · rw [e1]
    refine W.eq (g2 := F0 m 8 ls [.int (nI 0), .int (nI 0), .ref ao]) rfl ?_
    refine xn_ifeq (tgt := 15) hx hb (by omega) d_Law_alike_8 (by decide) (fun hz => ?_) (fun hz => ?_)
    · refine lv_lconst (v := 0) hx hb d_Law_alike_15 rfl ?_
      refine xn_last hM hW 10 rfl (by decide) (by decide) d_Law_alike_16 (fun H locs hW => ?_)
      have hW : xW D A s.heap [(x0, .inr (0, [.ref h0, .ref t0])), (t0, .inr (2, [.ref h0, .ref ai, .ref ab, .int (nI used), .ref am, .int (nI most)])), (ai, .inl (cI, 4352, .inl ix)), (ab, .inl (cI, bl, .inl bk)), (am, .inl (cI, ml, .inl mk)), (h0, .inr (1, [.ref ar, .ref an, .ref ah, .int (nI n), .ref at_])), (ar, .inl (cI, 8 * nl, .inl rows)), (an, .inl (cI, nl, .inl next)), (ah, .inl (cI, hc, .inl heads)), (at_, .inl (cI, 8, .inl tr)), (ao, .inl (cL, 1, .inr (.inl (vp_updL lf 0 0))))] H locs := hW
      refine lv_goto (tgt := 24) hx hb d_Law_alike_17 (by decide) ?_
      refine lv_iconst (v := nI 0) hx hb d_Law_alike_24 (by decide) ?_
      refine RET (w1 := wPO cI cL x0 t0 h0 ai ab am ar an ah at_ nl hc n used bl ml most ao rows next heads tr ix bk mk _) hW ⟨y, rfl, rfl, rfl, hy, ?_⟩ d_Law_alike_25
      rw [e1]; rfl
    · exact absurd rfl hz
set_option maxHeartbeats 4000000 in
set_option maxRecDepth 100000 in
theorem c_lset_bad (l : Launch) (hfl : l.flags = pinnedFlags ++ [noTraceFlag]) (D : va_G) (cI cL : ClassId) (x0 t0 h0 ai ab am ar an ah at_ nl hc n used bl ml most ao : Nat) (rows next heads tr ix bk mk : Nat → Int32) (lf : Nat → Int64) (z1 z2 z3 z4 : Int32) (hbad : ¬ okM z1 z2 z3) : CW l D cI cL y_Law_set b_Law_set 7 (some .int) [(0, 14, 17, 13)] rm_lb [.ref x0, .int z1, .int z2, .int z3, .int z4, .ref ao] (wPO cI cL x0 t0 h0 ai ab am ar an ah at_ nl hc n used bl ml most ao rows next heads tr ix bk mk lf) (fun v k z w1 => v = some (.int (nI 1)) ∧ k ≤ 1 ∧ z ≤ 6 ∧ w1 = wPO cI cL x0 t0 h0 ai ab am ar an ah at_ nl hc n used bl ml most ao rows next heads tr ix bk mk lf) := by
  refine CW.ofI (own := R_Law) (cc := b_Law_set) (nL := 7) (by decide) rfl (Nat.le_of_ble_eq_true rfl) ?_
  intro p e s m args below meth c A Q ls hM hl hW hZ htab RET
  have hx := hM.1
  have hb := hM.2.1
  have hl : lv_has ls 7 [(0, .ref x0), (1, .int z1), (2, .int z2), (3, .int z3), (4, .int z4), (5, .ref ao)] := hl
  have hW : xW D A s.heap [(x0, .inr (0, [.ref h0, .ref t0])), (t0, .inr (2, [.ref h0, .ref ai, .ref ab, .int (nI used), .ref am, .int (nI most)])), (ai, .inl (cI, 4352, .inl ix)), (ab, .inl (cI, bl, .inl bk)), (am, .inl (cI, ml, .inl mk)), (h0, .inr (1, [.ref ar, .ref an, .ref ah, .int (nI n), .ref at_])), (ar, .inl (cI, 8 * nl, .inl rows)), (an, .inl (cI, nl, .inl next)), (ah, .inl (cI, hc, .inl heads)), (at_, .inl (cI, 8, .inl tr)), (ao, .inl (cL, 1, .inr (.inl lf)))] s.heap [] := hW
  refine lv_aload hx hb d_Law_set_0 (lv_at hl 5 rfl) ?_
  refine lv_iconst (v := nI 0) hx hb d_Law_set_2 (by decide) ?_
  refine lv_aload_n hx hb d_Law_set_3 rfl (lv_at hl 0 rfl) ?_
  refine lv_iload_n hx hb d_Law_set_4 rfl (lv_at hl 1 rfl) ?_
  refine lv_iload_n hx hb d_Law_set_5 rfl (lv_at hl 2 rfl) ?_
  refine lv_iload_n hx hb d_Law_set_6 rfl (lv_at hl 3 rfl) ?_
  refine lv_iload hx hb d_Law_set_7 (lv_at hl 4 rfl) ?_
  refine x_catV (rest := [.int (nI 0), .ref ao]) (pa := 0) (pb := 14) (ph := 17) (pt := 13) hM (c_pset_bad l hfl D cI cL x0 (.ref h0) (.ref t0) z1 z2 z3 z4 hbad) cb_PT_set cv_Law_7 ⟨Nat.le_of_ble_eq_true rfl, Nat.le_of_ble_eq_true rfl⟩ ⟨Nat.le_of_ble_eq_true rfl, Nat.le_of_ble_eq_true rfl⟩ hW [0] rfl 0 rfl rfl hZ rfl hl.1 rfl (Nat.le_of_ble_eq_true rfl) d_Law_set_9 htab (by decide) (by decide) (tb_of (i := 111) rfl rfl) (fun xx k z H hk hz hW => ?_)
  refine lv_astore (lv' := [(6, .ref xx), (0, .ref x0), (1, .int z1), (2, .int z2), (3, .int z3), (4, .int z4), (5, .ref ao)]) hx hb d_Law_set_17 hl (by decide) rfl (fun ls hl => ?_)
  refine lv_iconst (v := nI 1) hx hb d_Law_set_19 (by decide) ?_
  exact RET (w1 := wPO cI cL x0 t0 h0 ai ab am ar an ah at_ nl hc n used bl ml most ao rows next heads tr ix bk mk lf) hW ⟨rfl, by omega, by omega, rfl⟩ d_Law_set_20
set_option maxHeartbeats 4000000 in
set_option maxRecDepth 100000 in
theorem c_lmark_bad (l : Launch) (hfl : l.flags = pinnedFlags ++ [noTraceFlag]) (D : va_G) (cI cL : ClassId) (x0 t0 h0 ai ab am ar an ah at_ nl hc n used bl ml most ao : Nat) (rows next heads tr ix bk mk : Nat → Int32) (lf : Nat → Int64) (z1 z2 z3 z4 z5 : Int32) (hbad : ¬ okM z1 z2 z3) : CW l D cI cL y_Law_mark b_Law_mark 8 (some .int) [(0, 16, 19, 13)] rm_lb [.ref x0, .int z1, .int z2, .int z3, .int z4, .int z5, .ref ao] (wPO cI cL x0 t0 h0 ai ab am ar an ah at_ nl hc n used bl ml most ao rows next heads tr ix bk mk lf) (fun v k z w1 => v = some (.int (nI 1)) ∧ k ≤ 1 ∧ z ≤ 6 ∧ w1 = wPO cI cL x0 t0 h0 ai ab am ar an ah at_ nl hc n used bl ml most ao rows next heads tr ix bk mk lf) := by
  refine CW.ofI (own := R_Law) (cc := b_Law_mark) (nL := 8) (by decide) rfl (Nat.le_of_ble_eq_true rfl) ?_
  intro p e s m args below meth c A Q ls hM hl hW hZ htab RET
  have hx := hM.1
  have hb := hM.2.1
  have hl : lv_has ls 8 [(0, .ref x0), (1, .int z1), (2, .int z2), (3, .int z3), (4, .int z4), (5, .int z5), (6, .ref ao)] := hl
  have hW : xW D A s.heap [(x0, .inr (0, [.ref h0, .ref t0])), (t0, .inr (2, [.ref h0, .ref ai, .ref ab, .int (nI used), .ref am, .int (nI most)])), (ai, .inl (cI, 4352, .inl ix)), (ab, .inl (cI, bl, .inl bk)), (am, .inl (cI, ml, .inl mk)), (h0, .inr (1, [.ref ar, .ref an, .ref ah, .int (nI n), .ref at_])), (ar, .inl (cI, 8 * nl, .inl rows)), (an, .inl (cI, nl, .inl next)), (ah, .inl (cI, hc, .inl heads)), (at_, .inl (cI, 8, .inl tr)), (ao, .inl (cL, 1, .inr (.inl lf)))] s.heap [] := hW
  refine lv_aload hx hb d_Law_mark_0 (lv_at hl 6 rfl) ?_
  refine lv_iconst (v := nI 0) hx hb d_Law_mark_2 (by decide) ?_
  refine lv_aload_n hx hb d_Law_mark_3 rfl (lv_at hl 0 rfl) ?_
  refine lv_iload_n hx hb d_Law_mark_4 rfl (lv_at hl 1 rfl) ?_
  refine lv_iload_n hx hb d_Law_mark_5 rfl (lv_at hl 2 rfl) ?_
  refine lv_iload_n hx hb d_Law_mark_6 rfl (lv_at hl 3 rfl) ?_
  refine lv_iload hx hb d_Law_mark_7 (lv_at hl 4 rfl) ?_
  refine lv_iload hx hb d_Law_mark_9 (lv_at hl 5 rfl) ?_
  refine x_catV (rest := [.int (nI 0), .ref ao]) (pa := 0) (pb := 16) (ph := 19) (pt := 13) hM (c_pmark_bad l hfl D cI cL x0 z1 z2 z3 z4 z5 hbad) cb_PT_mark cv_Law_15 ⟨Nat.le_of_ble_eq_true rfl, Nat.le_of_ble_eq_true rfl⟩ ⟨Nat.le_of_ble_eq_true rfl, Nat.le_of_ble_eq_true rfl⟩ hW [] rfl 0 rfl rfl hZ rfl hl.1 rfl (Nat.le_of_ble_eq_true rfl) d_Law_mark_11 htab (by decide) (by decide) (tb_of (i := 111) rfl rfl) (fun xx k z H hk hz hW => ?_)
  refine lv_astore (lv' := [(7, .ref xx), (0, .ref x0), (1, .int z1), (2, .int z2), (3, .int z3), (4, .int z4), (5, .int z5), (6, .ref ao)]) hx hb d_Law_mark_19 hl (by decide) rfl (fun ls hl => ?_)
  refine lv_iconst (v := nI 1) hx hb d_Law_mark_21 (by decide) ?_
  exact RET (w1 := wPO cI cL x0 t0 h0 ai ab am ar an ah at_ nl hc n used bl ml most ao rows next heads tr ix bk mk lf) hW ⟨rfl, by omega, by omega, rfl⟩ d_Law_mark_22
set_option maxHeartbeats 4000000 in
set_option maxRecDepth 100000 in
theorem c_lget_bad (l : Launch) (hfl : l.flags = pinnedFlags ++ [noTraceFlag]) (D : va_G) (cI cL : ClassId) (x0 t0 h0 ai ab am ar an ah at_ nl hc n used bl ml most ao : Nat) (rows next heads tr ix bk mk : Nat → Int32) (lf : Nat → Int64) (z1 z2 : Int32) (hbad : ¬ (okP z1 ∧ okF z2)) : CW l D cI cL y_Law_get b_Law_get 5 (some .int) [(0, 10, 13, 13)] rm_lb [.ref x0, .int z1, .int z2, .ref ao] (wPO cI cL x0 t0 h0 ai ab am ar an ah at_ nl hc n used bl ml most ao rows next heads tr ix bk mk lf) (fun v k z w1 => v = some (.int (nI 1)) ∧ k ≤ 1 ∧ z ≤ 6 ∧ w1 = wPO cI cL x0 t0 h0 ai ab am ar an ah at_ nl hc n used bl ml most ao rows next heads tr ix bk mk lf) := by
  refine CW.ofI (own := R_Law) (cc := b_Law_get) (nL := 5) (by decide) rfl (Nat.le_of_ble_eq_true rfl) ?_
  intro p e s m args below meth c A Q ls hM hl hW hZ htab RET
  have hx := hM.1
  have hb := hM.2.1
  have hl : lv_has ls 5 [(0, .ref x0), (1, .int z1), (2, .int z2), (3, .ref ao)] := hl
  have hW : xW D A s.heap [(x0, .inr (0, [.ref h0, .ref t0])), (t0, .inr (2, [.ref h0, .ref ai, .ref ab, .int (nI used), .ref am, .int (nI most)])), (ai, .inl (cI, 4352, .inl ix)), (ab, .inl (cI, bl, .inl bk)), (am, .inl (cI, ml, .inl mk)), (h0, .inr (1, [.ref ar, .ref an, .ref ah, .int (nI n), .ref at_])), (ar, .inl (cI, 8 * nl, .inl rows)), (an, .inl (cI, nl, .inl next)), (ah, .inl (cI, hc, .inl heads)), (at_, .inl (cI, 8, .inl tr)), (ao, .inl (cL, 1, .inr (.inl lf)))] s.heap [] := hW
  refine lv_aload_n hx hb d_Law_get_0 rfl (lv_at hl 3 rfl) ?_
  refine lv_iconst (v := nI 0) hx hb d_Law_get_1 (by decide) ?_
  refine lv_aload_n hx hb d_Law_get_2 rfl (lv_at hl 0 rfl) ?_
  refine lv_iload_n hx hb d_Law_get_3 rfl (lv_at hl 1 rfl) ?_
  refine lv_iload_n hx hb d_Law_get_4 rfl (lv_at hl 2 rfl) ?_
  refine x_catV (rest := [.int (nI 0), .ref ao]) (pa := 0) (pb := 10) (ph := 13) (pt := 13) hM (c_pget_bad l hfl D cI cL x0 z1 z2 hbad) cb_PT_get cv_Law_19 ⟨Nat.le_of_ble_eq_true rfl, Nat.le_of_ble_eq_true rfl⟩ ⟨Nat.le_of_ble_eq_true rfl, Nat.le_of_ble_eq_true rfl⟩ hW [] rfl 0 rfl rfl hZ rfl hl.1 rfl (Nat.le_of_ble_eq_true rfl) d_Law_get_5 htab (by decide) (by decide) (tb_of (i := 111) rfl rfl) (fun xx k z H hk hz hW => ?_)
  refine lv_astore (lv' := [(4, .ref xx), (0, .ref x0), (1, .int z1), (2, .int z2), (3, .ref ao)]) hx hb d_Law_get_13 hl (by decide) rfl (fun ls hl => ?_)
  refine lv_iconst (v := nI 1) hx hb d_Law_get_15 (by decide) ?_
  exact RET (w1 := wPO cI cL x0 t0 h0 ai ab am ar an ah at_ nl hc n used bl ml most ao rows next heads tr ix bk mk lf) hW ⟨rfl, by omega, by omega, rfl⟩ d_Law_get_16
set_option maxHeartbeats 4000000 in
set_option maxRecDepth 100000 in
theorem c_lchange_bad (l : Launch) (hfl : l.flags = pinnedFlags ++ [noTraceFlag]) (D : va_G) (cI cL : ClassId) (x0 t0 h0 ai ab am ar an ah at_ nl hc n used bl ml most ao : Nat) (rows next heads tr ix bk mk : Nat → Int32) (lf : Nat → Int64) (z1 z2 : Int32) (hbad : ¬ (okP z1 ∧ okF z2)) : CW l D cI cL y_Law_change b_Law_change 5 (some .int) [(0, 10, 13, 13)] rm_lb [.ref x0, .int z1, .int z2, .ref ao] (wPO cI cL x0 t0 h0 ai ab am ar an ah at_ nl hc n used bl ml most ao rows next heads tr ix bk mk lf) (fun v k z w1 => v = some (.int (nI 1)) ∧ k ≤ 1 ∧ z ≤ 6 ∧ w1 = wPO cI cL x0 t0 h0 ai ab am ar an ah at_ nl hc n used bl ml most ao rows next heads tr ix bk mk lf) := by
  refine CW.ofI (own := R_Law) (cc := b_Law_change) (nL := 5) (by decide) rfl (Nat.le_of_ble_eq_true rfl) ?_
  intro p e s m args below meth c A Q ls hM hl hW hZ htab RET
  have hx := hM.1
  have hb := hM.2.1
  have hl : lv_has ls 5 [(0, .ref x0), (1, .int z1), (2, .int z2), (3, .ref ao)] := hl
  have hW : xW D A s.heap [(x0, .inr (0, [.ref h0, .ref t0])), (t0, .inr (2, [.ref h0, .ref ai, .ref ab, .int (nI used), .ref am, .int (nI most)])), (ai, .inl (cI, 4352, .inl ix)), (ab, .inl (cI, bl, .inl bk)), (am, .inl (cI, ml, .inl mk)), (h0, .inr (1, [.ref ar, .ref an, .ref ah, .int (nI n), .ref at_])), (ar, .inl (cI, 8 * nl, .inl rows)), (an, .inl (cI, nl, .inl next)), (ah, .inl (cI, hc, .inl heads)), (at_, .inl (cI, 8, .inl tr)), (ao, .inl (cL, 1, .inr (.inl lf)))] s.heap [] := hW
  refine lv_aload_n hx hb d_Law_change_0 rfl (lv_at hl 3 rfl) ?_
  refine lv_iconst (v := nI 0) hx hb d_Law_change_1 (by decide) ?_
  refine lv_aload_n hx hb d_Law_change_2 rfl (lv_at hl 0 rfl) ?_
  refine lv_iload_n hx hb d_Law_change_3 rfl (lv_at hl 1 rfl) ?_
  refine lv_iload_n hx hb d_Law_change_4 rfl (lv_at hl 2 rfl) ?_
  refine x_catV (rest := [.int (nI 0), .ref ao]) (pa := 0) (pb := 10) (ph := 13) (pt := 13) hM (c_pchange_bad l hfl D cI cL x0 (.ref h0) (.ref t0) z1 z2 hbad) cb_PT_change cv_Law_23 ⟨Nat.le_of_ble_eq_true rfl, Nat.le_of_ble_eq_true rfl⟩ ⟨Nat.le_of_ble_eq_true rfl, Nat.le_of_ble_eq_true rfl⟩ hW [0] rfl 0 rfl rfl hZ rfl hl.1 rfl (Nat.le_of_ble_eq_true rfl) d_Law_change_5 htab (by decide) (by decide) (tb_of (i := 111) rfl rfl) (fun xx k z H hk hz hW => ?_)
  refine lv_astore (lv' := [(4, .ref xx), (0, .ref x0), (1, .int z1), (2, .int z2), (3, .ref ao)]) hx hb d_Law_change_13 hl (by decide) rfl (fun ls hl => ?_)
  refine lv_iconst (v := nI 1) hx hb d_Law_change_15 (by decide) ?_
  exact RET (w1 := wPO cI cL x0 t0 h0 ai ab am ar an ah at_ nl hc n used bl ml most ao rows next heads tr ix bk mk lf) hW ⟨rfl, by omega, by omega, rfl⟩ d_Law_change_16
set_option maxHeartbeats 4000000 in
set_option maxRecDepth 100000 in
theorem c_lalike_bad (l : Launch) (hfl : l.flags = pinnedFlags ++ [noTraceFlag]) (D : va_G) (cI cL : ClassId) (x0 t0 h0 ai ab am ar an ah at_ nl hc n used bl ml most ao : Nat) (rows next heads tr ix bk mk : Nat → Int32) (lf : Nat → Int64) (z1 z2 : Int32) (hbad : ¬ (okP z1 ∧ okP z2)) : CW l D cI cL y_Law_alike b_Law_alike 5 (some .int) [(0, 17, 20, 13)] rm_lb [.ref x0, .int z1, .int z2, .ref ao] (wPO cI cL x0 t0 h0 ai ab am ar an ah at_ nl hc n used bl ml most ao rows next heads tr ix bk mk lf) (fun v k z w1 => v = some (.int (nI 1)) ∧ k ≤ 1 ∧ z ≤ 6 ∧ w1 = wPO cI cL x0 t0 h0 ai ab am ar an ah at_ nl hc n used bl ml most ao rows next heads tr ix bk mk lf) := by
  refine CW.ofI (own := R_Law) (cc := b_Law_alike) (nL := 5) (by decide) rfl (Nat.le_of_ble_eq_true rfl) ?_
  intro p e s m args below meth c A Q ls hM hl hW hZ htab RET
  have hx := hM.1
  have hb := hM.2.1
  have hl : lv_has ls 5 [(0, .ref x0), (1, .int z1), (2, .int z2), (3, .ref ao)] := hl
  have hW : xW D A s.heap [(x0, .inr (0, [.ref h0, .ref t0])), (t0, .inr (2, [.ref h0, .ref ai, .ref ab, .int (nI used), .ref am, .int (nI most)])), (ai, .inl (cI, 4352, .inl ix)), (ab, .inl (cI, bl, .inl bk)), (am, .inl (cI, ml, .inl mk)), (h0, .inr (1, [.ref ar, .ref an, .ref ah, .int (nI n), .ref at_])), (ar, .inl (cI, 8 * nl, .inl rows)), (an, .inl (cI, nl, .inl next)), (ah, .inl (cI, hc, .inl heads)), (at_, .inl (cI, 8, .inl tr)), (ao, .inl (cL, 1, .inr (.inl lf)))] s.heap [] := hW
  refine lv_aload_n hx hb d_Law_alike_0 rfl (lv_at hl 3 rfl) ?_
  refine lv_iconst (v := nI 0) hx hb d_Law_alike_1 (by decide) ?_
  refine lv_aload_n hx hb d_Law_alike_2 rfl (lv_at hl 0 rfl) ?_
  refine lv_iload_n hx hb d_Law_alike_3 rfl (lv_at hl 1 rfl) ?_
  refine lv_iload_n hx hb d_Law_alike_4 rfl (lv_at hl 2 rfl) ?_
  refine x_catV (rest := [.int (nI 0), .ref ao]) (pa := 0) (pb := 17) (ph := 20) (pt := 13) hM (c_palike_bad l hfl D cI cL x0 z1 z2 hbad) cb_PT_alike cv_Law_26 ⟨Nat.le_of_ble_eq_true rfl, Nat.le_of_ble_eq_true rfl⟩ ⟨Nat.le_of_ble_eq_true rfl, Nat.le_of_ble_eq_true rfl⟩ hW [] rfl 0 rfl rfl hZ rfl hl.1 rfl (Nat.le_of_ble_eq_true rfl) d_Law_alike_5 htab (by decide) (by decide) (tb_of (i := 111) rfl rfl) (fun xx k z H hk hz hW => ?_)
  refine lv_astore (lv' := [(4, .ref xx), (0, .ref x0), (1, .int z1), (2, .int z2), (3, .ref ao)]) hx hb d_Law_alike_20 hl (by decide) rfl (fun ls hl => ?_)
  refine lv_iconst (v := nI 1) hx hb d_Law_alike_22 (by decide) ?_
  exact RET (w1 := wPO cI cL x0 t0 h0 ai ab am ar an ah at_ nl hc n used bl ml most ao rows next heads tr ix bk mk lf) hW ⟨rfl, by omega, by omega, rfl⟩ d_Law_alike_23
set_option maxHeartbeats 4000000 in
set_option maxRecDepth 100000 in
theorem c_lhash_bad (l : Launch) (hfl : l.flags = pinnedFlags ++ [noTraceFlag]) (D : va_G) (cI cL : ClassId) (x0 t0 h0 ai ab am ar an ah at_ nl hc n used bl ml most ao : Nat) (rows next heads tr ix bk mk : Nat → Int32) (lf : Nat → Int64) (z1 z2 z3 : Int32) (hbad : ¬ (okM z1 z2 z3 ∧ z2 - z1 ≤ nI 3999)) : CW l D cI cL y_Law_hash b_Law_hash 6 (some .int) [(0, 12, 15, 13)] rm_lb [.ref x0, .int z1, .int z2, .int z3, .ref ao] (wPO cI cL x0 t0 h0 ai ab am ar an ah at_ nl hc n used bl ml most ao rows next heads tr ix bk mk lf) (fun v k z w1 => v = some (.int (nI 1)) ∧ k ≤ 1 ∧ z ≤ 6 ∧ w1 = wPO cI cL x0 t0 h0 ai ab am ar an ah at_ nl hc n used bl ml most ao rows next heads tr ix bk mk lf) := by
  refine CW.ofI (own := R_Law) (cc := b_Law_hash) (nL := 6) (by decide) rfl (Nat.le_of_ble_eq_true rfl) ?_
  intro p e s m args below meth c A Q ls hM hl hW hZ htab RET
  have hx := hM.1
  have hb := hM.2.1
  have hl : lv_has ls 6 [(0, .ref x0), (1, .int z1), (2, .int z2), (3, .int z3), (4, .ref ao)] := hl
  have hW : xW D A s.heap [(x0, .inr (0, [.ref h0, .ref t0])), (t0, .inr (2, [.ref h0, .ref ai, .ref ab, .int (nI used), .ref am, .int (nI most)])), (ai, .inl (cI, 4352, .inl ix)), (ab, .inl (cI, bl, .inl bk)), (am, .inl (cI, ml, .inl mk)), (h0, .inr (1, [.ref ar, .ref an, .ref ah, .int (nI n), .ref at_])), (ar, .inl (cI, 8 * nl, .inl rows)), (an, .inl (cI, nl, .inl next)), (ah, .inl (cI, hc, .inl heads)), (at_, .inl (cI, 8, .inl tr)), (ao, .inl (cL, 1, .inr (.inl lf)))] s.heap [] := hW
  refine lv_aload hx hb d_Law_hash_0 (lv_at hl 4 rfl) ?_
  refine lv_iconst (v := nI 0) hx hb d_Law_hash_2 (by decide) ?_
  refine lv_aload_n hx hb d_Law_hash_3 rfl (lv_at hl 0 rfl) ?_
  refine lv_iload_n hx hb d_Law_hash_4 rfl (lv_at hl 1 rfl) ?_
  refine lv_iload_n hx hb d_Law_hash_5 rfl (lv_at hl 2 rfl) ?_
  refine lv_iload_n hx hb d_Law_hash_6 rfl (lv_at hl 3 rfl) ?_
  refine x_catV (rest := [.int (nI 0), .ref ao]) (pa := 0) (pb := 12) (ph := 15) (pt := 13) hM (c_phash_bad l hfl D cI cL x0 z1 z2 z3 hbad) cb_PT_hash cv_Law_30 ⟨Nat.le_of_ble_eq_true rfl, Nat.le_of_ble_eq_true rfl⟩ ⟨Nat.le_of_ble_eq_true rfl, Nat.le_of_ble_eq_true rfl⟩ hW [] rfl 0 rfl rfl hZ rfl hl.1 rfl (Nat.le_of_ble_eq_true rfl) d_Law_hash_7 htab (by decide) (by decide) (tb_of (i := 111) rfl rfl) (fun xx k z H hk hz hW => ?_)
  refine lv_astore (lv' := [(5, .ref xx), (0, .ref x0), (1, .int z1), (2, .int z2), (3, .int z3), (4, .ref ao)]) hx hb d_Law_hash_15 hl (by decide) rfl (fun ls hl => ?_)
  refine lv_iconst (v := nI 1) hx hb d_Law_hash_17 (by decide) ?_
  exact RET (w1 := wPO cI cL x0 t0 h0 ai ab am ar an ah at_ nl hc n used bl ml most ao rows next heads tr ix bk mk lf) hW ⟨rfl, by omega, by omega, rfl⟩ d_Law_hash_18
end
section
theorem d_Law_law_0 : decode code 0 = .ok (.new 8, 3) := by decide +kernel
theorem d_Law_law_3 : decode code 3 = .ok (.dup, 1) := by decide +kernel
theorem d_Law_law_4 : decode code 4 = .ok (.invokespecial 34, 3) := by decide +kernel
theorem d_Law_law_7 : decode code 7 = .ok (.astore_n 1, 1) := by decide +kernel
theorem d_Law_law_8 : decode code 8 = .ok (.new 35, 3) := by decide +kernel
theorem d_Law_law_11 : decode code 11 = .ok (.dup, 1) := by decide +kernel
theorem d_Law_law_12 : decode code 12 = .ok (.invokespecial 37, 3) := by decide +kernel
theorem d_Law_law_15 : decode code 15 = .ok (.astore_n 2, 1) := by decide +kernel
theorem d_Law_law_16 : decode code 16 = .ok (.iconst 1, 1) := by decide +kernel
theorem d_Law_law_17 : decode code 17 = .ok (.newarray .long, 2) := by decide +kernel
theorem d_Law_law_19 : decode code 19 = .ok (.astore_n 3, 1) := by decide +kernel
theorem d_Law_law_20 : decode code 20 = .ok (.iconst 0, 1) := by decide +kernel
theorem d_Law_law_21 : decode code 21 = .ok (.istore 4, 2) := by decide +kernel
theorem d_Law_law_23 : decode code 23 = .ok (.iload 4, 2) := by decide +kernel
theorem d_Law_law_25 : decode code 25 = .ok (.aload_n 0, 1) := by decide +kernel
theorem d_Law_law_26 : decode code 26 = .ok (.arraylength, 1) := by decide +kernel
theorem d_Law_law_27 : decode code 27 = .ok (.bipush 6, 2) := by decide +kernel
theorem d_Law_law_29 : decode code 29 = .ok (.isub, 1) := by decide +kernel
theorem d_Law_law_30 : decode code 30 = .ok (.if_icmp .gt 560, 3) := by decide +kernel
theorem d_Law_law_33 : decode code 33 = .ok (.aload_n 0, 1) := by decide +kernel
theorem d_Law_law_34 : decode code 34 = .ok (.iload 4, 2) := by decide +kernel
theorem d_Law_law_36 : decode code 36 = .ok (.iaload, 1) := by decide +kernel
theorem d_Law_law_37 : decode code 37 = .ok (.bipush 7, 2) := by decide +kernel
theorem d_Law_law_39 : decode code 39 = .ok (.iand, 1) := by decide +kernel
theorem d_Law_law_40 : decode code 40 = .ok (.tableswitch 544 0 6 #[44, 136, 240, 308, 376, 451, 531], 44) := by decide +kernel
theorem d_Law_law_84 : decode code 84 = .ok (.aload_n 1, 1) := by decide +kernel
theorem d_Law_law_85 : decode code 85 = .ok (.aload_n 0, 1) := by decide +kernel
theorem d_Law_law_86 : decode code 86 = .ok (.iload 4, 2) := by decide +kernel
theorem d_Law_law_88 : decode code 88 = .ok (.iconst 1, 1) := by decide +kernel
theorem d_Law_law_89 : decode code 89 = .ok (.iadd, 1) := by decide +kernel
theorem d_Law_law_90 : decode code 90 = .ok (.iaload, 1) := by decide +kernel
theorem d_Law_law_91 : decode code 91 = .ok (.aload_n 0, 1) := by decide +kernel
theorem d_Law_law_92 : decode code 92 = .ok (.iload 4, 2) := by decide +kernel
theorem d_Law_law_94 : decode code 94 = .ok (.iconst 2, 1) := by decide +kernel
theorem d_Law_law_95 : decode code 95 = .ok (.iadd, 1) := by decide +kernel
theorem d_Law_law_96 : decode code 96 = .ok (.iaload, 1) := by decide +kernel
theorem d_Law_law_97 : decode code 97 = .ok (.aload_n 0, 1) := by decide +kernel
theorem d_Law_law_98 : decode code 98 = .ok (.iload 4, 2) := by decide +kernel
theorem d_Law_law_100 : decode code 100 = .ok (.iconst 3, 1) := by decide +kernel
theorem d_Law_law_101 : decode code 101 = .ok (.iadd, 1) := by decide +kernel
theorem d_Law_law_102 : decode code 102 = .ok (.iaload, 1) := by decide +kernel
theorem d_Law_law_103 : decode code 103 = .ok (.aload_n 0, 1) := by decide +kernel
theorem d_Law_law_104 : decode code 104 = .ok (.iload 4, 2) := by decide +kernel
theorem d_Law_law_106 : decode code 106 = .ok (.iconst 4, 1) := by decide +kernel
theorem d_Law_law_107 : decode code 107 = .ok (.iadd, 1) := by decide +kernel
theorem d_Law_law_108 : decode code 108 = .ok (.iaload, 1) := by decide +kernel
theorem d_Law_law_109 : decode code 109 = .ok (.aload_n 3, 1) := by decide +kernel
theorem d_Law_law_110 : decode code 110 = .ok (.invokestatic 38, 3) := by decide +kernel
theorem d_Law_law_113 : decode code 113 = .ok (.istore 5, 2) := by decide +kernel
theorem d_Law_law_115 : decode code 115 = .ok (.aload_n 2, 1) := by decide +kernel
theorem d_Law_law_116 : decode code 116 = .ok (.aload_n 0, 1) := by decide +kernel
theorem d_Law_law_117 : decode code 117 = .ok (.iload 4, 2) := by decide +kernel
theorem d_Law_law_119 : decode code 119 = .ok (.iconst 1, 1) := by decide +kernel
theorem d_Law_law_120 : decode code 120 = .ok (.iadd, 1) := by decide +kernel
theorem d_Law_law_121 : decode code 121 = .ok (.iaload, 1) := by decide +kernel
theorem d_Law_law_122 : decode code 122 = .ok (.aload_n 0, 1) := by decide +kernel
theorem d_Law_law_123 : decode code 123 = .ok (.iload 4, 2) := by decide +kernel
theorem d_Law_law_125 : decode code 125 = .ok (.iconst 2, 1) := by decide +kernel
theorem d_Law_law_126 : decode code 126 = .ok (.iadd, 1) := by decide +kernel
theorem d_Law_law_127 : decode code 127 = .ok (.iaload, 1) := by decide +kernel
theorem d_Law_law_128 : decode code 128 = .ok (.aload_n 0, 1) := by decide +kernel
theorem d_Law_law_129 : decode code 129 = .ok (.iload 4, 2) := by decide +kernel
theorem d_Law_law_131 : decode code 131 = .ok (.iconst 3, 1) := by decide +kernel
theorem d_Law_law_132 : decode code 132 = .ok (.iadd, 1) := by decide +kernel
theorem d_Law_law_133 : decode code 133 = .ok (.iaload, 1) := by decide +kernel
theorem d_Law_law_134 : decode code 134 = .ok (.aload_n 0, 1) := by decide +kernel
theorem d_Law_law_135 : decode code 135 = .ok (.iload 4, 2) := by decide +kernel
theorem d_Law_law_137 : decode code 137 = .ok (.iconst 4, 1) := by decide +kernel
theorem d_Law_law_138 : decode code 138 = .ok (.iadd, 1) := by decide +kernel
theorem d_Law_law_139 : decode code 139 = .ok (.iaload, 1) := by decide +kernel
theorem d_Law_law_140 : decode code 140 = .ok (.invokevirtual 43, 3) := by decide +kernel
theorem d_Law_law_143 : decode code 143 = .ok (.istore 6, 2) := by decide +kernel
theorem d_Law_law_145 : decode code 145 = .ok (.aload_n 2, 1) := by decide +kernel
theorem d_Law_law_146 : decode code 146 = .ok (.invokevirtual 44, 3) := by decide +kernel
theorem d_Law_law_149 : decode code 149 = .ok (.iload 5, 2) := by decide +kernel
theorem d_Law_law_151 : decode code 151 = .ok (.if_icmp .eq 5, 3) := by decide +kernel
theorem d_Law_law_154 : decode code 154 = .ok (.iconst 0, 1) := by decide +kernel
theorem d_Law_law_155 : decode code 155 = .ok (.ireturn, 1) := by decide +kernel
theorem d_Law_law_156 : decode code 156 = .ok (.iload 5, 2) := by decide +kernel
theorem d_Law_law_158 : decode code 158 = .ok (.ifCond .ne 15, 3) := by decide +kernel
theorem d_Law_law_161 : decode code 161 = .ok (.aload_n 3, 1) := by decide +kernel
theorem d_Law_law_162 : decode code 162 = .ok (.iconst 0, 1) := by decide +kernel
theorem d_Law_law_163 : decode code 163 = .ok (.laload, 1) := by decide +kernel
theorem d_Law_law_164 : decode code 164 = .ok (.iload 6, 2) := by decide +kernel
theorem d_Law_law_166 : decode code 166 = .ok (.i2l, 1) := by decide +kernel
theorem d_Law_law_167 : decode code 167 = .ok (.lcmp, 1) := by decide +kernel
theorem d_Law_law_168 : decode code 168 = .ok (.ifCond .eq 5, 3) := by decide +kernel
theorem d_Law_law_171 : decode code 171 = .ok (.iconst 0, 1) := by decide +kernel
theorem d_Law_law_172 : decode code 172 = .ok (.ireturn, 1) := by decide +kernel
theorem d_Law_law_173 : decode code 173 = .ok (.goto 411, 3) := by decide +kernel
theorem d_Law_law_176 : decode code 176 = .ok (.aload_n 1, 1) := by decide +kernel
theorem d_Law_law_177 : decode code 177 = .ok (.aload_n 0, 1) := by decide +kernel
theorem d_Law_law_178 : decode code 178 = .ok (.iload 4, 2) := by decide +kernel
theorem d_Law_law_180 : decode code 180 = .ok (.iconst 1, 1) := by decide +kernel
theorem d_Law_law_181 : decode code 181 = .ok (.iadd, 1) := by decide +kernel
theorem d_Law_law_182 : decode code 182 = .ok (.iaload, 1) := by decide +kernel
theorem d_Law_law_183 : decode code 183 = .ok (.aload_n 0, 1) := by decide +kernel
theorem d_Law_law_184 : decode code 184 = .ok (.iload 4, 2) := by decide +kernel
theorem d_Law_law_186 : decode code 186 = .ok (.iconst 2, 1) := by decide +kernel
theorem d_Law_law_187 : decode code 187 = .ok (.iadd, 1) := by decide +kernel
theorem d_Law_law_188 : decode code 188 = .ok (.iaload, 1) := by decide +kernel
theorem d_Law_law_189 : decode code 189 = .ok (.aload_n 0, 1) := by decide +kernel
theorem d_Law_law_190 : decode code 190 = .ok (.iload 4, 2) := by decide +kernel
theorem d_Law_law_192 : decode code 192 = .ok (.iconst 3, 1) := by decide +kernel
theorem d_Law_law_193 : decode code 193 = .ok (.iadd, 1) := by decide +kernel
theorem d_Law_law_194 : decode code 194 = .ok (.iaload, 1) := by decide +kernel
theorem d_Law_law_195 : decode code 195 = .ok (.aload_n 0, 1) := by decide +kernel
theorem d_Law_law_196 : decode code 196 = .ok (.iload 4, 2) := by decide +kernel
theorem d_Law_law_198 : decode code 198 = .ok (.iconst 4, 1) := by decide +kernel
theorem d_Law_law_199 : decode code 199 = .ok (.iadd, 1) := by decide +kernel
theorem d_Law_law_200 : decode code 200 = .ok (.iaload, 1) := by decide +kernel
theorem d_Law_law_201 : decode code 201 = .ok (.aload_n 0, 1) := by decide +kernel
theorem d_Law_law_202 : decode code 202 = .ok (.iload 4, 2) := by decide +kernel
theorem d_Law_law_204 : decode code 204 = .ok (.iconst 5, 1) := by decide +kernel
theorem d_Law_law_205 : decode code 205 = .ok (.iadd, 1) := by decide +kernel
theorem d_Law_law_206 : decode code 206 = .ok (.iaload, 1) := by decide +kernel
theorem d_Law_law_207 : decode code 207 = .ok (.aload_n 3, 1) := by decide +kernel
theorem d_Law_law_208 : decode code 208 = .ok (.invokestatic 48, 3) := by decide +kernel
theorem d_Law_law_211 : decode code 211 = .ok (.istore 5, 2) := by decide +kernel
theorem d_Law_law_213 : decode code 213 = .ok (.aload_n 2, 1) := by decide +kernel
theorem d_Law_law_214 : decode code 214 = .ok (.aload_n 0, 1) := by decide +kernel
theorem d_Law_law_215 : decode code 215 = .ok (.iload 4, 2) := by decide +kernel
theorem d_Law_law_217 : decode code 217 = .ok (.iconst 1, 1) := by decide +kernel
theorem d_Law_law_218 : decode code 218 = .ok (.iadd, 1) := by decide +kernel
theorem d_Law_law_219 : decode code 219 = .ok (.iaload, 1) := by decide +kernel
theorem d_Law_law_220 : decode code 220 = .ok (.aload_n 0, 1) := by decide +kernel
theorem d_Law_law_221 : decode code 221 = .ok (.iload 4, 2) := by decide +kernel
theorem d_Law_law_223 : decode code 223 = .ok (.iconst 2, 1) := by decide +kernel
theorem d_Law_law_224 : decode code 224 = .ok (.iadd, 1) := by decide +kernel
theorem d_Law_law_225 : decode code 225 = .ok (.iaload, 1) := by decide +kernel
theorem d_Law_law_226 : decode code 226 = .ok (.aload_n 0, 1) := by decide +kernel
theorem d_Law_law_227 : decode code 227 = .ok (.iload 4, 2) := by decide +kernel
theorem d_Law_law_229 : decode code 229 = .ok (.iconst 3, 1) := by decide +kernel
theorem d_Law_law_230 : decode code 230 = .ok (.iadd, 1) := by decide +kernel
theorem d_Law_law_231 : decode code 231 = .ok (.iaload, 1) := by decide +kernel
theorem d_Law_law_232 : decode code 232 = .ok (.aload_n 0, 1) := by decide +kernel
theorem d_Law_law_233 : decode code 233 = .ok (.iload 4, 2) := by decide +kernel
theorem d_Law_law_235 : decode code 235 = .ok (.iconst 4, 1) := by decide +kernel
theorem d_Law_law_236 : decode code 236 = .ok (.iadd, 1) := by decide +kernel
theorem d_Law_law_237 : decode code 237 = .ok (.iaload, 1) := by decide +kernel
theorem d_Law_law_238 : decode code 238 = .ok (.aload_n 0, 1) := by decide +kernel
theorem d_Law_law_239 : decode code 239 = .ok (.iload 4, 2) := by decide +kernel
theorem d_Law_law_241 : decode code 241 = .ok (.iconst 5, 1) := by decide +kernel
theorem d_Law_law_242 : decode code 242 = .ok (.iadd, 1) := by decide +kernel
theorem d_Law_law_243 : decode code 243 = .ok (.iaload, 1) := by decide +kernel
theorem d_Law_law_244 : decode code 244 = .ok (.invokevirtual 51, 3) := by decide +kernel
theorem d_Law_law_247 : decode code 247 = .ok (.istore 6, 2) := by decide +kernel
theorem d_Law_law_249 : decode code 249 = .ok (.aload_n 2, 1) := by decide +kernel
theorem d_Law_law_250 : decode code 250 = .ok (.invokevirtual 44, 3) := by decide +kernel
theorem d_Law_law_253 : decode code 253 = .ok (.iload 5, 2) := by decide +kernel
theorem d_Law_law_255 : decode code 255 = .ok (.if_icmp .eq 5, 3) := by decide +kernel
theorem d_Law_law_258 : decode code 258 = .ok (.iconst 0, 1) := by decide +kernel
theorem d_Law_law_259 : decode code 259 = .ok (.ireturn, 1) := by decide +kernel
theorem d_Law_law_260 : decode code 260 = .ok (.iload 5, 2) := by decide +kernel
theorem d_Law_law_262 : decode code 262 = .ok (.ifCond .ne 15, 3) := by decide +kernel
theorem d_Law_law_265 : decode code 265 = .ok (.aload_n 3, 1) := by decide +kernel
theorem d_Law_law_266 : decode code 266 = .ok (.iconst 0, 1) := by decide +kernel
theorem d_Law_law_267 : decode code 267 = .ok (.laload, 1) := by decide +kernel
theorem d_Law_law_268 : decode code 268 = .ok (.iload 6, 2) := by decide +kernel
theorem d_Law_law_270 : decode code 270 = .ok (.i2l, 1) := by decide +kernel
theorem d_Law_law_271 : decode code 271 = .ok (.lcmp, 1) := by decide +kernel
theorem d_Law_law_272 : decode code 272 = .ok (.ifCond .eq 5, 3) := by decide +kernel
theorem d_Law_law_275 : decode code 275 = .ok (.iconst 0, 1) := by decide +kernel
theorem d_Law_law_276 : decode code 276 = .ok (.ireturn, 1) := by decide +kernel
theorem d_Law_law_277 : decode code 277 = .ok (.goto 307, 3) := by decide +kernel
theorem d_Law_law_280 : decode code 280 = .ok (.aload_n 1, 1) := by decide +kernel
theorem d_Law_law_281 : decode code 281 = .ok (.aload_n 0, 1) := by decide +kernel
theorem d_Law_law_282 : decode code 282 = .ok (.iload 4, 2) := by decide +kernel
theorem d_Law_law_284 : decode code 284 = .ok (.iconst 1, 1) := by decide +kernel
theorem d_Law_law_285 : decode code 285 = .ok (.iadd, 1) := by decide +kernel
theorem d_Law_law_286 : decode code 286 = .ok (.iaload, 1) := by decide +kernel
theorem d_Law_law_287 : decode code 287 = .ok (.aload_n 0, 1) := by decide +kernel
theorem d_Law_law_288 : decode code 288 = .ok (.iload 4, 2) := by decide +kernel
theorem d_Law_law_290 : decode code 290 = .ok (.iconst 2, 1) := by decide +kernel
theorem d_Law_law_291 : decode code 291 = .ok (.iadd, 1) := by decide +kernel
theorem d_Law_law_292 : decode code 292 = .ok (.iaload, 1) := by decide +kernel
theorem d_Law_law_293 : decode code 293 = .ok (.aload_n 3, 1) := by decide +kernel
theorem d_Law_law_294 : decode code 294 = .ok (.invokestatic 52, 3) := by decide +kernel
theorem d_Law_law_297 : decode code 297 = .ok (.istore 5, 2) := by decide +kernel
theorem d_Law_law_299 : decode code 299 = .ok (.aload_n 2, 1) := by decide +kernel
theorem d_Law_law_300 : decode code 300 = .ok (.aload_n 0, 1) := by decide +kernel
theorem d_Law_law_301 : decode code 301 = .ok (.iload 4, 2) := by decide +kernel
theorem d_Law_law_303 : decode code 303 = .ok (.iconst 1, 1) := by decide +kernel
theorem d_Law_law_304 : decode code 304 = .ok (.iadd, 1) := by decide +kernel
theorem d_Law_law_305 : decode code 305 = .ok (.iaload, 1) := by decide +kernel
theorem d_Law_law_306 : decode code 306 = .ok (.aload_n 0, 1) := by decide +kernel
theorem d_Law_law_307 : decode code 307 = .ok (.iload 4, 2) := by decide +kernel
theorem d_Law_law_309 : decode code 309 = .ok (.iconst 2, 1) := by decide +kernel
theorem d_Law_law_310 : decode code 310 = .ok (.iadd, 1) := by decide +kernel
theorem d_Law_law_311 : decode code 311 = .ok (.iaload, 1) := by decide +kernel
end
section
theorem d_Law_law_312 : decode code 312 = .ok (.invokevirtual 55, 3) := by decide +kernel
theorem d_Law_law_315 : decode code 315 = .ok (.istore 6, 2) := by decide +kernel
theorem d_Law_law_317 : decode code 317 = .ok (.aload_n 2, 1) := by decide +kernel
theorem d_Law_law_318 : decode code 318 = .ok (.invokevirtual 44, 3) := by decide +kernel
theorem d_Law_law_321 : decode code 321 = .ok (.iload 5, 2) := by decide +kernel
theorem d_Law_law_323 : decode code 323 = .ok (.if_icmp .eq 5, 3) := by decide +kernel
theorem d_Law_law_326 : decode code 326 = .ok (.iconst 0, 1) := by decide +kernel
theorem d_Law_law_327 : decode code 327 = .ok (.ireturn, 1) := by decide +kernel
theorem d_Law_law_328 : decode code 328 = .ok (.iload 5, 2) := by decide +kernel
theorem d_Law_law_330 : decode code 330 = .ok (.ifCond .ne 15, 3) := by decide +kernel
theorem d_Law_law_333 : decode code 333 = .ok (.aload_n 3, 1) := by decide +kernel
theorem d_Law_law_334 : decode code 334 = .ok (.iconst 0, 1) := by decide +kernel
theorem d_Law_law_335 : decode code 335 = .ok (.laload, 1) := by decide +kernel
theorem d_Law_law_336 : decode code 336 = .ok (.iload 6, 2) := by decide +kernel
theorem d_Law_law_338 : decode code 338 = .ok (.i2l, 1) := by decide +kernel
theorem d_Law_law_339 : decode code 339 = .ok (.lcmp, 1) := by decide +kernel
theorem d_Law_law_340 : decode code 340 = .ok (.ifCond .eq 5, 3) := by decide +kernel
theorem d_Law_law_343 : decode code 343 = .ok (.iconst 0, 1) := by decide +kernel
theorem d_Law_law_344 : decode code 344 = .ok (.ireturn, 1) := by decide +kernel
theorem d_Law_law_345 : decode code 345 = .ok (.goto 239, 3) := by decide +kernel
theorem d_Law_law_348 : decode code 348 = .ok (.aload_n 1, 1) := by decide +kernel
theorem d_Law_law_349 : decode code 349 = .ok (.aload_n 0, 1) := by decide +kernel
theorem d_Law_law_350 : decode code 350 = .ok (.iload 4, 2) := by decide +kernel
theorem d_Law_law_352 : decode code 352 = .ok (.iconst 1, 1) := by decide +kernel
theorem d_Law_law_353 : decode code 353 = .ok (.iadd, 1) := by decide +kernel
theorem d_Law_law_354 : decode code 354 = .ok (.iaload, 1) := by decide +kernel
theorem d_Law_law_355 : decode code 355 = .ok (.aload_n 0, 1) := by decide +kernel
theorem d_Law_law_356 : decode code 356 = .ok (.iload 4, 2) := by decide +kernel
theorem d_Law_law_358 : decode code 358 = .ok (.iconst 2, 1) := by decide +kernel
theorem d_Law_law_359 : decode code 359 = .ok (.iadd, 1) := by decide +kernel
theorem d_Law_law_360 : decode code 360 = .ok (.iaload, 1) := by decide +kernel
theorem d_Law_law_361 : decode code 361 = .ok (.aload_n 3, 1) := by decide +kernel
theorem d_Law_law_362 : decode code 362 = .ok (.invokestatic 56, 3) := by decide +kernel
theorem d_Law_law_365 : decode code 365 = .ok (.istore 5, 2) := by decide +kernel
theorem d_Law_law_367 : decode code 367 = .ok (.aload_n 2, 1) := by decide +kernel
theorem d_Law_law_368 : decode code 368 = .ok (.aload_n 0, 1) := by decide +kernel
theorem d_Law_law_369 : decode code 369 = .ok (.iload 4, 2) := by decide +kernel
theorem d_Law_law_371 : decode code 371 = .ok (.iconst 1, 1) := by decide +kernel
theorem d_Law_law_372 : decode code 372 = .ok (.iadd, 1) := by decide +kernel
theorem d_Law_law_373 : decode code 373 = .ok (.iaload, 1) := by decide +kernel
theorem d_Law_law_374 : decode code 374 = .ok (.aload_n 0, 1) := by decide +kernel
theorem d_Law_law_375 : decode code 375 = .ok (.iload 4, 2) := by decide +kernel
theorem d_Law_law_377 : decode code 377 = .ok (.iconst 2, 1) := by decide +kernel
theorem d_Law_law_378 : decode code 378 = .ok (.iadd, 1) := by decide +kernel
theorem d_Law_law_379 : decode code 379 = .ok (.iaload, 1) := by decide +kernel
theorem d_Law_law_380 : decode code 380 = .ok (.invokevirtual 58, 3) := by decide +kernel
theorem d_Law_law_383 : decode code 383 = .ok (.istore 6, 2) := by decide +kernel
theorem d_Law_law_385 : decode code 385 = .ok (.aload_n 2, 1) := by decide +kernel
theorem d_Law_law_386 : decode code 386 = .ok (.invokevirtual 44, 3) := by decide +kernel
theorem d_Law_law_389 : decode code 389 = .ok (.iload 5, 2) := by decide +kernel
theorem d_Law_law_391 : decode code 391 = .ok (.if_icmp .eq 5, 3) := by decide +kernel
theorem d_Law_law_394 : decode code 394 = .ok (.iconst 0, 1) := by decide +kernel
theorem d_Law_law_395 : decode code 395 = .ok (.ireturn, 1) := by decide +kernel
theorem d_Law_law_396 : decode code 396 = .ok (.iload 5, 2) := by decide +kernel
theorem d_Law_law_398 : decode code 398 = .ok (.ifCond .ne 15, 3) := by decide +kernel
theorem d_Law_law_401 : decode code 401 = .ok (.aload_n 3, 1) := by decide +kernel
theorem d_Law_law_402 : decode code 402 = .ok (.iconst 0, 1) := by decide +kernel
theorem d_Law_law_403 : decode code 403 = .ok (.laload, 1) := by decide +kernel
theorem d_Law_law_404 : decode code 404 = .ok (.iload 6, 2) := by decide +kernel
theorem d_Law_law_406 : decode code 406 = .ok (.i2l, 1) := by decide +kernel
theorem d_Law_law_407 : decode code 407 = .ok (.lcmp, 1) := by decide +kernel
theorem d_Law_law_408 : decode code 408 = .ok (.ifCond .eq 5, 3) := by decide +kernel
theorem d_Law_law_411 : decode code 411 = .ok (.iconst 0, 1) := by decide +kernel
theorem d_Law_law_412 : decode code 412 = .ok (.ireturn, 1) := by decide +kernel
theorem d_Law_law_413 : decode code 413 = .ok (.goto 171, 3) := by decide +kernel
theorem d_Law_law_416 : decode code 416 = .ok (.aload_n 1, 1) := by decide +kernel
theorem d_Law_law_417 : decode code 417 = .ok (.aload_n 0, 1) := by decide +kernel
theorem d_Law_law_418 : decode code 418 = .ok (.iload 4, 2) := by decide +kernel
theorem d_Law_law_420 : decode code 420 = .ok (.iconst 1, 1) := by decide +kernel
theorem d_Law_law_421 : decode code 421 = .ok (.iadd, 1) := by decide +kernel
theorem d_Law_law_422 : decode code 422 = .ok (.iaload, 1) := by decide +kernel
theorem d_Law_law_423 : decode code 423 = .ok (.aload_n 0, 1) := by decide +kernel
theorem d_Law_law_424 : decode code 424 = .ok (.iload 4, 2) := by decide +kernel
theorem d_Law_law_426 : decode code 426 = .ok (.iconst 2, 1) := by decide +kernel
theorem d_Law_law_427 : decode code 427 = .ok (.iadd, 1) := by decide +kernel
theorem d_Law_law_428 : decode code 428 = .ok (.iaload, 1) := by decide +kernel
theorem d_Law_law_429 : decode code 429 = .ok (.aload_n 3, 1) := by decide +kernel
theorem d_Law_law_430 : decode code 430 = .ok (.invokestatic 59, 3) := by decide +kernel
theorem d_Law_law_433 : decode code 433 = .ok (.istore 5, 2) := by decide +kernel
theorem d_Law_law_435 : decode code 435 = .ok (.aload_n 2, 1) := by decide +kernel
theorem d_Law_law_436 : decode code 436 = .ok (.aload_n 0, 1) := by decide +kernel
theorem d_Law_law_437 : decode code 437 = .ok (.iload 4, 2) := by decide +kernel
theorem d_Law_law_439 : decode code 439 = .ok (.iconst 1, 1) := by decide +kernel
theorem d_Law_law_440 : decode code 440 = .ok (.iadd, 1) := by decide +kernel
theorem d_Law_law_441 : decode code 441 = .ok (.iaload, 1) := by decide +kernel
theorem d_Law_law_442 : decode code 442 = .ok (.aload_n 0, 1) := by decide +kernel
theorem d_Law_law_443 : decode code 443 = .ok (.iload 4, 2) := by decide +kernel
theorem d_Law_law_445 : decode code 445 = .ok (.iconst 2, 1) := by decide +kernel
theorem d_Law_law_446 : decode code 446 = .ok (.iadd, 1) := by decide +kernel
theorem d_Law_law_447 : decode code 447 = .ok (.iaload, 1) := by decide +kernel
theorem d_Law_law_448 : decode code 448 = .ok (.invokevirtual 61, 3) := by decide +kernel
theorem d_Law_law_451 : decode code 451 = .ok (.istore 6, 2) := by decide +kernel
theorem d_Law_law_453 : decode code 453 = .ok (.aload_n 2, 1) := by decide +kernel
theorem d_Law_law_454 : decode code 454 = .ok (.invokevirtual 44, 3) := by decide +kernel
theorem d_Law_law_457 : decode code 457 = .ok (.iload 5, 2) := by decide +kernel
theorem d_Law_law_459 : decode code 459 = .ok (.if_icmp .eq 5, 3) := by decide +kernel
theorem d_Law_law_462 : decode code 462 = .ok (.iconst 0, 1) := by decide +kernel
theorem d_Law_law_463 : decode code 463 = .ok (.ireturn, 1) := by decide +kernel
theorem d_Law_law_464 : decode code 464 = .ok (.iload 5, 2) := by decide +kernel
theorem d_Law_law_466 : decode code 466 = .ok (.ifCond .ne 22, 3) := by decide +kernel
theorem d_Law_law_469 : decode code 469 = .ok (.aload_n 3, 1) := by decide +kernel
theorem d_Law_law_470 : decode code 470 = .ok (.iconst 0, 1) := by decide +kernel
theorem d_Law_law_471 : decode code 471 = .ok (.laload, 1) := by decide +kernel
theorem d_Law_law_472 : decode code 472 = .ok (.iload 6, 2) := by decide +kernel
theorem d_Law_law_474 : decode code 474 = .ok (.ifCond .eq 7, 3) := by decide +kernel
theorem d_Law_law_477 : decode code 477 = .ok (.lconst 1, 1) := by decide +kernel
theorem d_Law_law_478 : decode code 478 = .ok (.goto 4, 3) := by decide +kernel
theorem d_Law_law_481 : decode code 481 = .ok (.lconst 0, 1) := by decide +kernel
theorem d_Law_law_482 : decode code 482 = .ok (.lcmp, 1) := by decide +kernel
theorem d_Law_law_483 : decode code 483 = .ok (.ifCond .eq 5, 3) := by decide +kernel
theorem d_Law_law_486 : decode code 486 = .ok (.iconst 0, 1) := by decide +kernel
theorem d_Law_law_487 : decode code 487 = .ok (.ireturn, 1) := by decide +kernel
theorem d_Law_law_488 : decode code 488 = .ok (.goto 96, 3) := by decide +kernel
theorem d_Law_law_491 : decode code 491 = .ok (.aload_n 1, 1) := by decide +kernel
theorem d_Law_law_492 : decode code 492 = .ok (.aload_n 0, 1) := by decide +kernel
theorem d_Law_law_493 : decode code 493 = .ok (.iload 4, 2) := by decide +kernel
theorem d_Law_law_495 : decode code 495 = .ok (.iconst 1, 1) := by decide +kernel
theorem d_Law_law_496 : decode code 496 = .ok (.iadd, 1) := by decide +kernel
theorem d_Law_law_497 : decode code 497 = .ok (.iaload, 1) := by decide +kernel
theorem d_Law_law_498 : decode code 498 = .ok (.aload_n 0, 1) := by decide +kernel
theorem d_Law_law_499 : decode code 499 = .ok (.iload 4, 2) := by decide +kernel
theorem d_Law_law_501 : decode code 501 = .ok (.iconst 2, 1) := by decide +kernel
theorem d_Law_law_502 : decode code 502 = .ok (.iadd, 1) := by decide +kernel
theorem d_Law_law_503 : decode code 503 = .ok (.iaload, 1) := by decide +kernel
theorem d_Law_law_504 : decode code 504 = .ok (.aload_n 0, 1) := by decide +kernel
theorem d_Law_law_505 : decode code 505 = .ok (.iload 4, 2) := by decide +kernel
theorem d_Law_law_507 : decode code 507 = .ok (.iconst 3, 1) := by decide +kernel
theorem d_Law_law_508 : decode code 508 = .ok (.iadd, 1) := by decide +kernel
theorem d_Law_law_509 : decode code 509 = .ok (.iaload, 1) := by decide +kernel
theorem d_Law_law_510 : decode code 510 = .ok (.aload_n 3, 1) := by decide +kernel
theorem d_Law_law_511 : decode code 511 = .ok (.invokestatic 62, 3) := by decide +kernel
theorem d_Law_law_514 : decode code 514 = .ok (.istore 5, 2) := by decide +kernel
theorem d_Law_law_516 : decode code 516 = .ok (.aload_n 2, 1) := by decide +kernel
theorem d_Law_law_517 : decode code 517 = .ok (.aload_n 0, 1) := by decide +kernel
theorem d_Law_law_518 : decode code 518 = .ok (.iload 4, 2) := by decide +kernel
theorem d_Law_law_520 : decode code 520 = .ok (.iconst 1, 1) := by decide +kernel
theorem d_Law_law_521 : decode code 521 = .ok (.iadd, 1) := by decide +kernel
theorem d_Law_law_522 : decode code 522 = .ok (.iaload, 1) := by decide +kernel
theorem d_Law_law_523 : decode code 523 = .ok (.aload_n 0, 1) := by decide +kernel
theorem d_Law_law_524 : decode code 524 = .ok (.iload 4, 2) := by decide +kernel
theorem d_Law_law_526 : decode code 526 = .ok (.iconst 2, 1) := by decide +kernel
theorem d_Law_law_527 : decode code 527 = .ok (.iadd, 1) := by decide +kernel
theorem d_Law_law_528 : decode code 528 = .ok (.iaload, 1) := by decide +kernel
theorem d_Law_law_529 : decode code 529 = .ok (.aload_n 0, 1) := by decide +kernel
theorem d_Law_law_530 : decode code 530 = .ok (.iload 4, 2) := by decide +kernel
theorem d_Law_law_532 : decode code 532 = .ok (.iconst 3, 1) := by decide +kernel
theorem d_Law_law_533 : decode code 533 = .ok (.iadd, 1) := by decide +kernel
theorem d_Law_law_534 : decode code 534 = .ok (.iaload, 1) := by decide +kernel
theorem d_Law_law_535 : decode code 535 = .ok (.invokevirtual 65, 3) := by decide +kernel
theorem d_Law_law_538 : decode code 538 = .ok (.istore 6, 2) := by decide +kernel
theorem d_Law_law_540 : decode code 540 = .ok (.aload_n 2, 1) := by decide +kernel
theorem d_Law_law_541 : decode code 541 = .ok (.invokevirtual 44, 3) := by decide +kernel
theorem d_Law_law_544 : decode code 544 = .ok (.iload 5, 2) := by decide +kernel
theorem d_Law_law_546 : decode code 546 = .ok (.if_icmp .eq 5, 3) := by decide +kernel
theorem d_Law_law_549 : decode code 549 = .ok (.iconst 0, 1) := by decide +kernel
theorem d_Law_law_550 : decode code 550 = .ok (.ireturn, 1) := by decide +kernel
theorem d_Law_law_551 : decode code 551 = .ok (.iload 5, 2) := by decide +kernel
theorem d_Law_law_553 : decode code 553 = .ok (.ifCond .ne 15, 3) := by decide +kernel
theorem d_Law_law_556 : decode code 556 = .ok (.aload_n 3, 1) := by decide +kernel
theorem d_Law_law_557 : decode code 557 = .ok (.iconst 0, 1) := by decide +kernel
theorem d_Law_law_558 : decode code 558 = .ok (.laload, 1) := by decide +kernel
theorem d_Law_law_559 : decode code 559 = .ok (.iload 6, 2) := by decide +kernel
theorem d_Law_law_561 : decode code 561 = .ok (.i2l, 1) := by decide +kernel
theorem d_Law_law_562 : decode code 562 = .ok (.lcmp, 1) := by decide +kernel
theorem d_Law_law_563 : decode code 563 = .ok (.ifCond .eq 5, 3) := by decide +kernel
theorem d_Law_law_566 : decode code 566 = .ok (.iconst 0, 1) := by decide +kernel
theorem d_Law_law_567 : decode code 567 = .ok (.ireturn, 1) := by decide +kernel
theorem d_Law_law_568 : decode code 568 = .ok (.goto 16, 3) := by decide +kernel
theorem d_Law_law_571 : decode code 571 = .ok (.aload_n 1, 1) := by decide +kernel
theorem d_Law_law_572 : decode code 572 = .ok (.invokevirtual 66, 3) := by decide +kernel
theorem d_Law_law_575 : decode code 575 = .ok (.aload_n 2, 1) := by decide +kernel
theorem d_Law_law_576 : decode code 576 = .ok (.invokevirtual 69, 3) := by decide +kernel
theorem d_Law_law_579 : decode code 579 = .ok (.if_icmp .eq 5, 3) := by decide +kernel
theorem d_Law_law_582 : decode code 582 = .ok (.iconst 0, 1) := by decide +kernel
theorem d_Law_law_583 : decode code 583 = .ok (.ireturn, 1) := by decide +kernel
theorem d_Law_law_584 : decode code 584 = .ok (.iinc 4 6, 3) := by decide +kernel
theorem d_Law_law_587 : decode code 587 = .ok (.goto (-564), 3) := by decide +kernel
theorem d_Law_law_590 : decode code 590 = .ok (.iconst 1, 1) := by decide +kernel
theorem d_Law_law_591 : decode code 591 = .ok (.ireturn, 1) := by decide +kernel
end
section
/-! THE LAW: its context, its loop's invariant, its seven cases -/
theorem nI_inc6 (k : Nat) : nI k + Int32.ofInt 6 = nI (k + 6) := nI_add k 6
theorem lg_same {x y : Int64} (h : x = y) : lg_cmp x y = nI 0 := by
  subst h
  rw [nI_0]
  simp [lg_cmp]
theorem nI_inj {a b : Nat} (h : nI a = nI b) (ha : a < 2 ^ 31) (hb : b < 2 ^ 31) : a = b := (nI_eq ha hb).mp h
def LC (p : Program) (s : State) (m : MethodId) (meth : Method) (c : Code) (D : va_G) (cI cL : ClassId) (A : Nat → Prop) (b L : Nat) (xs : Nat → Int32) : Prop := xM p s m meth c #[Value.ref b] D cI cL A R_Law code 7 ∧ va_X b L xs s s.heap ∧ b < s.heap.size ∧ (∀ q, A q → s.heap.size ≤ q) ∧ Zs s ∧ L ≤ 3072
/-- between two calls: both sides hold the map g; what has been made -/
def LI (g : Nat → Nat → Int32) (rows next heads ix bk st fs : Nat → Int32) (sN : Nat → Nat) (n nl hc used bl ml most cnt j cells slots : Nat) : Prop := XS g rows next heads ix bk n nl hc used bl ml most ∧ MI g st fs sN cnt ∧ cnt ≤ 1 + 2 * j ∧ 4096 * cells ≤ 81920 + PC nl hc bl ml + 4096 * j ∧ slots ≤ 96000 + PS nl hc bl ml + 6 * j
theorem XS.caps {g : Nat → Nat → Int32} {rows next heads ix bk : Nat → Int32} {n nl hc used bl ml most : Nat} (h : XS g rows next heads ix bk n nl hc used bl ml most) : PC nl hc bl ml ≤ 85983232 ∧ PS nl hc bl ml ≤ 4366336 := by
  have h1 := h.1.2.1.le
  have h2 := h.1.2.2.1.le
  have h3 := h.2.1.2.1.le
  have h4 := h.2.2.2.2.2.2.1
  unfold PC PS
  omega
section LAW
variable {p : Program} {l : Launch} {e : Env} {s : State} {m : MethodId} {below : List Frame} {meth : Method} {c : Code} {Q : State → Prop} {D : va_G} {cI cL : ClassId} {A : Nat → Prop} {b L j : Nat} {xs : Nat → Int32} {x0 t0 h0 ai at_ ao m0 as_ af : Nat}
variable {ab am ar an ah nl hc n used bl ml most cnt cells slots : Nat} {rows next heads tr ix bk mk st fs : Nat → Int32} {lf : Nat → Int64} {fl : Value} {sN : Nat → Nat} {g : Nat → Nat → Int32} {ls : Array Slot} {H : Heap} {locs : List Loc}
theorem xn_sld {k pc : Nat} {w : va_W} {rest : List Value} {R : Room} (hC : LC p s m meth c D cI cL A b L xs) (hW : xW D A s.heap w H locs) (hk : k < L) (hdg : decode code pc = .ok (.iaload, 1)) (kk : W p l e R s m #[Value.ref b] below meth c H locs cells slots Q (F0 m (pc + 1) ls (.int (xs k) :: rest))) : W p l e R s m #[Value.ref b] below meth c H locs cells slots Q (F0 m pc ls (.int (nI k) :: .ref b :: rest)) := by
  obtain ⟨hM, hX, hbl, hA, -, hL⟩ := hC
  exact va_sld hM.1 hM.2.1 hX hbl (fun h => by have := hA b h; omega) hW.2.2 (vp_in_nI hk (by omega)) hdg (by rw [nI_clamp (by omega)]; exact kk)
theorem xn_slen {pc : Nat} {w : va_W} {rest : List Value} {R : Room} (hC : LC p s m meth c D cI cL A b L xs) (hW : xW D A s.heap w H locs) (hdg : decode code pc = .ok (.arraylength, 1)) (kk : W p l e R s m #[Value.ref b] below meth c H locs cells slots Q (F0 m (pc + 1) ls (.int (nI L) :: rest))) : W p l e R s m #[Value.ref b] below meth c H locs cells slots Q (F0 m pc ls (.ref b :: rest)) := by
  obtain ⟨hM, hX, hbl, hA, -, hL⟩ := hC
  exact va_slen hM.1 hM.2.1 hX hbl (fun h => by have := hA b h; omega) hW.2.2 hdg kk
theorem LC.hold {w : va_W} (hC : LC p s m meth c D cI cL A b L xs) (hW : xW D A s.heap w H locs) : ∀ (q : Nat) (cell : Cell), s.heap[q]? = some cell → H[q]? = some cell := fun q cell h => by
  have hq := (Array.getElem?_eq_some_iff.mp h).1
  rw [hW.2.2.2.1 q hq (fun z => by have := hC.2.2.2.1 q z; omega)]; exact h
/-- what comes behind a case -/
def NX (p : Program) (l : Launch) (e : Env) (s : State) (m : MethodId) (below : List Frame) (meth : Method) (c : Code) (Q : State → Prop) (D : va_G) (cI cL : ClassId) (A : Nat → Prop) (b x0 t0 h0 ai at_ ao m0 as_ af j : Nat) : Prop := ∀ (ab am ar an ah nl hc n used bl ml most cnt cells slots : Nat) (rows next heads tr ix bk mk st fs : Nat → Int32) (lf : Nat → Int64) (fl : Value) (sN : Nat → Nat) (g : Nat → Nat → Int32) (ls : Array Slot) (H : Heap) (locs : List Loc), LI g rows next heads ix bk st fs sN n nl hc used bl ml most cnt (j + 1) cells slots → lv_has ls 7 [(0, .ref b), (1, .ref x0), (2, .ref m0), (3, .ref ao), (4, .int (nI (6 * j)))] → xW D A s.heap [(x0, .inr (0, [.ref h0, .ref t0])), (t0, .inr (2, [.ref h0, .ref ai, .ref ab, .int (nI used), .ref am, .int (nI most)])), (ai, .inl (cI, 4352, .inl ix)), (ab, .inl (cI, bl, .inl bk)), (am, .inl (cI, ml, .inl mk)), (h0, .inr (1, [.ref ar, .ref an, .ref ah, .int (nI n), .ref at_])), (ar, .inl (cI, 8 * nl, .inl rows)), (an, .inl (cI, nl, .inl next)), (ah, .inl (cI, hc, .inl heads)), (at_, .inl (cI, 8, .inl tr)), (m0, .inr (3, [fl, .int (nI cnt), .ref as_, .ref af])), (as_, .inl (cI, 9000, .inl st)), (af, .inl (cI, 72000, .inl fs)), (ao, .inl (cL, 1, .inr (.inl lf)))] H locs → W p l e room_1 s m #[Value.ref b] below meth c H locs cells slots Q (F0 m 584 ls [])
set_option maxHeartbeats 4000000 in
set_option maxRecDepth 100000 in
theorem law_set (hfl : l.flags = pinnedFlags ++ [noTraceFlag]) (hC : LC p s m meth c D cI cL A b L xs) (hN : NX p l e s m below meth c Q D cI cL A b x0 t0 h0 ai at_ ao m0 as_ af j) (hj : 6 * j + 6 ≤ L) (hI : LI g rows next heads ix bk st fs sN n nl hc used bl ml most cnt j cells slots) (hl : lv_has ls 7 [(0, .ref b), (1, .ref x0), (2, .ref m0), (3, .ref ao), (4, .int (nI (6 * j)))]) (hW : xW D A s.heap [(x0, .inr (0, [.ref h0, .ref t0])), (t0, .inr (2, [.ref h0, .ref ai, .ref ab, .int (nI used), .ref am, .int (nI most)])), (ai, .inl (cI, 4352, .inl ix)), (ab, .inl (cI, bl, .inl bk)), (am, .inl (cI, ml, .inl mk)), (h0, .inr (1, [.ref ar, .ref an, .ref ah, .int (nI n), .ref at_])), (ar, .inl (cI, 8 * nl, .inl rows)), (an, .inl (cI, nl, .inl next)), (ah, .inl (cI, hc, .inl heads)), (at_, .inl (cI, 8, .inl tr)), (m0, .inr (3, [fl, .int (nI cnt), .ref as_, .ref af])), (as_, .inl (cI, 9000, .inl st)), (af, .inl (cI, 72000, .inl fs)), (ao, .inl (cL, 1, .inr (.inl lf)))] H locs) : W p l e room_1 s m #[Value.ref b] below meth c H locs cells slots Q (F0 m 84 ls []) := by
  have hM := hC.1
  have hx := hM.1
  have hb := hM.2.1
  have hL := hC.2.2.2.2.2
  obtain ⟨hX, hMI, hcnt, hc1, hc2⟩ := hI
  have hcap := hX.caps
  refine lv_aload_n hx hb d_Law_law_84 rfl (lv_at hl 1 rfl) ?_
  refine lv_aload_n hx hb d_Law_law_85 rfl (lv_at hl 0 rfl) ?_
  refine lv_iload hx hb d_Law_law_86 (lv_at hl 4 rfl) ?_
  refine lv_iconst (v := nI 1) hx hb d_Law_law_88 (by decide) ?_
  refine xn_iadd hx hb d_Law_law_89 ?_
  refine xn_sld hC hW (by omega) d_Law_law_90 ?_
  refine lv_aload_n hx hb d_Law_law_91 rfl (lv_at hl 0 rfl) ?_
  refine lv_iload hx hb d_Law_law_92 (lv_at hl 4 rfl) ?_
  refine lv_iconst (v := nI 2) hx hb d_Law_law_94 (by decide) ?_
  refine xn_iadd hx hb d_Law_law_95 ?_
  refine xn_sld hC hW (by omega) d_Law_law_96 ?_
  refine lv_aload_n hx hb d_Law_law_97 rfl (lv_at hl 0 rfl) ?_
  refine lv_iload hx hb d_Law_law_98 (lv_at hl 4 rfl) ?_
  refine lv_iconst (v := nI 3) hx hb d_Law_law_100 (by decide) ?_
  refine xn_iadd hx hb d_Law_law_101 ?_
  refine xn_sld hC hW (by omega) d_Law_law_102 ?_
  refine lv_aload_n hx hb d_Law_law_103 rfl (lv_at hl 0 rfl) ?_
  refine lv_iload hx hb d_Law_law_104 (lv_at hl 4 rfl) ?_
  refine lv_iconst (v := nI 4) hx hb d_Law_law_106 (by decide) ?_
  refine xn_iadd hx hb d_Law_law_107 ?_
  refine xn_sld hC hW (by omega) d_Law_law_108 ?_
  refine lv_aload_n hx hb d_Law_law_109 rfl (lv_at hl 3 rfl) ?_
  by_cases hok : okM (xs (6 * j + 1)) (xs (6 * j + 2)) (xs (6 * j + 3))
  · obtain ⟨pa, pb, fd, e1, e2, e3, h1, h2, h3⟩ := id hok
    rw [e1, e2, e3]
    refine x_callSW (rest := []) hM (c_lset l D cI cL x0 t0 h0 ai ab am ar an ah at_ nl hc n used bl ml most ao rows next heads tr ix bk mk lf g hX ((List.range cnt).map (fun k i => fs (8 * k + i))) hMI.cov (by rw [List.length_map, List.length_range]; omega) pa pb fd (xs (6 * j + 4)) h1 h2 h3) (tb_of (i := 110) rfl rfl) (tb_of (i := 0) rfl rfl) (np := 6) ⟨⟨by decide, by decide⟩, by decide +kernel⟩ cv_Law_38 ⟨Nat.le_of_ble_eq_true rfl, Nat.le_of_ble_eq_true rfl⟩ ⟨by show cells + 30000 ≤ 601024; omega, by show slots + (4600000 - PS nl hc bl ml) ≤ 7293034; omega⟩ hC.2.2.2.2.1 (hC.hold hW) hW [0, 1, 2, 3, 4, 5, 6, 7, 8, 9, 13] [10, 11, 12] (by decide) rfl (wr := [(m0, .inr (3, [fl, .int (nI cnt), .ref as_, .ref af])), (as_, .inl (cI, 9000, .inl st)), (af, .inl (cI, 72000, .inl fs))]) rfl (by decide) (by decide) rfl hl.1 rfl (Nat.le_of_ble_eq_true rfl) d_Law_law_110 (fun v k z w1 H locs hv hW => ?_)
    obtain ⟨ab2, am2, ar2, an2, ah2, nl2, hc2n, n2, used2, bl2, ml2, most2, rows2, next2, heads2, tr2, ix2, bk2, mk2, rfl, hk1, hk2, hX2, rfl⟩ := hv
    have hW : xW D A s.heap [(x0, .inr (0, [.ref h0, .ref t0])), (t0, .inr (2, [.ref h0, .ref ai, .ref ab2, .int (nI used2), .ref am2, .int (nI most2)])), (ai, .inl (cI, 4352, .inl ix2)), (ab2, .inl (cI, bl2, .inl bk2)), (am2, .inl (cI, ml2, .inl mk2)), (h0, .inr (1, [.ref ar2, .ref an2, .ref ah2, .int (nI n2), .ref at_])), (ar2, .inl (cI, 8 * nl2, .inl rows2)), (an2, .inl (cI, nl2, .inl next2)), (ah2, .inl (cI, hc2n, .inl heads2)), (at_, .inl (cI, 8, .inl tr2)), (m0, .inr (3, [fl, .int (nI cnt), .ref as_, .ref af])), (as_, .inl (cI, 9000, .inl st)), (af, .inl (cI, 72000, .inl fs)), (ao, .inl (cL, 1, .inr (.inl (vp_updL lf 0 (nI (pb - pa + 1)).toInt64))))] H locs := hW.sub [3, 4, 5, 6, 7, 8, 9, 10, 11, 12, 0, 1, 2, 13] (by decide) rfl
    have hcap2 := hX2.caps
    refine W.eq (g2 := F0 m 113 ls [.int (nI 0)]) rfl ?_
    refine lv_istore (lv' := [(5, .int (nI 0)), (0, .ref b), (1, .ref x0), (2, .ref m0), (3, .ref ao), (4, .int (nI (6 * j)))]) hx hb d_Law_law_113 hl (by decide) rfl (fun ls hl => ?_)
    refine lv_aload_n hx hb d_Law_law_115 rfl (lv_at hl 3 rfl) ?_
    refine lv_aload_n hx hb d_Law_law_116 rfl (lv_at hl 1 rfl) ?_
    refine lv_iload hx hb d_Law_law_117 (lv_at hl 5 rfl) ?_
    refine lv_iconst (v := nI 1) hx hb d_Law_law_119 (by decide) ?_
    refine xn_iadd hx hb d_Law_law_120 ?_
    refine xn_sld hC hW (by omega) d_Law_law_121 ?_
    refine lv_aload_n hx hb d_Law_law_122 rfl (lv_at hl 1 rfl) ?_
    refine lv_iload hx hb d_Law_law_123 (lv_at hl 5 rfl) ?_
    refine lv_iconst (v := nI 2) hx hb d_Law_law_125 (by decide) ?_
    refine xn_iadd hx hb d_Law_law_126 ?_
    refine xn_sld hC hW (by omega) d_Law_law_127 ?_
    refine lv_aload_n hx hb d_Law_law_128 rfl (lv_at hl 1 rfl) ?_
    refine lv_iload hx hb d_Law_law_129 (lv_at hl 5 rfl) ?_
    refine lv_iconst (v := nI 3) hx hb d_Law_law_131 (by decide) ?_
    refine xn_iadd hx hb d_Law_law_132 ?_
    refine xn_sld hC hW (by omega) d_Law_law_133 ?_
    refine lv_aload_n hx hb d_Law_law_134 rfl (lv_at hl 1 rfl) ?_
    refine lv_iload hx hb d_Law_law_135 (lv_at hl 5 rfl) ?_
    refine lv_iconst (v := nI 4) hx hb d_Law_law_137 (by decide) ?_
    refine xn_iadd hx hb d_Law_law_138 ?_
    refine xn_sld hC hW (by omega) d_Law_law_139 ?_
    refine x_callVT (rest := []) hM (c_mset l D cI cL m0 as_ af cnt fl st fs sN g hMI (by omega) (xs (6 * j + 1)) (xs (6 * j + 2)) (xs (6 * j + 3)) (xs (6 * j + 4))) cb_Mod_set cv_Law_43 ⟨Nat.le_of_ble_eq_true rfl, Nat.le_of_ble_eq_true rfl⟩ ⟨by show cells + k + 0 ≤ 601024; omega, by show slots + z + 0 ≤ 7293034; omega⟩ hW [10, 11, 12] [0, 1, 2, 3, 4, 5, 6, 7, 8, 9, 13] (by decide) rfl (wr := [(x0, .inr (0, [.ref h0, .ref t0])), (t0, .inr (2, [.ref h0, .ref ai, .ref ab2, .int (nI used2), .ref am2, .int (nI most2)])), (ai, .inl (cI, 4352, .inl ix2)), (ab2, .inl (cI, bl2, .inl bk2)), (am2, .inl (cI, ml2, .inl mk2)), (h0, .inr (1, [.ref ar2, .ref an2, .ref ah2, .int (nI n2), .ref at_])), (ar2, .inl (cI, 8 * nl2, .inl rows2)), (an2, .inl (cI, nl2, .inl next2)), (ah2, .inl (cI, hc2n, .inl heads2)), (at_, .inl (cI, 8, .inl tr2)), (ao, .inl (cL, 1, .inr (.inl (vp_updL lf 0 (nI (pb - pa + 1)).toInt64))))]) rfl (by decide) (by decide) 10 rfl rfl rfl hl.1 rfl (Nat.le_of_ble_eq_true rfl) d_Law_law_140 (fun v k2 z2 w1 H locs hv hW => ?_)
    obtain ⟨rfl, rfl, hcase⟩ := hv
    rcases hcase with ⟨pa2, pb2, fd2, cnt2, st2, fs2, sN2, f1, f2, f3, f4, f5, f6, rfl, hMI2, hcnt2, rfl⟩ | ⟨hno, -, -⟩
    · have g1 := nI_inj (e1.symm.trans f1) (by omega) (by omega)
      have g2 := nI_inj (e2.symm.trans f2) (by omega) (by omega)
      have g3 := nI_inj (e3.symm.trans f3) (by omega) (by omega)
      subst g1; subst g2; subst g3
      have hW : xW D A s.heap [(x0, .inr (0, [.ref h0, .ref t0])), (t0, .inr (2, [.ref h0, .ref ai, .ref ab2, .int (nI used2), .ref am2, .int (nI most2)])), (ai, .inl (cI, 4352, .inl ix2)), (ab2, .inl (cI, bl2, .inl bk2)), (am2, .inl (cI, ml2, .inl mk2)), (h0, .inr (1, [.ref ar2, .ref an2, .ref ah2, .int (nI n2), .ref at_])), (ar2, .inl (cI, 8 * nl2, .inl rows2)), (an2, .inl (cI, nl2, .inl next2)), (ah2, .inl (cI, hc2n, .inl heads2)), (at_, .inl (cI, 8, .inl tr2)), (m0, .inr (3, [.int (nI 0), .int (nI cnt2), .ref as_, .ref af])), (as_, .inl (cI, 9000, .inl st2)), (af, .inl (cI, 72000, .inl fs2)), (ao, .inl (cL, 1, .inr (.inl (vp_updL lf 0 (nI (pb - pa + 1)).toInt64))))] H locs := hW.sub [0, 1, 2, 3, 4, 5, 6, 7, 8, 9, 11, 12, 13, 10] (by decide) rfl
      refine W.eq (g2 := F0 m 143 ls [.int (nI (pb - pa + 1))]) rfl ?_
      refine lv_istore (lv' := [(6, .int (nI (pb - pa + 1))), (5, .int (nI 0)), (0, .ref b), (1, .ref x0), (2, .ref m0), (3, .ref ao), (4, .int (nI (6 * j)))]) hx hb d_Law_law_143 hl (by decide) rfl (fun ls hl => ?_)
      refine lv_aload_n hx hb d_Law_law_145 rfl (lv_at hl 4 rfl) ?_
      refine x_callVP (rest := []) hM (c_thrown l D cI cL m0 (nI 0) (.int (nI cnt2)) (.ref as_) (.ref af)) cb_Mod_thrown cv_Law_44 ⟨Nat.le_of_ble_eq_true rfl, Nat.le_of_ble_eq_true rfl⟩ ⟨by show cells + k + 0 + 0 ≤ 601024; omega, by show slots + z + 0 + 0 ≤ 7293034; omega⟩ hW.1 [10] rfl 10 rfl rfl rfl hl.1 rfl (Nat.le_of_ble_eq_true rfl) d_Law_law_146 (fun v hv => ?_)
      subst hv
      refine W.eq (g2 := F0 m 149 ls [.int (nI 0)]) rfl ?_
      refine lv_iload hx hb d_Law_law_149 (lv_at hl 1 rfl) ?_
      refine xn_eq (tgt := 156) hx hb (by omega) (by omega) d_Law_law_151 (by decide) (fun heq_ => ?_) (fun hne_ => ?_)
      · refine lv_iload hx hb d_Law_law_156 (lv_at hl 1 rfl) ?_
        refine xn_ifne (tgt := 173) hx hb (by omega) d_Law_law_158 (by decide) (fun hz_ => ?_) (fun hz_ => ?_)
        · exact absurd rfl hz_
        · refine lv_aload_n hx hb d_Law_law_161 rfl (lv_at hl 5 rfl) ?_
          refine lv_iconst (v := nI 0) hx hb d_Law_law_162 (by decide) ?_
          refine xn_lald hM hW.1 13 rfl (by decide) (by decide) d_Law_law_163 ?_
          refine lv_iload hx hb d_Law_law_164 (lv_at hl 0 rfl) ?_
          refine lv_i2l (v := (nI (pb - pa + 1)).toInt64) hx hb d_Law_law_166 rfl ?_
          refine W.lcmp hx hb d_Law_law_167 ?_
          refine xn_top (lg_same pk_uLs) ?_
          refine xn_ifeq (tgt := 173) hx hb (by omega) d_Law_law_168 (by decide) (fun hq_ => ?_) (fun hq_ => ?_)
          · refine lv_goto (tgt := 584) hx hb d_Law_law_173 (by decide) ?_
            have hl : lv_has ls 7 [(0, .ref b), (1, .ref x0), (2, .ref m0), (3, .ref ao), (4, .int (nI (6 * j)))] := lv_sub hl [2, 3, 4, 5, 6] rfl
            exact hN ab2 am2 ar2 an2 ah2 nl2 hc2n n2 used2 bl2 ml2 most2 cnt2 _ _ rows2 next2 heads2 tr2 ix2 bk2 mk2 st2 fs2 _ (.int (nI 0)) sN2 _ ls H locs ⟨hX2, hMI2, by omega, by omega, by omega⟩ hl hW
          · exact absurd rfl hq_
      · exact absurd rfl hne_
    · exact absurd hok hno
  · refine x_callSW (rest := []) hM (c_lset_bad l hfl D cI cL x0 t0 h0 ai ab am ar an ah at_ nl hc n used bl ml most ao rows next heads tr ix bk mk lf (xs (6 * j + 1)) (xs (6 * j + 2)) (xs (6 * j + 3)) (xs (6 * j + 4)) hok) (tb_of (i := 110) rfl rfl) (tb_of (i := 0) rfl rfl) (np := 6) ⟨⟨by decide, by decide⟩, by decide +kernel⟩ cv_Law_38 ⟨Nat.le_of_ble_eq_true rfl, Nat.le_of_ble_eq_true rfl⟩ ⟨by show cells + 1 ≤ 601024; omega, by show slots + 6 ≤ 7293034; omega⟩ hC.2.2.2.2.1 (hC.hold hW) hW [0, 1, 2, 3, 4, 5, 6, 7, 8, 9, 13] [10, 11, 12] (by decide) rfl (wr := [(m0, .inr (3, [fl, .int (nI cnt), .ref as_, .ref af])), (as_, .inl (cI, 9000, .inl st)), (af, .inl (cI, 72000, .inl fs))]) rfl (by decide) (by decide) rfl hl.1 rfl (Nat.le_of_ble_eq_true rfl) d_Law_law_110 (fun v k z w1 H locs hv hW => ?_)
    obtain ⟨rfl, hk1, hk2, rfl⟩ := hv
    have hW : xW D A s.heap [(x0, .inr (0, [.ref h0, .ref t0])), (t0, .inr (2, [.ref h0, .ref ai, .ref ab, .int (nI used), .ref am, .int (nI most)])), (ai, .inl (cI, 4352, .inl ix)), (ab, .inl (cI, bl, .inl bk)), (am, .inl (cI, ml, .inl mk)), (h0, .inr (1, [.ref ar, .ref an, .ref ah, .int (nI n), .ref at_])), (ar, .inl (cI, 8 * nl, .inl rows)), (an, .inl (cI, nl, .inl next)), (ah, .inl (cI, hc, .inl heads)), (at_, .inl (cI, 8, .inl tr)), (m0, .inr (3, [fl, .int (nI cnt), .ref as_, .ref af])), (as_, .inl (cI, 9000, .inl st)), (af, .inl (cI, 72000, .inl fs)), (ao, .inl (cL, 1, .inr (.inl lf)))] H locs := hW.sub [3, 4, 5, 6, 7, 8, 9, 10, 11, 12, 0, 1, 2, 13] (by decide) rfl
    refine W.eq (g2 := F0 m 113 ls [.int (nI 1)]) rfl ?_
    refine lv_istore (lv' := [(5, .int (nI 1)), (0, .ref b), (1, .ref x0), (2, .ref m0), (3, .ref ao), (4, .int (nI (6 * j)))]) hx hb d_Law_law_113 hl (by decide) rfl (fun ls hl => ?_)
    refine lv_aload_n hx hb d_Law_law_115 rfl (lv_at hl 3 rfl) ?_
    refine lv_aload_n hx hb d_Law_law_116 rfl (lv_at hl 1 rfl) ?_
    refine lv_iload hx hb d_Law_law_117 (lv_at hl 5 rfl) ?_
    refine lv_iconst (v := nI 1) hx hb d_Law_law_119 (by decide) ?_
    refine xn_iadd hx hb d_Law_law_120 ?_
    refine xn_sld hC hW (by omega) d_Law_law_121 ?_
    refine lv_aload_n hx hb d_Law_law_122 rfl (lv_at hl 1 rfl) ?_
    refine lv_iload hx hb d_Law_law_123 (lv_at hl 5 rfl) ?_
    refine lv_iconst (v := nI 2) hx hb d_Law_law_125 (by decide) ?_
    refine xn_iadd hx hb d_Law_law_126 ?_
    refine xn_sld hC hW (by omega) d_Law_law_127 ?_
    refine lv_aload_n hx hb d_Law_law_128 rfl (lv_at hl 1 rfl) ?_
    refine lv_iload hx hb d_Law_law_129 (lv_at hl 5 rfl) ?_
    refine lv_iconst (v := nI 3) hx hb d_Law_law_131 (by decide) ?_
    refine xn_iadd hx hb d_Law_law_132 ?_
    refine xn_sld hC hW (by omega) d_Law_law_133 ?_
    refine lv_aload_n hx hb d_Law_law_134 rfl (lv_at hl 1 rfl) ?_
    refine lv_iload hx hb d_Law_law_135 (lv_at hl 5 rfl) ?_
    refine lv_iconst (v := nI 4) hx hb d_Law_law_137 (by decide) ?_
    refine xn_iadd hx hb d_Law_law_138 ?_
    refine xn_sld hC hW (by omega) d_Law_law_139 ?_
    refine x_callVT (rest := []) hM (c_mset l D cI cL m0 as_ af cnt fl st fs sN g hMI (by omega) (xs (6 * j + 1)) (xs (6 * j + 2)) (xs (6 * j + 3)) (xs (6 * j + 4))) cb_Mod_set cv_Law_43 ⟨Nat.le_of_ble_eq_true rfl, Nat.le_of_ble_eq_true rfl⟩ ⟨by show cells + k + 0 ≤ 601024; omega, by show slots + z + 0 ≤ 7293034; omega⟩ hW [10, 11, 12] [0, 1, 2, 3, 4, 5, 6, 7, 8, 9, 13] (by decide) rfl (wr := [(x0, .inr (0, [.ref h0, .ref t0])), (t0, .inr (2, [.ref h0, .ref ai, .ref ab, .int (nI used), .ref am, .int (nI most)])), (ai, .inl (cI, 4352, .inl ix)), (ab, .inl (cI, bl, .inl bk)), (am, .inl (cI, ml, .inl mk)), (h0, .inr (1, [.ref ar, .ref an, .ref ah, .int (nI n), .ref at_])), (ar, .inl (cI, 8 * nl, .inl rows)), (an, .inl (cI, nl, .inl next)), (ah, .inl (cI, hc, .inl heads)), (at_, .inl (cI, 8, .inl tr)), (ao, .inl (cL, 1, .inr (.inl lf)))]) rfl (by decide) (by decide) 10 rfl rfl rfl hl.1 rfl (Nat.le_of_ble_eq_true rfl) d_Law_law_140 (fun v k2 z2 w1 H locs hv hW => ?_)
    obtain ⟨rfl, rfl, hcase⟩ := hv
    rcases hcase with ⟨pa2, pb2, fd2, cnt2, st2, fs2, sN2, f1, f2, f3, f4, f5, f6, -⟩ | ⟨-, rfl, rfl⟩
    · exact absurd ⟨pa2, pb2, fd2, f1, f2, f3, f4, f5, f6⟩ hok
    · have hW : xW D A s.heap [(x0, .inr (0, [.ref h0, .ref t0])), (t0, .inr (2, [.ref h0, .ref ai, .ref ab, .int (nI used), .ref am, .int (nI most)])), (ai, .inl (cI, 4352, .inl ix)), (ab, .inl (cI, bl, .inl bk)), (am, .inl (cI, ml, .inl mk)), (h0, .inr (1, [.ref ar, .ref an, .ref ah, .int (nI n), .ref at_])), (ar, .inl (cI, 8 * nl, .inl rows)), (an, .inl (cI, nl, .inl next)), (ah, .inl (cI, hc, .inl heads)), (at_, .inl (cI, 8, .inl tr)), (m0, .inr (3, [.int (nI 1), .int (nI cnt), .ref as_, .ref af])), (as_, .inl (cI, 9000, .inl st)), (af, .inl (cI, 72000, .inl fs)), (ao, .inl (cL, 1, .inr (.inl lf)))] H locs := hW.sub [0, 1, 2, 3, 4, 5, 6, 7, 8, 9, 11, 12, 13, 10] (by decide) rfl
      refine W.eq (g2 := F0 m 143 ls [.int (nI 0)]) rfl ?_
      refine lv_istore (lv' := [(6, .int (nI 0)), (5, .int (nI 1)), (0, .ref b), (1, .ref x0), (2, .ref m0), (3, .ref ao), (4, .int (nI (6 * j)))]) hx hb d_Law_law_143 hl (by decide) rfl (fun ls hl => ?_)
      refine lv_aload_n hx hb d_Law_law_145 rfl (lv_at hl 4 rfl) ?_
      refine x_callVP (rest := []) hM (c_thrown l D cI cL m0 (nI 1) (.int (nI cnt)) (.ref as_) (.ref af)) cb_Mod_thrown cv_Law_44 ⟨Nat.le_of_ble_eq_true rfl, Nat.le_of_ble_eq_true rfl⟩ ⟨by show cells + k + 0 + 0 ≤ 601024; omega, by show slots + z + 0 + 0 ≤ 7293034; omega⟩ hW.1 [10] rfl 10 rfl rfl rfl hl.1 rfl (Nat.le_of_ble_eq_true rfl) d_Law_law_146 (fun v hv => ?_)
      subst hv
      refine W.eq (g2 := F0 m 149 ls [.int (nI 1)]) rfl ?_
      refine lv_iload hx hb d_Law_law_149 (lv_at hl 1 rfl) ?_
      refine xn_eq (tgt := 156) hx hb (by omega) (by omega) d_Law_law_151 (by decide) (fun heq_ => ?_) (fun hne_ => ?_)
      · refine lv_iload hx hb d_Law_law_156 (lv_at hl 1 rfl) ?_
        refine xn_ifne (tgt := 173) hx hb (by omega) d_Law_law_158 (by decide) (fun hz_ => ?_) (fun hz_ => ?_)
        · refine lv_goto (tgt := 584) hx hb d_Law_law_173 (by decide) ?_
          have hl : lv_has ls 7 [(0, .ref b), (1, .ref x0), (2, .ref m0), (3, .ref ao), (4, .int (nI (6 * j)))] := lv_sub hl [2, 3, 4, 5, 6] rfl
          exact hN ab am ar an ah nl hc n used bl ml most cnt _ _ rows next heads tr ix bk mk st fs lf (.int (nI 1)) sN g ls H locs ⟨hX, hMI, by omega, by omega, by omega⟩ hl hW
        · exact absurd hz_ (by decide)
      · exact absurd rfl hne_
set_option maxHeartbeats 4000000 in
set_option maxRecDepth 100000 in
theorem law_mark (hfl : l.flags = pinnedFlags ++ [noTraceFlag]) (hC : LC p s m meth c D cI cL A b L xs) (hN : NX p l e s m below meth c Q D cI cL A b x0 t0 h0 ai at_ ao m0 as_ af j) (hj : 6 * j + 6 ≤ L) (hI : LI g rows next heads ix bk st fs sN n nl hc used bl ml most cnt j cells slots) (hl : lv_has ls 7 [(0, .ref b), (1, .ref x0), (2, .ref m0), (3, .ref ao), (4, .int (nI (6 * j)))]) (hW : xW D A s.heap [(x0, .inr (0, [.ref h0, .ref t0])), (t0, .inr (2, [.ref h0, .ref ai, .ref ab, .int (nI used), .ref am, .int (nI most)])), (ai, .inl (cI, 4352, .inl ix)), (ab, .inl (cI, bl, .inl bk)), (am, .inl (cI, ml, .inl mk)), (h0, .inr (1, [.ref ar, .ref an, .ref ah, .int (nI n), .ref at_])), (ar, .inl (cI, 8 * nl, .inl rows)), (an, .inl (cI, nl, .inl next)), (ah, .inl (cI, hc, .inl heads)), (at_, .inl (cI, 8, .inl tr)), (m0, .inr (3, [fl, .int (nI cnt), .ref as_, .ref af])), (as_, .inl (cI, 9000, .inl st)), (af, .inl (cI, 72000, .inl fs)), (ao, .inl (cL, 1, .inr (.inl lf)))] H locs) : W p l e room_1 s m #[Value.ref b] below meth c H locs cells slots Q (F0 m 176 ls []) := by
  have hM := hC.1
  have hx := hM.1
  have hb := hM.2.1
  have hL := hC.2.2.2.2.2
  obtain ⟨hX, hMI, hcnt, hc1, hc2⟩ := hI
  have hcap := hX.caps
  refine lv_aload_n hx hb d_Law_law_176 rfl (lv_at hl 1 rfl) ?_
  refine lv_aload_n hx hb d_Law_law_177 rfl (lv_at hl 0 rfl) ?_
  refine lv_iload hx hb d_Law_law_178 (lv_at hl 4 rfl) ?_
  refine lv_iconst (v := nI 1) hx hb d_Law_law_180 (by decide) ?_
  refine xn_iadd hx hb d_Law_law_181 ?_
  refine xn_sld hC hW (by omega) d_Law_law_182 ?_
  refine lv_aload_n hx hb d_Law_law_183 rfl (lv_at hl 0 rfl) ?_
  refine lv_iload hx hb d_Law_law_184 (lv_at hl 4 rfl) ?_
  refine lv_iconst (v := nI 2) hx hb d_Law_law_186 (by decide) ?_
  refine xn_iadd hx hb d_Law_law_187 ?_
  refine xn_sld hC hW (by omega) d_Law_law_188 ?_
  refine lv_aload_n hx hb d_Law_law_189 rfl (lv_at hl 0 rfl) ?_
  refine lv_iload hx hb d_Law_law_190 (lv_at hl 4 rfl) ?_
  refine lv_iconst (v := nI 3) hx hb d_Law_law_192 (by decide) ?_
  refine xn_iadd hx hb d_Law_law_193 ?_
  refine xn_sld hC hW (by omega) d_Law_law_194 ?_
  refine lv_aload_n hx hb d_Law_law_195 rfl (lv_at hl 0 rfl) ?_
  refine lv_iload hx hb d_Law_law_196 (lv_at hl 4 rfl) ?_
  refine lv_iconst (v := nI 4) hx hb d_Law_law_198 (by decide) ?_
  refine xn_iadd hx hb d_Law_law_199 ?_
  refine xn_sld hC hW (by omega) d_Law_law_200 ?_
  refine lv_aload_n hx hb d_Law_law_201 rfl (lv_at hl 0 rfl) ?_
  refine lv_iload hx hb d_Law_law_202 (lv_at hl 4 rfl) ?_
  refine lv_iconst (v := nI 5) hx hb d_Law_law_204 (by decide) ?_
  refine xn_iadd hx hb d_Law_law_205 ?_
  refine xn_sld hC hW (by omega) d_Law_law_206 ?_
  refine lv_aload_n hx hb d_Law_law_207 rfl (lv_at hl 3 rfl) ?_
  by_cases hok : okM (xs (6 * j + 1)) (xs (6 * j + 2)) (xs (6 * j + 3))
  · obtain ⟨pa, pb, fd, e1, e2, e3, h1, h2, h3⟩ := id hok
    rw [e1, e2, e3]
    refine x_callSW (rest := []) hM (c_lmark l D cI cL x0 t0 h0 ai ab am ar an ah at_ nl hc n used bl ml most ao rows next heads tr ix bk mk lf g hX ((List.range cnt).map (fun k i => fs (8 * k + i))) hMI.cov (by rw [List.length_map, List.length_range]; omega) pa pb fd (xs (6 * j + 4)) (xs (6 * j + 5)) h1 h2 h3) (tb_of (i := 221) rfl rfl) (tb_of (i := 0) rfl rfl) (np := 7) ⟨⟨by decide, by decide⟩, by decide +kernel⟩ cv_Law_48 ⟨Nat.le_of_ble_eq_true rfl, Nat.le_of_ble_eq_true rfl⟩ ⟨by show cells + 30000 ≤ 601024; omega, by show slots + (4600000 - PS nl hc bl ml) ≤ 7293034; omega⟩ hC.2.2.2.2.1 (hC.hold hW) hW [0, 1, 2, 3, 4, 5, 6, 7, 8, 9, 13] [10, 11, 12] (by decide) rfl (wr := [(m0, .inr (3, [fl, .int (nI cnt), .ref as_, .ref af])), (as_, .inl (cI, 9000, .inl st)), (af, .inl (cI, 72000, .inl fs))]) rfl (by decide) (by decide) rfl hl.1 rfl (Nat.le_of_ble_eq_true rfl) d_Law_law_208 (fun v k z w1 H locs hv hW => ?_)
    obtain ⟨ab2, am2, ar2, an2, ah2, nl2, hc2n, n2, used2, bl2, ml2, most2, rows2, next2, heads2, tr2, ix2, bk2, mk2, rfl, hk1, hk2, hX2, rfl⟩ := hv
    have hW : xW D A s.heap [(x0, .inr (0, [.ref h0, .ref t0])), (t0, .inr (2, [.ref h0, .ref ai, .ref ab2, .int (nI used2), .ref am2, .int (nI most2)])), (ai, .inl (cI, 4352, .inl ix2)), (ab2, .inl (cI, bl2, .inl bk2)), (am2, .inl (cI, ml2, .inl mk2)), (h0, .inr (1, [.ref ar2, .ref an2, .ref ah2, .int (nI n2), .ref at_])), (ar2, .inl (cI, 8 * nl2, .inl rows2)), (an2, .inl (cI, nl2, .inl next2)), (ah2, .inl (cI, hc2n, .inl heads2)), (at_, .inl (cI, 8, .inl tr2)), (m0, .inr (3, [fl, .int (nI cnt), .ref as_, .ref af])), (as_, .inl (cI, 9000, .inl st)), (af, .inl (cI, 72000, .inl fs)), (ao, .inl (cL, 1, .inr (.inl (vp_updL lf 0 (nI (pb - pa + 1)).toInt64))))] H locs := hW.sub [3, 4, 5, 6, 7, 8, 9, 10, 11, 12, 0, 1, 2, 13] (by decide) rfl
    have hcap2 := hX2.caps
    refine W.eq (g2 := F0 m 211 ls [.int (nI 0)]) rfl ?_
    refine lv_istore (lv' := [(5, .int (nI 0)), (0, .ref b), (1, .ref x0), (2, .ref m0), (3, .ref ao), (4, .int (nI (6 * j)))]) hx hb d_Law_law_211 hl (by decide) rfl (fun ls hl => ?_)
    refine lv_aload_n hx hb d_Law_law_213 rfl (lv_at hl 3 rfl) ?_
    refine lv_aload_n hx hb d_Law_law_214 rfl (lv_at hl 1 rfl) ?_
    refine lv_iload hx hb d_Law_law_215 (lv_at hl 5 rfl) ?_
    refine lv_iconst (v := nI 1) hx hb d_Law_law_217 (by decide) ?_
    refine xn_iadd hx hb d_Law_law_218 ?_
    refine xn_sld hC hW (by omega) d_Law_law_219 ?_
    refine lv_aload_n hx hb d_Law_law_220 rfl (lv_at hl 1 rfl) ?_
    refine lv_iload hx hb d_Law_law_221 (lv_at hl 5 rfl) ?_
    refine lv_iconst (v := nI 2) hx hb d_Law_law_223 (by decide) ?_
    refine xn_iadd hx hb d_Law_law_224 ?_
    refine xn_sld hC hW (by omega) d_Law_law_225 ?_
    refine lv_aload_n hx hb d_Law_law_226 rfl (lv_at hl 1 rfl) ?_
    refine lv_iload hx hb d_Law_law_227 (lv_at hl 5 rfl) ?_
    refine lv_iconst (v := nI 3) hx hb d_Law_law_229 (by decide) ?_
    refine xn_iadd hx hb d_Law_law_230 ?_
    refine xn_sld hC hW (by omega) d_Law_law_231 ?_
    refine lv_aload_n hx hb d_Law_law_232 rfl (lv_at hl 1 rfl) ?_
    refine lv_iload hx hb d_Law_law_233 (lv_at hl 5 rfl) ?_
    refine lv_iconst (v := nI 4) hx hb d_Law_law_235 (by decide) ?_
    refine xn_iadd hx hb d_Law_law_236 ?_
    refine xn_sld hC hW (by omega) d_Law_law_237 ?_
    refine lv_aload_n hx hb d_Law_law_238 rfl (lv_at hl 1 rfl) ?_
    refine lv_iload hx hb d_Law_law_239 (lv_at hl 5 rfl) ?_
    refine lv_iconst (v := nI 5) hx hb d_Law_law_241 (by decide) ?_
    refine xn_iadd hx hb d_Law_law_242 ?_
    refine xn_sld hC hW (by omega) d_Law_law_243 ?_
    refine x_callVT (rest := []) hM (c_mmark l D cI cL m0 as_ af cnt fl st fs sN g hMI (by omega) (xs (6 * j + 1)) (xs (6 * j + 2)) (xs (6 * j + 3)) (xs (6 * j + 4)) (xs (6 * j + 5))) cb_Mod_mark cv_Law_51 ⟨Nat.le_of_ble_eq_true rfl, Nat.le_of_ble_eq_true rfl⟩ ⟨by show cells + k + 0 ≤ 601024; omega, by show slots + z + 0 ≤ 7293034; omega⟩ hW [10, 11, 12] [0, 1, 2, 3, 4, 5, 6, 7, 8, 9, 13] (by decide) rfl (wr := [(x0, .inr (0, [.ref h0, .ref t0])), (t0, .inr (2, [.ref h0, .ref ai, .ref ab2, .int (nI used2), .ref am2, .int (nI most2)])), (ai, .inl (cI, 4352, .inl ix2)), (ab2, .inl (cI, bl2, .inl bk2)), (am2, .inl (cI, ml2, .inl mk2)), (h0, .inr (1, [.ref ar2, .ref an2, .ref ah2, .int (nI n2), .ref at_])), (ar2, .inl (cI, 8 * nl2, .inl rows2)), (an2, .inl (cI, nl2, .inl next2)), (ah2, .inl (cI, hc2n, .inl heads2)), (at_, .inl (cI, 8, .inl tr2)), (ao, .inl (cL, 1, .inr (.inl (vp_updL lf 0 (nI (pb - pa + 1)).toInt64))))]) rfl (by decide) (by decide) 10 rfl rfl rfl hl.1 rfl (Nat.le_of_ble_eq_true rfl) d_Law_law_244 (fun v k2 z2 w1 H locs hv hW => ?_)
    obtain ⟨rfl, rfl, hcase⟩ := hv
    rcases hcase with ⟨pa2, pb2, fd2, cnt2, st2, fs2, sN2, f1, f2, f3, f4, f5, f6, rfl, hMI2, hcnt2, rfl⟩ | ⟨hno, -, -⟩
    · have g1 := nI_inj (e1.symm.trans f1) (by omega) (by omega)
      have g2 := nI_inj (e2.symm.trans f2) (by omega) (by omega)
      have g3 := nI_inj (e3.symm.trans f3) (by omega) (by omega)
      subst g1; subst g2; subst g3
      have hW : xW D A s.heap [(x0, .inr (0, [.ref h0, .ref t0])), (t0, .inr (2, [.ref h0, .ref ai, .ref ab2, .int (nI used2), .ref am2, .int (nI most2)])), (ai, .inl (cI, 4352, .inl ix2)), (ab2, .inl (cI, bl2, .inl bk2)), (am2, .inl (cI, ml2, .inl mk2)), (h0, .inr (1, [.ref ar2, .ref an2, .ref ah2, .int (nI n2), .ref at_])), (ar2, .inl (cI, 8 * nl2, .inl rows2)), (an2, .inl (cI, nl2, .inl next2)), (ah2, .inl (cI, hc2n, .inl heads2)), (at_, .inl (cI, 8, .inl tr2)), (m0, .inr (3, [.int (nI 0), .int (nI cnt2), .ref as_, .ref af])), (as_, .inl (cI, 9000, .inl st2)), (af, .inl (cI, 72000, .inl fs2)), (ao, .inl (cL, 1, .inr (.inl (vp_updL lf 0 (nI (pb - pa + 1)).toInt64))))] H locs := hW.sub [0, 1, 2, 3, 4, 5, 6, 7, 8, 9, 11, 12, 13, 10] (by decide) rfl
      refine W.eq (g2 := F0 m 247 ls [.int (nI (pb - pa + 1))]) rfl ?_
      refine lv_istore (lv' := [(6, .int (nI (pb - pa + 1))), (5, .int (nI 0)), (0, .ref b), (1, .ref x0), (2, .ref m0), (3, .ref ao), (4, .int (nI (6 * j)))]) hx hb d_Law_law_247 hl (by decide) rfl (fun ls hl => ?_)
      refine lv_aload_n hx hb d_Law_law_249 rfl (lv_at hl 4 rfl) ?_
      refine x_callVP (rest := []) hM (c_thrown l D cI cL m0 (nI 0) (.int (nI cnt2)) (.ref as_) (.ref af)) cb_Mod_thrown cv_Law_44 ⟨Nat.le_of_ble_eq_true rfl, Nat.le_of_ble_eq_true rfl⟩ ⟨by show cells + k + 0 + 0 ≤ 601024; omega, by show slots + z + 0 + 0 ≤ 7293034; omega⟩ hW.1 [10] rfl 10 rfl rfl rfl hl.1 rfl (Nat.le_of_ble_eq_true rfl) d_Law_law_250 (fun v hv => ?_)
      subst hv
      refine W.eq (g2 := F0 m 253 ls [.int (nI 0)]) rfl ?_
      refine lv_iload hx hb d_Law_law_253 (lv_at hl 1 rfl) ?_
      refine xn_eq (tgt := 260) hx hb (by omega) (by omega) d_Law_law_255 (by decide) (fun heq_ => ?_) (fun hne_ => ?_)
      · refine lv_iload hx hb d_Law_law_260 (lv_at hl 1 rfl) ?_
        refine xn_ifne (tgt := 277) hx hb (by omega) d_Law_law_262 (by decide) (fun hz_ => ?_) (fun hz_ => ?_)
        · exact absurd rfl hz_
        · refine lv_aload_n hx hb d_Law_law_265 rfl (lv_at hl 5 rfl) ?_
          refine lv_iconst (v := nI 0) hx hb d_Law_law_266 (by decide) ?_
          refine xn_lald hM hW.1 13 rfl (by decide) (by decide) d_Law_law_267 ?_
          refine lv_iload hx hb d_Law_law_268 (lv_at hl 0 rfl) ?_
          refine lv_i2l (v := (nI (pb - pa + 1)).toInt64) hx hb d_Law_law_270 rfl ?_
          refine W.lcmp hx hb d_Law_law_271 ?_
          refine xn_top (lg_same pk_uLs) ?_
          refine xn_ifeq (tgt := 277) hx hb (by omega) d_Law_law_272 (by decide) (fun hq_ => ?_) (fun hq_ => ?_)
          · refine lv_goto (tgt := 584) hx hb d_Law_law_277 (by decide) ?_
            have hl : lv_has ls 7 [(0, .ref b), (1, .ref x0), (2, .ref m0), (3, .ref ao), (4, .int (nI (6 * j)))] := lv_sub hl [2, 3, 4, 5, 6] rfl
            exact hN ab2 am2 ar2 an2 ah2 nl2 hc2n n2 used2 bl2 ml2 most2 cnt2 _ _ rows2 next2 heads2 tr2 ix2 bk2 mk2 st2 fs2 _ (.int (nI 0)) sN2 _ ls H locs ⟨hX2, hMI2, by omega, by omega, by omega⟩ hl hW
          · exact absurd rfl hq_
      · exact absurd rfl hne_
    · exact absurd hok hno
  · refine x_callSW (rest := []) hM (c_lmark_bad l hfl D cI cL x0 t0 h0 ai ab am ar an ah at_ nl hc n used bl ml most ao rows next heads tr ix bk mk lf (xs (6 * j + 1)) (xs (6 * j + 2)) (xs (6 * j + 3)) (xs (6 * j + 4)) (xs (6 * j + 5)) hok) (tb_of (i := 221) rfl rfl) (tb_of (i := 0) rfl rfl) (np := 7) ⟨⟨by decide, by decide⟩, by decide +kernel⟩ cv_Law_48 ⟨Nat.le_of_ble_eq_true rfl, Nat.le_of_ble_eq_true rfl⟩ ⟨by show cells + 1 ≤ 601024; omega, by show slots + 6 ≤ 7293034; omega⟩ hC.2.2.2.2.1 (hC.hold hW) hW [0, 1, 2, 3, 4, 5, 6, 7, 8, 9, 13] [10, 11, 12] (by decide) rfl (wr := [(m0, .inr (3, [fl, .int (nI cnt), .ref as_, .ref af])), (as_, .inl (cI, 9000, .inl st)), (af, .inl (cI, 72000, .inl fs))]) rfl (by decide) (by decide) rfl hl.1 rfl (Nat.le_of_ble_eq_true rfl) d_Law_law_208 (fun v k z w1 H locs hv hW => ?_)
    obtain ⟨rfl, hk1, hk2, rfl⟩ := hv
    have hW : xW D A s.heap [(x0, .inr (0, [.ref h0, .ref t0])), (t0, .inr (2, [.ref h0, .ref ai, .ref ab, .int (nI used), .ref am, .int (nI most)])), (ai, .inl (cI, 4352, .inl ix)), (ab, .inl (cI, bl, .inl bk)), (am, .inl (cI, ml, .inl mk)), (h0, .inr (1, [.ref ar, .ref an, .ref ah, .int (nI n), .ref at_])), (ar, .inl (cI, 8 * nl, .inl rows)), (an, .inl (cI, nl, .inl next)), (ah, .inl (cI, hc, .inl heads)), (at_, .inl (cI, 8, .inl tr)), (m0, .inr (3, [fl, .int (nI cnt), .ref as_, .ref af])), (as_, .inl (cI, 9000, .inl st)), (af, .inl (cI, 72000, .inl fs)), (ao, .inl (cL, 1, .inr (.inl lf)))] H locs := hW.sub [3, 4, 5, 6, 7, 8, 9, 10, 11, 12, 0, 1, 2, 13] (by decide) rfl
    refine W.eq (g2 := F0 m 211 ls [.int (nI 1)]) rfl ?_
    refine lv_istore (lv' := [(5, .int (nI 1)), (0, .ref b), (1, .ref x0), (2, .ref m0), (3, .ref ao), (4, .int (nI (6 * j)))]) hx hb d_Law_law_211 hl (by decide) rfl (fun ls hl => ?_)
    refine lv_aload_n hx hb d_Law_law_213 rfl (lv_at hl 3 rfl) ?_
    refine lv_aload_n hx hb d_Law_law_214 rfl (lv_at hl 1 rfl) ?_
    refine lv_iload hx hb d_Law_law_215 (lv_at hl 5 rfl) ?_
    refine lv_iconst (v := nI 1) hx hb d_Law_law_217 (by decide) ?_
    refine xn_iadd hx hb d_Law_law_218 ?_
    refine xn_sld hC hW (by omega) d_Law_law_219 ?_
    refine lv_aload_n hx hb d_Law_law_220 rfl (lv_at hl 1 rfl) ?_
    refine lv_iload hx hb d_Law_law_221 (lv_at hl 5 rfl) ?_
    refine lv_iconst (v := nI 2) hx hb d_Law_law_223 (by decide) ?_
    refine xn_iadd hx hb d_Law_law_224 ?_
    refine xn_sld hC hW (by omega) d_Law_law_225 ?_
    refine lv_aload_n hx hb d_Law_law_226 rfl (lv_at hl 1 rfl) ?_
    refine lv_iload hx hb d_Law_law_227 (lv_at hl 5 rfl) ?_
    refine lv_iconst (v := nI 3) hx hb d_Law_law_229 (by decide) ?_
    refine xn_iadd hx hb d_Law_law_230 ?_
    refine xn_sld hC hW (by omega) d_Law_law_231 ?_
    refine lv_aload_n hx hb d_Law_law_232 rfl (lv_at hl 1 rfl) ?_
    refine lv_iload hx hb d_Law_law_233 (lv_at hl 5 rfl) ?_
    refine lv_iconst (v := nI 4) hx hb d_Law_law_235 (by decide) ?_
    refine xn_iadd hx hb d_Law_law_236 ?_
    refine xn_sld hC hW (by omega) d_Law_law_237 ?_
    refine lv_aload_n hx hb d_Law_law_238 rfl (lv_at hl 1 rfl) ?_
    refine lv_iload hx hb d_Law_law_239 (lv_at hl 5 rfl) ?_
    refine lv_iconst (v := nI 5) hx hb d_Law_law_241 (by decide) ?_
    refine xn_iadd hx hb d_Law_law_242 ?_
    refine xn_sld hC hW (by omega) d_Law_law_243 ?_
    refine x_callVT (rest := []) hM (c_mmark l D cI cL m0 as_ af cnt fl st fs sN g hMI (by omega) (xs (6 * j + 1)) (xs (6 * j + 2)) (xs (6 * j + 3)) (xs (6 * j + 4)) (xs (6 * j + 5))) cb_Mod_mark cv_Law_51 ⟨Nat.le_of_ble_eq_true rfl, Nat.le_of_ble_eq_true rfl⟩ ⟨by show cells + k + 0 ≤ 601024; omega, by show slots + z + 0 ≤ 7293034; omega⟩ hW [10, 11, 12] [0, 1, 2, 3, 4, 5, 6, 7, 8, 9, 13] (by decide) rfl (wr := [(x0, .inr (0, [.ref h0, .ref t0])), (t0, .inr (2, [.ref h0, .ref ai, .ref ab, .int (nI used), .ref am, .int (nI most)])), (ai, .inl (cI, 4352, .inl ix)), (ab, .inl (cI, bl, .inl bk)), (am, .inl (cI, ml, .inl mk)), (h0, .inr (1, [.ref ar, .ref an, .ref ah, .int (nI n), .ref at_])), (ar, .inl (cI, 8 * nl, .inl rows)), (an, .inl (cI, nl, .inl next)), (ah, .inl (cI, hc, .inl heads)), (at_, .inl (cI, 8, .inl tr)), (ao, .inl (cL, 1, .inr (.inl lf)))]) rfl (by decide) (by decide) 10 rfl rfl rfl hl.1 rfl (Nat.le_of_ble_eq_true rfl) d_Law_law_244 (fun v k2 z2 w1 H locs hv hW => ?_)
    obtain ⟨rfl, rfl, hcase⟩ := hv
    rcases hcase with ⟨pa2, pb2, fd2, cnt2, st2, fs2, sN2, f1, f2, f3, f4, f5, f6, -⟩ | ⟨-, rfl, rfl⟩
    · exact absurd ⟨pa2, pb2, fd2, f1, f2, f3, f4, f5, f6⟩ hok
    · have hW : xW D A s.heap [(x0, .inr (0, [.ref h0, .ref t0])), (t0, .inr (2, [.ref h0, .ref ai, .ref ab, .int (nI used), .ref am, .int (nI most)])), (ai, .inl (cI, 4352, .inl ix)), (ab, .inl (cI, bl, .inl bk)), (am, .inl (cI, ml, .inl mk)), (h0, .inr (1, [.ref ar, .ref an, .ref ah, .int (nI n), .ref at_])), (ar, .inl (cI, 8 * nl, .inl rows)), (an, .inl (cI, nl, .inl next)), (ah, .inl (cI, hc, .inl heads)), (at_, .inl (cI, 8, .inl tr)), (m0, .inr (3, [.int (nI 1), .int (nI cnt), .ref as_, .ref af])), (as_, .inl (cI, 9000, .inl st)), (af, .inl (cI, 72000, .inl fs)), (ao, .inl (cL, 1, .inr (.inl lf)))] H locs := hW.sub [0, 1, 2, 3, 4, 5, 6, 7, 8, 9, 11, 12, 13, 10] (by decide) rfl
      refine W.eq (g2 := F0 m 247 ls [.int (nI 0)]) rfl ?_
      refine lv_istore (lv' := [(6, .int (nI 0)), (5, .int (nI 1)), (0, .ref b), (1, .ref x0), (2, .ref m0), (3, .ref ao), (4, .int (nI (6 * j)))]) hx hb d_Law_law_247 hl (by decide) rfl (fun ls hl => ?_)
      refine lv_aload_n hx hb d_Law_law_249 rfl (lv_at hl 4 rfl) ?_
      refine x_callVP (rest := []) hM (c_thrown l D cI cL m0 (nI 1) (.int (nI cnt)) (.ref as_) (.ref af)) cb_Mod_thrown cv_Law_44 ⟨Nat.le_of_ble_eq_true rfl, Nat.le_of_ble_eq_true rfl⟩ ⟨by show cells + k + 0 + 0 ≤ 601024; omega, by show slots + z + 0 + 0 ≤ 7293034; omega⟩ hW.1 [10] rfl 10 rfl rfl rfl hl.1 rfl (Nat.le_of_ble_eq_true rfl) d_Law_law_250 (fun v hv => ?_)
      subst hv
      refine W.eq (g2 := F0 m 253 ls [.int (nI 1)]) rfl ?_
      refine lv_iload hx hb d_Law_law_253 (lv_at hl 1 rfl) ?_
      refine xn_eq (tgt := 260) hx hb (by omega) (by omega) d_Law_law_255 (by decide) (fun heq_ => ?_) (fun hne_ => ?_)
      · refine lv_iload hx hb d_Law_law_260 (lv_at hl 1 rfl) ?_
        refine xn_ifne (tgt := 277) hx hb (by omega) d_Law_law_262 (by decide) (fun hz_ => ?_) (fun hz_ => ?_)
        · refine lv_goto (tgt := 584) hx hb d_Law_law_277 (by decide) ?_
          have hl : lv_has ls 7 [(0, .ref b), (1, .ref x0), (2, .ref m0), (3, .ref ao), (4, .int (nI (6 * j)))] := lv_sub hl [2, 3, 4, 5, 6] rfl
          exact hN ab am ar an ah nl hc n used bl ml most cnt _ _ rows next heads tr ix bk mk st fs lf (.int (nI 1)) sN g ls H locs ⟨hX, hMI, by omega, by omega, by omega⟩ hl hW
        · exact absurd hz_ (by decide)
      · exact absurd rfl hne_
set_option maxHeartbeats 4000000 in
set_option maxRecDepth 100000 in
theorem law_get (hfl : l.flags = pinnedFlags ++ [noTraceFlag]) (hC : LC p s m meth c D cI cL A b L xs) (hN : NX p l e s m below meth c Q D cI cL A b x0 t0 h0 ai at_ ao m0 as_ af j) (hj : 6 * j + 6 ≤ L) (hI : LI g rows next heads ix bk st fs sN n nl hc used bl ml most cnt j cells slots) (hl : lv_has ls 7 [(0, .ref b), (1, .ref x0), (2, .ref m0), (3, .ref ao), (4, .int (nI (6 * j)))]) (hW : xW D A s.heap [(x0, .inr (0, [.ref h0, .ref t0])), (t0, .inr (2, [.ref h0, .ref ai, .ref ab, .int (nI used), .ref am, .int (nI most)])), (ai, .inl (cI, 4352, .inl ix)), (ab, .inl (cI, bl, .inl bk)), (am, .inl (cI, ml, .inl mk)), (h0, .inr (1, [.ref ar, .ref an, .ref ah, .int (nI n), .ref at_])), (ar, .inl (cI, 8 * nl, .inl rows)), (an, .inl (cI, nl, .inl next)), (ah, .inl (cI, hc, .inl heads)), (at_, .inl (cI, 8, .inl tr)), (m0, .inr (3, [fl, .int (nI cnt), .ref as_, .ref af])), (as_, .inl (cI, 9000, .inl st)), (af, .inl (cI, 72000, .inl fs)), (ao, .inl (cL, 1, .inr (.inl lf)))] H locs) : W p l e room_1 s m #[Value.ref b] below meth c H locs cells slots Q (F0 m 280 ls []) := by
  have hM := hC.1
  have hx := hM.1
  have hb := hM.2.1
  have hL := hC.2.2.2.2.2
  obtain ⟨hX, hMI, hcnt, hc1, hc2⟩ := hI
  have hcap := hX.caps
  refine lv_aload_n hx hb d_Law_law_280 rfl (lv_at hl 1 rfl) ?_
  refine lv_aload_n hx hb d_Law_law_281 rfl (lv_at hl 0 rfl) ?_
  refine lv_iload hx hb d_Law_law_282 (lv_at hl 4 rfl) ?_
  refine lv_iconst (v := nI 1) hx hb d_Law_law_284 (by decide) ?_
  refine xn_iadd hx hb d_Law_law_285 ?_
  refine xn_sld hC hW (by omega) d_Law_law_286 ?_
  refine lv_aload_n hx hb d_Law_law_287 rfl (lv_at hl 0 rfl) ?_
  refine lv_iload hx hb d_Law_law_288 (lv_at hl 4 rfl) ?_
  refine lv_iconst (v := nI 2) hx hb d_Law_law_290 (by decide) ?_
  refine xn_iadd hx hb d_Law_law_291 ?_
  refine xn_sld hC hW (by omega) d_Law_law_292 ?_
  refine lv_aload_n hx hb d_Law_law_293 rfl (lv_at hl 3 rfl) ?_
  by_cases hok : (okP (xs (6 * j + 1)) ∧ okF (xs (6 * j + 2)))
  · obtain ⟨⟨pt, hpt, e1⟩, ⟨fd, hfd, e2⟩⟩ := id hok
    rw [e1, e2]
    refine x_callSW (rest := []) hM (c_lget l D cI cL x0 t0 h0 ai ab am ar an ah at_ nl hc n used bl ml most ao rows next heads tr ix bk mk lf g hX pt fd hpt hfd) (tb_of (i := 225) rfl rfl) (tb_of (i := 0) rfl rfl) (np := 4) ⟨⟨by decide, by decide⟩, by decide +kernel⟩ cv_Law_52 ⟨Nat.le_of_ble_eq_true rfl, Nat.le_of_ble_eq_true rfl⟩ ⟨by show cells + 0 ≤ 601024; omega, by show slots + 0 ≤ 7293034; omega⟩ hC.2.2.2.2.1 (hC.hold hW) hW [0, 1, 2, 3, 4, 5, 6, 7, 8, 9, 13] [10, 11, 12] (by decide) rfl (wr := [(m0, .inr (3, [fl, .int (nI cnt), .ref as_, .ref af])), (as_, .inl (cI, 9000, .inl st)), (af, .inl (cI, 72000, .inl fs))]) rfl (by decide) (by decide) rfl hl.1 rfl (Nat.le_of_ble_eq_true rfl) d_Law_law_294 (fun v k z w1 H locs hv hW => ?_)
    obtain ⟨rfl, rfl, rfl, rfl⟩ := hv
    have hW : xW D A s.heap [(x0, .inr (0, [.ref h0, .ref t0])), (t0, .inr (2, [.ref h0, .ref ai, .ref ab, .int (nI used), .ref am, .int (nI most)])), (ai, .inl (cI, 4352, .inl ix)), (ab, .inl (cI, bl, .inl bk)), (am, .inl (cI, ml, .inl mk)), (h0, .inr (1, [.ref ar, .ref an, .ref ah, .int (nI n), .ref at_])), (ar, .inl (cI, 8 * nl, .inl rows)), (an, .inl (cI, nl, .inl next)), (ah, .inl (cI, hc, .inl heads)), (at_, .inl (cI, 8, .inl tr)), (m0, .inr (3, [fl, .int (nI cnt), .ref as_, .ref af])), (as_, .inl (cI, 9000, .inl st)), (af, .inl (cI, 72000, .inl fs)), (ao, .inl (cL, 1, .inr (.inl (vp_updL lf 0 (g pt fd).toInt64))))] H locs := hW.sub [3, 4, 5, 6, 7, 8, 9, 10, 11, 12, 0, 1, 2, 13] (by decide) rfl
    refine W.eq (g2 := F0 m 297 ls [.int (nI 0)]) rfl ?_
    refine lv_istore (lv' := [(5, .int (nI 0)), (0, .ref b), (1, .ref x0), (2, .ref m0), (3, .ref ao), (4, .int (nI (6 * j)))]) hx hb d_Law_law_297 hl (by decide) rfl (fun ls hl => ?_)
    refine lv_aload_n hx hb d_Law_law_299 rfl (lv_at hl 3 rfl) ?_
    refine lv_aload_n hx hb d_Law_law_300 rfl (lv_at hl 1 rfl) ?_
    refine lv_iload hx hb d_Law_law_301 (lv_at hl 5 rfl) ?_
    refine lv_iconst (v := nI 1) hx hb d_Law_law_303 (by decide) ?_
    refine xn_iadd hx hb d_Law_law_304 ?_
    refine xn_sld hC hW (by omega) d_Law_law_305 ?_
    refine lv_aload_n hx hb d_Law_law_306 rfl (lv_at hl 1 rfl) ?_
    refine lv_iload hx hb d_Law_law_307 (lv_at hl 5 rfl) ?_
    refine lv_iconst (v := nI 2) hx hb d_Law_law_309 (by decide) ?_
    refine xn_iadd hx hb d_Law_law_310 ?_
    refine xn_sld hC hW (by omega) d_Law_law_311 ?_
    refine x_callVT (rest := []) hM (c_mget l D cI cL m0 as_ af cnt fl st fs sN g hMI (by omega) (xs (6 * j + 1)) (xs (6 * j + 2))) cb_Mod_get cv_Law_55 ⟨Nat.le_of_ble_eq_true rfl, Nat.le_of_ble_eq_true rfl⟩ ⟨by show cells + 0 + 0 ≤ 601024; omega, by show slots + 0 + 0 ≤ 7293034; omega⟩ hW [10, 11, 12] [0, 1, 2, 3, 4, 5, 6, 7, 8, 9, 13] (by decide) rfl (wr := [(x0, .inr (0, [.ref h0, .ref t0])), (t0, .inr (2, [.ref h0, .ref ai, .ref ab, .int (nI used), .ref am, .int (nI most)])), (ai, .inl (cI, 4352, .inl ix)), (ab, .inl (cI, bl, .inl bk)), (am, .inl (cI, ml, .inl mk)), (h0, .inr (1, [.ref ar, .ref an, .ref ah, .int (nI n), .ref at_])), (ar, .inl (cI, 8 * nl, .inl rows)), (an, .inl (cI, nl, .inl next)), (ah, .inl (cI, hc, .inl heads)), (at_, .inl (cI, 8, .inl tr)), (ao, .inl (cL, 1, .inr (.inl (vp_updL lf 0 (g pt fd).toInt64))))]) rfl (by decide) (by decide) 10 rfl rfl rfl hl.1 rfl (Nat.le_of_ble_eq_true rfl) d_Law_law_312 (fun v k2 z2 w1 H locs hv hW => ?_)
    obtain ⟨rfl, rfl, hcase⟩ := hv
    rcases hcase with ⟨pt2, fd2, f1, f2, f3, f4, rfl, rfl⟩ | ⟨hno, -, -⟩
    · have g1 := nI_inj (e1.symm.trans f1) (by omega) (by omega)
      have g2 := nI_inj (e2.symm.trans f2) (by omega) (by omega)
      subst g1; subst g2
      have hW : xW D A s.heap [(x0, .inr (0, [.ref h0, .ref t0])), (t0, .inr (2, [.ref h0, .ref ai, .ref ab, .int (nI used), .ref am, .int (nI most)])), (ai, .inl (cI, 4352, .inl ix)), (ab, .inl (cI, bl, .inl bk)), (am, .inl (cI, ml, .inl mk)), (h0, .inr (1, [.ref ar, .ref an, .ref ah, .int (nI n), .ref at_])), (ar, .inl (cI, 8 * nl, .inl rows)), (an, .inl (cI, nl, .inl next)), (ah, .inl (cI, hc, .inl heads)), (at_, .inl (cI, 8, .inl tr)), (m0, .inr (3, [.int (nI 0), .int (nI cnt), .ref as_, .ref af])), (as_, .inl (cI, 9000, .inl st)), (af, .inl (cI, 72000, .inl fs)), (ao, .inl (cL, 1, .inr (.inl (vp_updL lf 0 (g pt fd).toInt64))))] H locs := hW.sub [0, 1, 2, 3, 4, 5, 6, 7, 8, 9, 11, 12, 13, 10] (by decide) rfl
      refine W.eq (g2 := F0 m 315 ls [.int (g pt fd)]) rfl ?_
      refine lv_istore (lv' := [(6, .int (g pt fd)), (5, .int (nI 0)), (0, .ref b), (1, .ref x0), (2, .ref m0), (3, .ref ao), (4, .int (nI (6 * j)))]) hx hb d_Law_law_315 hl (by decide) rfl (fun ls hl => ?_)
      refine lv_aload_n hx hb d_Law_law_317 rfl (lv_at hl 4 rfl) ?_
      refine x_callVP (rest := []) hM (c_thrown l D cI cL m0 (nI 0) (.int (nI cnt)) (.ref as_) (.ref af)) cb_Mod_thrown cv_Law_44 ⟨Nat.le_of_ble_eq_true rfl, Nat.le_of_ble_eq_true rfl⟩ ⟨by show cells + 0 + 0 + 0 ≤ 601024; omega, by show slots + 0 + 0 + 0 ≤ 7293034; omega⟩ hW.1 [10] rfl 10 rfl rfl rfl hl.1 rfl (Nat.le_of_ble_eq_true rfl) d_Law_law_318 (fun v hv => ?_)
      subst hv
      refine W.eq (g2 := F0 m 321 ls [.int (nI 0)]) rfl ?_
      refine lv_iload hx hb d_Law_law_321 (lv_at hl 1 rfl) ?_
      refine xn_eq (tgt := 328) hx hb (by omega) (by omega) d_Law_law_323 (by decide) (fun heq_ => ?_) (fun hne_ => ?_)
      · refine lv_iload hx hb d_Law_law_328 (lv_at hl 1 rfl) ?_
        refine xn_ifne (tgt := 345) hx hb (by omega) d_Law_law_330 (by decide) (fun hz_ => ?_) (fun hz_ => ?_)
        · exact absurd rfl hz_
        · refine lv_aload_n hx hb d_Law_law_333 rfl (lv_at hl 5 rfl) ?_
          refine lv_iconst (v := nI 0) hx hb d_Law_law_334 (by decide) ?_
          refine xn_lald hM hW.1 13 rfl (by decide) (by decide) d_Law_law_335 ?_
          refine lv_iload hx hb d_Law_law_336 (lv_at hl 0 rfl) ?_
          refine lv_i2l (v := (g pt fd).toInt64) hx hb d_Law_law_338 rfl ?_
          refine W.lcmp hx hb d_Law_law_339 ?_
          refine xn_top (lg_same pk_uLs) ?_
          refine xn_ifeq (tgt := 345) hx hb (by omega) d_Law_law_340 (by decide) (fun hq_ => ?_) (fun hq_ => ?_)
          · refine lv_goto (tgt := 584) hx hb d_Law_law_345 (by decide) ?_
            have hl : lv_has ls 7 [(0, .ref b), (1, .ref x0), (2, .ref m0), (3, .ref ao), (4, .int (nI (6 * j)))] := lv_sub hl [2, 3, 4, 5, 6] rfl
            exact hN ab am ar an ah nl hc n used bl ml most cnt _ _ rows next heads tr ix bk mk st fs _ (.int (nI 0)) sN g ls H locs ⟨hX, hMI, by omega, by omega, by omega⟩ hl hW
          · exact absurd rfl hq_
      · exact absurd rfl hne_
    · exact absurd hok hno
  · refine x_callSW (rest := []) hM (c_lget_bad l hfl D cI cL x0 t0 h0 ai ab am ar an ah at_ nl hc n used bl ml most ao rows next heads tr ix bk mk lf (xs (6 * j + 1)) (xs (6 * j + 2)) hok) (tb_of (i := 225) rfl rfl) (tb_of (i := 0) rfl rfl) (np := 4) ⟨⟨by decide, by decide⟩, by decide +kernel⟩ cv_Law_52 ⟨Nat.le_of_ble_eq_true rfl, Nat.le_of_ble_eq_true rfl⟩ ⟨by show cells + 1 ≤ 601024; omega, by show slots + 6 ≤ 7293034; omega⟩ hC.2.2.2.2.1 (hC.hold hW) hW [0, 1, 2, 3, 4, 5, 6, 7, 8, 9, 13] [10, 11, 12] (by decide) rfl (wr := [(m0, .inr (3, [fl, .int (nI cnt), .ref as_, .ref af])), (as_, .inl (cI, 9000, .inl st)), (af, .inl (cI, 72000, .inl fs))]) rfl (by decide) (by decide) rfl hl.1 rfl (Nat.le_of_ble_eq_true rfl) d_Law_law_294 (fun v k z w1 H locs hv hW => ?_)
    obtain ⟨rfl, hk1, hk2, rfl⟩ := hv
    have hW : xW D A s.heap [(x0, .inr (0, [.ref h0, .ref t0])), (t0, .inr (2, [.ref h0, .ref ai, .ref ab, .int (nI used), .ref am, .int (nI most)])), (ai, .inl (cI, 4352, .inl ix)), (ab, .inl (cI, bl, .inl bk)), (am, .inl (cI, ml, .inl mk)), (h0, .inr (1, [.ref ar, .ref an, .ref ah, .int (nI n), .ref at_])), (ar, .inl (cI, 8 * nl, .inl rows)), (an, .inl (cI, nl, .inl next)), (ah, .inl (cI, hc, .inl heads)), (at_, .inl (cI, 8, .inl tr)), (m0, .inr (3, [fl, .int (nI cnt), .ref as_, .ref af])), (as_, .inl (cI, 9000, .inl st)), (af, .inl (cI, 72000, .inl fs)), (ao, .inl (cL, 1, .inr (.inl lf)))] H locs := hW.sub [3, 4, 5, 6, 7, 8, 9, 10, 11, 12, 0, 1, 2, 13] (by decide) rfl
    refine W.eq (g2 := F0 m 297 ls [.int (nI 1)]) rfl ?_
    refine lv_istore (lv' := [(5, .int (nI 1)), (0, .ref b), (1, .ref x0), (2, .ref m0), (3, .ref ao), (4, .int (nI (6 * j)))]) hx hb d_Law_law_297 hl (by decide) rfl (fun ls hl => ?_)
    refine lv_aload_n hx hb d_Law_law_299 rfl (lv_at hl 3 rfl) ?_
    refine lv_aload_n hx hb d_Law_law_300 rfl (lv_at hl 1 rfl) ?_
    refine lv_iload hx hb d_Law_law_301 (lv_at hl 5 rfl) ?_
    refine lv_iconst (v := nI 1) hx hb d_Law_law_303 (by decide) ?_
    refine xn_iadd hx hb d_Law_law_304 ?_
    refine xn_sld hC hW (by omega) d_Law_law_305 ?_
    refine lv_aload_n hx hb d_Law_law_306 rfl (lv_at hl 1 rfl) ?_
    refine lv_iload hx hb d_Law_law_307 (lv_at hl 5 rfl) ?_
    refine lv_iconst (v := nI 2) hx hb d_Law_law_309 (by decide) ?_
    refine xn_iadd hx hb d_Law_law_310 ?_
    refine xn_sld hC hW (by omega) d_Law_law_311 ?_
    refine x_callVT (rest := []) hM (c_mget l D cI cL m0 as_ af cnt fl st fs sN g hMI (by omega) (xs (6 * j + 1)) (xs (6 * j + 2))) cb_Mod_get cv_Law_55 ⟨Nat.le_of_ble_eq_true rfl, Nat.le_of_ble_eq_true rfl⟩ ⟨by show cells + k + 0 ≤ 601024; omega, by show slots + z + 0 ≤ 7293034; omega⟩ hW [10, 11, 12] [0, 1, 2, 3, 4, 5, 6, 7, 8, 9, 13] (by decide) rfl (wr := [(x0, .inr (0, [.ref h0, .ref t0])), (t0, .inr (2, [.ref h0, .ref ai, .ref ab, .int (nI used), .ref am, .int (nI most)])), (ai, .inl (cI, 4352, .inl ix)), (ab, .inl (cI, bl, .inl bk)), (am, .inl (cI, ml, .inl mk)), (h0, .inr (1, [.ref ar, .ref an, .ref ah, .int (nI n), .ref at_])), (ar, .inl (cI, 8 * nl, .inl rows)), (an, .inl (cI, nl, .inl next)), (ah, .inl (cI, hc, .inl heads)), (at_, .inl (cI, 8, .inl tr)), (ao, .inl (cL, 1, .inr (.inl lf)))]) rfl (by decide) (by decide) 10 rfl rfl rfl hl.1 rfl (Nat.le_of_ble_eq_true rfl) d_Law_law_312 (fun v k2 z2 w1 H locs hv hW => ?_)
    obtain ⟨rfl, rfl, hcase⟩ := hv
    rcases hcase with ⟨pt2, fd2, f1, f2, f3, f4, -⟩ | ⟨-, rfl, rfl⟩
    · exact absurd ⟨⟨pt2, f3, f1⟩, ⟨fd2, f4, f2⟩⟩ hok
    · have hW : xW D A s.heap [(x0, .inr (0, [.ref h0, .ref t0])), (t0, .inr (2, [.ref h0, .ref ai, .ref ab, .int (nI used), .ref am, .int (nI most)])), (ai, .inl (cI, 4352, .inl ix)), (ab, .inl (cI, bl, .inl bk)), (am, .inl (cI, ml, .inl mk)), (h0, .inr (1, [.ref ar, .ref an, .ref ah, .int (nI n), .ref at_])), (ar, .inl (cI, 8 * nl, .inl rows)), (an, .inl (cI, nl, .inl next)), (ah, .inl (cI, hc, .inl heads)), (at_, .inl (cI, 8, .inl tr)), (m0, .inr (3, [.int (nI 1), .int (nI cnt), .ref as_, .ref af])), (as_, .inl (cI, 9000, .inl st)), (af, .inl (cI, 72000, .inl fs)), (ao, .inl (cL, 1, .inr (.inl lf)))] H locs := hW.sub [0, 1, 2, 3, 4, 5, 6, 7, 8, 9, 11, 12, 13, 10] (by decide) rfl
      refine W.eq (g2 := F0 m 315 ls [.int (nI 0)]) rfl ?_
      refine lv_istore (lv' := [(6, .int (nI 0)), (5, .int (nI 1)), (0, .ref b), (1, .ref x0), (2, .ref m0), (3, .ref ao), (4, .int (nI (6 * j)))]) hx hb d_Law_law_315 hl (by decide) rfl (fun ls hl => ?_)
      refine lv_aload_n hx hb d_Law_law_317 rfl (lv_at hl 4 rfl) ?_
      refine x_callVP (rest := []) hM (c_thrown l D cI cL m0 (nI 1) (.int (nI cnt)) (.ref as_) (.ref af)) cb_Mod_thrown cv_Law_44 ⟨Nat.le_of_ble_eq_true rfl, Nat.le_of_ble_eq_true rfl⟩ ⟨by show cells + k + 0 + 0 ≤ 601024; omega, by show slots + z + 0 + 0 ≤ 7293034; omega⟩ hW.1 [10] rfl 10 rfl rfl rfl hl.1 rfl (Nat.le_of_ble_eq_true rfl) d_Law_law_318 (fun v hv => ?_)
      subst hv
      refine W.eq (g2 := F0 m 321 ls [.int (nI 1)]) rfl ?_
      refine lv_iload hx hb d_Law_law_321 (lv_at hl 1 rfl) ?_
      refine xn_eq (tgt := 328) hx hb (by omega) (by omega) d_Law_law_323 (by decide) (fun heq_ => ?_) (fun hne_ => ?_)
      · refine lv_iload hx hb d_Law_law_328 (lv_at hl 1 rfl) ?_
        refine xn_ifne (tgt := 345) hx hb (by omega) d_Law_law_330 (by decide) (fun hz_ => ?_) (fun hz_ => ?_)
        · refine lv_goto (tgt := 584) hx hb d_Law_law_345 (by decide) ?_
          have hl : lv_has ls 7 [(0, .ref b), (1, .ref x0), (2, .ref m0), (3, .ref ao), (4, .int (nI (6 * j)))] := lv_sub hl [2, 3, 4, 5, 6] rfl
          exact hN ab am ar an ah nl hc n used bl ml most cnt _ _ rows next heads tr ix bk mk st fs lf (.int (nI 1)) sN g ls H locs ⟨hX, hMI, by omega, by omega, by omega⟩ hl hW
        · exact absurd hz_ (by decide)
      · exact absurd rfl hne_
set_option maxHeartbeats 4000000 in
set_option maxRecDepth 100000 in
theorem law_change (hfl : l.flags = pinnedFlags ++ [noTraceFlag]) (hC : LC p s m meth c D cI cL A b L xs) (hN : NX p l e s m below meth c Q D cI cL A b x0 t0 h0 ai at_ ao m0 as_ af j) (hj : 6 * j + 6 ≤ L) (hI : LI g rows next heads ix bk st fs sN n nl hc used bl ml most cnt j cells slots) (hl : lv_has ls 7 [(0, .ref b), (1, .ref x0), (2, .ref m0), (3, .ref ao), (4, .int (nI (6 * j)))]) (hW : xW D A s.heap [(x0, .inr (0, [.ref h0, .ref t0])), (t0, .inr (2, [.ref h0, .ref ai, .ref ab, .int (nI used), .ref am, .int (nI most)])), (ai, .inl (cI, 4352, .inl ix)), (ab, .inl (cI, bl, .inl bk)), (am, .inl (cI, ml, .inl mk)), (h0, .inr (1, [.ref ar, .ref an, .ref ah, .int (nI n), .ref at_])), (ar, .inl (cI, 8 * nl, .inl rows)), (an, .inl (cI, nl, .inl next)), (ah, .inl (cI, hc, .inl heads)), (at_, .inl (cI, 8, .inl tr)), (m0, .inr (3, [fl, .int (nI cnt), .ref as_, .ref af])), (as_, .inl (cI, 9000, .inl st)), (af, .inl (cI, 72000, .inl fs)), (ao, .inl (cL, 1, .inr (.inl lf)))] H locs) : W p l e room_1 s m #[Value.ref b] below meth c H locs cells slots Q (F0 m 348 ls []) := by
  have hM := hC.1
  have hx := hM.1
  have hb := hM.2.1
  have hL := hC.2.2.2.2.2
  obtain ⟨hX, hMI, hcnt, hc1, hc2⟩ := hI
  have hcap := hX.caps
  refine lv_aload_n hx hb d_Law_law_348 rfl (lv_at hl 1 rfl) ?_
  refine lv_aload_n hx hb d_Law_law_349 rfl (lv_at hl 0 rfl) ?_
  refine lv_iload hx hb d_Law_law_350 (lv_at hl 4 rfl) ?_
  refine lv_iconst (v := nI 1) hx hb d_Law_law_352 (by decide) ?_
  refine xn_iadd hx hb d_Law_law_353 ?_
  refine xn_sld hC hW (by omega) d_Law_law_354 ?_
  refine lv_aload_n hx hb d_Law_law_355 rfl (lv_at hl 0 rfl) ?_
  refine lv_iload hx hb d_Law_law_356 (lv_at hl 4 rfl) ?_
  refine lv_iconst (v := nI 2) hx hb d_Law_law_358 (by decide) ?_
  refine xn_iadd hx hb d_Law_law_359 ?_
  refine xn_sld hC hW (by omega) d_Law_law_360 ?_
  refine lv_aload_n hx hb d_Law_law_361 rfl (lv_at hl 3 rfl) ?_
  by_cases hok : (okP (xs (6 * j + 1)) ∧ okF (xs (6 * j + 2)))
  · obtain ⟨⟨pt, hpt, e1⟩, ⟨fd, hfd, e2⟩⟩ := id hok
    rw [e1, e2]
    refine x_callSW (rest := []) hM (c_lchange l D cI cL x0 t0 h0 ai ab am ar an ah at_ nl hc n used bl ml most ao rows next heads tr ix bk mk lf g hX pt fd hpt hfd) (tb_of (i := 237) rfl rfl) (tb_of (i := 0) rfl rfl) (np := 4) ⟨⟨by decide, by decide⟩, by decide +kernel⟩ cv_Law_56 ⟨Nat.le_of_ble_eq_true rfl, Nat.le_of_ble_eq_true rfl⟩ ⟨by show cells + 0 ≤ 601024; omega, by show slots + 0 ≤ 7293034; omega⟩ hC.2.2.2.2.1 (hC.hold hW) hW [0, 1, 2, 3, 4, 5, 6, 7, 8, 9, 13] [10, 11, 12] (by decide) rfl (wr := [(m0, .inr (3, [fl, .int (nI cnt), .ref as_, .ref af])), (as_, .inl (cI, 9000, .inl st)), (af, .inl (cI, 72000, .inl fs))]) rfl (by decide) (by decide) rfl hl.1 rfl (Nat.le_of_ble_eq_true rfl) d_Law_law_362 (fun v k z w1 H locs hv hW => ?_)
    obtain ⟨y, rfl, rfl, rfl, hy, rfl⟩ := hv
    have hW : xW D A s.heap [(x0, .inr (0, [.ref h0, .ref t0])), (t0, .inr (2, [.ref h0, .ref ai, .ref ab, .int (nI used), .ref am, .int (nI most)])), (ai, .inl (cI, 4352, .inl ix)), (ab, .inl (cI, bl, .inl bk)), (am, .inl (cI, ml, .inl mk)), (h0, .inr (1, [.ref ar, .ref an, .ref ah, .int (nI n), .ref at_])), (ar, .inl (cI, 8 * nl, .inl rows)), (an, .inl (cI, nl, .inl next)), (ah, .inl (cI, hc, .inl heads)), (at_, .inl (cI, 8, .inl tr)), (m0, .inr (3, [fl, .int (nI cnt), .ref as_, .ref af])), (as_, .inl (cI, 9000, .inl st)), (af, .inl (cI, 72000, .inl fs)), (ao, .inl (cL, 1, .inr (.inl (vp_updL lf 0 (y).toInt64))))] H locs := hW.sub [3, 4, 5, 6, 7, 8, 9, 10, 11, 12, 0, 1, 2, 13] (by decide) rfl
    refine W.eq (g2 := F0 m 365 ls [.int (nI 0)]) rfl ?_
    refine lv_istore (lv' := [(5, .int (nI 0)), (0, .ref b), (1, .ref x0), (2, .ref m0), (3, .ref ao), (4, .int (nI (6 * j)))]) hx hb d_Law_law_365 hl (by decide) rfl (fun ls hl => ?_)
    refine lv_aload_n hx hb d_Law_law_367 rfl (lv_at hl 3 rfl) ?_
    refine lv_aload_n hx hb d_Law_law_368 rfl (lv_at hl 1 rfl) ?_
    refine lv_iload hx hb d_Law_law_369 (lv_at hl 5 rfl) ?_
    refine lv_iconst (v := nI 1) hx hb d_Law_law_371 (by decide) ?_
    refine xn_iadd hx hb d_Law_law_372 ?_
    refine xn_sld hC hW (by omega) d_Law_law_373 ?_
    refine lv_aload_n hx hb d_Law_law_374 rfl (lv_at hl 1 rfl) ?_
    refine lv_iload hx hb d_Law_law_375 (lv_at hl 5 rfl) ?_
    refine lv_iconst (v := nI 2) hx hb d_Law_law_377 (by decide) ?_
    refine xn_iadd hx hb d_Law_law_378 ?_
    refine xn_sld hC hW (by omega) d_Law_law_379 ?_
    refine x_callVT (rest := []) hM (c_mchange l D cI cL m0 as_ af cnt fl st fs sN g hMI (by omega) (xs (6 * j + 1)) (xs (6 * j + 2))) cb_Mod_change cv_Law_58 ⟨Nat.le_of_ble_eq_true rfl, Nat.le_of_ble_eq_true rfl⟩ ⟨by show cells + 0 + 0 ≤ 601024; omega, by show slots + 0 + 0 ≤ 7293034; omega⟩ hW [10, 11, 12] [0, 1, 2, 3, 4, 5, 6, 7, 8, 9, 13] (by decide) rfl (wr := [(x0, .inr (0, [.ref h0, .ref t0])), (t0, .inr (2, [.ref h0, .ref ai, .ref ab, .int (nI used), .ref am, .int (nI most)])), (ai, .inl (cI, 4352, .inl ix)), (ab, .inl (cI, bl, .inl bk)), (am, .inl (cI, ml, .inl mk)), (h0, .inr (1, [.ref ar, .ref an, .ref ah, .int (nI n), .ref at_])), (ar, .inl (cI, 8 * nl, .inl rows)), (an, .inl (cI, nl, .inl next)), (ah, .inl (cI, hc, .inl heads)), (at_, .inl (cI, 8, .inl tr)), (ao, .inl (cL, 1, .inr (.inl (vp_updL lf 0 (y).toInt64))))]) rfl (by decide) (by decide) 10 rfl rfl rfl hl.1 rfl (Nat.le_of_ble_eq_true rfl) d_Law_law_380 (fun v k2 z2 w1 H locs hv hW => ?_)
    obtain ⟨rfl, rfl, hcase⟩ := hv
    rcases hcase with ⟨pt2, fd2, y2, f1, f2, f3, f4, rfl, hy2, rfl⟩ | ⟨hno, -, -⟩
    · have g1 := nI_inj (e1.symm.trans f1) (by omega) (by omega)
      have g2 := nI_inj (e2.symm.trans f2) (by omega) (by omega)
      subst g1; subst g2
      have gy := hy.one hy2
      subst gy
      have hW : xW D A s.heap [(x0, .inr (0, [.ref h0, .ref t0])), (t0, .inr (2, [.ref h0, .ref ai, .ref ab, .int (nI used), .ref am, .int (nI most)])), (ai, .inl (cI, 4352, .inl ix)), (ab, .inl (cI, bl, .inl bk)), (am, .inl (cI, ml, .inl mk)), (h0, .inr (1, [.ref ar, .ref an, .ref ah, .int (nI n), .ref at_])), (ar, .inl (cI, 8 * nl, .inl rows)), (an, .inl (cI, nl, .inl next)), (ah, .inl (cI, hc, .inl heads)), (at_, .inl (cI, 8, .inl tr)), (m0, .inr (3, [.int (nI 0), .int (nI cnt), .ref as_, .ref af])), (as_, .inl (cI, 9000, .inl st)), (af, .inl (cI, 72000, .inl fs)), (ao, .inl (cL, 1, .inr (.inl (vp_updL lf 0 (y).toInt64))))] H locs := hW.sub [0, 1, 2, 3, 4, 5, 6, 7, 8, 9, 11, 12, 13, 10] (by decide) rfl
      refine W.eq (g2 := F0 m 383 ls [.int y]) rfl ?_
      refine lv_istore (lv' := [(6, .int y), (5, .int (nI 0)), (0, .ref b), (1, .ref x0), (2, .ref m0), (3, .ref ao), (4, .int (nI (6 * j)))]) hx hb d_Law_law_383 hl (by decide) rfl (fun ls hl => ?_)
      refine lv_aload_n hx hb d_Law_law_385 rfl (lv_at hl 4 rfl) ?_
      refine x_callVP (rest := []) hM (c_thrown l D cI cL m0 (nI 0) (.int (nI cnt)) (.ref as_) (.ref af)) cb_Mod_thrown cv_Law_44 ⟨Nat.le_of_ble_eq_true rfl, Nat.le_of_ble_eq_true rfl⟩ ⟨by show cells + 0 + 0 + 0 ≤ 601024; omega, by show slots + 0 + 0 + 0 ≤ 7293034; omega⟩ hW.1 [10] rfl 10 rfl rfl rfl hl.1 rfl (Nat.le_of_ble_eq_true rfl) d_Law_law_386 (fun v hv => ?_)
      subst hv
      refine W.eq (g2 := F0 m 389 ls [.int (nI 0)]) rfl ?_
      refine lv_iload hx hb d_Law_law_389 (lv_at hl 1 rfl) ?_
      refine xn_eq (tgt := 396) hx hb (by omega) (by omega) d_Law_law_391 (by decide) (fun heq_ => ?_) (fun hne_ => ?_)
      · refine lv_iload hx hb d_Law_law_396 (lv_at hl 1 rfl) ?_
        refine xn_ifne (tgt := 413) hx hb (by omega) d_Law_law_398 (by decide) (fun hz_ => ?_) (fun hz_ => ?_)
        · exact absurd rfl hz_
        · refine lv_aload_n hx hb d_Law_law_401 rfl (lv_at hl 5 rfl) ?_
          refine lv_iconst (v := nI 0) hx hb d_Law_law_402 (by decide) ?_
          refine xn_lald hM hW.1 13 rfl (by decide) (by decide) d_Law_law_403 ?_
          refine lv_iload hx hb d_Law_law_404 (lv_at hl 0 rfl) ?_
          refine lv_i2l (v := (y).toInt64) hx hb d_Law_law_406 rfl ?_
          refine W.lcmp hx hb d_Law_law_407 ?_
          refine xn_top (lg_same pk_uLs) ?_
          refine xn_ifeq (tgt := 413) hx hb (by omega) d_Law_law_408 (by decide) (fun hq_ => ?_) (fun hq_ => ?_)
          · refine lv_goto (tgt := 584) hx hb d_Law_law_413 (by decide) ?_
            have hl : lv_has ls 7 [(0, .ref b), (1, .ref x0), (2, .ref m0), (3, .ref ao), (4, .int (nI (6 * j)))] := lv_sub hl [2, 3, 4, 5, 6] rfl
            exact hN ab am ar an ah nl hc n used bl ml most cnt _ _ rows next heads tr ix bk mk st fs _ (.int (nI 0)) sN g ls H locs ⟨hX, hMI, by omega, by omega, by omega⟩ hl hW
          · exact absurd rfl hq_
      · exact absurd rfl hne_
    · exact absurd hok hno
  · refine x_callSW (rest := []) hM (c_lchange_bad l hfl D cI cL x0 t0 h0 ai ab am ar an ah at_ nl hc n used bl ml most ao rows next heads tr ix bk mk lf (xs (6 * j + 1)) (xs (6 * j + 2)) hok) (tb_of (i := 237) rfl rfl) (tb_of (i := 0) rfl rfl) (np := 4) ⟨⟨by decide, by decide⟩, by decide +kernel⟩ cv_Law_56 ⟨Nat.le_of_ble_eq_true rfl, Nat.le_of_ble_eq_true rfl⟩ ⟨by show cells + 1 ≤ 601024; omega, by show slots + 6 ≤ 7293034; omega⟩ hC.2.2.2.2.1 (hC.hold hW) hW [0, 1, 2, 3, 4, 5, 6, 7, 8, 9, 13] [10, 11, 12] (by decide) rfl (wr := [(m0, .inr (3, [fl, .int (nI cnt), .ref as_, .ref af])), (as_, .inl (cI, 9000, .inl st)), (af, .inl (cI, 72000, .inl fs))]) rfl (by decide) (by decide) rfl hl.1 rfl (Nat.le_of_ble_eq_true rfl) d_Law_law_362 (fun v k z w1 H locs hv hW => ?_)
    obtain ⟨rfl, hk1, hk2, rfl⟩ := hv
    have hW : xW D A s.heap [(x0, .inr (0, [.ref h0, .ref t0])), (t0, .inr (2, [.ref h0, .ref ai, .ref ab, .int (nI used), .ref am, .int (nI most)])), (ai, .inl (cI, 4352, .inl ix)), (ab, .inl (cI, bl, .inl bk)), (am, .inl (cI, ml, .inl mk)), (h0, .inr (1, [.ref ar, .ref an, .ref ah, .int (nI n), .ref at_])), (ar, .inl (cI, 8 * nl, .inl rows)), (an, .inl (cI, nl, .inl next)), (ah, .inl (cI, hc, .inl heads)), (at_, .inl (cI, 8, .inl tr)), (m0, .inr (3, [fl, .int (nI cnt), .ref as_, .ref af])), (as_, .inl (cI, 9000, .inl st)), (af, .inl (cI, 72000, .inl fs)), (ao, .inl (cL, 1, .inr (.inl lf)))] H locs := hW.sub [3, 4, 5, 6, 7, 8, 9, 10, 11, 12, 0, 1, 2, 13] (by decide) rfl
    refine W.eq (g2 := F0 m 365 ls [.int (nI 1)]) rfl ?_
    refine lv_istore (lv' := [(5, .int (nI 1)), (0, .ref b), (1, .ref x0), (2, .ref m0), (3, .ref ao), (4, .int (nI (6 * j)))]) hx hb d_Law_law_365 hl (by decide) rfl (fun ls hl => ?_)
    refine lv_aload_n hx hb d_Law_law_367 rfl (lv_at hl 3 rfl) ?_
    refine lv_aload_n hx hb d_Law_law_368 rfl (lv_at hl 1 rfl) ?_
    refine lv_iload hx hb d_Law_law_369 (lv_at hl 5 rfl) ?_
    refine lv_iconst (v := nI 1) hx hb d_Law_law_371 (by decide) ?_
    refine xn_iadd hx hb d_Law_law_372 ?_
    refine xn_sld hC hW (by omega) d_Law_law_373 ?_
    refine lv_aload_n hx hb d_Law_law_374 rfl (lv_at hl 1 rfl) ?_
    refine lv_iload hx hb d_Law_law_375 (lv_at hl 5 rfl) ?_
    refine lv_iconst (v := nI 2) hx hb d_Law_law_377 (by decide) ?_
    refine xn_iadd hx hb d_Law_law_378 ?_
    refine xn_sld hC hW (by omega) d_Law_law_379 ?_
    refine x_callVT (rest := []) hM (c_mchange l D cI cL m0 as_ af cnt fl st fs sN g hMI (by omega) (xs (6 * j + 1)) (xs (6 * j + 2))) cb_Mod_change cv_Law_58 ⟨Nat.le_of_ble_eq_true rfl, Nat.le_of_ble_eq_true rfl⟩ ⟨by show cells + k + 0 ≤ 601024; omega, by show slots + z + 0 ≤ 7293034; omega⟩ hW [10, 11, 12] [0, 1, 2, 3, 4, 5, 6, 7, 8, 9, 13] (by decide) rfl (wr := [(x0, .inr (0, [.ref h0, .ref t0])), (t0, .inr (2, [.ref h0, .ref ai, .ref ab, .int (nI used), .ref am, .int (nI most)])), (ai, .inl (cI, 4352, .inl ix)), (ab, .inl (cI, bl, .inl bk)), (am, .inl (cI, ml, .inl mk)), (h0, .inr (1, [.ref ar, .ref an, .ref ah, .int (nI n), .ref at_])), (ar, .inl (cI, 8 * nl, .inl rows)), (an, .inl (cI, nl, .inl next)), (ah, .inl (cI, hc, .inl heads)), (at_, .inl (cI, 8, .inl tr)), (ao, .inl (cL, 1, .inr (.inl lf)))]) rfl (by decide) (by decide) 10 rfl rfl rfl hl.1 rfl (Nat.le_of_ble_eq_true rfl) d_Law_law_380 (fun v k2 z2 w1 H locs hv hW => ?_)
    obtain ⟨rfl, rfl, hcase⟩ := hv
    rcases hcase with ⟨pt2, fd2, y2, f1, f2, f3, f4, -⟩ | ⟨-, rfl, rfl⟩
    · exact absurd ⟨⟨pt2, f3, f1⟩, ⟨fd2, f4, f2⟩⟩ hok
    · have hW : xW D A s.heap [(x0, .inr (0, [.ref h0, .ref t0])), (t0, .inr (2, [.ref h0, .ref ai, .ref ab, .int (nI used), .ref am, .int (nI most)])), (ai, .inl (cI, 4352, .inl ix)), (ab, .inl (cI, bl, .inl bk)), (am, .inl (cI, ml, .inl mk)), (h0, .inr (1, [.ref ar, .ref an, .ref ah, .int (nI n), .ref at_])), (ar, .inl (cI, 8 * nl, .inl rows)), (an, .inl (cI, nl, .inl next)), (ah, .inl (cI, hc, .inl heads)), (at_, .inl (cI, 8, .inl tr)), (m0, .inr (3, [.int (nI 1), .int (nI cnt), .ref as_, .ref af])), (as_, .inl (cI, 9000, .inl st)), (af, .inl (cI, 72000, .inl fs)), (ao, .inl (cL, 1, .inr (.inl lf)))] H locs := hW.sub [0, 1, 2, 3, 4, 5, 6, 7, 8, 9, 11, 12, 13, 10] (by decide) rfl
      refine W.eq (g2 := F0 m 383 ls [.int (nI 0)]) rfl ?_
      refine lv_istore (lv' := [(6, .int (nI 0)), (5, .int (nI 1)), (0, .ref b), (1, .ref x0), (2, .ref m0), (3, .ref ao), (4, .int (nI (6 * j)))]) hx hb d_Law_law_383 hl (by decide) rfl (fun ls hl => ?_)
      refine lv_aload_n hx hb d_Law_law_385 rfl (lv_at hl 4 rfl) ?_
      refine x_callVP (rest := []) hM (c_thrown l D cI cL m0 (nI 1) (.int (nI cnt)) (.ref as_) (.ref af)) cb_Mod_thrown cv_Law_44 ⟨Nat.le_of_ble_eq_true rfl, Nat.le_of_ble_eq_true rfl⟩ ⟨by show cells + k + 0 + 0 ≤ 601024; omega, by show slots + z + 0 + 0 ≤ 7293034; omega⟩ hW.1 [10] rfl 10 rfl rfl rfl hl.1 rfl (Nat.le_of_ble_eq_true rfl) d_Law_law_386 (fun v hv => ?_)
      subst hv
      refine W.eq (g2 := F0 m 389 ls [.int (nI 1)]) rfl ?_
      refine lv_iload hx hb d_Law_law_389 (lv_at hl 1 rfl) ?_
      refine xn_eq (tgt := 396) hx hb (by omega) (by omega) d_Law_law_391 (by decide) (fun heq_ => ?_) (fun hne_ => ?_)
      · refine lv_iload hx hb d_Law_law_396 (lv_at hl 1 rfl) ?_
        refine xn_ifne (tgt := 413) hx hb (by omega) d_Law_law_398 (by decide) (fun hz_ => ?_) (fun hz_ => ?_)
        · refine lv_goto (tgt := 584) hx hb d_Law_law_413 (by decide) ?_
          have hl : lv_has ls 7 [(0, .ref b), (1, .ref x0), (2, .ref m0), (3, .ref ao), (4, .int (nI (6 * j)))] := lv_sub hl [2, 3, 4, 5, 6] rfl
          exact hN ab am ar an ah nl hc n used bl ml most cnt _ _ rows next heads tr ix bk mk st fs lf (.int (nI 1)) sN g ls H locs ⟨hX, hMI, by omega, by omega, by omega⟩ hl hW
        · exact absurd hz_ (by decide)
      · exact absurd rfl hne_
set_option maxHeartbeats 4000000 in
set_option maxRecDepth 100000 in
theorem law_alike (hfl : l.flags = pinnedFlags ++ [noTraceFlag]) (hC : LC p s m meth c D cI cL A b L xs) (hN : NX p l e s m below meth c Q D cI cL A b x0 t0 h0 ai at_ ao m0 as_ af j) (hj : 6 * j + 6 ≤ L) (hI : LI g rows next heads ix bk st fs sN n nl hc used bl ml most cnt j cells slots) (hl : lv_has ls 7 [(0, .ref b), (1, .ref x0), (2, .ref m0), (3, .ref ao), (4, .int (nI (6 * j)))]) (hW : xW D A s.heap [(x0, .inr (0, [.ref h0, .ref t0])), (t0, .inr (2, [.ref h0, .ref ai, .ref ab, .int (nI used), .ref am, .int (nI most)])), (ai, .inl (cI, 4352, .inl ix)), (ab, .inl (cI, bl, .inl bk)), (am, .inl (cI, ml, .inl mk)), (h0, .inr (1, [.ref ar, .ref an, .ref ah, .int (nI n), .ref at_])), (ar, .inl (cI, 8 * nl, .inl rows)), (an, .inl (cI, nl, .inl next)), (ah, .inl (cI, hc, .inl heads)), (at_, .inl (cI, 8, .inl tr)), (m0, .inr (3, [fl, .int (nI cnt), .ref as_, .ref af])), (as_, .inl (cI, 9000, .inl st)), (af, .inl (cI, 72000, .inl fs)), (ao, .inl (cL, 1, .inr (.inl lf)))] H locs) : W p l e room_1 s m #[Value.ref b] below meth c H locs cells slots Q (F0 m 416 ls []) := by
  have hM := hC.1
  have hx := hM.1
  have hb := hM.2.1
  have hL := hC.2.2.2.2.2
  obtain ⟨hX, hMI, hcnt, hc1, hc2⟩ := hI
  have hcap := hX.caps
  refine lv_aload_n hx hb d_Law_law_416 rfl (lv_at hl 1 rfl) ?_
  refine lv_aload_n hx hb d_Law_law_417 rfl (lv_at hl 0 rfl) ?_
  refine lv_iload hx hb d_Law_law_418 (lv_at hl 4 rfl) ?_
  refine lv_iconst (v := nI 1) hx hb d_Law_law_420 (by decide) ?_
  refine xn_iadd hx hb d_Law_law_421 ?_
  refine xn_sld hC hW (by omega) d_Law_law_422 ?_
  refine lv_aload_n hx hb d_Law_law_423 rfl (lv_at hl 0 rfl) ?_
  refine lv_iload hx hb d_Law_law_424 (lv_at hl 4 rfl) ?_
  refine lv_iconst (v := nI 2) hx hb d_Law_law_426 (by decide) ?_
  refine xn_iadd hx hb d_Law_law_427 ?_
  refine xn_sld hC hW (by omega) d_Law_law_428 ?_
  refine lv_aload_n hx hb d_Law_law_429 rfl (lv_at hl 3 rfl) ?_
  by_cases hok : (okP (xs (6 * j + 1)) ∧ okP (xs (6 * j + 2)))
  · obtain ⟨⟨pa, hpa, e1⟩, ⟨pb, hpb, e2⟩⟩ := id hok
    rw [e1, e2]
    refine x_callSW (rest := []) hM (c_lalike l D cI cL x0 t0 h0 ai ab am ar an ah at_ nl hc n used bl ml most ao rows next heads tr ix bk mk lf g hX pa pb hpa hpb) (tb_of (i := 246) rfl rfl) (tb_of (i := 0) rfl rfl) (np := 4) ⟨⟨by decide, by decide⟩, by decide +kernel⟩ cv_Law_59 ⟨Nat.le_of_ble_eq_true rfl, Nat.le_of_ble_eq_true rfl⟩ ⟨by show cells + 0 ≤ 601024; omega, by show slots + 0 ≤ 7293034; omega⟩ hC.2.2.2.2.1 (hC.hold hW) hW [0, 1, 2, 3, 4, 5, 6, 7, 8, 9, 13] [10, 11, 12] (by decide) rfl (wr := [(m0, .inr (3, [fl, .int (nI cnt), .ref as_, .ref af])), (as_, .inl (cI, 9000, .inl st)), (af, .inl (cI, 72000, .inl fs))]) rfl (by decide) (by decide) rfl hl.1 rfl (Nat.le_of_ble_eq_true rfl) d_Law_law_430 (fun v k z w1 H locs hv hW => ?_)
    obtain ⟨y, rfl, rfl, rfl, hy, rfl⟩ := hv
    have hW : xW D A s.heap [(x0, .inr (0, [.ref h0, .ref t0])), (t0, .inr (2, [.ref h0, .ref ai, .ref ab, .int (nI used), .ref am, .int (nI most)])), (ai, .inl (cI, 4352, .inl ix)), (ab, .inl (cI, bl, .inl bk)), (am, .inl (cI, ml, .inl mk)), (h0, .inr (1, [.ref ar, .ref an, .ref ah, .int (nI n), .ref at_])), (ar, .inl (cI, 8 * nl, .inl rows)), (an, .inl (cI, nl, .inl next)), (ah, .inl (cI, hc, .inl heads)), (at_, .inl (cI, 8, .inl tr)), (m0, .inr (3, [fl, .int (nI cnt), .ref as_, .ref af])), (as_, .inl (cI, 9000, .inl st)), (af, .inl (cI, 72000, .inl fs)), (ao, .inl (cL, 1, .inr (.inl (vp_updL lf 0 (y).toInt64))))] H locs := hW.sub [3, 4, 5, 6, 7, 8, 9, 10, 11, 12, 0, 1, 2, 13] (by decide) rfl
    refine W.eq (g2 := F0 m 433 ls [.int (nI 0)]) rfl ?_
    refine lv_istore (lv' := [(5, .int (nI 0)), (0, .ref b), (1, .ref x0), (2, .ref m0), (3, .ref ao), (4, .int (nI (6 * j)))]) hx hb d_Law_law_433 hl (by decide) rfl (fun ls hl => ?_)
    refine lv_aload_n hx hb d_Law_law_435 rfl (lv_at hl 3 rfl) ?_
    refine lv_aload_n hx hb d_Law_law_436 rfl (lv_at hl 1 rfl) ?_
    refine lv_iload hx hb d_Law_law_437 (lv_at hl 5 rfl) ?_
    refine lv_iconst (v := nI 1) hx hb d_Law_law_439 (by decide) ?_
    refine xn_iadd hx hb d_Law_law_440 ?_
    refine xn_sld hC hW (by omega) d_Law_law_441 ?_
    refine lv_aload_n hx hb d_Law_law_442 rfl (lv_at hl 1 rfl) ?_
    refine lv_iload hx hb d_Law_law_443 (lv_at hl 5 rfl) ?_
    refine lv_iconst (v := nI 2) hx hb d_Law_law_445 (by decide) ?_
    refine xn_iadd hx hb d_Law_law_446 ?_
    refine xn_sld hC hW (by omega) d_Law_law_447 ?_
    refine x_callVT (rest := []) hM (c_malike l D cI cL m0 as_ af cnt fl st fs sN g hMI (by omega) (xs (6 * j + 1)) (xs (6 * j + 2))) cb_Mod_alike cv_Law_61 ⟨Nat.le_of_ble_eq_true rfl, Nat.le_of_ble_eq_true rfl⟩ ⟨by show cells + 0 + 0 ≤ 601024; omega, by show slots + 0 + 0 ≤ 7293034; omega⟩ hW [10, 11, 12] [0, 1, 2, 3, 4, 5, 6, 7, 8, 9, 13] (by decide) rfl (wr := [(x0, .inr (0, [.ref h0, .ref t0])), (t0, .inr (2, [.ref h0, .ref ai, .ref ab, .int (nI used), .ref am, .int (nI most)])), (ai, .inl (cI, 4352, .inl ix)), (ab, .inl (cI, bl, .inl bk)), (am, .inl (cI, ml, .inl mk)), (h0, .inr (1, [.ref ar, .ref an, .ref ah, .int (nI n), .ref at_])), (ar, .inl (cI, 8 * nl, .inl rows)), (an, .inl (cI, nl, .inl next)), (ah, .inl (cI, hc, .inl heads)), (at_, .inl (cI, 8, .inl tr)), (ao, .inl (cL, 1, .inr (.inl (vp_updL lf 0 (y).toInt64))))]) rfl (by decide) (by decide) 10 rfl rfl rfl hl.1 rfl (Nat.le_of_ble_eq_true rfl) d_Law_law_448 (fun v k2 z2 w1 H locs hv hW => ?_)
    obtain ⟨rfl, rfl, hcase⟩ := hv
    rcases hcase with ⟨pt2, fd2, y2, f1, f2, f3, f4, rfl, hy2, rfl⟩ | ⟨hno, -, -⟩
    · have g1 := nI_inj (e1.symm.trans f1) (by omega) (by omega)
      have g2 := nI_inj (e2.symm.trans f2) (by omega) (by omega)
      subst g1; subst g2
      have gy := hy.one hy2
      subst gy
      have hW : xW D A s.heap [(x0, .inr (0, [.ref h0, .ref t0])), (t0, .inr (2, [.ref h0, .ref ai, .ref ab, .int (nI used), .ref am, .int (nI most)])), (ai, .inl (cI, 4352, .inl ix)), (ab, .inl (cI, bl, .inl bk)), (am, .inl (cI, ml, .inl mk)), (h0, .inr (1, [.ref ar, .ref an, .ref ah, .int (nI n), .ref at_])), (ar, .inl (cI, 8 * nl, .inl rows)), (an, .inl (cI, nl, .inl next)), (ah, .inl (cI, hc, .inl heads)), (at_, .inl (cI, 8, .inl tr)), (m0, .inr (3, [.int (nI 0), .int (nI cnt), .ref as_, .ref af])), (as_, .inl (cI, 9000, .inl st)), (af, .inl (cI, 72000, .inl fs)), (ao, .inl (cL, 1, .inr (.inl (vp_updL lf 0 (y).toInt64))))] H locs := hW.sub [0, 1, 2, 3, 4, 5, 6, 7, 8, 9, 11, 12, 13, 10] (by decide) rfl
      refine W.eq (g2 := F0 m 451 ls [.int y]) rfl ?_
      refine lv_istore (lv' := [(6, .int y), (5, .int (nI 0)), (0, .ref b), (1, .ref x0), (2, .ref m0), (3, .ref ao), (4, .int (nI (6 * j)))]) hx hb d_Law_law_451 hl (by decide) rfl (fun ls hl => ?_)
      refine lv_aload_n hx hb d_Law_law_453 rfl (lv_at hl 4 rfl) ?_
      refine x_callVP (rest := []) hM (c_thrown l D cI cL m0 (nI 0) (.int (nI cnt)) (.ref as_) (.ref af)) cb_Mod_thrown cv_Law_44 ⟨Nat.le_of_ble_eq_true rfl, Nat.le_of_ble_eq_true rfl⟩ ⟨by show cells + 0 + 0 + 0 ≤ 601024; omega, by show slots + 0 + 0 + 0 ≤ 7293034; omega⟩ hW.1 [10] rfl 10 rfl rfl rfl hl.1 rfl (Nat.le_of_ble_eq_true rfl) d_Law_law_454 (fun v hv => ?_)
      subst hv
      refine W.eq (g2 := F0 m 457 ls [.int (nI 0)]) rfl ?_
      refine lv_iload hx hb d_Law_law_457 (lv_at hl 1 rfl) ?_
      refine xn_eq (tgt := 464) hx hb (by omega) (by omega) d_Law_law_459 (by decide) (fun heq_ => ?_) (fun hne_ => ?_)
      · refine lv_iload hx hb d_Law_law_464 (lv_at hl 1 rfl) ?_
        refine xn_ifne (tgt := 488) hx hb (by omega) d_Law_law_466 (by decide) (fun hz_ => ?_) (fun hz_ => ?_)
        · exact absurd rfl hz_
        · refine lv_aload_n hx hb d_Law_law_469 rfl (lv_at hl 5 rfl) ?_
          refine lv_iconst (v := nI 0) hx hb d_Law_law_470 (by decide) ?_
          refine xn_lald hM hW.1 13 rfl (by decide) (by decide) d_Law_law_471 ?_
          rcases hy with ⟨q1, -⟩ | ⟨q1, -⟩
          · rw [q1] at hl hW ⊢
            refine lv_iload hx hb d_Law_law_472 (lv_at hl 0 rfl) ?_
            refine xn_ifeq (tgt := 481) hx hb (by omega) d_Law_law_474 (by decide) (fun hv_ => ?_) (fun hv_ => ?_)
            · exact absurd hv_ (by decide)
            · refine lv_lconst (v := 1) hx hb d_Law_law_477 rfl ?_
              refine lv_goto (tgt := 482) hx hb d_Law_law_478 (by decide) ?_
              refine W.lcmp hx hb d_Law_law_482 ?_
              refine xn_top (lg_same (by rw [pk_uLs]; rfl)) ?_
              refine xn_ifeq (tgt := 488) hx hb (by omega) d_Law_law_483 (by decide) (fun hq_ => ?_) (fun hq_ => ?_)
              · refine lv_goto (tgt := 584) hx hb d_Law_law_488 (by decide) ?_
                have hl : lv_has ls 7 [(0, .ref b), (1, .ref x0), (2, .ref m0), (3, .ref ao), (4, .int (nI (6 * j)))] := lv_sub hl [2, 3, 4, 5, 6] rfl
                exact hN ab am ar an ah nl hc n used bl ml most cnt _ _ rows next heads tr ix bk mk st fs _ (.int (nI 0)) sN g ls H locs ⟨hX, hMI, by omega, by omega, by omega⟩ hl hW
              · exact absurd rfl hq_
          · rw [q1] at hl hW ⊢
            refine lv_iload hx hb d_Law_law_472 (lv_at hl 0 rfl) ?_
            refine xn_ifeq (tgt := 481) hx hb (by omega) d_Law_law_474 (by decide) (fun hv_ => ?_) (fun hv_ => ?_)
            · refine lv_lconst (v := 0) hx hb d_Law_law_481 rfl ?_
              refine W.lcmp hx hb d_Law_law_482 ?_
              refine xn_top (lg_same (by rw [pk_uLs]; rfl)) ?_
              refine xn_ifeq (tgt := 488) hx hb (by omega) d_Law_law_483 (by decide) (fun hq_ => ?_) (fun hq_ => ?_)
              · refine lv_goto (tgt := 584) hx hb d_Law_law_488 (by decide) ?_
                have hl : lv_has ls 7 [(0, .ref b), (1, .ref x0), (2, .ref m0), (3, .ref ao), (4, .int (nI (6 * j)))] := lv_sub hl [2, 3, 4, 5, 6] rfl
                exact hN ab am ar an ah nl hc n used bl ml most cnt _ _ rows next heads tr ix bk mk st fs _ (.int (nI 0)) sN g ls H locs ⟨hX, hMI, by omega, by omega, by omega⟩ hl hW
              · exact absurd rfl hq_
            · exact absurd rfl hv_
      · exact absurd rfl hne_
    · exact absurd hok hno
  · refine x_callSW (rest := []) hM (c_lalike_bad l hfl D cI cL x0 t0 h0 ai ab am ar an ah at_ nl hc n used bl ml most ao rows next heads tr ix bk mk lf (xs (6 * j + 1)) (xs (6 * j + 2)) hok) (tb_of (i := 246) rfl rfl) (tb_of (i := 0) rfl rfl) (np := 4) ⟨⟨by decide, by decide⟩, by decide +kernel⟩ cv_Law_59 ⟨Nat.le_of_ble_eq_true rfl, Nat.le_of_ble_eq_true rfl⟩ ⟨by show cells + 1 ≤ 601024; omega, by show slots + 6 ≤ 7293034; omega⟩ hC.2.2.2.2.1 (hC.hold hW) hW [0, 1, 2, 3, 4, 5, 6, 7, 8, 9, 13] [10, 11, 12] (by decide) rfl (wr := [(m0, .inr (3, [fl, .int (nI cnt), .ref as_, .ref af])), (as_, .inl (cI, 9000, .inl st)), (af, .inl (cI, 72000, .inl fs))]) rfl (by decide) (by decide) rfl hl.1 rfl (Nat.le_of_ble_eq_true rfl) d_Law_law_430 (fun v k z w1 H locs hv hW => ?_)
    obtain ⟨rfl, hk1, hk2, rfl⟩ := hv
    have hW : xW D A s.heap [(x0, .inr (0, [.ref h0, .ref t0])), (t0, .inr (2, [.ref h0, .ref ai, .ref ab, .int (nI used), .ref am, .int (nI most)])), (ai, .inl (cI, 4352, .inl ix)), (ab, .inl (cI, bl, .inl bk)), (am, .inl (cI, ml, .inl mk)), (h0, .inr (1, [.ref ar, .ref an, .ref ah, .int (nI n), .ref at_])), (ar, .inl (cI, 8 * nl, .inl rows)), (an, .inl (cI, nl, .inl next)), (ah, .inl (cI, hc, .inl heads)), (at_, .inl (cI, 8, .inl tr)), (m0, .inr (3, [fl, .int (nI cnt), .ref as_, .ref af])), (as_, .inl (cI, 9000, .inl st)), (af, .inl (cI, 72000, .inl fs)), (ao, .inl (cL, 1, .inr (.inl lf)))] H locs := hW.sub [3, 4, 5, 6, 7, 8, 9, 10, 11, 12, 0, 1, 2, 13] (by decide) rfl
    refine W.eq (g2 := F0 m 433 ls [.int (nI 1)]) rfl ?_
    refine lv_istore (lv' := [(5, .int (nI 1)), (0, .ref b), (1, .ref x0), (2, .ref m0), (3, .ref ao), (4, .int (nI (6 * j)))]) hx hb d_Law_law_433 hl (by decide) rfl (fun ls hl => ?_)
    refine lv_aload_n hx hb d_Law_law_435 rfl (lv_at hl 3 rfl) ?_
    refine lv_aload_n hx hb d_Law_law_436 rfl (lv_at hl 1 rfl) ?_
    refine lv_iload hx hb d_Law_law_437 (lv_at hl 5 rfl) ?_
    refine lv_iconst (v := nI 1) hx hb d_Law_law_439 (by decide) ?_
    refine xn_iadd hx hb d_Law_law_440 ?_
    refine xn_sld hC hW (by omega) d_Law_law_441 ?_
    refine lv_aload_n hx hb d_Law_law_442 rfl (lv_at hl 1 rfl) ?_
    refine lv_iload hx hb d_Law_law_443 (lv_at hl 5 rfl) ?_
    refine lv_iconst (v := nI 2) hx hb d_Law_law_445 (by decide) ?_
    refine xn_iadd hx hb d_Law_law_446 ?_
    refine xn_sld hC hW (by omega) d_Law_law_447 ?_
    refine x_callVT (rest := []) hM (c_malike l D cI cL m0 as_ af cnt fl st fs sN g hMI (by omega) (xs (6 * j + 1)) (xs (6 * j + 2))) cb_Mod_alike cv_Law_61 ⟨Nat.le_of_ble_eq_true rfl, Nat.le_of_ble_eq_true rfl⟩ ⟨by show cells + k + 0 ≤ 601024; omega, by show slots + z + 0 ≤ 7293034; omega⟩ hW [10, 11, 12] [0, 1, 2, 3, 4, 5, 6, 7, 8, 9, 13] (by decide) rfl (wr := [(x0, .inr (0, [.ref h0, .ref t0])), (t0, .inr (2, [.ref h0, .ref ai, .ref ab, .int (nI used), .ref am, .int (nI most)])), (ai, .inl (cI, 4352, .inl ix)), (ab, .inl (cI, bl, .inl bk)), (am, .inl (cI, ml, .inl mk)), (h0, .inr (1, [.ref ar, .ref an, .ref ah, .int (nI n), .ref at_])), (ar, .inl (cI, 8 * nl, .inl rows)), (an, .inl (cI, nl, .inl next)), (ah, .inl (cI, hc, .inl heads)), (at_, .inl (cI, 8, .inl tr)), (ao, .inl (cL, 1, .inr (.inl lf)))]) rfl (by decide) (by decide) 10 rfl rfl rfl hl.1 rfl (Nat.le_of_ble_eq_true rfl) d_Law_law_448 (fun v k2 z2 w1 H locs hv hW => ?_)
    obtain ⟨rfl, rfl, hcase⟩ := hv
    rcases hcase with ⟨pt2, fd2, y2, f1, f2, f3, f4, -⟩ | ⟨-, rfl, rfl⟩
    · exact absurd ⟨⟨pt2, f3, f1⟩, ⟨fd2, f4, f2⟩⟩ hok
    · have hW : xW D A s.heap [(x0, .inr (0, [.ref h0, .ref t0])), (t0, .inr (2, [.ref h0, .ref ai, .ref ab, .int (nI used), .ref am, .int (nI most)])), (ai, .inl (cI, 4352, .inl ix)), (ab, .inl (cI, bl, .inl bk)), (am, .inl (cI, ml, .inl mk)), (h0, .inr (1, [.ref ar, .ref an, .ref ah, .int (nI n), .ref at_])), (ar, .inl (cI, 8 * nl, .inl rows)), (an, .inl (cI, nl, .inl next)), (ah, .inl (cI, hc, .inl heads)), (at_, .inl (cI, 8, .inl tr)), (m0, .inr (3, [.int (nI 1), .int (nI cnt), .ref as_, .ref af])), (as_, .inl (cI, 9000, .inl st)), (af, .inl (cI, 72000, .inl fs)), (ao, .inl (cL, 1, .inr (.inl lf)))] H locs := hW.sub [0, 1, 2, 3, 4, 5, 6, 7, 8, 9, 11, 12, 13, 10] (by decide) rfl
      refine W.eq (g2 := F0 m 451 ls [.int (nI 0)]) rfl ?_
      refine lv_istore (lv' := [(6, .int (nI 0)), (5, .int (nI 1)), (0, .ref b), (1, .ref x0), (2, .ref m0), (3, .ref ao), (4, .int (nI (6 * j)))]) hx hb d_Law_law_451 hl (by decide) rfl (fun ls hl => ?_)
      refine lv_aload_n hx hb d_Law_law_453 rfl (lv_at hl 4 rfl) ?_
      refine x_callVP (rest := []) hM (c_thrown l D cI cL m0 (nI 1) (.int (nI cnt)) (.ref as_) (.ref af)) cb_Mod_thrown cv_Law_44 ⟨Nat.le_of_ble_eq_true rfl, Nat.le_of_ble_eq_true rfl⟩ ⟨by show cells + k + 0 + 0 ≤ 601024; omega, by show slots + z + 0 + 0 ≤ 7293034; omega⟩ hW.1 [10] rfl 10 rfl rfl rfl hl.1 rfl (Nat.le_of_ble_eq_true rfl) d_Law_law_454 (fun v hv => ?_)
      subst hv
      refine W.eq (g2 := F0 m 457 ls [.int (nI 1)]) rfl ?_
      refine lv_iload hx hb d_Law_law_457 (lv_at hl 1 rfl) ?_
      refine xn_eq (tgt := 464) hx hb (by omega) (by omega) d_Law_law_459 (by decide) (fun heq_ => ?_) (fun hne_ => ?_)
      · refine lv_iload hx hb d_Law_law_464 (lv_at hl 1 rfl) ?_
        refine xn_ifne (tgt := 488) hx hb (by omega) d_Law_law_466 (by decide) (fun hz_ => ?_) (fun hz_ => ?_)
        · refine lv_goto (tgt := 584) hx hb d_Law_law_488 (by decide) ?_
          have hl : lv_has ls 7 [(0, .ref b), (1, .ref x0), (2, .ref m0), (3, .ref ao), (4, .int (nI (6 * j)))] := lv_sub hl [2, 3, 4, 5, 6] rfl
          exact hN ab am ar an ah nl hc n used bl ml most cnt _ _ rows next heads tr ix bk mk st fs lf (.int (nI 1)) sN g ls H locs ⟨hX, hMI, by omega, by omega, by omega⟩ hl hW
        · exact absurd hz_ (by decide)
      · exact absurd rfl hne_
set_option maxHeartbeats 4000000 in
set_option maxRecDepth 100000 in
theorem law_hash (hfl : l.flags = pinnedFlags ++ [noTraceFlag]) (hC : LC p s m meth c D cI cL A b L xs) (hN : NX p l e s m below meth c Q D cI cL A b x0 t0 h0 ai at_ ao m0 as_ af j) (hj : 6 * j + 6 ≤ L) (hI : LI g rows next heads ix bk st fs sN n nl hc used bl ml most cnt j cells slots) (hl : lv_has ls 7 [(0, .ref b), (1, .ref x0), (2, .ref m0), (3, .ref ao), (4, .int (nI (6 * j)))]) (hW : xW D A s.heap [(x0, .inr (0, [.ref h0, .ref t0])), (t0, .inr (2, [.ref h0, .ref ai, .ref ab, .int (nI used), .ref am, .int (nI most)])), (ai, .inl (cI, 4352, .inl ix)), (ab, .inl (cI, bl, .inl bk)), (am, .inl (cI, ml, .inl mk)), (h0, .inr (1, [.ref ar, .ref an, .ref ah, .int (nI n), .ref at_])), (ar, .inl (cI, 8 * nl, .inl rows)), (an, .inl (cI, nl, .inl next)), (ah, .inl (cI, hc, .inl heads)), (at_, .inl (cI, 8, .inl tr)), (m0, .inr (3, [fl, .int (nI cnt), .ref as_, .ref af])), (as_, .inl (cI, 9000, .inl st)), (af, .inl (cI, 72000, .inl fs)), (ao, .inl (cL, 1, .inr (.inl lf)))] H locs) : W p l e room_1 s m #[Value.ref b] below meth c H locs cells slots Q (F0 m 491 ls []) := by
  have hM := hC.1
  have hx := hM.1
  have hb := hM.2.1
  have hL := hC.2.2.2.2.2
  obtain ⟨hX, hMI, hcnt, hc1, hc2⟩ := hI
  have hcap := hX.caps
  refine lv_aload_n hx hb d_Law_law_491 rfl (lv_at hl 1 rfl) ?_
  refine lv_aload_n hx hb d_Law_law_492 rfl (lv_at hl 0 rfl) ?_
  refine lv_iload hx hb d_Law_law_493 (lv_at hl 4 rfl) ?_
  refine lv_iconst (v := nI 1) hx hb d_Law_law_495 (by decide) ?_
  refine xn_iadd hx hb d_Law_law_496 ?_
  refine xn_sld hC hW (by omega) d_Law_law_497 ?_
  refine lv_aload_n hx hb d_Law_law_498 rfl (lv_at hl 0 rfl) ?_
  refine lv_iload hx hb d_Law_law_499 (lv_at hl 4 rfl) ?_
  refine lv_iconst (v := nI 2) hx hb d_Law_law_501 (by decide) ?_
  refine xn_iadd hx hb d_Law_law_502 ?_
  refine xn_sld hC hW (by omega) d_Law_law_503 ?_
  refine lv_aload_n hx hb d_Law_law_504 rfl (lv_at hl 0 rfl) ?_
  refine lv_iload hx hb d_Law_law_505 (lv_at hl 4 rfl) ?_
  refine lv_iconst (v := nI 3) hx hb d_Law_law_507 (by decide) ?_
  refine xn_iadd hx hb d_Law_law_508 ?_
  refine xn_sld hC hW (by omega) d_Law_law_509 ?_
  refine lv_aload_n hx hb d_Law_law_510 rfl (lv_at hl 3 rfl) ?_
  by_cases hok : (okM (xs (6 * j + 1)) (xs (6 * j + 2)) (xs (6 * j + 3)) ∧ (xs (6 * j + 2)) - (xs (6 * j + 1)) ≤ nI 3999)
  · obtain ⟨⟨pa, pb, fd, e1, e2, e3, h1, h2, h3⟩, h4⟩ := id hok
    rw [e1, e2, pk_sub h1] at h4
    replace h4 := (nI_leI (by omega) (by omega)).mp h4
    rw [e1, e2, e3]
    refine x_callSW (rest := []) hM (c_lhash l D cI cL x0 t0 h0 ai ab am ar an ah at_ nl hc n used bl ml most ao rows next heads tr ix bk mk lf g hX pa pb fd h1 h2 h4 h3) (tb_of (i := 253) rfl rfl) (tb_of (i := 0) rfl rfl) (np := 5) ⟨⟨by decide, by decide⟩, by decide +kernel⟩ cv_Law_62 ⟨Nat.le_of_ble_eq_true rfl, Nat.le_of_ble_eq_true rfl⟩ ⟨by show cells + 0 ≤ 601024; omega, by show slots + 0 ≤ 7293034; omega⟩ hC.2.2.2.2.1 (hC.hold hW) hW [0, 1, 2, 3, 4, 5, 6, 7, 8, 9, 13] [10, 11, 12] (by decide) rfl (wr := [(m0, .inr (3, [fl, .int (nI cnt), .ref as_, .ref af])), (as_, .inl (cI, 9000, .inl st)), (af, .inl (cI, 72000, .inl fs))]) rfl (by decide) (by decide) rfl hl.1 rfl (Nat.le_of_ble_eq_true rfl) d_Law_law_511 (fun v k z w1 H locs hv hW => ?_)
    obtain ⟨rfl, rfl, rfl, rfl⟩ := hv
    have hW : xW D A s.heap [(x0, .inr (0, [.ref h0, .ref t0])), (t0, .inr (2, [.ref h0, .ref ai, .ref ab, .int (nI used), .ref am, .int (nI most)])), (ai, .inl (cI, 4352, .inl ix)), (ab, .inl (cI, bl, .inl bk)), (am, .inl (cI, ml, .inl mk)), (h0, .inr (1, [.ref ar, .ref an, .ref ah, .int (nI n), .ref at_])), (ar, .inl (cI, 8 * nl, .inl rows)), (an, .inl (cI, nl, .inl next)), (ah, .inl (cI, hc, .inl heads)), (at_, .inl (cI, 8, .inl tr)), (m0, .inr (3, [fl, .int (nI cnt), .ref as_, .ref af])), (as_, .inl (cI, 9000, .inl st)), (af, .inl (cI, 72000, .inl fs)), (ao, .inl (cL, 1, .inr (.inl (vp_updL lf 0 (hF g pa fd (pb + 1 - pa)).toInt64))))] H locs := hW.sub [3, 4, 5, 6, 7, 8, 9, 10, 11, 12, 0, 1, 2, 13] (by decide) rfl
    refine W.eq (g2 := F0 m 514 ls [.int (nI 0)]) rfl ?_
    refine lv_istore (lv' := [(5, .int (nI 0)), (0, .ref b), (1, .ref x0), (2, .ref m0), (3, .ref ao), (4, .int (nI (6 * j)))]) hx hb d_Law_law_514 hl (by decide) rfl (fun ls hl => ?_)
    refine lv_aload_n hx hb d_Law_law_516 rfl (lv_at hl 3 rfl) ?_
    refine lv_aload_n hx hb d_Law_law_517 rfl (lv_at hl 1 rfl) ?_
    refine lv_iload hx hb d_Law_law_518 (lv_at hl 5 rfl) ?_
    refine lv_iconst (v := nI 1) hx hb d_Law_law_520 (by decide) ?_
    refine xn_iadd hx hb d_Law_law_521 ?_
    refine xn_sld hC hW (by omega) d_Law_law_522 ?_
    refine lv_aload_n hx hb d_Law_law_523 rfl (lv_at hl 1 rfl) ?_
    refine lv_iload hx hb d_Law_law_524 (lv_at hl 5 rfl) ?_
    refine lv_iconst (v := nI 2) hx hb d_Law_law_526 (by decide) ?_
    refine xn_iadd hx hb d_Law_law_527 ?_
    refine xn_sld hC hW (by omega) d_Law_law_528 ?_
    refine lv_aload_n hx hb d_Law_law_529 rfl (lv_at hl 1 rfl) ?_
    refine lv_iload hx hb d_Law_law_530 (lv_at hl 5 rfl) ?_
    refine lv_iconst (v := nI 3) hx hb d_Law_law_532 (by decide) ?_
    refine xn_iadd hx hb d_Law_law_533 ?_
    refine xn_sld hC hW (by omega) d_Law_law_534 ?_
    refine x_callVT (rest := []) hM (c_mhash l D cI cL m0 as_ af cnt fl st fs sN g hMI (by omega) (xs (6 * j + 1)) (xs (6 * j + 2)) (xs (6 * j + 3))) cb_Mod_hash cv_Law_65 ⟨Nat.le_of_ble_eq_true rfl, Nat.le_of_ble_eq_true rfl⟩ ⟨by show cells + 0 + 0 ≤ 601024; omega, by show slots + 0 + 0 ≤ 7293034; omega⟩ hW [10, 11, 12] [0, 1, 2, 3, 4, 5, 6, 7, 8, 9, 13] (by decide) rfl (wr := [(x0, .inr (0, [.ref h0, .ref t0])), (t0, .inr (2, [.ref h0, .ref ai, .ref ab, .int (nI used), .ref am, .int (nI most)])), (ai, .inl (cI, 4352, .inl ix)), (ab, .inl (cI, bl, .inl bk)), (am, .inl (cI, ml, .inl mk)), (h0, .inr (1, [.ref ar, .ref an, .ref ah, .int (nI n), .ref at_])), (ar, .inl (cI, 8 * nl, .inl rows)), (an, .inl (cI, nl, .inl next)), (ah, .inl (cI, hc, .inl heads)), (at_, .inl (cI, 8, .inl tr)), (ao, .inl (cL, 1, .inr (.inl (vp_updL lf 0 (hF g pa fd (pb + 1 - pa)).toInt64))))]) rfl (by decide) (by decide) 10 rfl rfl rfl hl.1 rfl (Nat.le_of_ble_eq_true rfl) d_Law_law_535 (fun v k2 z2 w1 H locs hv hW => ?_)
    obtain ⟨rfl, rfl, hcase⟩ := hv
    rcases hcase with ⟨pa2, pb2, fd2, f1, f2, f3, f4, f5, f6, f7, rfl, rfl⟩ | ⟨hno, -, -⟩
    · have g1 := nI_inj (e1.symm.trans f1) (by omega) (by omega)
      have g2 := nI_inj (e2.symm.trans f2) (by omega) (by omega)
      have g3 := nI_inj (e3.symm.trans f3) (by omega) (by omega)
      subst g1; subst g2; subst g3
      have hW : xW D A s.heap [(x0, .inr (0, [.ref h0, .ref t0])), (t0, .inr (2, [.ref h0, .ref ai, .ref ab, .int (nI used), .ref am, .int (nI most)])), (ai, .inl (cI, 4352, .inl ix)), (ab, .inl (cI, bl, .inl bk)), (am, .inl (cI, ml, .inl mk)), (h0, .inr (1, [.ref ar, .ref an, .ref ah, .int (nI n), .ref at_])), (ar, .inl (cI, 8 * nl, .inl rows)), (an, .inl (cI, nl, .inl next)), (ah, .inl (cI, hc, .inl heads)), (at_, .inl (cI, 8, .inl tr)), (m0, .inr (3, [.int (nI 0), .int (nI cnt), .ref as_, .ref af])), (as_, .inl (cI, 9000, .inl st)), (af, .inl (cI, 72000, .inl fs)), (ao, .inl (cL, 1, .inr (.inl (vp_updL lf 0 (hF g pa fd (pb + 1 - pa)).toInt64))))] H locs := hW.sub [0, 1, 2, 3, 4, 5, 6, 7, 8, 9, 11, 12, 13, 10] (by decide) rfl
      refine W.eq (g2 := F0 m 538 ls [.int (hF g pa fd (pb + 1 - pa))]) rfl ?_
      refine lv_istore (lv' := [(6, .int (hF g pa fd (pb + 1 - pa))), (5, .int (nI 0)), (0, .ref b), (1, .ref x0), (2, .ref m0), (3, .ref ao), (4, .int (nI (6 * j)))]) hx hb d_Law_law_538 hl (by decide) rfl (fun ls hl => ?_)
      refine lv_aload_n hx hb d_Law_law_540 rfl (lv_at hl 4 rfl) ?_
      refine x_callVP (rest := []) hM (c_thrown l D cI cL m0 (nI 0) (.int (nI cnt)) (.ref as_) (.ref af)) cb_Mod_thrown cv_Law_44 ⟨Nat.le_of_ble_eq_true rfl, Nat.le_of_ble_eq_true rfl⟩ ⟨by show cells + 0 + 0 + 0 ≤ 601024; omega, by show slots + 0 + 0 + 0 ≤ 7293034; omega⟩ hW.1 [10] rfl 10 rfl rfl rfl hl.1 rfl (Nat.le_of_ble_eq_true rfl) d_Law_law_541 (fun v hv => ?_)
      subst hv
      refine W.eq (g2 := F0 m 544 ls [.int (nI 0)]) rfl ?_
      refine lv_iload hx hb d_Law_law_544 (lv_at hl 1 rfl) ?_
      refine xn_eq (tgt := 551) hx hb (by omega) (by omega) d_Law_law_546 (by decide) (fun heq_ => ?_) (fun hne_ => ?_)
      · refine lv_iload hx hb d_Law_law_551 (lv_at hl 1 rfl) ?_
        refine xn_ifne (tgt := 568) hx hb (by omega) d_Law_law_553 (by decide) (fun hz_ => ?_) (fun hz_ => ?_)
        · exact absurd rfl hz_
        · refine lv_aload_n hx hb d_Law_law_556 rfl (lv_at hl 5 rfl) ?_
          refine lv_iconst (v := nI 0) hx hb d_Law_law_557 (by decide) ?_
          refine xn_lald hM hW.1 13 rfl (by decide) (by decide) d_Law_law_558 ?_
          refine lv_iload hx hb d_Law_law_559 (lv_at hl 0 rfl) ?_
          refine lv_i2l (v := (hF g pa fd (pb + 1 - pa)).toInt64) hx hb d_Law_law_561 rfl ?_
          refine W.lcmp hx hb d_Law_law_562 ?_
          refine xn_top (lg_same pk_uLs) ?_
          refine xn_ifeq (tgt := 568) hx hb (by omega) d_Law_law_563 (by decide) (fun hq_ => ?_) (fun hq_ => ?_)
          · refine lv_goto (tgt := 584) hx hb d_Law_law_568 (by decide) ?_
            have hl : lv_has ls 7 [(0, .ref b), (1, .ref x0), (2, .ref m0), (3, .ref ao), (4, .int (nI (6 * j)))] := lv_sub hl [2, 3, 4, 5, 6] rfl
            exact hN ab am ar an ah nl hc n used bl ml most cnt _ _ rows next heads tr ix bk mk st fs _ (.int (nI 0)) sN g ls H locs ⟨hX, hMI, by omega, by omega, by omega⟩ hl hW
          · exact absurd rfl hq_
      · exact absurd rfl hne_
    · exact absurd hok hno
  · refine x_callSW (rest := []) hM (c_lhash_bad l hfl D cI cL x0 t0 h0 ai ab am ar an ah at_ nl hc n used bl ml most ao rows next heads tr ix bk mk lf (xs (6 * j + 1)) (xs (6 * j + 2)) (xs (6 * j + 3)) hok) (tb_of (i := 253) rfl rfl) (tb_of (i := 0) rfl rfl) (np := 5) ⟨⟨by decide, by decide⟩, by decide +kernel⟩ cv_Law_62 ⟨Nat.le_of_ble_eq_true rfl, Nat.le_of_ble_eq_true rfl⟩ ⟨by show cells + 1 ≤ 601024; omega, by show slots + 6 ≤ 7293034; omega⟩ hC.2.2.2.2.1 (hC.hold hW) hW [0, 1, 2, 3, 4, 5, 6, 7, 8, 9, 13] [10, 11, 12] (by decide) rfl (wr := [(m0, .inr (3, [fl, .int (nI cnt), .ref as_, .ref af])), (as_, .inl (cI, 9000, .inl st)), (af, .inl (cI, 72000, .inl fs))]) rfl (by decide) (by decide) rfl hl.1 rfl (Nat.le_of_ble_eq_true rfl) d_Law_law_511 (fun v k z w1 H locs hv hW => ?_)
    obtain ⟨rfl, hk1, hk2, rfl⟩ := hv
    have hW : xW D A s.heap [(x0, .inr (0, [.ref h0, .ref t0])), (t0, .inr (2, [.ref h0, .ref ai, .ref ab, .int (nI used), .ref am, .int (nI most)])), (ai, .inl (cI, 4352, .inl ix)), (ab, .inl (cI, bl, .inl bk)), (am, .inl (cI, ml, .inl mk)), (h0, .inr (1, [.ref ar, .ref an, .ref ah, .int (nI n), .ref at_])), (ar, .inl (cI, 8 * nl, .inl rows)), (an, .inl (cI, nl, .inl next)), (ah, .inl (cI, hc, .inl heads)), (at_, .inl (cI, 8, .inl tr)), (m0, .inr (3, [fl, .int (nI cnt), .ref as_, .ref af])), (as_, .inl (cI, 9000, .inl st)), (af, .inl (cI, 72000, .inl fs)), (ao, .inl (cL, 1, .inr (.inl lf)))] H locs := hW.sub [3, 4, 5, 6, 7, 8, 9, 10, 11, 12, 0, 1, 2, 13] (by decide) rfl
    refine W.eq (g2 := F0 m 514 ls [.int (nI 1)]) rfl ?_
    refine lv_istore (lv' := [(5, .int (nI 1)), (0, .ref b), (1, .ref x0), (2, .ref m0), (3, .ref ao), (4, .int (nI (6 * j)))]) hx hb d_Law_law_514 hl (by decide) rfl (fun ls hl => ?_)
    refine lv_aload_n hx hb d_Law_law_516 rfl (lv_at hl 3 rfl) ?_
    refine lv_aload_n hx hb d_Law_law_517 rfl (lv_at hl 1 rfl) ?_
    refine lv_iload hx hb d_Law_law_518 (lv_at hl 5 rfl) ?_
    refine lv_iconst (v := nI 1) hx hb d_Law_law_520 (by decide) ?_
    refine xn_iadd hx hb d_Law_law_521 ?_
    refine xn_sld hC hW (by omega) d_Law_law_522 ?_
    refine lv_aload_n hx hb d_Law_law_523 rfl (lv_at hl 1 rfl) ?_
    refine lv_iload hx hb d_Law_law_524 (lv_at hl 5 rfl) ?_
    refine lv_iconst (v := nI 2) hx hb d_Law_law_526 (by decide) ?_
    refine xn_iadd hx hb d_Law_law_527 ?_
    refine xn_sld hC hW (by omega) d_Law_law_528 ?_
    refine lv_aload_n hx hb d_Law_law_529 rfl (lv_at hl 1 rfl) ?_
    refine lv_iload hx hb d_Law_law_530 (lv_at hl 5 rfl) ?_
    refine lv_iconst (v := nI 3) hx hb d_Law_law_532 (by decide) ?_
    refine xn_iadd hx hb d_Law_law_533 ?_
    refine xn_sld hC hW (by omega) d_Law_law_534 ?_
    refine x_callVT (rest := []) hM (c_mhash l D cI cL m0 as_ af cnt fl st fs sN g hMI (by omega) (xs (6 * j + 1)) (xs (6 * j + 2)) (xs (6 * j + 3))) cb_Mod_hash cv_Law_65 ⟨Nat.le_of_ble_eq_true rfl, Nat.le_of_ble_eq_true rfl⟩ ⟨by show cells + k + 0 ≤ 601024; omega, by show slots + z + 0 ≤ 7293034; omega⟩ hW [10, 11, 12] [0, 1, 2, 3, 4, 5, 6, 7, 8, 9, 13] (by decide) rfl (wr := [(x0, .inr (0, [.ref h0, .ref t0])), (t0, .inr (2, [.ref h0, .ref ai, .ref ab, .int (nI used), .ref am, .int (nI most)])), (ai, .inl (cI, 4352, .inl ix)), (ab, .inl (cI, bl, .inl bk)), (am, .inl (cI, ml, .inl mk)), (h0, .inr (1, [.ref ar, .ref an, .ref ah, .int (nI n), .ref at_])), (ar, .inl (cI, 8 * nl, .inl rows)), (an, .inl (cI, nl, .inl next)), (ah, .inl (cI, hc, .inl heads)), (at_, .inl (cI, 8, .inl tr)), (ao, .inl (cL, 1, .inr (.inl lf)))]) rfl (by decide) (by decide) 10 rfl rfl rfl hl.1 rfl (Nat.le_of_ble_eq_true rfl) d_Law_law_535 (fun v k2 z2 w1 H locs hv hW => ?_)
    obtain ⟨rfl, rfl, hcase⟩ := hv
    rcases hcase with ⟨pa2, pb2, fd2, f1, f2, f3, f4, f5, f6, f7, -⟩ | ⟨-, rfl, rfl⟩
    · exact absurd ⟨⟨pa2, pb2, fd2, f1, f2, f3, f4, f5, f6⟩, by rw [f1, f2, pk_sub f4]; exact nI_le f7 (by decide)⟩ hok
    · have hW : xW D A s.heap [(x0, .inr (0, [.ref h0, .ref t0])), (t0, .inr (2, [.ref h0, .ref ai, .ref ab, .int (nI used), .ref am, .int (nI most)])), (ai, .inl (cI, 4352, .inl ix)), (ab, .inl (cI, bl, .inl bk)), (am, .inl (cI, ml, .inl mk)), (h0, .inr (1, [.ref ar, .ref an, .ref ah, .int (nI n), .ref at_])), (ar, .inl (cI, 8 * nl, .inl rows)), (an, .inl (cI, nl, .inl next)), (ah, .inl (cI, hc, .inl heads)), (at_, .inl (cI, 8, .inl tr)), (m0, .inr (3, [.int (nI 1), .int (nI cnt), .ref as_, .ref af])), (as_, .inl (cI, 9000, .inl st)), (af, .inl (cI, 72000, .inl fs)), (ao, .inl (cL, 1, .inr (.inl lf)))] H locs := hW.sub [0, 1, 2, 3, 4, 5, 6, 7, 8, 9, 11, 12, 13, 10] (by decide) rfl
      refine W.eq (g2 := F0 m 538 ls [.int (nI 0)]) rfl ?_
      refine lv_istore (lv' := [(6, .int (nI 0)), (5, .int (nI 1)), (0, .ref b), (1, .ref x0), (2, .ref m0), (3, .ref ao), (4, .int (nI (6 * j)))]) hx hb d_Law_law_538 hl (by decide) rfl (fun ls hl => ?_)
      refine lv_aload_n hx hb d_Law_law_540 rfl (lv_at hl 4 rfl) ?_
      refine x_callVP (rest := []) hM (c_thrown l D cI cL m0 (nI 1) (.int (nI cnt)) (.ref as_) (.ref af)) cb_Mod_thrown cv_Law_44 ⟨Nat.le_of_ble_eq_true rfl, Nat.le_of_ble_eq_true rfl⟩ ⟨by show cells + k + 0 + 0 ≤ 601024; omega, by show slots + z + 0 + 0 ≤ 7293034; omega⟩ hW.1 [10] rfl 10 rfl rfl rfl hl.1 rfl (Nat.le_of_ble_eq_true rfl) d_Law_law_541 (fun v hv => ?_)
      subst hv
      refine W.eq (g2 := F0 m 544 ls [.int (nI 1)]) rfl ?_
      refine lv_iload hx hb d_Law_law_544 (lv_at hl 1 rfl) ?_
      refine xn_eq (tgt := 551) hx hb (by omega) (by omega) d_Law_law_546 (by decide) (fun heq_ => ?_) (fun hne_ => ?_)
      · refine lv_iload hx hb d_Law_law_551 (lv_at hl 1 rfl) ?_
        refine xn_ifne (tgt := 568) hx hb (by omega) d_Law_law_553 (by decide) (fun hz_ => ?_) (fun hz_ => ?_)
        · refine lv_goto (tgt := 584) hx hb d_Law_law_568 (by decide) ?_
          have hl : lv_has ls 7 [(0, .ref b), (1, .ref x0), (2, .ref m0), (3, .ref ao), (4, .int (nI (6 * j)))] := lv_sub hl [2, 3, 4, 5, 6] rfl
          exact hN ab am ar an ah nl hc n used bl ml most cnt _ _ rows next heads tr ix bk mk st fs lf (.int (nI 1)) sN g ls H locs ⟨hX, hMI, by omega, by omega, by omega⟩ hl hW
        · exact absurd hz_ (by decide)
      · exact absurd rfl hne_
set_option maxHeartbeats 4000000 in
set_option maxRecDepth 100000 in
theorem law_clear (hfl : l.flags = pinnedFlags ++ [noTraceFlag]) (hC : LC p s m meth c D cI cL A b L xs) (hN : NX p l e s m below meth c Q D cI cL A b x0 t0 h0 ai at_ ao m0 as_ af j) (hj : 6 * j + 6 ≤ L) (hI : LI g rows next heads ix bk st fs sN n nl hc used bl ml most cnt j cells slots) (hl : lv_has ls 7 [(0, .ref b), (1, .ref x0), (2, .ref m0), (3, .ref ao), (4, .int (nI (6 * j)))]) (hW : xW D A s.heap [(x0, .inr (0, [.ref h0, .ref t0])), (t0, .inr (2, [.ref h0, .ref ai, .ref ab, .int (nI used), .ref am, .int (nI most)])), (ai, .inl (cI, 4352, .inl ix)), (ab, .inl (cI, bl, .inl bk)), (am, .inl (cI, ml, .inl mk)), (h0, .inr (1, [.ref ar, .ref an, .ref ah, .int (nI n), .ref at_])), (ar, .inl (cI, 8 * nl, .inl rows)), (an, .inl (cI, nl, .inl next)), (ah, .inl (cI, hc, .inl heads)), (at_, .inl (cI, 8, .inl tr)), (m0, .inr (3, [fl, .int (nI cnt), .ref as_, .ref af])), (as_, .inl (cI, 9000, .inl st)), (af, .inl (cI, 72000, .inl fs)), (ao, .inl (cL, 1, .inr (.inl lf)))] H locs) : W p l e room_1 s m #[Value.ref b] below meth c H locs cells slots Q (F0 m 571 ls []) := by
  have hM := hC.1
  have hx := hM.1
  have hb := hM.2.1
  have hL := hC.2.2.2.2.2
  obtain ⟨hX, hMI, hcnt, hc1, hc2⟩ := hI
  have hcap := hX.caps
  refine lv_aload_n hx hb d_Law_law_571 rfl (lv_at hl 1 rfl) ?_
  refine x_callVT (rest := []) hM (c_pclear l D cI cL x0 t0 h0 ai ab am ar an ah at_ nl hc n used bl ml most rows next heads tr ix bk mk g hX) cb_PT_clear cv_Law_66 ⟨Nat.le_of_ble_eq_true rfl, Nat.le_of_ble_eq_true rfl⟩ ⟨by show cells + 30000 ≤ 601024; omega, by show slots + (4600000 - PS nl hc bl ml) ≤ 7293034; omega⟩ hW [0, 1, 2, 3, 4, 5, 6, 7, 8, 9] [10, 11, 12, 13] (by decide) rfl (wr := [(m0, .inr (3, [fl, .int (nI cnt), .ref as_, .ref af])), (as_, .inl (cI, 9000, .inl st)), (af, .inl (cI, 72000, .inl fs)), (ao, .inl (cL, 1, .inr (.inl lf)))]) rfl (by decide) (by decide) 0 rfl rfl rfl hl.1 rfl (Nat.le_of_ble_eq_true rfl) d_Law_law_572 (fun v k z w1 H locs hv hW => ?_)
  obtain ⟨cn, hcn, ab2, am2, ar2, an2, ah2, nl2, hc2n, n2, used2, bl2, ml2, most2, rows2, next2, heads2, tr2, ix2, bk2, mk2, rfl, hk1, hk2, hX2, rfl⟩ := hv
  have hW : xW D A s.heap [(x0, .inr (0, [.ref h0, .ref t0])), (t0, .inr (2, [.ref h0, .ref ai, .ref ab2, .int (nI used2), .ref am2, .int (nI most2)])), (ai, .inl (cI, 4352, .inl ix2)), (ab2, .inl (cI, bl2, .inl bk2)), (am2, .inl (cI, ml2, .inl mk2)), (h0, .inr (1, [.ref ar2, .ref an2, .ref ah2, .int (nI n2), .ref at_])), (ar2, .inl (cI, 8 * nl2, .inl rows2)), (an2, .inl (cI, nl2, .inl next2)), (ah2, .inl (cI, hc2n, .inl heads2)), (at_, .inl (cI, 8, .inl tr2)), (m0, .inr (3, [fl, .int (nI cnt), .ref as_, .ref af])), (as_, .inl (cI, 9000, .inl st)), (af, .inl (cI, 72000, .inl fs)), (ao, .inl (cL, 1, .inr (.inl lf)))] H locs := hW.sub [4, 5, 6, 7, 8, 9, 10, 11, 12, 13, 0, 1, 2, 3] (by decide) rfl
  have hcap2 := hX2.caps
  refine W.eq (g2 := F0 m 575 ls [.int (nI cn)]) rfl ?_
  refine lv_aload_n hx hb d_Law_law_575 rfl (lv_at hl 2 rfl) ?_
  refine x_callVT (rest := [.int (nI cn)]) hM (c_mclear l D cI cL m0 as_ af cnt fl st fs sN g hMI (by omega)) cb_Mod_clear cv_Law_69 ⟨Nat.le_of_ble_eq_true rfl, Nat.le_of_ble_eq_true rfl⟩ ⟨by show cells + k + 0 ≤ 601024; omega, by show slots + z + 0 ≤ 7293034; omega⟩ hW [10, 11, 12] [0, 1, 2, 3, 4, 5, 6, 7, 8, 9, 13] (by decide) rfl (wr := [(x0, .inr (0, [.ref h0, .ref t0])), (t0, .inr (2, [.ref h0, .ref ai, .ref ab2, .int (nI used2), .ref am2, .int (nI most2)])), (ai, .inl (cI, 4352, .inl ix2)), (ab2, .inl (cI, bl2, .inl bk2)), (am2, .inl (cI, ml2, .inl mk2)), (h0, .inr (1, [.ref ar2, .ref an2, .ref ah2, .int (nI n2), .ref at_])), (ar2, .inl (cI, 8 * nl2, .inl rows2)), (an2, .inl (cI, nl2, .inl next2)), (ah2, .inl (cI, hc2n, .inl heads2)), (at_, .inl (cI, 8, .inl tr2)), (ao, .inl (cL, 1, .inr (.inl lf)))]) rfl (by decide) (by decide) 10 rfl rfl rfl hl.1 rfl (Nat.le_of_ble_eq_true rfl) d_Law_law_576 (fun v k2 z2 w1 H locs hv hW => ?_)
  obtain ⟨rfl, rfl, cn2, fs2, hcn2, rfl, hMI2, rfl⟩ := hv
  have gc := hcn.one hcn2
  subst gc
  have hcl := hcn.le
  have hW : xW D A s.heap [(x0, .inr (0, [.ref h0, .ref t0])), (t0, .inr (2, [.ref h0, .ref ai, .ref ab2, .int (nI used2), .ref am2, .int (nI most2)])), (ai, .inl (cI, 4352, .inl ix2)), (ab2, .inl (cI, bl2, .inl bk2)), (am2, .inl (cI, ml2, .inl mk2)), (h0, .inr (1, [.ref ar2, .ref an2, .ref ah2, .int (nI n2), .ref at_])), (ar2, .inl (cI, 8 * nl2, .inl rows2)), (an2, .inl (cI, nl2, .inl next2)), (ah2, .inl (cI, hc2n, .inl heads2)), (at_, .inl (cI, 8, .inl tr2)), (m0, .inr (3, [.int (nI 0), .int (nI 1), .ref as_, .ref af])), (as_, .inl (cI, 9000, .inl st)), (af, .inl (cI, 72000, .inl fs2)), (ao, .inl (cL, 1, .inr (.inl lf)))] H locs := hW.sub [0, 1, 2, 3, 4, 5, 6, 7, 8, 9, 11, 12, 13, 10] (by decide) rfl
  refine W.eq (g2 := F0 m 579 ls [.int (nI cn), .int (nI cn)]) rfl ?_
  refine xn_eq (tgt := 584) hx hb (by omega) (by omega) d_Law_law_579 (by decide) (fun heq_ => ?_) (fun hne_ => ?_)
  · exact hN ab2 am2 ar2 an2 ah2 nl2 hc2n n2 used2 bl2 ml2 most2 1 _ _ rows2 next2 heads2 tr2 ix2 bk2 mk2 st fs2 lf (.int (nI 0)) sN _ ls H locs ⟨hX2, hMI2, by omega, by omega, by omega⟩ hl hW
  · exact absurd rfl hne_
end LAW
end
section
section LAW2
variable {p : Program} {l : Launch} {e : Env} {s : State} {m : MethodId} {below : List Frame} {meth : Method} {c : Code} {Q : State → Prop} {D : va_G} {cI cL : ClassId} {A : Nat → Prop} {b L j : Nat} {xs : Nat → Int32} {x0 t0 h0 ai at_ ao m0 as_ af : Nat}
variable {ab am ar an ah nl hc n used bl ml most cnt cells slots : Nat} {rows next heads tr ix bk mk st fs : Nat → Int32} {lf : Nat → Int64} {fl : Value} {sN : Nat → Nat} {g : Nat → Nat → Int32} {ls : Array Slot} {H : Heap} {locs : List Loc}
set_option maxHeartbeats 4000000 in
set_option maxRecDepth 100000 in
theorem law_loop (hfl : l.flags = pinnedFlags ++ [noTraceFlag]) (hC : LC p s m meth c D cI cL A b L xs) (END : ∀ (cells slots : Nat) (ls : Array Slot) (H : Heap) (locs : List Loc), (∀ q ∈ locs, s.heap.size ≤ q.base) → cells ≤ 601024 → slots ≤ 7293034 → W p l e room_1 s m #[Value.ref b] below meth c H locs cells slots Q (F0 m 591 ls [.int 1])) : ∀ (k j : Nat) (ab am ar an ah nl hc n used bl ml most cnt cells slots : Nat) (rows next heads tr ix bk mk st fs : Nat → Int32) (lf : Nat → Int64) (fl : Value) (sN : Nat → Nat) (g : Nat → Nat → Int32) (ls : Array Slot) (H : Heap) (locs : List Loc), L - 6 * j = k → 6 * j ≤ L → LI g rows next heads ix bk st fs sN n nl hc used bl ml most cnt j cells slots → lv_has ls 7 [(0, .ref b), (1, .ref x0), (2, .ref m0), (3, .ref ao), (4, .int (nI (6 * j)))] → xW D A s.heap [(x0, .inr (0, [.ref h0, .ref t0])), (t0, .inr (2, [.ref h0, .ref ai, .ref ab, .int (nI used), .ref am, .int (nI most)])), (ai, .inl (cI, 4352, .inl ix)), (ab, .inl (cI, bl, .inl bk)), (am, .inl (cI, ml, .inl mk)), (h0, .inr (1, [.ref ar, .ref an, .ref ah, .int (nI n), .ref at_])), (ar, .inl (cI, 8 * nl, .inl rows)), (an, .inl (cI, nl, .inl next)), (ah, .inl (cI, hc, .inl heads)), (at_, .inl (cI, 8, .inl tr)), (m0, .inr (3, [fl, .int (nI cnt), .ref as_, .ref af])), (as_, .inl (cI, 9000, .inl st)), (af, .inl (cI, 72000, .inl fs)), (ao, .inl (cL, 1, .inr (.inl lf)))] H locs → W p l e room_1 s m #[Value.ref b] below meth c H locs cells slots Q (F0 m 23 ls []) := by
  have hM := hC.1
  have hx := hM.1
  have hb := hM.2.1
  have hL := hC.2.2.2.2.2
  intro k
  induction k using Nat.strongRecOn with | ind k ih => ?_
  intro j ab am ar an ah nl hc n used bl ml most cnt cells slots rows next heads tr ix bk mk st fs lf fl sN g ls H locs hk hj0 hI hl hW
  have hcap := hI.1.caps
  have hi1 := hI.2.2.2.1
  have hi2 := hI.2.2.2.2
  refine lv_iload hx hb d_Law_law_23 (lv_at hl 4 rfl) ?_
  refine lv_aload_n hx hb d_Law_law_25 rfl (lv_at hl 0 rfl) ?_
  refine xn_slen hC hW d_Law_law_26 ?_
  refine lv_bipush (v := nI 6) hx hb d_Law_law_27 (by decide) ?_
  refine lv_isub hx hb d_Law_law_29 ?_
  refine lv_icmp_gt (tgt := 590) hx hb d_Law_law_30 (by decide) (fun hgt => ?_) (fun hle => ?_)
  · refine lv_iconst (v := 1) hx hb d_Law_law_590 (by decide) ?_
    exact END cells slots ls H locs (fun q hq => hC.2.2.2.1 _ (hW.2.2.2.2 q hq)) (by omega) (by omega)
  have hj : 6 * j + 6 ≤ L := by
    rw [Int32.lt_iff_toInt_lt, pk_sub_toInt (by omega) (by omega), nI_toInt (by omega)] at hle
    omega
  have hN : NX p l e s m below meth c Q D cI cL A b x0 t0 h0 ai at_ ao m0 as_ af j := by
    intro ab am ar an ah nl hc n used bl ml most cnt cells slots rows next heads tr ix bk mk st fs lf fl sN g ls H locs hI hl hW
    refine lv_iinc (lv' := [(4, .int (nI (6 * j + 6))), (0, .ref b), (1, .ref x0), (2, .ref m0), (3, .ref ao)]) (v := nI (6 * j + 6)) hx hb d_Law_law_584 hl (k := 4) rfl (nI_inc6 (6 * j)) (by decide) rfl (fun ls hl => ?_)
    refine lv_goto (tgt := 23) hx hb d_Law_law_587 (by decide) ?_
    have hl : lv_has ls 7 [(0, .ref b), (1, .ref x0), (2, .ref m0), (3, .ref ao), (4, .int (nI (6 * j + 6)))] := lv_sub hl [1, 2, 3, 4, 0] rfl
    exact ih (L - 6 * (j + 1)) (by omega) (j + 1) ab am ar an ah nl hc n used bl ml most cnt cells slots rows next heads tr ix bk mk st fs lf fl sN g ls H locs rfl (by omega) hI (by rw [show 6 * (j + 1) = 6 * j + 6 by omega]; exact hl) hW
  refine lv_aload_n hx hb d_Law_law_33 rfl (lv_at hl 0 rfl) ?_
  refine lv_iload hx hb d_Law_law_34 (lv_at hl 4 rfl) ?_
  refine xn_sld hC hW (by omega) d_Law_law_36 ?_
  refine lv_bipush (v := nI 7) hx hb d_Law_law_37 (by decide) ?_
  refine lv_iand hx hb d_Law_law_39 ?_
  obtain ⟨v, hv, ev⟩ := pk_andE (xs (6 * j)) (m := nI 7) 3 (by decide)
  rw [ev]
  rcases (show v = 0 ∨ v = 1 ∨ v = 2 ∨ v = 3 ∨ v = 4 ∨ v = 5 ∨ v = 6 ∨ v = 7 by omega) with rfl | rfl | rfl | rfl | rfl | rfl | rfl | rfl
  · refine lv_tableIn (off := 44) (tgt := 84) hx hb d_Law_law_40 (by decide) (by decide) (by decide) (by decide) ?_
    exact law_set hfl hC hN hj hI hl hW
  · refine lv_tableIn (off := 136) (tgt := 176) hx hb d_Law_law_40 (by decide) (by decide) (by decide) (by decide) ?_
    exact law_mark hfl hC hN hj hI hl hW
  · refine lv_tableIn (off := 240) (tgt := 280) hx hb d_Law_law_40 (by decide) (by decide) (by decide) (by decide) ?_
    exact law_get hfl hC hN hj hI hl hW
  · refine lv_tableIn (off := 308) (tgt := 348) hx hb d_Law_law_40 (by decide) (by decide) (by decide) (by decide) ?_
    exact law_change hfl hC hN hj hI hl hW
  · refine lv_tableIn (off := 376) (tgt := 416) hx hb d_Law_law_40 (by decide) (by decide) (by decide) (by decide) ?_
    exact law_alike hfl hC hN hj hI hl hW
  · refine lv_tableIn (off := 451) (tgt := 491) hx hb d_Law_law_40 (by decide) (by decide) (by decide) (by decide) ?_
    exact law_hash hfl hC hN hj hI hl hW
  · refine lv_tableIn (off := 531) (tgt := 571) hx hb d_Law_law_40 (by decide) (by decide) (by decide) (by decide) ?_
    exact law_clear hfl hC hN hj hI hl hW
  · refine lv_tableOut (tgt := 584) hx hb d_Law_law_40 (by decide) (by decide) ?_
    exact hN ab am ar an ah nl hc n used bl ml most cnt cells slots rows next heads tr ix bk mk st fs lf fl sN g ls H locs ⟨hI.1, hI.2.1, by have := hI.2.2.1; omega, by omega, by omega⟩ hl hW
set_option maxHeartbeats 4000000 in
set_option maxRecDepth 100000 in
theorem law_init (hfl : l.flags = pinnedFlags ++ [noTraceFlag]) (hC : LC p s m meth c D cI cL A b L xs) (END : ∀ (cells slots : Nat) (ls : Array Slot) (H : Heap) (locs : List Loc), (∀ q ∈ locs, s.heap.size ≤ q.base) → cells ≤ 601024 → slots ≤ 7293034 → W p l e room_1 s m #[Value.ref b] below meth c H locs cells slots Q (F0 m 591 ls [.int 1])) (ls : Array Slot) (hl : lv_has ls 7 [(0, .ref b)]) (hW : xW D A s.heap [] s.heap []) : W p l e room_1 s m #[Value.ref b] below meth c s.heap [] 0 0 Q (F0 m 0 ls []) := by
  have hM := hC.1
  have hx := hM.1
  have hb := hM.2.1
  refine nw_Law_8 hM hW (Nat.le_of_ble_eq_true rfl) (Nat.le_of_ble_eq_true rfl) d_Law_law_0 (fun x0 H locs hW => ?_)
  have hW : xW D A s.heap [(x0, .inr (0, [.null, .null]))] H locs := hW
  refine lv_dup hx hb d_Law_law_3 rfl ?_
  refine x_callIT (rest := [.ref x0]) hM (c_pinit l D cI cL x0) cb_PT_init cv_Law_34 ⟨Nat.le_of_ble_eq_true rfl, Nat.le_of_ble_eq_true rfl⟩ ⟨Nat.le_of_ble_eq_true rfl, Nat.le_of_ble_eq_true rfl⟩ hW [0] [] (by decide) rfl (wr := []) rfl (by decide) (by decide) rfl hl.1 rfl (Nat.le_of_ble_eq_true rfl) d_Law_law_4 (fun v k z w1 H locs hv hW => ?_)
  obtain ⟨t0, h0, ai, at_, ab, am, ar, an, ah, nl, hc, n, used, bl, ml, most, rows, next, heads, tr, ix, bk, mk, rfl, hk1, hk2, hX, rfl⟩ := hv
  have hcap := hX.caps
  have hW : xW D A s.heap [(x0, .inr (0, [.ref h0, .ref t0])), (t0, .inr (2, [.ref h0, .ref ai, .ref ab, .int (nI used), .ref am, .int (nI most)])), (ai, .inl (cI, 4352, .inl ix)), (ab, .inl (cI, bl, .inl bk)), (am, .inl (cI, ml, .inl mk)), (h0, .inr (1, [.ref ar, .ref an, .ref ah, .int (nI n), .ref at_])), (ar, .inl (cI, 8 * nl, .inl rows)), (an, .inl (cI, nl, .inl next)), (ah, .inl (cI, hc, .inl heads)), (at_, .inl (cI, 8, .inl tr))] H locs := hW.sub [0, 1, 2, 3, 4, 5, 6, 7, 8, 9] (by decide) rfl
  refine W.eq (g2 := F0 m 7 ls [.ref x0]) rfl ?_
  refine lv_astore_n (lv' := [(1, .ref x0), (0, .ref b)]) hx hb d_Law_law_7 rfl hl (by decide) rfl (fun ls hl => ?_)
  refine nw_Law_35 hM hW (by show 0 + 1 + k + 1 ≤ 601024; omega) (by show 0 + 2 + z + 4 ≤ 7293034; omega) d_Law_law_8 (fun m0 H locs hW => ?_)
  have hW : xW D A s.heap [(x0, .inr (0, [.ref h0, .ref t0])), (t0, .inr (2, [.ref h0, .ref ai, .ref ab, .int (nI used), .ref am, .int (nI most)])), (ai, .inl (cI, 4352, .inl ix)), (ab, .inl (cI, bl, .inl bk)), (am, .inl (cI, ml, .inl mk)), (h0, .inr (1, [.ref ar, .ref an, .ref ah, .int (nI n), .ref at_])), (ar, .inl (cI, 8 * nl, .inl rows)), (an, .inl (cI, nl, .inl next)), (ah, .inl (cI, hc, .inl heads)), (at_, .inl (cI, 8, .inl tr)), (m0, .inr (3, [.int 0, .int 0, .null, .null]))] H locs := hW
  refine lv_dup hx hb d_Law_law_11 rfl ?_
  refine x_callIT (rest := [.ref m0]) hM (c_minit l D cI cL m0) cb_Mod_init cv_Law_37 ⟨Nat.le_of_ble_eq_true rfl, Nat.le_of_ble_eq_true rfl⟩ ⟨by show 0 + 1 + k + 1 + 2 ≤ 601024; omega, by show 0 + 2 + z + 4 + 81000 ≤ 7293034; omega⟩ hW [10] [0, 1, 2, 3, 4, 5, 6, 7, 8, 9] (by decide) rfl (wr := [(x0, .inr (0, [.ref h0, .ref t0])), (t0, .inr (2, [.ref h0, .ref ai, .ref ab, .int (nI used), .ref am, .int (nI most)])), (ai, .inl (cI, 4352, .inl ix)), (ab, .inl (cI, bl, .inl bk)), (am, .inl (cI, ml, .inl mk)), (h0, .inr (1, [.ref ar, .ref an, .ref ah, .int (nI n), .ref at_])), (ar, .inl (cI, 8 * nl, .inl rows)), (an, .inl (cI, nl, .inl next)), (ah, .inl (cI, hc, .inl heads)), (at_, .inl (cI, 8, .inl tr))]) rfl (by decide) (by decide) rfl hl.1 rfl (Nat.le_of_ble_eq_true rfl) d_Law_law_12 (fun v k2 z2 w1 H locs hv hW => ?_)
  obtain ⟨rfl, rfl, rfl, as_, af, rfl⟩ := hv
  have hW : xW D A s.heap [(x0, .inr (0, [.ref h0, .ref t0])), (t0, .inr (2, [.ref h0, .ref ai, .ref ab, .int (nI used), .ref am, .int (nI most)])), (ai, .inl (cI, 4352, .inl ix)), (ab, .inl (cI, bl, .inl bk)), (am, .inl (cI, ml, .inl mk)), (h0, .inr (1, [.ref ar, .ref an, .ref ah, .int (nI n), .ref at_])), (ar, .inl (cI, 8 * nl, .inl rows)), (an, .inl (cI, nl, .inl next)), (ah, .inl (cI, hc, .inl heads)), (at_, .inl (cI, 8, .inl tr)), (m0, .inr (3, [.int 0, .int (nI 1), .ref as_, .ref af])), (as_, .inl (cI, 9000, .inl (fun _ => 0))), (af, .inl (cI, 72000, .inl (fun _ => 0)))] H locs := hW.sub [0, 1, 2, 3, 4, 5, 6, 7, 8, 9, 10, 11, 12] (by decide) rfl
  refine W.eq (g2 := F0 m 15 ls [.ref m0]) rfl ?_
  refine lv_astore_n (lv' := [(2, .ref m0), (1, .ref x0), (0, .ref b)]) hx hb d_Law_law_15 rfl hl (by decide) rfl (fun ls hl => ?_)
  refine lv_iconst (v := nI 1) hx hb d_Law_law_16 (by decide) ?_
  refine xn_newL hM hW (by decide) (by show 0 + 1 + k + 1 + 2 + 1 ≤ 601024; omega) (by show 0 + 2 + z + 4 + 81000 + 1 ≤ 7293034; omega) d_Law_law_17 (fun ao H locs hW => ?_)
  have hW : xW D A s.heap [(x0, .inr (0, [.ref h0, .ref t0])), (t0, .inr (2, [.ref h0, .ref ai, .ref ab, .int (nI used), .ref am, .int (nI most)])), (ai, .inl (cI, 4352, .inl ix)), (ab, .inl (cI, bl, .inl bk)), (am, .inl (cI, ml, .inl mk)), (h0, .inr (1, [.ref ar, .ref an, .ref ah, .int (nI n), .ref at_])), (ar, .inl (cI, 8 * nl, .inl rows)), (an, .inl (cI, nl, .inl next)), (ah, .inl (cI, hc, .inl heads)), (at_, .inl (cI, 8, .inl tr)), (m0, .inr (3, [.int 0, .int (nI 1), .ref as_, .ref af])), (as_, .inl (cI, 9000, .inl (fun _ => 0))), (af, .inl (cI, 72000, .inl (fun _ => 0))), (ao, .inl (cL, 1, .inr (.inl (fun _ => 0))))] H locs := hW
  refine lv_astore_n (lv' := [(3, .ref ao), (2, .ref m0), (1, .ref x0), (0, .ref b)]) hx hb d_Law_law_19 rfl hl (by decide) rfl (fun ls hl => ?_)
  refine lv_iconst (v := nI 0) hx hb d_Law_law_20 (by decide) ?_
  refine lv_istore (lv' := [(4, .int (nI 0)), (3, .ref ao), (2, .ref m0), (1, .ref x0), (0, .ref b)]) hx hb d_Law_law_21 hl (by decide) rfl (fun ls hl => ?_)
  have hl : lv_has ls 7 [(0, .ref b), (1, .ref x0), (2, .ref m0), (3, .ref ao), (4, .int (nI 0))] := lv_sub hl [4, 3, 2, 1, 0] rfl
  refine law_loop hfl hC END _ 0 ab am ar an ah nl hc n used bl ml most 1 _ _ rows next heads tr ix bk mk (fun _ => 0) (fun _ => 0) (fun _ => 0) (.int 0) (fun _ => 0) (fun _ _ => 0) ls H locs rfl (Nat.zero_le _) ⟨hX, ⟨⟨by decide, rfl, fun k hk => ⟨nI_0.symm, (show (0:Nat) < 1114112 by decide)⟩, fun j k h1 h2 => absurd h2 (by omega)⟩, fun q hq k hk i hi => rfl⟩, by decide, by omega, by omega⟩ hl hW
end LAW2
end
section
def R_law : String := "PropertyTrieLaw"
def lw_P (b : Addr) (xs : List Int32) (args : Array Value) (s : State) : Prop := args = #[.ref b] ∧ s.IntsAt b xs ∧ xs.length ≤ 3072 ∧ (Jvm.Cond.and given_1 narrow_1).before args s = true
def lw_Q (_ : Array Value) (s : State) (o : Outcome) (t : State) : Prop := o = .returned (some (.int 1)) ∧ Framed s o t [] 601024 7293034
def lw_Z (below : List Frame) (a : Array Value) (s : State) : State → Prop := fun t => ∃ o, t.status = .running ∧ Ended t below o ∧ lw_Q a s o t
/-- the law's own end, with 1 on the stack, nothing written that was there before, its room as the claim has it -/
theorem lw_ret {p : Program} {l : Launch} {e : Env} {s : State} {m : MethodId} {below : List Frame} {meth : Method} {c : Code} {b : Nat} (hx : p.tables.exec = Jvm.exec) (hb : c.code = code) (hr : meth.sig.returnType = ret) (hlocks : meth.locks = false) {pc : Nat} {H : Heap} {ls : Array Slot} (hdg : decode code pc = .ok (.ireturn, 1)) : W p l e room_1 s m #[Value.ref b] below meth c H [] 601024 7293034 (lw_Z below #[Value.ref b] s) (F0 m pc ls [.int 1]) := by
  intro T hT X
  obtain ⟨fs, hret, hrun, hended, hW, hframe⟩ := X.leave (v := some (.int 1)) (hlocks := hlocks) (fun h => by rw [hr] at h; cases h)
  have hmeth' : T.vm.method? m = some meth := X.method'
  refine ⟨T.setFrames fs, ?_, .returned (some (.int 1)), hrun, hended, rfl, ⟨_, rfl⟩, hW, hframe⟩
  jvm_step X.here [X.here.top, hx, hb, hdg, hmeth', hr, ret, narrow_b1]
  (try refine ⟨rfl, ?_⟩); (try refine ⟨rfl, ?_⟩)
  first | (intro acts; rw [hret _ acts rfl rfl rfl]) | rw [hret _ _ rfl rfl rfl]
  exact Steps.refl _
/-- what holds at the law's entry: the machine, the code, the tables' words (any of lw_tbl by 'hts w (by decide +kernel)'), the script of L ints xs at the cell b, what the Statement gives of the start (any of its parts by flat_of_before) -/
def lw_At (p : Program) (s : State) (m : MethodId) (meth : Method) (c : Code) (b L : Nat) (xs : Nat → Int32) : Prop :=
  p.tables.exec = Jvm.exec ∧ c.code = code ∧ meth.sig.returnType = ret ∧ c.maxLocals = 7 ∧ s.vm.findClass R_law = some m.cls ∧ (∀ w ∈ lw_tbl, w.before #[Value.ref b] s = true) ∧ va_X b L xs s s.heap ∧ b < s.heap.size ∧ meth.locks = false ∧ (Jvm.Cond.and given_1 narrow_1).before #[Value.ref b] s = true
/-- the classes and array classes, as the tables have them -/
theorem law_K {args : Array Value} {s : State} (hts : ∀ w ∈ xtb, w.before args s = true) : ∃ (D : va_G) (cI cL : ClassId), xK D cI cL s := by
  obtain ⟨c0, i0, h0⟩ := u_known (n := 2) hts xws_PT (hts (.instantiable R_PT 2) (tb_of (i := 10) rfl rfl))
  obtain ⟨c1, i1, h1⟩ := u_known (n := 5) hts xws_Rec (hts (.instantiable R_Rec 5) (tb_of (i := 18) rfl rfl))
  obtain ⟨c2, i2, h2⟩ := u_known (n := 6) hts xws_Tri (hts (.instantiable R_Tri 6) (tb_of (i := 41) rfl rfl))
  obtain ⟨c3, i3, h3⟩ := u_known (n := 4) hts xws_Mod (hts (.instantiable R_Mod 4) (tb_of (i := 259) rfl rfl))
  obtain ⟨c4, i4, h4⟩ := u_known (n := 6) hts xws_IAE (hts (.instantiable R_IAE 6) (tb_of (i := 125) rfl rfl))
  obtain ⟨cI, kI, pI, f1, f2, f3⟩ := Cond.arrayClass_spec (hts (.arrayClass .int) (tb_of (i := 39) rfl rfl))
  obtain ⟨cL, kL, pL, g1, g2, g3⟩ := Cond.arrayClass_spec (hts (.arrayClass .long) (tb_of (i := 328) rfl rfl))
  refine ⟨(fun c => match c with | 0 => c0 | 1 => c1 | 2 => c2 | 3 => c3 | _ => c4, fun c => match c with | 0 => i0 | 1 => i1 | 2 => i2 | 3 => i3 | _ => i4), cI, cL, ⟨fun c q hq => ?_, fun k q hq => ?_⟩, f1, g1⟩
  · rcases c with _ | _ | _ | _ | _ | c
    · cases hq; exact h0
    · cases hq; exact h1
    · cases hq; exact h2
    · cases hq; exact h3
    · cases hq; exact h4
    · simp [xcl] at hq
  · rcases k with _ | _ | k
    · cases hq; exact ⟨fun n z => ⟨fun k h => (by cases h), kI, f2, pI, f3⟩, f1⟩
    · cases hq; exact ⟨fun n z => ⟨fun k h => (by cases h), kL, g2, pL, g3⟩, g1⟩
    · simp at hq
set_option maxHeartbeats 4000000 in
set_option maxRecDepth 100000 in
/-- from the entry, for every script of at most 3072 ints, the law comes to its end with true -/
theorem whole_start {p : Program} {e : Env} {s : State} {m : MethodId} {below : List Frame} {meth : Method} {c : Code} (l : Launch) (hfl : l.flags = flags0) {b L : Nat} {xs : Nat → Int32} (hL : L ≤ 3072) (C0 : lw_At p s m meth c b L xs) : W p l e room_1 s m #[Value.ref b] below meth c s.heap [] 0 0 (lw_Z below #[Value.ref b] s) (entryFrame m ([Value.ref b] : List Value).toArray 7) := by
  obtain ⟨hx, hb, hr, hml, hown, hts, hX, hbl, hlk, hgv⟩ := C0
  have htx : ∀ w ∈ xtb, w.before #[Value.ref b] s = true := fun w hw => hts w (List.mem_filter.mp hw).1
  obtain ⟨D, cI, cL, hK⟩ := law_K htx
  have hs := flat_of_before _ hgv
  have hZ : Zs s := fun cd hcd => by
    refine z_one hcd (u := s) (A := #[Value.ref b]) rfl (fun _ _ q => q) ?_
    simp only [zst, List.mem_cons, List.not_mem_nil, or_false] at hcd
    rcases hcd with rfl | rfl | rfl | rfl
    · exact hs _ (by decide +kernel)
    · exact hs _ (by decide +kernel)
    · exact hts _ (List.mem_append_right _ (List.mem_of_getElem? (i := 151) rfl))
    · exact hts _ (List.mem_append_right _ (List.mem_of_getElem? (i := 153) rfl))
  have hC : LC p s m meth c D cI cL (fun q => s.heap.size ≤ q) b L xs := ⟨⟨hx, hb, hml, hown, htx, hK, fun q h => h⟩, hX, hbl, fun q h => h, hZ, hL⟩
  have hl := lv_entry [Value.ref b] (n := 7) (Nat.le_of_ble_eq_true rfl)
  rw [lg_entry_eq]
  generalize (lg_sl [Value.ref b] ++ List.replicate (7 - (lg_sl [Value.ref b]).length) Slot.unset).toArray = ls at hl ⊢
  refine law_init hfl hC (fun cells slots ls H locs h1 h2 h3 => ?_) ls hl ⟨fun k q hq => by simp at hq, ⟨fun i j p q hp => by simp at hp, fun k q hq => by simp at hq⟩, va_S.rf⟩
  refine va_forget h1 ?_
  refine W.widen (k := 601024) (n := 7293034) h2 h3 ?_
  exact lw_ret hx hb hr hlk d_Law_law_591
set_option maxHeartbeats 4000000 in
theorem lw_walk (l : Launch) (hfl : l.flags = flags0) (b : Addr) (xs : List Int32) : MetFree l x (headSpec (Jvm.Cond.code x code maxLocals ret :: tables_1) room_1) (lw_P b xs) (fun _ _ _ _ _ => True) lw_Q := by
  refine MetFree.of_bodyS (code := code) (maxLocals := maxLocals) (ret := ret) (by decide) ?_ ?_
  · intro args s m h hn
    obtain ⟨meth, c, h1, h2, h3, h4, h5, h6, -, -⟩ := Cond.code_spec hn (atoms_spec (ws := Jvm.Cond.code x code maxLocals ret :: tables_1) h _ List.mem_cons_self)
    exact ⟨meth, c, h1, h2, h3, h4, h5, h6⟩
  · intro p e s m args below meth c s₁ B hml0 hP _
    obtain ⟨rfl, hx, hbd, hgv⟩ := hP
    obtain ⟨scr, harrAt, hlist, hof, hsmall⟩ := hx
    obtain ⟨hcb, hkn, -, -⟩ := State.arrayAt?_spec harrAt
    have hown : s.vm.findClass R_law = some m.cls := findClass_of_methodNamed B.named
    have hts0 : ∀ c ∈ (Jvm.Cond.code x code maxLocals ret :: tables_1), c.before #[Value.ref b] s = true := atoms_spec (ws := Jvm.Cond.code x code maxLocals ret :: tables_1) B.pre
    have hts : ∀ w ∈ lw_tbl, w.before #[Value.ref b] s = true := k2_hts_sels lw_privs (fun w hw => hts0 w (List.mem_cons_of_mem _ hw)) lw_privs_ok
    have hml : c.maxLocals = 7 := B.maxLocals_eq (hts0 _ List.mem_cons_self)
    have X₀ : Stand p l e room_1 s m #[Value.ref b] below meth c s₁ [] 0 0 := Stand.of_body B
    have hh0 : s₁.heap = s.heap := by rw [B.state]; rfl
    have hsz : scr.slots.size = xs.length := by rw [← Array.length_toList, hlist, List.length_map]
    have hval : ∀ j : Nat, j < xs.length → scr.slots[j]? = some (.int (xs.getD j 0)) := fun j hj => by
      rw [← Array.getElem?_toList, hlist]
      simp [hj]
    have hbl : b < s.heap.size := (Array.getElem?_eq_some_iff.mp hcb).1
    have hX : va_X b xs.length (fun j => xs.getD j 0) s s.heap := ⟨scr, hcb, hof, hkn, hsz, hval⟩
    have K : W p l e room_1 s m #[Value.ref b] below meth c s₁.heap [] 0 0 (lw_Z below #[Value.ref b] s) (entryFrame m ([Value.ref b] : List Value).toArray 7) := by
      rw [hh0]
      exact whole_start l hfl hbd ⟨B.exec, B.bytes, B.returns, hml, hown, hts, hX, hbl, B.notSynchronized, hgv⟩
    obtain ⟨t, a1, o, b1, b2, b3⟩ := K s₁ rfl X₀
    exact ⟨t, o, a1, b1, b2, b3⟩
theorem lw_pre_spec {args : Array Value} {s : State} (h : (Jvm.Cond.and given_1 narrow_1).before args s = true) (hr : rest_1_c.before args s = true) : ∃ (b : Addr) (xs : List Int32), lw_P b xs args s := by
  have hs := flat_of_before _ h
  have hq := flat_of_before _ hr
  have hc : (Cond.count 1).before args s = true := hs _ (by decide +kernel)
  have harr : (Cond.arrayOf (.arg 0) .int).before args s = true := hs _ (by decide +kernel)
  have hle : (Cond.le (.length (.arg 0)) (.int 3072)).before args s = true := hs _ (by decide +kernel)
  have hlen : (Cond.isInt (.length (.arg 0))).before args s = true := hq _ (by decide +kernel)
  have hall : (Cond.all (.arg 0) (.isInt (.elem (.arg 0) (.index 0)))).before args s = true := hq _ (by decide +kernel)
  obtain ⟨b, xs, hb, hx⟩ := State.ints_of_pre rfl harr hlen hall
  have hsm : xs.length < 2 ^ 31 := hx.choose_spec.2.2.2
  have hev : (Term.length (.arg 0)).eval args s none [] s = some (.int xs.length.toInt32) := hx.length_eval hb
  have hv := Cond.le_ints hev (show (Term.int 3072).eval args s none [] s = some (.int 3072) from rfl)
  have hd : xs.length.toInt32 ≤ 3072 := by
    simpa [Cond.before, Cond.holds, hv] using hle
  have hN : xs.length ≤ 3072 := (Int32.ofNat_le_ofNat hsm (by decide)).mp (show Int32.ofNat xs.length ≤ Int32.ofNat 3072 from hd)
  exact ⟨b, xs, Cond.one_arg hc (show args[0]? = some (.ref b) from hb), hx, hN, h⟩
theorem lw_comes (l : Launch) (hfl : l.flags = flags0) : Comes l x (Jvm.Cond.code x code maxLocals ret :: tables_1) room_1 (fun tb e args s => Calls_1 tb e args s ∧ rest_1 tb e args s ∧ Pre_1 tb e args s)
    (fun _ _ args s o t => lw_Q args s o t) := by
  intro p e ha hc hk s m args below hf hfit hheap happ hpre
  obtain ⟨b, xs, hP⟩ := lw_pre_spec hpre.2.2 hpre.2.1
  obtain ⟨k, o, h1, h2, h3, hQ⟩ := lw_walk l hfl b xs p e ha hc hk s m args below hf ((Spec.applies_iff_loose hf).mp happ).1 hP trivial
  exact ⟨k, o, h1, h2, h3, hQ⟩
theorem lw_frame {s t : State} {o : Outcome} {args : Array Value} (h : Framed s o t [] 601024 7293034) :
    Framed s o t (fieldLocs frame_1_writes args s ++ arrayLocs frame_1_arrays args s ++ staticLocs frame_1_statics s) 601024 7293034 := h
theorem lw_limb (L : Cond) (hL : ∀ (args : Array Value) (s t : State), L.after args s (.returned (some (.int 1))) t = true) :
    ArmFor flags0 classFile x code maxLocals ret World_1 tables_1 room_1 Calls_1 rest_1 Pre_1
      (fun tb e a s o t => postC L tb e a s o t ∧ Framed s o t (fieldLocs frame_1_writes a s ++ arrayLocs frame_1_arrays a s ++ staticLocs frame_1_statics s) 601024 7293034) := by
  intro l hfl _ _ p e ha hc hk s m args below hf hfit hheap happ hpre
  obtain ⟨k, o, h1, h2, h3, rfl, hF⟩ := lw_comes l hfl p e ha hc hk s m args below hf hfit hheap happ hpre
  exact ⟨k, _, h1, h2, h3, hL args s _, lw_frame hF⟩
theorem i_vc : Claimed_1_1 ∧ Claimed_1_2 := ⟨lw_limb limb_1_1 (fun args s t => by simp [limb_1_1, Cond.after, Cond.holds, Cond.value]), lw_limb limb_1_2 (fun args s t => Cond.after_iff.mpr (by
  first | (rw [show limb_1_2 = Cond.eq .result (.int 1) from rfl, Cond.eq_ints (x := 1) (y := 1) rfl rfl]; simp; done) | (simp [limb_1_2, Cond.value, Term.eval]; done)))⟩
end
