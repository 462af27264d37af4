section
-- ===== PART A: goes FIRST, ahead of the names: the tables' words, and 'selects' of the private methods out of them =====
/-- a private method of a class that the tables say can be made, by its rows of tables_1 -/
def lw_okq (q : MethodName × Nat) : Prop := (q.1.cls ≠ "java/lang/invoke/MethodHandle" ∧ q.1.cls ≠ "java/lang/invoke/VarHandle") ∧ Cond.instantiable q.1.cls q.2 ∈ tables_1 ∧ Cond.privateMethod q.1 ∈ tables_1 ∧ Cond.instanceMethod q.1 ∈ tables_1
set_option maxRecDepth 100000
theorem lw_p0 : lw_okq (⟨"ChangedBlocks", "store", "(II)V"⟩, 11) := ⟨⟨by decide +kernel, by decide +kernel⟩, List.mem_of_getElem? (i := 4) rfl, List.mem_of_getElem? (i := 52) rfl, List.mem_of_getElem? (i := 53) rfl⟩
theorem lw_p1 : lw_okq (⟨"ChangedBlocks", "noBackup", "(II)Z"⟩, 11) := ⟨⟨by decide +kernel, by decide +kernel⟩, List.mem_of_getElem? (i := 4) rfl, List.mem_of_getElem? (i := 72) rfl, List.mem_of_getElem? (i := 73) rfl⟩
theorem lw_p2 : lw_okq (⟨"ChangedBlocks", "blockOf", "(III)I"⟩, 11) := ⟨⟨by decide +kernel, by decide +kernel⟩, List.mem_of_getElem? (i := 4) rfl, List.mem_of_getElem? (i := 76) rfl, List.mem_of_getElem? (i := 77) rfl⟩
theorem lw_p3 : lw_okq (⟨"ChangedBlocks", "takeOut", "(II)I"⟩, 11) := ⟨⟨by decide +kernel, by decide +kernel⟩, List.mem_of_getElem? (i := 4) rfl, List.mem_of_getElem? (i := 84) rfl, List.mem_of_getElem? (i := 85) rfl⟩
theorem lw_p4 : lw_okq (⟨"ChangedBlocks", "moveImage", "(II)V"⟩, 11) := ⟨⟨by decide +kernel, by decide +kernel⟩, List.mem_of_getElem? (i := 4) rfl, List.mem_of_getElem? (i := 88) rfl, List.mem_of_getElem? (i := 89) rfl⟩
theorem lw_p5 : lw_okq (⟨"ChangedBlocks", "start", "()V"⟩, 11) := ⟨⟨by decide +kernel, by decide +kernel⟩, List.mem_of_getElem? (i := 4) rfl, List.mem_of_getElem? (i := 100) rfl, List.mem_of_getElem? (i := 101) rfl⟩
theorem lw_p6 : lw_okq (⟨"ChangedBlocksModel", "badChain", "(I)Z"⟩, 4) := ⟨⟨by decide +kernel, by decide +kernel⟩, List.mem_of_getElem? (i := 128) rfl, List.mem_of_getElem? (i := 159) rfl, List.mem_of_getElem? (i := 160) rfl⟩
theorem lw_p7 : lw_okq (⟨"ChangedBlocksModel", "none", "(II)Z"⟩, 4) := ⟨⟨by decide +kernel, by decide +kernel⟩, List.mem_of_getElem? (i := 128) rfl, List.mem_of_getElem? (i := 167) rfl, List.mem_of_getElem? (i := 168) rfl⟩
theorem lw_p8 : lw_okq (⟨"ChangedBlocksModel", "against", "(II)I"⟩, 4) := ⟨⟨by decide +kernel, by decide +kernel⟩, List.mem_of_getElem? (i := 128) rfl, List.mem_of_getElem? (i := 171) rfl, List.mem_of_getElem? (i := 172) rfl⟩
def lw_privs_1 : List (MethodName × Nat) := [(⟨"ChangedBlocks", "store", "(II)V"⟩, 11), (⟨"ChangedBlocks", "noBackup", "(II)Z"⟩, 11), (⟨"ChangedBlocks", "blockOf", "(III)I"⟩, 11), (⟨"ChangedBlocks", "takeOut", "(II)I"⟩, 11), (⟨"ChangedBlocks", "moveImage", "(II)V"⟩, 11), (⟨"ChangedBlocks", "start", "()V"⟩, 11), (⟨"ChangedBlocksModel", "badChain", "(I)Z"⟩, 4), (⟨"ChangedBlocksModel", "none", "(II)Z"⟩, 4), (⟨"ChangedBlocksModel", "against", "(II)I"⟩, 4)]
theorem lw_r1 : ∀ q ∈ lw_privs_1, lw_okq q := List.forall_mem_cons.mpr ⟨lw_p0, List.forall_mem_cons.mpr ⟨lw_p1, List.forall_mem_cons.mpr ⟨lw_p2, List.forall_mem_cons.mpr ⟨lw_p3, List.forall_mem_cons.mpr ⟨lw_p4, List.forall_mem_cons.mpr ⟨lw_p5, List.forall_mem_cons.mpr ⟨lw_p6, List.forall_mem_cons.mpr ⟨lw_p7, List.forall_mem_cons.mpr ⟨lw_p8, fun _ h => absurd h List.not_mem_nil⟩⟩⟩⟩⟩⟩⟩⟩⟩
def lw_privs : List (MethodName × Nat) := lw_privs_1
def lw_tbl : List Cond := k2_sels lw_privs ++ tables_1
theorem lw_privs_ok : ∀ q ∈ lw_privs, lw_okq q := lw_r1
-- ===== ONE list of words for every method: the tables' words that hold all through a run =====
def lw_all : List Cond := lw_tbl.filter goodWord
/-- a word of the tables by its place: claim/WORDS.tsv -/
theorem lw_w {w : Cond} (i : Nat) (h : lw_tbl[i]? = some w) (g : goodWord w = true) : w ∈ lw_all := List.mem_filter.mpr ⟨List.mem_of_getElem? h, g⟩
theorem lw_all_tbl {w : Cond} (h : w ∈ lw_all) : w ∈ lw_tbl := (List.mem_filter.mp h).1
theorem lw_self : GoodIn lw_all lw_all := fun w h => ⟨h, good_of_word (List.mem_filter.mp h).2⟩
/-- a class's field words, by their places -/
theorem lw_in (ws : List Cond) (ps : List Nat) (hp : ws = ps.filterMap (fun i => lw_tbl[i]?)) (hg : ws.all goodWord = true) : ∀ w ∈ ws, w ∈ lw_all := by
  intro w h
  have h1 := List.all_eq_true.mp hg w h
  rw [hp] at h
  obtain ⟨i, -, hi⟩ := List.mem_filterMap.mp h
  exact lw_w i hi h1
/-- the words of a contract for the method y with code b, L locals, answer r -/
abbrev ws_ (y : MethodName) (b : ByteArray) (L : Nat) (r : Option FieldType) : List Cond := Cond.code y b L r :: lw_all
theorem lw_meth {y : MethodName} {b : ByteArray} {L : Nat} {r : Option FieldType} (h : Cond.code y b L r ∈ lw_all) : GoodIn lw_all (ws_ y b L r) := by
  intro w hw
  rcases List.mem_cons.mp hw with e | e
  · rw [e]
    exact lw_self _ h
  · exact lw_self _ e
theorem lw_app {a c : List Cond} (ha : ∀ w ∈ a, w ∈ lw_all) (hc : GoodIn lw_all c) : GoodIn lw_all (a ++ c) := by
  intro w hw
  rcases List.mem_append.mp hw with e | e
  · exact lw_self w (ha w e)
  · exact hc w e
/-- what a call through an object asks: cwV n hts (lw_V ..) -/
theorem lw_V {own : String} {idx : Nat} {C : String} {y : MethodName} {b : ByteArray} {L : Nat} {r : Option FieldType} (h1 : Cond.methodLink own idx y ∈ lw_all) (h2 : Cond.instanceMethod y ∈ lw_all) (h3 : Cond.selects C y y ∈ lw_all) (h4 : Cond.initialized C ∈ lw_all) (h5 : Cond.code y b L r ∈ lw_all) : GoodIn lw_all (wsV own idx C y (ws_ y b L r)) := by
  refine lw_app ?_ (lw_meth h5)
  intro w hw
  simp only [List.mem_cons, List.not_mem_nil, or_false] at hw
  rcases hw with e | e | e | e
  · rw [e]; exact h1
  · rw [e]; exact h2
  · rw [e]; exact h3
  · rw [e]; exact h4
/-- what a static call asks: va_cwS n hts (lw_S ..) -/
theorem lw_S {own : String} {idx : Nat} {y : MethodName} {b : ByteArray} {L : Nat} {r : Option FieldType} (h1 : Cond.methodLink own idx y ∈ lw_all) (h2 : Cond.static y ∈ lw_all) (h3 : Cond.initialized y.cls ∈ lw_all) (h4 : Cond.code y b L r ∈ lw_all) : GoodIn lw_all (va_wsS own idx y (ws_ y b L r)) := by
  refine lw_app ?_ (lw_meth h4)
  intro w hw
  simp only [List.mem_cons, List.not_mem_nil, or_false] at hw
  rcases hw with e | e | e
  · rw [e]; exact h1
  · rw [e]; exact h2
  · rw [e]; exact h3
/-- the words of a contract for a method WITH HANDLERS (hh: its table) -/
abbrev wsW_ (y : MethodName) (b : ByteArray) (L : Nat) (r : Option FieldType) (hh : List (Nat × Nat × Nat × Nat)) : List Cond := Cond.codeWith y b L r hh :: lw_all
theorem lw_methW {y : MethodName} {b : ByteArray} {L : Nat} {r : Option FieldType} {hh : List (Nat × Nat × Nat × Nat)} (h : Cond.codeWith y b L r hh ∈ lw_all) : GoodIn lw_all (wsW_ y b L r hh) := by
  intro w hw
  rcases List.mem_cons.mp hw with e | e
  · rw [e]
    exact lw_self _ h
  · exact lw_self _ e
/-- any list of words by their places (lw_in), good -/
theorem lw_good {ws : List Cond} (h : ∀ w ∈ ws, w ∈ lw_all) : GoodIn lw_all ws := fun w hw => lw_self w (h w hw)
/-- what a call of a method with handlers asks: vx_cwVW n hts (lw_VW ..), vx_cwSW n hts (lw_SW ..) -/
theorem lw_VW {own : String} {idx : Nat} {C : String} {y : MethodName} {b : ByteArray} {L : Nat} {r : Option FieldType} {hh : List (Nat × Nat × Nat × Nat)} (h1 : Cond.methodLink own idx y ∈ lw_all) (h2 : Cond.instanceMethod y ∈ lw_all) (h3 : Cond.selects C y y ∈ lw_all) (h4 : Cond.initialized C ∈ lw_all) (h5 : Cond.codeWith y b L r hh ∈ lw_all) : GoodIn lw_all (wsV own idx C y (wsW_ y b L r hh)) := by
  refine lw_app ?_ (lw_methW h5)
  intro w hw
  simp only [List.mem_cons, List.not_mem_nil, or_false] at hw
  rcases hw with e | e | e | e
  · rw [e]; exact h1
  · rw [e]; exact h2
  · rw [e]; exact h3
  · rw [e]; exact h4
theorem lw_SW {own : String} {idx : Nat} {y : MethodName} {b : ByteArray} {L : Nat} {r : Option FieldType} {hh : List (Nat × Nat × Nat × Nat)} (h1 : Cond.methodLink own idx y ∈ lw_all) (h2 : Cond.static y ∈ lw_all) (h3 : Cond.initialized y.cls ∈ lw_all) (h4 : Cond.codeWith y b L r hh ∈ lw_all) : GoodIn lw_all (va_wsS own idx y (wsW_ y b L r hh)) := by
  refine lw_app ?_ (lw_methW h4)
  intro w hw
  simp only [List.mem_cons, List.not_mem_nil, or_false] at hw
  rcases hw with e | e | e
  · rw [e]; exact h1
  · rw [e]; exact h2
  · rw [e]; exact h3
/-- a word by its place in its run of the tables -/
theorem lw_at {r : List Cond} (hr : ∀ w ∈ r, w ∈ lw_tbl) {w : Cond} (i : Nat) (h : r[i]? = some w) : w ∈ lw_tbl := hr w (List.mem_of_getElem? h)
theorem lw_g {w : Cond} (h : w ∈ lw_tbl) (g : goodWord w = true) : w ∈ lw_all := List.mem_filter.mpr ⟨h, g⟩
theorem lw_ms : ∀ w ∈ k2_sels lw_privs, w ∈ lw_tbl := fun w h => show w ∈ k2_sels lw_privs ++ tables_1 from List.mem_append_left _ h
theorem lw_m0 : ∀ w ∈ tables_1, w ∈ lw_tbl := fun w h => show w ∈ k2_sels lw_privs ++ tables_1 from List.mem_append_right (k2_sels lw_privs) h
theorem qs0 : (Cond.selects "ChangedBlocks" ⟨"ChangedBlocks", "store", "(II)V"⟩ ⟨"ChangedBlocks", "store", "(II)V"⟩) ∈ lw_all := lw_g (lw_at lw_ms 0 rfl) rfl
theorem qs1 : (Cond.selects "ChangedBlocks" ⟨"ChangedBlocks", "noBackup", "(II)Z"⟩ ⟨"ChangedBlocks", "noBackup", "(II)Z"⟩) ∈ lw_all := lw_g (lw_at lw_ms 1 rfl) rfl
theorem qs2 : (Cond.selects "ChangedBlocks" ⟨"ChangedBlocks", "blockOf", "(III)I"⟩ ⟨"ChangedBlocks", "blockOf", "(III)I"⟩) ∈ lw_all := lw_g (lw_at lw_ms 2 rfl) rfl
theorem qs3 : (Cond.selects "ChangedBlocks" ⟨"ChangedBlocks", "takeOut", "(II)I"⟩ ⟨"ChangedBlocks", "takeOut", "(II)I"⟩) ∈ lw_all := lw_g (lw_at lw_ms 3 rfl) rfl
theorem qs4 : (Cond.selects "ChangedBlocks" ⟨"ChangedBlocks", "moveImage", "(II)V"⟩ ⟨"ChangedBlocks", "moveImage", "(II)V"⟩) ∈ lw_all := lw_g (lw_at lw_ms 4 rfl) rfl
theorem qs5 : (Cond.selects "ChangedBlocks" ⟨"ChangedBlocks", "start", "()V"⟩ ⟨"ChangedBlocks", "start", "()V"⟩) ∈ lw_all := lw_g (lw_at lw_ms 5 rfl) rfl
theorem qs6 : (Cond.selects "ChangedBlocksModel" ⟨"ChangedBlocksModel", "badChain", "(I)Z"⟩ ⟨"ChangedBlocksModel", "badChain", "(I)Z"⟩) ∈ lw_all := lw_g (lw_at lw_ms 6 rfl) rfl
theorem qs7 : (Cond.selects "ChangedBlocksModel" ⟨"ChangedBlocksModel", "none", "(II)Z"⟩ ⟨"ChangedBlocksModel", "none", "(II)Z"⟩) ∈ lw_all := lw_g (lw_at lw_ms 7 rfl) rfl
theorem qs8 : (Cond.selects "ChangedBlocksModel" ⟨"ChangedBlocksModel", "against", "(II)I"⟩ ⟨"ChangedBlocksModel", "against", "(II)I"⟩) ∈ lw_all := lw_g (lw_at lw_ms 8 rfl) rfl
end
section
set_option maxRecDepth 100000
/-! ChangedBlocks -/
def RX0 : String := "ChangedBlocks"
def TX0 : u_T := fun k => match k with
  | 0 => ("ChangedBlocks", "disk", "[I", true)
  | 1 => ("ChangedBlocks", "held", "[I", true)
  | 2 => ("ChangedBlocks", "dirty", "[I", true)
  | 3 => ("ChangedBlocks", "trusted", "[Z", true)
  | 4 => ("ChangedBlocks", "savedDirty", "[I", true)
  | 5 => ("ChangedBlocks", "savedGeneration", "[I", true)
  | 6 => ("ChangedBlocks", "generation", "[I", true)
  | 7 => ("ChangedBlocks", "clean", "Z", false)
  | 8 => ("ChangedBlocks", "images", "[I", true)
  | 9 => ("ChangedBlocks", "has", "[I", true)
  | _ => ("ChangedBlocks", "content", "[I", true)
def tyX0 : Nat → FieldType := fun k => match k with
  | 0 => .array .int
  | 1 => .array .int
  | 2 => .array .int
  | 3 => .array .boolean
  | 4 => .array .int
  | 5 => .array .int
  | 6 => .array .int
  | 7 => .boolean
  | 8 => .array .int
  | 9 => .array .int
  | _ => .array .int
abbrev wsX00 : List Cond := u_ws RX0 TX0 11
theorem nmX0 : ∀ a, a < 11 → ∀ b, b < 11 → a ≠ b → (TX0 a).2.1 ≠ (TX0 b).2.1 := by decide +kernel
theorem tyX0_ok : ∀ k, k < 11 → parseFieldDescriptor (TX0 k).2.2.1 = some (tyX0 k) := by decide +kernel
abbrev cX0_init : ByteArray := prog_1_method_1_code
def yX0_init : MethodName := ⟨RX0, "<init>", "()V"⟩
abbrev cX0_write : ByteArray := prog_1_method_5_code
def yX0_write : MethodName := ⟨RX0, "write", "(II)I"⟩
abbrev cX0_store : ByteArray := prog_1_method_4_code
def yX0_store : MethodName := ⟨RX0, "store", "(II)V"⟩
abbrev cX0_copy : ByteArray := prog_1_method_6_code
def yX0_copy : MethodName := ⟨RX0, "copy", "(III)I"⟩
abbrev cX0_backup : ByteArray := prog_1_method_7_code
def yX0_backup : MethodName := ⟨RX0, "backup", "(I)I"⟩
abbrev cX0_badChain : ByteArray := prog_1_method_2_code
def yX0_badChain : MethodName := ⟨RX0, "badChain", "(I)Z"⟩
abbrev cX0_restore : ByteArray := prog_1_method_9_code
def yX0_restore : MethodName := ⟨RX0, "restore", "(II)I"⟩
abbrev cX0_noBackup : ByteArray := prog_1_method_3_code
def yX0_noBackup : MethodName := ⟨RX0, "noBackup", "(II)Z"⟩
abbrev cX0_blockOf : ByteArray := prog_1_method_8_code
def yX0_blockOf : MethodName := ⟨RX0, "blockOf", "(III)I"⟩
abbrev cX0_dropOldest : ByteArray := prog_1_method_10_code
def yX0_dropOldest : MethodName := ⟨RX0, "dropOldest", "(I)I"⟩
abbrev cX0_takeOut : ByteArray := prog_1_method_12_code
def yX0_takeOut : MethodName := ⟨RX0, "takeOut", "(II)I"⟩
abbrev cX0_moveImage : ByteArray := prog_1_method_13_code
def yX0_moveImage : MethodName := ⟨RX0, "moveImage", "(II)V"⟩
abbrev cX0_drop : ByteArray := prog_1_method_11_code
def yX0_drop : MethodName := ⟨RX0, "drop", "(II)I"⟩
abbrev cX0_restart : ByteArray := prog_1_method_14_code
def yX0_restart : MethodName := ⟨RX0, "restart", "()V"⟩
abbrev cX0_start : ByteArray := prog_1_method_16_code
def yX0_start : MethodName := ⟨RX0, "start", "()V"⟩
abbrev cX0_crash : ByteArray := prog_1_method_15_code
def yX0_crash : MethodName := ⟨RX0, "crash", "()V"⟩
abbrev cX0_read : ByteArray := prog_1_method_17_code
def yX0_read : MethodName := ⟨RX0, "read", "(I)I"⟩
abbrev cX0_readBackup : ByteArray := prog_1_method_18_code
def yX0_readBackup : MethodName := ⟨RX0, "readBackup", "(III)I"⟩
abbrev cX0_backups : ByteArray := prog_1_method_19_code
def yX0_backups : MethodName := ⟨RX0, "backups", "(I)I"⟩
abbrev cX0_changed : ByteArray := prog_1_method_20_code
def yX0_changed : MethodName := ⟨RX0, "changed", "(I)I"⟩
abbrev cX0_differ : ByteArray := prog_1_method_21_code
def yX0_differ : MethodName := ⟨RX0, "differ", "(III)I"⟩
theorem q10 : (Jvm.Cond.initialized "ChangedBlocks") ∈ lw_all := lw_g (lw_at lw_m0 1 rfl) rfl
theorem q13 : (Jvm.Cond.instantiable "ChangedBlocks" (11 : Nat)) ∈ lw_all := lw_g (lw_at lw_m0 4 rfl) rfl
theorem q15 : (Jvm.Cond.instanceMethod ({ cls := "ChangedBlocks", name := "<init>", desc := "()V" } : Jvm.MethodName)) ∈ lw_all := lw_g (lw_at lw_m0 6 rfl) rfl
theorem q16 : (Jvm.Cond.code ({ cls := "ChangedBlocks", name := "<init>", desc := "()V" } : Jvm.MethodName) prog_1_method_1_code (1 : Nat) (Option.none : Option Jvm.ClassFile.FieldType)) ∈ lw_all := lw_g (lw_at lw_m0 7 rfl) rfl
theorem q17 : (Jvm.Cond.methodLink "ChangedBlocks" (1 : Nat) ({ cls := "java/lang/Object", name := "<init>", desc := "()V" } : Jvm.MethodName)) ∈ lw_all := lw_g (lw_at lw_m0 8 rfl) rfl
theorem q20 : (Jvm.Cond.fieldLink "ChangedBlocks" (7 : Nat) "ChangedBlocks" "disk" "[I") ∈ lw_all := lw_g (lw_at lw_m0 11 rfl) rfl
theorem q21 : (Jvm.Cond.fieldLink "ChangedBlocks" (13 : Nat) "ChangedBlocks" "held" "[I") ∈ lw_all := lw_g (lw_at lw_m0 12 rfl) rfl
theorem q22 : (Jvm.Cond.fieldLink "ChangedBlocks" (16 : Nat) "ChangedBlocks" "dirty" "[I") ∈ lw_all := lw_g (lw_at lw_m0 13 rfl) rfl
theorem q23 : (Jvm.Cond.fieldLink "ChangedBlocks" (19 : Nat) "ChangedBlocks" "trusted" "[Z") ∈ lw_all := lw_g (lw_at lw_m0 14 rfl) rfl
theorem q24 : (Jvm.Cond.fieldLink "ChangedBlocks" (23 : Nat) "ChangedBlocks" "savedDirty" "[I") ∈ lw_all := lw_g (lw_at lw_m0 15 rfl) rfl
theorem q25 : (Jvm.Cond.fieldLink "ChangedBlocks" (26 : Nat) "ChangedBlocks" "savedGeneration" "[I") ∈ lw_all := lw_g (lw_at lw_m0 16 rfl) rfl
theorem q26 : (Jvm.Cond.fieldLink "ChangedBlocks" (29 : Nat) "ChangedBlocks" "generation" "[I") ∈ lw_all := lw_g (lw_at lw_m0 17 rfl) rfl
theorem q27 : (Jvm.Cond.fieldLink "ChangedBlocks" (41 : Nat) "ChangedBlocks" "clean" "Z") ∈ lw_all := lw_g (lw_at lw_m0 18 rfl) rfl
theorem q28 : (Jvm.Cond.fieldLink "ChangedBlocks" (32 : Nat) "ChangedBlocks" "images" "[I") ∈ lw_all := lw_g (lw_at lw_m0 19 rfl) rfl
theorem q29 : (Jvm.Cond.fieldLink "ChangedBlocks" (35 : Nat) "ChangedBlocks" "has" "[I") ∈ lw_all := lw_g (lw_at lw_m0 20 rfl) rfl
theorem q30 : (Jvm.Cond.fieldLink "ChangedBlocks" (38 : Nat) "ChangedBlocks" "content" "[I") ∈ lw_all := lw_g (lw_at lw_m0 21 rfl) rfl
theorem q31 : (Jvm.Cond.laysFinal "ChangedBlocks" "ChangedBlocks" "disk" "[I") ∈ lw_all := lw_g (lw_at lw_m0 22 rfl) rfl
theorem q32 : (Jvm.Cond.soleField "ChangedBlocks" "disk") ∈ lw_all := lw_g (lw_at lw_m0 23 rfl) rfl
theorem q33 : (Jvm.Cond.laysFinal "ChangedBlocks" "ChangedBlocks" "held" "[I") ∈ lw_all := lw_g (lw_at lw_m0 24 rfl) rfl
theorem q34 : (Jvm.Cond.soleField "ChangedBlocks" "held") ∈ lw_all := lw_g (lw_at lw_m0 25 rfl) rfl
theorem q35 : (Jvm.Cond.laysFinal "ChangedBlocks" "ChangedBlocks" "dirty" "[I") ∈ lw_all := lw_g (lw_at lw_m0 26 rfl) rfl
theorem q36 : (Jvm.Cond.soleField "ChangedBlocks" "dirty") ∈ lw_all := lw_g (lw_at lw_m0 27 rfl) rfl
theorem q37 : (Jvm.Cond.laysFinal "ChangedBlocks" "ChangedBlocks" "trusted" "[Z") ∈ lw_all := lw_g (lw_at lw_m0 28 rfl) rfl
theorem q38 : (Jvm.Cond.soleField "ChangedBlocks" "trusted") ∈ lw_all := lw_g (lw_at lw_m0 29 rfl) rfl
theorem q39 : (Jvm.Cond.laysFinal "ChangedBlocks" "ChangedBlocks" "savedDirty" "[I") ∈ lw_all := lw_g (lw_at lw_m0 30 rfl) rfl
theorem q40 : (Jvm.Cond.soleField "ChangedBlocks" "savedDirty") ∈ lw_all := lw_g (lw_at lw_m0 31 rfl) rfl
theorem q41 : (Jvm.Cond.laysFinal "ChangedBlocks" "ChangedBlocks" "savedGeneration" "[I") ∈ lw_all := lw_g (lw_at lw_m0 32 rfl) rfl
theorem q42 : (Jvm.Cond.soleField "ChangedBlocks" "savedGeneration") ∈ lw_all := lw_g (lw_at lw_m0 33 rfl) rfl
theorem q43 : (Jvm.Cond.laysFinal "ChangedBlocks" "ChangedBlocks" "generation" "[I") ∈ lw_all := lw_g (lw_at lw_m0 34 rfl) rfl
theorem q44 : (Jvm.Cond.soleField "ChangedBlocks" "generation") ∈ lw_all := lw_g (lw_at lw_m0 35 rfl) rfl
theorem q45 : (Jvm.Cond.lays "ChangedBlocks" "ChangedBlocks" "clean" "Z") ∈ lw_all := lw_g (lw_at lw_m0 36 rfl) rfl
theorem q46 : (Jvm.Cond.soleField "ChangedBlocks" "clean") ∈ lw_all := lw_g (lw_at lw_m0 37 rfl) rfl
theorem q47 : (Jvm.Cond.laysFinal "ChangedBlocks" "ChangedBlocks" "images" "[I") ∈ lw_all := lw_g (lw_at lw_m0 38 rfl) rfl
theorem q48 : (Jvm.Cond.soleField "ChangedBlocks" "images") ∈ lw_all := lw_g (lw_at lw_m0 39 rfl) rfl
theorem q49 : (Jvm.Cond.laysFinal "ChangedBlocks" "ChangedBlocks" "has" "[I") ∈ lw_all := lw_g (lw_at lw_m0 40 rfl) rfl
theorem q50 : (Jvm.Cond.soleField "ChangedBlocks" "has") ∈ lw_all := lw_g (lw_at lw_m0 41 rfl) rfl
theorem q51 : (Jvm.Cond.laysFinal "ChangedBlocks" "ChangedBlocks" "content" "[I") ∈ lw_all := lw_g (lw_at lw_m0 42 rfl) rfl
theorem q52 : (Jvm.Cond.soleField "ChangedBlocks" "content") ∈ lw_all := lw_g (lw_at lw_m0 43 rfl) rfl
theorem q53 : (Jvm.Cond.superclass "ChangedBlocks" "java/lang/Object") ∈ lw_all := lw_g (lw_at lw_m0 44 rfl) rfl
theorem q57 : (Jvm.Cond.instanceMethod ({ cls := "ChangedBlocks", name := "write", desc := "(II)I" } : Jvm.MethodName)) ∈ lw_all := lw_g (lw_at lw_m0 48 rfl) rfl
theorem q58 : (Jvm.Cond.selects "ChangedBlocks" ({ cls := "ChangedBlocks", name := "write", desc := "(II)I" } : Jvm.MethodName) ({ cls := "ChangedBlocks", name := "write", desc := "(II)I" } : Jvm.MethodName)) ∈ lw_all := lw_g (lw_at lw_m0 49 rfl) rfl
theorem q59 : (Jvm.Cond.code ({ cls := "ChangedBlocks", name := "write", desc := "(II)I" } : Jvm.MethodName) prog_1_method_5_code (3 : Nat) (Option.some Jvm.ClassFile.FieldType.int)) ∈ lw_all := lw_g (lw_at lw_m0 50 rfl) rfl
theorem q60 : (Jvm.Cond.methodLink "ChangedBlocks" (45 : Nat) ({ cls := "ChangedBlocks", name := "store", desc := "(II)V" } : Jvm.MethodName)) ∈ lw_all := lw_g (lw_at lw_m0 51 rfl) rfl
theorem q61 : (Jvm.Cond.privateMethod ({ cls := "ChangedBlocks", name := "store", desc := "(II)V" } : Jvm.MethodName)) ∈ lw_tbl := lw_at lw_m0 52 rfl
theorem q62 : (Jvm.Cond.instanceMethod ({ cls := "ChangedBlocks", name := "store", desc := "(II)V" } : Jvm.MethodName)) ∈ lw_all := lw_g (lw_at lw_m0 53 rfl) rfl
theorem q63 : (Jvm.Cond.code ({ cls := "ChangedBlocks", name := "store", desc := "(II)V" } : Jvm.MethodName) prog_1_method_4_code (4 : Nat) (Option.none : Option Jvm.ClassFile.FieldType)) ∈ lw_all := lw_g (lw_at lw_m0 54 rfl) rfl
theorem q65 : (Jvm.Cond.instanceMethod ({ cls := "ChangedBlocks", name := "copy", desc := "(III)I" } : Jvm.MethodName)) ∈ lw_all := lw_g (lw_at lw_m0 56 rfl) rfl
theorem q66 : (Jvm.Cond.selects "ChangedBlocks" ({ cls := "ChangedBlocks", name := "copy", desc := "(III)I" } : Jvm.MethodName) ({ cls := "ChangedBlocks", name := "copy", desc := "(III)I" } : Jvm.MethodName)) ∈ lw_all := lw_g (lw_at lw_m0 57 rfl) rfl
theorem q67 : (Jvm.Cond.code ({ cls := "ChangedBlocks", name := "copy", desc := "(III)I" } : Jvm.MethodName) prog_1_method_6_code (6 : Nat) (Option.some Jvm.ClassFile.FieldType.int)) ∈ lw_all := lw_g (lw_at lw_m0 58 rfl) rfl
theorem q69 : (Jvm.Cond.instanceMethod ({ cls := "ChangedBlocks", name := "backup", desc := "(I)I" } : Jvm.MethodName)) ∈ lw_all := lw_g (lw_at lw_m0 60 rfl) rfl
theorem q70 : (Jvm.Cond.selects "ChangedBlocks" ({ cls := "ChangedBlocks", name := "backup", desc := "(I)I" } : Jvm.MethodName) ({ cls := "ChangedBlocks", name := "backup", desc := "(I)I" } : Jvm.MethodName)) ∈ lw_all := lw_g (lw_at lw_m0 61 rfl) rfl
theorem q71 : (Jvm.Cond.code ({ cls := "ChangedBlocks", name := "backup", desc := "(I)I" } : Jvm.MethodName) prog_1_method_7_code (6 : Nat) (Option.some Jvm.ClassFile.FieldType.int)) ∈ lw_all := lw_g (lw_at lw_m0 62 rfl) rfl
theorem q72 : (Jvm.Cond.methodLink "ChangedBlocks" (49 : Nat) ({ cls := "ChangedBlocks", name := "badChain", desc := "(I)Z" } : Jvm.MethodName)) ∈ lw_all := lw_g (lw_at lw_m0 63 rfl) rfl
theorem q73 : (Jvm.Cond.static ({ cls := "ChangedBlocks", name := "badChain", desc := "(I)Z" } : Jvm.MethodName)) ∈ lw_all := lw_g (lw_at lw_m0 64 rfl) rfl
theorem q74 : (Jvm.Cond.code ({ cls := "ChangedBlocks", name := "badChain", desc := "(I)Z" } : Jvm.MethodName) prog_1_method_2_code (1 : Nat) (Option.some Jvm.ClassFile.FieldType.boolean)) ∈ lw_all := lw_g (lw_at lw_m0 65 rfl) rfl
theorem q75 : (Jvm.Cond.constant "ChangedBlocks" (53 : Nat) (65535 : Int32)) ∈ lw_all := lw_g (lw_at lw_m0 66 rfl) rfl
theorem q77 : (Jvm.Cond.instanceMethod ({ cls := "ChangedBlocks", name := "restore", desc := "(II)I" } : Jvm.MethodName)) ∈ lw_all := lw_g (lw_at lw_m0 68 rfl) rfl
theorem q78 : (Jvm.Cond.selects "ChangedBlocks" ({ cls := "ChangedBlocks", name := "restore", desc := "(II)I" } : Jvm.MethodName) ({ cls := "ChangedBlocks", name := "restore", desc := "(II)I" } : Jvm.MethodName)) ∈ lw_all := lw_g (lw_at lw_m0 69 rfl) rfl
theorem q79 : (Jvm.Cond.code ({ cls := "ChangedBlocks", name := "restore", desc := "(II)I" } : Jvm.MethodName) prog_1_method_9_code (6 : Nat) (Option.some Jvm.ClassFile.FieldType.int)) ∈ lw_all := lw_g (lw_at lw_m0 70 rfl) rfl
theorem q80 : (Jvm.Cond.methodLink "ChangedBlocks" (54 : Nat) ({ cls := "ChangedBlocks", name := "noBackup", desc := "(II)Z" } : Jvm.MethodName)) ∈ lw_all := lw_g (lw_at lw_m0 71 rfl) rfl
theorem q81 : (Jvm.Cond.privateMethod ({ cls := "ChangedBlocks", name := "noBackup", desc := "(II)Z" } : Jvm.MethodName)) ∈ lw_tbl := lw_at lw_m0 72 rfl
theorem q82 : (Jvm.Cond.instanceMethod ({ cls := "ChangedBlocks", name := "noBackup", desc := "(II)Z" } : Jvm.MethodName)) ∈ lw_all := lw_g (lw_at lw_m0 73 rfl) rfl
theorem q83 : (Jvm.Cond.code ({ cls := "ChangedBlocks", name := "noBackup", desc := "(II)Z" } : Jvm.MethodName) prog_1_method_3_code (3 : Nat) (Option.some Jvm.ClassFile.FieldType.boolean)) ∈ lw_all := lw_g (lw_at lw_m0 74 rfl) rfl
theorem q84 : (Jvm.Cond.methodLink "ChangedBlocks" (58 : Nat) ({ cls := "ChangedBlocks", name := "blockOf", desc := "(III)I" } : Jvm.MethodName)) ∈ lw_all := lw_g (lw_at lw_m0 75 rfl) rfl
theorem q85 : (Jvm.Cond.privateMethod ({ cls := "ChangedBlocks", name := "blockOf", desc := "(III)I" } : Jvm.MethodName)) ∈ lw_tbl := lw_at lw_m0 76 rfl
theorem q86 : (Jvm.Cond.instanceMethod ({ cls := "ChangedBlocks", name := "blockOf", desc := "(III)I" } : Jvm.MethodName)) ∈ lw_all := lw_g (lw_at lw_m0 77 rfl) rfl
theorem q87 : (Jvm.Cond.code ({ cls := "ChangedBlocks", name := "blockOf", desc := "(III)I" } : Jvm.MethodName) prog_1_method_8_code (5 : Nat) (Option.some Jvm.ClassFile.FieldType.int)) ∈ lw_all := lw_g (lw_at lw_m0 78 rfl) rfl
theorem q89 : (Jvm.Cond.instanceMethod ({ cls := "ChangedBlocks", name := "dropOldest", desc := "(I)I" } : Jvm.MethodName)) ∈ lw_all := lw_g (lw_at lw_m0 80 rfl) rfl
theorem q90 : (Jvm.Cond.selects "ChangedBlocks" ({ cls := "ChangedBlocks", name := "dropOldest", desc := "(I)I" } : Jvm.MethodName) ({ cls := "ChangedBlocks", name := "dropOldest", desc := "(I)I" } : Jvm.MethodName)) ∈ lw_all := lw_g (lw_at lw_m0 81 rfl) rfl
theorem q91 : (Jvm.Cond.code ({ cls := "ChangedBlocks", name := "dropOldest", desc := "(I)I" } : Jvm.MethodName) prog_1_method_10_code (2 : Nat) (Option.some Jvm.ClassFile.FieldType.int)) ∈ lw_all := lw_g (lw_at lw_m0 82 rfl) rfl
theorem q92 : (Jvm.Cond.methodLink "ChangedBlocks" (62 : Nat) ({ cls := "ChangedBlocks", name := "takeOut", desc := "(II)I" } : Jvm.MethodName)) ∈ lw_all := lw_g (lw_at lw_m0 83 rfl) rfl
theorem q93 : (Jvm.Cond.privateMethod ({ cls := "ChangedBlocks", name := "takeOut", desc := "(II)I" } : Jvm.MethodName)) ∈ lw_tbl := lw_at lw_m0 84 rfl
theorem q94 : (Jvm.Cond.instanceMethod ({ cls := "ChangedBlocks", name := "takeOut", desc := "(II)I" } : Jvm.MethodName)) ∈ lw_all := lw_g (lw_at lw_m0 85 rfl) rfl
theorem q95 : (Jvm.Cond.code ({ cls := "ChangedBlocks", name := "takeOut", desc := "(II)I" } : Jvm.MethodName) prog_1_method_12_code (7 : Nat) (Option.some Jvm.ClassFile.FieldType.int)) ∈ lw_all := lw_g (lw_at lw_m0 86 rfl) rfl
theorem q96 : (Jvm.Cond.methodLink "ChangedBlocks" (66 : Nat) ({ cls := "ChangedBlocks", name := "moveImage", desc := "(II)V" } : Jvm.MethodName)) ∈ lw_all := lw_g (lw_at lw_m0 87 rfl) rfl
theorem q97 : (Jvm.Cond.privateMethod ({ cls := "ChangedBlocks", name := "moveImage", desc := "(II)V" } : Jvm.MethodName)) ∈ lw_tbl := lw_at lw_m0 88 rfl
theorem q98 : (Jvm.Cond.instanceMethod ({ cls := "ChangedBlocks", name := "moveImage", desc := "(II)V" } : Jvm.MethodName)) ∈ lw_all := lw_g (lw_at lw_m0 89 rfl) rfl
theorem q99 : (Jvm.Cond.code ({ cls := "ChangedBlocks", name := "moveImage", desc := "(II)V" } : Jvm.MethodName) prog_1_method_13_code (4 : Nat) (Option.none : Option Jvm.ClassFile.FieldType)) ∈ lw_all := lw_g (lw_at lw_m0 90 rfl) rfl
theorem q101 : (Jvm.Cond.instanceMethod ({ cls := "ChangedBlocks", name := "drop", desc := "(II)I" } : Jvm.MethodName)) ∈ lw_all := lw_g (lw_at lw_m0 92 rfl) rfl
theorem q102 : (Jvm.Cond.selects "ChangedBlocks" ({ cls := "ChangedBlocks", name := "drop", desc := "(II)I" } : Jvm.MethodName) ({ cls := "ChangedBlocks", name := "drop", desc := "(II)I" } : Jvm.MethodName)) ∈ lw_all := lw_g (lw_at lw_m0 93 rfl) rfl
theorem q103 : (Jvm.Cond.code ({ cls := "ChangedBlocks", name := "drop", desc := "(II)I" } : Jvm.MethodName) prog_1_method_11_code (3 : Nat) (Option.some Jvm.ClassFile.FieldType.int)) ∈ lw_all := lw_g (lw_at lw_m0 94 rfl) rfl
theorem q105 : (Jvm.Cond.instanceMethod ({ cls := "ChangedBlocks", name := "restart", desc := "()V" } : Jvm.MethodName)) ∈ lw_all := lw_g (lw_at lw_m0 96 rfl) rfl
theorem q106 : (Jvm.Cond.selects "ChangedBlocks" ({ cls := "ChangedBlocks", name := "restart", desc := "()V" } : Jvm.MethodName) ({ cls := "ChangedBlocks", name := "restart", desc := "()V" } : Jvm.MethodName)) ∈ lw_all := lw_g (lw_at lw_m0 97 rfl) rfl
theorem q107 : (Jvm.Cond.code ({ cls := "ChangedBlocks", name := "restart", desc := "()V" } : Jvm.MethodName) prog_1_method_14_code (2 : Nat) (Option.none : Option Jvm.ClassFile.FieldType)) ∈ lw_all := lw_g (lw_at lw_m0 98 rfl) rfl
theorem q108 : (Jvm.Cond.methodLink "ChangedBlocks" (69 : Nat) ({ cls := "ChangedBlocks", name := "start", desc := "()V" } : Jvm.MethodName)) ∈ lw_all := lw_g (lw_at lw_m0 99 rfl) rfl
theorem q109 : (Jvm.Cond.privateMethod ({ cls := "ChangedBlocks", name := "start", desc := "()V" } : Jvm.MethodName)) ∈ lw_tbl := lw_at lw_m0 100 rfl
theorem q110 : (Jvm.Cond.instanceMethod ({ cls := "ChangedBlocks", name := "start", desc := "()V" } : Jvm.MethodName)) ∈ lw_all := lw_g (lw_at lw_m0 101 rfl) rfl
theorem q111 : (Jvm.Cond.code ({ cls := "ChangedBlocks", name := "start", desc := "()V" } : Jvm.MethodName) prog_1_method_16_code (3 : Nat) (Option.none : Option Jvm.ClassFile.FieldType)) ∈ lw_all := lw_g (lw_at lw_m0 102 rfl) rfl
theorem q113 : (Jvm.Cond.instanceMethod ({ cls := "ChangedBlocks", name := "crash", desc := "()V" } : Jvm.MethodName)) ∈ lw_all := lw_g (lw_at lw_m0 104 rfl) rfl
theorem q114 : (Jvm.Cond.selects "ChangedBlocks" ({ cls := "ChangedBlocks", name := "crash", desc := "()V" } : Jvm.MethodName) ({ cls := "ChangedBlocks", name := "crash", desc := "()V" } : Jvm.MethodName)) ∈ lw_all := lw_g (lw_at lw_m0 105 rfl) rfl
theorem q115 : (Jvm.Cond.code ({ cls := "ChangedBlocks", name := "crash", desc := "()V" } : Jvm.MethodName) prog_1_method_15_code (1 : Nat) (Option.none : Option Jvm.ClassFile.FieldType)) ∈ lw_all := lw_g (lw_at lw_m0 106 rfl) rfl
theorem q117 : (Jvm.Cond.instanceMethod ({ cls := "ChangedBlocks", name := "read", desc := "(I)I" } : Jvm.MethodName)) ∈ lw_all := lw_g (lw_at lw_m0 108 rfl) rfl
theorem q118 : (Jvm.Cond.selects "ChangedBlocks" ({ cls := "ChangedBlocks", name := "read", desc := "(I)I" } : Jvm.MethodName) ({ cls := "ChangedBlocks", name := "read", desc := "(I)I" } : Jvm.MethodName)) ∈ lw_all := lw_g (lw_at lw_m0 109 rfl) rfl
theorem q119 : (Jvm.Cond.code ({ cls := "ChangedBlocks", name := "read", desc := "(I)I" } : Jvm.MethodName) prog_1_method_17_code (2 : Nat) (Option.some Jvm.ClassFile.FieldType.int)) ∈ lw_all := lw_g (lw_at lw_m0 110 rfl) rfl
theorem q121 : (Jvm.Cond.instanceMethod ({ cls := "ChangedBlocks", name := "readBackup", desc := "(III)I" } : Jvm.MethodName)) ∈ lw_all := lw_g (lw_at lw_m0 112 rfl) rfl
theorem q122 : (Jvm.Cond.selects "ChangedBlocks" ({ cls := "ChangedBlocks", name := "readBackup", desc := "(III)I" } : Jvm.MethodName) ({ cls := "ChangedBlocks", name := "readBackup", desc := "(III)I" } : Jvm.MethodName)) ∈ lw_all := lw_g (lw_at lw_m0 113 rfl) rfl
theorem q123 : (Jvm.Cond.code ({ cls := "ChangedBlocks", name := "readBackup", desc := "(III)I" } : Jvm.MethodName) prog_1_method_18_code (4 : Nat) (Option.some Jvm.ClassFile.FieldType.int)) ∈ lw_all := lw_g (lw_at lw_m0 114 rfl) rfl
theorem q125 : (Jvm.Cond.instanceMethod ({ cls := "ChangedBlocks", name := "backups", desc := "(I)I" } : Jvm.MethodName)) ∈ lw_all := lw_g (lw_at lw_m0 116 rfl) rfl
theorem q126 : (Jvm.Cond.selects "ChangedBlocks" ({ cls := "ChangedBlocks", name := "backups", desc := "(I)I" } : Jvm.MethodName) ({ cls := "ChangedBlocks", name := "backups", desc := "(I)I" } : Jvm.MethodName)) ∈ lw_all := lw_g (lw_at lw_m0 117 rfl) rfl
theorem q127 : (Jvm.Cond.code ({ cls := "ChangedBlocks", name := "backups", desc := "(I)I" } : Jvm.MethodName) prog_1_method_19_code (2 : Nat) (Option.some Jvm.ClassFile.FieldType.int)) ∈ lw_all := lw_g (lw_at lw_m0 118 rfl) rfl
theorem q129 : (Jvm.Cond.instanceMethod ({ cls := "ChangedBlocks", name := "changed", desc := "(I)I" } : Jvm.MethodName)) ∈ lw_all := lw_g (lw_at lw_m0 120 rfl) rfl
theorem q130 : (Jvm.Cond.selects "ChangedBlocks" ({ cls := "ChangedBlocks", name := "changed", desc := "(I)I" } : Jvm.MethodName) ({ cls := "ChangedBlocks", name := "changed", desc := "(I)I" } : Jvm.MethodName)) ∈ lw_all := lw_g (lw_at lw_m0 121 rfl) rfl
theorem q131 : (Jvm.Cond.code ({ cls := "ChangedBlocks", name := "changed", desc := "(I)I" } : Jvm.MethodName) prog_1_method_20_code (7 : Nat) (Option.some Jvm.ClassFile.FieldType.int)) ∈ lw_all := lw_g (lw_at lw_m0 122 rfl) rfl
theorem q133 : (Jvm.Cond.instanceMethod ({ cls := "ChangedBlocks", name := "differ", desc := "(III)I" } : Jvm.MethodName)) ∈ lw_all := lw_g (lw_at lw_m0 124 rfl) rfl
theorem q134 : (Jvm.Cond.selects "ChangedBlocks" ({ cls := "ChangedBlocks", name := "differ", desc := "(III)I" } : Jvm.MethodName) ({ cls := "ChangedBlocks", name := "differ", desc := "(III)I" } : Jvm.MethodName)) ∈ lw_all := lw_g (lw_at lw_m0 125 rfl) rfl
theorem q135 : (Jvm.Cond.code ({ cls := "ChangedBlocks", name := "differ", desc := "(III)I" } : Jvm.MethodName) prog_1_method_21_code (11 : Nat) (Option.some Jvm.ClassFile.FieldType.int)) ∈ lw_all := lw_g (lw_at lw_m0 126 rfl) rfl
theorem in_X0 : ∀ w ∈ wsX00, w ∈ lw_all := lw_in wsX00 [31, 33, 35, 37, 39, 41, 43, 45, 47, 49, 51] (by decide +kernel) (by decide +kernel)
/-! ChangedBlocksModel -/
def RX1 : String := "ChangedBlocksModel"
def TX1 : u_T := fun k => match k with
  | 0 => ("ChangedBlocksModel", "disk", "[I", true)
  | 1 => ("ChangedBlocksModel", "work", "[I", true)
  | 2 => ("ChangedBlocksModel", "counts", "[I", true)
  | _ => ("ChangedBlocksModel", "kept", "[I", true)
def tyX1 : Nat → FieldType := fun k => match k with
  | 0 => .array .int
  | 1 => .array .int
  | 2 => .array .int
  | _ => .array .int
abbrev wsX10 : List Cond := u_ws RX1 TX1 4
theorem nmX1 : ∀ a, a < 4 → ∀ b, b < 4 → a ≠ b → (TX1 a).2.1 ≠ (TX1 b).2.1 := by decide +kernel
theorem tyX1_ok : ∀ k, k < 4 → parseFieldDescriptor (TX1 k).2.2.1 = some (tyX1 k) := by decide +kernel
abbrev cX1_init : ByteArray := prog_3_method_1_code
def yX1_init : MethodName := ⟨RX1, "<init>", "()V"⟩
abbrev cX1_write : ByteArray := prog_3_method_4_code
def yX1_write : MethodName := ⟨RX1, "write", "(II)I"⟩
abbrev cX1_copy : ByteArray := prog_3_method_5_code
def yX1_copy : MethodName := ⟨RX1, "copy", "(III)I"⟩
abbrev cX1_backup : ByteArray := prog_3_method_6_code
def yX1_backup : MethodName := ⟨RX1, "backup", "(I)I"⟩
abbrev cX1_badChain : ByteArray := prog_3_method_2_code
def yX1_badChain : MethodName := ⟨RX1, "badChain", "(I)Z"⟩
abbrev cX1_restore : ByteArray := prog_3_method_8_code
def yX1_restore : MethodName := ⟨RX1, "restore", "(II)I"⟩
abbrev cX1_none : ByteArray := prog_3_method_3_code
def yX1_none : MethodName := ⟨RX1, "none", "(II)Z"⟩
abbrev cX1_against : ByteArray := prog_3_method_7_code
def yX1_against : MethodName := ⟨RX1, "against", "(II)I"⟩
abbrev cX1_dropOldest : ByteArray := prog_3_method_9_code
def yX1_dropOldest : MethodName := ⟨RX1, "dropOldest", "(I)I"⟩
abbrev cX1_drop : ByteArray := prog_3_method_10_code
def yX1_drop : MethodName := ⟨RX1, "drop", "(II)I"⟩
abbrev cX1_restart : ByteArray := prog_3_method_11_code
def yX1_restart : MethodName := ⟨RX1, "restart", "()V"⟩
abbrev cX1_crash : ByteArray := prog_3_method_12_code
def yX1_crash : MethodName := ⟨RX1, "crash", "()V"⟩
abbrev cX1_read : ByteArray := prog_3_method_13_code
def yX1_read : MethodName := ⟨RX1, "read", "(I)I"⟩
abbrev cX1_readBackup : ByteArray := prog_3_method_14_code
def yX1_readBackup : MethodName := ⟨RX1, "readBackup", "(III)I"⟩
abbrev cX1_backups : ByteArray := prog_3_method_15_code
def yX1_backups : MethodName := ⟨RX1, "backups", "(I)I"⟩
abbrev cX1_changed : ByteArray := prog_3_method_16_code
def yX1_changed : MethodName := ⟨RX1, "changed", "(I)I"⟩
abbrev cX1_differ : ByteArray := prog_3_method_17_code
def yX1_differ : MethodName := ⟨RX1, "differ", "(III)I"⟩
theorem q11 : (Jvm.Cond.initialized "ChangedBlocksModel") ∈ lw_all := lw_g (lw_at lw_m0 2 rfl) rfl
theorem q137 : (Jvm.Cond.instantiable "ChangedBlocksModel" (4 : Nat)) ∈ lw_all := lw_g (lw_at lw_m0 128 rfl) rfl
theorem q139 : (Jvm.Cond.instanceMethod ({ cls := "ChangedBlocksModel", name := "<init>", desc := "()V" } : Jvm.MethodName)) ∈ lw_all := lw_g (lw_at lw_m0 130 rfl) rfl
theorem q140 : (Jvm.Cond.code ({ cls := "ChangedBlocksModel", name := "<init>", desc := "()V" } : Jvm.MethodName) prog_3_method_1_code (1 : Nat) (Option.none : Option Jvm.ClassFile.FieldType)) ∈ lw_all := lw_g (lw_at lw_m0 131 rfl) rfl
theorem q141 : (Jvm.Cond.methodLink "ChangedBlocksModel" (1 : Nat) ({ cls := "java/lang/Object", name := "<init>", desc := "()V" } : Jvm.MethodName)) ∈ lw_all := lw_g (lw_at lw_m0 132 rfl) rfl
theorem q142 : (Jvm.Cond.fieldLink "ChangedBlocksModel" (7 : Nat) "ChangedBlocksModel" "disk" "[I") ∈ lw_all := lw_g (lw_at lw_m0 133 rfl) rfl
theorem q143 : (Jvm.Cond.fieldLink "ChangedBlocksModel" (13 : Nat) "ChangedBlocksModel" "work" "[I") ∈ lw_all := lw_g (lw_at lw_m0 134 rfl) rfl
theorem q144 : (Jvm.Cond.fieldLink "ChangedBlocksModel" (16 : Nat) "ChangedBlocksModel" "counts" "[I") ∈ lw_all := lw_g (lw_at lw_m0 135 rfl) rfl
theorem q145 : (Jvm.Cond.fieldLink "ChangedBlocksModel" (19 : Nat) "ChangedBlocksModel" "kept" "[I") ∈ lw_all := lw_g (lw_at lw_m0 136 rfl) rfl
theorem q146 : (Jvm.Cond.laysFinal "ChangedBlocksModel" "ChangedBlocksModel" "disk" "[I") ∈ lw_all := lw_g (lw_at lw_m0 137 rfl) rfl
theorem q147 : (Jvm.Cond.soleField "ChangedBlocksModel" "disk") ∈ lw_all := lw_g (lw_at lw_m0 138 rfl) rfl
theorem q148 : (Jvm.Cond.laysFinal "ChangedBlocksModel" "ChangedBlocksModel" "work" "[I") ∈ lw_all := lw_g (lw_at lw_m0 139 rfl) rfl
theorem q149 : (Jvm.Cond.soleField "ChangedBlocksModel" "work") ∈ lw_all := lw_g (lw_at lw_m0 140 rfl) rfl
theorem q150 : (Jvm.Cond.laysFinal "ChangedBlocksModel" "ChangedBlocksModel" "counts" "[I") ∈ lw_all := lw_g (lw_at lw_m0 141 rfl) rfl
theorem q151 : (Jvm.Cond.soleField "ChangedBlocksModel" "counts") ∈ lw_all := lw_g (lw_at lw_m0 142 rfl) rfl
theorem q152 : (Jvm.Cond.laysFinal "ChangedBlocksModel" "ChangedBlocksModel" "kept" "[I") ∈ lw_all := lw_g (lw_at lw_m0 143 rfl) rfl
theorem q153 : (Jvm.Cond.soleField "ChangedBlocksModel" "kept") ∈ lw_all := lw_g (lw_at lw_m0 144 rfl) rfl
theorem q154 : (Jvm.Cond.superclass "ChangedBlocksModel" "java/lang/Object") ∈ lw_all := lw_g (lw_at lw_m0 145 rfl) rfl
theorem q156 : (Jvm.Cond.instanceMethod ({ cls := "ChangedBlocksModel", name := "write", desc := "(II)I" } : Jvm.MethodName)) ∈ lw_all := lw_g (lw_at lw_m0 147 rfl) rfl
theorem q157 : (Jvm.Cond.selects "ChangedBlocksModel" ({ cls := "ChangedBlocksModel", name := "write", desc := "(II)I" } : Jvm.MethodName) ({ cls := "ChangedBlocksModel", name := "write", desc := "(II)I" } : Jvm.MethodName)) ∈ lw_all := lw_g (lw_at lw_m0 148 rfl) rfl
theorem q158 : (Jvm.Cond.code ({ cls := "ChangedBlocksModel", name := "write", desc := "(II)I" } : Jvm.MethodName) prog_3_method_4_code (3 : Nat) (Option.some Jvm.ClassFile.FieldType.int)) ∈ lw_all := lw_g (lw_at lw_m0 149 rfl) rfl
theorem q160 : (Jvm.Cond.instanceMethod ({ cls := "ChangedBlocksModel", name := "copy", desc := "(III)I" } : Jvm.MethodName)) ∈ lw_all := lw_g (lw_at lw_m0 151 rfl) rfl
theorem q161 : (Jvm.Cond.selects "ChangedBlocksModel" ({ cls := "ChangedBlocksModel", name := "copy", desc := "(III)I" } : Jvm.MethodName) ({ cls := "ChangedBlocksModel", name := "copy", desc := "(III)I" } : Jvm.MethodName)) ∈ lw_all := lw_g (lw_at lw_m0 152 rfl) rfl
theorem q162 : (Jvm.Cond.code ({ cls := "ChangedBlocksModel", name := "copy", desc := "(III)I" } : Jvm.MethodName) prog_3_method_5_code (6 : Nat) (Option.some Jvm.ClassFile.FieldType.int)) ∈ lw_all := lw_g (lw_at lw_m0 153 rfl) rfl
theorem q164 : (Jvm.Cond.instanceMethod ({ cls := "ChangedBlocksModel", name := "backup", desc := "(I)I" } : Jvm.MethodName)) ∈ lw_all := lw_g (lw_at lw_m0 155 rfl) rfl
theorem q165 : (Jvm.Cond.selects "ChangedBlocksModel" ({ cls := "ChangedBlocksModel", name := "backup", desc := "(I)I" } : Jvm.MethodName) ({ cls := "ChangedBlocksModel", name := "backup", desc := "(I)I" } : Jvm.MethodName)) ∈ lw_all := lw_g (lw_at lw_m0 156 rfl) rfl
theorem q166 : (Jvm.Cond.code ({ cls := "ChangedBlocksModel", name := "backup", desc := "(I)I" } : Jvm.MethodName) prog_3_method_6_code (4 : Nat) (Option.some Jvm.ClassFile.FieldType.int)) ∈ lw_all := lw_g (lw_at lw_m0 157 rfl) rfl
theorem q167 : (Jvm.Cond.methodLink "ChangedBlocksModel" (22 : Nat) ({ cls := "ChangedBlocksModel", name := "badChain", desc := "(I)Z" } : Jvm.MethodName)) ∈ lw_all := lw_g (lw_at lw_m0 158 rfl) rfl
theorem q168 : (Jvm.Cond.privateMethod ({ cls := "ChangedBlocksModel", name := "badChain", desc := "(I)Z" } : Jvm.MethodName)) ∈ lw_tbl := lw_at lw_m0 159 rfl
theorem q169 : (Jvm.Cond.instanceMethod ({ cls := "ChangedBlocksModel", name := "badChain", desc := "(I)Z" } : Jvm.MethodName)) ∈ lw_all := lw_g (lw_at lw_m0 160 rfl) rfl
theorem q170 : (Jvm.Cond.code ({ cls := "ChangedBlocksModel", name := "badChain", desc := "(I)Z" } : Jvm.MethodName) prog_3_method_2_code (2 : Nat) (Option.some Jvm.ClassFile.FieldType.boolean)) ∈ lw_all := lw_g (lw_at lw_m0 161 rfl) rfl
theorem q172 : (Jvm.Cond.instanceMethod ({ cls := "ChangedBlocksModel", name := "restore", desc := "(II)I" } : Jvm.MethodName)) ∈ lw_all := lw_g (lw_at lw_m0 163 rfl) rfl
theorem q173 : (Jvm.Cond.selects "ChangedBlocksModel" ({ cls := "ChangedBlocksModel", name := "restore", desc := "(II)I" } : Jvm.MethodName) ({ cls := "ChangedBlocksModel", name := "restore", desc := "(II)I" } : Jvm.MethodName)) ∈ lw_all := lw_g (lw_at lw_m0 164 rfl) rfl
theorem q174 : (Jvm.Cond.code ({ cls := "ChangedBlocksModel", name := "restore", desc := "(II)I" } : Jvm.MethodName) prog_3_method_8_code (5 : Nat) (Option.some Jvm.ClassFile.FieldType.int)) ∈ lw_all := lw_g (lw_at lw_m0 165 rfl) rfl
theorem q175 : (Jvm.Cond.methodLink "ChangedBlocksModel" (26 : Nat) ({ cls := "ChangedBlocksModel", name := "none", desc := "(II)Z" } : Jvm.MethodName)) ∈ lw_all := lw_g (lw_at lw_m0 166 rfl) rfl
theorem q176 : (Jvm.Cond.privateMethod ({ cls := "ChangedBlocksModel", name := "none", desc := "(II)Z" } : Jvm.MethodName)) ∈ lw_tbl := lw_at lw_m0 167 rfl
theorem q177 : (Jvm.Cond.instanceMethod ({ cls := "ChangedBlocksModel", name := "none", desc := "(II)Z" } : Jvm.MethodName)) ∈ lw_all := lw_g (lw_at lw_m0 168 rfl) rfl
theorem q178 : (Jvm.Cond.code ({ cls := "ChangedBlocksModel", name := "none", desc := "(II)Z" } : Jvm.MethodName) prog_3_method_3_code (3 : Nat) (Option.some Jvm.ClassFile.FieldType.boolean)) ∈ lw_all := lw_g (lw_at lw_m0 169 rfl) rfl
theorem q179 : (Jvm.Cond.methodLink "ChangedBlocksModel" (30 : Nat) ({ cls := "ChangedBlocksModel", name := "against", desc := "(II)I" } : Jvm.MethodName)) ∈ lw_all := lw_g (lw_at lw_m0 170 rfl) rfl
theorem q180 : (Jvm.Cond.privateMethod ({ cls := "ChangedBlocksModel", name := "against", desc := "(II)I" } : Jvm.MethodName)) ∈ lw_tbl := lw_at lw_m0 171 rfl
theorem q181 : (Jvm.Cond.instanceMethod ({ cls := "ChangedBlocksModel", name := "against", desc := "(II)I" } : Jvm.MethodName)) ∈ lw_all := lw_g (lw_at lw_m0 172 rfl) rfl
theorem q182 : (Jvm.Cond.code ({ cls := "ChangedBlocksModel", name := "against", desc := "(II)I" } : Jvm.MethodName) prog_3_method_7_code (5 : Nat) (Option.some Jvm.ClassFile.FieldType.int)) ∈ lw_all := lw_g (lw_at lw_m0 173 rfl) rfl
theorem q184 : (Jvm.Cond.instanceMethod ({ cls := "ChangedBlocksModel", name := "dropOldest", desc := "(I)I" } : Jvm.MethodName)) ∈ lw_all := lw_g (lw_at lw_m0 175 rfl) rfl
theorem q185 : (Jvm.Cond.selects "ChangedBlocksModel" ({ cls := "ChangedBlocksModel", name := "dropOldest", desc := "(I)I" } : Jvm.MethodName) ({ cls := "ChangedBlocksModel", name := "dropOldest", desc := "(I)I" } : Jvm.MethodName)) ∈ lw_all := lw_g (lw_at lw_m0 176 rfl) rfl
theorem q186 : (Jvm.Cond.code ({ cls := "ChangedBlocksModel", name := "dropOldest", desc := "(I)I" } : Jvm.MethodName) prog_3_method_9_code (2 : Nat) (Option.some Jvm.ClassFile.FieldType.int)) ∈ lw_all := lw_g (lw_at lw_m0 177 rfl) rfl
theorem q187 : (Jvm.Cond.methodLink "ChangedBlocksModel" (34 : Nat) ({ cls := "ChangedBlocksModel", name := "drop", desc := "(II)I" } : Jvm.MethodName)) ∈ lw_all := lw_g (lw_at lw_m0 178 rfl) rfl
theorem q188 : (Jvm.Cond.instanceMethod ({ cls := "ChangedBlocksModel", name := "drop", desc := "(II)I" } : Jvm.MethodName)) ∈ lw_all := lw_g (lw_at lw_m0 179 rfl) rfl
theorem q189 : (Jvm.Cond.selects "ChangedBlocksModel" ({ cls := "ChangedBlocksModel", name := "drop", desc := "(II)I" } : Jvm.MethodName) ({ cls := "ChangedBlocksModel", name := "drop", desc := "(II)I" } : Jvm.MethodName)) ∈ lw_all := lw_g (lw_at lw_m0 180 rfl) rfl
theorem q190 : (Jvm.Cond.code ({ cls := "ChangedBlocksModel", name := "drop", desc := "(II)I" } : Jvm.MethodName) prog_3_method_10_code (4 : Nat) (Option.some Jvm.ClassFile.FieldType.int)) ∈ lw_all := lw_g (lw_at lw_m0 181 rfl) rfl
theorem q193 : (Jvm.Cond.instanceMethod ({ cls := "ChangedBlocksModel", name := "restart", desc := "()V" } : Jvm.MethodName)) ∈ lw_all := lw_g (lw_at lw_m0 184 rfl) rfl
theorem q194 : (Jvm.Cond.selects "ChangedBlocksModel" ({ cls := "ChangedBlocksModel", name := "restart", desc := "()V" } : Jvm.MethodName) ({ cls := "ChangedBlocksModel", name := "restart", desc := "()V" } : Jvm.MethodName)) ∈ lw_all := lw_g (lw_at lw_m0 185 rfl) rfl
theorem q195 : (Jvm.Cond.code ({ cls := "ChangedBlocksModel", name := "restart", desc := "()V" } : Jvm.MethodName) prog_3_method_11_code (1 : Nat) (Option.none : Option Jvm.ClassFile.FieldType)) ∈ lw_all := lw_g (lw_at lw_m0 186 rfl) rfl
theorem q197 : (Jvm.Cond.instanceMethod ({ cls := "ChangedBlocksModel", name := "crash", desc := "()V" } : Jvm.MethodName)) ∈ lw_all := lw_g (lw_at lw_m0 188 rfl) rfl
theorem q198 : (Jvm.Cond.selects "ChangedBlocksModel" ({ cls := "ChangedBlocksModel", name := "crash", desc := "()V" } : Jvm.MethodName) ({ cls := "ChangedBlocksModel", name := "crash", desc := "()V" } : Jvm.MethodName)) ∈ lw_all := lw_g (lw_at lw_m0 189 rfl) rfl
theorem q199 : (Jvm.Cond.code ({ cls := "ChangedBlocksModel", name := "crash", desc := "()V" } : Jvm.MethodName) prog_3_method_12_code (1 : Nat) (Option.none : Option Jvm.ClassFile.FieldType)) ∈ lw_all := lw_g (lw_at lw_m0 190 rfl) rfl
theorem q201 : (Jvm.Cond.instanceMethod ({ cls := "ChangedBlocksModel", name := "read", desc := "(I)I" } : Jvm.MethodName)) ∈ lw_all := lw_g (lw_at lw_m0 192 rfl) rfl
theorem q202 : (Jvm.Cond.selects "ChangedBlocksModel" ({ cls := "ChangedBlocksModel", name := "read", desc := "(I)I" } : Jvm.MethodName) ({ cls := "ChangedBlocksModel", name := "read", desc := "(I)I" } : Jvm.MethodName)) ∈ lw_all := lw_g (lw_at lw_m0 193 rfl) rfl
theorem q203 : (Jvm.Cond.code ({ cls := "ChangedBlocksModel", name := "read", desc := "(I)I" } : Jvm.MethodName) prog_3_method_13_code (2 : Nat) (Option.some Jvm.ClassFile.FieldType.int)) ∈ lw_all := lw_g (lw_at lw_m0 194 rfl) rfl
theorem q205 : (Jvm.Cond.instanceMethod ({ cls := "ChangedBlocksModel", name := "readBackup", desc := "(III)I" } : Jvm.MethodName)) ∈ lw_all := lw_g (lw_at lw_m0 196 rfl) rfl
theorem q206 : (Jvm.Cond.selects "ChangedBlocksModel" ({ cls := "ChangedBlocksModel", name := "readBackup", desc := "(III)I" } : Jvm.MethodName) ({ cls := "ChangedBlocksModel", name := "readBackup", desc := "(III)I" } : Jvm.MethodName)) ∈ lw_all := lw_g (lw_at lw_m0 197 rfl) rfl
theorem q207 : (Jvm.Cond.code ({ cls := "ChangedBlocksModel", name := "readBackup", desc := "(III)I" } : Jvm.MethodName) prog_3_method_14_code (4 : Nat) (Option.some Jvm.ClassFile.FieldType.int)) ∈ lw_all := lw_g (lw_at lw_m0 198 rfl) rfl
theorem q209 : (Jvm.Cond.instanceMethod ({ cls := "ChangedBlocksModel", name := "backups", desc := "(I)I" } : Jvm.MethodName)) ∈ lw_all := lw_g (lw_at lw_m0 200 rfl) rfl
theorem q210 : (Jvm.Cond.selects "ChangedBlocksModel" ({ cls := "ChangedBlocksModel", name := "backups", desc := "(I)I" } : Jvm.MethodName) ({ cls := "ChangedBlocksModel", name := "backups", desc := "(I)I" } : Jvm.MethodName)) ∈ lw_all := lw_g (lw_at lw_m0 201 rfl) rfl
theorem q211 : (Jvm.Cond.code ({ cls := "ChangedBlocksModel", name := "backups", desc := "(I)I" } : Jvm.MethodName) prog_3_method_15_code (2 : Nat) (Option.some Jvm.ClassFile.FieldType.int)) ∈ lw_all := lw_g (lw_at lw_m0 202 rfl) rfl
theorem q213 : (Jvm.Cond.instanceMethod ({ cls := "ChangedBlocksModel", name := "changed", desc := "(I)I" } : Jvm.MethodName)) ∈ lw_all := lw_g (lw_at lw_m0 204 rfl) rfl
theorem q214 : (Jvm.Cond.selects "ChangedBlocksModel" ({ cls := "ChangedBlocksModel", name := "changed", desc := "(I)I" } : Jvm.MethodName) ({ cls := "ChangedBlocksModel", name := "changed", desc := "(I)I" } : Jvm.MethodName)) ∈ lw_all := lw_g (lw_at lw_m0 205 rfl) rfl
theorem q215 : (Jvm.Cond.code ({ cls := "ChangedBlocksModel", name := "changed", desc := "(I)I" } : Jvm.MethodName) prog_3_method_16_code (2 : Nat) (Option.some Jvm.ClassFile.FieldType.int)) ∈ lw_all := lw_g (lw_at lw_m0 206 rfl) rfl
theorem q217 : (Jvm.Cond.instanceMethod ({ cls := "ChangedBlocksModel", name := "differ", desc := "(III)I" } : Jvm.MethodName)) ∈ lw_all := lw_g (lw_at lw_m0 208 rfl) rfl
theorem q218 : (Jvm.Cond.selects "ChangedBlocksModel" ({ cls := "ChangedBlocksModel", name := "differ", desc := "(III)I" } : Jvm.MethodName) ({ cls := "ChangedBlocksModel", name := "differ", desc := "(III)I" } : Jvm.MethodName)) ∈ lw_all := lw_g (lw_at lw_m0 209 rfl) rfl
theorem q219 : (Jvm.Cond.code ({ cls := "ChangedBlocksModel", name := "differ", desc := "(III)I" } : Jvm.MethodName) prog_3_method_17_code (6 : Nat) (Option.some Jvm.ClassFile.FieldType.int)) ∈ lw_all := lw_g (lw_at lw_m0 210 rfl) rfl
theorem in_X1 : ∀ w ∈ wsX10, w ∈ lw_all := lw_in wsX10 [146, 148, 150, 152] (by decide +kernel) (by decide +kernel)
/-! java/lang/Object -/
def RJ0 : String := "java/lang/Object"
abbrev cJ0_init : ByteArray := object_method_1_code
def yJ0_init : MethodName := ⟨RJ0, "<init>", "()V"⟩
theorem dJ0_init_0 : decode cJ0_init 0 = .ok (.return_, 1) := by decide +kernel
theorem q18 : (Jvm.Cond.instanceMethod ({ cls := "java/lang/Object", name := "<init>", desc := "()V" } : Jvm.MethodName)) ∈ lw_all := lw_g (lw_at lw_m0 9 rfl) rfl
theorem q19 : (Jvm.Cond.code ({ cls := "java/lang/Object", name := "<init>", desc := "()V" } : Jvm.MethodName) object_method_1_code (1 : Nat) (Option.none : Option Jvm.ClassFile.FieldType)) ∈ lw_all := lw_g (lw_at lw_m0 10 rfl) rfl
theorem q54 : (Jvm.Cond.arrayClass Jvm.ClassFile.FieldType.int) ∈ lw_all := lw_g (lw_at lw_m0 45 rfl) rfl
theorem q55 : (Jvm.Cond.arrayClass Jvm.ClassFile.FieldType.boolean) ∈ lw_all := lw_g (lw_at lw_m0 46 rfl) rfl
theorem q9 : (Jvm.Cond.initialized "ChangedBlocksLaw") ∈ lw_all := lw_g (lw_at lw_m0 0 rfl) rfl
theorem q12 : (Jvm.Cond.classLink "ChangedBlocksLaw" (7 : Nat) "ChangedBlocks") ∈ lw_all := lw_g (lw_at lw_m0 3 rfl) rfl
theorem q14 : (Jvm.Cond.methodLink "ChangedBlocksLaw" (9 : Nat) ({ cls := "ChangedBlocks", name := "<init>", desc := "()V" } : Jvm.MethodName)) ∈ lw_all := lw_g (lw_at lw_m0 5 rfl) rfl
theorem q56 : (Jvm.Cond.methodLink "ChangedBlocksLaw" (13 : Nat) ({ cls := "ChangedBlocks", name := "write", desc := "(II)I" } : Jvm.MethodName)) ∈ lw_all := lw_g (lw_at lw_m0 47 rfl) rfl
theorem q64 : (Jvm.Cond.methodLink "ChangedBlocksLaw" (18 : Nat) ({ cls := "ChangedBlocks", name := "copy", desc := "(III)I" } : Jvm.MethodName)) ∈ lw_all := lw_g (lw_at lw_m0 55 rfl) rfl
theorem q68 : (Jvm.Cond.methodLink "ChangedBlocksLaw" (23 : Nat) ({ cls := "ChangedBlocks", name := "backup", desc := "(I)I" } : Jvm.MethodName)) ∈ lw_all := lw_g (lw_at lw_m0 59 rfl) rfl
theorem q76 : (Jvm.Cond.methodLink "ChangedBlocksLaw" (28 : Nat) ({ cls := "ChangedBlocks", name := "restore", desc := "(II)I" } : Jvm.MethodName)) ∈ lw_all := lw_g (lw_at lw_m0 67 rfl) rfl
theorem q88 : (Jvm.Cond.methodLink "ChangedBlocksLaw" (32 : Nat) ({ cls := "ChangedBlocks", name := "dropOldest", desc := "(I)I" } : Jvm.MethodName)) ∈ lw_all := lw_g (lw_at lw_m0 79 rfl) rfl
theorem q100 : (Jvm.Cond.methodLink "ChangedBlocksLaw" (36 : Nat) ({ cls := "ChangedBlocks", name := "drop", desc := "(II)I" } : Jvm.MethodName)) ∈ lw_all := lw_g (lw_at lw_m0 91 rfl) rfl
theorem q104 : (Jvm.Cond.methodLink "ChangedBlocksLaw" (40 : Nat) ({ cls := "ChangedBlocks", name := "restart", desc := "()V" } : Jvm.MethodName)) ∈ lw_all := lw_g (lw_at lw_m0 95 rfl) rfl
theorem q112 : (Jvm.Cond.methodLink "ChangedBlocksLaw" (44 : Nat) ({ cls := "ChangedBlocks", name := "crash", desc := "()V" } : Jvm.MethodName)) ∈ lw_all := lw_g (lw_at lw_m0 103 rfl) rfl
theorem q116 : (Jvm.Cond.methodLink "ChangedBlocksLaw" (48 : Nat) ({ cls := "ChangedBlocks", name := "read", desc := "(I)I" } : Jvm.MethodName)) ∈ lw_all := lw_g (lw_at lw_m0 107 rfl) rfl
theorem q120 : (Jvm.Cond.methodLink "ChangedBlocksLaw" (52 : Nat) ({ cls := "ChangedBlocks", name := "readBackup", desc := "(III)I" } : Jvm.MethodName)) ∈ lw_all := lw_g (lw_at lw_m0 111 rfl) rfl
theorem q124 : (Jvm.Cond.methodLink "ChangedBlocksLaw" (56 : Nat) ({ cls := "ChangedBlocks", name := "backups", desc := "(I)I" } : Jvm.MethodName)) ∈ lw_all := lw_g (lw_at lw_m0 115 rfl) rfl
theorem q128 : (Jvm.Cond.methodLink "ChangedBlocksLaw" (60 : Nat) ({ cls := "ChangedBlocks", name := "changed", desc := "(I)I" } : Jvm.MethodName)) ∈ lw_all := lw_g (lw_at lw_m0 119 rfl) rfl
theorem q132 : (Jvm.Cond.methodLink "ChangedBlocksLaw" (64 : Nat) ({ cls := "ChangedBlocks", name := "differ", desc := "(III)I" } : Jvm.MethodName)) ∈ lw_all := lw_g (lw_at lw_m0 123 rfl) rfl
theorem q136 : (Jvm.Cond.classLink "ChangedBlocksLaw" (10 : Nat) "ChangedBlocksModel") ∈ lw_all := lw_g (lw_at lw_m0 127 rfl) rfl
theorem q138 : (Jvm.Cond.methodLink "ChangedBlocksLaw" (12 : Nat) ({ cls := "ChangedBlocksModel", name := "<init>", desc := "()V" } : Jvm.MethodName)) ∈ lw_all := lw_g (lw_at lw_m0 129 rfl) rfl
theorem q155 : (Jvm.Cond.methodLink "ChangedBlocksLaw" (17 : Nat) ({ cls := "ChangedBlocksModel", name := "write", desc := "(II)I" } : Jvm.MethodName)) ∈ lw_all := lw_g (lw_at lw_m0 146 rfl) rfl
theorem q159 : (Jvm.Cond.methodLink "ChangedBlocksLaw" (22 : Nat) ({ cls := "ChangedBlocksModel", name := "copy", desc := "(III)I" } : Jvm.MethodName)) ∈ lw_all := lw_g (lw_at lw_m0 150 rfl) rfl
theorem q163 : (Jvm.Cond.methodLink "ChangedBlocksLaw" (27 : Nat) ({ cls := "ChangedBlocksModel", name := "backup", desc := "(I)I" } : Jvm.MethodName)) ∈ lw_all := lw_g (lw_at lw_m0 154 rfl) rfl
theorem q171 : (Jvm.Cond.methodLink "ChangedBlocksLaw" (31 : Nat) ({ cls := "ChangedBlocksModel", name := "restore", desc := "(II)I" } : Jvm.MethodName)) ∈ lw_all := lw_g (lw_at lw_m0 162 rfl) rfl
theorem q183 : (Jvm.Cond.methodLink "ChangedBlocksLaw" (35 : Nat) ({ cls := "ChangedBlocksModel", name := "dropOldest", desc := "(I)I" } : Jvm.MethodName)) ∈ lw_all := lw_g (lw_at lw_m0 174 rfl) rfl
theorem q191 : (Jvm.Cond.methodLink "ChangedBlocksLaw" (39 : Nat) ({ cls := "ChangedBlocksModel", name := "drop", desc := "(II)I" } : Jvm.MethodName)) ∈ lw_all := lw_g (lw_at lw_m0 182 rfl) rfl
theorem q192 : (Jvm.Cond.methodLink "ChangedBlocksLaw" (43 : Nat) ({ cls := "ChangedBlocksModel", name := "restart", desc := "()V" } : Jvm.MethodName)) ∈ lw_all := lw_g (lw_at lw_m0 183 rfl) rfl
theorem q196 : (Jvm.Cond.methodLink "ChangedBlocksLaw" (47 : Nat) ({ cls := "ChangedBlocksModel", name := "crash", desc := "()V" } : Jvm.MethodName)) ∈ lw_all := lw_g (lw_at lw_m0 187 rfl) rfl
theorem q200 : (Jvm.Cond.methodLink "ChangedBlocksLaw" (51 : Nat) ({ cls := "ChangedBlocksModel", name := "read", desc := "(I)I" } : Jvm.MethodName)) ∈ lw_all := lw_g (lw_at lw_m0 191 rfl) rfl
theorem q204 : (Jvm.Cond.methodLink "ChangedBlocksLaw" (55 : Nat) ({ cls := "ChangedBlocksModel", name := "readBackup", desc := "(III)I" } : Jvm.MethodName)) ∈ lw_all := lw_g (lw_at lw_m0 195 rfl) rfl
theorem q208 : (Jvm.Cond.methodLink "ChangedBlocksLaw" (59 : Nat) ({ cls := "ChangedBlocksModel", name := "backups", desc := "(I)I" } : Jvm.MethodName)) ∈ lw_all := lw_g (lw_at lw_m0 199 rfl) rfl
theorem q212 : (Jvm.Cond.methodLink "ChangedBlocksLaw" (63 : Nat) ({ cls := "ChangedBlocksModel", name := "changed", desc := "(I)I" } : Jvm.MethodName)) ∈ lw_all := lw_g (lw_at lw_m0 203 rfl) rfl
theorem q216 : (Jvm.Cond.methodLink "ChangedBlocksLaw" (67 : Nat) ({ cls := "ChangedBlocksModel", name := "differ", desc := "(III)I" } : Jvm.MethodName)) ∈ lw_all := lw_g (lw_at lw_m0 207 rfl) rfl
/-! the law's own entry -/
abbrev cL_law : ByteArray := code
end
section
set_option maxRecDepth 100000
theorem dX0_init_0 : decode cX0_init 0 = .ok (.aload_n 0, 1) := by decide +kernel
theorem dX0_init_1 : decode cX0_init 1 = .ok (.invokespecial 1, 3) := by decide +kernel
theorem dX0_init_4 : decode cX0_init 4 = .ok (.aload_n 0, 1) := by decide +kernel
theorem dX0_init_5 : decode cX0_init 5 = .ok (.bipush 16, 2) := by decide +kernel
theorem dX0_init_7 : decode cX0_init 7 = .ok (.newarray .int, 2) := by decide +kernel
theorem dX0_init_9 : decode cX0_init 9 = .ok (.putfield 7, 3) := by decide +kernel
theorem dX0_init_12 : decode cX0_init 12 = .ok (.aload_n 0, 1) := by decide +kernel
theorem dX0_init_13 : decode cX0_init 13 = .ok (.bipush 16, 2) := by decide +kernel
theorem dX0_init_15 : decode cX0_init 15 = .ok (.newarray .int, 2) := by decide +kernel
theorem dX0_init_17 : decode cX0_init 17 = .ok (.putfield 13, 3) := by decide +kernel
theorem dX0_init_20 : decode cX0_init 20 = .ok (.aload_n 0, 1) := by decide +kernel
theorem dX0_init_21 : decode cX0_init 21 = .ok (.iconst 2, 1) := by decide +kernel
theorem dX0_init_22 : decode cX0_init 22 = .ok (.newarray .int, 2) := by decide +kernel
theorem dX0_init_24 : decode cX0_init 24 = .ok (.putfield 16, 3) := by decide +kernel
theorem dX0_init_27 : decode cX0_init 27 = .ok (.aload_n 0, 1) := by decide +kernel
theorem dX0_init_28 : decode cX0_init 28 = .ok (.iconst 2, 1) := by decide +kernel
theorem dX0_init_29 : decode cX0_init 29 = .ok (.newarray .boolean, 2) := by decide +kernel
theorem dX0_init_31 : decode cX0_init 31 = .ok (.putfield 19, 3) := by decide +kernel
theorem dX0_init_34 : decode cX0_init 34 = .ok (.aload_n 0, 1) := by decide +kernel
theorem dX0_init_35 : decode cX0_init 35 = .ok (.iconst 2, 1) := by decide +kernel
theorem dX0_init_36 : decode cX0_init 36 = .ok (.newarray .int, 2) := by decide +kernel
theorem dX0_init_38 : decode cX0_init 38 = .ok (.putfield 23, 3) := by decide +kernel
theorem dX0_init_41 : decode cX0_init 41 = .ok (.aload_n 0, 1) := by decide +kernel
theorem dX0_init_42 : decode cX0_init 42 = .ok (.iconst 2, 1) := by decide +kernel
theorem dX0_init_43 : decode cX0_init 43 = .ok (.newarray .int, 2) := by decide +kernel
theorem dX0_init_45 : decode cX0_init 45 = .ok (.putfield 26, 3) := by decide +kernel
theorem dX0_init_48 : decode cX0_init 48 = .ok (.aload_n 0, 1) := by decide +kernel
theorem dX0_init_49 : decode cX0_init 49 = .ok (.iconst 2, 1) := by decide +kernel
theorem dX0_init_50 : decode cX0_init 50 = .ok (.newarray .int, 2) := by decide +kernel
theorem dX0_init_52 : decode cX0_init 52 = .ok (.putfield 29, 3) := by decide +kernel
theorem dX0_init_55 : decode cX0_init 55 = .ok (.aload_n 0, 1) := by decide +kernel
theorem dX0_init_56 : decode cX0_init 56 = .ok (.iconst 2, 1) := by decide +kernel
theorem dX0_init_57 : decode cX0_init 57 = .ok (.newarray .int, 2) := by decide +kernel
theorem dX0_init_59 : decode cX0_init 59 = .ok (.putfield 32, 3) := by decide +kernel
theorem dX0_init_62 : decode cX0_init 62 = .ok (.aload_n 0, 1) := by decide +kernel
theorem dX0_init_63 : decode cX0_init 63 = .ok (.bipush 12, 2) := by decide +kernel
theorem dX0_init_65 : decode cX0_init 65 = .ok (.newarray .int, 2) := by decide +kernel
theorem dX0_init_67 : decode cX0_init 67 = .ok (.putfield 35, 3) := by decide +kernel
theorem dX0_init_70 : decode cX0_init 70 = .ok (.aload_n 0, 1) := by decide +kernel
theorem dX0_init_71 : decode cX0_init 71 = .ok (.sipush 192, 3) := by decide +kernel
theorem dX0_init_74 : decode cX0_init 74 = .ok (.newarray .int, 2) := by decide +kernel
theorem dX0_init_76 : decode cX0_init 76 = .ok (.putfield 38, 3) := by decide +kernel
theorem dX0_init_79 : decode cX0_init 79 = .ok (.aload_n 0, 1) := by decide +kernel
theorem dX0_init_80 : decode cX0_init 80 = .ok (.iconst 0, 1) := by decide +kernel
theorem dX0_init_81 : decode cX0_init 81 = .ok (.putfield 41, 3) := by decide +kernel
theorem dX0_init_84 : decode cX0_init 84 = .ok (.return_, 1) := by decide +kernel
theorem dX0_write_0 : decode cX0_write 0 = .ok (.iload_n 1, 1) := by decide +kernel
theorem dX0_write_1 : decode cX0_write 1 = .ok (.ifCond .lt 9, 3) := by decide +kernel
theorem dX0_write_4 : decode cX0_write 4 = .ok (.iload_n 1, 1) := by decide +kernel
theorem dX0_write_5 : decode cX0_write 5 = .ok (.bipush 16, 2) := by decide +kernel
theorem dX0_write_7 : decode cX0_write 7 = .ok (.if_icmp .lt 6, 3) := by decide +kernel
theorem dX0_write_10 : decode cX0_write 10 = .ok (.bipush (-2), 2) := by decide +kernel
theorem dX0_write_12 : decode cX0_write 12 = .ok (.ireturn, 1) := by decide +kernel
theorem dX0_write_13 : decode cX0_write 13 = .ok (.aload_n 0, 1) := by decide +kernel
theorem dX0_write_14 : decode cX0_write 14 = .ok (.iload_n 1, 1) := by decide +kernel
theorem dX0_write_15 : decode cX0_write 15 = .ok (.iload_n 2, 1) := by decide +kernel
theorem dX0_write_16 : decode cX0_write 16 = .ok (.invokevirtual 45, 3) := by decide +kernel
theorem dX0_write_19 : decode cX0_write 19 = .ok (.iconst 0, 1) := by decide +kernel
theorem dX0_write_20 : decode cX0_write 20 = .ok (.ireturn, 1) := by decide +kernel
theorem dX0_store_0 : decode cX0_store 0 = .ok (.aload_n 0, 1) := by decide +kernel
theorem dX0_store_1 : decode cX0_store 1 = .ok (.getfield 7, 3) := by decide +kernel
theorem dX0_store_4 : decode cX0_store 4 = .ok (.iload_n 1, 1) := by decide +kernel
theorem dX0_store_5 : decode cX0_store 5 = .ok (.iload_n 2, 1) := by decide +kernel
theorem dX0_store_6 : decode cX0_store 6 = .ok (.iastore, 1) := by decide +kernel
theorem dX0_store_7 : decode cX0_store 7 = .ok (.aload_n 0, 1) := by decide +kernel
theorem dX0_store_8 : decode cX0_store 8 = .ok (.iconst 0, 1) := by decide +kernel
theorem dX0_store_9 : decode cX0_store 9 = .ok (.putfield 41, 3) := by decide +kernel
theorem dX0_store_12 : decode cX0_store 12 = .ok (.iconst 0, 1) := by decide +kernel
theorem dX0_store_13 : decode cX0_store 13 = .ok (.istore_n 3, 1) := by decide +kernel
theorem dX0_store_14 : decode cX0_store 14 = .ok (.iload_n 3, 1) := by decide +kernel
theorem dX0_store_15 : decode cX0_store 15 = .ok (.iconst 2, 1) := by decide +kernel
theorem dX0_store_16 : decode cX0_store 16 = .ok (.if_icmp .ge 44, 3) := by decide +kernel
theorem dX0_store_19 : decode cX0_store 19 = .ok (.aload_n 0, 1) := by decide +kernel
theorem dX0_store_20 : decode cX0_store 20 = .ok (.getfield 16, 3) := by decide +kernel
theorem dX0_store_23 : decode cX0_store 23 = .ok (.iload_n 3, 1) := by decide +kernel
theorem dX0_store_24 : decode cX0_store 24 = .ok (.iaload, 1) := by decide +kernel
theorem dX0_store_25 : decode cX0_store 25 = .ok (.iload_n 1, 1) := by decide +kernel
theorem dX0_store_26 : decode cX0_store 26 = .ok (.ishr, 1) := by decide +kernel
theorem dX0_store_27 : decode cX0_store 27 = .ok (.iconst 1, 1) := by decide +kernel
theorem dX0_store_28 : decode cX0_store 28 = .ok (.iand, 1) := by decide +kernel
theorem dX0_store_29 : decode cX0_store 29 = .ok (.ifCond .ne 25, 3) := by decide +kernel
theorem dX0_store_32 : decode cX0_store 32 = .ok (.aload_n 0, 1) := by decide +kernel
theorem dX0_store_33 : decode cX0_store 33 = .ok (.getfield 16, 3) := by decide +kernel
theorem dX0_store_36 : decode cX0_store 36 = .ok (.iload_n 3, 1) := by decide +kernel
theorem dX0_store_37 : decode cX0_store 37 = .ok (.dup2, 1) := by decide +kernel
theorem dX0_store_38 : decode cX0_store 38 = .ok (.iaload, 1) := by decide +kernel
theorem dX0_store_39 : decode cX0_store 39 = .ok (.iconst 1, 1) := by decide +kernel
theorem dX0_store_40 : decode cX0_store 40 = .ok (.iload_n 1, 1) := by decide +kernel
theorem dX0_store_41 : decode cX0_store 41 = .ok (.ishl, 1) := by decide +kernel
theorem dX0_store_42 : decode cX0_store 42 = .ok (.ior, 1) := by decide +kernel
theorem dX0_store_43 : decode cX0_store 43 = .ok (.iastore, 1) := by decide +kernel
theorem dX0_store_44 : decode cX0_store 44 = .ok (.aload_n 0, 1) := by decide +kernel
theorem dX0_store_45 : decode cX0_store 45 = .ok (.getfield 29, 3) := by decide +kernel
theorem dX0_store_48 : decode cX0_store 48 = .ok (.iload_n 3, 1) := by decide +kernel
theorem dX0_store_49 : decode cX0_store 49 = .ok (.dup2, 1) := by decide +kernel
theorem dX0_store_50 : decode cX0_store 50 = .ok (.iaload, 1) := by decide +kernel
theorem dX0_store_51 : decode cX0_store 51 = .ok (.iconst 1, 1) := by decide +kernel
theorem dX0_store_52 : decode cX0_store 52 = .ok (.iadd, 1) := by decide +kernel
theorem dX0_store_53 : decode cX0_store 53 = .ok (.iastore, 1) := by decide +kernel
theorem dX0_store_54 : decode cX0_store 54 = .ok (.iinc 3 1, 3) := by decide +kernel
theorem dX0_store_57 : decode cX0_store 57 = .ok (.goto (-43), 3) := by decide +kernel
theorem dX0_store_60 : decode cX0_store 60 = .ok (.return_, 1) := by decide +kernel
theorem dX0_copy_0 : decode cX0_copy 0 = .ok (.iload_n 3, 1) := by decide +kernel
theorem dX0_copy_1 : decode cX0_copy 1 = .ok (.ifCond .ge 7, 3) := by decide +kernel
theorem dX0_copy_4 : decode cX0_copy 4 = .ok (.iconst 0, 1) := by decide +kernel
theorem dX0_copy_5 : decode cX0_copy 5 = .ok (.goto 4, 3) := by decide +kernel
theorem dX0_copy_8 : decode cX0_copy 8 = .ok (.iload_n 3, 1) := by decide +kernel
theorem dX0_copy_9 : decode cX0_copy 9 = .ok (.istore 4, 2) := by decide +kernel
theorem dX0_copy_11 : decode cX0_copy 11 = .ok (.iload_n 1, 1) := by decide +kernel
theorem dX0_copy_12 : decode cX0_copy 12 = .ok (.ifCond .lt 19, 3) := by decide +kernel
theorem dX0_copy_15 : decode cX0_copy 15 = .ok (.iload_n 1, 1) := by decide +kernel
theorem dX0_copy_16 : decode cX0_copy 16 = .ok (.bipush 16, 2) := by decide +kernel
theorem dX0_copy_18 : decode cX0_copy 18 = .ok (.if_icmp .ge 13, 3) := by decide +kernel
theorem dX0_copy_21 : decode cX0_copy 21 = .ok (.iload_n 2, 1) := by decide +kernel
theorem dX0_copy_22 : decode cX0_copy 22 = .ok (.ifCond .lt 9, 3) := by decide +kernel
theorem dX0_copy_25 : decode cX0_copy 25 = .ok (.iload_n 2, 1) := by decide +kernel
theorem dX0_copy_26 : decode cX0_copy 26 = .ok (.bipush 16, 2) := by decide +kernel
theorem dX0_copy_28 : decode cX0_copy 28 = .ok (.if_icmp .lt 6, 3) := by decide +kernel
theorem dX0_copy_31 : decode cX0_copy 31 = .ok (.bipush (-2), 2) := by decide +kernel
theorem dX0_copy_33 : decode cX0_copy 33 = .ok (.ireturn, 1) := by decide +kernel
theorem dX0_copy_34 : decode cX0_copy 34 = .ok (.iload 4, 2) := by decide +kernel
theorem dX0_copy_36 : decode cX0_copy 36 = .ok (.bipush 16, 2) := by decide +kernel
theorem dX0_copy_38 : decode cX0_copy 38 = .ok (.iload_n 1, 1) := by decide +kernel
theorem dX0_copy_39 : decode cX0_copy 39 = .ok (.isub, 1) := by decide +kernel
theorem dX0_copy_40 : decode cX0_copy 40 = .ok (.if_icmp .gt 12, 3) := by decide +kernel
theorem dX0_copy_43 : decode cX0_copy 43 = .ok (.iload 4, 2) := by decide +kernel
theorem dX0_copy_45 : decode cX0_copy 45 = .ok (.bipush 16, 2) := by decide +kernel
theorem dX0_copy_47 : decode cX0_copy 47 = .ok (.iload_n 2, 1) := by decide +kernel
theorem dX0_copy_48 : decode cX0_copy 48 = .ok (.isub, 1) := by decide +kernel
theorem dX0_copy_49 : decode cX0_copy 49 = .ok (.if_icmp .le 6, 3) := by decide +kernel
theorem dX0_copy_52 : decode cX0_copy 52 = .ok (.bipush (-2), 2) := by decide +kernel
theorem dX0_copy_54 : decode cX0_copy 54 = .ok (.ireturn, 1) := by decide +kernel
theorem dX0_copy_55 : decode cX0_copy 55 = .ok (.iconst 0, 1) := by decide +kernel
theorem dX0_copy_56 : decode cX0_copy 56 = .ok (.istore 5, 2) := by decide +kernel
theorem dX0_copy_58 : decode cX0_copy 58 = .ok (.iload 5, 2) := by decide +kernel
theorem dX0_copy_60 : decode cX0_copy 60 = .ok (.iload 4, 2) := by decide +kernel
theorem dX0_copy_62 : decode cX0_copy 62 = .ok (.if_icmp .ge 25, 3) := by decide +kernel
theorem dX0_copy_65 : decode cX0_copy 65 = .ok (.aload_n 0, 1) := by decide +kernel
theorem dX0_copy_66 : decode cX0_copy 66 = .ok (.getfield 13, 3) := by decide +kernel
theorem dX0_copy_69 : decode cX0_copy 69 = .ok (.iload 5, 2) := by decide +kernel
theorem dX0_copy_71 : decode cX0_copy 71 = .ok (.aload_n 0, 1) := by decide +kernel
theorem dX0_copy_72 : decode cX0_copy 72 = .ok (.getfield 7, 3) := by decide +kernel
theorem dX0_copy_75 : decode cX0_copy 75 = .ok (.iload_n 1, 1) := by decide +kernel
theorem dX0_copy_76 : decode cX0_copy 76 = .ok (.iload 5, 2) := by decide +kernel
theorem dX0_copy_78 : decode cX0_copy 78 = .ok (.iadd, 1) := by decide +kernel
theorem dX0_copy_79 : decode cX0_copy 79 = .ok (.iaload, 1) := by decide +kernel
theorem dX0_copy_80 : decode cX0_copy 80 = .ok (.iastore, 1) := by decide +kernel
theorem dX0_copy_81 : decode cX0_copy 81 = .ok (.iinc 5 1, 3) := by decide +kernel
theorem dX0_copy_84 : decode cX0_copy 84 = .ok (.goto (-26), 3) := by decide +kernel
theorem dX0_copy_87 : decode cX0_copy 87 = .ok (.iconst 0, 1) := by decide +kernel
theorem dX0_copy_88 : decode cX0_copy 88 = .ok (.istore 5, 2) := by decide +kernel
theorem dX0_copy_90 : decode cX0_copy 90 = .ok (.iload 5, 2) := by decide +kernel
theorem dX0_copy_92 : decode cX0_copy 92 = .ok (.iload 4, 2) := by decide +kernel
theorem dX0_copy_94 : decode cX0_copy 94 = .ok (.if_icmp .ge 24, 3) := by decide +kernel
theorem dX0_copy_97 : decode cX0_copy 97 = .ok (.aload_n 0, 1) := by decide +kernel
theorem dX0_copy_98 : decode cX0_copy 98 = .ok (.iload_n 2, 1) := by decide +kernel
theorem dX0_copy_99 : decode cX0_copy 99 = .ok (.iload 5, 2) := by decide +kernel
theorem dX0_copy_101 : decode cX0_copy 101 = .ok (.iadd, 1) := by decide +kernel
theorem dX0_copy_102 : decode cX0_copy 102 = .ok (.aload_n 0, 1) := by decide +kernel
theorem dX0_copy_103 : decode cX0_copy 103 = .ok (.getfield 13, 3) := by decide +kernel
theorem dX0_copy_106 : decode cX0_copy 106 = .ok (.iload 5, 2) := by decide +kernel
theorem dX0_copy_108 : decode cX0_copy 108 = .ok (.iaload, 1) := by decide +kernel
theorem dX0_copy_109 : decode cX0_copy 109 = .ok (.invokevirtual 45, 3) := by decide +kernel
theorem dX0_copy_112 : decode cX0_copy 112 = .ok (.iinc 5 1, 3) := by decide +kernel
theorem dX0_copy_115 : decode cX0_copy 115 = .ok (.goto (-25), 3) := by decide +kernel
theorem dX0_copy_118 : decode cX0_copy 118 = .ok (.iload 4, 2) := by decide +kernel
theorem dX0_copy_120 : decode cX0_copy 120 = .ok (.ireturn, 1) := by decide +kernel
theorem dX0_backup_0 : decode cX0_backup 0 = .ok (.iload_n 1, 1) := by decide +kernel
theorem dX0_backup_1 : decode cX0_backup 1 = .ok (.invokestatic 49, 3) := by decide +kernel
theorem dX0_backup_4 : decode cX0_backup 4 = .ok (.ifCond .eq 5, 3) := by decide +kernel
theorem dX0_backup_7 : decode cX0_backup 7 = .ok (.iconst (-1), 1) := by decide +kernel
theorem dX0_backup_8 : decode cX0_backup 8 = .ok (.ireturn, 1) := by decide +kernel
theorem dX0_backup_9 : decode cX0_backup 9 = .ok (.aload_n 0, 1) := by decide +kernel
theorem dX0_backup_10 : decode cX0_backup 10 = .ok (.getfield 32, 3) := by decide +kernel
theorem dX0_backup_13 : decode cX0_backup 13 = .ok (.iload_n 1, 1) := by decide +kernel
theorem dX0_backup_14 : decode cX0_backup 14 = .ok (.iaload, 1) := by decide +kernel
theorem dX0_backup_15 : decode cX0_backup 15 = .ok (.istore_n 2, 1) := by decide +kernel
theorem dX0_backup_16 : decode cX0_backup 16 = .ok (.iload_n 2, 1) := by decide +kernel
theorem dX0_backup_17 : decode cX0_backup 17 = .ok (.bipush 6, 2) := by decide +kernel
theorem dX0_backup_19 : decode cX0_backup 19 = .ok (.if_icmp .lt 6, 3) := by decide +kernel
theorem dX0_backup_22 : decode cX0_backup 22 = .ok (.bipush (-3), 2) := by decide +kernel
theorem dX0_backup_24 : decode cX0_backup 24 = .ok (.ireturn, 1) := by decide +kernel
theorem dX0_backup_25 : decode cX0_backup 25 = .ok (.iload_n 2, 1) := by decide +kernel
theorem dX0_backup_26 : decode cX0_backup 26 = .ok (.ifCond .eq 12, 3) := by decide +kernel
theorem dX0_backup_29 : decode cX0_backup 29 = .ok (.aload_n 0, 1) := by decide +kernel
theorem dX0_backup_30 : decode cX0_backup 30 = .ok (.getfield 19, 3) := by decide +kernel
theorem dX0_backup_33 : decode cX0_backup 33 = .ok (.iload_n 1, 1) := by decide +kernel
theorem dX0_backup_34 : decode cX0_backup 34 = .ok (.baload, 1) := by decide +kernel
theorem dX0_backup_35 : decode cX0_backup 35 = .ok (.ifCond .ne 8, 3) := by decide +kernel
theorem dX0_backup_38 : decode cX0_backup 38 = .ok (.ldc 53, 2) := by decide +kernel
theorem dX0_backup_40 : decode cX0_backup 40 = .ok (.goto 9, 3) := by decide +kernel
theorem dX0_backup_43 : decode cX0_backup 43 = .ok (.aload_n 0, 1) := by decide +kernel
theorem dX0_backup_44 : decode cX0_backup 44 = .ok (.getfield 16, 3) := by decide +kernel
theorem dX0_backup_47 : decode cX0_backup 47 = .ok (.iload_n 1, 1) := by decide +kernel
theorem dX0_backup_48 : decode cX0_backup 48 = .ok (.iaload, 1) := by decide +kernel
theorem dX0_backup_49 : decode cX0_backup 49 = .ok (.istore_n 3, 1) := by decide +kernel
theorem dX0_backup_50 : decode cX0_backup 50 = .ok (.iload_n 1, 1) := by decide +kernel
theorem dX0_backup_51 : decode cX0_backup 51 = .ok (.bipush 6, 2) := by decide +kernel
theorem dX0_backup_53 : decode cX0_backup 53 = .ok (.imul, 1) := by decide +kernel
theorem dX0_backup_54 : decode cX0_backup 54 = .ok (.iload_n 2, 1) := by decide +kernel
theorem dX0_backup_55 : decode cX0_backup 55 = .ok (.iadd, 1) := by decide +kernel
theorem dX0_backup_56 : decode cX0_backup 56 = .ok (.istore 4, 2) := by decide +kernel
theorem dX0_backup_58 : decode cX0_backup 58 = .ok (.aload_n 0, 1) := by decide +kernel
theorem dX0_backup_59 : decode cX0_backup 59 = .ok (.getfield 35, 3) := by decide +kernel
theorem dX0_backup_62 : decode cX0_backup 62 = .ok (.iload 4, 2) := by decide +kernel
theorem dX0_backup_64 : decode cX0_backup 64 = .ok (.iload_n 3, 1) := by decide +kernel
theorem dX0_backup_65 : decode cX0_backup 65 = .ok (.iastore, 1) := by decide +kernel
theorem dX0_backup_66 : decode cX0_backup 66 = .ok (.iconst 0, 1) := by decide +kernel
theorem dX0_backup_67 : decode cX0_backup 67 = .ok (.istore 5, 2) := by decide +kernel
theorem dX0_backup_69 : decode cX0_backup 69 = .ok (.iload 5, 2) := by decide +kernel
theorem dX0_backup_71 : decode cX0_backup 71 = .ok (.bipush 16, 2) := by decide +kernel
theorem dX0_backup_73 : decode cX0_backup 73 = .ok (.if_icmp .ge 39, 3) := by decide +kernel
theorem dX0_backup_76 : decode cX0_backup 76 = .ok (.iload_n 3, 1) := by decide +kernel
theorem dX0_backup_77 : decode cX0_backup 77 = .ok (.iload 5, 2) := by decide +kernel
theorem dX0_backup_79 : decode cX0_backup 79 = .ok (.ishr, 1) := by decide +kernel
theorem dX0_backup_80 : decode cX0_backup 80 = .ok (.iconst 1, 1) := by decide +kernel
theorem dX0_backup_81 : decode cX0_backup 81 = .ok (.iand, 1) := by decide +kernel
theorem dX0_backup_82 : decode cX0_backup 82 = .ok (.iconst 1, 1) := by decide +kernel
theorem dX0_backup_83 : decode cX0_backup 83 = .ok (.if_icmp .ne 23, 3) := by decide +kernel
theorem dX0_backup_86 : decode cX0_backup 86 = .ok (.aload_n 0, 1) := by decide +kernel
theorem dX0_backup_87 : decode cX0_backup 87 = .ok (.getfield 38, 3) := by decide +kernel
theorem dX0_backup_90 : decode cX0_backup 90 = .ok (.iload 4, 2) := by decide +kernel
theorem dX0_backup_92 : decode cX0_backup 92 = .ok (.bipush 16, 2) := by decide +kernel
theorem dX0_backup_94 : decode cX0_backup 94 = .ok (.imul, 1) := by decide +kernel
theorem dX0_backup_95 : decode cX0_backup 95 = .ok (.iload 5, 2) := by decide +kernel
theorem dX0_backup_97 : decode cX0_backup 97 = .ok (.iadd, 1) := by decide +kernel
theorem dX0_backup_98 : decode cX0_backup 98 = .ok (.aload_n 0, 1) := by decide +kernel
theorem dX0_backup_99 : decode cX0_backup 99 = .ok (.getfield 7, 3) := by decide +kernel
theorem dX0_backup_102 : decode cX0_backup 102 = .ok (.iload 5, 2) := by decide +kernel
theorem dX0_backup_104 : decode cX0_backup 104 = .ok (.iaload, 1) := by decide +kernel
theorem dX0_backup_105 : decode cX0_backup 105 = .ok (.iastore, 1) := by decide +kernel
theorem dX0_backup_106 : decode cX0_backup 106 = .ok (.iinc 5 1, 3) := by decide +kernel
theorem dX0_backup_109 : decode cX0_backup 109 = .ok (.goto (-40), 3) := by decide +kernel
theorem dX0_backup_112 : decode cX0_backup 112 = .ok (.aload_n 0, 1) := by decide +kernel
theorem dX0_backup_113 : decode cX0_backup 113 = .ok (.getfield 32, 3) := by decide +kernel
theorem dX0_backup_116 : decode cX0_backup 116 = .ok (.iload_n 1, 1) := by decide +kernel
theorem dX0_backup_117 : decode cX0_backup 117 = .ok (.iload_n 2, 1) := by decide +kernel
theorem dX0_backup_118 : decode cX0_backup 118 = .ok (.iconst 1, 1) := by decide +kernel
theorem dX0_backup_119 : decode cX0_backup 119 = .ok (.iadd, 1) := by decide +kernel
theorem dX0_backup_120 : decode cX0_backup 120 = .ok (.iastore, 1) := by decide +kernel
theorem dX0_backup_121 : decode cX0_backup 121 = .ok (.aload_n 0, 1) := by decide +kernel
theorem dX0_backup_122 : decode cX0_backup 122 = .ok (.getfield 16, 3) := by decide +kernel
theorem dX0_backup_125 : decode cX0_backup 125 = .ok (.iload_n 1, 1) := by decide +kernel
theorem dX0_backup_126 : decode cX0_backup 126 = .ok (.iconst 0, 1) := by decide +kernel
theorem dX0_backup_127 : decode cX0_backup 127 = .ok (.iastore, 1) := by decide +kernel
theorem dX0_backup_128 : decode cX0_backup 128 = .ok (.aload_n 0, 1) := by decide +kernel
theorem dX0_backup_129 : decode cX0_backup 129 = .ok (.getfield 19, 3) := by decide +kernel
theorem dX0_backup_132 : decode cX0_backup 132 = .ok (.iload_n 1, 1) := by decide +kernel
theorem dX0_backup_133 : decode cX0_backup 133 = .ok (.iconst 1, 1) := by decide +kernel
theorem dX0_backup_134 : decode cX0_backup 134 = .ok (.bastore, 1) := by decide +kernel
theorem dX0_backup_135 : decode cX0_backup 135 = .ok (.aload_n 0, 1) := by decide +kernel
theorem dX0_backup_136 : decode cX0_backup 136 = .ok (.getfield 29, 3) := by decide +kernel
theorem dX0_backup_139 : decode cX0_backup 139 = .ok (.iload_n 1, 1) := by decide +kernel
theorem dX0_backup_140 : decode cX0_backup 140 = .ok (.dup2, 1) := by decide +kernel
theorem dX0_backup_141 : decode cX0_backup 141 = .ok (.iaload, 1) := by decide +kernel
theorem dX0_backup_142 : decode cX0_backup 142 = .ok (.iconst 1, 1) := by decide +kernel
theorem dX0_backup_143 : decode cX0_backup 143 = .ok (.iadd, 1) := by decide +kernel
theorem dX0_backup_144 : decode cX0_backup 144 = .ok (.iastore, 1) := by decide +kernel
theorem dX0_backup_145 : decode cX0_backup 145 = .ok (.aload_n 0, 1) := by decide +kernel
theorem dX0_backup_146 : decode cX0_backup 146 = .ok (.iconst 0, 1) := by decide +kernel
theorem dX0_backup_147 : decode cX0_backup 147 = .ok (.putfield 41, 3) := by decide +kernel
theorem dX0_backup_150 : decode cX0_backup 150 = .ok (.iload_n 2, 1) := by decide +kernel
theorem dX0_backup_151 : decode cX0_backup 151 = .ok (.ireturn, 1) := by decide +kernel
theorem dX0_badChain_0 : decode cX0_badChain 0 = .ok (.iload_n 0, 1) := by decide +kernel
theorem dX0_badChain_1 : decode cX0_badChain 1 = .ok (.ifCond .lt 8, 3) := by decide +kernel
theorem dX0_badChain_4 : decode cX0_badChain 4 = .ok (.iload_n 0, 1) := by decide +kernel
theorem dX0_badChain_5 : decode cX0_badChain 5 = .ok (.iconst 1, 1) := by decide +kernel
theorem dX0_badChain_6 : decode cX0_badChain 6 = .ok (.if_icmp .le 7, 3) := by decide +kernel
theorem dX0_badChain_9 : decode cX0_badChain 9 = .ok (.iconst 1, 1) := by decide +kernel
theorem dX0_badChain_10 : decode cX0_badChain 10 = .ok (.goto 4, 3) := by decide +kernel
theorem dX0_badChain_13 : decode cX0_badChain 13 = .ok (.iconst 0, 1) := by decide +kernel
theorem dX0_badChain_14 : decode cX0_badChain 14 = .ok (.ireturn, 1) := by decide +kernel
theorem dX0_restore_0 : decode cX0_restore 0 = .ok (.iload_n 1, 1) := by decide +kernel
theorem dX0_restore_1 : decode cX0_restore 1 = .ok (.invokestatic 49, 3) := by decide +kernel
theorem dX0_restore_4 : decode cX0_restore 4 = .ok (.ifCond .eq 5, 3) := by decide +kernel
theorem dX0_restore_7 : decode cX0_restore 7 = .ok (.iconst (-1), 1) := by decide +kernel
theorem dX0_restore_8 : decode cX0_restore 8 = .ok (.ireturn, 1) := by decide +kernel
theorem dX0_restore_9 : decode cX0_restore 9 = .ok (.aload_n 0, 1) := by decide +kernel
theorem dX0_restore_10 : decode cX0_restore 10 = .ok (.iload_n 1, 1) := by decide +kernel
theorem dX0_restore_11 : decode cX0_restore 11 = .ok (.iload_n 2, 1) := by decide +kernel
theorem dX0_restore_12 : decode cX0_restore 12 = .ok (.invokevirtual 54, 3) := by decide +kernel
theorem dX0_restore_15 : decode cX0_restore 15 = .ok (.ifCond .eq 6, 3) := by decide +kernel
theorem dX0_restore_18 : decode cX0_restore 18 = .ok (.bipush (-4), 2) := by decide +kernel
theorem dX0_restore_20 : decode cX0_restore 20 = .ok (.ireturn, 1) := by decide +kernel
theorem dX0_restore_21 : decode cX0_restore 21 = .ok (.iconst 0, 1) := by decide +kernel
theorem dX0_restore_22 : decode cX0_restore 22 = .ok (.istore_n 3, 1) := by decide +kernel
theorem dX0_restore_23 : decode cX0_restore 23 = .ok (.iconst 0, 1) := by decide +kernel
theorem dX0_restore_24 : decode cX0_restore 24 = .ok (.istore 4, 2) := by decide +kernel
theorem dX0_restore_26 : decode cX0_restore 26 = .ok (.iload 4, 2) := by decide +kernel
theorem dX0_restore_28 : decode cX0_restore 28 = .ok (.bipush 16, 2) := by decide +kernel
theorem dX0_restore_30 : decode cX0_restore 30 = .ok (.if_icmp .ge 42, 3) := by decide +kernel
theorem dX0_restore_33 : decode cX0_restore 33 = .ok (.aload_n 0, 1) := by decide +kernel
theorem dX0_restore_34 : decode cX0_restore 34 = .ok (.iload_n 1, 1) := by decide +kernel
theorem dX0_restore_35 : decode cX0_restore 35 = .ok (.iload_n 2, 1) := by decide +kernel
theorem dX0_restore_36 : decode cX0_restore 36 = .ok (.iload 4, 2) := by decide +kernel
theorem dX0_restore_38 : decode cX0_restore 38 = .ok (.invokevirtual 58, 3) := by decide +kernel
theorem dX0_restore_41 : decode cX0_restore 41 = .ok (.istore 5, 2) := by decide +kernel
theorem dX0_restore_43 : decode cX0_restore 43 = .ok (.aload_n 0, 1) := by decide +kernel
theorem dX0_restore_44 : decode cX0_restore 44 = .ok (.getfield 7, 3) := by decide +kernel
theorem dX0_restore_47 : decode cX0_restore 47 = .ok (.iload 4, 2) := by decide +kernel
theorem dX0_restore_49 : decode cX0_restore 49 = .ok (.iaload, 1) := by decide +kernel
theorem dX0_restore_50 : decode cX0_restore 50 = .ok (.iload 5, 2) := by decide +kernel
theorem dX0_restore_52 : decode cX0_restore 52 = .ok (.if_icmp .eq 14, 3) := by decide +kernel
theorem dX0_restore_55 : decode cX0_restore 55 = .ok (.aload_n 0, 1) := by decide +kernel
theorem dX0_restore_56 : decode cX0_restore 56 = .ok (.iload 4, 2) := by decide +kernel
theorem dX0_restore_58 : decode cX0_restore 58 = .ok (.iload 5, 2) := by decide +kernel
theorem dX0_restore_60 : decode cX0_restore 60 = .ok (.invokevirtual 45, 3) := by decide +kernel
theorem dX0_restore_63 : decode cX0_restore 63 = .ok (.iinc 3 1, 3) := by decide +kernel
theorem dX0_restore_66 : decode cX0_restore 66 = .ok (.iinc 4 1, 3) := by decide +kernel
theorem dX0_restore_69 : decode cX0_restore 69 = .ok (.goto (-43), 3) := by decide +kernel
theorem dX0_restore_72 : decode cX0_restore 72 = .ok (.iload_n 3, 1) := by decide +kernel
theorem dX0_restore_73 : decode cX0_restore 73 = .ok (.ireturn, 1) := by decide +kernel
theorem dX0_noBackup_0 : decode cX0_noBackup 0 = .ok (.iload_n 2, 1) := by decide +kernel
theorem dX0_noBackup_1 : decode cX0_noBackup 1 = .ok (.ifCond .lt 13, 3) := by decide +kernel
theorem dX0_noBackup_4 : decode cX0_noBackup 4 = .ok (.iload_n 2, 1) := by decide +kernel
theorem dX0_noBackup_5 : decode cX0_noBackup 5 = .ok (.aload_n 0, 1) := by decide +kernel
theorem dX0_noBackup_6 : decode cX0_noBackup 6 = .ok (.getfield 32, 3) := by decide +kernel
theorem dX0_noBackup_9 : decode cX0_noBackup 9 = .ok (.iload_n 1, 1) := by decide +kernel
theorem dX0_noBackup_10 : decode cX0_noBackup 10 = .ok (.iaload, 1) := by decide +kernel
theorem dX0_noBackup_11 : decode cX0_noBackup 11 = .ok (.if_icmp .lt 7, 3) := by decide +kernel
theorem dX0_noBackup_14 : decode cX0_noBackup 14 = .ok (.iconst 1, 1) := by decide +kernel
theorem dX0_noBackup_15 : decode cX0_noBackup 15 = .ok (.goto 4, 3) := by decide +kernel
theorem dX0_noBackup_18 : decode cX0_noBackup 18 = .ok (.iconst 0, 1) := by decide +kernel
theorem dX0_noBackup_19 : decode cX0_noBackup 19 = .ok (.ireturn, 1) := by decide +kernel
theorem dX0_blockOf_0 : decode cX0_blockOf 0 = .ok (.iload_n 2, 1) := by decide +kernel
theorem dX0_blockOf_1 : decode cX0_blockOf 1 = .ok (.istore 4, 2) := by decide +kernel
theorem dX0_blockOf_3 : decode cX0_blockOf 3 = .ok (.iload 4, 2) := by decide +kernel
theorem dX0_blockOf_5 : decode cX0_blockOf 5 = .ok (.ifCond .le 28, 3) := by decide +kernel
theorem dX0_blockOf_8 : decode cX0_blockOf 8 = .ok (.aload_n 0, 1) := by decide +kernel
theorem dX0_blockOf_9 : decode cX0_blockOf 9 = .ok (.getfield 35, 3) := by decide +kernel
end
section
set_option maxRecDepth 100000
theorem dX0_blockOf_12 : decode cX0_blockOf 12 = .ok (.iload_n 1, 1) := by decide +kernel
theorem dX0_blockOf_13 : decode cX0_blockOf 13 = .ok (.bipush 6, 2) := by decide +kernel
theorem dX0_blockOf_15 : decode cX0_blockOf 15 = .ok (.imul, 1) := by decide +kernel
theorem dX0_blockOf_16 : decode cX0_blockOf 16 = .ok (.iload 4, 2) := by decide +kernel
theorem dX0_blockOf_18 : decode cX0_blockOf 18 = .ok (.iadd, 1) := by decide +kernel
theorem dX0_blockOf_19 : decode cX0_blockOf 19 = .ok (.iaload, 1) := by decide +kernel
theorem dX0_blockOf_20 : decode cX0_blockOf 20 = .ok (.iload_n 3, 1) := by decide +kernel
theorem dX0_blockOf_21 : decode cX0_blockOf 21 = .ok (.ishr, 1) := by decide +kernel
theorem dX0_blockOf_22 : decode cX0_blockOf 22 = .ok (.iconst 1, 1) := by decide +kernel
theorem dX0_blockOf_23 : decode cX0_blockOf 23 = .ok (.iand, 1) := by decide +kernel
theorem dX0_blockOf_24 : decode cX0_blockOf 24 = .ok (.ifCond .ne 9, 3) := by decide +kernel
theorem dX0_blockOf_27 : decode cX0_blockOf 27 = .ok (.iinc 4 (-1), 3) := by decide +kernel
theorem dX0_blockOf_30 : decode cX0_blockOf 30 = .ok (.goto (-27), 3) := by decide +kernel
theorem dX0_blockOf_33 : decode cX0_blockOf 33 = .ok (.aload_n 0, 1) := by decide +kernel
theorem dX0_blockOf_34 : decode cX0_blockOf 34 = .ok (.getfield 38, 3) := by decide +kernel
theorem dX0_blockOf_37 : decode cX0_blockOf 37 = .ok (.iload_n 1, 1) := by decide +kernel
theorem dX0_blockOf_38 : decode cX0_blockOf 38 = .ok (.bipush 6, 2) := by decide +kernel
theorem dX0_blockOf_40 : decode cX0_blockOf 40 = .ok (.imul, 1) := by decide +kernel
theorem dX0_blockOf_41 : decode cX0_blockOf 41 = .ok (.iload 4, 2) := by decide +kernel
theorem dX0_blockOf_43 : decode cX0_blockOf 43 = .ok (.iadd, 1) := by decide +kernel
theorem dX0_blockOf_44 : decode cX0_blockOf 44 = .ok (.bipush 16, 2) := by decide +kernel
theorem dX0_blockOf_46 : decode cX0_blockOf 46 = .ok (.imul, 1) := by decide +kernel
theorem dX0_blockOf_47 : decode cX0_blockOf 47 = .ok (.iload_n 3, 1) := by decide +kernel
theorem dX0_blockOf_48 : decode cX0_blockOf 48 = .ok (.iadd, 1) := by decide +kernel
theorem dX0_blockOf_49 : decode cX0_blockOf 49 = .ok (.iaload, 1) := by decide +kernel
theorem dX0_blockOf_50 : decode cX0_blockOf 50 = .ok (.ireturn, 1) := by decide +kernel
theorem dX0_dropOldest_0 : decode cX0_dropOldest 0 = .ok (.iload_n 1, 1) := by decide +kernel
theorem dX0_dropOldest_1 : decode cX0_dropOldest 1 = .ok (.invokestatic 49, 3) := by decide +kernel
theorem dX0_dropOldest_4 : decode cX0_dropOldest 4 = .ok (.ifCond .eq 5, 3) := by decide +kernel
theorem dX0_dropOldest_7 : decode cX0_dropOldest 7 = .ok (.iconst (-1), 1) := by decide +kernel
theorem dX0_dropOldest_8 : decode cX0_dropOldest 8 = .ok (.ireturn, 1) := by decide +kernel
theorem dX0_dropOldest_9 : decode cX0_dropOldest 9 = .ok (.aload_n 0, 1) := by decide +kernel
theorem dX0_dropOldest_10 : decode cX0_dropOldest 10 = .ok (.getfield 32, 3) := by decide +kernel
theorem dX0_dropOldest_13 : decode cX0_dropOldest 13 = .ok (.iload_n 1, 1) := by decide +kernel
theorem dX0_dropOldest_14 : decode cX0_dropOldest 14 = .ok (.iaload, 1) := by decide +kernel
theorem dX0_dropOldest_15 : decode cX0_dropOldest 15 = .ok (.ifCond .ne 6, 3) := by decide +kernel
theorem dX0_dropOldest_18 : decode cX0_dropOldest 18 = .ok (.bipush (-4), 2) := by decide +kernel
theorem dX0_dropOldest_20 : decode cX0_dropOldest 20 = .ok (.ireturn, 1) := by decide +kernel
theorem dX0_dropOldest_21 : decode cX0_dropOldest 21 = .ok (.aload_n 0, 1) := by decide +kernel
theorem dX0_dropOldest_22 : decode cX0_dropOldest 22 = .ok (.iload_n 1, 1) := by decide +kernel
theorem dX0_dropOldest_23 : decode cX0_dropOldest 23 = .ok (.iconst 0, 1) := by decide +kernel
theorem dX0_dropOldest_24 : decode cX0_dropOldest 24 = .ok (.invokevirtual 62, 3) := by decide +kernel
theorem dX0_dropOldest_27 : decode cX0_dropOldest 27 = .ok (.ireturn, 1) := by decide +kernel
theorem dX0_takeOut_0 : decode cX0_takeOut 0 = .ok (.aload_n 0, 1) := by decide +kernel
theorem dX0_takeOut_1 : decode cX0_takeOut 1 = .ok (.getfield 32, 3) := by decide +kernel
theorem dX0_takeOut_4 : decode cX0_takeOut 4 = .ok (.iload_n 1, 1) := by decide +kernel
theorem dX0_takeOut_5 : decode cX0_takeOut 5 = .ok (.iaload, 1) := by decide +kernel
theorem dX0_takeOut_6 : decode cX0_takeOut 6 = .ok (.iconst 1, 1) := by decide +kernel
theorem dX0_takeOut_7 : decode cX0_takeOut 7 = .ok (.isub, 1) := by decide +kernel
theorem dX0_takeOut_8 : decode cX0_takeOut 8 = .ok (.istore_n 3, 1) := by decide +kernel
theorem dX0_takeOut_9 : decode cX0_takeOut 9 = .ok (.iload_n 1, 1) := by decide +kernel
theorem dX0_takeOut_10 : decode cX0_takeOut 10 = .ok (.bipush 6, 2) := by decide +kernel
theorem dX0_takeOut_12 : decode cX0_takeOut 12 = .ok (.imul, 1) := by decide +kernel
theorem dX0_takeOut_13 : decode cX0_takeOut 13 = .ok (.iload_n 2, 1) := by decide +kernel
theorem dX0_takeOut_14 : decode cX0_takeOut 14 = .ok (.iadd, 1) := by decide +kernel
theorem dX0_takeOut_15 : decode cX0_takeOut 15 = .ok (.istore 4, 2) := by decide +kernel
theorem dX0_takeOut_17 : decode cX0_takeOut 17 = .ok (.iload_n 2, 1) := by decide +kernel
theorem dX0_takeOut_18 : decode cX0_takeOut 18 = .ok (.iload_n 3, 1) := by decide +kernel
theorem dX0_takeOut_19 : decode cX0_takeOut 19 = .ok (.if_icmp .ge 96, 3) := by decide +kernel
theorem dX0_takeOut_22 : decode cX0_takeOut 22 = .ok (.aload_n 0, 1) := by decide +kernel
theorem dX0_takeOut_23 : decode cX0_takeOut 23 = .ok (.getfield 35, 3) := by decide +kernel
theorem dX0_takeOut_26 : decode cX0_takeOut 26 = .ok (.iload 4, 2) := by decide +kernel
theorem dX0_takeOut_28 : decode cX0_takeOut 28 = .ok (.iaload, 1) := by decide +kernel
theorem dX0_takeOut_29 : decode cX0_takeOut 29 = .ok (.aload_n 0, 1) := by decide +kernel
theorem dX0_takeOut_30 : decode cX0_takeOut 30 = .ok (.getfield 35, 3) := by decide +kernel
theorem dX0_takeOut_33 : decode cX0_takeOut 33 = .ok (.iload 4, 2) := by decide +kernel
theorem dX0_takeOut_35 : decode cX0_takeOut 35 = .ok (.iconst 1, 1) := by decide +kernel
theorem dX0_takeOut_36 : decode cX0_takeOut 36 = .ok (.iadd, 1) := by decide +kernel
theorem dX0_takeOut_37 : decode cX0_takeOut 37 = .ok (.iaload, 1) := by decide +kernel
theorem dX0_takeOut_38 : decode cX0_takeOut 38 = .ok (.iconst (-1), 1) := by decide +kernel
theorem dX0_takeOut_39 : decode cX0_takeOut 39 = .ok (.ixor, 1) := by decide +kernel
theorem dX0_takeOut_40 : decode cX0_takeOut 40 = .ok (.iand, 1) := by decide +kernel
theorem dX0_takeOut_41 : decode cX0_takeOut 41 = .ok (.istore 5, 2) := by decide +kernel
theorem dX0_takeOut_43 : decode cX0_takeOut 43 = .ok (.iconst 0, 1) := by decide +kernel
theorem dX0_takeOut_44 : decode cX0_takeOut 44 = .ok (.istore 6, 2) := by decide +kernel
theorem dX0_takeOut_46 : decode cX0_takeOut 46 = .ok (.iload 6, 2) := by decide +kernel
theorem dX0_takeOut_48 : decode cX0_takeOut 48 = .ok (.bipush 16, 2) := by decide +kernel
theorem dX0_takeOut_50 : decode cX0_takeOut 50 = .ok (.if_icmp .ge 48, 3) := by decide +kernel
theorem dX0_takeOut_53 : decode cX0_takeOut 53 = .ok (.iload 5, 2) := by decide +kernel
theorem dX0_takeOut_55 : decode cX0_takeOut 55 = .ok (.iload 6, 2) := by decide +kernel
theorem dX0_takeOut_57 : decode cX0_takeOut 57 = .ok (.ishr, 1) := by decide +kernel
theorem dX0_takeOut_58 : decode cX0_takeOut 58 = .ok (.iconst 1, 1) := by decide +kernel
theorem dX0_takeOut_59 : decode cX0_takeOut 59 = .ok (.iand, 1) := by decide +kernel
theorem dX0_takeOut_60 : decode cX0_takeOut 60 = .ok (.iconst 1, 1) := by decide +kernel
theorem dX0_takeOut_61 : decode cX0_takeOut 61 = .ok (.if_icmp .ne 31, 3) := by decide +kernel
theorem dX0_takeOut_64 : decode cX0_takeOut 64 = .ok (.aload_n 0, 1) := by decide +kernel
theorem dX0_takeOut_65 : decode cX0_takeOut 65 = .ok (.getfield 38, 3) := by decide +kernel
theorem dX0_takeOut_68 : decode cX0_takeOut 68 = .ok (.iload 4, 2) := by decide +kernel
theorem dX0_takeOut_70 : decode cX0_takeOut 70 = .ok (.iconst 1, 1) := by decide +kernel
theorem dX0_takeOut_71 : decode cX0_takeOut 71 = .ok (.iadd, 1) := by decide +kernel
theorem dX0_takeOut_72 : decode cX0_takeOut 72 = .ok (.bipush 16, 2) := by decide +kernel
theorem dX0_takeOut_74 : decode cX0_takeOut 74 = .ok (.imul, 1) := by decide +kernel
theorem dX0_takeOut_75 : decode cX0_takeOut 75 = .ok (.iload 6, 2) := by decide +kernel
theorem dX0_takeOut_77 : decode cX0_takeOut 77 = .ok (.iadd, 1) := by decide +kernel
theorem dX0_takeOut_78 : decode cX0_takeOut 78 = .ok (.aload_n 0, 1) := by decide +kernel
theorem dX0_takeOut_79 : decode cX0_takeOut 79 = .ok (.getfield 38, 3) := by decide +kernel
theorem dX0_takeOut_82 : decode cX0_takeOut 82 = .ok (.iload 4, 2) := by decide +kernel
theorem dX0_takeOut_84 : decode cX0_takeOut 84 = .ok (.bipush 16, 2) := by decide +kernel
theorem dX0_takeOut_86 : decode cX0_takeOut 86 = .ok (.imul, 1) := by decide +kernel
theorem dX0_takeOut_87 : decode cX0_takeOut 87 = .ok (.iload 6, 2) := by decide +kernel
theorem dX0_takeOut_89 : decode cX0_takeOut 89 = .ok (.iadd, 1) := by decide +kernel
theorem dX0_takeOut_90 : decode cX0_takeOut 90 = .ok (.iaload, 1) := by decide +kernel
theorem dX0_takeOut_91 : decode cX0_takeOut 91 = .ok (.iastore, 1) := by decide +kernel
theorem dX0_takeOut_92 : decode cX0_takeOut 92 = .ok (.iinc 6 1, 3) := by decide +kernel
theorem dX0_takeOut_95 : decode cX0_takeOut 95 = .ok (.goto (-49), 3) := by decide +kernel
theorem dX0_takeOut_98 : decode cX0_takeOut 98 = .ok (.aload_n 0, 1) := by decide +kernel
theorem dX0_takeOut_99 : decode cX0_takeOut 99 = .ok (.getfield 35, 3) := by decide +kernel
theorem dX0_takeOut_102 : decode cX0_takeOut 102 = .ok (.iload 4, 2) := by decide +kernel
theorem dX0_takeOut_104 : decode cX0_takeOut 104 = .ok (.iconst 1, 1) := by decide +kernel
theorem dX0_takeOut_105 : decode cX0_takeOut 105 = .ok (.iadd, 1) := by decide +kernel
theorem dX0_takeOut_106 : decode cX0_takeOut 106 = .ok (.dup2, 1) := by decide +kernel
theorem dX0_takeOut_107 : decode cX0_takeOut 107 = .ok (.iaload, 1) := by decide +kernel
theorem dX0_takeOut_108 : decode cX0_takeOut 108 = .ok (.iload 5, 2) := by decide +kernel
theorem dX0_takeOut_110 : decode cX0_takeOut 110 = .ok (.ior, 1) := by decide +kernel
theorem dX0_takeOut_111 : decode cX0_takeOut 111 = .ok (.iastore, 1) := by decide +kernel
theorem dX0_takeOut_112 : decode cX0_takeOut 112 = .ok (.goto 34, 3) := by decide +kernel
theorem dX0_takeOut_115 : decode cX0_takeOut 115 = .ok (.aload_n 0, 1) := by decide +kernel
theorem dX0_takeOut_116 : decode cX0_takeOut 116 = .ok (.getfield 16, 3) := by decide +kernel
theorem dX0_takeOut_119 : decode cX0_takeOut 119 = .ok (.iload_n 1, 1) := by decide +kernel
theorem dX0_takeOut_120 : decode cX0_takeOut 120 = .ok (.dup2, 1) := by decide +kernel
theorem dX0_takeOut_121 : decode cX0_takeOut 121 = .ok (.iaload, 1) := by decide +kernel
theorem dX0_takeOut_122 : decode cX0_takeOut 122 = .ok (.aload_n 0, 1) := by decide +kernel
theorem dX0_takeOut_123 : decode cX0_takeOut 123 = .ok (.getfield 35, 3) := by decide +kernel
theorem dX0_takeOut_126 : decode cX0_takeOut 126 = .ok (.iload 4, 2) := by decide +kernel
theorem dX0_takeOut_128 : decode cX0_takeOut 128 = .ok (.iaload, 1) := by decide +kernel
theorem dX0_takeOut_129 : decode cX0_takeOut 129 = .ok (.ior, 1) := by decide +kernel
theorem dX0_takeOut_130 : decode cX0_takeOut 130 = .ok (.iastore, 1) := by decide +kernel
theorem dX0_takeOut_131 : decode cX0_takeOut 131 = .ok (.aload_n 0, 1) := by decide +kernel
theorem dX0_takeOut_132 : decode cX0_takeOut 132 = .ok (.getfield 29, 3) := by decide +kernel
theorem dX0_takeOut_135 : decode cX0_takeOut 135 = .ok (.iload_n 1, 1) := by decide +kernel
theorem dX0_takeOut_136 : decode cX0_takeOut 136 = .ok (.dup2, 1) := by decide +kernel
theorem dX0_takeOut_137 : decode cX0_takeOut 137 = .ok (.iaload, 1) := by decide +kernel
theorem dX0_takeOut_138 : decode cX0_takeOut 138 = .ok (.iconst 1, 1) := by decide +kernel
theorem dX0_takeOut_139 : decode cX0_takeOut 139 = .ok (.iadd, 1) := by decide +kernel
theorem dX0_takeOut_140 : decode cX0_takeOut 140 = .ok (.iastore, 1) := by decide +kernel
theorem dX0_takeOut_141 : decode cX0_takeOut 141 = .ok (.aload_n 0, 1) := by decide +kernel
theorem dX0_takeOut_142 : decode cX0_takeOut 142 = .ok (.iconst 0, 1) := by decide +kernel
theorem dX0_takeOut_143 : decode cX0_takeOut 143 = .ok (.putfield 41, 3) := by decide +kernel
theorem dX0_takeOut_146 : decode cX0_takeOut 146 = .ok (.iload 4, 2) := by decide +kernel
theorem dX0_takeOut_148 : decode cX0_takeOut 148 = .ok (.istore 5, 2) := by decide +kernel
theorem dX0_takeOut_150 : decode cX0_takeOut 150 = .ok (.iload 5, 2) := by decide +kernel
theorem dX0_takeOut_152 : decode cX0_takeOut 152 = .ok (.iload_n 1, 1) := by decide +kernel
theorem dX0_takeOut_153 : decode cX0_takeOut 153 = .ok (.bipush 6, 2) := by decide +kernel
theorem dX0_takeOut_155 : decode cX0_takeOut 155 = .ok (.imul, 1) := by decide +kernel
theorem dX0_takeOut_156 : decode cX0_takeOut 156 = .ok (.iload_n 3, 1) := by decide +kernel
theorem dX0_takeOut_157 : decode cX0_takeOut 157 = .ok (.iadd, 1) := by decide +kernel
theorem dX0_takeOut_158 : decode cX0_takeOut 158 = .ok (.if_icmp .ge 19, 3) := by decide +kernel
theorem dX0_takeOut_161 : decode cX0_takeOut 161 = .ok (.aload_n 0, 1) := by decide +kernel
theorem dX0_takeOut_162 : decode cX0_takeOut 162 = .ok (.iload 5, 2) := by decide +kernel
theorem dX0_takeOut_164 : decode cX0_takeOut 164 = .ok (.iconst 1, 1) := by decide +kernel
theorem dX0_takeOut_165 : decode cX0_takeOut 165 = .ok (.iadd, 1) := by decide +kernel
theorem dX0_takeOut_166 : decode cX0_takeOut 166 = .ok (.iload 5, 2) := by decide +kernel
theorem dX0_takeOut_168 : decode cX0_takeOut 168 = .ok (.invokevirtual 66, 3) := by decide +kernel
theorem dX0_takeOut_171 : decode cX0_takeOut 171 = .ok (.iinc 5 1, 3) := by decide +kernel
theorem dX0_takeOut_174 : decode cX0_takeOut 174 = .ok (.goto (-24), 3) := by decide +kernel
theorem dX0_takeOut_177 : decode cX0_takeOut 177 = .ok (.aload_n 0, 1) := by decide +kernel
theorem dX0_takeOut_178 : decode cX0_takeOut 178 = .ok (.getfield 32, 3) := by decide +kernel
theorem dX0_takeOut_181 : decode cX0_takeOut 181 = .ok (.iload_n 1, 1) := by decide +kernel
theorem dX0_takeOut_182 : decode cX0_takeOut 182 = .ok (.iload_n 3, 1) := by decide +kernel
theorem dX0_takeOut_183 : decode cX0_takeOut 183 = .ok (.iastore, 1) := by decide +kernel
theorem dX0_takeOut_184 : decode cX0_takeOut 184 = .ok (.iload_n 3, 1) := by decide +kernel
theorem dX0_takeOut_185 : decode cX0_takeOut 185 = .ok (.ireturn, 1) := by decide +kernel
theorem dX0_moveImage_0 : decode cX0_moveImage 0 = .ok (.aload_n 0, 1) := by decide +kernel
theorem dX0_moveImage_1 : decode cX0_moveImage 1 = .ok (.getfield 35, 3) := by decide +kernel
theorem dX0_moveImage_4 : decode cX0_moveImage 4 = .ok (.iload_n 2, 1) := by decide +kernel
theorem dX0_moveImage_5 : decode cX0_moveImage 5 = .ok (.aload_n 0, 1) := by decide +kernel
theorem dX0_moveImage_6 : decode cX0_moveImage 6 = .ok (.getfield 35, 3) := by decide +kernel
theorem dX0_moveImage_9 : decode cX0_moveImage 9 = .ok (.iload_n 1, 1) := by decide +kernel
theorem dX0_moveImage_10 : decode cX0_moveImage 10 = .ok (.iaload, 1) := by decide +kernel
theorem dX0_moveImage_11 : decode cX0_moveImage 11 = .ok (.iastore, 1) := by decide +kernel
theorem dX0_moveImage_12 : decode cX0_moveImage 12 = .ok (.iconst 0, 1) := by decide +kernel
theorem dX0_moveImage_13 : decode cX0_moveImage 13 = .ok (.istore_n 3, 1) := by decide +kernel
theorem dX0_moveImage_14 : decode cX0_moveImage 14 = .ok (.iload_n 3, 1) := by decide +kernel
theorem dX0_moveImage_15 : decode cX0_moveImage 15 = .ok (.bipush 16, 2) := by decide +kernel
theorem dX0_moveImage_17 : decode cX0_moveImage 17 = .ok (.if_icmp .ge 31, 3) := by decide +kernel
theorem dX0_moveImage_20 : decode cX0_moveImage 20 = .ok (.aload_n 0, 1) := by decide +kernel
theorem dX0_moveImage_21 : decode cX0_moveImage 21 = .ok (.getfield 38, 3) := by decide +kernel
theorem dX0_moveImage_24 : decode cX0_moveImage 24 = .ok (.iload_n 2, 1) := by decide +kernel
theorem dX0_moveImage_25 : decode cX0_moveImage 25 = .ok (.bipush 16, 2) := by decide +kernel
theorem dX0_moveImage_27 : decode cX0_moveImage 27 = .ok (.imul, 1) := by decide +kernel
theorem dX0_moveImage_28 : decode cX0_moveImage 28 = .ok (.iload_n 3, 1) := by decide +kernel
theorem dX0_moveImage_29 : decode cX0_moveImage 29 = .ok (.iadd, 1) := by decide +kernel
theorem dX0_moveImage_30 : decode cX0_moveImage 30 = .ok (.aload_n 0, 1) := by decide +kernel
theorem dX0_moveImage_31 : decode cX0_moveImage 31 = .ok (.getfield 38, 3) := by decide +kernel
theorem dX0_moveImage_34 : decode cX0_moveImage 34 = .ok (.iload_n 1, 1) := by decide +kernel
theorem dX0_moveImage_35 : decode cX0_moveImage 35 = .ok (.bipush 16, 2) := by decide +kernel
theorem dX0_moveImage_37 : decode cX0_moveImage 37 = .ok (.imul, 1) := by decide +kernel
theorem dX0_moveImage_38 : decode cX0_moveImage 38 = .ok (.iload_n 3, 1) := by decide +kernel
theorem dX0_moveImage_39 : decode cX0_moveImage 39 = .ok (.iadd, 1) := by decide +kernel
theorem dX0_moveImage_40 : decode cX0_moveImage 40 = .ok (.iaload, 1) := by decide +kernel
theorem dX0_moveImage_41 : decode cX0_moveImage 41 = .ok (.iastore, 1) := by decide +kernel
theorem dX0_moveImage_42 : decode cX0_moveImage 42 = .ok (.iinc 3 1, 3) := by decide +kernel
theorem dX0_moveImage_45 : decode cX0_moveImage 45 = .ok (.goto (-31), 3) := by decide +kernel
theorem dX0_moveImage_48 : decode cX0_moveImage 48 = .ok (.return_, 1) := by decide +kernel
theorem dX0_drop_0 : decode cX0_drop 0 = .ok (.iload_n 1, 1) := by decide +kernel
theorem dX0_drop_1 : decode cX0_drop 1 = .ok (.invokestatic 49, 3) := by decide +kernel
theorem dX0_drop_4 : decode cX0_drop 4 = .ok (.ifCond .eq 5, 3) := by decide +kernel
theorem dX0_drop_7 : decode cX0_drop 7 = .ok (.iconst (-1), 1) := by decide +kernel
theorem dX0_drop_8 : decode cX0_drop 8 = .ok (.ireturn, 1) := by decide +kernel
theorem dX0_drop_9 : decode cX0_drop 9 = .ok (.aload_n 0, 1) := by decide +kernel
theorem dX0_drop_10 : decode cX0_drop 10 = .ok (.iload_n 1, 1) := by decide +kernel
theorem dX0_drop_11 : decode cX0_drop 11 = .ok (.iload_n 2, 1) := by decide +kernel
theorem dX0_drop_12 : decode cX0_drop 12 = .ok (.invokevirtual 54, 3) := by decide +kernel
theorem dX0_drop_15 : decode cX0_drop 15 = .ok (.ifCond .eq 6, 3) := by decide +kernel
theorem dX0_drop_18 : decode cX0_drop 18 = .ok (.bipush (-4), 2) := by decide +kernel
theorem dX0_drop_20 : decode cX0_drop 20 = .ok (.ireturn, 1) := by decide +kernel
theorem dX0_drop_21 : decode cX0_drop 21 = .ok (.aload_n 0, 1) := by decide +kernel
theorem dX0_drop_22 : decode cX0_drop 22 = .ok (.iload_n 1, 1) := by decide +kernel
theorem dX0_drop_23 : decode cX0_drop 23 = .ok (.iload_n 2, 1) := by decide +kernel
theorem dX0_drop_24 : decode cX0_drop 24 = .ok (.invokevirtual 62, 3) := by decide +kernel
theorem dX0_drop_27 : decode cX0_drop 27 = .ok (.ireturn, 1) := by decide +kernel
theorem dX0_restart_0 : decode cX0_restart 0 = .ok (.iconst 0, 1) := by decide +kernel
theorem dX0_restart_1 : decode cX0_restart 1 = .ok (.istore_n 1, 1) := by decide +kernel
theorem dX0_restart_2 : decode cX0_restart 2 = .ok (.iload_n 1, 1) := by decide +kernel
theorem dX0_restart_3 : decode cX0_restart 3 = .ok (.iconst 2, 1) := by decide +kernel
theorem dX0_restart_4 : decode cX0_restart 4 = .ok (.if_icmp .ge 46, 3) := by decide +kernel
theorem dX0_restart_7 : decode cX0_restart 7 = .ok (.aload_n 0, 1) := by decide +kernel
theorem dX0_restart_8 : decode cX0_restart 8 = .ok (.getfield 23, 3) := by decide +kernel
theorem dX0_restart_11 : decode cX0_restart 11 = .ok (.iload_n 1, 1) := by decide +kernel
theorem dX0_restart_12 : decode cX0_restart 12 = .ok (.aload_n 0, 1) := by decide +kernel
theorem dX0_restart_13 : decode cX0_restart 13 = .ok (.getfield 16, 3) := by decide +kernel
theorem dX0_restart_16 : decode cX0_restart 16 = .ok (.iload_n 1, 1) := by decide +kernel
theorem dX0_restart_17 : decode cX0_restart 17 = .ok (.iaload, 1) := by decide +kernel
theorem dX0_restart_18 : decode cX0_restart 18 = .ok (.iastore, 1) := by decide +kernel
theorem dX0_restart_19 : decode cX0_restart 19 = .ok (.aload_n 0, 1) := by decide +kernel
theorem dX0_restart_20 : decode cX0_restart 20 = .ok (.getfield 26, 3) := by decide +kernel
theorem dX0_restart_23 : decode cX0_restart 23 = .ok (.iload_n 1, 1) := by decide +kernel
theorem dX0_restart_24 : decode cX0_restart 24 = .ok (.aload_n 0, 1) := by decide +kernel
theorem dX0_restart_25 : decode cX0_restart 25 = .ok (.getfield 19, 3) := by decide +kernel
theorem dX0_restart_28 : decode cX0_restart 28 = .ok (.iload_n 1, 1) := by decide +kernel
theorem dX0_restart_29 : decode cX0_restart 29 = .ok (.baload, 1) := by decide +kernel
theorem dX0_restart_30 : decode cX0_restart 30 = .ok (.ifCond .eq 12, 3) := by decide +kernel
theorem dX0_restart_33 : decode cX0_restart 33 = .ok (.aload_n 0, 1) := by decide +kernel
theorem dX0_restart_34 : decode cX0_restart 34 = .ok (.getfield 29, 3) := by decide +kernel
theorem dX0_restart_37 : decode cX0_restart 37 = .ok (.iload_n 1, 1) := by decide +kernel
theorem dX0_restart_38 : decode cX0_restart 38 = .ok (.iaload, 1) := by decide +kernel
theorem dX0_restart_39 : decode cX0_restart 39 = .ok (.goto 4, 3) := by decide +kernel
theorem dX0_restart_42 : decode cX0_restart 42 = .ok (.iconst (-1), 1) := by decide +kernel
theorem dX0_restart_43 : decode cX0_restart 43 = .ok (.iastore, 1) := by decide +kernel
theorem dX0_restart_44 : decode cX0_restart 44 = .ok (.iinc 1 1, 3) := by decide +kernel
theorem dX0_restart_47 : decode cX0_restart 47 = .ok (.goto (-45), 3) := by decide +kernel
theorem dX0_restart_50 : decode cX0_restart 50 = .ok (.aload_n 0, 1) := by decide +kernel
theorem dX0_restart_51 : decode cX0_restart 51 = .ok (.iconst 1, 1) := by decide +kernel
theorem dX0_restart_52 : decode cX0_restart 52 = .ok (.putfield 41, 3) := by decide +kernel
theorem dX0_restart_55 : decode cX0_restart 55 = .ok (.aload_n 0, 1) := by decide +kernel
theorem dX0_restart_56 : decode cX0_restart 56 = .ok (.invokevirtual 69, 3) := by decide +kernel
theorem dX0_restart_59 : decode cX0_restart 59 = .ok (.return_, 1) := by decide +kernel
theorem dX0_start_0 : decode cX0_start 0 = .ok (.iconst 0, 1) := by decide +kernel
theorem dX0_start_1 : decode cX0_start 1 = .ok (.istore_n 1, 1) := by decide +kernel
theorem dX0_start_2 : decode cX0_start 2 = .ok (.iload_n 1, 1) := by decide +kernel
theorem dX0_start_3 : decode cX0_start 3 = .ok (.iconst 2, 1) := by decide +kernel
theorem dX0_start_4 : decode cX0_start 4 = .ok (.if_icmp .ge 74, 3) := by decide +kernel
theorem dX0_start_7 : decode cX0_start 7 = .ok (.aload_n 0, 1) := by decide +kernel
theorem dX0_start_8 : decode cX0_start 8 = .ok (.getfield 41, 3) := by decide +kernel
theorem dX0_start_11 : decode cX0_start 11 = .ok (.ifCond .eq 31, 3) := by decide +kernel
theorem dX0_start_14 : decode cX0_start 14 = .ok (.aload_n 0, 1) := by decide +kernel
theorem dX0_start_15 : decode cX0_start 15 = .ok (.getfield 19, 3) := by decide +kernel
theorem dX0_start_18 : decode cX0_start 18 = .ok (.iload_n 1, 1) := by decide +kernel
theorem dX0_start_19 : decode cX0_start 19 = .ok (.baload, 1) := by decide +kernel
theorem dX0_start_20 : decode cX0_start 20 = .ok (.ifCond .eq 22, 3) := by decide +kernel
theorem dX0_start_23 : decode cX0_start 23 = .ok (.aload_n 0, 1) := by decide +kernel
theorem dX0_start_24 : decode cX0_start 24 = .ok (.getfield 26, 3) := by decide +kernel
theorem dX0_start_27 : decode cX0_start 27 = .ok (.iload_n 1, 1) := by decide +kernel
theorem dX0_start_28 : decode cX0_start 28 = .ok (.iaload, 1) := by decide +kernel
theorem dX0_start_29 : decode cX0_start 29 = .ok (.aload_n 0, 1) := by decide +kernel
theorem dX0_start_30 : decode cX0_start 30 = .ok (.getfield 29, 3) := by decide +kernel
theorem dX0_start_33 : decode cX0_start 33 = .ok (.iload_n 1, 1) := by decide +kernel
theorem dX0_start_34 : decode cX0_start 34 = .ok (.iaload, 1) := by decide +kernel
theorem dX0_start_35 : decode cX0_start 35 = .ok (.if_icmp .ne 7, 3) := by decide +kernel
theorem dX0_start_38 : decode cX0_start 38 = .ok (.iconst 1, 1) := by decide +kernel
theorem dX0_start_39 : decode cX0_start 39 = .ok (.goto 4, 3) := by decide +kernel
theorem dX0_start_42 : decode cX0_start 42 = .ok (.iconst 0, 1) := by decide +kernel
theorem dX0_start_43 : decode cX0_start 43 = .ok (.istore_n 2, 1) := by decide +kernel
theorem dX0_start_44 : decode cX0_start 44 = .ok (.aload_n 0, 1) := by decide +kernel
theorem dX0_start_45 : decode cX0_start 45 = .ok (.getfield 19, 3) := by decide +kernel
theorem dX0_start_48 : decode cX0_start 48 = .ok (.iload_n 1, 1) := by decide +kernel
theorem dX0_start_49 : decode cX0_start 49 = .ok (.iload_n 2, 1) := by decide +kernel
theorem dX0_start_50 : decode cX0_start 50 = .ok (.bastore, 1) := by decide +kernel
theorem dX0_start_51 : decode cX0_start 51 = .ok (.aload_n 0, 1) := by decide +kernel
theorem dX0_start_52 : decode cX0_start 52 = .ok (.getfield 16, 3) := by decide +kernel
theorem dX0_start_55 : decode cX0_start 55 = .ok (.iload_n 1, 1) := by decide +kernel
theorem dX0_start_56 : decode cX0_start 56 = .ok (.iload_n 2, 1) := by decide +kernel
theorem dX0_start_57 : decode cX0_start 57 = .ok (.ifCond .eq 12, 3) := by decide +kernel
theorem dX0_start_60 : decode cX0_start 60 = .ok (.aload_n 0, 1) := by decide +kernel
theorem dX0_start_61 : decode cX0_start 61 = .ok (.getfield 23, 3) := by decide +kernel
theorem dX0_start_64 : decode cX0_start 64 = .ok (.iload_n 1, 1) := by decide +kernel
theorem dX0_start_65 : decode cX0_start 65 = .ok (.iaload, 1) := by decide +kernel
theorem dX0_start_66 : decode cX0_start 66 = .ok (.goto 5, 3) := by decide +kernel
theorem dX0_start_69 : decode cX0_start 69 = .ok (.ldc 53, 2) := by decide +kernel
theorem dX0_start_71 : decode cX0_start 71 = .ok (.iastore, 1) := by decide +kernel
theorem dX0_start_72 : decode cX0_start 72 = .ok (.iinc 1 1, 3) := by decide +kernel
theorem dX0_start_75 : decode cX0_start 75 = .ok (.goto (-73), 3) := by decide +kernel
theorem dX0_start_78 : decode cX0_start 78 = .ok (.return_, 1) := by decide +kernel
theorem dX0_crash_0 : decode cX0_crash 0 = .ok (.aload_n 0, 1) := by decide +kernel
theorem dX0_crash_1 : decode cX0_crash 1 = .ok (.invokevirtual 69, 3) := by decide +kernel
theorem dX0_crash_4 : decode cX0_crash 4 = .ok (.return_, 1) := by decide +kernel
theorem dX0_read_0 : decode cX0_read 0 = .ok (.iload_n 1, 1) := by decide +kernel
theorem dX0_read_1 : decode cX0_read 1 = .ok (.ifCond .lt 9, 3) := by decide +kernel
theorem dX0_read_4 : decode cX0_read 4 = .ok (.iload_n 1, 1) := by decide +kernel
theorem dX0_read_5 : decode cX0_read 5 = .ok (.bipush 16, 2) := by decide +kernel
theorem dX0_read_7 : decode cX0_read 7 = .ok (.if_icmp .lt 5, 3) := by decide +kernel
theorem dX0_read_10 : decode cX0_read 10 = .ok (.iconst 0, 1) := by decide +kernel
theorem dX0_read_11 : decode cX0_read 11 = .ok (.ireturn, 1) := by decide +kernel
theorem dX0_read_12 : decode cX0_read 12 = .ok (.aload_n 0, 1) := by decide +kernel
theorem dX0_read_13 : decode cX0_read 13 = .ok (.getfield 7, 3) := by decide +kernel
theorem dX0_read_16 : decode cX0_read 16 = .ok (.iload_n 1, 1) := by decide +kernel
theorem dX0_read_17 : decode cX0_read 17 = .ok (.iaload, 1) := by decide +kernel
theorem dX0_read_18 : decode cX0_read 18 = .ok (.ireturn, 1) := by decide +kernel
theorem dX0_readBackup_0 : decode cX0_readBackup 0 = .ok (.iload_n 1, 1) := by decide +kernel
theorem dX0_readBackup_1 : decode cX0_readBackup 1 = .ok (.invokestatic 49, 3) := by decide +kernel
theorem dX0_readBackup_4 : decode cX0_readBackup 4 = .ok (.ifCond .ne 22, 3) := by decide +kernel
theorem dX0_readBackup_7 : decode cX0_readBackup 7 = .ok (.aload_n 0, 1) := by decide +kernel
theorem dX0_readBackup_8 : decode cX0_readBackup 8 = .ok (.iload_n 1, 1) := by decide +kernel
theorem dX0_readBackup_9 : decode cX0_readBackup 9 = .ok (.iload_n 2, 1) := by decide +kernel
theorem dX0_readBackup_10 : decode cX0_readBackup 10 = .ok (.invokevirtual 54, 3) := by decide +kernel
theorem dX0_readBackup_13 : decode cX0_readBackup 13 = .ok (.ifCond .ne 13, 3) := by decide +kernel
theorem dX0_readBackup_16 : decode cX0_readBackup 16 = .ok (.iload_n 3, 1) := by decide +kernel
theorem dX0_readBackup_17 : decode cX0_readBackup 17 = .ok (.ifCond .lt 9, 3) := by decide +kernel
theorem dX0_readBackup_20 : decode cX0_readBackup 20 = .ok (.iload_n 3, 1) := by decide +kernel
theorem dX0_readBackup_21 : decode cX0_readBackup 21 = .ok (.bipush 16, 2) := by decide +kernel
theorem dX0_readBackup_23 : decode cX0_readBackup 23 = .ok (.if_icmp .lt 5, 3) := by decide +kernel
theorem dX0_readBackup_26 : decode cX0_readBackup 26 = .ok (.iconst 0, 1) := by decide +kernel
theorem dX0_readBackup_27 : decode cX0_readBackup 27 = .ok (.ireturn, 1) := by decide +kernel
theorem dX0_readBackup_28 : decode cX0_readBackup 28 = .ok (.aload_n 0, 1) := by decide +kernel
theorem dX0_readBackup_29 : decode cX0_readBackup 29 = .ok (.iload_n 1, 1) := by decide +kernel
theorem dX0_readBackup_30 : decode cX0_readBackup 30 = .ok (.iload_n 2, 1) := by decide +kernel
theorem dX0_readBackup_31 : decode cX0_readBackup 31 = .ok (.iload_n 3, 1) := by decide +kernel
theorem dX0_readBackup_32 : decode cX0_readBackup 32 = .ok (.invokevirtual 58, 3) := by decide +kernel
theorem dX0_readBackup_35 : decode cX0_readBackup 35 = .ok (.ireturn, 1) := by decide +kernel
theorem dX0_backups_0 : decode cX0_backups 0 = .ok (.iload_n 1, 1) := by decide +kernel
end
section
set_option maxRecDepth 100000
theorem dX0_backups_1 : decode cX0_backups 1 = .ok (.invokestatic 49, 3) := by decide +kernel
theorem dX0_backups_4 : decode cX0_backups 4 = .ok (.ifCond .eq 7, 3) := by decide +kernel
theorem dX0_backups_7 : decode cX0_backups 7 = .ok (.iconst (-1), 1) := by decide +kernel
theorem dX0_backups_8 : decode cX0_backups 8 = .ok (.goto 9, 3) := by decide +kernel
theorem dX0_backups_11 : decode cX0_backups 11 = .ok (.aload_n 0, 1) := by decide +kernel
theorem dX0_backups_12 : decode cX0_backups 12 = .ok (.getfield 32, 3) := by decide +kernel
theorem dX0_backups_15 : decode cX0_backups 15 = .ok (.iload_n 1, 1) := by decide +kernel
theorem dX0_backups_16 : decode cX0_backups 16 = .ok (.iaload, 1) := by decide +kernel
theorem dX0_backups_17 : decode cX0_backups 17 = .ok (.ireturn, 1) := by decide +kernel
theorem dX0_changed_0 : decode cX0_changed 0 = .ok (.iload_n 1, 1) := by decide +kernel
theorem dX0_changed_1 : decode cX0_changed 1 = .ok (.invokestatic 49, 3) := by decide +kernel
theorem dX0_changed_4 : decode cX0_changed 4 = .ok (.ifCond .eq 5, 3) := by decide +kernel
theorem dX0_changed_7 : decode cX0_changed 7 = .ok (.iconst (-1), 1) := by decide +kernel
theorem dX0_changed_8 : decode cX0_changed 8 = .ok (.ireturn, 1) := by decide +kernel
theorem dX0_changed_9 : decode cX0_changed 9 = .ok (.aload_n 0, 1) := by decide +kernel
theorem dX0_changed_10 : decode cX0_changed 10 = .ok (.getfield 32, 3) := by decide +kernel
theorem dX0_changed_13 : decode cX0_changed 13 = .ok (.iload_n 1, 1) := by decide +kernel
theorem dX0_changed_14 : decode cX0_changed 14 = .ok (.iaload, 1) := by decide +kernel
theorem dX0_changed_15 : decode cX0_changed 15 = .ok (.iconst 1, 1) := by decide +kernel
theorem dX0_changed_16 : decode cX0_changed 16 = .ok (.isub, 1) := by decide +kernel
theorem dX0_changed_17 : decode cX0_changed 17 = .ok (.istore_n 2, 1) := by decide +kernel
theorem dX0_changed_18 : decode cX0_changed 18 = .ok (.iload_n 2, 1) := by decide +kernel
theorem dX0_changed_19 : decode cX0_changed 19 = .ok (.ifCond .ge 6, 3) := by decide +kernel
theorem dX0_changed_22 : decode cX0_changed 22 = .ok (.bipush (-4), 2) := by decide +kernel
theorem dX0_changed_24 : decode cX0_changed 24 = .ok (.ireturn, 1) := by decide +kernel
theorem dX0_changed_25 : decode cX0_changed 25 = .ok (.aload_n 0, 1) := by decide +kernel
theorem dX0_changed_26 : decode cX0_changed 26 = .ok (.getfield 19, 3) := by decide +kernel
theorem dX0_changed_29 : decode cX0_changed 29 = .ok (.iload_n 1, 1) := by decide +kernel
theorem dX0_changed_30 : decode cX0_changed 30 = .ok (.baload, 1) := by decide +kernel
theorem dX0_changed_31 : decode cX0_changed 31 = .ok (.ifCond .eq 12, 3) := by decide +kernel
theorem dX0_changed_34 : decode cX0_changed 34 = .ok (.aload_n 0, 1) := by decide +kernel
theorem dX0_changed_35 : decode cX0_changed 35 = .ok (.getfield 16, 3) := by decide +kernel
theorem dX0_changed_38 : decode cX0_changed 38 = .ok (.iload_n 1, 1) := by decide +kernel
theorem dX0_changed_39 : decode cX0_changed 39 = .ok (.iaload, 1) := by decide +kernel
theorem dX0_changed_40 : decode cX0_changed 40 = .ok (.goto 5, 3) := by decide +kernel
theorem dX0_changed_43 : decode cX0_changed 43 = .ok (.ldc 53, 2) := by decide +kernel
theorem dX0_changed_45 : decode cX0_changed 45 = .ok (.istore_n 3, 1) := by decide +kernel
theorem dX0_changed_46 : decode cX0_changed 46 = .ok (.iconst 0, 1) := by decide +kernel
theorem dX0_changed_47 : decode cX0_changed 47 = .ok (.istore 4, 2) := by decide +kernel
theorem dX0_changed_49 : decode cX0_changed 49 = .ok (.iconst 0, 1) := by decide +kernel
theorem dX0_changed_50 : decode cX0_changed 50 = .ok (.istore 5, 2) := by decide +kernel
theorem dX0_changed_52 : decode cX0_changed 52 = .ok (.iload 5, 2) := by decide +kernel
theorem dX0_changed_54 : decode cX0_changed 54 = .ok (.bipush 16, 2) := by decide +kernel
theorem dX0_changed_56 : decode cX0_changed 56 = .ok (.if_icmp .ge 44, 3) := by decide +kernel
theorem dX0_changed_59 : decode cX0_changed 59 = .ok (.iload_n 3, 1) := by decide +kernel
theorem dX0_changed_60 : decode cX0_changed 60 = .ok (.iload 5, 2) := by decide +kernel
theorem dX0_changed_62 : decode cX0_changed 62 = .ok (.ishr, 1) := by decide +kernel
theorem dX0_changed_63 : decode cX0_changed 63 = .ok (.iconst 1, 1) := by decide +kernel
theorem dX0_changed_64 : decode cX0_changed 64 = .ok (.iand, 1) := by decide +kernel
theorem dX0_changed_65 : decode cX0_changed 65 = .ok (.iconst 1, 1) := by decide +kernel
theorem dX0_changed_66 : decode cX0_changed 66 = .ok (.if_icmp .ne 28, 3) := by decide +kernel
theorem dX0_changed_69 : decode cX0_changed 69 = .ok (.aload_n 0, 1) := by decide +kernel
theorem dX0_changed_70 : decode cX0_changed 70 = .ok (.iload_n 1, 1) := by decide +kernel
theorem dX0_changed_71 : decode cX0_changed 71 = .ok (.iload_n 2, 1) := by decide +kernel
theorem dX0_changed_72 : decode cX0_changed 72 = .ok (.iload 5, 2) := by decide +kernel
theorem dX0_changed_74 : decode cX0_changed 74 = .ok (.invokevirtual 58, 3) := by decide +kernel
theorem dX0_changed_77 : decode cX0_changed 77 = .ok (.istore 6, 2) := by decide +kernel
theorem dX0_changed_79 : decode cX0_changed 79 = .ok (.iload 6, 2) := by decide +kernel
theorem dX0_changed_81 : decode cX0_changed 81 = .ok (.aload_n 0, 1) := by decide +kernel
theorem dX0_changed_82 : decode cX0_changed 82 = .ok (.getfield 7, 3) := by decide +kernel
theorem dX0_changed_85 : decode cX0_changed 85 = .ok (.iload 5, 2) := by decide +kernel
theorem dX0_changed_87 : decode cX0_changed 87 = .ok (.iaload, 1) := by decide +kernel
theorem dX0_changed_88 : decode cX0_changed 88 = .ok (.if_icmp .eq 6, 3) := by decide +kernel
theorem dX0_changed_91 : decode cX0_changed 91 = .ok (.iinc 4 1, 3) := by decide +kernel
theorem dX0_changed_94 : decode cX0_changed 94 = .ok (.iinc 5 1, 3) := by decide +kernel
theorem dX0_changed_97 : decode cX0_changed 97 = .ok (.goto (-45), 3) := by decide +kernel
theorem dX0_changed_100 : decode cX0_changed 100 = .ok (.iload 4, 2) := by decide +kernel
theorem dX0_changed_102 : decode cX0_changed 102 = .ok (.ireturn, 1) := by decide +kernel
theorem dX0_differ_0 : decode cX0_differ 0 = .ok (.iload_n 1, 1) := by decide +kernel
theorem dX0_differ_1 : decode cX0_differ 1 = .ok (.invokestatic 49, 3) := by decide +kernel
theorem dX0_differ_4 : decode cX0_differ 4 = .ok (.ifCond .eq 5, 3) := by decide +kernel
theorem dX0_differ_7 : decode cX0_differ 7 = .ok (.iconst (-1), 1) := by decide +kernel
theorem dX0_differ_8 : decode cX0_differ 8 = .ok (.ireturn, 1) := by decide +kernel
theorem dX0_differ_9 : decode cX0_differ 9 = .ok (.aload_n 0, 1) := by decide +kernel
theorem dX0_differ_10 : decode cX0_differ 10 = .ok (.iload_n 1, 1) := by decide +kernel
theorem dX0_differ_11 : decode cX0_differ 11 = .ok (.iload_n 2, 1) := by decide +kernel
theorem dX0_differ_12 : decode cX0_differ 12 = .ok (.invokevirtual 54, 3) := by decide +kernel
theorem dX0_differ_15 : decode cX0_differ 15 = .ok (.ifCond .ne 12, 3) := by decide +kernel
theorem dX0_differ_18 : decode cX0_differ 18 = .ok (.aload_n 0, 1) := by decide +kernel
theorem dX0_differ_19 : decode cX0_differ 19 = .ok (.iload_n 1, 1) := by decide +kernel
theorem dX0_differ_20 : decode cX0_differ 20 = .ok (.iload_n 3, 1) := by decide +kernel
theorem dX0_differ_21 : decode cX0_differ 21 = .ok (.invokevirtual 54, 3) := by decide +kernel
theorem dX0_differ_24 : decode cX0_differ 24 = .ok (.ifCond .eq 6, 3) := by decide +kernel
theorem dX0_differ_27 : decode cX0_differ 27 = .ok (.bipush (-4), 2) := by decide +kernel
theorem dX0_differ_29 : decode cX0_differ 29 = .ok (.ireturn, 1) := by decide +kernel
theorem dX0_differ_30 : decode cX0_differ 30 = .ok (.iload_n 2, 1) := by decide +kernel
theorem dX0_differ_31 : decode cX0_differ 31 = .ok (.iload_n 3, 1) := by decide +kernel
theorem dX0_differ_32 : decode cX0_differ 32 = .ok (.if_icmp .ge 7, 3) := by decide +kernel
theorem dX0_differ_35 : decode cX0_differ 35 = .ok (.iload_n 2, 1) := by decide +kernel
theorem dX0_differ_36 : decode cX0_differ 36 = .ok (.goto 4, 3) := by decide +kernel
theorem dX0_differ_39 : decode cX0_differ 39 = .ok (.iload_n 3, 1) := by decide +kernel
theorem dX0_differ_40 : decode cX0_differ 40 = .ok (.istore 4, 2) := by decide +kernel
theorem dX0_differ_42 : decode cX0_differ 42 = .ok (.iload_n 2, 1) := by decide +kernel
theorem dX0_differ_43 : decode cX0_differ 43 = .ok (.iload_n 3, 1) := by decide +kernel
theorem dX0_differ_44 : decode cX0_differ 44 = .ok (.if_icmp .ge 7, 3) := by decide +kernel
theorem dX0_differ_47 : decode cX0_differ 47 = .ok (.iload_n 3, 1) := by decide +kernel
theorem dX0_differ_48 : decode cX0_differ 48 = .ok (.goto 4, 3) := by decide +kernel
theorem dX0_differ_51 : decode cX0_differ 51 = .ok (.iload_n 2, 1) := by decide +kernel
theorem dX0_differ_52 : decode cX0_differ 52 = .ok (.istore 5, 2) := by decide +kernel
theorem dX0_differ_54 : decode cX0_differ 54 = .ok (.iconst 0, 1) := by decide +kernel
theorem dX0_differ_55 : decode cX0_differ 55 = .ok (.istore 6, 2) := by decide +kernel
theorem dX0_differ_57 : decode cX0_differ 57 = .ok (.iload 4, 2) := by decide +kernel
theorem dX0_differ_59 : decode cX0_differ 59 = .ok (.iconst 1, 1) := by decide +kernel
theorem dX0_differ_60 : decode cX0_differ 60 = .ok (.iadd, 1) := by decide +kernel
theorem dX0_differ_61 : decode cX0_differ 61 = .ok (.istore 7, 2) := by decide +kernel
theorem dX0_differ_63 : decode cX0_differ 63 = .ok (.iload 7, 2) := by decide +kernel
theorem dX0_differ_65 : decode cX0_differ 65 = .ok (.iload 5, 2) := by decide +kernel
theorem dX0_differ_67 : decode cX0_differ 67 = .ok (.if_icmp .gt 26, 3) := by decide +kernel
theorem dX0_differ_70 : decode cX0_differ 70 = .ok (.iload 6, 2) := by decide +kernel
theorem dX0_differ_72 : decode cX0_differ 72 = .ok (.aload_n 0, 1) := by decide +kernel
theorem dX0_differ_73 : decode cX0_differ 73 = .ok (.getfield 35, 3) := by decide +kernel
theorem dX0_differ_76 : decode cX0_differ 76 = .ok (.iload_n 1, 1) := by decide +kernel
theorem dX0_differ_77 : decode cX0_differ 77 = .ok (.bipush 6, 2) := by decide +kernel
theorem dX0_differ_79 : decode cX0_differ 79 = .ok (.imul, 1) := by decide +kernel
theorem dX0_differ_80 : decode cX0_differ 80 = .ok (.iload 7, 2) := by decide +kernel
theorem dX0_differ_82 : decode cX0_differ 82 = .ok (.iadd, 1) := by decide +kernel
theorem dX0_differ_83 : decode cX0_differ 83 = .ok (.iaload, 1) := by decide +kernel
theorem dX0_differ_84 : decode cX0_differ 84 = .ok (.ior, 1) := by decide +kernel
theorem dX0_differ_85 : decode cX0_differ 85 = .ok (.istore 6, 2) := by decide +kernel
theorem dX0_differ_87 : decode cX0_differ 87 = .ok (.iinc 7 1, 3) := by decide +kernel
theorem dX0_differ_90 : decode cX0_differ 90 = .ok (.goto (-27), 3) := by decide +kernel
theorem dX0_differ_93 : decode cX0_differ 93 = .ok (.iconst 0, 1) := by decide +kernel
theorem dX0_differ_94 : decode cX0_differ 94 = .ok (.istore 7, 2) := by decide +kernel
theorem dX0_differ_96 : decode cX0_differ 96 = .ok (.iconst 0, 1) := by decide +kernel
theorem dX0_differ_97 : decode cX0_differ 97 = .ok (.istore 8, 2) := by decide +kernel
theorem dX0_differ_99 : decode cX0_differ 99 = .ok (.iload 8, 2) := by decide +kernel
theorem dX0_differ_101 : decode cX0_differ 101 = .ok (.bipush 16, 2) := by decide +kernel
theorem dX0_differ_103 : decode cX0_differ 103 = .ok (.if_icmp .ge 52, 3) := by decide +kernel
theorem dX0_differ_106 : decode cX0_differ 106 = .ok (.iload 6, 2) := by decide +kernel
theorem dX0_differ_108 : decode cX0_differ 108 = .ok (.iload 8, 2) := by decide +kernel
theorem dX0_differ_110 : decode cX0_differ 110 = .ok (.ishr, 1) := by decide +kernel
theorem dX0_differ_111 : decode cX0_differ 111 = .ok (.iconst 1, 1) := by decide +kernel
theorem dX0_differ_112 : decode cX0_differ 112 = .ok (.iand, 1) := by decide +kernel
theorem dX0_differ_113 : decode cX0_differ 113 = .ok (.iconst 1, 1) := by decide +kernel
theorem dX0_differ_114 : decode cX0_differ 114 = .ok (.if_icmp .ne 35, 3) := by decide +kernel
theorem dX0_differ_117 : decode cX0_differ 117 = .ok (.aload_n 0, 1) := by decide +kernel
theorem dX0_differ_118 : decode cX0_differ 118 = .ok (.iload_n 1, 1) := by decide +kernel
theorem dX0_differ_119 : decode cX0_differ 119 = .ok (.iload 4, 2) := by decide +kernel
theorem dX0_differ_121 : decode cX0_differ 121 = .ok (.iload 8, 2) := by decide +kernel
theorem dX0_differ_123 : decode cX0_differ 123 = .ok (.invokevirtual 58, 3) := by decide +kernel
theorem dX0_differ_126 : decode cX0_differ 126 = .ok (.istore 9, 2) := by decide +kernel
theorem dX0_differ_128 : decode cX0_differ 128 = .ok (.aload_n 0, 1) := by decide +kernel
theorem dX0_differ_129 : decode cX0_differ 129 = .ok (.iload_n 1, 1) := by decide +kernel
theorem dX0_differ_130 : decode cX0_differ 130 = .ok (.iload 5, 2) := by decide +kernel
theorem dX0_differ_132 : decode cX0_differ 132 = .ok (.iload 8, 2) := by decide +kernel
theorem dX0_differ_134 : decode cX0_differ 134 = .ok (.invokevirtual 58, 3) := by decide +kernel
theorem dX0_differ_137 : decode cX0_differ 137 = .ok (.istore 10, 2) := by decide +kernel
theorem dX0_differ_139 : decode cX0_differ 139 = .ok (.iload 9, 2) := by decide +kernel
theorem dX0_differ_141 : decode cX0_differ 141 = .ok (.iload 10, 2) := by decide +kernel
theorem dX0_differ_143 : decode cX0_differ 143 = .ok (.if_icmp .eq 6, 3) := by decide +kernel
theorem dX0_differ_146 : decode cX0_differ 146 = .ok (.iinc 7 1, 3) := by decide +kernel
theorem dX0_differ_149 : decode cX0_differ 149 = .ok (.iinc 8 1, 3) := by decide +kernel
theorem dX0_differ_152 : decode cX0_differ 152 = .ok (.goto (-53), 3) := by decide +kernel
theorem dX0_differ_155 : decode cX0_differ 155 = .ok (.iload 7, 2) := by decide +kernel
theorem dX0_differ_157 : decode cX0_differ 157 = .ok (.ireturn, 1) := by decide +kernel
theorem dX1_init_0 : decode cX1_init 0 = .ok (.aload_n 0, 1) := by decide +kernel
theorem dX1_init_1 : decode cX1_init 1 = .ok (.invokespecial 1, 3) := by decide +kernel
theorem dX1_init_4 : decode cX1_init 4 = .ok (.aload_n 0, 1) := by decide +kernel
theorem dX1_init_5 : decode cX1_init 5 = .ok (.bipush 16, 2) := by decide +kernel
theorem dX1_init_7 : decode cX1_init 7 = .ok (.newarray .int, 2) := by decide +kernel
theorem dX1_init_9 : decode cX1_init 9 = .ok (.putfield 7, 3) := by decide +kernel
theorem dX1_init_12 : decode cX1_init 12 = .ok (.aload_n 0, 1) := by decide +kernel
theorem dX1_init_13 : decode cX1_init 13 = .ok (.bipush 16, 2) := by decide +kernel
theorem dX1_init_15 : decode cX1_init 15 = .ok (.newarray .int, 2) := by decide +kernel
theorem dX1_init_17 : decode cX1_init 17 = .ok (.putfield 13, 3) := by decide +kernel
theorem dX1_init_20 : decode cX1_init 20 = .ok (.aload_n 0, 1) := by decide +kernel
theorem dX1_init_21 : decode cX1_init 21 = .ok (.iconst 2, 1) := by decide +kernel
theorem dX1_init_22 : decode cX1_init 22 = .ok (.newarray .int, 2) := by decide +kernel
theorem dX1_init_24 : decode cX1_init 24 = .ok (.putfield 16, 3) := by decide +kernel
theorem dX1_init_27 : decode cX1_init 27 = .ok (.aload_n 0, 1) := by decide +kernel
theorem dX1_init_28 : decode cX1_init 28 = .ok (.sipush 192, 3) := by decide +kernel
theorem dX1_init_31 : decode cX1_init 31 = .ok (.newarray .int, 2) := by decide +kernel
theorem dX1_init_33 : decode cX1_init 33 = .ok (.putfield 19, 3) := by decide +kernel
theorem dX1_init_36 : decode cX1_init 36 = .ok (.return_, 1) := by decide +kernel
theorem dX1_write_0 : decode cX1_write 0 = .ok (.iload_n 1, 1) := by decide +kernel
theorem dX1_write_1 : decode cX1_write 1 = .ok (.ifCond .lt 9, 3) := by decide +kernel
theorem dX1_write_4 : decode cX1_write 4 = .ok (.iload_n 1, 1) := by decide +kernel
theorem dX1_write_5 : decode cX1_write 5 = .ok (.bipush 15, 2) := by decide +kernel
theorem dX1_write_7 : decode cX1_write 7 = .ok (.if_icmp .le 6, 3) := by decide +kernel
theorem dX1_write_10 : decode cX1_write 10 = .ok (.bipush (-2), 2) := by decide +kernel
theorem dX1_write_12 : decode cX1_write 12 = .ok (.ireturn, 1) := by decide +kernel
theorem dX1_write_13 : decode cX1_write 13 = .ok (.aload_n 0, 1) := by decide +kernel
theorem dX1_write_14 : decode cX1_write 14 = .ok (.getfield 7, 3) := by decide +kernel
theorem dX1_write_17 : decode cX1_write 17 = .ok (.iload_n 1, 1) := by decide +kernel
theorem dX1_write_18 : decode cX1_write 18 = .ok (.iload_n 2, 1) := by decide +kernel
theorem dX1_write_19 : decode cX1_write 19 = .ok (.iastore, 1) := by decide +kernel
theorem dX1_write_20 : decode cX1_write 20 = .ok (.iconst 0, 1) := by decide +kernel
theorem dX1_write_21 : decode cX1_write 21 = .ok (.ireturn, 1) := by decide +kernel
theorem dX1_copy_0 : decode cX1_copy 0 = .ok (.iload_n 3, 1) := by decide +kernel
theorem dX1_copy_1 : decode cX1_copy 1 = .ok (.ifCond .ge 7, 3) := by decide +kernel
theorem dX1_copy_4 : decode cX1_copy 4 = .ok (.iconst 0, 1) := by decide +kernel
theorem dX1_copy_5 : decode cX1_copy 5 = .ok (.goto 4, 3) := by decide +kernel
theorem dX1_copy_8 : decode cX1_copy 8 = .ok (.iload_n 3, 1) := by decide +kernel
theorem dX1_copy_9 : decode cX1_copy 9 = .ok (.istore 4, 2) := by decide +kernel
theorem dX1_copy_11 : decode cX1_copy 11 = .ok (.iload_n 1, 1) := by decide +kernel
theorem dX1_copy_12 : decode cX1_copy 12 = .ok (.ifCond .lt 37, 3) := by decide +kernel
theorem dX1_copy_15 : decode cX1_copy 15 = .ok (.iload_n 1, 1) := by decide +kernel
theorem dX1_copy_16 : decode cX1_copy 16 = .ok (.bipush 15, 2) := by decide +kernel
theorem dX1_copy_18 : decode cX1_copy 18 = .ok (.if_icmp .gt 31, 3) := by decide +kernel
theorem dX1_copy_21 : decode cX1_copy 21 = .ok (.iload_n 2, 1) := by decide +kernel
theorem dX1_copy_22 : decode cX1_copy 22 = .ok (.ifCond .lt 27, 3) := by decide +kernel
theorem dX1_copy_25 : decode cX1_copy 25 = .ok (.iload_n 2, 1) := by decide +kernel
theorem dX1_copy_26 : decode cX1_copy 26 = .ok (.bipush 15, 2) := by decide +kernel
theorem dX1_copy_28 : decode cX1_copy 28 = .ok (.if_icmp .gt 21, 3) := by decide +kernel
theorem dX1_copy_31 : decode cX1_copy 31 = .ok (.iload 4, 2) := by decide +kernel
theorem dX1_copy_33 : decode cX1_copy 33 = .ok (.bipush 16, 2) := by decide +kernel
theorem dX1_copy_35 : decode cX1_copy 35 = .ok (.iload_n 1, 1) := by decide +kernel
theorem dX1_copy_36 : decode cX1_copy 36 = .ok (.isub, 1) := by decide +kernel
theorem dX1_copy_37 : decode cX1_copy 37 = .ok (.if_icmp .gt 12, 3) := by decide +kernel
theorem dX1_copy_40 : decode cX1_copy 40 = .ok (.iload 4, 2) := by decide +kernel
theorem dX1_copy_42 : decode cX1_copy 42 = .ok (.bipush 16, 2) := by decide +kernel
theorem dX1_copy_44 : decode cX1_copy 44 = .ok (.iload_n 2, 1) := by decide +kernel
theorem dX1_copy_45 : decode cX1_copy 45 = .ok (.isub, 1) := by decide +kernel
theorem dX1_copy_46 : decode cX1_copy 46 = .ok (.if_icmp .le 6, 3) := by decide +kernel
theorem dX1_copy_49 : decode cX1_copy 49 = .ok (.bipush (-2), 2) := by decide +kernel
theorem dX1_copy_51 : decode cX1_copy 51 = .ok (.ireturn, 1) := by decide +kernel
theorem dX1_copy_52 : decode cX1_copy 52 = .ok (.iconst 0, 1) := by decide +kernel
theorem dX1_copy_53 : decode cX1_copy 53 = .ok (.istore 5, 2) := by decide +kernel
theorem dX1_copy_55 : decode cX1_copy 55 = .ok (.iload 5, 2) := by decide +kernel
theorem dX1_copy_57 : decode cX1_copy 57 = .ok (.iload 4, 2) := by decide +kernel
theorem dX1_copy_59 : decode cX1_copy 59 = .ok (.if_icmp .ge 25, 3) := by decide +kernel
theorem dX1_copy_62 : decode cX1_copy 62 = .ok (.aload_n 0, 1) := by decide +kernel
theorem dX1_copy_63 : decode cX1_copy 63 = .ok (.getfield 13, 3) := by decide +kernel
theorem dX1_copy_66 : decode cX1_copy 66 = .ok (.iload 5, 2) := by decide +kernel
theorem dX1_copy_68 : decode cX1_copy 68 = .ok (.aload_n 0, 1) := by decide +kernel
theorem dX1_copy_69 : decode cX1_copy 69 = .ok (.getfield 7, 3) := by decide +kernel
theorem dX1_copy_72 : decode cX1_copy 72 = .ok (.iload_n 1, 1) := by decide +kernel
theorem dX1_copy_73 : decode cX1_copy 73 = .ok (.iload 5, 2) := by decide +kernel
theorem dX1_copy_75 : decode cX1_copy 75 = .ok (.iadd, 1) := by decide +kernel
theorem dX1_copy_76 : decode cX1_copy 76 = .ok (.iaload, 1) := by decide +kernel
theorem dX1_copy_77 : decode cX1_copy 77 = .ok (.iastore, 1) := by decide +kernel
theorem dX1_copy_78 : decode cX1_copy 78 = .ok (.iinc 5 1, 3) := by decide +kernel
theorem dX1_copy_81 : decode cX1_copy 81 = .ok (.goto (-26), 3) := by decide +kernel
theorem dX1_copy_84 : decode cX1_copy 84 = .ok (.iconst 0, 1) := by decide +kernel
theorem dX1_copy_85 : decode cX1_copy 85 = .ok (.istore 5, 2) := by decide +kernel
theorem dX1_copy_87 : decode cX1_copy 87 = .ok (.iload 5, 2) := by decide +kernel
theorem dX1_copy_89 : decode cX1_copy 89 = .ok (.iload 4, 2) := by decide +kernel
theorem dX1_copy_91 : decode cX1_copy 91 = .ok (.if_icmp .ge 25, 3) := by decide +kernel
theorem dX1_copy_94 : decode cX1_copy 94 = .ok (.aload_n 0, 1) := by decide +kernel
theorem dX1_copy_95 : decode cX1_copy 95 = .ok (.getfield 7, 3) := by decide +kernel
theorem dX1_copy_98 : decode cX1_copy 98 = .ok (.iload_n 2, 1) := by decide +kernel
theorem dX1_copy_99 : decode cX1_copy 99 = .ok (.iload 5, 2) := by decide +kernel
theorem dX1_copy_101 : decode cX1_copy 101 = .ok (.iadd, 1) := by decide +kernel
theorem dX1_copy_102 : decode cX1_copy 102 = .ok (.aload_n 0, 1) := by decide +kernel
theorem dX1_copy_103 : decode cX1_copy 103 = .ok (.getfield 13, 3) := by decide +kernel
theorem dX1_copy_106 : decode cX1_copy 106 = .ok (.iload 5, 2) := by decide +kernel
theorem dX1_copy_108 : decode cX1_copy 108 = .ok (.iaload, 1) := by decide +kernel
theorem dX1_copy_109 : decode cX1_copy 109 = .ok (.iastore, 1) := by decide +kernel
theorem dX1_copy_110 : decode cX1_copy 110 = .ok (.iinc 5 1, 3) := by decide +kernel
theorem dX1_copy_113 : decode cX1_copy 113 = .ok (.goto (-26), 3) := by decide +kernel
theorem dX1_copy_116 : decode cX1_copy 116 = .ok (.iload 4, 2) := by decide +kernel
theorem dX1_copy_118 : decode cX1_copy 118 = .ok (.ireturn, 1) := by decide +kernel
theorem dX1_backup_0 : decode cX1_backup 0 = .ok (.aload_n 0, 1) := by decide +kernel
theorem dX1_backup_1 : decode cX1_backup 1 = .ok (.iload_n 1, 1) := by decide +kernel
theorem dX1_backup_2 : decode cX1_backup 2 = .ok (.invokevirtual 22, 3) := by decide +kernel
theorem dX1_backup_5 : decode cX1_backup 5 = .ok (.ifCond .eq 5, 3) := by decide +kernel
theorem dX1_backup_8 : decode cX1_backup 8 = .ok (.iconst (-1), 1) := by decide +kernel
theorem dX1_backup_9 : decode cX1_backup 9 = .ok (.ireturn, 1) := by decide +kernel
theorem dX1_backup_10 : decode cX1_backup 10 = .ok (.aload_n 0, 1) := by decide +kernel
theorem dX1_backup_11 : decode cX1_backup 11 = .ok (.getfield 16, 3) := by decide +kernel
theorem dX1_backup_14 : decode cX1_backup 14 = .ok (.iload_n 1, 1) := by decide +kernel
theorem dX1_backup_15 : decode cX1_backup 15 = .ok (.iaload, 1) := by decide +kernel
theorem dX1_backup_16 : decode cX1_backup 16 = .ok (.istore_n 2, 1) := by decide +kernel
theorem dX1_backup_17 : decode cX1_backup 17 = .ok (.iload_n 2, 1) := by decide +kernel
theorem dX1_backup_18 : decode cX1_backup 18 = .ok (.bipush 6, 2) := by decide +kernel
theorem dX1_backup_20 : decode cX1_backup 20 = .ok (.if_icmp .ne 6, 3) := by decide +kernel
theorem dX1_backup_23 : decode cX1_backup 23 = .ok (.bipush (-3), 2) := by decide +kernel
theorem dX1_backup_25 : decode cX1_backup 25 = .ok (.ireturn, 1) := by decide +kernel
theorem dX1_backup_26 : decode cX1_backup 26 = .ok (.iconst 0, 1) := by decide +kernel
theorem dX1_backup_27 : decode cX1_backup 27 = .ok (.istore_n 3, 1) := by decide +kernel
theorem dX1_backup_28 : decode cX1_backup 28 = .ok (.iload_n 3, 1) := by decide +kernel
theorem dX1_backup_29 : decode cX1_backup 29 = .ok (.bipush 16, 2) := by decide +kernel
theorem dX1_backup_31 : decode cX1_backup 31 = .ok (.if_icmp .ge 31, 3) := by decide +kernel
theorem dX1_backup_34 : decode cX1_backup 34 = .ok (.aload_n 0, 1) := by decide +kernel
theorem dX1_backup_35 : decode cX1_backup 35 = .ok (.getfield 19, 3) := by decide +kernel
theorem dX1_backup_38 : decode cX1_backup 38 = .ok (.iload_n 1, 1) := by decide +kernel
theorem dX1_backup_39 : decode cX1_backup 39 = .ok (.bipush 6, 2) := by decide +kernel
theorem dX1_backup_41 : decode cX1_backup 41 = .ok (.imul, 1) := by decide +kernel
theorem dX1_backup_42 : decode cX1_backup 42 = .ok (.iload_n 2, 1) := by decide +kernel
theorem dX1_backup_43 : decode cX1_backup 43 = .ok (.iadd, 1) := by decide +kernel
theorem dX1_backup_44 : decode cX1_backup 44 = .ok (.bipush 16, 2) := by decide +kernel
theorem dX1_backup_46 : decode cX1_backup 46 = .ok (.imul, 1) := by decide +kernel
theorem dX1_backup_47 : decode cX1_backup 47 = .ok (.iload_n 3, 1) := by decide +kernel
theorem dX1_backup_48 : decode cX1_backup 48 = .ok (.iadd, 1) := by decide +kernel
theorem dX1_backup_49 : decode cX1_backup 49 = .ok (.aload_n 0, 1) := by decide +kernel
theorem dX1_backup_50 : decode cX1_backup 50 = .ok (.getfield 7, 3) := by decide +kernel
theorem dX1_backup_53 : decode cX1_backup 53 = .ok (.iload_n 3, 1) := by decide +kernel
theorem dX1_backup_54 : decode cX1_backup 54 = .ok (.iaload, 1) := by decide +kernel
theorem dX1_backup_55 : decode cX1_backup 55 = .ok (.iastore, 1) := by decide +kernel
theorem dX1_backup_56 : decode cX1_backup 56 = .ok (.iinc 3 1, 3) := by decide +kernel
theorem dX1_backup_59 : decode cX1_backup 59 = .ok (.goto (-31), 3) := by decide +kernel
theorem dX1_backup_62 : decode cX1_backup 62 = .ok (.aload_n 0, 1) := by decide +kernel
theorem dX1_backup_63 : decode cX1_backup 63 = .ok (.getfield 16, 3) := by decide +kernel
theorem dX1_backup_66 : decode cX1_backup 66 = .ok (.iload_n 1, 1) := by decide +kernel
theorem dX1_backup_67 : decode cX1_backup 67 = .ok (.iload_n 2, 1) := by decide +kernel
theorem dX1_backup_68 : decode cX1_backup 68 = .ok (.iconst 1, 1) := by decide +kernel
theorem dX1_backup_69 : decode cX1_backup 69 = .ok (.iadd, 1) := by decide +kernel
theorem dX1_backup_70 : decode cX1_backup 70 = .ok (.iastore, 1) := by decide +kernel
theorem dX1_backup_71 : decode cX1_backup 71 = .ok (.iload_n 2, 1) := by decide +kernel
theorem dX1_backup_72 : decode cX1_backup 72 = .ok (.ireturn, 1) := by decide +kernel
theorem dX1_badChain_0 : decode cX1_badChain 0 = .ok (.iload_n 1, 1) := by decide +kernel
theorem dX1_badChain_1 : decode cX1_badChain 1 = .ok (.ifCond .lt 8, 3) := by decide +kernel
theorem dX1_badChain_4 : decode cX1_badChain 4 = .ok (.iload_n 1, 1) := by decide +kernel
theorem dX1_badChain_5 : decode cX1_badChain 5 = .ok (.iconst 1, 1) := by decide +kernel
theorem dX1_badChain_6 : decode cX1_badChain 6 = .ok (.if_icmp .le 7, 3) := by decide +kernel
theorem dX1_badChain_9 : decode cX1_badChain 9 = .ok (.iconst 1, 1) := by decide +kernel
theorem dX1_badChain_10 : decode cX1_badChain 10 = .ok (.goto 4, 3) := by decide +kernel
theorem dX1_badChain_13 : decode cX1_badChain 13 = .ok (.iconst 0, 1) := by decide +kernel
theorem dX1_badChain_14 : decode cX1_badChain 14 = .ok (.ireturn, 1) := by decide +kernel
theorem dX1_restore_0 : decode cX1_restore 0 = .ok (.aload_n 0, 1) := by decide +kernel
theorem dX1_restore_1 : decode cX1_restore 1 = .ok (.iload_n 1, 1) := by decide +kernel
theorem dX1_restore_2 : decode cX1_restore 2 = .ok (.invokevirtual 22, 3) := by decide +kernel
theorem dX1_restore_5 : decode cX1_restore 5 = .ok (.ifCond .eq 5, 3) := by decide +kernel
theorem dX1_restore_8 : decode cX1_restore 8 = .ok (.iconst (-1), 1) := by decide +kernel
theorem dX1_restore_9 : decode cX1_restore 9 = .ok (.ireturn, 1) := by decide +kernel
theorem dX1_restore_10 : decode cX1_restore 10 = .ok (.aload_n 0, 1) := by decide +kernel
theorem dX1_restore_11 : decode cX1_restore 11 = .ok (.iload_n 1, 1) := by decide +kernel
theorem dX1_restore_12 : decode cX1_restore 12 = .ok (.iload_n 2, 1) := by decide +kernel
theorem dX1_restore_13 : decode cX1_restore 13 = .ok (.invokevirtual 26, 3) := by decide +kernel
theorem dX1_restore_16 : decode cX1_restore 16 = .ok (.ifCond .eq 6, 3) := by decide +kernel
theorem dX1_restore_19 : decode cX1_restore 19 = .ok (.bipush (-4), 2) := by decide +kernel
theorem dX1_restore_21 : decode cX1_restore 21 = .ok (.ireturn, 1) := by decide +kernel
theorem dX1_restore_22 : decode cX1_restore 22 = .ok (.aload_n 0, 1) := by decide +kernel
theorem dX1_restore_23 : decode cX1_restore 23 = .ok (.iload_n 1, 1) := by decide +kernel
theorem dX1_restore_24 : decode cX1_restore 24 = .ok (.iload_n 2, 1) := by decide +kernel
theorem dX1_restore_25 : decode cX1_restore 25 = .ok (.invokevirtual 30, 3) := by decide +kernel
theorem dX1_restore_28 : decode cX1_restore 28 = .ok (.istore_n 3, 1) := by decide +kernel
theorem dX1_restore_29 : decode cX1_restore 29 = .ok (.iconst 0, 1) := by decide +kernel
theorem dX1_restore_30 : decode cX1_restore 30 = .ok (.istore 4, 2) := by decide +kernel
theorem dX1_restore_32 : decode cX1_restore 32 = .ok (.iload 4, 2) := by decide +kernel
end
section
set_option maxRecDepth 100000
theorem dX1_restore_34 : decode cX1_restore 34 = .ok (.bipush 16, 2) := by decide +kernel
theorem dX1_restore_36 : decode cX1_restore 36 = .ok (.if_icmp .ge 33, 3) := by decide +kernel
theorem dX1_restore_39 : decode cX1_restore 39 = .ok (.aload_n 0, 1) := by decide +kernel
theorem dX1_restore_40 : decode cX1_restore 40 = .ok (.getfield 7, 3) := by decide +kernel
theorem dX1_restore_43 : decode cX1_restore 43 = .ok (.iload 4, 2) := by decide +kernel
theorem dX1_restore_45 : decode cX1_restore 45 = .ok (.aload_n 0, 1) := by decide +kernel
theorem dX1_restore_46 : decode cX1_restore 46 = .ok (.getfield 19, 3) := by decide +kernel
theorem dX1_restore_49 : decode cX1_restore 49 = .ok (.iload_n 1, 1) := by decide +kernel
theorem dX1_restore_50 : decode cX1_restore 50 = .ok (.bipush 6, 2) := by decide +kernel
theorem dX1_restore_52 : decode cX1_restore 52 = .ok (.imul, 1) := by decide +kernel
theorem dX1_restore_53 : decode cX1_restore 53 = .ok (.iload_n 2, 1) := by decide +kernel
theorem dX1_restore_54 : decode cX1_restore 54 = .ok (.iadd, 1) := by decide +kernel
theorem dX1_restore_55 : decode cX1_restore 55 = .ok (.bipush 16, 2) := by decide +kernel
theorem dX1_restore_57 : decode cX1_restore 57 = .ok (.imul, 1) := by decide +kernel
theorem dX1_restore_58 : decode cX1_restore 58 = .ok (.iload 4, 2) := by decide +kernel
theorem dX1_restore_60 : decode cX1_restore 60 = .ok (.iadd, 1) := by decide +kernel
theorem dX1_restore_61 : decode cX1_restore 61 = .ok (.iaload, 1) := by decide +kernel
theorem dX1_restore_62 : decode cX1_restore 62 = .ok (.iastore, 1) := by decide +kernel
theorem dX1_restore_63 : decode cX1_restore 63 = .ok (.iinc 4 1, 3) := by decide +kernel
theorem dX1_restore_66 : decode cX1_restore 66 = .ok (.goto (-34), 3) := by decide +kernel
theorem dX1_restore_69 : decode cX1_restore 69 = .ok (.iload_n 3, 1) := by decide +kernel
theorem dX1_restore_70 : decode cX1_restore 70 = .ok (.ireturn, 1) := by decide +kernel
theorem dX1_none_0 : decode cX1_none 0 = .ok (.iload_n 2, 1) := by decide +kernel
theorem dX1_none_1 : decode cX1_none 1 = .ok (.ifCond .lt 18, 3) := by decide +kernel
theorem dX1_none_4 : decode cX1_none 4 = .ok (.iload_n 2, 1) := by decide +kernel
theorem dX1_none_5 : decode cX1_none 5 = .ok (.iconst 5, 1) := by decide +kernel
theorem dX1_none_6 : decode cX1_none 6 = .ok (.if_icmp .gt 13, 3) := by decide +kernel
theorem dX1_none_9 : decode cX1_none 9 = .ok (.iload_n 2, 1) := by decide +kernel
theorem dX1_none_10 : decode cX1_none 10 = .ok (.aload_n 0, 1) := by decide +kernel
theorem dX1_none_11 : decode cX1_none 11 = .ok (.getfield 16, 3) := by decide +kernel
theorem dX1_none_14 : decode cX1_none 14 = .ok (.iload_n 1, 1) := by decide +kernel
theorem dX1_none_15 : decode cX1_none 15 = .ok (.iaload, 1) := by decide +kernel
theorem dX1_none_16 : decode cX1_none 16 = .ok (.if_icmp .lt 7, 3) := by decide +kernel
theorem dX1_none_19 : decode cX1_none 19 = .ok (.iconst 1, 1) := by decide +kernel
theorem dX1_none_20 : decode cX1_none 20 = .ok (.goto 4, 3) := by decide +kernel
theorem dX1_none_23 : decode cX1_none 23 = .ok (.iconst 0, 1) := by decide +kernel
theorem dX1_none_24 : decode cX1_none 24 = .ok (.ireturn, 1) := by decide +kernel
theorem dX1_against_0 : decode cX1_against 0 = .ok (.iconst 0, 1) := by decide +kernel
theorem dX1_against_1 : decode cX1_against 1 = .ok (.istore_n 3, 1) := by decide +kernel
theorem dX1_against_2 : decode cX1_against 2 = .ok (.iconst 0, 1) := by decide +kernel
theorem dX1_against_3 : decode cX1_against 3 = .ok (.istore 4, 2) := by decide +kernel
theorem dX1_against_5 : decode cX1_against 5 = .ok (.iload 4, 2) := by decide +kernel
theorem dX1_against_7 : decode cX1_against 7 = .ok (.bipush 16, 2) := by decide +kernel
theorem dX1_against_9 : decode cX1_against 9 = .ok (.if_icmp .ge 39, 3) := by decide +kernel
theorem dX1_against_12 : decode cX1_against 12 = .ok (.aload_n 0, 1) := by decide +kernel
theorem dX1_against_13 : decode cX1_against 13 = .ok (.getfield 7, 3) := by decide +kernel
theorem dX1_against_16 : decode cX1_against 16 = .ok (.iload 4, 2) := by decide +kernel
theorem dX1_against_18 : decode cX1_against 18 = .ok (.iaload, 1) := by decide +kernel
theorem dX1_against_19 : decode cX1_against 19 = .ok (.aload_n 0, 1) := by decide +kernel
theorem dX1_against_20 : decode cX1_against 20 = .ok (.getfield 19, 3) := by decide +kernel
theorem dX1_against_23 : decode cX1_against 23 = .ok (.iload_n 1, 1) := by decide +kernel
theorem dX1_against_24 : decode cX1_against 24 = .ok (.bipush 6, 2) := by decide +kernel
theorem dX1_against_26 : decode cX1_against 26 = .ok (.imul, 1) := by decide +kernel
theorem dX1_against_27 : decode cX1_against 27 = .ok (.iload_n 2, 1) := by decide +kernel
theorem dX1_against_28 : decode cX1_against 28 = .ok (.iadd, 1) := by decide +kernel
theorem dX1_against_29 : decode cX1_against 29 = .ok (.bipush 16, 2) := by decide +kernel
theorem dX1_against_31 : decode cX1_against 31 = .ok (.imul, 1) := by decide +kernel
theorem dX1_against_32 : decode cX1_against 32 = .ok (.iload 4, 2) := by decide +kernel
theorem dX1_against_34 : decode cX1_against 34 = .ok (.iadd, 1) := by decide +kernel
theorem dX1_against_35 : decode cX1_against 35 = .ok (.iaload, 1) := by decide +kernel
theorem dX1_against_36 : decode cX1_against 36 = .ok (.if_icmp .eq 6, 3) := by decide +kernel
theorem dX1_against_39 : decode cX1_against 39 = .ok (.iinc 3 1, 3) := by decide +kernel
theorem dX1_against_42 : decode cX1_against 42 = .ok (.iinc 4 1, 3) := by decide +kernel
theorem dX1_against_45 : decode cX1_against 45 = .ok (.goto (-40), 3) := by decide +kernel
theorem dX1_against_48 : decode cX1_against 48 = .ok (.iload_n 3, 1) := by decide +kernel
theorem dX1_against_49 : decode cX1_against 49 = .ok (.ireturn, 1) := by decide +kernel
theorem dX1_dropOldest_0 : decode cX1_dropOldest 0 = .ok (.aload_n 0, 1) := by decide +kernel
theorem dX1_dropOldest_1 : decode cX1_dropOldest 1 = .ok (.iload_n 1, 1) := by decide +kernel
theorem dX1_dropOldest_2 : decode cX1_dropOldest 2 = .ok (.iconst 0, 1) := by decide +kernel
theorem dX1_dropOldest_3 : decode cX1_dropOldest 3 = .ok (.invokevirtual 34, 3) := by decide +kernel
theorem dX1_dropOldest_6 : decode cX1_dropOldest 6 = .ok (.ireturn, 1) := by decide +kernel
theorem dX1_drop_0 : decode cX1_drop 0 = .ok (.aload_n 0, 1) := by decide +kernel
theorem dX1_drop_1 : decode cX1_drop 1 = .ok (.iload_n 1, 1) := by decide +kernel
theorem dX1_drop_2 : decode cX1_drop 2 = .ok (.invokevirtual 22, 3) := by decide +kernel
theorem dX1_drop_5 : decode cX1_drop 5 = .ok (.ifCond .eq 5, 3) := by decide +kernel
theorem dX1_drop_8 : decode cX1_drop 8 = .ok (.iconst (-1), 1) := by decide +kernel
theorem dX1_drop_9 : decode cX1_drop 9 = .ok (.ireturn, 1) := by decide +kernel
theorem dX1_drop_10 : decode cX1_drop 10 = .ok (.aload_n 0, 1) := by decide +kernel
theorem dX1_drop_11 : decode cX1_drop 11 = .ok (.iload_n 1, 1) := by decide +kernel
theorem dX1_drop_12 : decode cX1_drop 12 = .ok (.iload_n 2, 1) := by decide +kernel
theorem dX1_drop_13 : decode cX1_drop 13 = .ok (.invokevirtual 26, 3) := by decide +kernel
theorem dX1_drop_16 : decode cX1_drop 16 = .ok (.ifCond .eq 6, 3) := by decide +kernel
theorem dX1_drop_19 : decode cX1_drop 19 = .ok (.bipush (-4), 2) := by decide +kernel
theorem dX1_drop_21 : decode cX1_drop 21 = .ok (.ireturn, 1) := by decide +kernel
theorem dX1_drop_22 : decode cX1_drop 22 = .ok (.iload_n 1, 1) := by decide +kernel
theorem dX1_drop_23 : decode cX1_drop 23 = .ok (.bipush 6, 2) := by decide +kernel
theorem dX1_drop_25 : decode cX1_drop 25 = .ok (.imul, 1) := by decide +kernel
theorem dX1_drop_26 : decode cX1_drop 26 = .ok (.iload_n 2, 1) := by decide +kernel
theorem dX1_drop_27 : decode cX1_drop 27 = .ok (.iadd, 1) := by decide +kernel
theorem dX1_drop_28 : decode cX1_drop 28 = .ok (.bipush 16, 2) := by decide +kernel
theorem dX1_drop_30 : decode cX1_drop 30 = .ok (.imul, 1) := by decide +kernel
theorem dX1_drop_31 : decode cX1_drop 31 = .ok (.istore_n 3, 1) := by decide +kernel
theorem dX1_drop_32 : decode cX1_drop 32 = .ok (.iload_n 3, 1) := by decide +kernel
theorem dX1_drop_33 : decode cX1_drop 33 = .ok (.iload_n 1, 1) := by decide +kernel
theorem dX1_drop_34 : decode cX1_drop 34 = .ok (.bipush 6, 2) := by decide +kernel
theorem dX1_drop_36 : decode cX1_drop 36 = .ok (.imul, 1) := by decide +kernel
theorem dX1_drop_37 : decode cX1_drop 37 = .ok (.iconst 5, 1) := by decide +kernel
theorem dX1_drop_38 : decode cX1_drop 38 = .ok (.iadd, 1) := by decide +kernel
theorem dX1_drop_39 : decode cX1_drop 39 = .ok (.bipush 16, 2) := by decide +kernel
theorem dX1_drop_41 : decode cX1_drop 41 = .ok (.imul, 1) := by decide +kernel
theorem dX1_drop_42 : decode cX1_drop 42 = .ok (.if_icmp .ge 24, 3) := by decide +kernel
theorem dX1_drop_45 : decode cX1_drop 45 = .ok (.aload_n 0, 1) := by decide +kernel
theorem dX1_drop_46 : decode cX1_drop 46 = .ok (.getfield 19, 3) := by decide +kernel
theorem dX1_drop_49 : decode cX1_drop 49 = .ok (.iload_n 3, 1) := by decide +kernel
theorem dX1_drop_50 : decode cX1_drop 50 = .ok (.aload_n 0, 1) := by decide +kernel
theorem dX1_drop_51 : decode cX1_drop 51 = .ok (.getfield 19, 3) := by decide +kernel
theorem dX1_drop_54 : decode cX1_drop 54 = .ok (.iload_n 3, 1) := by decide +kernel
theorem dX1_drop_55 : decode cX1_drop 55 = .ok (.bipush 16, 2) := by decide +kernel
theorem dX1_drop_57 : decode cX1_drop 57 = .ok (.iadd, 1) := by decide +kernel
theorem dX1_drop_58 : decode cX1_drop 58 = .ok (.iaload, 1) := by decide +kernel
theorem dX1_drop_59 : decode cX1_drop 59 = .ok (.iastore, 1) := by decide +kernel
theorem dX1_drop_60 : decode cX1_drop 60 = .ok (.iinc 3 1, 3) := by decide +kernel
theorem dX1_drop_63 : decode cX1_drop 63 = .ok (.goto (-31), 3) := by decide +kernel
theorem dX1_drop_66 : decode cX1_drop 66 = .ok (.aload_n 0, 1) := by decide +kernel
theorem dX1_drop_67 : decode cX1_drop 67 = .ok (.getfield 16, 3) := by decide +kernel
theorem dX1_drop_70 : decode cX1_drop 70 = .ok (.iload_n 1, 1) := by decide +kernel
theorem dX1_drop_71 : decode cX1_drop 71 = .ok (.aload_n 0, 1) := by decide +kernel
theorem dX1_drop_72 : decode cX1_drop 72 = .ok (.getfield 16, 3) := by decide +kernel
theorem dX1_drop_75 : decode cX1_drop 75 = .ok (.iload_n 1, 1) := by decide +kernel
theorem dX1_drop_76 : decode cX1_drop 76 = .ok (.iaload, 1) := by decide +kernel
theorem dX1_drop_77 : decode cX1_drop 77 = .ok (.iconst 1, 1) := by decide +kernel
theorem dX1_drop_78 : decode cX1_drop 78 = .ok (.isub, 1) := by decide +kernel
theorem dX1_drop_79 : decode cX1_drop 79 = .ok (.iastore, 1) := by decide +kernel
theorem dX1_drop_80 : decode cX1_drop 80 = .ok (.aload_n 0, 1) := by decide +kernel
theorem dX1_drop_81 : decode cX1_drop 81 = .ok (.getfield 16, 3) := by decide +kernel
theorem dX1_drop_84 : decode cX1_drop 84 = .ok (.iload_n 1, 1) := by decide +kernel
theorem dX1_drop_85 : decode cX1_drop 85 = .ok (.iaload, 1) := by decide +kernel
theorem dX1_drop_86 : decode cX1_drop 86 = .ok (.ireturn, 1) := by decide +kernel
theorem dX1_restart_0 : decode cX1_restart 0 = .ok (.return_, 1) := by decide +kernel
theorem dX1_crash_0 : decode cX1_crash 0 = .ok (.return_, 1) := by decide +kernel
theorem dX1_read_0 : decode cX1_read 0 = .ok (.iload_n 1, 1) := by decide +kernel
theorem dX1_read_1 : decode cX1_read 1 = .ok (.ifCond .lt 9, 3) := by decide +kernel
theorem dX1_read_4 : decode cX1_read 4 = .ok (.iload_n 1, 1) := by decide +kernel
theorem dX1_read_5 : decode cX1_read 5 = .ok (.bipush 15, 2) := by decide +kernel
theorem dX1_read_7 : decode cX1_read 7 = .ok (.if_icmp .le 7, 3) := by decide +kernel
theorem dX1_read_10 : decode cX1_read 10 = .ok (.iconst 0, 1) := by decide +kernel
theorem dX1_read_11 : decode cX1_read 11 = .ok (.goto 9, 3) := by decide +kernel
theorem dX1_read_14 : decode cX1_read 14 = .ok (.aload_n 0, 1) := by decide +kernel
theorem dX1_read_15 : decode cX1_read 15 = .ok (.getfield 7, 3) := by decide +kernel
theorem dX1_read_18 : decode cX1_read 18 = .ok (.iload_n 1, 1) := by decide +kernel
theorem dX1_read_19 : decode cX1_read 19 = .ok (.iaload, 1) := by decide +kernel
theorem dX1_read_20 : decode cX1_read 20 = .ok (.ireturn, 1) := by decide +kernel
theorem dX1_readBackup_0 : decode cX1_readBackup 0 = .ok (.aload_n 0, 1) := by decide +kernel
theorem dX1_readBackup_1 : decode cX1_readBackup 1 = .ok (.iload_n 1, 1) := by decide +kernel
theorem dX1_readBackup_2 : decode cX1_readBackup 2 = .ok (.invokevirtual 22, 3) := by decide +kernel
theorem dX1_readBackup_5 : decode cX1_readBackup 5 = .ok (.ifCond .ne 22, 3) := by decide +kernel
theorem dX1_readBackup_8 : decode cX1_readBackup 8 = .ok (.aload_n 0, 1) := by decide +kernel
theorem dX1_readBackup_9 : decode cX1_readBackup 9 = .ok (.iload_n 1, 1) := by decide +kernel
theorem dX1_readBackup_10 : decode cX1_readBackup 10 = .ok (.iload_n 2, 1) := by decide +kernel
theorem dX1_readBackup_11 : decode cX1_readBackup 11 = .ok (.invokevirtual 26, 3) := by decide +kernel
theorem dX1_readBackup_14 : decode cX1_readBackup 14 = .ok (.ifCond .ne 13, 3) := by decide +kernel
theorem dX1_readBackup_17 : decode cX1_readBackup 17 = .ok (.iload_n 3, 1) := by decide +kernel
theorem dX1_readBackup_18 : decode cX1_readBackup 18 = .ok (.ifCond .lt 9, 3) := by decide +kernel
theorem dX1_readBackup_21 : decode cX1_readBackup 21 = .ok (.iload_n 3, 1) := by decide +kernel
theorem dX1_readBackup_22 : decode cX1_readBackup 22 = .ok (.bipush 15, 2) := by decide +kernel
theorem dX1_readBackup_24 : decode cX1_readBackup 24 = .ok (.if_icmp .le 5, 3) := by decide +kernel
theorem dX1_readBackup_27 : decode cX1_readBackup 27 = .ok (.iconst 0, 1) := by decide +kernel
theorem dX1_readBackup_28 : decode cX1_readBackup 28 = .ok (.ireturn, 1) := by decide +kernel
theorem dX1_readBackup_29 : decode cX1_readBackup 29 = .ok (.aload_n 0, 1) := by decide +kernel
theorem dX1_readBackup_30 : decode cX1_readBackup 30 = .ok (.getfield 19, 3) := by decide +kernel
theorem dX1_readBackup_33 : decode cX1_readBackup 33 = .ok (.iload_n 1, 1) := by decide +kernel
theorem dX1_readBackup_34 : decode cX1_readBackup 34 = .ok (.bipush 6, 2) := by decide +kernel
theorem dX1_readBackup_36 : decode cX1_readBackup 36 = .ok (.imul, 1) := by decide +kernel
theorem dX1_readBackup_37 : decode cX1_readBackup 37 = .ok (.iload_n 2, 1) := by decide +kernel
theorem dX1_readBackup_38 : decode cX1_readBackup 38 = .ok (.iadd, 1) := by decide +kernel
theorem dX1_readBackup_39 : decode cX1_readBackup 39 = .ok (.bipush 16, 2) := by decide +kernel
theorem dX1_readBackup_41 : decode cX1_readBackup 41 = .ok (.imul, 1) := by decide +kernel
theorem dX1_readBackup_42 : decode cX1_readBackup 42 = .ok (.iload_n 3, 1) := by decide +kernel
theorem dX1_readBackup_43 : decode cX1_readBackup 43 = .ok (.iadd, 1) := by decide +kernel
theorem dX1_readBackup_44 : decode cX1_readBackup 44 = .ok (.iaload, 1) := by decide +kernel
theorem dX1_readBackup_45 : decode cX1_readBackup 45 = .ok (.ireturn, 1) := by decide +kernel
theorem dX1_backups_0 : decode cX1_backups 0 = .ok (.aload_n 0, 1) := by decide +kernel
theorem dX1_backups_1 : decode cX1_backups 1 = .ok (.iload_n 1, 1) := by decide +kernel
theorem dX1_backups_2 : decode cX1_backups 2 = .ok (.invokevirtual 22, 3) := by decide +kernel
theorem dX1_backups_5 : decode cX1_backups 5 = .ok (.ifCond .eq 7, 3) := by decide +kernel
theorem dX1_backups_8 : decode cX1_backups 8 = .ok (.iconst (-1), 1) := by decide +kernel
theorem dX1_backups_9 : decode cX1_backups 9 = .ok (.goto 9, 3) := by decide +kernel
theorem dX1_backups_12 : decode cX1_backups 12 = .ok (.aload_n 0, 1) := by decide +kernel
theorem dX1_backups_13 : decode cX1_backups 13 = .ok (.getfield 16, 3) := by decide +kernel
theorem dX1_backups_16 : decode cX1_backups 16 = .ok (.iload_n 1, 1) := by decide +kernel
theorem dX1_backups_17 : decode cX1_backups 17 = .ok (.iaload, 1) := by decide +kernel
theorem dX1_backups_18 : decode cX1_backups 18 = .ok (.ireturn, 1) := by decide +kernel
theorem dX1_changed_0 : decode cX1_changed 0 = .ok (.aload_n 0, 1) := by decide +kernel
theorem dX1_changed_1 : decode cX1_changed 1 = .ok (.iload_n 1, 1) := by decide +kernel
theorem dX1_changed_2 : decode cX1_changed 2 = .ok (.invokevirtual 22, 3) := by decide +kernel
theorem dX1_changed_5 : decode cX1_changed 5 = .ok (.ifCond .eq 5, 3) := by decide +kernel
theorem dX1_changed_8 : decode cX1_changed 8 = .ok (.iconst (-1), 1) := by decide +kernel
theorem dX1_changed_9 : decode cX1_changed 9 = .ok (.ireturn, 1) := by decide +kernel
theorem dX1_changed_10 : decode cX1_changed 10 = .ok (.aload_n 0, 1) := by decide +kernel
theorem dX1_changed_11 : decode cX1_changed 11 = .ok (.getfield 16, 3) := by decide +kernel
theorem dX1_changed_14 : decode cX1_changed 14 = .ok (.iload_n 1, 1) := by decide +kernel
theorem dX1_changed_15 : decode cX1_changed 15 = .ok (.iaload, 1) := by decide +kernel
theorem dX1_changed_16 : decode cX1_changed 16 = .ok (.ifCond .ne 6, 3) := by decide +kernel
theorem dX1_changed_19 : decode cX1_changed 19 = .ok (.bipush (-4), 2) := by decide +kernel
theorem dX1_changed_21 : decode cX1_changed 21 = .ok (.ireturn, 1) := by decide +kernel
theorem dX1_changed_22 : decode cX1_changed 22 = .ok (.aload_n 0, 1) := by decide +kernel
theorem dX1_changed_23 : decode cX1_changed 23 = .ok (.iload_n 1, 1) := by decide +kernel
theorem dX1_changed_24 : decode cX1_changed 24 = .ok (.aload_n 0, 1) := by decide +kernel
theorem dX1_changed_25 : decode cX1_changed 25 = .ok (.getfield 16, 3) := by decide +kernel
theorem dX1_changed_28 : decode cX1_changed 28 = .ok (.iload_n 1, 1) := by decide +kernel
theorem dX1_changed_29 : decode cX1_changed 29 = .ok (.iaload, 1) := by decide +kernel
theorem dX1_changed_30 : decode cX1_changed 30 = .ok (.iconst 1, 1) := by decide +kernel
theorem dX1_changed_31 : decode cX1_changed 31 = .ok (.isub, 1) := by decide +kernel
theorem dX1_changed_32 : decode cX1_changed 32 = .ok (.invokevirtual 30, 3) := by decide +kernel
theorem dX1_changed_35 : decode cX1_changed 35 = .ok (.ireturn, 1) := by decide +kernel
theorem dX1_differ_0 : decode cX1_differ 0 = .ok (.aload_n 0, 1) := by decide +kernel
theorem dX1_differ_1 : decode cX1_differ 1 = .ok (.iload_n 1, 1) := by decide +kernel
theorem dX1_differ_2 : decode cX1_differ 2 = .ok (.invokevirtual 22, 3) := by decide +kernel
theorem dX1_differ_5 : decode cX1_differ 5 = .ok (.ifCond .eq 5, 3) := by decide +kernel
theorem dX1_differ_8 : decode cX1_differ 8 = .ok (.iconst (-1), 1) := by decide +kernel
theorem dX1_differ_9 : decode cX1_differ 9 = .ok (.ireturn, 1) := by decide +kernel
theorem dX1_differ_10 : decode cX1_differ 10 = .ok (.aload_n 0, 1) := by decide +kernel
theorem dX1_differ_11 : decode cX1_differ 11 = .ok (.iload_n 1, 1) := by decide +kernel
theorem dX1_differ_12 : decode cX1_differ 12 = .ok (.iload_n 2, 1) := by decide +kernel
theorem dX1_differ_13 : decode cX1_differ 13 = .ok (.invokevirtual 26, 3) := by decide +kernel
theorem dX1_differ_16 : decode cX1_differ 16 = .ok (.ifCond .ne 12, 3) := by decide +kernel
theorem dX1_differ_19 : decode cX1_differ 19 = .ok (.aload_n 0, 1) := by decide +kernel
theorem dX1_differ_20 : decode cX1_differ 20 = .ok (.iload_n 1, 1) := by decide +kernel
theorem dX1_differ_21 : decode cX1_differ 21 = .ok (.iload_n 3, 1) := by decide +kernel
theorem dX1_differ_22 : decode cX1_differ 22 = .ok (.invokevirtual 26, 3) := by decide +kernel
theorem dX1_differ_25 : decode cX1_differ 25 = .ok (.ifCond .eq 6, 3) := by decide +kernel
theorem dX1_differ_28 : decode cX1_differ 28 = .ok (.bipush (-4), 2) := by decide +kernel
theorem dX1_differ_30 : decode cX1_differ 30 = .ok (.ireturn, 1) := by decide +kernel
theorem dX1_differ_31 : decode cX1_differ 31 = .ok (.iconst 0, 1) := by decide +kernel
theorem dX1_differ_32 : decode cX1_differ 32 = .ok (.istore 4, 2) := by decide +kernel
theorem dX1_differ_34 : decode cX1_differ 34 = .ok (.iconst 0, 1) := by decide +kernel
theorem dX1_differ_35 : decode cX1_differ 35 = .ok (.istore 5, 2) := by decide +kernel
theorem dX1_differ_37 : decode cX1_differ 37 = .ok (.iload 5, 2) := by decide +kernel
theorem dX1_differ_39 : decode cX1_differ 39 = .ok (.bipush 16, 2) := by decide +kernel
theorem dX1_differ_41 : decode cX1_differ 41 = .ok (.if_icmp .ge 49, 3) := by decide +kernel
theorem dX1_differ_44 : decode cX1_differ 44 = .ok (.aload_n 0, 1) := by decide +kernel
theorem dX1_differ_45 : decode cX1_differ 45 = .ok (.getfield 19, 3) := by decide +kernel
theorem dX1_differ_48 : decode cX1_differ 48 = .ok (.iload_n 1, 1) := by decide +kernel
theorem dX1_differ_49 : decode cX1_differ 49 = .ok (.bipush 6, 2) := by decide +kernel
theorem dX1_differ_51 : decode cX1_differ 51 = .ok (.imul, 1) := by decide +kernel
theorem dX1_differ_52 : decode cX1_differ 52 = .ok (.iload_n 2, 1) := by decide +kernel
theorem dX1_differ_53 : decode cX1_differ 53 = .ok (.iadd, 1) := by decide +kernel
theorem dX1_differ_54 : decode cX1_differ 54 = .ok (.bipush 16, 2) := by decide +kernel
theorem dX1_differ_56 : decode cX1_differ 56 = .ok (.imul, 1) := by decide +kernel
theorem dX1_differ_57 : decode cX1_differ 57 = .ok (.iload 5, 2) := by decide +kernel
theorem dX1_differ_59 : decode cX1_differ 59 = .ok (.iadd, 1) := by decide +kernel
theorem dX1_differ_60 : decode cX1_differ 60 = .ok (.iaload, 1) := by decide +kernel
theorem dX1_differ_61 : decode cX1_differ 61 = .ok (.aload_n 0, 1) := by decide +kernel
theorem dX1_differ_62 : decode cX1_differ 62 = .ok (.getfield 19, 3) := by decide +kernel
theorem dX1_differ_65 : decode cX1_differ 65 = .ok (.iload_n 1, 1) := by decide +kernel
theorem dX1_differ_66 : decode cX1_differ 66 = .ok (.bipush 6, 2) := by decide +kernel
theorem dX1_differ_68 : decode cX1_differ 68 = .ok (.imul, 1) := by decide +kernel
theorem dX1_differ_69 : decode cX1_differ 69 = .ok (.iload_n 3, 1) := by decide +kernel
theorem dX1_differ_70 : decode cX1_differ 70 = .ok (.iadd, 1) := by decide +kernel
theorem dX1_differ_71 : decode cX1_differ 71 = .ok (.bipush 16, 2) := by decide +kernel
theorem dX1_differ_73 : decode cX1_differ 73 = .ok (.imul, 1) := by decide +kernel
theorem dX1_differ_74 : decode cX1_differ 74 = .ok (.iload 5, 2) := by decide +kernel
theorem dX1_differ_76 : decode cX1_differ 76 = .ok (.iadd, 1) := by decide +kernel
theorem dX1_differ_77 : decode cX1_differ 77 = .ok (.iaload, 1) := by decide +kernel
theorem dX1_differ_78 : decode cX1_differ 78 = .ok (.if_icmp .eq 6, 3) := by decide +kernel
theorem dX1_differ_81 : decode cX1_differ 81 = .ok (.iinc 4 1, 3) := by decide +kernel
theorem dX1_differ_84 : decode cX1_differ 84 = .ok (.iinc 5 1, 3) := by decide +kernel
theorem dX1_differ_87 : decode cX1_differ 87 = .ok (.goto (-50), 3) := by decide +kernel
theorem dX1_differ_90 : decode cX1_differ 90 = .ok (.iload 4, 2) := by decide +kernel
theorem dX1_differ_92 : decode cX1_differ 92 = .ok (.ireturn, 1) := by decide +kernel
theorem dL_law_0 : decode cL_law 0 = .ok (.new 7, 3) := by decide +kernel
theorem dL_law_3 : decode cL_law 3 = .ok (.dup, 1) := by decide +kernel
theorem dL_law_4 : decode cL_law 4 = .ok (.invokespecial 9, 3) := by decide +kernel
theorem dL_law_7 : decode cL_law 7 = .ok (.astore_n 1, 1) := by decide +kernel
theorem dL_law_8 : decode cL_law 8 = .ok (.new 10, 3) := by decide +kernel
theorem dL_law_11 : decode cL_law 11 = .ok (.dup, 1) := by decide +kernel
theorem dL_law_12 : decode cL_law 12 = .ok (.invokespecial 12, 3) := by decide +kernel
theorem dL_law_15 : decode cL_law 15 = .ok (.astore_n 2, 1) := by decide +kernel
theorem dL_law_16 : decode cL_law 16 = .ok (.iconst 0, 1) := by decide +kernel
theorem dL_law_17 : decode cL_law 17 = .ok (.istore_n 3, 1) := by decide +kernel
theorem dL_law_18 : decode cL_law 18 = .ok (.iload_n 3, 1) := by decide +kernel
theorem dL_law_19 : decode cL_law 19 = .ok (.aload_n 0, 1) := by decide +kernel
theorem dL_law_20 : decode cL_law 20 = .ok (.arraylength, 1) := by decide +kernel
theorem dL_law_21 : decode cL_law 21 = .ok (.iconst 4, 1) := by decide +kernel
theorem dL_law_22 : decode cL_law 22 = .ok (.isub, 1) := by decide +kernel
theorem dL_law_23 : decode cL_law 23 = .ok (.if_icmp .gt 448, 3) := by decide +kernel
theorem dL_law_26 : decode cL_law 26 = .ok (.aload_n 0, 1) := by decide +kernel
theorem dL_law_27 : decode cL_law 27 = .ok (.iload_n 3, 1) := by decide +kernel
theorem dL_law_28 : decode cL_law 28 = .ok (.iaload, 1) := by decide +kernel
theorem dL_law_29 : decode cL_law 29 = .ok (.bipush 15, 2) := by decide +kernel
theorem dL_law_31 : decode cL_law 31 = .ok (.iand, 1) := by decide +kernel
theorem dL_law_32 : decode cL_law 32 = .ok (.tableswitch 433 0 12 #[68, 101, 144, 167, 200, 223, 256, 267, 278, 301, 344, 367, 390], 68) := by decide +kernel
theorem dL_law_100 : decode cL_law 100 = .ok (.aload_n 1, 1) := by decide +kernel
theorem dL_law_101 : decode cL_law 101 = .ok (.aload_n 0, 1) := by decide +kernel
theorem dL_law_102 : decode cL_law 102 = .ok (.iload_n 3, 1) := by decide +kernel
theorem dL_law_103 : decode cL_law 103 = .ok (.iconst 1, 1) := by decide +kernel
theorem dL_law_104 : decode cL_law 104 = .ok (.iadd, 1) := by decide +kernel
theorem dL_law_105 : decode cL_law 105 = .ok (.iaload, 1) := by decide +kernel
theorem dL_law_106 : decode cL_law 106 = .ok (.aload_n 0, 1) := by decide +kernel
theorem dL_law_107 : decode cL_law 107 = .ok (.iload_n 3, 1) := by decide +kernel
theorem dL_law_108 : decode cL_law 108 = .ok (.iconst 2, 1) := by decide +kernel
theorem dL_law_109 : decode cL_law 109 = .ok (.iadd, 1) := by decide +kernel
theorem dL_law_110 : decode cL_law 110 = .ok (.iaload, 1) := by decide +kernel
theorem dL_law_111 : decode cL_law 111 = .ok (.invokevirtual 13, 3) := by decide +kernel
theorem dL_law_114 : decode cL_law 114 = .ok (.aload_n 2, 1) := by decide +kernel
theorem dL_law_115 : decode cL_law 115 = .ok (.aload_n 0, 1) := by decide +kernel
theorem dL_law_116 : decode cL_law 116 = .ok (.iload_n 3, 1) := by decide +kernel
theorem dL_law_117 : decode cL_law 117 = .ok (.iconst 1, 1) := by decide +kernel
theorem dL_law_118 : decode cL_law 118 = .ok (.iadd, 1) := by decide +kernel
theorem dL_law_119 : decode cL_law 119 = .ok (.iaload, 1) := by decide +kernel
theorem dL_law_120 : decode cL_law 120 = .ok (.aload_n 0, 1) := by decide +kernel
theorem dL_law_121 : decode cL_law 121 = .ok (.iload_n 3, 1) := by decide +kernel
theorem dL_law_122 : decode cL_law 122 = .ok (.iconst 2, 1) := by decide +kernel
theorem dL_law_123 : decode cL_law 123 = .ok (.iadd, 1) := by decide +kernel
theorem dL_law_124 : decode cL_law 124 = .ok (.iaload, 1) := by decide +kernel
theorem dL_law_125 : decode cL_law 125 = .ok (.invokevirtual 17, 3) := by decide +kernel
theorem dL_law_128 : decode cL_law 128 = .ok (.if_icmp .eq 337, 3) := by decide +kernel
theorem dL_law_131 : decode cL_law 131 = .ok (.iconst 0, 1) := by decide +kernel
theorem dL_law_132 : decode cL_law 132 = .ok (.ireturn, 1) := by decide +kernel
theorem dL_law_133 : decode cL_law 133 = .ok (.aload_n 1, 1) := by decide +kernel
theorem dL_law_134 : decode cL_law 134 = .ok (.aload_n 0, 1) := by decide +kernel
theorem dL_law_135 : decode cL_law 135 = .ok (.iload_n 3, 1) := by decide +kernel
theorem dL_law_136 : decode cL_law 136 = .ok (.iconst 1, 1) := by decide +kernel
theorem dL_law_137 : decode cL_law 137 = .ok (.iadd, 1) := by decide +kernel
theorem dL_law_138 : decode cL_law 138 = .ok (.iaload, 1) := by decide +kernel
theorem dL_law_139 : decode cL_law 139 = .ok (.aload_n 0, 1) := by decide +kernel
theorem dL_law_140 : decode cL_law 140 = .ok (.iload_n 3, 1) := by decide +kernel
theorem dL_law_141 : decode cL_law 141 = .ok (.iconst 2, 1) := by decide +kernel
theorem dL_law_142 : decode cL_law 142 = .ok (.iadd, 1) := by decide +kernel
theorem dL_law_143 : decode cL_law 143 = .ok (.iaload, 1) := by decide +kernel
theorem dL_law_144 : decode cL_law 144 = .ok (.aload_n 0, 1) := by decide +kernel
theorem dL_law_145 : decode cL_law 145 = .ok (.iload_n 3, 1) := by decide +kernel
theorem dL_law_146 : decode cL_law 146 = .ok (.iconst 3, 1) := by decide +kernel
theorem dL_law_147 : decode cL_law 147 = .ok (.iadd, 1) := by decide +kernel
theorem dL_law_148 : decode cL_law 148 = .ok (.iaload, 1) := by decide +kernel
theorem dL_law_149 : decode cL_law 149 = .ok (.invokevirtual 18, 3) := by decide +kernel
theorem dL_law_152 : decode cL_law 152 = .ok (.aload_n 2, 1) := by decide +kernel
theorem dL_law_153 : decode cL_law 153 = .ok (.aload_n 0, 1) := by decide +kernel
theorem dL_law_154 : decode cL_law 154 = .ok (.iload_n 3, 1) := by decide +kernel
theorem dL_law_155 : decode cL_law 155 = .ok (.iconst 1, 1) := by decide +kernel
end
section
set_option maxRecDepth 100000
theorem dL_law_156 : decode cL_law 156 = .ok (.iadd, 1) := by decide +kernel
theorem dL_law_157 : decode cL_law 157 = .ok (.iaload, 1) := by decide +kernel
theorem dL_law_158 : decode cL_law 158 = .ok (.aload_n 0, 1) := by decide +kernel
theorem dL_law_159 : decode cL_law 159 = .ok (.iload_n 3, 1) := by decide +kernel
theorem dL_law_160 : decode cL_law 160 = .ok (.iconst 2, 1) := by decide +kernel
theorem dL_law_161 : decode cL_law 161 = .ok (.iadd, 1) := by decide +kernel
theorem dL_law_162 : decode cL_law 162 = .ok (.iaload, 1) := by decide +kernel
theorem dL_law_163 : decode cL_law 163 = .ok (.aload_n 0, 1) := by decide +kernel
theorem dL_law_164 : decode cL_law 164 = .ok (.iload_n 3, 1) := by decide +kernel
theorem dL_law_165 : decode cL_law 165 = .ok (.iconst 3, 1) := by decide +kernel
theorem dL_law_166 : decode cL_law 166 = .ok (.iadd, 1) := by decide +kernel
theorem dL_law_167 : decode cL_law 167 = .ok (.iaload, 1) := by decide +kernel
theorem dL_law_168 : decode cL_law 168 = .ok (.invokevirtual 22, 3) := by decide +kernel
theorem dL_law_171 : decode cL_law 171 = .ok (.if_icmp .eq 294, 3) := by decide +kernel
theorem dL_law_174 : decode cL_law 174 = .ok (.iconst 0, 1) := by decide +kernel
theorem dL_law_175 : decode cL_law 175 = .ok (.ireturn, 1) := by decide +kernel
theorem dL_law_176 : decode cL_law 176 = .ok (.aload_n 1, 1) := by decide +kernel
theorem dL_law_177 : decode cL_law 177 = .ok (.aload_n 0, 1) := by decide +kernel
theorem dL_law_178 : decode cL_law 178 = .ok (.iload_n 3, 1) := by decide +kernel
theorem dL_law_179 : decode cL_law 179 = .ok (.iconst 1, 1) := by decide +kernel
theorem dL_law_180 : decode cL_law 180 = .ok (.iadd, 1) := by decide +kernel
theorem dL_law_181 : decode cL_law 181 = .ok (.iaload, 1) := by decide +kernel
theorem dL_law_182 : decode cL_law 182 = .ok (.invokevirtual 23, 3) := by decide +kernel
theorem dL_law_185 : decode cL_law 185 = .ok (.aload_n 2, 1) := by decide +kernel
theorem dL_law_186 : decode cL_law 186 = .ok (.aload_n 0, 1) := by decide +kernel
theorem dL_law_187 : decode cL_law 187 = .ok (.iload_n 3, 1) := by decide +kernel
theorem dL_law_188 : decode cL_law 188 = .ok (.iconst 1, 1) := by decide +kernel
theorem dL_law_189 : decode cL_law 189 = .ok (.iadd, 1) := by decide +kernel
theorem dL_law_190 : decode cL_law 190 = .ok (.iaload, 1) := by decide +kernel
theorem dL_law_191 : decode cL_law 191 = .ok (.invokevirtual 27, 3) := by decide +kernel
theorem dL_law_194 : decode cL_law 194 = .ok (.if_icmp .eq 271, 3) := by decide +kernel
theorem dL_law_197 : decode cL_law 197 = .ok (.iconst 0, 1) := by decide +kernel
theorem dL_law_198 : decode cL_law 198 = .ok (.ireturn, 1) := by decide +kernel
theorem dL_law_199 : decode cL_law 199 = .ok (.aload_n 1, 1) := by decide +kernel
theorem dL_law_200 : decode cL_law 200 = .ok (.aload_n 0, 1) := by decide +kernel
theorem dL_law_201 : decode cL_law 201 = .ok (.iload_n 3, 1) := by decide +kernel
theorem dL_law_202 : decode cL_law 202 = .ok (.iconst 1, 1) := by decide +kernel
theorem dL_law_203 : decode cL_law 203 = .ok (.iadd, 1) := by decide +kernel
theorem dL_law_204 : decode cL_law 204 = .ok (.iaload, 1) := by decide +kernel
theorem dL_law_205 : decode cL_law 205 = .ok (.aload_n 0, 1) := by decide +kernel
theorem dL_law_206 : decode cL_law 206 = .ok (.iload_n 3, 1) := by decide +kernel
theorem dL_law_207 : decode cL_law 207 = .ok (.iconst 2, 1) := by decide +kernel
theorem dL_law_208 : decode cL_law 208 = .ok (.iadd, 1) := by decide +kernel
theorem dL_law_209 : decode cL_law 209 = .ok (.iaload, 1) := by decide +kernel
theorem dL_law_210 : decode cL_law 210 = .ok (.invokevirtual 28, 3) := by decide +kernel
theorem dL_law_213 : decode cL_law 213 = .ok (.aload_n 2, 1) := by decide +kernel
theorem dL_law_214 : decode cL_law 214 = .ok (.aload_n 0, 1) := by decide +kernel
theorem dL_law_215 : decode cL_law 215 = .ok (.iload_n 3, 1) := by decide +kernel
theorem dL_law_216 : decode cL_law 216 = .ok (.iconst 1, 1) := by decide +kernel
theorem dL_law_217 : decode cL_law 217 = .ok (.iadd, 1) := by decide +kernel
theorem dL_law_218 : decode cL_law 218 = .ok (.iaload, 1) := by decide +kernel
theorem dL_law_219 : decode cL_law 219 = .ok (.aload_n 0, 1) := by decide +kernel
theorem dL_law_220 : decode cL_law 220 = .ok (.iload_n 3, 1) := by decide +kernel
theorem dL_law_221 : decode cL_law 221 = .ok (.iconst 2, 1) := by decide +kernel
theorem dL_law_222 : decode cL_law 222 = .ok (.iadd, 1) := by decide +kernel
theorem dL_law_223 : decode cL_law 223 = .ok (.iaload, 1) := by decide +kernel
theorem dL_law_224 : decode cL_law 224 = .ok (.invokevirtual 31, 3) := by decide +kernel
theorem dL_law_227 : decode cL_law 227 = .ok (.if_icmp .eq 238, 3) := by decide +kernel
theorem dL_law_230 : decode cL_law 230 = .ok (.iconst 0, 1) := by decide +kernel
theorem dL_law_231 : decode cL_law 231 = .ok (.ireturn, 1) := by decide +kernel
theorem dL_law_232 : decode cL_law 232 = .ok (.aload_n 1, 1) := by decide +kernel
theorem dL_law_233 : decode cL_law 233 = .ok (.aload_n 0, 1) := by decide +kernel
theorem dL_law_234 : decode cL_law 234 = .ok (.iload_n 3, 1) := by decide +kernel
theorem dL_law_235 : decode cL_law 235 = .ok (.iconst 1, 1) := by decide +kernel
theorem dL_law_236 : decode cL_law 236 = .ok (.iadd, 1) := by decide +kernel
theorem dL_law_237 : decode cL_law 237 = .ok (.iaload, 1) := by decide +kernel
theorem dL_law_238 : decode cL_law 238 = .ok (.invokevirtual 32, 3) := by decide +kernel
theorem dL_law_241 : decode cL_law 241 = .ok (.aload_n 2, 1) := by decide +kernel
theorem dL_law_242 : decode cL_law 242 = .ok (.aload_n 0, 1) := by decide +kernel
theorem dL_law_243 : decode cL_law 243 = .ok (.iload_n 3, 1) := by decide +kernel
theorem dL_law_244 : decode cL_law 244 = .ok (.iconst 1, 1) := by decide +kernel
theorem dL_law_245 : decode cL_law 245 = .ok (.iadd, 1) := by decide +kernel
theorem dL_law_246 : decode cL_law 246 = .ok (.iaload, 1) := by decide +kernel
theorem dL_law_247 : decode cL_law 247 = .ok (.invokevirtual 35, 3) := by decide +kernel
theorem dL_law_250 : decode cL_law 250 = .ok (.if_icmp .eq 215, 3) := by decide +kernel
theorem dL_law_253 : decode cL_law 253 = .ok (.iconst 0, 1) := by decide +kernel
theorem dL_law_254 : decode cL_law 254 = .ok (.ireturn, 1) := by decide +kernel
theorem dL_law_255 : decode cL_law 255 = .ok (.aload_n 1, 1) := by decide +kernel
theorem dL_law_256 : decode cL_law 256 = .ok (.aload_n 0, 1) := by decide +kernel
theorem dL_law_257 : decode cL_law 257 = .ok (.iload_n 3, 1) := by decide +kernel
theorem dL_law_258 : decode cL_law 258 = .ok (.iconst 1, 1) := by decide +kernel
theorem dL_law_259 : decode cL_law 259 = .ok (.iadd, 1) := by decide +kernel
theorem dL_law_260 : decode cL_law 260 = .ok (.iaload, 1) := by decide +kernel
theorem dL_law_261 : decode cL_law 261 = .ok (.aload_n 0, 1) := by decide +kernel
theorem dL_law_262 : decode cL_law 262 = .ok (.iload_n 3, 1) := by decide +kernel
theorem dL_law_263 : decode cL_law 263 = .ok (.iconst 2, 1) := by decide +kernel
theorem dL_law_264 : decode cL_law 264 = .ok (.iadd, 1) := by decide +kernel
theorem dL_law_265 : decode cL_law 265 = .ok (.iaload, 1) := by decide +kernel
theorem dL_law_266 : decode cL_law 266 = .ok (.invokevirtual 36, 3) := by decide +kernel
theorem dL_law_269 : decode cL_law 269 = .ok (.aload_n 2, 1) := by decide +kernel
theorem dL_law_270 : decode cL_law 270 = .ok (.aload_n 0, 1) := by decide +kernel
theorem dL_law_271 : decode cL_law 271 = .ok (.iload_n 3, 1) := by decide +kernel
theorem dL_law_272 : decode cL_law 272 = .ok (.iconst 1, 1) := by decide +kernel
theorem dL_law_273 : decode cL_law 273 = .ok (.iadd, 1) := by decide +kernel
theorem dL_law_274 : decode cL_law 274 = .ok (.iaload, 1) := by decide +kernel
theorem dL_law_275 : decode cL_law 275 = .ok (.aload_n 0, 1) := by decide +kernel
theorem dL_law_276 : decode cL_law 276 = .ok (.iload_n 3, 1) := by decide +kernel
theorem dL_law_277 : decode cL_law 277 = .ok (.iconst 2, 1) := by decide +kernel
theorem dL_law_278 : decode cL_law 278 = .ok (.iadd, 1) := by decide +kernel
theorem dL_law_279 : decode cL_law 279 = .ok (.iaload, 1) := by decide +kernel
theorem dL_law_280 : decode cL_law 280 = .ok (.invokevirtual 39, 3) := by decide +kernel
theorem dL_law_283 : decode cL_law 283 = .ok (.if_icmp .eq 182, 3) := by decide +kernel
theorem dL_law_286 : decode cL_law 286 = .ok (.iconst 0, 1) := by decide +kernel
theorem dL_law_287 : decode cL_law 287 = .ok (.ireturn, 1) := by decide +kernel
theorem dL_law_288 : decode cL_law 288 = .ok (.aload_n 1, 1) := by decide +kernel
theorem dL_law_289 : decode cL_law 289 = .ok (.invokevirtual 40, 3) := by decide +kernel
theorem dL_law_292 : decode cL_law 292 = .ok (.aload_n 2, 1) := by decide +kernel
theorem dL_law_293 : decode cL_law 293 = .ok (.invokevirtual 43, 3) := by decide +kernel
theorem dL_law_296 : decode cL_law 296 = .ok (.goto 169, 3) := by decide +kernel
theorem dL_law_299 : decode cL_law 299 = .ok (.aload_n 1, 1) := by decide +kernel
theorem dL_law_300 : decode cL_law 300 = .ok (.invokevirtual 44, 3) := by decide +kernel
theorem dL_law_303 : decode cL_law 303 = .ok (.aload_n 2, 1) := by decide +kernel
theorem dL_law_304 : decode cL_law 304 = .ok (.invokevirtual 47, 3) := by decide +kernel
theorem dL_law_307 : decode cL_law 307 = .ok (.goto 158, 3) := by decide +kernel
theorem dL_law_310 : decode cL_law 310 = .ok (.aload_n 1, 1) := by decide +kernel
theorem dL_law_311 : decode cL_law 311 = .ok (.aload_n 0, 1) := by decide +kernel
theorem dL_law_312 : decode cL_law 312 = .ok (.iload_n 3, 1) := by decide +kernel
theorem dL_law_313 : decode cL_law 313 = .ok (.iconst 1, 1) := by decide +kernel
theorem dL_law_314 : decode cL_law 314 = .ok (.iadd, 1) := by decide +kernel
theorem dL_law_315 : decode cL_law 315 = .ok (.iaload, 1) := by decide +kernel
theorem dL_law_316 : decode cL_law 316 = .ok (.invokevirtual 48, 3) := by decide +kernel
theorem dL_law_319 : decode cL_law 319 = .ok (.aload_n 2, 1) := by decide +kernel
theorem dL_law_320 : decode cL_law 320 = .ok (.aload_n 0, 1) := by decide +kernel
theorem dL_law_321 : decode cL_law 321 = .ok (.iload_n 3, 1) := by decide +kernel
theorem dL_law_322 : decode cL_law 322 = .ok (.iconst 1, 1) := by decide +kernel
theorem dL_law_323 : decode cL_law 323 = .ok (.iadd, 1) := by decide +kernel
theorem dL_law_324 : decode cL_law 324 = .ok (.iaload, 1) := by decide +kernel
theorem dL_law_325 : decode cL_law 325 = .ok (.invokevirtual 51, 3) := by decide +kernel
theorem dL_law_328 : decode cL_law 328 = .ok (.if_icmp .eq 137, 3) := by decide +kernel
theorem dL_law_331 : decode cL_law 331 = .ok (.iconst 0, 1) := by decide +kernel
theorem dL_law_332 : decode cL_law 332 = .ok (.ireturn, 1) := by decide +kernel
theorem dL_law_333 : decode cL_law 333 = .ok (.aload_n 1, 1) := by decide +kernel
theorem dL_law_334 : decode cL_law 334 = .ok (.aload_n 0, 1) := by decide +kernel
theorem dL_law_335 : decode cL_law 335 = .ok (.iload_n 3, 1) := by decide +kernel
theorem dL_law_336 : decode cL_law 336 = .ok (.iconst 1, 1) := by decide +kernel
theorem dL_law_337 : decode cL_law 337 = .ok (.iadd, 1) := by decide +kernel
theorem dL_law_338 : decode cL_law 338 = .ok (.iaload, 1) := by decide +kernel
theorem dL_law_339 : decode cL_law 339 = .ok (.aload_n 0, 1) := by decide +kernel
theorem dL_law_340 : decode cL_law 340 = .ok (.iload_n 3, 1) := by decide +kernel
theorem dL_law_341 : decode cL_law 341 = .ok (.iconst 2, 1) := by decide +kernel
theorem dL_law_342 : decode cL_law 342 = .ok (.iadd, 1) := by decide +kernel
theorem dL_law_343 : decode cL_law 343 = .ok (.iaload, 1) := by decide +kernel
theorem dL_law_344 : decode cL_law 344 = .ok (.aload_n 0, 1) := by decide +kernel
theorem dL_law_345 : decode cL_law 345 = .ok (.iload_n 3, 1) := by decide +kernel
theorem dL_law_346 : decode cL_law 346 = .ok (.iconst 3, 1) := by decide +kernel
theorem dL_law_347 : decode cL_law 347 = .ok (.iadd, 1) := by decide +kernel
theorem dL_law_348 : decode cL_law 348 = .ok (.iaload, 1) := by decide +kernel
theorem dL_law_349 : decode cL_law 349 = .ok (.invokevirtual 52, 3) := by decide +kernel
theorem dL_law_352 : decode cL_law 352 = .ok (.aload_n 2, 1) := by decide +kernel
theorem dL_law_353 : decode cL_law 353 = .ok (.aload_n 0, 1) := by decide +kernel
theorem dL_law_354 : decode cL_law 354 = .ok (.iload_n 3, 1) := by decide +kernel
theorem dL_law_355 : decode cL_law 355 = .ok (.iconst 1, 1) := by decide +kernel
theorem dL_law_356 : decode cL_law 356 = .ok (.iadd, 1) := by decide +kernel
theorem dL_law_357 : decode cL_law 357 = .ok (.iaload, 1) := by decide +kernel
theorem dL_law_358 : decode cL_law 358 = .ok (.aload_n 0, 1) := by decide +kernel
theorem dL_law_359 : decode cL_law 359 = .ok (.iload_n 3, 1) := by decide +kernel
theorem dL_law_360 : decode cL_law 360 = .ok (.iconst 2, 1) := by decide +kernel
theorem dL_law_361 : decode cL_law 361 = .ok (.iadd, 1) := by decide +kernel
theorem dL_law_362 : decode cL_law 362 = .ok (.iaload, 1) := by decide +kernel
theorem dL_law_363 : decode cL_law 363 = .ok (.aload_n 0, 1) := by decide +kernel
theorem dL_law_364 : decode cL_law 364 = .ok (.iload_n 3, 1) := by decide +kernel
theorem dL_law_365 : decode cL_law 365 = .ok (.iconst 3, 1) := by decide +kernel
theorem dL_law_366 : decode cL_law 366 = .ok (.iadd, 1) := by decide +kernel
theorem dL_law_367 : decode cL_law 367 = .ok (.iaload, 1) := by decide +kernel
theorem dL_law_368 : decode cL_law 368 = .ok (.invokevirtual 55, 3) := by decide +kernel
theorem dL_law_371 : decode cL_law 371 = .ok (.if_icmp .eq 94, 3) := by decide +kernel
theorem dL_law_374 : decode cL_law 374 = .ok (.iconst 0, 1) := by decide +kernel
theorem dL_law_375 : decode cL_law 375 = .ok (.ireturn, 1) := by decide +kernel
theorem dL_law_376 : decode cL_law 376 = .ok (.aload_n 1, 1) := by decide +kernel
theorem dL_law_377 : decode cL_law 377 = .ok (.aload_n 0, 1) := by decide +kernel
theorem dL_law_378 : decode cL_law 378 = .ok (.iload_n 3, 1) := by decide +kernel
theorem dL_law_379 : decode cL_law 379 = .ok (.iconst 1, 1) := by decide +kernel
theorem dL_law_380 : decode cL_law 380 = .ok (.iadd, 1) := by decide +kernel
theorem dL_law_381 : decode cL_law 381 = .ok (.iaload, 1) := by decide +kernel
theorem dL_law_382 : decode cL_law 382 = .ok (.invokevirtual 56, 3) := by decide +kernel
theorem dL_law_385 : decode cL_law 385 = .ok (.aload_n 2, 1) := by decide +kernel
theorem dL_law_386 : decode cL_law 386 = .ok (.aload_n 0, 1) := by decide +kernel
theorem dL_law_387 : decode cL_law 387 = .ok (.iload_n 3, 1) := by decide +kernel
theorem dL_law_388 : decode cL_law 388 = .ok (.iconst 1, 1) := by decide +kernel
theorem dL_law_389 : decode cL_law 389 = .ok (.iadd, 1) := by decide +kernel
theorem dL_law_390 : decode cL_law 390 = .ok (.iaload, 1) := by decide +kernel
theorem dL_law_391 : decode cL_law 391 = .ok (.invokevirtual 59, 3) := by decide +kernel
theorem dL_law_394 : decode cL_law 394 = .ok (.if_icmp .eq 71, 3) := by decide +kernel
theorem dL_law_397 : decode cL_law 397 = .ok (.iconst 0, 1) := by decide +kernel
theorem dL_law_398 : decode cL_law 398 = .ok (.ireturn, 1) := by decide +kernel
theorem dL_law_399 : decode cL_law 399 = .ok (.aload_n 1, 1) := by decide +kernel
theorem dL_law_400 : decode cL_law 400 = .ok (.aload_n 0, 1) := by decide +kernel
theorem dL_law_401 : decode cL_law 401 = .ok (.iload_n 3, 1) := by decide +kernel
theorem dL_law_402 : decode cL_law 402 = .ok (.iconst 1, 1) := by decide +kernel
theorem dL_law_403 : decode cL_law 403 = .ok (.iadd, 1) := by decide +kernel
theorem dL_law_404 : decode cL_law 404 = .ok (.iaload, 1) := by decide +kernel
theorem dL_law_405 : decode cL_law 405 = .ok (.invokevirtual 60, 3) := by decide +kernel
theorem dL_law_408 : decode cL_law 408 = .ok (.aload_n 2, 1) := by decide +kernel
theorem dL_law_409 : decode cL_law 409 = .ok (.aload_n 0, 1) := by decide +kernel
theorem dL_law_410 : decode cL_law 410 = .ok (.iload_n 3, 1) := by decide +kernel
theorem dL_law_411 : decode cL_law 411 = .ok (.iconst 1, 1) := by decide +kernel
theorem dL_law_412 : decode cL_law 412 = .ok (.iadd, 1) := by decide +kernel
theorem dL_law_413 : decode cL_law 413 = .ok (.iaload, 1) := by decide +kernel
theorem dL_law_414 : decode cL_law 414 = .ok (.invokevirtual 63, 3) := by decide +kernel
theorem dL_law_417 : decode cL_law 417 = .ok (.if_icmp .eq 48, 3) := by decide +kernel
theorem dL_law_420 : decode cL_law 420 = .ok (.iconst 0, 1) := by decide +kernel
theorem dL_law_421 : decode cL_law 421 = .ok (.ireturn, 1) := by decide +kernel
theorem dL_law_422 : decode cL_law 422 = .ok (.aload_n 1, 1) := by decide +kernel
theorem dL_law_423 : decode cL_law 423 = .ok (.aload_n 0, 1) := by decide +kernel
theorem dL_law_424 : decode cL_law 424 = .ok (.iload_n 3, 1) := by decide +kernel
theorem dL_law_425 : decode cL_law 425 = .ok (.iconst 1, 1) := by decide +kernel
theorem dL_law_426 : decode cL_law 426 = .ok (.iadd, 1) := by decide +kernel
theorem dL_law_427 : decode cL_law 427 = .ok (.iaload, 1) := by decide +kernel
theorem dL_law_428 : decode cL_law 428 = .ok (.aload_n 0, 1) := by decide +kernel
theorem dL_law_429 : decode cL_law 429 = .ok (.iload_n 3, 1) := by decide +kernel
theorem dL_law_430 : decode cL_law 430 = .ok (.iconst 2, 1) := by decide +kernel
theorem dL_law_431 : decode cL_law 431 = .ok (.iadd, 1) := by decide +kernel
theorem dL_law_432 : decode cL_law 432 = .ok (.iaload, 1) := by decide +kernel
theorem dL_law_433 : decode cL_law 433 = .ok (.aload_n 0, 1) := by decide +kernel
theorem dL_law_434 : decode cL_law 434 = .ok (.iload_n 3, 1) := by decide +kernel
theorem dL_law_435 : decode cL_law 435 = .ok (.iconst 3, 1) := by decide +kernel
theorem dL_law_436 : decode cL_law 436 = .ok (.iadd, 1) := by decide +kernel
theorem dL_law_437 : decode cL_law 437 = .ok (.iaload, 1) := by decide +kernel
theorem dL_law_438 : decode cL_law 438 = .ok (.invokevirtual 64, 3) := by decide +kernel
theorem dL_law_441 : decode cL_law 441 = .ok (.aload_n 2, 1) := by decide +kernel
theorem dL_law_442 : decode cL_law 442 = .ok (.aload_n 0, 1) := by decide +kernel
theorem dL_law_443 : decode cL_law 443 = .ok (.iload_n 3, 1) := by decide +kernel
theorem dL_law_444 : decode cL_law 444 = .ok (.iconst 1, 1) := by decide +kernel
theorem dL_law_445 : decode cL_law 445 = .ok (.iadd, 1) := by decide +kernel
theorem dL_law_446 : decode cL_law 446 = .ok (.iaload, 1) := by decide +kernel
theorem dL_law_447 : decode cL_law 447 = .ok (.aload_n 0, 1) := by decide +kernel
theorem dL_law_448 : decode cL_law 448 = .ok (.iload_n 3, 1) := by decide +kernel
theorem dL_law_449 : decode cL_law 449 = .ok (.iconst 2, 1) := by decide +kernel
theorem dL_law_450 : decode cL_law 450 = .ok (.iadd, 1) := by decide +kernel
theorem dL_law_451 : decode cL_law 451 = .ok (.iaload, 1) := by decide +kernel
theorem dL_law_452 : decode cL_law 452 = .ok (.aload_n 0, 1) := by decide +kernel
theorem dL_law_453 : decode cL_law 453 = .ok (.iload_n 3, 1) := by decide +kernel
theorem dL_law_454 : decode cL_law 454 = .ok (.iconst 3, 1) := by decide +kernel
theorem dL_law_455 : decode cL_law 455 = .ok (.iadd, 1) := by decide +kernel
theorem dL_law_456 : decode cL_law 456 = .ok (.iaload, 1) := by decide +kernel
theorem dL_law_457 : decode cL_law 457 = .ok (.invokevirtual 67, 3) := by decide +kernel
theorem dL_law_460 : decode cL_law 460 = .ok (.if_icmp .eq 5, 3) := by decide +kernel
theorem dL_law_463 : decode cL_law 463 = .ok (.iconst 0, 1) := by decide +kernel
theorem dL_law_464 : decode cL_law 464 = .ok (.ireturn, 1) := by decide +kernel
theorem dL_law_465 : decode cL_law 465 = .ok (.iinc 3 4, 3) := by decide +kernel
theorem dL_law_468 : decode cL_law 468 = .ok (.goto (-450), 3) := by decide +kernel
theorem dL_law_471 : decode cL_law 471 = .ok (.iconst 1, 1) := by decide +kernel
theorem dL_law_472 : decode cL_law 472 = .ok (.ireturn, 1) := by decide +kernel
end
section
/-! ROWS OF OUR OWN over the kit's: a world as a function of the arrays' contents (gS: place, index, number); one context gC, one heap gH; contracts gMi (an int) and gMv (void) -/
abbrev vwCl : List vw_C := [(RX0, TX0, 11), (RX1, TX1, 4)]
abbrev gS : Type := Nat → Nat → Int32
def up2 (σ : gS) (k : Nat) (f : Nat → Int32) : gS := fun i => if i = k then f else σ i
theorem up2_s {σ : gS} {k : Nat} {f : Nat → Int32} : up2 σ k f k = f := if_pos rfl
theorem up2_n {σ : gS} {k j : Nat} {f : Nat → Int32} (h : j ≠ k) : up2 σ k f j = σ j := if_neg h
/-! locals in the order of their numbers -/
def lv_st (l : List (Nat × Value)) (i : Nat) (v : Value) : List (Nat × Value) := l.filter (fun q => decide (q.1 < i)) ++ (i, v) :: l.filter (fun q => decide (i < q.1))
theorem lv_st_ok {ls : Array Slot} {nL i : Nat} {v : Value} {l : List (Nat × Value)} (hc : l.all (fun q => q.2.category == 1) = true) (h : lv_has ls nL ((i, v) :: l.filter (fun q => !(q.1 == i) && !(q.1 + 1 == i && q.2.category == 2)))) : lv_has ls nL (lv_st l i v) := by
  refine ⟨h.1, h.2.1, fun q hq => h.2.2 q ?_⟩
  have key : ∀ q, q ∈ l → q.1 ≠ i → q ∈ (i, v) :: l.filter (fun q => !(q.1 == i) && !(q.1 + 1 == i && q.2.category == 2)) := by
    intro q hq hne
    have h1 := List.all_eq_true.mp hc q hq
    have h2 : q.2.category = 1 := by simpa using h1
    refine List.mem_cons_of_mem _ (List.mem_filter.mpr ⟨hq, ?_⟩)
    simp [hne, h2]
  unfold lv_st at hq
  rcases List.mem_append.mp hq with h1 | h1
  · obtain ⟨a, b⟩ := List.mem_filter.mp h1
    exact key q a (by have := of_decide_eq_true b; omega)
  · rcases List.mem_cons.mp h1 with h2 | h2
    · rw [h2]; exact List.mem_cons_self
    · obtain ⟨a, b⟩ := List.mem_filter.mp h2
      exact key q a (by have := of_decide_eq_true b; omega)
section GR
variable {p : Program} {l : Launch} {e : Env} {R : Room} {s : State} {m : MethodId} {args : Array Value} {below : List Frame} {meth : Method} {c : Code} {H : Heap} {locs : List Loc} {cells slots : Nat} {Q : State → Prop}
variable {cc : ByteArray} {pc : Nat} {ls : Array Slot} {rest : List Value} {D : va_G} {A : Nat → Prop} {tys : List (ClassId × FieldType)} {H0 : Heap} {wf : gS → va_W} {σ : gS} {own : String} {nL : Nat}
theorem g_istn (hx : p.tables.exec = Jvm.exec) (hb : c.code = cc) {k : Fin 4} {i : Nat} {x : Int32} {lv lv' : List (Nat × Value)} (hdg : decode cc pc = .ok (.istore_n k, 1)) (hi : (k : Nat) = i) (h : lv_has ls nL lv) (hc : lv.all (fun q => q.2.category == 1) = true) (hn : i < nL) (hl : lv_st lv i (.int x) = lv')
    (kk : ∀ ls' : Array Slot, lv_has ls' nL lv' → W p l e R s m args below meth c H locs cells slots Q (F0 m (pc + 1) ls' rest)) : W p l e R s m args below meth c H locs cells slots Q (F0 m pc ls (.int x :: rest)) := by
  subst hl
  exact lv_istore_n hx hb hdg hi h hn rfl (fun ls' h' => kk ls' (lv_st_ok hc h'))
theorem g_ist (hx : p.tables.exec = Jvm.exec) (hb : c.code = cc) {i : Nat} {x : Int32} {lv lv' : List (Nat × Value)} (hdg : decode cc pc = .ok (.istore i, 2)) (h : lv_has ls nL lv) (hc : lv.all (fun q => q.2.category == 1) = true) (hn : i < nL) (hl : lv_st lv i (.int x) = lv')
    (kk : ∀ ls' : Array Slot, lv_has ls' nL lv' → W p l e R s m args below meth c H locs cells slots Q (F0 m (pc + 2) ls' rest)) : W p l e R s m args below meth c H locs cells slots Q (F0 m pc ls (.int x :: rest)) := by
  subst hl
  exact lv_istore hx hb hdg h hn rfl (fun ls' h' => kk ls' (lv_st_ok hc h'))
theorem g_iinc (hx : p.tables.exec = Jvm.exec) (hb : c.code = cc) {i k : Nat} {n : Int} {x : Int32} (v : Int32) {lv lv' : List (Nat × Value)} (hdg : decode cc pc = .ok (.iinc i n, 3)) (h : lv_has ls nL lv) (hk : lv[k]? = some (i, .int x)) (hv : x + Int32.ofInt n = v) (hc : lv.all (fun q => q.2.category == 1) = true) (hn : i < nL) (hl : lv_st lv i (.int v) = lv')
    (kk : ∀ ls' : Array Slot, lv_has ls' nL lv' → W p l e R s m args below meth c H locs cells slots Q (F0 m (pc + 3) ls' rest)) : W p l e R s m args below meth c H locs cells slots Q (F0 m pc ls rest) := by
  subst hl
  exact lv_iinc hx hb hdg h hk hv hn rfl (fun ls' h' => kk ls' (lv_st_ok hc h'))
/-- the number on top of the stack, written otherwise -/
theorem g_top {x : Int32} (y : Int32) (h : x = y) (k : W p l e R s m args below meth c H locs cells slots Q (F0 m pc ls (.int y :: rest))) : W p l e R s m args below meth c H locs cells slots Q (F0 m pc ls (.int x :: rest)) := h ▸ k
theorem nI_i1 (a : Nat) : nI a + Int32.ofInt 1 = nI (a + 1) := nI_1 a
theorem nI_d1 {a b : Nat} (h : b = a + 1) : nI b + Int32.ofInt (-1) = nI a := by subst h; exact pk_m1 a
/-! branches on numbers nI a, nI b -/
theorem n_ge (hx : p.tables.exec = Jvm.exec) (hb : c.code = cc) {x y : Int32} {off : Int} {tgt : Nat} (a b : Nat) (ex : x = nI a) (ey : y = nI b) (ha : a < 2 ^ 31) (hb2 : b < 2 ^ 31) (hdg : decode cc pc = .ok (.if_icmp .ge off, 3)) (ht : (pc : Int) + off = (tgt : Int))
    (kt : b ≤ a → W p l e R s m args below meth c H locs cells slots Q (F0 m tgt ls rest)) (kf : a < b → W p l e R s m args below meth c H locs cells slots Q (F0 m (pc + 3) ls rest)) : W p l e R s m args below meth c H locs cells slots Q (F0 m pc ls (.int y :: .int x :: rest)) := by
  subst ex; subst ey
  exact lv_icmp_ge hx hb hdg ht (fun h => kt ((nI_leI hb2 ha).mp h)) (fun h => kf (Nat.not_le.mp (fun q => h ((nI_leI hb2 ha).mpr q))))
theorem n_gt (hx : p.tables.exec = Jvm.exec) (hb : c.code = cc) {x y : Int32} {off : Int} {tgt : Nat} (a b : Nat) (ex : x = nI a) (ey : y = nI b) (ha : a < 2 ^ 31) (hb2 : b < 2 ^ 31) (hdg : decode cc pc = .ok (.if_icmp .gt off, 3)) (ht : (pc : Int) + off = (tgt : Int))
    (kt : b < a → W p l e R s m args below meth c H locs cells slots Q (F0 m tgt ls rest)) (kf : a ≤ b → W p l e R s m args below meth c H locs cells slots Q (F0 m (pc + 3) ls rest)) : W p l e R s m args below meth c H locs cells slots Q (F0 m pc ls (.int y :: .int x :: rest)) := by
  subst ex; subst ey
  exact lv_icmp_gt hx hb hdg ht (fun h => kt ((nI_ltI hb2 ha).mp h)) (fun h => kf (Nat.not_lt.mp (fun q => h ((nI_ltI hb2 ha).mpr q))))
theorem n_lt (hx : p.tables.exec = Jvm.exec) (hb : c.code = cc) {x y : Int32} {off : Int} {tgt : Nat} (a b : Nat) (ex : x = nI a) (ey : y = nI b) (ha : a < 2 ^ 31) (hb2 : b < 2 ^ 31) (hdg : decode cc pc = .ok (.if_icmp .lt off, 3)) (ht : (pc : Int) + off = (tgt : Int))
    (kt : a < b → W p l e R s m args below meth c H locs cells slots Q (F0 m tgt ls rest)) (kf : b ≤ a → W p l e R s m args below meth c H locs cells slots Q (F0 m (pc + 3) ls rest)) : W p l e R s m args below meth c H locs cells slots Q (F0 m pc ls (.int y :: .int x :: rest)) := by
  subst ex; subst ey
  exact lv_icmp_lt hx hb hdg ht (fun h => kt ((nI_ltI ha hb2).mp h)) (fun h => kf (Nat.not_lt.mp (fun q => h ((nI_ltI ha hb2).mpr q))))
theorem n_le0 (hx : p.tables.exec = Jvm.exec) (hb : c.code = cc) {x : Int32} {off : Int} {tgt : Nat} (a : Nat) (ex : x = nI a) (ha : a < 2 ^ 31) (hdg : decode cc pc = .ok (.ifCond .le off, 3)) (ht : (pc : Int) + off = (tgt : Int))
    (kt : a = 0 → W p l e R s m args below meth c H locs cells slots Q (F0 m tgt ls rest)) (kf : 0 < a → W p l e R s m args below meth c H locs cells slots Q (F0 m (pc + 3) ls rest)) : W p l e R s m args below meth c H locs cells slots Q (F0 m pc ls (.int x :: rest)) := by
  subst ex
  refine lv_if_le hx hb hdg ht (fun h => kt ?_) (fun h => kf ?_)
  · rcases Nat.eq_zero_or_pos a with q | q
    · exact q
    · exact absurd h (nI_nle q ha)
  · rcases Nat.eq_zero_or_pos a with q | q
    · exact absurd (by rw [q, nI_0]; decide) h
    · exact q
/-! the context, the heap -/
def gC (own : String) (nL : Nat) (tys : List (ClassId × FieldType)) (p : Program) (s : State) (m : MethodId) (args : Array Value) (c : Code) (cc : ByteArray) (D : va_G) : Prop :=
  p.tables.exec = Jvm.exec ∧ c.code = cc ∧ c.maxLocals = nL ∧ s.vm.findClass own = some m.cls ∧ (∀ w ∈ lw_all, w.before args s = true) ∧ va_K D vwCl tys s
def gH (D : va_G) (A : Nat → Prop) (H0 : Heap) (wf : gS → va_W) (σ : gS) (H : Heap) (locs : List Loc) : Prop :=
  va_P D vwCl (wf σ) H ∧ va_D A (wf σ) ∧ va_S A H0 H locs ∧ ∀ q, H0.size ≤ q → A q
/-- the place k of the world is the array at a, of n numbers σ k -/
def gk (wf : gS → va_W) (tys : List (ClassId × FieldType)) (k n a : Nat) (ty : FieldType) : Prop :=
  ∃ cA : ClassId, (∀ σ, (wf σ)[k]? = some (a, .inl (cA, n, .inl (σ k)))) ∧ (∀ (σ : gS) (f : Nat → Int32), (wf σ).set k (a, .inl (cA, n, .inl f)) = wf (up2 σ k f)) ∧ (∃ t0 : Nat, tys[t0]? = some (cA, ty)) ∧ n < 2 ^ 31
theorem g_get (G : gC own nL tys p s m args c cc D) (X : gH D A H0 wf σ H locs) {C : String} {T : u_T} {N ci idx : Nat} (hin : ∀ w ∈ u_ws C T N, w ∈ lw_all) (q0 : Nat) {a : Nat} {fs : List Value} (he : (wf σ)[q0]? = some (a, .inr (ci, fs))) (hc : vwCl[ci]? = some (C, T, N)) (k : Nat) (hk : k < N) {ref : String} (hq : Cond.fieldLink own idx ref (T k).2.1 (T k).2.2.1 ∈ lw_all) (href : (T k).1 = ref) {v : Value} (hv : fs[k]? = some v) (hdg : decode cc pc = .ok (.getfield idx, 3))
    (kk : W p l e R s m args below meth c H locs cells slots Q (F0 m (pc + 3) ls (v :: rest))) : W p l e R s m args below meth c H locs cells slots Q (F0 m pc ls (.ref a :: rest)) :=
  va_get G.1 G.2.1 G.2.2.2.2.1 hin G.2.2.2.1 G.2.2.2.2.2 X.1 q0 he hc k hk (G.2.2.2.2.1 _ hq) (fun x h => by rw [← href]; exact h) hv hdg kk
theorem g_ld (G : gC own nL tys p s m args c cc D) (X : gH D A H0 wf σ H locs) {k n a : Nat} (hk : gk wf tys k n a .int) {i : Int32} (j : Nat) (hi : i = nI j) (hj : j < n) (hdg : decode cc pc = .ok (.iaload, 1))
    (kk : W p l e R s m args below meth c H locs cells slots Q (F0 m (pc + 1) ls (.int (σ k j) :: rest))) : W p l e R s m args below meth c H locs cells slots Q (F0 m pc ls (.int i :: .ref a :: rest)) := by
  obtain ⟨cA, h1, h2, ⟨t0, h3⟩, h4⟩ := hk
  subst hi
  refine va_iald G.1 G.2.1 G.2.2.2.2.2 X.1 k t0 (h1 σ) h3 (vp_in_nI hj h4) hdg ?_
  rw [nI_clamp (Nat.lt_trans hj h4)]
  exact kk
theorem g_zld (G : gC own nL tys p s m args c cc D) (X : gH D A H0 wf σ H locs) {k n a : Nat} (hk : gk wf tys k n a .boolean) {i : Int32} (j : Nat) (hi : i = nI j) (hj : j < n) (hdg : decode cc pc = .ok (.baload, 1))
    (kk : W p l e R s m args below meth c H locs cells slots Q (F0 m (pc + 1) ls (.int (σ k j) :: rest))) : W p l e R s m args below meth c H locs cells slots Q (F0 m pc ls (.int i :: .ref a :: rest)) := by
  obtain ⟨cA, h1, h2, ⟨t0, h3⟩, h4⟩ := hk
  subst hi
  refine va_zald G.1 G.2.1 G.2.2.2.2.2 X.1 k t0 (h1 σ) h3 (vp_in_nI hj h4) hdg ?_
  rw [nI_clamp (Nat.lt_trans hj h4)]
  exact kk
theorem g_st (G : gC own nL tys p s m args c cc D) (X : gH D A H0 wf σ H locs) {k n a : Nat} (hk : gk wf tys k n a .int) {i x : Int32} (j : Nat) (hi : i = nI j) (hj : j < n) (hdg : decode cc pc = .ok (.iastore, 1))
    (kk : ∀ (H1 : Heap) (locs1 : List Loc), gH D A H0 wf (up2 σ k (upd (σ k) j x)) H1 locs1 → W p l e R s m args below meth c H1 locs1 cells slots Q (F0 m (pc + 1) ls rest)) : W p l e R s m args below meth c H locs cells slots Q (F0 m pc ls (.int x :: .int i :: .ref a :: rest)) := by
  obtain ⟨cA, h1, h2, ⟨t0, h3⟩, h4⟩ := hk
  subst hi
  refine va_iast G.1 G.2.1 G.2.2.2.2.2 X.1 X.2.1 X.2.2.1 k t0 (h1 σ) h3 (vp_in_nI hj h4) hdg (fun H1 locs1 hP hD hS => kk H1 locs1 ?_)
  rw [nI_clamp (Nat.lt_trans hj h4), h2] at hP hD
  exact ⟨hP, hD, hS, X.2.2.2⟩
theorem g_zst (G : gC own nL tys p s m args c cc D) (X : gH D A H0 wf σ H locs) {k n a : Nat} (hk : gk wf tys k n a .boolean) {i x : Int32} (j : Nat) (hi : i = nI j) (hj : j < n) (hv : vp_nar .boolean x = x) (hdg : decode cc pc = .ok (.bastore, 1))
    (kk : ∀ (H1 : Heap) (locs1 : List Loc), gH D A H0 wf (up2 σ k (upd (σ k) j x)) H1 locs1 → W p l e R s m args below meth c H1 locs1 cells slots Q (F0 m (pc + 1) ls rest)) : W p l e R s m args below meth c H locs cells slots Q (F0 m pc ls (.int x :: .int i :: .ref a :: rest)) := by
  obtain ⟨cA, h1, h2, ⟨t0, h3⟩, h4⟩ := hk
  subst hi
  refine va_zast G.1 G.2.1 G.2.2.2.2.2 X.1 X.2.1 X.2.2.1 k t0 (h1 σ) h3 (vp_in_nI hj h4) hdg (fun H1 locs1 hP hD hS => kk H1 locs1 ?_)
  rw [nI_clamp (Nat.lt_trans hj h4), hv, h2] at hP hD
  exact ⟨hP, hD, hS, X.2.2.2⟩
/-! contracts -/
def gPc (D : va_G) (wf : gS → va_W) (tys : List (ClassId × FieldType)) (σ : gS) (sz : Nat) (U : State) : Prop := U.heap.size = sz ∧ va_P D vwCl (wf σ) U.heap ∧ va_K D vwCl tys U ∧ va_D (fun _ => True) (wf σ)
def gB (D : va_G) (wf : gS → va_W) (tys : List (ClassId × FieldType)) (A : Nat → Prop) (σ : gS) (t : State) : Prop := va_P D vwCl (wf σ) t.heap ∧ va_K D vwCl tys t ∧ va_D A (wf σ)
/-- y, called with As in the world wf σ, answers an int r and leaves the world wf σ' with 'post r σ''; makes no cell, changes nothing else -/
def gMi (l : Launch) (y : MethodName) (cc : ByteArray) (nL : Nat) (ret : Option FieldType) (rm : Room) (As : List Value) (D : va_G) (wf : gS → va_W) (tys : List (ClassId × FieldType)) (σ : gS) (post : Int32 → gS → Prop) : Prop :=
  ∀ sz : Nat, Met l y (ws_ y cc nL ret) rm (va_Pc As (gPc D wf tys σ sz)) (va_Qi post (gB D wf tys (va_A (wf σ) sz)) (va_A (wf σ) sz)) 0 0 (va_A (wf σ) sz)
def gMv (l : Launch) (y : MethodName) (cc : ByteArray) (nL : Nat) (rm : Room) (As : List Value) (D : va_G) (wf : gS → va_W) (tys : List (ClassId × FieldType)) (σ : gS) (post : gS → Prop) : Prop :=
  ∀ sz : Nat, Met l y (ws_ y cc nL none) rm (va_Pc As (gPc D wf tys σ sz)) (va_Qv post (gB D wf tys (va_A (wf σ) sz)) (va_A (wf σ) sz)) 0 0 (va_A (wf σ) sz)
theorem gMi_of {y : MethodName} {rty : FieldType} {rm : Room} {As : List Value} {post : Int32 → gS → Prop} (hy : plainName y.cls = true) (hn : (lg_sl As).length ≤ nL)
    (body : ∀ (p : Program) (e : Env) (s : State) (m : MethodId) (args : Array Value) (below : List Frame) (meth : Method) (c : Code) (A : Nat → Prop) (H0 : Heap) (Q : State → Prop), gC y.cls nL tys p s m args c cc D →
      (∀ (v : Int32) (σ' : gS) (H : Heap) (locs : List Loc) (pc : Nat) (ls : Array Slot), gH D A H0 wf σ' H locs → post v σ' → narrow rty (.int v) = .int v → decode cc pc = .ok (.ireturn, 1) → W p l e rm s m args below meth c H locs 0 0 Q (F0 m pc ls [.int v])) →
      ∀ (H : Heap) (locs : List Loc) (ls : Array Slot), gH D A H0 wf σ H locs → lv_has ls nL (lv_args 0 As) → W p l e rm s m args below meth c H locs 0 0 Q (F0 m 0 ls [])) : gMi l y cc nL (some rty) rm As D wf tys σ post := by
  intro sz
  refine Met.ofW (cc := cc) (maxL := nL) (ret := some rty) hy rfl ?_
  intro p e s m args below meth c s₁ B hml hv
  obtain ⟨rfl, hsz, hP, hK, hD0⟩ := hv
  have hts := atoms_spec (ws := ws_ y cc nL (some rty)) B.pre
  have hts : ∀ w ∈ lw_all, w.before _ s = true := fun w h => hts w (List.mem_cons_of_mem _ h)
  have hown : s.vm.findClass y.cls = some m.cls := findClass_of_methodNamed B.named
  have hlk := B.notSynchronized
  subst hsz
  have hD := hD0.self (sz := s.heap.size)
  rw [lg_entry_eq]
  refine body p e s m _ below meth c _ s.heap _ ⟨B.exec, B.bytes, hml, hown, hts, hK⟩ ?_ _ [] _ ⟨hP, hD, va_S.rf, fun q h => Or.inr h⟩ (lv_entry As hn)
  intro v σ' H locs pc ls X hp hv hdg
  exact W.zret B.exec B.bytes B.returns hv (fun t ht hW => ⟨⟨v, σ', rfl, hp, by rw [ht]; exact X.1, va_K.moved hW.alike hK, X.2.1⟩, X.2.2.1.F ht⟩) X.2.2.1.2.2 hdg hlk
theorem gMv_of {y : MethodName} {rm : Room} {As : List Value} {post : gS → Prop} (hy : plainName y.cls = true) (hn : (lg_sl As).length ≤ nL)
    (body : ∀ (p : Program) (e : Env) (s : State) (m : MethodId) (args : Array Value) (below : List Frame) (meth : Method) (c : Code) (A : Nat → Prop) (H0 : Heap) (Q : State → Prop), gC y.cls nL tys p s m args c cc D →
      (∀ (σ' : gS) (H : Heap) (locs : List Loc) (pc : Nat) (ls : Array Slot), gH D A H0 wf σ' H locs → post σ' → decode cc pc = .ok (.return_, 1) → W p l e rm s m args below meth c H locs 0 0 Q (F0 m pc ls [])) →
      ∀ (H : Heap) (locs : List Loc) (ls : Array Slot), gH D A H0 wf σ H locs → lv_has ls nL (lv_args 0 As) → W p l e rm s m args below meth c H locs 0 0 Q (F0 m 0 ls [])) : gMv l y cc nL rm As D wf tys σ post := by
  intro sz
  refine Met.ofW (cc := cc) (maxL := nL) (ret := none) hy rfl ?_
  intro p e s m args below meth c s₁ B hml hv
  obtain ⟨rfl, hsz, hP, hK, hD0⟩ := hv
  have hts := atoms_spec (ws := ws_ y cc nL none) B.pre
  have hts : ∀ w ∈ lw_all, w.before _ s = true := fun w h => hts w (List.mem_cons_of_mem _ h)
  have hown : s.vm.findClass y.cls = some m.cls := findClass_of_methodNamed B.named
  have hlk := B.notSynchronized
  subst hsz
  have hD := hD0.self (sz := s.heap.size)
  rw [lg_entry_eq]
  refine body p e s m _ below meth c _ s.heap _ ⟨B.exec, B.bytes, hml, hown, hts, hK⟩ ?_ _ [] _ ⟨hP, hD, va_S.rf, fun q h => Or.inr h⟩ (lv_entry As hn)
  intro σ' H locs pc ls X hp hdg
  exact W.vret B.exec B.bytes B.returns (fun t ht hW => ⟨⟨σ', rfl, hp, by rw [ht]; exact X.1, va_K.moved hW.alike hK, X.2.1⟩, X.2.2.1.F ht⟩) X.2.2.1.2.2 hdg hlk
/-! calls on the same world -/
theorem gH_free (X : gH D A H0 wf σ H locs) : ∀ q, va_A (wf σ) H.size q → A q := by
  intro q h
  rcases h with ⟨k, e, h⟩ | h
  · exact X.2.1.2 k _ h
  · exact X.2.2.2 q (Nat.le_trans X.2.2.1.1 h)
theorem g_calli (G : gC own nL tys p s m args c cc D) (X : gH D A H0 wf σ H locs) {y : MethodName} {bytes : ByteArray} {maxL idx n : Nat} {ret : Option FieldType} {rm : Room} {a : Nat} {As st0 : List Value} {post : Int32 → gS → Prop} {C : String} {q0 ci : Nat} {q : vw_C} {fs : List Value}
    (hM : gMi l y bytes maxL ret rm (.ref a :: As) D wf tys σ post) (hw : GoodIn lw_all (wsV own idx C y (ws_ y bytes maxL ret))) (hd : y.cls = C ∧ y.cls ≠ "java/lang/invoke/MethodHandle" ∧ y.cls ≠ "java/lang/invoke/VarHandle" ∧ (parseMethodDescriptor y.desc).map (fun d => d.parameters.length) = some n)
    (hrm : rm.cells = 0 ∧ rm.slots = 0) (hR : rm.frames + 1 ≤ R.frames ∧ 8 + (maxL + 11) + rm.locals ≤ R.locals) (hn : As.length = n) (he : (wf σ)[q0]? = some (a, .inr (ci, fs))) (hc : vwCl[ci]? = some q) (hqC : q.1 = C) (hsz : ls.size = nL) (hst : st0 = As.reverse ++ .ref a :: rest) (hroom : (rest.map fun v => v.category).sum ≤ 8) (hdg : decode cc pc = .ok (.invokevirtual idx, 3)) (hf : cells ≤ R.cells ∧ slots ≤ R.slots)
    (kk : ∀ (r : Int32) (σ' : gS) (H1 : Heap) (locs1 : List Loc), post r σ' → gH D A H0 wf σ' H1 locs1 → W p l e R s m args below meth c H1 locs1 cells slots Q (F0 m (pc + 3) ls (.int r :: rest))) : W p l e R s m args below meth c H locs cells slots Q (F0 m pc ls st0) := by
  subst hqC
  subst hst
  obtain ⟨hx, hb, hml, hown, hts, hK⟩ := G
  have hFc := gH_free X
  obtain ⟨hP, hD, hS, hA⟩ := X
  refine va_calli (va_runV (As := As) (rest := rest) ⟨hx, hb, hml, hown, hts⟩ (hM H.size) (cwV n hts hw rfl hrm.1 hrm.2 hd hR) ⟨fun a U g mk q => by obtain ⟨q0, q1, qP, qK, qD⟩ := q; exact ⟨q0, q1, qP, va_K.moved (u := U) (U := U.calling g mk a) (Vm.Alike.refl U.vm) qK, qD⟩, va_recv hK hP hc he, fun U hU hW => ⟨rfl, by rw [hU], by rw [hU]; exact hP, va_K.moved hW.alike hK, hD.weaken (fun _ _ _ _ => trivial)⟩⟩ rfl hn hsz rfl (lv_room hroom) hdg hf) hS (fun q _ h => hFc q h) hFc (fun r u t H1 locs1 ht hvm hw1 hB hz1 hk1 hS1 => ?_)
  obtain ⟨hP1, -, hD1⟩ := hB
  rw [ht] at hP1
  exact kk r u H1 locs1 hw1 ⟨hP1, hD1.weaken (fun _ q _ h => hFc q.1 h), hS1, hA⟩
theorem g_callv (G : gC own nL tys p s m args c cc D) (X : gH D A H0 wf σ H locs) {y : MethodName} {bytes : ByteArray} {maxL idx n : Nat} {rm : Room} {a : Nat} {As st0 : List Value} {post : gS → Prop} {C : String} {q0 ci : Nat} {q : vw_C} {fs : List Value}
    (hM : gMv l y bytes maxL rm (.ref a :: As) D wf tys σ post) (hw : GoodIn lw_all (wsV own idx C y (ws_ y bytes maxL none))) (hd : y.cls = C ∧ y.cls ≠ "java/lang/invoke/MethodHandle" ∧ y.cls ≠ "java/lang/invoke/VarHandle" ∧ (parseMethodDescriptor y.desc).map (fun d => d.parameters.length) = some n)
    (hrm : rm.cells = 0 ∧ rm.slots = 0) (hR : rm.frames + 1 ≤ R.frames ∧ 8 + (maxL + 11) + rm.locals ≤ R.locals) (hn : As.length = n) (he : (wf σ)[q0]? = some (a, .inr (ci, fs))) (hc : vwCl[ci]? = some q) (hqC : q.1 = C) (hsz : ls.size = nL) (hst : st0 = As.reverse ++ .ref a :: rest) (hroom : (rest.map fun v => v.category).sum ≤ 8) (hdg : decode cc pc = .ok (.invokevirtual idx, 3)) (hf : cells ≤ R.cells ∧ slots ≤ R.slots)
    (kk : ∀ (σ' : gS) (H1 : Heap) (locs1 : List Loc), post σ' → gH D A H0 wf σ' H1 locs1 → W p l e R s m args below meth c H1 locs1 cells slots Q (F0 m (pc + 3) ls rest)) : W p l e R s m args below meth c H locs cells slots Q (F0 m pc ls st0) := by
  subst hqC
  subst hst
  obtain ⟨hx, hb, hml, hown, hts, hK⟩ := G
  have hFc := gH_free X
  obtain ⟨hP, hD, hS, hA⟩ := X
  refine va_callv (va_runV (As := As) (rest := rest) ⟨hx, hb, hml, hown, hts⟩ (hM H.size) (cwV n hts hw rfl hrm.1 hrm.2 hd hR) ⟨fun a U g mk q => by obtain ⟨q0, q1, qP, qK, qD⟩ := q; exact ⟨q0, q1, qP, va_K.moved (u := U) (U := U.calling g mk a) (Vm.Alike.refl U.vm) qK, qD⟩, va_recv hK hP hc he, fun U hU hW => ⟨rfl, by rw [hU], by rw [hU]; exact hP, va_K.moved hW.alike hK, hD.weaken (fun _ _ _ _ => trivial)⟩⟩ rfl hn hsz rfl (lv_room hroom) hdg hf) hS (fun q _ h => hFc q h) hFc (fun u t H1 locs1 ht hvm hw1 hB hz1 hk1 hS1 => ?_)
  obtain ⟨hP1, -, hD1⟩ := hB
  rw [ht] at hP1
  exact kk u H1 locs1 hw1 ⟨hP1, hD1.weaken (fun _ q _ h => hFc q.1 h), hS1, hA⟩
/-! a static method that touches no cell -/
def gMs (l : Launch) (y : MethodName) (cc : ByteArray) (nL : Nat) (ret : Option FieldType) (rm : Room) (As : List Value) (post : Int32 → Prop) : Prop :=
  Met l y (ws_ y cc nL ret) rm (va_Pc As (fun _ => True)) (va_Qi (fun (r : Int32) (_ : Unit) => post r) (fun _ _ => True) (fun _ => False)) 0 0 (fun _ => False)
theorem g_calls (G : gC own nL tys p s m args c cc D) (X : gH D A H0 wf σ H locs) {y : MethodName} {bytes : ByteArray} {maxL idx n : Nat} {ret : Option FieldType} {rm : Room} {As st0 : List Value} {post : Int32 → Prop}
    (hM : gMs l y bytes maxL ret rm As post) (hw : GoodIn lw_all (va_wsS own idx y (ws_ y bytes maxL ret))) (hd : y.cls ≠ "java/lang/invoke/MethodHandle" ∧ y.cls ≠ "java/lang/invoke/VarHandle" ∧ (parseMethodDescriptor y.desc).map (fun d => d.parameters.length) = some n)
    (hrm : rm.cells = 0 ∧ rm.slots = 0) (hR : rm.frames + 1 ≤ R.frames ∧ 8 + (maxL + 11) + rm.locals ≤ R.locals) (hn : As.length = n) (hsz : ls.size = nL) (hst : st0 = As.reverse ++ rest) (hroom : (rest.map fun v => v.category).sum ≤ 8) (hdg : decode cc pc = .ok (.invokestatic idx, 3)) (hf : cells ≤ R.cells ∧ slots ≤ R.slots)
    (kk : ∀ (r : Int32) (H1 : Heap) (locs1 : List Loc), post r → gH D A H0 wf σ H1 locs1 → W p l e R s m args below meth c H1 locs1 cells slots Q (F0 m (pc + 3) ls (.int r :: rest))) : W p l e R s m args below meth c H locs cells slots Q (F0 m pc ls st0) := by
  subst hst
  obtain ⟨hx, hb, hml, hown, hts, hK⟩ := G
  obtain ⟨hP, hD, hS, hA⟩ := X
  refine va_calli (va_runS (As := As) (rest := rest) ⟨hx, hb, hml, hown, hts⟩ hM (va_cwS n hts hw rfl hrm.1 hrm.2 hd hR) ⟨fun a U g mk q => q, fun U hU hW => ⟨rfl, trivial⟩⟩ rfl hn hsz rfl (lv_room hroom) hdg hf) hS (fun q _ h => h.elim) (fun q h => h.elim) (fun r u t H1 locs1 ht hvm hw1 hB hz1 hk1 hS1 => ?_)
  exact kk r H1 locs1 hw1 ⟨hP.kept (fun k q hq => hk1 q.1 ((hP k q hq).lt) (fun h => h)), hD, hS1, hA⟩
end GR
end
section
/-! pasted: bits by place (BITS), counts (COUNTS) -/
/-! ===== Int32 by its bits: bt x i ===== -/
def bt (x : Int32) (i : Nat) : Bool := x.toBitVec.getLsbD i
theorem b_ext {x y : Int32} (h : ∀ i, i < 32 → bt x i = bt y i) : x = y := Int32.toBitVec_inj.mp (BitVec.eq_of_getLsbD_eq (fun i hi => h i hi))
theorem b_or (x y : Int32) (i : Nat) : bt (x ||| y) i = (bt x i || bt y i) := by unfold bt; rw [Int32.toBitVec_or, BitVec.getLsbD_or]
theorem b_and (x y : Int32) (i : Nat) : bt (x &&& y) i = (bt x i && bt y i) := by unfold bt; rw [Int32.toBitVec_and, BitVec.getLsbD_and]
theorem b_xor (x y : Int32) (i : Nat) : bt (x ^^^ y) i = (bt x i ^^ bt y i) := by unfold bt; rw [Int32.toBitVec_xor, BitVec.getLsbD_xor]
theorem b_big {x : Int32} {i : Nat} (h : 32 ≤ i) : bt x i = false := BitVec.getLsbD_of_ge _ _ h
theorem b_255 (i : Nat) : bt 255 i = decide (i < 8) := by
  rcases Nat.lt_or_ge i 32 with h | h
  · exact (by decide +kernel : ∀ i, i < 32 → bt 255 i = decide (i < 8)) i h
  · rw [b_big h, decide_eq_false (by omega)]
theorem b_65535 (i : Nat) : bt 65535 i = decide (i < 16) := by
  rcases Nat.lt_or_ge i 32 with h | h
  · exact (by decide +kernel : ∀ i, i < 32 → bt 65535 i = decide (i < 16)) i h
  · rw [b_big h, decide_eq_false (by omega)]
theorem b_m1 : ∀ i, i < 32 → bt (-1) i = true := by decide +kernel
theorem b_0 (i : Nat) : bt 0 i = false := BitVec.getLsbD_zero
theorem s_l : ∀ n, n < 32 → ((nI n &&& 31).toBitVec.smod 32).toNat = n := by decide +kernel
theorem s_u : ∀ n, n < 32 → (((nI n).toUInt32 &&& Int32.toUInt32 31).toBitVec % 32).toNat = n := by decide +kernel
theorem b_shl (n : Nat) (hn : n < 32) (x : Int32) {i : Nat} (hi : i < 32) : bt (x <<< (nI n &&& 31)) i = (decide (n ≤ i) && bt x (i - n)) := by
  unfold bt
  rw [Int32.toBitVec_shiftLeft]
  show (x.toBitVec <<< ((nI n &&& 31).toBitVec.smod 32).toNat).getLsbD i = _
  rw [s_l n hn, BitVec.getLsbD_shiftLeft]
  rcases Nat.lt_or_ge i n with h | h
  · simp [h, Nat.not_le.mpr h]
  · simp [hi, h, Nat.not_lt.mpr h]
theorem b_ushr (n : Nat) (hn : n < 32) (x : Int32) (i : Nat) : bt ((x.toUInt32 >>> ((nI n).toUInt32 &&& Int32.toUInt32 31)).toInt32) i = bt x (n + i) := by
  show (x.toUInt32 >>> ((nI n).toUInt32 &&& Int32.toUInt32 31)).toBitVec.getLsbD i = x.toUInt32.toBitVec.getLsbD (n + i)
  rw [UInt32.toBitVec_shiftRight]
  show (x.toUInt32.toBitVec >>> (((nI n).toUInt32 &&& Int32.toUInt32 31).toBitVec % 32).toNat).getLsbD i = _
  rw [s_u n hn, BitVec.getLsbD_ushiftRight]
theorem b_sshr (n : Nat) (hn : n < 32) (x : Int32) {i : Nat} (hi : i < 32) : bt (x >>> (nI n &&& 31)) i = if n + i < 32 then bt x (n + i) else bt x 31 := by
  unfold bt
  rw [Int32.toBitVec_shiftRight]
  show (x.toBitVec.sshiftRight ((nI n &&& 31).toBitVec.smod 32).toNat).getLsbD i = _
  rw [s_l n hn, BitVec.getLsbD_sshiftRight, BitVec.msb_eq_getLsbD_last]
  simp [hi]
theorem b_shl8 (x : Int32) {i : Nat} (hi : i < 32) : bt (x <<< ((8 : Int32) &&& 31)) i = (decide (8 ≤ i) && bt x (i - 8)) := b_shl 8 (by omega) x hi
theorem b_shl16 (x : Int32) {i : Nat} (hi : i < 32) : bt (x <<< ((16 : Int32) &&& 31)) i = (decide (16 ≤ i) && bt x (i - 16)) := b_shl 16 (by omega) x hi
theorem b_shl24 (x : Int32) {i : Nat} (hi : i < 32) : bt (x <<< ((24 : Int32) &&& 31)) i = (decide (24 ≤ i) && bt x (i - 24)) := b_shl 24 (by omega) x hi
theorem b_sshr8 (x : Int32) {i : Nat} (hi : i < 32) : bt (x >>> ((8 : Int32) &&& 31)) i = if 8 + i < 32 then bt x (8 + i) else bt x 31 := b_sshr 8 (by omega) x hi
/-! ===== how many places have a property ===== -/
def fb_ct (p : Nat → Bool) : Nat → Nat
  | 0 => 0
  | n + 1 => fb_ct p n + (if p n then 1 else 0)
theorem fb_ct_succ (p : Nat → Bool) (n : Nat) : fb_ct p (n + 1) = fb_ct p n + (if p n then 1 else 0) := rfl
theorem fb_ct_le (p : Nat → Bool) : ∀ n, fb_ct p n ≤ n
  | 0 => Nat.le_refl _
  | n + 1 => by
    have h := fb_ct_le p n
    rw [fb_ct_succ]
    split <;> omega
theorem fb_ct_cong {p q : Nat → Bool} : ∀ {n : Nat}, (∀ k, k < n → p k = q k) → fb_ct p n = fb_ct q n
  | 0, _ => rfl
  | n + 1, h => by
    rw [fb_ct_succ, fb_ct_succ, fb_ct_cong (fun k hk => h k (by omega)), h n (by omega)]
theorem bt_1 : ∀ i, i < 32 → bt (nI 1) i = decide (i = 0) := by decide +kernel
/-- one bit, as the program reads it -/
theorem bt_get (n : Nat) (hn : n < 32) (x : Int32) : (x >>> (nI n &&& 31)) &&& nI 1 = if bt x n = true then nI 1 else nI 0 := by
  apply b_ext
  intro i hi
  rw [b_and, bt_1 i hi, b_sshr n hn x hi]
  by_cases h0 : i = 0
  · subst h0
    rw [if_pos (by omega : n + 0 < 32)]
    cases hb : bt x n
    · simp [hb]; decide
    · simp [hb]; decide
  · have e : bt (if bt x n = true then nI 1 else nI 0) i = false := by
      cases hb : bt x n
      · simp only [Bool.false_eq_true, if_false]; exact b_0 i
      · simp only [if_true]; rw [bt_1 i hi]; simp [h0]
    rw [e]
    simp [h0]
theorem bt_get0 {n : Nat} (hn : n < 32) {x : Int32} : (x >>> (nI n &&& 31)) &&& nI 1 = 0 ↔ bt x n = false := by
  rw [bt_get n hn x]
  cases hb : bt x n
  · simp; rfl
  · simp; decide
theorem bt_get1 {n : Nat} (hn : n < 32) {x : Int32} : (x >>> (nI n &&& 31)) &&& nI 1 = nI 1 ↔ bt x n = true := by
  rw [bt_get n hn x]
  cases hb : bt x n
  · simp; decide
  · simp
/-- one bit set -/
theorem bt_set (n : Nat) (hn : n < 32) (x : Int32) {i : Nat} (hi : i < 32) : bt (x ||| (nI 1 <<< (nI n &&& 31))) i = (bt x i || decide (i = n)) := by
  rw [b_or, b_shl n hn _ hi]
  by_cases h : i = n
  · subst h
    rw [Nat.sub_self, bt_1 0 (by omega)]
    simp
  · by_cases h2 : n ≤ i
    · rw [bt_1 (i - n) (by omega)]
      have : i - n ≠ 0 := by omega
      simp [h, this]
    · simp [h, h2]
theorem bt_not (x : Int32) {i : Nat} (hi : i < 32) : bt (x ^^^ (-1)) i = !bt x i := by
  rw [b_xor, b_m1 i hi]
  simp
theorem bt_all {i : Nat} (hi : i < 16) : bt 65535 i = true := by rw [b_65535]; simp [hi]
end
section
/-! THE PLAIN SIDE: one value M for both programs: the disk, how many backups a chain has, the blocks of backup k of chain c whole. What each call answers (a_..) and makes of M (s_..) -/
abbrev MS : Type := (Nat → Int32) × (Nat → Nat) × (Nat → Nat → Nat → Int32)
abbrev cn (x : Int32) : Nat := x.toNatClampNeg
def updN (f : Nat → Nat) (k x : Nat) : Nat → Nat := fun j => if j = k then x else f j
abbrev bad_ (c : Int32) : Prop := c < 0 ∨ 1 < c
abbrev nob_ (M : MS) (c k : Int32) : Prop := k < 0 ∨ nI (M.2.1 (cn c)) ≤ k
abbrev out_ (b : Int32) : Prop := b < 0 ∨ 16 ≤ b
def kcl (n : Int32) : Int32 := if n < 0 then 0 else n
abbrev cpo_ (f t n : Int32) : Prop := out_ f ∨ out_ t ∨ 16 - f < kcl n ∨ 16 - t < kcl n
def ct_ (f g : Nat → Int32) : Nat := fb_ct (fun b => !(f b == g b)) 16
def a_write (b : Int32) : Int32 := if out_ b then -2 else 0
def s_write (M : MS) (b v : Int32) : MS := if out_ b then M else (upd M.1 (cn b) v, M.2)
def a_copy (f t n : Int32) : Int32 := if cpo_ f t n then -2 else kcl n
def s_copy (M : MS) (f t n : Int32) : MS := if cpo_ f t n then M else (fun j => if cn t ≤ j ∧ j < cn t + cn (kcl n) then M.1 (cn f + (j - cn t)) else M.1 j, M.2)
def a_backup (M : MS) (c : Int32) : Int32 := if bad_ c then -1 else if 6 ≤ M.2.1 (cn c) then -3 else nI (M.2.1 (cn c))
def s_backup0 (M : MS) (c : Nat) : MS := (M.1, updN M.2.1 c (M.2.1 c + 1), fun c' k b => if c' = c ∧ k = M.2.1 c then M.1 b else M.2.2 c' k b)
def s_backup (M : MS) (c : Int32) : MS := if bad_ c then M else if 6 ≤ M.2.1 (cn c) then M else s_backup0 M (cn c)
def a_restore (M : MS) (c k : Int32) : Int32 := if bad_ c then -1 else if nob_ M c k then -4 else nI (ct_ M.1 (M.2.2 (cn c) (cn k)))
def s_restore (M : MS) (c k : Int32) : MS := if bad_ c then M else if nob_ M c k then M else (M.2.2 (cn c) (cn k), M.2)
def a_drop (M : MS) (c k : Int32) : Int32 := if bad_ c then -1 else if nob_ M c k then -4 else nI (M.2.1 (cn c) - 1)
def s_drop0 (M : MS) (c k : Nat) : MS := (M.1, updN M.2.1 c (M.2.1 c - 1), fun c' i b => if c' = c ∧ k ≤ i then M.2.2 c' (i + 1) b else M.2.2 c' i b)
def s_drop (M : MS) (c k : Int32) : MS := if bad_ c then M else if nob_ M c k then M else s_drop0 M (cn c) (cn k)
def a_read (M : MS) (b : Int32) : Int32 := if out_ b then 0 else M.1 (cn b)
def a_readB (M : MS) (c k b : Int32) : Int32 := if bad_ c ∨ nob_ M c k ∨ out_ b then 0 else M.2.2 (cn c) (cn k) (cn b)
def a_backups (M : MS) (c : Int32) : Int32 := if bad_ c then -1 else nI (M.2.1 (cn c))
def a_changed (M : MS) (c : Int32) : Int32 := if bad_ c then -1 else if M.2.1 (cn c) = 0 then -4 else nI (ct_ M.1 (M.2.2 (cn c) (M.2.1 (cn c) - 1)))
def a_differ (M : MS) (c j k : Int32) : Int32 := if bad_ c then -1 else if nob_ M c j ∨ nob_ M c k then -4 else nI (ct_ (M.2.2 (cn c) (cn j)) (M.2.2 (cn c) (cn k)))
/-- the reference's arrays hold M -/
def RelM (τ : gS) (M : MS) : Prop :=
  (∀ b, b < 16 → τ 0 b = M.1 b) ∧ (∀ c, c < 2 → M.2.1 c ≤ 6 ∧ τ 2 c = nI (M.2.1 c)) ∧ ∀ c, c < 2 → ∀ k, k < M.2.1 c → ∀ b, b < 16 → τ 3 ((c * 6 + k) * 16 + b) = M.2.2 c k b
/-- the component's arrays stand for M: 0 disk, 2 dirty, 3 trusted, 4 savedDirty, 7 clean, 8 images, 9 has, 10 content -/
def RelX (σ : gS) (M : MS) : Prop :=
  (∀ b, b < 16 → σ 0 b = M.1 b) ∧ (∀ c, c < 2 → M.2.1 c ≤ 6 ∧ σ 8 c = nI (M.2.1 c)) ∧
  (∀ c, c < 2 → ∀ k, k < M.2.1 c → ∀ b, b < 16 → (bt (σ 9 (c * 6 + k)) b = true → σ 10 ((c * 6 + k) * 16 + b) = M.2.2 c k b) ∧ (bt (σ 9 (c * 6 + k)) b = false → 0 < k ∧ M.2.2 c k b = M.2.2 c (k - 1) b)) ∧
  (∀ c, c < 2 → σ 3 c ≠ 0 → 0 < M.2.1 c → ∀ b, b < 16 → bt (σ 2 c) b = false → M.1 b = M.2.2 c (M.2.1 c - 1) b) ∧
  (σ 7 0 ≠ 0 → ∀ c, c < 2 → σ 3 c ≠ 0 → ∀ b, b < 16 → bt (σ 4 c) b = bt (σ 2 c) b)
def M0 : MS := (fun _ => 0, fun _ => 0, fun _ _ _ => 0)
theorem RelM_0 : RelM (fun _ _ => 0) M0 := ⟨fun _ _ => rfl, fun _ _ => ⟨Nat.zero_le _, nI_0.symm⟩, fun _ _ k hk => absurd hk (Nat.not_lt_zero k)⟩
theorem RelX_0 : RelX (fun _ _ => 0) M0 := ⟨fun _ _ => rfl, fun _ _ => ⟨Nat.zero_le _, nI_0.symm⟩, fun _ _ k hk => absurd hk (Nat.not_lt_zero k), fun _ _ h => absurd rfl h, fun h => absurd rfl h⟩
/-! the cases of the arguments -/
theorem cs_chain (c : Int32) : bad_ c ∨ ∃ j, j < 2 ∧ c = nI j := by
  rcases pk_ix c (n := 2) (by decide) with h | h | h
  · exact Or.inl (Or.inl h)
  · left; right
    rw [Int32.lt_iff_toInt_lt]
    rw [Int32.le_iff_toInt_le] at h
    have e1 : (1 : Int32).toInt = 1 := by decide
    have e2 : (nI 2).toInt = 2 := by decide
    omega
  · exact Or.inr h
theorem cs_block (b : Int32) : out_ b ∨ ∃ j, j < 16 ∧ b = nI j := by
  rcases pk_ix b (n := 16) (by decide) with h | h | h
  · exact Or.inl (Or.inl h)
  · exact Or.inl (Or.inr h)
  · exact Or.inr h
theorem cs_back (M : MS) {c : Nat} (hc : c < 2) (h6 : M.2.1 c ≤ 6) (k : Int32) : nob_ M (nI c) k ∨ ∃ j, j < M.2.1 c ∧ k = nI j := by
  have e : cn (nI c) = c := nI_clamp (by omega)
  rcases pk_ix k (n := M.2.1 c) (by omega) with h | h | h
  · exact Or.inl (Or.inl h)
  · exact Or.inl (Or.inr (by rw [e]; exact h))
  · exact Or.inr h
theorem ok_chain {c : Nat} (h : c < 2) : ¬ bad_ (nI c) := by
  have : c = 0 ∨ c = 1 := by omega
  rcases this with rfl | rfl <;> decide
theorem ok_block : ∀ b, b < 16 → ¬ out_ (nI b) := by decide +kernel
theorem ok_back {M : MS} {c k : Nat} (hc : c < 2) (h6 : M.2.1 c ≤ 6) (hk : k < M.2.1 c) : ¬ nob_ M (nI c) (nI k) := by
  have e : cn (nI c) = c := nI_clamp (by omega)
  rintro (h | h)
  · exact nI_pos (by omega) h
  · rw [e] at h
    exact nI_ge hk (by omega) h
theorem cn_nI {n : Nat} (h : n < 256) : cn (nI n) = n := nI_clamp (by omega)
abbrev rmA : Room := { frames := 0, cells := 0, slots := 0, locals := 0 }
abbrev rmB : Room := { frames := 1, cells := 0, slots := 0, locals := 24 }
abbrev rmC : Room := { frames := 2, cells := 0, slots := 0, locals := 60 }
theorem bk_of {M : MS} {c : Nat} {k : Int32} (hc : c < 2) (h6 : M.2.1 c ≤ 6) (h1 : ¬ k < 0) (h2 : k < nI (M.2.1 c)) : ∃ j, j < M.2.1 c ∧ k = nI j := by
  obtain ⟨j, hj, rfl⟩ := nI_of h1
  exact ⟨j, (nI_ltI hj (by omega)).mp h2, rfl⟩
theorem nob_of {M : MS} {c : Nat} {k : Int32} (hc : c < 2) (h6 : M.2.1 c ≤ 6) (h2 : ¬ k < nI (M.2.1 c)) : nob_ M (nI c) k := by
  right
  rw [cn_nI (by omega)]
  rw [Int32.lt_iff_toInt_lt] at h2
  rw [Int32.le_iff_toInt_le]
  omega
theorem blk_of {b : Int32} (h1 : ¬ b < 0) (h2 : b < nI 16) : ∃ j, j < 16 ∧ b = nI j := by
  obtain ⟨j, hj, rfl⟩ := nI_of h1
  exact ⟨j, (nI_ltI hj (by omega)).mp h2, rfl⟩
theorem blk_of15 {b : Int32} (h1 : ¬ b < 0) (h2 : b ≤ nI 15) : ∃ j, j < 16 ∧ b = nI j := by
  obtain ⟨j, hj, rfl⟩ := nI_of h1
  have := (nI_leI hj (by omega)).mp h2
  exact ⟨j, by omega, rfl⟩
theorem out_of {b : Int32} (h : ¬ b < nI 16) : out_ b := by
  right
  show nI 16 ≤ b
  rw [Int32.lt_iff_toInt_lt] at h
  rw [Int32.le_iff_toInt_le]
  omega
theorem out_of15 {b : Int32} (h : ¬ b ≤ nI 15) : out_ b := by
  right
  show nI 16 ≤ b
  rw [Int32.le_iff_toInt_le] at h ⊢
  have e1 : (nI 15).toInt = 15 := by decide
  have e2 : (nI 16).toInt = 16 := by decide
  omega
theorem chain_of {c : Int32} (h1 : ¬ c < 0) (h2 : c ≤ nI 1) : ∃ j, j < 2 ∧ c = nI j := by
  obtain ⟨j, hj, rfl⟩ := nI_of h1
  have := (nI_leI hj (by omega)).mp h2
  exact ⟨j, by omega, rfl⟩
theorem bad_of {c : Int32} (h : ¬ c ≤ nI 1) : bad_ c := by
  right
  show nI 1 < c
  rw [Int32.le_iff_toInt_le] at h
  rw [Int32.lt_iff_toInt_lt]
  omega
/-! the answers, by the cases -/
theorem a_write_out {b : Int32} (h : out_ b) : a_write b = -2 := if_pos h
theorem s_write_out {M : MS} {b v : Int32} (h : out_ b) : s_write M b v = M := if_pos h
theorem a_write_in {b : Nat} (h : b < 16) : a_write (nI b) = nI 0 := if_neg (ok_block b h)
theorem s_write_in {M : MS} {b : Nat} {v : Int32} (h : b < 16) : s_write M (nI b) v = (upd M.1 b v, M.2) := by
  unfold s_write
  rw [if_neg (ok_block b h), cn_nI (by omega)]
theorem a_backup_bad {M : MS} {c : Int32} (h : bad_ c) : a_backup M c = -1 := if_pos h
theorem s_backup_bad {M : MS} {c : Int32} (h : bad_ c) : s_backup M c = M := if_pos h
theorem a_backup_full {M : MS} {c : Nat} (hc : c < 2) (h : 6 ≤ M.2.1 c) : a_backup M (nI c) = -3 := by
  unfold a_backup
  rw [if_neg (ok_chain hc), cn_nI (by omega), if_pos h]
theorem s_backup_full {M : MS} {c : Nat} (hc : c < 2) (h : 6 ≤ M.2.1 c) : s_backup M (nI c) = M := by
  unfold s_backup
  rw [if_neg (ok_chain hc), cn_nI (by omega), if_pos h]
theorem a_backup_ok {M : MS} {c : Nat} (hc : c < 2) (h : M.2.1 c < 6) : a_backup M (nI c) = nI (M.2.1 c) := by
  unfold a_backup
  rw [if_neg (ok_chain hc), cn_nI (by omega), if_neg (by omega)]
theorem s_backup_ok {M : MS} {c : Nat} (hc : c < 2) (h : M.2.1 c < 6) : s_backup M (nI c) = s_backup0 M c := by
  unfold s_backup
  rw [if_neg (ok_chain hc), cn_nI (by omega), if_neg (by omega)]
theorem a_restore_bad {M : MS} {c k : Int32} (h : bad_ c) : a_restore M c k = -1 := if_pos h
theorem s_restore_bad {M : MS} {c k : Int32} (h : bad_ c) : s_restore M c k = M := if_pos h
theorem a_restore_nob {M : MS} {c : Nat} {k : Int32} (hc : c < 2) (h : nob_ M (nI c) k) : a_restore M (nI c) k = -4 := by
  unfold a_restore
  rw [if_neg (ok_chain hc), if_pos h]
theorem s_restore_nob {M : MS} {c : Nat} {k : Int32} (hc : c < 2) (h : nob_ M (nI c) k) : s_restore M (nI c) k = M := by
  unfold s_restore
  rw [if_neg (ok_chain hc), if_pos h]
theorem a_restore_ok {M : MS} {c k : Nat} (hc : c < 2) (h6 : M.2.1 c ≤ 6) (hk : k < M.2.1 c) : a_restore M (nI c) (nI k) = nI (ct_ M.1 (M.2.2 c k)) := by
  unfold a_restore
  rw [if_neg (ok_chain hc), if_neg (ok_back hc h6 hk), cn_nI (by omega), cn_nI (by omega)]
theorem s_restore_ok {M : MS} {c k : Nat} (hc : c < 2) (h6 : M.2.1 c ≤ 6) (hk : k < M.2.1 c) : s_restore M (nI c) (nI k) = (M.2.2 c k, M.2) := by
  unfold s_restore
  rw [if_neg (ok_chain hc), if_neg (ok_back hc h6 hk), cn_nI (by omega), cn_nI (by omega)]
theorem a_drop_bad {M : MS} {c k : Int32} (h : bad_ c) : a_drop M c k = -1 := if_pos h
theorem s_drop_bad {M : MS} {c k : Int32} (h : bad_ c) : s_drop M c k = M := if_pos h
theorem a_drop_nob {M : MS} {c : Nat} {k : Int32} (hc : c < 2) (h : nob_ M (nI c) k) : a_drop M (nI c) k = -4 := by
  unfold a_drop
  rw [if_neg (ok_chain hc), if_pos h]
theorem s_drop_nob {M : MS} {c : Nat} {k : Int32} (hc : c < 2) (h : nob_ M (nI c) k) : s_drop M (nI c) k = M := by
  unfold s_drop
  rw [if_neg (ok_chain hc), if_pos h]
theorem a_drop_ok {M : MS} {c k : Nat} (hc : c < 2) (h6 : M.2.1 c ≤ 6) (hk : k < M.2.1 c) : a_drop M (nI c) (nI k) = nI (M.2.1 c - 1) := by
  unfold a_drop
  rw [if_neg (ok_chain hc), if_neg (ok_back hc h6 hk), cn_nI (by omega)]
theorem s_drop_ok {M : MS} {c k : Nat} (hc : c < 2) (h6 : M.2.1 c ≤ 6) (hk : k < M.2.1 c) : s_drop M (nI c) (nI k) = s_drop0 M c k := by
  unfold s_drop
  rw [if_neg (ok_chain hc), if_neg (ok_back hc h6 hk), cn_nI (by omega), cn_nI (by omega)]
theorem a_read_out {M : MS} {b : Int32} (h : out_ b) : a_read M b = nI 0 := if_pos h
theorem a_read_in {M : MS} {b : Nat} (h : b < 16) : a_read M (nI b) = M.1 b := by
  unfold a_read
  rw [if_neg (ok_block b h), cn_nI (by omega)]
theorem a_readB_no {M : MS} {c k b : Int32} (h : bad_ c ∨ nob_ M c k ∨ out_ b) : a_readB M c k b = nI 0 := if_pos h
theorem a_readB_ok {M : MS} {c k b : Nat} (hc : c < 2) (h6 : M.2.1 c ≤ 6) (hk : k < M.2.1 c) (hb : b < 16) : a_readB M (nI c) (nI k) (nI b) = M.2.2 c k b := by
  unfold a_readB
  rw [if_neg, cn_nI (by omega), cn_nI (by omega), cn_nI (by omega)]
  rintro (h | h | h)
  · exact ok_chain hc h
  · exact ok_back hc h6 hk h
  · exact ok_block b hb h
theorem a_backups_bad {M : MS} {c : Int32} (h : bad_ c) : a_backups M c = -1 := if_pos h
theorem a_backups_ok {M : MS} {c : Nat} (hc : c < 2) : a_backups M (nI c) = nI (M.2.1 c) := by
  unfold a_backups
  rw [if_neg (ok_chain hc), cn_nI (by omega)]
theorem a_changed_bad {M : MS} {c : Int32} (h : bad_ c) : a_changed M c = -1 := if_pos h
theorem a_changed_0 {M : MS} {c : Nat} (hc : c < 2) (h : M.2.1 c = 0) : a_changed M (nI c) = -4 := by
  unfold a_changed
  rw [if_neg (ok_chain hc), cn_nI (by omega), if_pos h]
theorem a_changed_ok {M : MS} {c : Nat} (hc : c < 2) (h : 0 < M.2.1 c) : a_changed M (nI c) = nI (ct_ M.1 (M.2.2 c (M.2.1 c - 1))) := by
  unfold a_changed
  rw [if_neg (ok_chain hc), cn_nI (by omega), if_neg (by omega)]
theorem a_differ_bad {M : MS} {c j k : Int32} (h : bad_ c) : a_differ M c j k = -1 := if_pos h
theorem a_differ_nob {M : MS} {c : Nat} {j k : Int32} (hc : c < 2) (h : nob_ M (nI c) j ∨ nob_ M (nI c) k) : a_differ M (nI c) j k = -4 := by
  unfold a_differ
  rw [if_neg (ok_chain hc), if_pos h]
theorem a_differ_ok {M : MS} {c j k : Nat} (hc : c < 2) (h6 : M.2.1 c ≤ 6) (hj : j < M.2.1 c) (hk : k < M.2.1 c) : a_differ M (nI c) (nI j) (nI k) = nI (ct_ (M.2.2 c j) (M.2.2 c k)) := by
  unfold a_differ
  rw [if_neg (ok_chain hc), if_neg, cn_nI (by omega), cn_nI (by omega), cn_nI (by omega)]
  rintro (h | h)
  · exact ok_back hc h6 hj h
  · exact ok_back hc h6 hk h
theorem ct_comm (f g : Nat → Int32) : ct_ f g = ct_ g f := fb_ct_cong (fun k _ => by rw [Bool.beq_comm])
/-! copy -/
def dk_ (f : Nat → Int32) (a b i : Nat) : Nat → Int32 := fun j => if b ≤ j ∧ j < b + i then f (a + (j - b)) else f j
theorem dk_0 (f : Nat → Int32) (a b : Nat) : dk_ f a b 0 = f := by
  funext j
  exact if_neg (by omega)
theorem dk_step (f : Nat → Int32) (a b i : Nat) : upd (dk_ f a b i) (b + i) (f (a + i)) = dk_ f a b (i + 1) := by
  funext j
  unfold upd dk_
  by_cases h : j = b + i
  · rw [if_pos h, if_pos (by omega), show j - b = i by omega]
  · rw [if_neg h]
    by_cases h2 : b ≤ j ∧ j < b + i
    · rw [if_pos h2, if_pos (by omega)]
    · rw [if_neg h2, if_neg (by omega)]
theorem kcl_neg {n : Int32} (h : n < 0) : nI 0 = kcl n := (if_pos h).symm
theorem kcl_pos {n : Int32} (h : ¬ n < 0) : n = kcl n := (if_neg h).symm
theorem kcl_of {a : Nat} {n : Int32} (ha : a < 16) (h : ¬ nI 16 - nI a < kcl n) : ∃ k, k ≤ 16 - a ∧ kcl n = nI k := by
  have h0 : ¬ kcl n < 0 := by
    by_cases q : n < 0
    · rw [← kcl_neg q]; decide
    · rw [← kcl_pos q]; exact q
  obtain ⟨k, hk, e⟩ := nI_of h0
  rw [e, pk_sub (by omega)] at h
  refine ⟨k, ?_, e⟩
  rcases Nat.lt_or_ge (16 - a) k with q | q
  · exact absurd ((nI_ltI (by omega) hk).mpr q) h
  · exact q
theorem a_copy_out {f t n : Int32} (h : cpo_ f t n) : a_copy f t n = -2 := if_pos h
theorem s_copy_out {M : MS} {f t n : Int32} (h : cpo_ f t n) : s_copy M f t n = M := if_pos h
theorem cp_in {a b k : Nat} {n : Int32} (ha : a < 16) (hb : b < 16) (h1 : k ≤ 16 - a) (h2 : k ≤ 16 - b) (e : kcl n = nI k) : ¬ cpo_ (nI a) (nI b) n := by
  rintro (h | h | h | h)
  · exact ok_block a ha h
  · exact ok_block b hb h
  · rw [e, show (16 : Int32) = nI 16 from rfl, pk_sub (by omega), nI_ltI (by omega) (by omega)] at h
    omega
  · rw [e, show (16 : Int32) = nI 16 from rfl, pk_sub (by omega), nI_ltI (by omega) (by omega)] at h
    omega
theorem a_copy_in {a b k : Nat} {n : Int32} (ha : a < 16) (hb : b < 16) (h1 : k ≤ 16 - a) (h2 : k ≤ 16 - b) (e : kcl n = nI k) : a_copy (nI a) (nI b) n = nI k := by
  unfold a_copy
  rw [if_neg (cp_in ha hb h1 h2 e), e]
theorem s_copy_in {M : MS} {a b k : Nat} {n : Int32} (ha : a < 16) (hb : b < 16) (h1 : k ≤ 16 - a) (h2 : k ≤ 16 - b) (e : kcl n = nI k) : s_copy M (nI a) (nI b) n = (dk_ M.1 a b k, M.2) := by
  unfold s_copy dk_
  rw [if_neg (cp_in ha hb h1 h2 e), e, cn_nI (by omega), cn_nI (by omega), cn_nI (by omega)]
/-! restore -/
def rk_ (f g : Nat → Int32) (i : Nat) : Nat → Int32 := fun b => if b < i then g b else f b
theorem rk_0 (f g : Nat → Int32) : rk_ f g 0 = f := by
  funext j
  exact if_neg (by omega)
theorem rk_at (f g : Nat → Int32) (i : Nat) : rk_ f g i i = f i := if_neg (by omega)
theorem rk_set (f g : Nat → Int32) (i : Nat) : upd (rk_ f g i) i (g i) = rk_ f g (i + 1) := by
  funext j
  unfold upd rk_
  by_cases h : j = i
  · rw [if_pos h, if_pos (by omega), h]
  · rw [if_neg h]
    by_cases h2 : j < i
    · rw [if_pos h2, if_pos (by omega)]
    · rw [if_neg h2, if_neg (by omega)]
theorem rk_skip {f g : Nat → Int32} {i : Nat} (h : f i = g i) : rk_ f g i = rk_ f g (i + 1) := by
  funext j
  unfold rk_
  by_cases h2 : j < i
  · rw [if_pos h2, if_pos (by omega)]
  · rw [if_neg h2]
    by_cases h3 : j = i
    · rw [if_pos (by omega), h3, h]
    · rw [if_neg (by omega)]
end
section
/-! the component's world (its object at ad 7, its arrays at ad of their field's number) and the reference's (object at ad 4) -/
def xfs (ad : Nat → Nat) (σ : gS) : List Value := [.ref (ad 0), .ref (ad 1), .ref (ad 2), .ref (ad 3), .ref (ad 4), .ref (ad 5), .ref (ad 6), .int (σ 7 0), .ref (ad 8), .ref (ad 9), .ref (ad 10)]
def xw (ad : Nat → Nat) (d z : ClassId) (σ : gS) : va_W := [(ad 0, .inl (d, 16, .inl (σ 0))), (ad 1, .inl (d, 16, .inl (σ 1))), (ad 2, .inl (d, 2, .inl (σ 2))), (ad 3, .inl (z, 2, .inl (σ 3))), (ad 4, .inl (d, 2, .inl (σ 4))), (ad 5, .inl (d, 2, .inl (σ 5))), (ad 6, .inl (d, 2, .inl (σ 6))), (ad 7, .inr (0, xfs ad σ)), (ad 8, .inl (d, 2, .inl (σ 8))), (ad 9, .inl (d, 12, .inl (σ 9))), (ad 10, .inl (d, 192, .inl (σ 10)))]
abbrev xt (d z : ClassId) : List (ClassId × FieldType) := [(d, .int), (z, .boolean)]
def mfs (ad : Nat → Nat) : List Value := [.ref (ad 0), .ref (ad 1), .ref (ad 2), .ref (ad 3)]
def mw (ad : Nat → Nat) (d : ClassId) (σ : gS) : va_W := [(ad 0, .inl (d, 16, .inl (σ 0))), (ad 1, .inl (d, 16, .inl (σ 1))), (ad 2, .inl (d, 2, .inl (σ 2))), (ad 3, .inl (d, 192, .inl (σ 3))), (ad 4, .inr (1, mfs ad))]
abbrev mt (d : ClassId) : List (ClassId × FieldType) := [(d, .int)]
section WO
variable {ad : Nat → Nat} {d z : ClassId}
theorem xk0 : gk (xw ad d z) (xt d z) 0 16 (ad 0) .int := ⟨d, fun _ => rfl, fun _ _ => rfl, ⟨0, rfl⟩, by decide⟩
theorem xk1 : gk (xw ad d z) (xt d z) 1 16 (ad 1) .int := ⟨d, fun _ => rfl, fun _ _ => rfl, ⟨0, rfl⟩, by decide⟩
theorem xk2 : gk (xw ad d z) (xt d z) 2 2 (ad 2) .int := ⟨d, fun _ => rfl, fun _ _ => rfl, ⟨0, rfl⟩, by decide⟩
theorem xk3 : gk (xw ad d z) (xt d z) 3 2 (ad 3) .boolean := ⟨z, fun _ => rfl, fun _ _ => rfl, ⟨1, rfl⟩, by decide⟩
theorem xk4 : gk (xw ad d z) (xt d z) 4 2 (ad 4) .int := ⟨d, fun _ => rfl, fun _ _ => rfl, ⟨0, rfl⟩, by decide⟩
theorem xk5 : gk (xw ad d z) (xt d z) 5 2 (ad 5) .int := ⟨d, fun _ => rfl, fun _ _ => rfl, ⟨0, rfl⟩, by decide⟩
theorem xk6 : gk (xw ad d z) (xt d z) 6 2 (ad 6) .int := ⟨d, fun _ => rfl, fun _ _ => rfl, ⟨0, rfl⟩, by decide⟩
theorem xk8 : gk (xw ad d z) (xt d z) 8 2 (ad 8) .int := ⟨d, fun _ => rfl, fun _ _ => rfl, ⟨0, rfl⟩, by decide⟩
theorem xk9 : gk (xw ad d z) (xt d z) 9 12 (ad 9) .int := ⟨d, fun _ => rfl, fun _ _ => rfl, ⟨0, rfl⟩, by decide⟩
theorem xk10 : gk (xw ad d z) (xt d z) 10 192 (ad 10) .int := ⟨d, fun _ => rfl, fun _ _ => rfl, ⟨0, rfl⟩, by decide⟩
theorem mk0 : gk (mw ad d) (mt d) 0 16 (ad 0) .int := ⟨d, fun _ => rfl, fun _ _ => rfl, ⟨0, rfl⟩, by decide⟩
theorem mk1 : gk (mw ad d) (mt d) 1 16 (ad 1) .int := ⟨d, fun _ => rfl, fun _ _ => rfl, ⟨0, rfl⟩, by decide⟩
theorem mk2 : gk (mw ad d) (mt d) 2 2 (ad 2) .int := ⟨d, fun _ => rfl, fun _ _ => rfl, ⟨0, rfl⟩, by decide⟩
theorem mk3 : gk (mw ad d) (mt d) 3 192 (ad 3) .int := ⟨d, fun _ => rfl, fun _ _ => rfl, ⟨0, rfl⟩, by decide⟩
variable {p : Program} {l : Launch} {e : Env} {R : Room} {s : State} {m : MethodId} {args : Array Value} {below : List Frame} {meth : Method} {c : Code} {H : Heap} {locs : List Loc} {cells slots : Nat} {Q : State → Prop}
variable {cc : ByteArray} {pc : Nat} {ls : Array Slot} {rest : List Value} {D : va_G} {A : Nat → Prop} {H0 : Heap} {σ : gS} {nL : Nat} {lv : List (Nat × Value)}
/-- aload_0, getfield of the component -/
theorem x_tf (G : gC RX0 nL (xt d z) p s m args c cc D) (X : gH D A H0 (xw ad d z) σ H locs) (hl : lv_has ls nL ((0, .ref (ad 7)) :: lv)) (k : Nat) (hk : k < 11) {idx : Nat} (hq : Cond.fieldLink RX0 idx RX0 (TX0 k).2.1 (TX0 k).2.2.1 ∈ lw_all) (href : (TX0 k).1 = RX0) {v : Value} (hv : (xfs ad σ)[k]? = some v) (h1 : decode cc pc = .ok (.aload_n 0, 1)) (h2 : decode cc (pc + 1) = .ok (.getfield idx, 3))
    (kk : W p l e R s m args below meth c H locs cells slots Q (F0 m (pc + 4) ls (v :: rest))) : W p l e R s m args below meth c H locs cells slots Q (F0 m pc ls rest) := by
  refine lv_aload_n G.1 G.2.1 h1 rfl (lv_at hl 0 rfl) ?_
  exact g_get G X in_X0 7 rfl rfl k hk hq href hv h2 kk
/-- aload_0, getfield of the reference -/
theorem m_tf (G : gC RX1 nL (mt d) p s m args c cc D) (X : gH D A H0 (mw ad d) σ H locs) (hl : lv_has ls nL ((0, .ref (ad 4)) :: lv)) (k : Nat) (hk : k < 4) {idx : Nat} (hq : Cond.fieldLink RX1 idx RX1 (TX1 k).2.1 (TX1 k).2.2.1 ∈ lw_all) (href : (TX1 k).1 = RX1) {v : Value} (hv : (mfs ad)[k]? = some v) (h1 : decode cc pc = .ok (.aload_n 0, 1)) (h2 : decode cc (pc + 1) = .ok (.getfield idx, 3))
    (kk : W p l e R s m args below meth c H locs cells slots Q (F0 m (pc + 4) ls (v :: rest))) : W p l e R s m args below meth c H locs cells slots Q (F0 m pc ls rest) := by
  refine lv_aload_n G.1 G.2.1 h1 rfl (lv_at hl 0 rfl) ?_
  exact g_get G X in_X1 4 rfl rfl k hk hq href hv h2 kk
/-- the flag 'clean' -/
theorem x_put7 (G : gC RX0 nL (xt d z) p s m args c cc D) (X : gH D A H0 (xw ad d z) σ H locs) {x : Int32} (hn : narrow .boolean (.int x) = .int x) (hfit : fits .boolean (.int x) = true) (hdg : decode cc pc = .ok (.putfield 41, 3))
    (kk : ∀ (H1 : Heap) (locs1 : List Loc), gH D A H0 (xw ad d z) (up2 σ 7 (upd (σ 7) 0 x)) H1 locs1 → W p l e R s m args below meth c H1 locs1 cells slots Q (F0 m (pc + 3) ls rest)) : W p l e R s m args below meth c H locs cells slots Q (F0 m pc ls (.int x :: .ref (ad 7) :: rest)) := by
  refine va_put (D := D) (ci := 0) (v := .int x) (ty := .boolean) (C := RX0) (T := TX0) (N := 11) G.1 G.2.1 G.2.2.2.2.1 in_X0 tyX0 tyX0_ok nmX0 G.2.2.2.1 G.2.2.2.2.2 X.1 X.2.1 X.2.2.1 7 rfl rfl 7 (by decide) (G.2.2.2.2.1 _ q27) (fun _ h9 => h9) rfl (by decide +kernel) hn hfit (Nat.le_of_ble_eq_true rfl) hdg (fun H1 locs1 hP hD hS => kk H1 locs1 ⟨hP, hD, hS, X.2.2.2⟩)
end WO
end
section
/-! plain facts on RelX: what each piece of the component's code does to it -/
theorem b01 : (1 : Int32) ≠ 0 := by decide
/-- store(b, v), with i chains seen -/
def RelS (σ0 : gS) (M : MS) (b : Nat) (v : Int32) (i : Nat) (σ : gS) : Prop :=
  (∀ a, a < 16 → σ 0 a = upd M.1 b v a) ∧ (∀ c, c < 2 → M.2.1 c ≤ 6 ∧ σ 8 c = nI (M.2.1 c)) ∧
  (∀ c, c < 2 → ∀ k, k < M.2.1 c → ∀ b, b < 16 → (bt (σ 9 (c * 6 + k)) b = true → σ 10 ((c * 6 + k) * 16 + b) = M.2.2 c k b) ∧ (bt (σ 9 (c * 6 + k)) b = false → 0 < k ∧ M.2.2 c k b = M.2.2 c (k - 1) b)) ∧
  (∀ c, c < 2 → σ 3 c ≠ 0 → 0 < M.2.1 c → ∀ a, a < 16 → bt (σ 2 c) a = false → (a = b ∧ i ≤ c) ∨ upd M.1 b v a = M.2.2 c (M.2.1 c - 1) a) ∧ σ 7 0 = 0 ∧ σ 1 = σ0 1
theorem RelS_init {σ : gS} {M : MS} {b : Nat} {v : Int32} (h : RelX σ M) : RelS σ M b v 0 (up2 (up2 σ 0 (upd (σ 0) b v)) 7 (upd (up2 σ 0 (upd (σ 0) b v) 7) 0 (nI 0))) := by
  obtain ⟨h1, h2, h3, h4, h5⟩ := h
  refine ⟨fun a ha => ?_, h2, h3, fun c hc ht hp a ha hd => ?_, rfl, rfl⟩
  · show upd (σ 0) b v a = upd M.1 b v a
    unfold upd
    split
    · rfl
    · exact h1 a ha
  · by_cases q : a = b
    · exact Or.inl ⟨q, Nat.zero_le _⟩
    · right
      rw [pk_un q]
      exact h4 c hc ht hp a ha hd
theorem RelS_skip {σ0 σ : gS} {M : MS} {b i : Nat} {v : Int32} (h : RelS σ0 M b v i σ) (hb : bt (σ 2 i) b = true) : RelS σ0 M b v (i + 1) σ := by
  obtain ⟨h1, h2, h3, h4, h5⟩ := h
  refine ⟨h1, h2, h3, fun c hc ht hp a ha hd => ?_, h5⟩
  rcases h4 c hc ht hp a ha hd with ⟨e1, e2⟩ | q
  · by_cases e3 : c = i
    · subst e3; subst e1
      rw [hb] at hd; cases hd
    · exact Or.inl ⟨e1, by omega⟩
  · exact Or.inr q
theorem RelS_set {σ0 σ : gS} {M : MS} {b i : Nat} {v : Int32} (g : Nat → Int32) (hb : b < 16) (h : RelS σ0 M b v i σ) : RelS σ0 M b v (i + 1) (up2 (up2 σ 2 (upd (σ 2) i (σ 2 i ||| (nI 1 <<< (nI b &&& 31))))) 6 g) := by
  obtain ⟨h1, h2, h3, h4, h5⟩ := h
  refine ⟨h1, h2, h3, fun c hc ht hp a ha hd => ?_, h5⟩
  have hd : bt (upd (σ 2) i (σ 2 i ||| (nI 1 <<< (nI b &&& 31))) c) a = false := hd
  by_cases e3 : c = i
  · subst e3
    rw [pk_us, bt_set b (by omega) _ (by omega)] at hd
    have hd1 : bt (σ 2 c) a = false := by
      cases q : bt (σ 2 c) a
      · rfl
      · rw [q] at hd; simp at hd
    have hd2 : a ≠ b := by
      intro q; rw [q] at hd; simp at hd
    rcases h4 c hc ht hp a ha hd1 with ⟨e1, -⟩ | q
    · exact absurd e1 hd2
    · exact Or.inr q
  · rw [pk_un e3] at hd
    rcases h4 c hc ht hp a ha hd with ⟨e1, e2⟩ | q
    · exact Or.inl ⟨e1, by omega⟩
    · exact Or.inr q
theorem RelS_end {σ0 σ : gS} {M : MS} {b : Nat} {v : Int32} (h : RelS σ0 M b v 2 σ) : RelX σ (upd M.1 b v, M.2) ∧ σ 1 = σ0 1 := by
  obtain ⟨h1, h2, h3, h4, h5, h6⟩ := h
  refine ⟨⟨h1, h2, h3, fun c hc ht hp a ha hd => ?_, fun q => absurd h5 q⟩, h6⟩
  rcases h4 c hc ht hp a ha hd with ⟨-, e2⟩ | q
  · omega
  · exact q
/-- start(), one chain -/
theorem RelX_untrust {σ : gS} {M : MS} {c0 : Nat} (h : RelX σ M) : RelX (up2 (up2 σ 3 (upd (σ 3) c0 0)) 2 (upd (σ 2) c0 65535)) M := by
  obtain ⟨h1, h2, h3, h4, h5⟩ := h
  refine ⟨h1, h2, h3, fun c hc ht hp a ha hd => ?_, fun q c hc ht a ha => ?_⟩
  · have ht : upd (σ 3) c0 0 c ≠ 0 := ht
    have hd : bt (upd (σ 2) c0 65535 c) a = false := hd
    by_cases e : c = c0
    · rw [e, pk_us] at ht; exact absurd rfl ht
    · rw [pk_un e] at ht hd
      exact h4 c hc ht hp a ha hd
  · have ht : upd (σ 3) c0 0 c ≠ 0 := ht
    show bt (σ 4 c) a = bt (upd (σ 2) c0 65535 c) a
    by_cases e : c = c0
    · rw [e, pk_us] at ht; exact absurd rfl ht
    · rw [pk_un e] at ht ⊢
      exact h5 q c hc ht a ha
theorem RelX_retrust {σ : gS} {M : MS} {c0 : Nat} (h : RelX σ M) (hc0 : c0 < 2) (hcl : σ 7 0 ≠ 0) (ht0 : σ 3 c0 ≠ 0) : RelX (up2 (up2 σ 3 (upd (σ 3) c0 (nI 1))) 2 (upd (σ 2) c0 (σ 4 c0))) M := by
  obtain ⟨h1, h2, h3, h4, h5⟩ := h
  refine ⟨h1, h2, h3, fun c hc ht hp a ha hd => ?_, fun q c hc ht a ha => ?_⟩
  · have ht : upd (σ 3) c0 (nI 1) c ≠ 0 := ht
    have hd : bt (upd (σ 2) c0 (σ 4 c0) c) a = false := hd
    by_cases e : c = c0
    · subst e
      rw [pk_us, h5 hcl c hc ht0 a ha] at hd
      exact h4 c hc ht0 hp a ha hd
    · rw [pk_un e] at ht hd
      exact h4 c hc ht hp a ha hd
  · have ht : upd (σ 3) c0 (nI 1) c ≠ 0 := ht
    show bt (σ 4 c) a = bt (upd (σ 2) c0 (σ 4 c0) c) a
    by_cases e : c = c0
    · subst e
      rw [pk_us]
    · rw [pk_un e] at ht ⊢
      exact h5 q c hc ht a ha
/-- restart(), one chain -/
theorem RelX_save {σ : gS} {M : MS} {c0 : Nat} (g : Nat → Int32) (h : RelX σ M) : RelX (up2 (up2 σ 4 (upd (σ 4) c0 (σ 2 c0))) 5 g) M := by
  obtain ⟨h1, h2, h3, h4, h5⟩ := h
  refine ⟨h1, h2, h3, h4, fun q c hc ht a ha => ?_⟩
  show bt (upd (σ 4) c0 (σ 2 c0) c) a = bt (σ 2 c) a
  by_cases e : c = c0
  · rw [e, pk_us]
  · rw [pk_un e]
    exact h5 q c hc ht a ha
theorem RelX_clean {σ : gS} {M : MS} (h : RelX σ M) (hs : ∀ c, c < 2 → σ 4 c = σ 2 c) : RelX (up2 σ 7 (upd (σ 7) 0 (nI 1))) M := by
  obtain ⟨h1, h2, h3, h4, h5⟩ := h
  refine ⟨h1, h2, h3, h4, fun q c hc ht a ha => ?_⟩
  show bt (σ 4 c) a = bt (σ 2 c) a
  rw [hs c hc]
/-- what RelX doesn't look at -/
theorem RelX_same {σ σ' : gS} {M : MS} (h : RelX σ M) (h0 : σ' 0 = σ 0) (h2 : σ' 2 = σ 2) (h3 : σ' 3 = σ 3) (h4 : σ' 4 = σ 4) (h7 : σ' 7 = σ 7) (h8 : σ' 8 = σ 8) (h9 : σ' 9 = σ 9) (h10 : σ' 10 = σ 10) : RelX σ' M := by
  unfold RelX
  rw [h0, h2, h3, h4, h7, h8, h9, h10]
  exact h
/-- backup(): the new image -/
theorem RelX_backup {σ σ' : gS} {M : MS} {c0 : Nat} {mask : Int32} (h : RelX σ M) (hc0 : c0 < 2) (h6 : M.2.1 c0 < 6)
    (hm : ∀ b, b < 16 → bt mask b = false → σ 3 c0 ≠ 0 ∧ 0 < M.2.1 c0 ∧ bt (σ 2 c0) b = false)
    (e0 : σ' 0 = σ 0) (e2 : σ' 2 = upd (σ 2) c0 0) (e3 : σ' 3 = upd (σ 3) c0 (nI 1)) (e7 : σ' 7 0 = 0) (e8 : σ' 8 = upd (σ 8) c0 (nI (M.2.1 c0 + 1))) (e9 : σ' 9 = upd (σ 9) (c0 * 6 + M.2.1 c0) mask)
    (e10 : ∀ j, (j < (c0 * 6 + M.2.1 c0) * 16 ∨ (c0 * 6 + M.2.1 c0) * 16 + 16 ≤ j) → σ' 10 j = σ 10 j) (e11 : ∀ b, b < 16 → bt mask b = true → σ' 10 ((c0 * 6 + M.2.1 c0) * 16 + b) = σ 0 b) : RelX σ' (s_backup0 M c0) := by
  obtain ⟨h1, h2, h3, h4, h5⟩ := h
  refine ⟨fun b hb => by rw [e0]; exact h1 b hb, fun c hc => ?_, fun c hc k hk b hb => ?_, fun c hc ht hp b hb hd => ?_, fun q => absurd e7 q⟩
  · show updN M.2.1 c0 (M.2.1 c0 + 1) c ≤ 6 ∧ σ' 8 c = nI (updN M.2.1 c0 (M.2.1 c0 + 1) c)
    rw [e8]
    unfold updN upd
    by_cases e : c = c0
    · rw [if_pos e, if_pos e]
      exact ⟨h6, rfl⟩
    · rw [if_neg e, if_neg e]
      exact h2 c hc
  · have hk : k < updN M.2.1 c0 (M.2.1 c0 + 1) c := hk
    show (bt (σ' 9 (c * 6 + k)) b = true → σ' 10 ((c * 6 + k) * 16 + b) = if c = c0 ∧ k = M.2.1 c0 then M.1 b else M.2.2 c k b) ∧ (bt (σ' 9 (c * 6 + k)) b = false → 0 < k ∧ (if c = c0 ∧ k = M.2.1 c0 then M.1 b else M.2.2 c k b) = if c = c0 ∧ k - 1 = M.2.1 c0 then M.1 b else M.2.2 c (k - 1) b)
    rw [e9]
    unfold updN at hk
    have h2c := h2 c hc
    by_cases e : c = c0
    · subst e
      rw [if_pos rfl] at hk
      by_cases e2 : k = M.2.1 c
      · subst e2
        rw [pk_us, if_pos (by omega)]
        refine ⟨fun q => by rw [e11 b hb q]; exact h1 b hb, fun q => ?_⟩
        obtain ⟨q1, q2, q3⟩ := hm b hb q
        refine ⟨q2, ?_⟩
        rw [if_neg (by omega)]
        exact h4 c hc q1 q2 b hb q3
      · rw [pk_un (by omega), if_neg (by omega), if_neg (by omega), e10 _ (by omega)]
        exact h3 c hc k (by omega) b hb
    · rw [if_neg e] at hk
      have hne : c * 6 + k ≠ c0 * 6 + M.2.1 c0 := by omega
      rw [pk_un hne, if_neg (by omega), if_neg (by omega), e10 _ (by omega)]
      exact h3 c hc k hk b hb
  · have ht : σ' 3 c ≠ 0 := ht
    have hp : 0 < updN M.2.1 c0 (M.2.1 c0 + 1) c := hp
    have hd : bt (σ' 2 c) b = false := hd
    show M.1 b = if c = c0 ∧ updN M.2.1 c0 (M.2.1 c0 + 1) c - 1 = M.2.1 c0 then M.1 b else M.2.2 c (updN M.2.1 c0 (M.2.1 c0 + 1) c - 1) b
    rw [e3] at ht
    rw [e2] at hd
    unfold updN at hp ⊢
    by_cases e : c = c0
    · rw [if_pos e, if_pos (by omega)]
    · rw [if_neg e] at hp ⊢
      rw [if_neg (by omega)]
      rw [pk_un e] at ht hd
      exact h4 c hc ht hp b hb hd
/-- takeOut() of an image that isn't the newest: joined with the next one, the later ones moved -/
theorem RelX_drop {σ σ' : gS} {M : MS} {c0 k0 : Nat} (h : RelX σ M) (hc0 : c0 < 2) (hk0 : k0 + 1 < M.2.1 c0)
    (e0 : σ' 0 = σ 0) (e2 : σ' 2 = σ 2) (e3 : σ' 3 = σ 3) (e4 : σ' 4 = σ 4) (e7 : σ' 7 0 = σ 7 0) (e8 : σ' 8 = upd (σ 8) c0 (nI (M.2.1 c0 - 1)))
    (h9 : ∀ j, (j < c0 * 6 + k0 ∨ c0 * 6 + M.2.1 c0 ≤ j) → σ' 9 j = σ 9 j) (h10 : ∀ j, (j < (c0 * 6 + k0) * 16 ∨ (c0 * 6 + M.2.1 c0) * 16 ≤ j) → σ' 10 j = σ 10 j)
    (n9 : ∀ b, b < 16 → bt (σ' 9 (c0 * 6 + k0)) b = (bt (σ 9 (c0 * 6 + k0 + 1)) b || bt (σ 9 (c0 * 6 + k0)) b))
    (n10 : ∀ b, b < 16 → σ' 10 ((c0 * 6 + k0) * 16 + b) = if bt (σ 9 (c0 * 6 + k0 + 1)) b = false ∧ bt (σ 9 (c0 * 6 + k0)) b = true then σ 10 ((c0 * 6 + k0) * 16 + b) else σ 10 ((c0 * 6 + k0 + 1) * 16 + b))
    (m9 : ∀ i, k0 < i → i + 1 < M.2.1 c0 → σ' 9 (c0 * 6 + i) = σ 9 (c0 * 6 + i + 1)) (m10 : ∀ i, k0 < i → i + 1 < M.2.1 c0 → ∀ b, b < 16 → σ' 10 ((c0 * 6 + i) * 16 + b) = σ 10 ((c0 * 6 + i + 1) * 16 + b)) : RelX σ' (s_drop0 M c0 k0) := by
  obtain ⟨h1, h2, h3, h4, h5⟩ := h
  have h6 := (h2 c0 hc0).1
  refine ⟨fun b hb => by rw [e0]; exact h1 b hb, fun c hc => ?_, fun c hc k hk b hb => ?_, fun c hc ht hp b hb hd => ?_, fun q c hc ht b hb => ?_⟩
  · show updN M.2.1 c0 (M.2.1 c0 - 1) c ≤ 6 ∧ σ' 8 c = nI (updN M.2.1 c0 (M.2.1 c0 - 1) c)
    rw [e8]
    unfold updN upd
    by_cases e : c = c0
    · rw [if_pos e, if_pos e]
      exact ⟨by omega, rfl⟩
    · rw [if_neg e, if_neg e]
      exact h2 c hc
  · have hk : k < updN M.2.1 c0 (M.2.1 c0 - 1) c := hk
    show (bt (σ' 9 (c * 6 + k)) b = true → σ' 10 ((c * 6 + k) * 16 + b) = if c = c0 ∧ k0 ≤ k then M.2.2 c (k + 1) b else M.2.2 c k b) ∧ (bt (σ' 9 (c * 6 + k)) b = false → 0 < k ∧ (if c = c0 ∧ k0 ≤ k then M.2.2 c (k + 1) b else M.2.2 c k b) = if c = c0 ∧ k0 ≤ k - 1 then M.2.2 c (k - 1 + 1) b else M.2.2 c (k - 1) b)
    unfold updN at hk
    have h2c := h2 c hc
    by_cases e : c = c0
    · subst e
      rw [if_pos rfl] at hk
      rcases Nat.lt_trichotomy k k0 with q | q | q
      · rw [h9 _ (by omega), h10 _ (by omega), if_neg (by omega), if_neg (by omega)]
        exact h3 c hc k (by omega) b hb
      · subst q
        rw [if_pos (show c = c ∧ k ≤ k from ⟨rfl, Nat.le_refl _⟩), n9 b hb, n10 b hb]
        obtain ⟨a1, a2⟩ := h3 c hc k (by omega) b hb
        obtain ⟨b1, b2⟩ := h3 c hc (k + 1) hk0 b hb
        rw [show c * 6 + (k + 1) = c * 6 + k + 1 by omega] at b1 b2
        rw [Nat.add_sub_cancel] at b2
        constructor
        · intro q
          cases z1 : bt (σ 9 (c * 6 + k + 1)) b
          · cases z2 : bt (σ 9 (c * 6 + k)) b
            · rw [z1, z2] at q; cases q
            · rw [if_pos (by simp), a1 z2, (b2 z1).2]
          · rw [if_neg (by simp)]
            exact b1 z1
        · intro q
          have z1 : bt (σ 9 (c * 6 + k + 1)) b = false := by
            cases z : bt (σ 9 (c * 6 + k + 1)) b
            · rfl
            · rw [z] at q; cases q
          have z2 : bt (σ 9 (c * 6 + k)) b = false := by
            rw [z1] at q; simpa using q
          obtain ⟨c1, c2⟩ := a2 z2
          refine ⟨c1, ?_⟩
          rw [if_neg (by omega), (b2 z1).2, c2]
      · rw [m9 k q (by omega), m10 k q (by omega) b hb, if_pos (by omega), if_pos (by omega)]
        have := h3 c hc (k + 1) (by omega) b hb
        rw [show c * 6 + (k + 1) = c * 6 + k + 1 by omega, Nat.add_sub_cancel] at this
        refine ⟨this.1, fun z => ⟨by omega, ?_⟩⟩
        rw [(this.2 z).2, show k - 1 + 1 = k by omega]
    · rw [if_neg e] at hk
      rw [h9 _ (by omega), h10 _ (by omega), if_neg (by omega), if_neg (by omega)]
      exact h3 c hc k hk b hb
  · have ht : σ' 3 c ≠ 0 := ht
    have hp : 0 < updN M.2.1 c0 (M.2.1 c0 - 1) c := hp
    have hd : bt (σ' 2 c) b = false := hd
    rw [e3] at ht
    rw [e2] at hd
    show M.1 b = if c = c0 ∧ k0 ≤ updN M.2.1 c0 (M.2.1 c0 - 1) c - 1 then M.2.2 c (updN M.2.1 c0 (M.2.1 c0 - 1) c - 1 + 1) b else M.2.2 c (updN M.2.1 c0 (M.2.1 c0 - 1) c - 1) b
    unfold updN at hp ⊢
    by_cases e : c = c0
    · subst e
      rw [if_pos rfl] at hp ⊢
      rw [if_pos (by omega), show M.2.1 c - 1 - 1 + 1 = M.2.1 c - 1 by omega]
      exact h4 c hc ht (by omega) b hb hd
    · rw [if_neg e] at hp ⊢
      rw [if_neg (by omega)]
      exact h4 c hc ht hp b hb hd
  · have ht : σ' 3 c ≠ 0 := ht
    rw [e3] at ht
    rw [e4, e2]
    rw [e7] at q
    exact h5 q c hc ht b hb
/-- takeOut() of the newest image: its blocks count as written -/
theorem RelX_dropLast {σ σ' : gS} {M : MS} {c0 k0 : Nat} (h : RelX σ M) (hc0 : c0 < 2) (hk0 : k0 + 1 = M.2.1 c0)
    (e0 : σ' 0 = σ 0) (e2 : σ' 2 = upd (σ 2) c0 (σ 2 c0 ||| σ 9 (c0 * 6 + k0))) (e3 : σ' 3 = σ 3) (e7 : σ' 7 0 = 0) (e8 : σ' 8 = upd (σ 8) c0 (nI (M.2.1 c0 - 1))) (e9 : σ' 9 = σ 9) (e10 : σ' 10 = σ 10) : RelX σ' (s_drop0 M c0 k0) := by
  obtain ⟨h1, h2, h3, h4, h5⟩ := h
  have h6 := (h2 c0 hc0).1
  refine ⟨fun b hb => by rw [e0]; exact h1 b hb, fun c hc => ?_, fun c hc k hk b hb => ?_, fun c hc ht hp b hb hd => ?_, fun q => absurd e7 q⟩
  · show updN M.2.1 c0 (M.2.1 c0 - 1) c ≤ 6 ∧ σ' 8 c = nI (updN M.2.1 c0 (M.2.1 c0 - 1) c)
    rw [e8]
    unfold updN upd
    by_cases e : c = c0
    · rw [if_pos e, if_pos e]
      exact ⟨by omega, rfl⟩
    · rw [if_neg e, if_neg e]
      exact h2 c hc
  · have hk : k < updN M.2.1 c0 (M.2.1 c0 - 1) c := hk
    show (bt (σ' 9 (c * 6 + k)) b = true → σ' 10 ((c * 6 + k) * 16 + b) = if c = c0 ∧ k0 ≤ k then M.2.2 c (k + 1) b else M.2.2 c k b) ∧ (bt (σ' 9 (c * 6 + k)) b = false → 0 < k ∧ (if c = c0 ∧ k0 ≤ k then M.2.2 c (k + 1) b else M.2.2 c k b) = if c = c0 ∧ k0 ≤ k - 1 then M.2.2 c (k - 1 + 1) b else M.2.2 c (k - 1) b)
    rw [e9, e10]
    unfold updN at hk
    by_cases e : c = c0
    · rw [if_pos e] at hk
      rw [if_neg (by omega), if_neg (by omega)]
      exact h3 c hc k (by rw [e]; omega) b hb
    · rw [if_neg e] at hk
      rw [if_neg (by omega), if_neg (by omega)]
      exact h3 c hc k hk b hb
  · have ht : σ' 3 c ≠ 0 := ht
    have hp : 0 < updN M.2.1 c0 (M.2.1 c0 - 1) c := hp
    have hd : bt (σ' 2 c) b = false := hd
    rw [e3] at ht
    rw [e2] at hd
    show M.1 b = if c = c0 ∧ k0 ≤ updN M.2.1 c0 (M.2.1 c0 - 1) c - 1 then M.2.2 c (updN M.2.1 c0 (M.2.1 c0 - 1) c - 1 + 1) b else M.2.2 c (updN M.2.1 c0 (M.2.1 c0 - 1) c - 1) b
    unfold updN at hp ⊢
    by_cases e : c = c0
    · subst e
      rw [if_pos rfl] at hp ⊢
      rw [if_neg (by omega)]
      rw [pk_us, b_or] at hd
      have z1 : bt (σ 2 c) b = false := by
        cases z : bt (σ 2 c) b
        · rfl
        · rw [z] at hd; cases hd
      have z2 : bt (σ 9 (c * 6 + k0)) b = false := by
        rw [z1] at hd; simpa using hd
      rw [h4 c hc ht (by omega) b hb z1, show M.2.1 c - 1 = k0 by omega]
      exact ((h3 c hc k0 (by omega) b hb).2 z2).2
    · rw [if_neg e] at hp ⊢
      rw [if_neg (by omega)]
      rw [pk_un e] at hd
      exact h4 c hc ht hp b hb hd
/-- blocks that no image between the two brought are alike -/
theorem RelX_between {σ : gS} {M : MS} {c : Nat} (h : RelX σ M) (hc : c < 2) {lo b : Nat} (hb : b < 16) : ∀ n, lo + n < M.2.1 c → (∀ i, lo < i → i ≤ lo + n → bt (σ 9 (c * 6 + i)) b = false) → M.2.2 c (lo + n) b = M.2.2 c lo b
  | 0, _, _ => rfl
  | n + 1, h1, h2 => by
    have a := (h.2.2.1 c hc (lo + (n + 1)) h1 b hb).2 (h2 _ (by omega) (by omega))
    rw [a.2, show lo + (n + 1) - 1 = lo + n by omega]
    exact RelX_between h hc hb n (by omega) (fun i h3 h4 => h2 i h3 (by omega))
/-- the count goes on -/
theorem ct_step {p : Nat → Bool} {n i : Nat} (h : n = fb_ct p i) (q : p i = true) : n + 1 = fb_ct p (i + 1) := by rw [fb_ct_succ, q, h]; rfl
theorem ct_skip {p : Nat → Bool} {n i : Nat} (h : n = fb_ct p i) (q : p i = false) : n = fb_ct p (i + 1) := by rw [fb_ct_succ, q, h]; rfl
end
section
set_option maxHeartbeats 4000000 in
set_option maxRecDepth 100000 in
/-- badChain(x) -/
theorem cX_bad (l : Launch) (x : Int32) : gMs l yX0_badChain cX0_badChain 1 (some .boolean) rmA [.int x] (fun r => (r = 0 → ∃ j, j < 2 ∧ x = nI j) ∧ (r ≠ 0 → bad_ x)) := by
  refine Met.ofW (cc := cX0_badChain) (maxL := 1) (ret := some .boolean) (by decide) rfl ?_
  intro p e s m args below meth c s₁ B hml hv
  obtain ⟨rfl, -⟩ := hv
  have hx := B.exec
  have hb := B.bytes
  have hr := B.returns
  have hlk := B.notSynchronized
  have hS : va_S (fun _ => False) s.heap s.heap [] := va_S.rf
  have hl := lv_entry ([.int x]) (n := 1) (Nat.le_of_ble_eq_true rfl)
  rw [lg_entry_eq]
  generalize (lg_sl ([.int x]) ++ List.replicate (1 - (lg_sl ([.int x])).length) Slot.unset).toArray = ls at hl ⊢
  have hl : lv_has ls 1 [(0, .int x)] := hl
  refine lv_iload_n hx hb dX0_badChain_0 rfl (lv_at hl 0 rfl) ?_
  refine lv_if_lt (tgt := 9) hx hb dX0_badChain_1 (by decide) (fun q => ?_) (fun q => ?_)
  · refine lv_iconst (v := nI 1) hx hb dX0_badChain_9 (by decide) ?_
    refine lv_goto (tgt := 14) hx hb dX0_badChain_10 (by decide) ?_
    exact W.zret (v := nI 1) hx hb hr rfl (fun t ht hW => ⟨⟨nI 1, (), rfl, ⟨fun z => absurd z (by decide), fun _ => Or.inl q⟩, trivial⟩, hS.F ht⟩) hS.2.2 dX0_badChain_14 hlk
  · refine lv_iload_n hx hb dX0_badChain_4 rfl (lv_at hl 0 rfl) ?_
    refine lv_iconst (v := nI 1) hx hb dX0_badChain_5 (by decide) ?_
    refine lv_icmp_le (tgt := 13) hx hb dX0_badChain_6 (by decide) (fun q2 => ?_) (fun q2 => ?_)
    · refine lv_iconst (v := nI 0) hx hb dX0_badChain_13 (by decide) ?_
      exact W.zret (v := nI 0) hx hb hr rfl (fun t ht hW => ⟨⟨nI 0, (), rfl, ⟨fun _ => chain_of q q2, fun z => absurd rfl z⟩, trivial⟩, hS.F ht⟩) hS.2.2 dX0_badChain_14 hlk
    · refine lv_iconst (v := nI 1) hx hb dX0_badChain_9 (by decide) ?_
      refine lv_goto (tgt := 14) hx hb dX0_badChain_10 (by decide) ?_
      exact W.zret (v := nI 1) hx hb hr rfl (fun t ht hW => ⟨⟨nI 1, (), rfl, ⟨fun z => absurd z (by decide), fun _ => bad_of q2⟩, trivial⟩, hS.F ht⟩) hS.2.2 dX0_badChain_14 hlk
set_option maxHeartbeats 4000000 in
set_option maxRecDepth 100000 in
/-- noBackup(c, k) -/
theorem cX_nob (l : Launch) (D : va_G) (ad : Nat → Nat) (d z : ClassId) {σ : gS} {M : MS} (h : RelX σ M) {c0 : Nat} (hc : c0 < 2) (k : Int32) : gMi l yX0_noBackup cX0_noBackup 3 (some .boolean) rmA [.ref (ad 7), .int (nI c0), .int (k)] D (xw ad d z) (xt d z) σ (fun r σ' => σ' = σ ∧ (r = 0 → ∃ j, j < M.2.1 c0 ∧ k = nI j) ∧ (r ≠ 0 → nob_ M (nI c0) k)) := by
  obtain ⟨h6, h8⟩ := h.2.1 c0 hc
  refine gMi_of (by decide) (Nat.le_of_ble_eq_true rfl) ?_
  intro p e s m args below meth c A H0 Q G ret H locs ls X hl
  have G : gC RX0 3 (xt d z) p s m args c cX0_noBackup D := G
  have hx := G.1
  have hb := G.2.1
  have hl : lv_has ls 3 [(0, .ref (ad 7)), (1, .int (nI c0)), (2, .int (k))] := hl
  refine lv_iload_n hx hb dX0_noBackup_0 rfl (lv_at hl 2 rfl) ?_
  refine lv_if_lt (tgt := 14) hx hb dX0_noBackup_1 (by decide) (fun q => ?_) (fun q => ?_)
  · refine lv_iconst (v := nI 1) hx hb dX0_noBackup_14 (by decide) ?_
    refine lv_goto (tgt := 19) hx hb dX0_noBackup_15 (by decide) ?_
    exact ret _ _ _ _ _ _ X (⟨rfl, fun z => absurd z (by decide), fun _ => Or.inl q⟩) rfl dX0_noBackup_19
  · refine lv_iload_n hx hb dX0_noBackup_4 rfl (lv_at hl 2 rfl) ?_
    refine x_tf G X hl 8 (by decide) q28 rfl rfl dX0_noBackup_5 dX0_noBackup_6 ?_
    refine lv_iload_n hx hb dX0_noBackup_9 rfl (lv_at hl 1 rfl) ?_
    refine g_ld G X xk8 (c0) rfl hc dX0_noBackup_10 ?_
    refine g_top (nI (M.2.1 c0)) h8 ?_
    refine lv_icmp_lt (tgt := 18) hx hb dX0_noBackup_11 (by decide) (fun q2 => ?_) (fun q2 => ?_)
    · refine lv_iconst (v := nI 0) hx hb dX0_noBackup_18 (by decide) ?_
      exact ret _ _ _ _ _ _ X (⟨rfl, fun _ => bk_of hc h6 q q2, fun z => absurd rfl z⟩) rfl dX0_noBackup_19
    · refine lv_iconst (v := nI 1) hx hb dX0_noBackup_14 (by decide) ?_
      refine lv_goto (tgt := 19) hx hb dX0_noBackup_15 (by decide) ?_
      exact ret _ _ _ _ _ _ X (⟨rfl, fun z => absurd z (by decide), fun _ => nob_of hc h6 q2⟩) rfl dX0_noBackup_19
set_option maxHeartbeats 4000000 in
set_option maxRecDepth 100000 in
/-- store(b, v) -/
theorem cX_store (l : Launch) (D : va_G) (ad : Nat → Nat) (d z : ClassId) {σ : gS} {M : MS} (h : RelX σ M) {b : Nat} (hb16 : b < 16) (v : Int32) : gMv l yX0_store cX0_store 4 rmA [.ref (ad 7), .int (nI b), .int (v)] D (xw ad d z) (xt d z) σ (fun σ' => RelX σ' (upd M.1 b v, M.2) ∧ σ' 1 = σ 1) := by
  refine gMv_of (by decide) (Nat.le_of_ble_eq_true rfl) ?_
  intro p e s m args below meth c A H0 Q G ret H locs ls X hl
  have G : gC RX0 4 (xt d z) p s m args c cX0_store D := G
  have hx := G.1
  have hb := G.2.1
  have hl : lv_has ls 4 [(0, .ref (ad 7)), (1, .int (nI b)), (2, .int (v))] := hl
  have loop : ∀ (n i : Nat) (σ1 : gS) (H : Heap) (locs : List Loc) (ls : Array Slot), i ≤ 2 → 3 ≤ i + n → RelS σ M b v i σ1 → gH D A H0 (xw ad d z) σ1 H locs → lv_has ls 4 [(0, .ref (ad 7)), (1, .int (nI b)), (2, .int (v)), (3, .int (nI i))] → W p l e rmA s m args below meth c H locs 0 0 Q (F0 m 14 ls []) := by
    intro n
    induction n with
    | zero => intro i σ1 H locs ls h1 h2; exact absurd h2 (by omega)
    | succ n ih =>
      intro i σ1 H locs ls h1 h2 hJ X hl
      refine lv_iload_n hx hb dX0_store_14 rfl (lv_at hl 3 rfl) ?_
      refine lv_iconst (v := nI 2) hx hb dX0_store_15 (by decide) ?_
      refine n_ge (tgt := 60) hx hb (i) (2) rfl rfl (by omega) (by omega) dX0_store_16 (by decide) (fun q => ?_) (fun q => ?_)
      · obtain rfl : i = 2 := by omega
        exact ret _ _ _ _ _ X (RelS_end hJ) dX0_store_60
      · refine x_tf G X hl 2 (by decide) q22 rfl rfl dX0_store_19 dX0_store_20 ?_
        refine lv_iload_n hx hb dX0_store_23 rfl (lv_at hl 3 rfl) ?_
        refine g_ld G X xk2 (i) rfl q dX0_store_24 ?_
        refine lv_iload_n hx hb dX0_store_25 rfl (lv_at hl 1 rfl) ?_
        refine lv_ishr hx hb dX0_store_26 ?_
        refine lv_iconst (v := nI 1) hx hb dX0_store_27 (by decide) ?_
        refine lv_iand hx hb dX0_store_28 ?_
        refine lv_if_ne (tgt := 54) hx hb dX0_store_29 (by decide) (fun q2 => ?_) (fun q2 => ?_)
        · have hJ := RelS_skip hJ (by cases z : bt (σ1 2 i) b; exact absurd ((bt_get0 (by omega)).mpr z) q2; rfl)
          refine g_iinc (k := 3) (v := nI (i + 1)) (lv' := [(0, _), (1, _), (2, _), (3, _)]) hx hb dX0_store_54 hl rfl (nI_i1 i) rfl (by decide) rfl (fun ls hl => ?_)
          refine lv_goto (tgt := 14) hx hb dX0_store_57 (by decide) ?_
          exact ih (i + 1) σ1 H locs ls (by omega) (by omega) hJ X hl
        · refine x_tf G X hl 2 (by decide) q22 rfl rfl dX0_store_32 dX0_store_33 ?_
          refine lv_iload_n hx hb dX0_store_36 rfl (lv_at hl 3 rfl) ?_
          refine lv_dup2_11 hx hb dX0_store_37 rfl rfl ?_
          refine g_ld G X xk2 (i) rfl q dX0_store_38 ?_
          refine lv_iconst (v := nI 1) hx hb dX0_store_39 (by decide) ?_
          refine lv_iload_n hx hb dX0_store_40 rfl (lv_at hl 1 rfl) ?_
          refine lv_ishl hx hb dX0_store_41 ?_
          refine lv_ior hx hb dX0_store_42 ?_
          refine g_st G X xk2 (i) rfl q dX0_store_43 (fun H locs X => ?_)
          refine x_tf G X hl 6 (by decide) q26 rfl rfl dX0_store_44 dX0_store_45 ?_
          refine lv_iload_n hx hb dX0_store_48 rfl (lv_at hl 3 rfl) ?_
          refine lv_dup2_11 hx hb dX0_store_49 rfl rfl ?_
          refine g_ld G X xk6 (i) rfl q dX0_store_50 ?_
          refine lv_iconst (v := nI 1) hx hb dX0_store_51 (by decide) ?_
          refine lv_iadd hx hb dX0_store_52 ?_
          refine g_st G X xk6 (i) rfl q dX0_store_53 (fun H locs X => ?_)
          refine g_iinc (k := 3) (v := nI (i + 1)) (lv' := [(0, _), (1, _), (2, _), (3, _)]) hx hb dX0_store_54 hl rfl (nI_i1 i) rfl (by decide) rfl (fun ls hl => ?_)
          refine lv_goto (tgt := 14) hx hb dX0_store_57 (by decide) ?_
          exact ih (i + 1) _ H locs ls (by omega) (by omega) (RelS_set _ hb16 hJ) X hl
  refine x_tf G X hl 0 (by decide) q20 rfl rfl dX0_store_0 dX0_store_1 ?_
  refine lv_iload_n hx hb dX0_store_4 rfl (lv_at hl 1 rfl) ?_
  refine lv_iload_n hx hb dX0_store_5 rfl (lv_at hl 2 rfl) ?_
  refine g_st G X xk0 (b) rfl hb16 dX0_store_6 (fun H locs X => ?_)
  refine lv_aload_n hx hb dX0_store_7 rfl (lv_at hl 0 rfl) ?_
  refine lv_iconst (v := nI 0) hx hb dX0_store_8 (by decide) ?_
  refine x_put7 G X rfl rfl dX0_store_9 (fun H locs X => ?_)
  refine lv_iconst (v := nI 0) hx hb dX0_store_12 (by decide) ?_
  refine g_istn (lv' := [(0, _), (1, _), (2, _), (3, _)]) hx hb dX0_store_13 rfl hl rfl (by decide) rfl (fun ls hl => ?_)
  exact loop 3 0 _ H locs ls (by omega) (by omega) (RelS_init h) X hl
set_option maxHeartbeats 4000000 in
set_option maxRecDepth 100000 in
/-- moveImage(f, t) -/
theorem cX_move (l : Launch) (D : va_G) (ad : Nat → Nat) (d z : ClassId) {σ : gS} {f t : Nat} (hf : f < 12) (ht : t < 12) (hne : f ≠ t) : gMv l yX0_moveImage cX0_moveImage 4 rmA [.ref (ad 7), .int (nI f), .int (nI t)] D (xw ad d z) (xt d z) σ (fun σ' => (∀ k, k ≠ 9 → k ≠ 10 → σ' k = σ k) ∧ σ' 9 = upd (σ 9) t (σ 9 f) ∧ (∀ j, (j < t * 16 ∨ t * 16 + 16 ≤ j) → σ' 10 j = σ 10 j) ∧ ∀ b, b < 16 → σ' 10 (t * 16 + b) = σ 10 (f * 16 + b)) := by
  refine gMv_of (by decide) (Nat.le_of_ble_eq_true rfl) ?_
  intro p e s m args below meth c A H0 Q G ret H locs ls X hl
  have G : gC RX0 4 (xt d z) p s m args c cX0_moveImage D := G
  have hx := G.1
  have hb := G.2.1
  have hl : lv_has ls 4 [(0, .ref (ad 7)), (1, .int (nI f)), (2, .int (nI t))] := hl
  have loop : ∀ (n i : Nat) (σ1 : gS) (H : Heap) (locs : List Loc) (ls : Array Slot), i ≤ 16 → 17 ≤ i + n → ((∀ k, k ≠ 9 → k ≠ 10 → σ1 k = σ k) ∧ σ1 9 = upd (σ 9) t (σ 9 f) ∧ (∀ j, (j < t * 16 ∨ t * 16 + i ≤ j) → σ1 10 j = σ 10 j) ∧ ∀ b, b < i → σ1 10 (t * 16 + b) = σ 10 (f * 16 + b)) → gH D A H0 (xw ad d z) σ1 H locs → lv_has ls 4 [(0, .ref (ad 7)), (1, .int (nI f)), (2, .int (nI t)), (3, .int (nI i))] → W p l e rmA s m args below meth c H locs 0 0 Q (F0 m 14 ls []) := by
    intro n
    induction n with
    | zero => intro i σ1 H locs ls h1 h2; exact absurd h2 (by omega)
    | succ n ih =>
      intro i σ1 H locs ls h1 h2 hJ X hl
      refine lv_iload_n hx hb dX0_moveImage_14 rfl (lv_at hl 3 rfl) ?_
      refine lv_bipush (v := nI 16) hx hb dX0_moveImage_15 (by decide) ?_
      refine n_ge (tgt := 48) hx hb (i) (16) rfl rfl (by omega) (by omega) dX0_moveImage_17 (by decide) (fun q => ?_) (fun q => ?_)
      · obtain rfl : i = 16 := by omega
        exact ret _ _ _ _ _ X (hJ) dX0_moveImage_48
      · refine x_tf G X hl 10 (by decide) q30 rfl rfl dX0_moveImage_20 dX0_moveImage_21 ?_
        refine lv_iload_n hx hb dX0_moveImage_24 rfl (lv_at hl 2 rfl) ?_
        refine lv_bipush (v := nI 16) hx hb dX0_moveImage_25 (by decide) ?_
        refine lv_imul hx hb dX0_moveImage_27 ?_
        refine lv_iload_n hx hb dX0_moveImage_28 rfl (lv_at hl 3 rfl) ?_
        refine lv_iadd hx hb dX0_moveImage_29 ?_
        refine x_tf G X hl 10 (by decide) q30 rfl rfl dX0_moveImage_30 dX0_moveImage_31 ?_
        refine lv_iload_n hx hb dX0_moveImage_34 rfl (lv_at hl 1 rfl) ?_
        refine lv_bipush (v := nI 16) hx hb dX0_moveImage_35 (by decide) ?_
        refine lv_imul hx hb dX0_moveImage_37 ?_
        refine lv_iload_n hx hb dX0_moveImage_38 rfl (lv_at hl 3 rfl) ?_
        refine lv_iadd hx hb dX0_moveImage_39 ?_
        refine g_ld G X xk10 (f * 16 + i) (by simp only [pk_mul, nI_add]) (by omega) dX0_moveImage_40 ?_
        refine g_st G X xk10 (t * 16 + i) (by simp only [pk_mul, nI_add]) (by omega) dX0_moveImage_41 (fun H locs X => ?_)
        refine g_iinc (k := 3) (v := nI (i + 1)) (lv' := [(0, _), (1, _), (2, _), (3, _)]) hx hb dX0_moveImage_42 hl rfl (nI_i1 i) rfl (by decide) rfl (fun ls hl => ?_)
        refine lv_goto (tgt := 14) hx hb dX0_moveImage_45 (by decide) ?_
        obtain ⟨j1, j2, j3, j4⟩ := hJ
        refine ih (i + 1) _ H locs ls (by omega) (by omega) ⟨fun k h9 h10 => (up2_n h10).trans (j1 k h9 h10), j2, fun j hj => ?_, fun b hb9 => ?_⟩ X hl
        · show upd (σ1 10) (t * 16 + i) (σ1 10 (f * 16 + i)) j = σ 10 j
          rw [pk_un (by omega)]
          exact j3 j (by omega)
        · show upd (σ1 10) (t * 16 + i) (σ1 10 (f * 16 + i)) (t * 16 + b) = σ 10 (f * 16 + b)
          by_cases e9 : b = i
          · rw [e9, pk_us]
            exact j3 _ (by omega)
          · rw [pk_un (by omega)]
            exact j4 b (by omega)
  refine x_tf G X hl 9 (by decide) q29 rfl rfl dX0_moveImage_0 dX0_moveImage_1 ?_
  refine lv_iload_n hx hb dX0_moveImage_4 rfl (lv_at hl 2 rfl) ?_
  refine x_tf G X hl 9 (by decide) q29 rfl rfl dX0_moveImage_5 dX0_moveImage_6 ?_
  refine lv_iload_n hx hb dX0_moveImage_9 rfl (lv_at hl 1 rfl) ?_
  refine g_ld G X xk9 (f) rfl hf dX0_moveImage_10 ?_
  refine g_st G X xk9 (t) rfl ht dX0_moveImage_11 (fun H locs X => ?_)
  refine lv_iconst (v := nI 0) hx hb dX0_moveImage_12 (by decide) ?_
  refine g_istn (lv' := [(0, _), (1, _), (2, _), (3, _)]) hx hb dX0_moveImage_13 rfl hl rfl (by decide) rfl (fun ls hl => ?_)
  exact loop 17 0 _ H locs ls (by omega) (by omega) ⟨fun k h9 h10 => up2_n h9, rfl, fun j hj => rfl, fun b hb9 => absurd hb9 (Nat.not_lt_zero b)⟩ X hl
set_option maxHeartbeats 4000000 in
set_option maxRecDepth 100000 in
/-- blockOf(c, k, b) -/
theorem cX_block (l : Launch) (D : va_G) (ad : Nat → Nat) (d z : ClassId) {σ : gS} {M : MS} (h : RelX σ M) {c0 k b : Nat} (hc : c0 < 2) (hk : k < M.2.1 c0) (hb16 : b < 16) : gMi l yX0_blockOf cX0_blockOf 5 (some .int) rmA [.ref (ad 7), .int (nI c0), .int (nI k), .int (nI b)] D (xw ad d z) (xt d z) σ (fun r σ' => σ' = σ ∧ r = M.2.2 c0 k b) := by
  have h6 := (h.2.1 c0 hc).1
  refine gMi_of (by decide) (Nat.le_of_ble_eq_true rfl) ?_
  intro p e s m args below meth c A H0 Q G ret H locs ls X hl
  have G : gC RX0 5 (xt d z) p s m args c cX0_blockOf D := G
  have hx := G.1
  have hb := G.2.1
  have hl : lv_has ls 5 [(0, .ref (ad 7)), (1, .int (nI c0)), (2, .int (nI k)), (3, .int (nI b))] := hl
  have K33 : ∀ (i : Nat) (H : Heap) (locs : List Loc) (ls : Array Slot), i ≤ k → M.2.2 c0 i b = M.2.2 c0 k b → bt (σ 9 (c0 * 6 + i)) b = true → gH D A H0 (xw ad d z) σ H locs → lv_has ls 5 [(0, .ref (ad 7)), (1, .int (nI c0)), (2, .int (nI k)), (3, .int (nI b)), (4, .int (nI i))] → W p l e rmA s m args below meth c H locs 0 0 Q (F0 m 33 ls []) := by
    intro i H locs ls hi he ht X hl
    refine x_tf G X hl 10 (by decide) q30 rfl rfl dX0_blockOf_33 dX0_blockOf_34 ?_
    refine lv_iload_n hx hb dX0_blockOf_37 rfl (lv_at hl 1 rfl) ?_
    refine lv_bipush (v := nI 6) hx hb dX0_blockOf_38 (by decide) ?_
    refine lv_imul hx hb dX0_blockOf_40 ?_
    refine lv_iload hx hb dX0_blockOf_41 (lv_at hl 4 rfl) ?_
    refine lv_iadd hx hb dX0_blockOf_43 ?_
    refine lv_bipush (v := nI 16) hx hb dX0_blockOf_44 (by decide) ?_
    refine lv_imul hx hb dX0_blockOf_46 ?_
    refine lv_iload_n hx hb dX0_blockOf_47 rfl (lv_at hl 3 rfl) ?_
    refine lv_iadd hx hb dX0_blockOf_48 ?_
    refine g_ld G X xk10 ((c0 * 6 + i) * 16 + b) (by simp only [pk_mul, nI_add]) (by omega) dX0_blockOf_49 ?_
    exact ret _ _ _ _ _ _ X (⟨rfl, ((h.2.2.1 c0 hc i (by omega) b hb16).1 ht).trans he⟩) rfl dX0_blockOf_50
  have loop : ∀ (n i : Nat) (H : Heap) (locs : List Loc) (ls : Array Slot), i ≤ k → i + 1 ≤ n → M.2.2 c0 i b = M.2.2 c0 k b → gH D A H0 (xw ad d z) σ H locs → lv_has ls 5 [(0, .ref (ad 7)), (1, .int (nI c0)), (2, .int (nI k)), (3, .int (nI b)), (4, .int (nI i))] → W p l e rmA s m args below meth c H locs 0 0 Q (F0 m 3 ls []) := by
    intro n
    induction n with
    | zero => intro i H locs ls h1 h2; exact absurd h2 (by omega)
    | succ n ih =>
      intro i H locs ls h1 h2 he X hl
      have hbit := h.2.2.1 c0 hc i (by omega) b hb16
      refine lv_iload hx hb dX0_blockOf_3 (lv_at hl 4 rfl) ?_
      refine n_le0 (tgt := 33) hx hb (i) rfl (by omega) dX0_blockOf_5 (by decide) (fun q => ?_) (fun q => ?_)
      · refine K33 i H locs ls h1 he ?_ X hl
        cases z : bt (σ 9 (c0 * 6 + i)) b
        · have := (hbit.2 z).1; omega
        · rfl
      · refine x_tf G X hl 9 (by decide) q29 rfl rfl dX0_blockOf_8 dX0_blockOf_9 ?_
        refine lv_iload_n hx hb dX0_blockOf_12 rfl (lv_at hl 1 rfl) ?_
        refine lv_bipush (v := nI 6) hx hb dX0_blockOf_13 (by decide) ?_
        refine lv_imul hx hb dX0_blockOf_15 ?_
        refine lv_iload hx hb dX0_blockOf_16 (lv_at hl 4 rfl) ?_
        refine lv_iadd hx hb dX0_blockOf_18 ?_
        refine g_ld G X xk9 (c0 * 6 + i) (by simp only [pk_mul, nI_add]) (by omega) dX0_blockOf_19 ?_
        refine lv_iload_n hx hb dX0_blockOf_20 rfl (lv_at hl 3 rfl) ?_
        refine lv_ishr hx hb dX0_blockOf_21 ?_
        refine lv_iconst (v := nI 1) hx hb dX0_blockOf_22 (by decide) ?_
        refine lv_iand hx hb dX0_blockOf_23 ?_
        refine lv_if_ne (tgt := 33) hx hb dX0_blockOf_24 (by decide) (fun q2 => ?_) (fun q2 => ?_)
        · refine K33 i H locs ls h1 he ?_ X hl
          cases z : bt (σ 9 (c0 * 6 + i)) b
          · exact absurd ((bt_get0 (by omega)).mpr z) q2
          · rfl
        · refine g_iinc (k := 4) (v := nI (i - 1)) (lv' := [(0, _), (1, _), (2, _), (3, _), (4, _)]) hx hb dX0_blockOf_27 hl rfl (nI_d1 (by omega)) rfl (by decide) rfl (fun ls hl => ?_)
          refine lv_goto (tgt := 3) hx hb dX0_blockOf_30 (by decide) ?_
          exact ih (i - 1) H locs ls (by omega) (by omega) ((hbit.2 ((bt_get0 (by omega)).mp q2)).2.symm.trans he) X hl
  refine lv_iload_n hx hb dX0_blockOf_0 rfl (lv_at hl 2 rfl) ?_
  refine g_ist (lv' := [(0, _), (1, _), (2, _), (3, _), (4, _)]) hx hb dX0_blockOf_1 hl rfl (by decide) rfl (fun ls hl => ?_)
  exact loop (k + 1) k H locs ls (Nat.le_refl _) (Nat.le_refl _) rfl X hl
set_option maxHeartbeats 4000000 in
set_option maxRecDepth 100000 in
/-- start() -/
theorem cX_start (l : Launch) (D : va_G) (ad : Nat → Nat) (d z : ClassId) {σ : gS} {M : MS} (h : RelX σ M) : gMv l yX0_start cX0_start 3 rmA [.ref (ad 7)] D (xw ad d z) (xt d z) σ (fun σ' => RelX σ' M) := by
  refine gMv_of (by decide) (Nat.le_of_ble_eq_true rfl) ?_
  intro p e s m args below meth c A H0 Q G ret H locs ls X hl
  have G : gC RX0 3 (xt d z) p s m args c cX0_start D := G
  have hx := G.1
  have hb := G.2.1
  have hl : lv_has ls 3 [(0, .ref (ad 7))] := hl
  have loop : ∀ (n i : Nat) (σ1 : gS) (H : Heap) (locs : List Loc) (ls : Array Slot), i ≤ 2 → 3 ≤ i + n → RelX σ1 M → gH D A H0 (xw ad d z) σ1 H locs → lv_has ls 3 [(0, .ref (ad 7)), (1, .int (nI i))] → W p l e rmA s m args below meth c H locs 0 0 Q (F0 m 2 ls []) := by
    intro n
    induction n with
    | zero => intro i σ1 H locs ls h1 h2; exact absurd h2 (by omega)
    | succ n ih =>
      intro i σ1 H locs ls h1 h2 hJ X hl
      refine lv_iload_n hx hb dX0_start_2 rfl (lv_at hl 1 rfl) ?_
      refine lv_iconst (v := nI 2) hx hb dX0_start_3 (by decide) ?_
      refine n_ge (tgt := 78) hx hb (i) (2) rfl rfl (by omega) (by omega) dX0_start_4 (by decide) (fun q => ?_) (fun q => ?_)
      · exact ret _ _ _ _ _ X (hJ) dX0_start_78
      · have K43 : ∀ (g : Int32), (g = nI 0 ∨ g = nI 1 ∧ σ1 7 0 ≠ 0 ∧ σ1 3 i ≠ 0) → W p l e rmA s m args below meth c H locs 0 0 Q (F0 m 43 ls [.int g]) := by
          intro g hg
          rcases hg with rfl | ⟨rfl, g1, g2⟩
          · refine g_istn (lv' := [(0, _), (1, _), (2, _)]) hx hb dX0_start_43 rfl hl rfl (by decide) rfl (fun ls hl => ?_)
            refine x_tf G X hl 3 (by decide) q23 rfl rfl dX0_start_44 dX0_start_45 ?_
            refine lv_iload_n hx hb dX0_start_48 rfl (lv_at hl 1 rfl) ?_
            refine lv_iload_n hx hb dX0_start_49 rfl (lv_at hl 2 rfl) ?_
            refine g_zst G X xk3 (i) rfl q rfl dX0_start_50 (fun H locs X => ?_)
            refine x_tf G X hl 2 (by decide) q22 rfl rfl dX0_start_51 dX0_start_52 ?_
            refine lv_iload_n hx hb dX0_start_55 rfl (lv_at hl 1 rfl) ?_
            refine lv_iload_n hx hb dX0_start_56 rfl (lv_at hl 2 rfl) ?_
            refine lv_if_eq (tgt := 69) hx hb dX0_start_57 (by decide) (fun q3 => ?_) (fun q3 => ?_)
            · refine lv_ldc hx hb G.2.2.2.1 (G.2.2.2.2.1 _ q75) dX0_start_69 ?_
              refine g_st G X xk2 (i) rfl q dX0_start_71 (fun H locs X => ?_)
              refine g_iinc (k := 1) (v := nI (i + 1)) (lv' := [(0, _), (1, _), (2, _)]) hx hb dX0_start_72 hl rfl (nI_i1 i) rfl (by decide) rfl (fun ls hl => ?_)
              refine lv_goto (tgt := 2) hx hb dX0_start_75 (by decide) ?_
              exact ih (i + 1) _ H locs ls (by omega) (by omega) (RelX_untrust hJ) X (lv_sub hl [0, 1] rfl)
            · exact absurd rfl q3
          · refine g_istn (lv' := [(0, _), (1, _), (2, _)]) hx hb dX0_start_43 rfl hl rfl (by decide) rfl (fun ls hl => ?_)
            refine x_tf G X hl 3 (by decide) q23 rfl rfl dX0_start_44 dX0_start_45 ?_
            refine lv_iload_n hx hb dX0_start_48 rfl (lv_at hl 1 rfl) ?_
            refine lv_iload_n hx hb dX0_start_49 rfl (lv_at hl 2 rfl) ?_
            refine g_zst G X xk3 (i) rfl q rfl dX0_start_50 (fun H locs X => ?_)
            refine x_tf G X hl 2 (by decide) q22 rfl rfl dX0_start_51 dX0_start_52 ?_
            refine lv_iload_n hx hb dX0_start_55 rfl (lv_at hl 1 rfl) ?_
            refine lv_iload_n hx hb dX0_start_56 rfl (lv_at hl 2 rfl) ?_
            refine lv_if_eq (tgt := 69) hx hb dX0_start_57 (by decide) (fun q3 => ?_) (fun q3 => ?_)
            · exact absurd q3 (by decide)
            · refine x_tf G X hl 4 (by decide) q24 rfl rfl dX0_start_60 dX0_start_61 ?_
              refine lv_iload_n hx hb dX0_start_64 rfl (lv_at hl 1 rfl) ?_
              refine g_ld G X xk4 (i) rfl q dX0_start_65 ?_
              refine lv_goto (tgt := 71) hx hb dX0_start_66 (by decide) ?_
              refine g_st G X xk2 (i) rfl q dX0_start_71 (fun H locs X => ?_)
              refine g_iinc (k := 1) (v := nI (i + 1)) (lv' := [(0, _), (1, _), (2, _)]) hx hb dX0_start_72 hl rfl (nI_i1 i) rfl (by decide) rfl (fun ls hl => ?_)
              refine lv_goto (tgt := 2) hx hb dX0_start_75 (by decide) ?_
              exact ih (i + 1) _ H locs ls (by omega) (by omega) (RelX_retrust hJ q g1 g2) X (lv_sub hl [0, 1] rfl)
        refine x_tf G X hl 7 (by decide) q27 rfl rfl dX0_start_7 dX0_start_8 ?_
        refine lv_if_eq (tgt := 42) hx hb dX0_start_11 (by decide) (fun g1 => ?_) (fun g1 => ?_)
        · refine lv_iconst (v := nI 0) hx hb dX0_start_42 (by decide) ?_
          exact K43 _ (Or.inl rfl)
        · refine x_tf G X hl 3 (by decide) q23 rfl rfl dX0_start_14 dX0_start_15 ?_
          refine lv_iload_n hx hb dX0_start_18 rfl (lv_at hl 1 rfl) ?_
          refine g_zld G X xk3 (i) rfl q dX0_start_19 ?_
          refine lv_if_eq (tgt := 42) hx hb dX0_start_20 (by decide) (fun g2 => ?_) (fun g2 => ?_)
          · refine lv_iconst (v := nI 0) hx hb dX0_start_42 (by decide) ?_
            exact K43 _ (Or.inl rfl)
          · refine x_tf G X hl 5 (by decide) q25 rfl rfl dX0_start_23 dX0_start_24 ?_
            refine lv_iload_n hx hb dX0_start_27 rfl (lv_at hl 1 rfl) ?_
            refine g_ld G X xk5 (i) rfl q dX0_start_28 ?_
            refine x_tf G X hl 6 (by decide) q26 rfl rfl dX0_start_29 dX0_start_30 ?_
            refine lv_iload_n hx hb dX0_start_33 rfl (lv_at hl 1 rfl) ?_
            refine g_ld G X xk6 (i) rfl q dX0_start_34 ?_
            refine lv_icmp_ne (tgt := 42) hx hb dX0_start_35 (by decide) (fun g3 => ?_) (fun g3 => ?_)
            · refine lv_iconst (v := nI 0) hx hb dX0_start_42 (by decide) ?_
              exact K43 _ (Or.inl rfl)
            · refine lv_iconst (v := nI 1) hx hb dX0_start_38 (by decide) ?_
              refine lv_goto (tgt := 43) hx hb dX0_start_39 (by decide) ?_
              exact K43 _ (Or.inr ⟨rfl, g1, g2⟩)
  refine lv_iconst (v := nI 0) hx hb dX0_start_0 (by decide) ?_
  refine g_istn (lv' := [(0, _), (1, _)]) hx hb dX0_start_1 rfl hl rfl (by decide) rfl (fun ls hl => ?_)
  exact loop 3 0 _ H locs ls (by omega) (by omega) h X hl
end
section
set_option maxHeartbeats 4000000 in
set_option maxRecDepth 100000 in
/-- write(b, v) -/
theorem cX_write (l : Launch) (D : va_G) (ad : Nat → Nat) (d z : ClassId) {σ : gS} {M : MS} (h : RelX σ M) (b v : Int32) : gMi l yX0_write cX0_write 3 (some .int) rmB [.ref (ad 7), .int (b), .int (v)] D (xw ad d z) (xt d z) σ (fun r σ' => r = a_write b ∧ RelX σ' (s_write M b v)) := by
  refine gMi_of (by decide) (Nat.le_of_ble_eq_true rfl) ?_
  intro p e s m args below meth c A H0 Q G ret H locs ls X hl
  have G : gC RX0 3 (xt d z) p s m args c cX0_write D := G
  have hx := G.1
  have hb := G.2.1
  have hl : lv_has ls 3 [(0, .ref (ad 7)), (1, .int (b)), (2, .int (v))] := hl
  refine lv_iload_n hx hb dX0_write_0 rfl (lv_at hl 1 rfl) ?_
  refine lv_if_lt (tgt := 10) hx hb dX0_write_1 (by decide) (fun q => ?_) (fun q => ?_)
  · refine lv_bipush (v := -2) hx hb dX0_write_10 (by decide) ?_
    exact ret _ _ _ _ _ _ X (⟨(a_write_out (Or.inl q)).symm, by rw [s_write_out (Or.inl q)]; exact h⟩) rfl dX0_write_12
  · refine lv_iload_n hx hb dX0_write_4 rfl (lv_at hl 1 rfl) ?_
    refine lv_bipush (v := nI 16) hx hb dX0_write_5 (by decide) ?_
    refine lv_icmp_lt (tgt := 13) hx hb dX0_write_7 (by decide) (fun q2 => ?_) (fun q2 => ?_)
    · obtain ⟨j, hj, rfl⟩ := blk_of q q2
      refine lv_aload_n hx hb dX0_write_13 rfl (lv_at hl 0 rfl) ?_
      refine lv_iload_n hx hb dX0_write_14 rfl (lv_at hl 1 rfl) ?_
      refine lv_iload_n hx hb dX0_write_15 rfl (lv_at hl 2 rfl) ?_
      refine g_callv (n := 2) (rest := []) (q0 := 7) G X (cX_store l D ad d z h hj v) (lw_V q60 q62 qs0 q10 q63) (by decide +kernel) ⟨rfl, rfl⟩ ⟨Nat.le_of_ble_eq_true rfl, Nat.le_of_ble_eq_true rfl⟩ rfl rfl rfl rfl hl.1 rfl (Nat.le_of_ble_eq_true rfl) dX0_write_16 ⟨Nat.zero_le _, Nat.zero_le _⟩ (fun σ1 H locs hp X => ?_)
      refine lv_iconst (v := nI 0) hx hb dX0_write_19 (by decide) ?_
      exact ret _ _ _ _ _ _ X (⟨(a_write_in hj).symm, by rw [s_write_in hj]; exact hp.1⟩) rfl dX0_write_20
    · refine lv_bipush (v := -2) hx hb dX0_write_10 (by decide) ?_
      exact ret _ _ _ _ _ _ X (⟨(a_write_out (out_of q2)).symm, by rw [s_write_out (out_of q2)]; exact h⟩) rfl dX0_write_12
set_option maxHeartbeats 4000000 in
set_option maxRecDepth 100000 in
/-- read(b) -/
theorem cX_read (l : Launch) (D : va_G) (ad : Nat → Nat) (d z : ClassId) {σ : gS} {M : MS} (h : RelX σ M) (b : Int32) : gMi l yX0_read cX0_read 2 (some .int) rmB [.ref (ad 7), .int (b)] D (xw ad d z) (xt d z) σ (fun r σ' => r = a_read M b ∧ RelX σ' M) := by
  refine gMi_of (by decide) (Nat.le_of_ble_eq_true rfl) ?_
  intro p e s m args below meth c A H0 Q G ret H locs ls X hl
  have G : gC RX0 2 (xt d z) p s m args c cX0_read D := G
  have hx := G.1
  have hb := G.2.1
  have hl : lv_has ls 2 [(0, .ref (ad 7)), (1, .int (b))] := hl
  refine lv_iload_n hx hb dX0_read_0 rfl (lv_at hl 1 rfl) ?_
  refine lv_if_lt (tgt := 10) hx hb dX0_read_1 (by decide) (fun q => ?_) (fun q => ?_)
  · refine lv_iconst (v := nI 0) hx hb dX0_read_10 (by decide) ?_
    exact ret _ _ _ _ _ _ X (⟨(a_read_out (Or.inl q)).symm, h⟩) rfl dX0_read_11
  · refine lv_iload_n hx hb dX0_read_4 rfl (lv_at hl 1 rfl) ?_
    refine lv_bipush (v := nI 16) hx hb dX0_read_5 (by decide) ?_
    refine lv_icmp_lt (tgt := 12) hx hb dX0_read_7 (by decide) (fun q2 => ?_) (fun q2 => ?_)
    · obtain ⟨j, hj, rfl⟩ := blk_of q q2
      refine x_tf G X hl 0 (by decide) q20 rfl rfl dX0_read_12 dX0_read_13 ?_
      refine lv_iload_n hx hb dX0_read_16 rfl (lv_at hl 1 rfl) ?_
      refine g_ld G X xk0 (j) rfl hj dX0_read_17 ?_
      exact ret _ _ _ _ _ _ X (⟨(h.1 j hj).trans (a_read_in hj).symm, h⟩) rfl dX0_read_18
    · refine lv_iconst (v := nI 0) hx hb dX0_read_10 (by decide) ?_
      exact ret _ _ _ _ _ _ X (⟨(a_read_out (out_of q2)).symm, h⟩) rfl dX0_read_11
set_option maxHeartbeats 4000000 in
set_option maxRecDepth 100000 in
/-- crash() -/
theorem cX_crash (l : Launch) (D : va_G) (ad : Nat → Nat) (d z : ClassId) {σ : gS} {M : MS} (h : RelX σ M) : gMv l yX0_crash cX0_crash 1 rmB [.ref (ad 7)] D (xw ad d z) (xt d z) σ (fun σ' => RelX σ' M) := by
  refine gMv_of (by decide) (Nat.le_of_ble_eq_true rfl) ?_
  intro p e s m args below meth c A H0 Q G ret H locs ls X hl
  have G : gC RX0 1 (xt d z) p s m args c cX0_crash D := G
  have hx := G.1
  have hb := G.2.1
  have hl : lv_has ls 1 [(0, .ref (ad 7))] := hl
  refine lv_aload_n hx hb dX0_crash_0 rfl (lv_at hl 0 rfl) ?_
  refine g_callv (n := 0) (rest := []) (q0 := 7) G X (cX_start l D ad d z h) (lw_V q108 q110 qs5 q10 q111) (by decide +kernel) ⟨rfl, rfl⟩ ⟨Nat.le_of_ble_eq_true rfl, Nat.le_of_ble_eq_true rfl⟩ rfl rfl rfl rfl hl.1 rfl (Nat.le_of_ble_eq_true rfl) dX0_crash_1 ⟨Nat.zero_le _, Nat.zero_le _⟩ (fun σ1 H locs hp X => ?_)
  exact ret _ _ _ _ _ X (hp) dX0_crash_4
set_option maxHeartbeats 4000000 in
set_option maxRecDepth 100000 in
/-- restart() -/
theorem cX_restart (l : Launch) (D : va_G) (ad : Nat → Nat) (d z : ClassId) {σ : gS} {M : MS} (h : RelX σ M) : gMv l yX0_restart cX0_restart 2 rmB [.ref (ad 7)] D (xw ad d z) (xt d z) σ (fun σ' => RelX σ' M) := by
  refine gMv_of (by decide) (Nat.le_of_ble_eq_true rfl) ?_
  intro p e s m args below meth c A H0 Q G ret H locs ls X hl
  have G : gC RX0 2 (xt d z) p s m args c cX0_restart D := G
  have hx := G.1
  have hb := G.2.1
  have hl : lv_has ls 2 [(0, .ref (ad 7))] := hl
  have loop : ∀ (n i : Nat) (σ1 : gS) (H : Heap) (locs : List Loc) (ls : Array Slot), i ≤ 2 → 3 ≤ i + n → (RelX σ1 M ∧ ∀ c, c < i → σ1 4 c = σ1 2 c) → gH D A H0 (xw ad d z) σ1 H locs → lv_has ls 2 [(0, .ref (ad 7)), (1, .int (nI i))] → W p l e rmB s m args below meth c H locs 0 0 Q (F0 m 2 ls []) := by
    intro n
    induction n with
    | zero => intro i σ1 H locs ls h1 h2; exact absurd h2 (by omega)
    | succ n ih =>
      intro i σ1 H locs ls h1 h2 hJ X hl
      refine lv_iload_n hx hb dX0_restart_2 rfl (lv_at hl 1 rfl) ?_
      refine lv_iconst (v := nI 2) hx hb dX0_restart_3 (by decide) ?_
      refine n_ge (tgt := 50) hx hb (i) (2) rfl rfl (by omega) (by omega) dX0_restart_4 (by decide) (fun q => ?_) (fun q => ?_)
      · obtain rfl : i = 2 := by omega
        refine lv_aload_n hx hb dX0_restart_50 rfl (lv_at hl 0 rfl) ?_
        refine lv_iconst (v := nI 1) hx hb dX0_restart_51 (by decide) ?_
        refine x_put7 G X rfl rfl dX0_restart_52 (fun H locs X => ?_)
        refine lv_aload_n hx hb dX0_restart_55 rfl (lv_at hl 0 rfl) ?_
        refine g_callv (n := 0) (rest := []) (q0 := 7) G X (cX_start l D ad d z (RelX_clean hJ.1 hJ.2)) (lw_V q108 q110 qs5 q10 q111) (by decide +kernel) ⟨rfl, rfl⟩ ⟨Nat.le_of_ble_eq_true rfl, Nat.le_of_ble_eq_true rfl⟩ rfl rfl rfl rfl hl.1 rfl (Nat.le_of_ble_eq_true rfl) dX0_restart_56 ⟨Nat.zero_le _, Nat.zero_le _⟩ (fun σ2 H locs hp X => ?_)
        exact ret _ _ _ _ _ X (hp) dX0_restart_59
      · refine x_tf G X hl 4 (by decide) q24 rfl rfl dX0_restart_7 dX0_restart_8 ?_
        refine lv_iload_n hx hb dX0_restart_11 rfl (lv_at hl 1 rfl) ?_
        refine x_tf G X hl 2 (by decide) q22 rfl rfl dX0_restart_12 dX0_restart_13 ?_
        refine lv_iload_n hx hb dX0_restart_16 rfl (lv_at hl 1 rfl) ?_
        refine g_ld G X xk2 (i) rfl q dX0_restart_17 ?_
        refine g_st G X xk4 (i) rfl q dX0_restart_18 (fun H locs X => ?_)
        refine x_tf G X hl 5 (by decide) q25 rfl rfl dX0_restart_19 dX0_restart_20 ?_
        refine lv_iload_n hx hb dX0_restart_23 rfl (lv_at hl 1 rfl) ?_
        refine x_tf G X hl 3 (by decide) q23 rfl rfl dX0_restart_24 dX0_restart_25 ?_
        refine lv_iload_n hx hb dX0_restart_28 rfl (lv_at hl 1 rfl) ?_
        refine g_zld G X xk3 (i) rfl q dX0_restart_29 ?_
        have K43 : ∀ (g : Int32), W p l e rmB s m args below meth c H locs 0 0 Q (F0 m 43 ls [.int g, .int (nI i), .ref (ad 5)]) := by
          intro g
          refine g_st G X xk5 (i) rfl q dX0_restart_43 (fun H locs X => ?_)
          refine g_iinc (k := 1) (v := nI (i + 1)) (lv' := [(0, _), (1, _)]) hx hb dX0_restart_44 hl rfl (nI_i1 i) rfl (by decide) rfl (fun ls hl => ?_)
          refine lv_goto (tgt := 2) hx hb dX0_restart_47 (by decide) ?_
          refine ih (i + 1) _ H locs ls (by omega) (by omega) ⟨RelX_save _ hJ.1, fun c hc => ?_⟩ X hl
          show upd (σ1 4) i (σ1 2 i) c = σ1 2 c
          by_cases e : c = i
          · rw [e, pk_us]
          · rw [pk_un e]; exact hJ.2 c (by omega)
        refine lv_if_eq (tgt := 42) hx hb dX0_restart_30 (by decide) (fun q2 => ?_) (fun q2 => ?_)
        · refine lv_iconst (v := -1) hx hb dX0_restart_42 (by decide) ?_
          exact K43 _
        · refine x_tf G X hl 6 (by decide) q26 rfl rfl dX0_restart_33 dX0_restart_34 ?_
          refine lv_iload_n hx hb dX0_restart_37 rfl (lv_at hl 1 rfl) ?_
          refine g_ld G X xk6 (i) rfl q dX0_restart_38 ?_
          refine lv_goto (tgt := 43) hx hb dX0_restart_39 (by decide) ?_
          exact K43 _
  refine lv_iconst (v := nI 0) hx hb dX0_restart_0 (by decide) ?_
  refine g_istn (lv' := [(0, _), (1, _)]) hx hb dX0_restart_1 rfl hl rfl (by decide) rfl (fun ls hl => ?_)
  exact loop 3 0 _ H locs ls (by omega) (by omega) ⟨h, fun c hc => absurd hc (Nat.not_lt_zero c)⟩ X hl
set_option maxHeartbeats 4000000 in
set_option maxRecDepth 100000 in
/-- backups(c) -/
theorem cX_backups (l : Launch) (D : va_G) (ad : Nat → Nat) (d z : ClassId) {σ : gS} {M : MS} (h : RelX σ M) (c0 : Int32) : gMi l yX0_backups cX0_backups 2 (some .int) rmB [.ref (ad 7), .int (c0)] D (xw ad d z) (xt d z) σ (fun r σ' => r = a_backups M c0 ∧ RelX σ' M) := by
  refine gMi_of (by decide) (Nat.le_of_ble_eq_true rfl) ?_
  intro p e s m args below meth c A H0 Q G ret H locs ls X hl
  have G : gC RX0 2 (xt d z) p s m args c cX0_backups D := G
  have hx := G.1
  have hb := G.2.1
  have hl : lv_has ls 2 [(0, .ref (ad 7)), (1, .int (c0))] := hl
  refine lv_iload_n hx hb dX0_backups_0 rfl (lv_at hl 1 rfl) ?_
  refine g_calls (n := 1) (rest := []) G X (cX_bad l c0) (lw_S q72 q73 q10 q74) (by decide +kernel) ⟨rfl, rfl⟩ ⟨Nat.le_of_ble_eq_true rfl, Nat.le_of_ble_eq_true rfl⟩ rfl hl.1 rfl (Nat.le_of_ble_eq_true rfl) dX0_backups_1 ⟨Nat.zero_le _, Nat.zero_le _⟩ (fun r H locs hp X => ?_)
  refine lv_if_eq (tgt := 11) hx hb dX0_backups_4 (by decide) (fun q => ?_) (fun q => ?_)
  · obtain ⟨j, hj, rfl⟩ := hp.1 q
    refine x_tf G X hl 8 (by decide) q28 rfl rfl dX0_backups_11 dX0_backups_12 ?_
    refine lv_iload_n hx hb dX0_backups_15 rfl (lv_at hl 1 rfl) ?_
    refine g_ld G X xk8 (j) rfl hj dX0_backups_16 ?_
    exact ret _ _ _ _ _ _ X (⟨(h.2.1 j hj).2.trans (a_backups_ok hj).symm, h⟩) rfl dX0_backups_17
  · refine lv_iconst (v := -1) hx hb dX0_backups_7 (by decide) ?_
    refine lv_goto (tgt := 17) hx hb dX0_backups_8 (by decide) ?_
    exact ret _ _ _ _ _ _ X (⟨(a_backups_bad (hp.2 q)).symm, h⟩) rfl dX0_backups_17
set_option maxHeartbeats 4000000 in
set_option maxRecDepth 100000 in
/-- readBackup(c, k, b) -/
theorem cX_readB (l : Launch) (D : va_G) (ad : Nat → Nat) (d z : ClassId) {σ : gS} {M : MS} (h : RelX σ M) (c0 k b : Int32) : gMi l yX0_readBackup cX0_readBackup 4 (some .int) rmB [.ref (ad 7), .int (c0), .int (k), .int (b)] D (xw ad d z) (xt d z) σ (fun r σ' => r = a_readB M c0 k b ∧ RelX σ' M) := by
  refine gMi_of (by decide) (Nat.le_of_ble_eq_true rfl) ?_
  intro p e s m args below meth c A H0 Q G ret H locs ls X hl
  have G : gC RX0 4 (xt d z) p s m args c cX0_readBackup D := G
  have hx := G.1
  have hb := G.2.1
  have hl : lv_has ls 4 [(0, .ref (ad 7)), (1, .int (c0)), (2, .int (k)), (3, .int (b))] := hl
  have K26 : ∀ (H : Heap) (locs : List Loc), (bad_ c0 ∨ nob_ M c0 k ∨ out_ b) → gH D A H0 (xw ad d z) σ H locs → W p l e rmB s m args below meth c H locs 0 0 Q (F0 m 26 ls []) := by
    intro H locs ho X
    refine lv_iconst (v := nI 0) hx hb dX0_readBackup_26 (by decide) ?_
    exact ret _ _ _ _ _ _ X (⟨(a_readB_no ho).symm, h⟩) rfl dX0_readBackup_27
  refine lv_iload_n hx hb dX0_readBackup_0 rfl (lv_at hl 1 rfl) ?_
  refine g_calls (n := 1) (rest := []) G X (cX_bad l c0) (lw_S q72 q73 q10 q74) (by decide +kernel) ⟨rfl, rfl⟩ ⟨Nat.le_of_ble_eq_true rfl, Nat.le_of_ble_eq_true rfl⟩ rfl hl.1 rfl (Nat.le_of_ble_eq_true rfl) dX0_readBackup_1 ⟨Nat.zero_le _, Nat.zero_le _⟩ (fun r H locs hp X => ?_)
  refine lv_if_ne (tgt := 26) hx hb dX0_readBackup_4 (by decide) (fun q => ?_) (fun q => ?_)
  · exact K26 H locs (Or.inl (hp.2 q)) X
  · obtain ⟨j, hj, rfl⟩ := hp.1 q
    have h6 := (h.2.1 j hj).1
    refine lv_aload_n hx hb dX0_readBackup_7 rfl (lv_at hl 0 rfl) ?_
    refine lv_iload_n hx hb dX0_readBackup_8 rfl (lv_at hl 1 rfl) ?_
    refine lv_iload_n hx hb dX0_readBackup_9 rfl (lv_at hl 2 rfl) ?_
    refine g_calli (n := 2) (rest := []) (q0 := 7) G X (cX_nob l D ad d z h hj k) (lw_V q80 q82 qs1 q10 q83) (by decide +kernel) ⟨rfl, rfl⟩ ⟨Nat.le_of_ble_eq_true rfl, Nat.le_of_ble_eq_true rfl⟩ rfl rfl rfl rfl hl.1 rfl (Nat.le_of_ble_eq_true rfl) dX0_readBackup_10 ⟨Nat.zero_le _, Nat.zero_le _⟩ (fun r2 σ1 H locs hp2 X => ?_)
    rw [hp2.1] at X
    have hp2 := hp2.2
    refine lv_if_ne (tgt := 26) hx hb dX0_readBackup_13 (by decide) (fun q2 => ?_) (fun q2 => ?_)
    · exact K26 H locs (Or.inr (Or.inl (hp2.2 q2))) X
    · obtain ⟨j2, hj2, rfl⟩ := hp2.1 q2
      refine lv_iload_n hx hb dX0_readBackup_16 rfl (lv_at hl 3 rfl) ?_
      refine lv_if_lt (tgt := 26) hx hb dX0_readBackup_17 (by decide) (fun q3 => ?_) (fun q3 => ?_)
      · exact K26 H locs (Or.inr (Or.inr (Or.inl q3))) X
      · refine lv_iload_n hx hb dX0_readBackup_20 rfl (lv_at hl 3 rfl) ?_
        refine lv_bipush (v := nI 16) hx hb dX0_readBackup_21 (by decide) ?_
        refine lv_icmp_lt (tgt := 28) hx hb dX0_readBackup_23 (by decide) (fun q4 => ?_) (fun q4 => ?_)
        · obtain ⟨j3, hj3, rfl⟩ := blk_of q3 q4
          refine lv_aload_n hx hb dX0_readBackup_28 rfl (lv_at hl 0 rfl) ?_
          refine lv_iload_n hx hb dX0_readBackup_29 rfl (lv_at hl 1 rfl) ?_
          refine lv_iload_n hx hb dX0_readBackup_30 rfl (lv_at hl 2 rfl) ?_
          refine lv_iload_n hx hb dX0_readBackup_31 rfl (lv_at hl 3 rfl) ?_
          refine g_calli (n := 3) (rest := []) (q0 := 7) G X (cX_block l D ad d z h hj hj2 hj3) (lw_V q84 q86 qs2 q10 q87) (by decide +kernel) ⟨rfl, rfl⟩ ⟨Nat.le_of_ble_eq_true rfl, Nat.le_of_ble_eq_true rfl⟩ rfl rfl rfl rfl hl.1 rfl (Nat.le_of_ble_eq_true rfl) dX0_readBackup_32 ⟨Nat.zero_le _, Nat.zero_le _⟩ (fun r3 σ2 H locs hp3 X => ?_)
          rw [hp3.1] at X
          exact ret _ _ _ _ _ _ X (⟨hp3.2.trans (a_readB_ok hj h6 hj2 hj3).symm, h⟩) rfl dX0_readBackup_35
        · exact K26 H locs (Or.inr (Or.inr (out_of q4))) X
end
section
set_option maxHeartbeats 4000000 in
set_option maxRecDepth 100000 in
/-- backup(c) -/
theorem cX_backup (l : Launch) (D : va_G) (ad : Nat → Nat) (d z : ClassId) {σ : gS} {M : MS} (h : RelX σ M) (cI : Int32) : gMi l yX0_backup cX0_backup 6 (some .int) rmB [.ref (ad 7), .int (cI)] D (xw ad d z) (xt d z) σ (fun r σ' => r = a_backup M cI ∧ RelX σ' (s_backup M cI)) := by
  refine gMi_of (by decide) (Nat.le_of_ble_eq_true rfl) ?_
  intro p e s m args below meth c A H0 Q G ret H locs ls X hl
  have G : gC RX0 6 (xt d z) p s m args c cX0_backup D := G
  have hx := G.1
  have hb := G.2.1
  have hl : lv_has ls 6 [(0, .ref (ad 7)), (1, .int (cI))] := hl
  refine lv_iload_n hx hb dX0_backup_0 rfl (lv_at hl 1 rfl) ?_
  refine g_calls (n := 1) (rest := []) G X (cX_bad l cI) (lw_S q72 q73 q10 q74) (by decide +kernel) ⟨rfl, rfl⟩ ⟨Nat.le_of_ble_eq_true rfl, Nat.le_of_ble_eq_true rfl⟩ rfl hl.1 rfl (Nat.le_of_ble_eq_true rfl) dX0_backup_1 ⟨Nat.zero_le _, Nat.zero_le _⟩ (fun r H locs hp X => ?_)
  refine lv_if_eq (tgt := 9) hx hb dX0_backup_4 (by decide) (fun q => ?_) (fun q => ?_)
  · obtain ⟨c0, hc, rfl⟩ := hp.1 q
    obtain ⟨h6, h8⟩ := h.2.1 c0 hc
    refine x_tf G X hl 8 (by decide) q28 rfl rfl dX0_backup_9 dX0_backup_10 ?_
    refine lv_iload_n hx hb dX0_backup_13 rfl (lv_at hl 1 rfl) ?_
    refine g_ld G X xk8 (c0) rfl hc dX0_backup_14 ?_
    refine g_top (nI (M.2.1 c0)) h8 ?_
    refine g_istn (lv' := [(0, _), (1, _), (2, _)]) hx hb dX0_backup_15 rfl hl rfl (by decide) rfl (fun ls hl => ?_)
    refine lv_iload_n hx hb dX0_backup_16 rfl (lv_at hl 2 rfl) ?_
    refine lv_bipush (v := nI 6) hx hb dX0_backup_17 (by decide) ?_
    refine n_lt (tgt := 25) hx hb (M.2.1 c0) (6) rfl rfl (by omega) (by omega) dX0_backup_19 (by decide) (fun q2 => ?_) (fun q2 => ?_)
    · have K49 : ∀ (mask : Int32), (∀ b, b < 16 → bt mask b = false → σ 3 c0 ≠ 0 ∧ 0 < M.2.1 c0 ∧ bt (σ 2 c0) b = false) → W p l e rmB s m args below meth c H locs 0 0 Q (F0 m 49 ls [.int mask]) := by
        intro mask hm
        have loop : ∀ (n i : Nat) (σ1 : gS) (H : Heap) (locs : List Loc) (ls : Array Slot), i ≤ 16 → 17 ≤ i + n → ((∀ k, k ≠ 9 → k ≠ 10 → σ1 k = σ k) ∧ σ1 9 = upd (σ 9) (c0 * 6 + M.2.1 c0) mask ∧ (∀ j, (j < (c0 * 6 + M.2.1 c0) * 16 ∨ (c0 * 6 + M.2.1 c0) * 16 + 16 ≤ j) → σ1 10 j = σ 10 j) ∧ ∀ b, b < i → bt mask b = true → σ1 10 ((c0 * 6 + M.2.1 c0) * 16 + b) = σ 0 b) → gH D A H0 (xw ad d z) σ1 H locs → lv_has ls 6 [(0, .ref (ad 7)), (1, .int (nI c0)), (2, .int (nI (M.2.1 c0))), (3, .int (mask)), (4, .int (nI (c0 * 6 + M.2.1 c0))), (5, .int (nI i))] → W p l e rmB s m args below meth c H locs 0 0 Q (F0 m 69 ls []) := by
          intro n
          induction n with
          | zero => intro i σ1 H locs ls h1 h2; exact absurd h2 (by omega)
          | succ n ih =>
            intro i σ1 H locs ls h1 h2 hJ X hl
            obtain ⟨j1, j2, j3, j4⟩ := hJ
            refine lv_iload hx hb dX0_backup_69 (lv_at hl 5 rfl) ?_
            refine lv_bipush (v := nI 16) hx hb dX0_backup_71 (by decide) ?_
            refine n_ge (tgt := 112) hx hb (i) (16) rfl rfl (by omega) (by omega) dX0_backup_73 (by decide) (fun q3 => ?_) (fun q3 => ?_)
            · obtain rfl : i = 16 := by omega
              refine x_tf G X hl 8 (by decide) q28 rfl rfl dX0_backup_112 dX0_backup_113 ?_
              refine lv_iload_n hx hb dX0_backup_116 rfl (lv_at hl 1 rfl) ?_
              refine lv_iload_n hx hb dX0_backup_117 rfl (lv_at hl 2 rfl) ?_
              refine lv_iconst (v := nI 1) hx hb dX0_backup_118 (by decide) ?_
              refine lv_iadd hx hb dX0_backup_119 ?_
              refine g_top (nI (M.2.1 c0 + 1)) (nI_add _ _) ?_
              refine g_st G X xk8 (c0) rfl hc dX0_backup_120 (fun H locs X => ?_)
              refine x_tf G X hl 2 (by decide) q22 rfl rfl dX0_backup_121 dX0_backup_122 ?_
              refine lv_iload_n hx hb dX0_backup_125 rfl (lv_at hl 1 rfl) ?_
              refine lv_iconst (v := nI 0) hx hb dX0_backup_126 (by decide) ?_
              refine g_st G X xk2 (c0) rfl hc dX0_backup_127 (fun H locs X => ?_)
              refine x_tf G X hl 3 (by decide) q23 rfl rfl dX0_backup_128 dX0_backup_129 ?_
              refine lv_iload_n hx hb dX0_backup_132 rfl (lv_at hl 1 rfl) ?_
              refine lv_iconst (v := nI 1) hx hb dX0_backup_133 (by decide) ?_
              refine g_zst G X xk3 (c0) rfl hc rfl dX0_backup_134 (fun H locs X => ?_)
              refine x_tf G X hl 6 (by decide) q26 rfl rfl dX0_backup_135 dX0_backup_136 ?_
              refine lv_iload_n hx hb dX0_backup_139 rfl (lv_at hl 1 rfl) ?_
              refine lv_dup2_11 hx hb dX0_backup_140 rfl rfl ?_
              refine g_ld G X xk6 (c0) rfl hc dX0_backup_141 ?_
              refine lv_iconst (v := nI 1) hx hb dX0_backup_142 (by decide) ?_
              refine lv_iadd hx hb dX0_backup_143 ?_
              refine g_st G X xk6 (c0) rfl hc dX0_backup_144 (fun H locs X => ?_)
              refine lv_aload_n hx hb dX0_backup_145 rfl (lv_at hl 0 rfl) ?_
              refine lv_iconst (v := nI 0) hx hb dX0_backup_146 (by decide) ?_
              refine x_put7 G X rfl rfl dX0_backup_147 (fun H locs X => ?_)
              refine lv_iload_n hx hb dX0_backup_150 rfl (lv_at hl 2 rfl) ?_
              exact ret _ _ _ _ _ _ X (⟨(a_backup_ok hc q2).symm, by rw [s_backup_ok hc q2]; exact RelX_backup h hc q2 hm (j1 0 (by decide) (by decide)) (congrArg (fun f => upd f c0 (nI 0)) (j1 2 (by decide) (by decide))) (congrArg (fun f => upd f c0 (nI 1)) (j1 3 (by decide) (by decide))) rfl (congrArg (fun f => upd f c0 (nI (M.2.1 c0 + 1))) (j1 8 (by decide) (by decide))) j2 j3 j4⟩) rfl dX0_backup_151
            · refine lv_iload_n hx hb dX0_backup_76 rfl (lv_at hl 3 rfl) ?_
              refine lv_iload hx hb dX0_backup_77 (lv_at hl 5 rfl) ?_
              refine lv_ishr hx hb dX0_backup_79 ?_
              refine lv_iconst (v := nI 1) hx hb dX0_backup_80 (by decide) ?_
              refine lv_iand hx hb dX0_backup_81 ?_
              refine lv_iconst (v := nI 1) hx hb dX0_backup_82 (by decide) ?_
              refine lv_icmp_ne (tgt := 106) hx hb dX0_backup_83 (by decide) (fun q4 => ?_) (fun q4 => ?_)
              · refine g_iinc (k := 5) (v := nI (i + 1)) (lv' := [(0, _), (1, _), (2, _), (3, _), (4, _), (5, _)]) hx hb dX0_backup_106 hl rfl (nI_i1 i) rfl (by decide) rfl (fun ls hl => ?_)
                refine lv_goto (tgt := 69) hx hb dX0_backup_109 (by decide) ?_
                refine ih (i + 1) σ1 H locs ls (by omega) (by omega) ⟨j1, j2, j3, fun b hb9 hbt => ?_⟩ X hl
                by_cases e9 : b = i
                · subst e9; exact absurd ((bt_get1 (by omega)).mpr hbt) q4
                · exact j4 b (by omega) hbt
              · refine x_tf G X hl 10 (by decide) q30 rfl rfl dX0_backup_86 dX0_backup_87 ?_
                refine lv_iload hx hb dX0_backup_90 (lv_at hl 4 rfl) ?_
                refine lv_bipush (v := nI 16) hx hb dX0_backup_92 (by decide) ?_
                refine lv_imul hx hb dX0_backup_94 ?_
                refine lv_iload hx hb dX0_backup_95 (lv_at hl 5 rfl) ?_
                refine lv_iadd hx hb dX0_backup_97 ?_
                refine x_tf G X hl 0 (by decide) q20 rfl rfl dX0_backup_98 dX0_backup_99 ?_
                refine lv_iload hx hb dX0_backup_102 (lv_at hl 5 rfl) ?_
                refine g_ld G X xk0 (i) rfl q3 dX0_backup_104 ?_
                refine g_st G X xk10 ((c0 * 6 + M.2.1 c0) * 16 + i) (by simp only [pk_mul, nI_add]) (by omega) dX0_backup_105 (fun H locs X => ?_)
                refine g_iinc (k := 5) (v := nI (i + 1)) (lv' := [(0, _), (1, _), (2, _), (3, _), (4, _), (5, _)]) hx hb dX0_backup_106 hl rfl (nI_i1 i) rfl (by decide) rfl (fun ls hl => ?_)
                refine lv_goto (tgt := 69) hx hb dX0_backup_109 (by decide) ?_
                refine ih (i + 1) _ H locs ls (by omega) (by omega) ⟨fun k h9 h10 => (up2_n h10).trans (j1 k h9 h10), j2, fun j hj => ?_, fun b hb9 hbt => ?_⟩ X hl
                · show upd (σ1 10) ((c0 * 6 + M.2.1 c0) * 16 + i) (σ1 0 i) j = σ 10 j
                  rw [pk_un (by omega)]
                  exact j3 j hj
                · show upd (σ1 10) ((c0 * 6 + M.2.1 c0) * 16 + i) (σ1 0 i) ((c0 * 6 + M.2.1 c0) * 16 + b) = σ 0 b
                  by_cases e9 : b = i
                  · rw [e9, pk_us, j1 0 (by decide) (by decide)]
                  · rw [pk_un (by omega)]; exact j4 b (by omega) hbt
        refine g_istn (lv' := [(0, _), (1, _), (2, _), (3, _)]) hx hb dX0_backup_49 rfl hl rfl (by decide) rfl (fun ls hl => ?_)
        refine lv_iload_n hx hb dX0_backup_50 rfl (lv_at hl 1 rfl) ?_
        refine lv_bipush (v := nI 6) hx hb dX0_backup_51 (by decide) ?_
        refine lv_imul hx hb dX0_backup_53 ?_
        refine lv_iload_n hx hb dX0_backup_54 rfl (lv_at hl 2 rfl) ?_
        refine lv_iadd hx hb dX0_backup_55 ?_
        refine g_top (nI (c0 * 6 + M.2.1 c0)) (by simp only [pk_mul, nI_add]) ?_
        refine g_ist (lv' := [(0, _), (1, _), (2, _), (3, _), (4, _)]) hx hb dX0_backup_56 hl rfl (by decide) rfl (fun ls hl => ?_)
        refine x_tf G X hl 9 (by decide) q29 rfl rfl dX0_backup_58 dX0_backup_59 ?_
        refine lv_iload hx hb dX0_backup_62 (lv_at hl 4 rfl) ?_
        refine lv_iload_n hx hb dX0_backup_64 rfl (lv_at hl 3 rfl) ?_
        refine g_st G X xk9 (c0 * 6 + M.2.1 c0) rfl (by omega) dX0_backup_65 (fun H locs X => ?_)
        refine lv_iconst (v := nI 0) hx hb dX0_backup_66 (by decide) ?_
        refine g_ist (lv' := [(0, _), (1, _), (2, _), (3, _), (4, _), (5, _)]) hx hb dX0_backup_67 hl rfl (by decide) rfl (fun ls hl => ?_)
        exact loop 17 0 _ H locs ls (by omega) (by omega) ⟨fun k h9 h10 => up2_n h9, rfl, fun j hj => rfl, fun b hb9 => absurd hb9 (Nat.not_lt_zero b)⟩ X hl
      refine lv_iload_n hx hb dX0_backup_25 rfl (lv_at hl 2 rfl) ?_
      refine lv_if_eq (tgt := 38) hx hb dX0_backup_26 (by decide) (fun q3 => ?_) (fun q3 => ?_)
      · refine lv_ldc hx hb G.2.2.2.1 (G.2.2.2.2.1 _ q75) dX0_backup_38 ?_
        refine lv_goto (tgt := 49) hx hb dX0_backup_40 (by decide) ?_
        exact K49 _ (fun b hb9 z => by rw [bt_all hb9] at z; cases z)
      · refine x_tf G X hl 3 (by decide) q23 rfl rfl dX0_backup_29 dX0_backup_30 ?_
        refine lv_iload_n hx hb dX0_backup_33 rfl (lv_at hl 1 rfl) ?_
        refine g_zld G X xk3 (c0) rfl hc dX0_backup_34 ?_
        refine lv_if_ne (tgt := 43) hx hb dX0_backup_35 (by decide) (fun q4 => ?_) (fun q4 => ?_)
        · refine x_tf G X hl 2 (by decide) q22 rfl rfl dX0_backup_43 dX0_backup_44 ?_
          refine lv_iload_n hx hb dX0_backup_47 rfl (lv_at hl 1 rfl) ?_
          refine g_ld G X xk2 (c0) rfl hc dX0_backup_48 ?_
          exact K49 _ (fun b hb9 z => ⟨q4, Nat.pos_of_ne_zero (fun e9 => q3 (by rw [e9]; rfl)), z⟩)
        · refine lv_ldc hx hb G.2.2.2.1 (G.2.2.2.2.1 _ q75) dX0_backup_38 ?_
          refine lv_goto (tgt := 49) hx hb dX0_backup_40 (by decide) ?_
          exact K49 _ (fun b hb9 z => by rw [bt_all hb9] at z; cases z)
    · refine lv_bipush (v := -3) hx hb dX0_backup_22 (by decide) ?_
      exact ret _ _ _ _ _ _ X (⟨(a_backup_full hc q2).symm, by rw [s_backup_full hc q2]; exact h⟩) rfl dX0_backup_24
  · refine lv_iconst (v := -1) hx hb dX0_backup_7 (by decide) ?_
    exact ret _ _ _ _ _ _ X (⟨(a_backup_bad (hp.2 q)).symm, by rw [s_backup_bad (hp.2 q)]; exact h⟩) rfl dX0_backup_8
end
section
theorem fa_nge {a b : Int32} (h : ¬ b ≤ a) : a < b := by
  rw [Int32.le_iff_toInt_le] at h
  rw [Int32.lt_iff_toInt_lt]
  omega
theorem fa_nle {a b : Int32} (h : ¬ a ≤ b) : b < a := fa_nge h
theorem fa_nlt {a b : Int32} (h : a ≤ b) : ¬ b < a := by
  rw [Int32.le_iff_toInt_le] at h
  rw [Int32.lt_iff_toInt_lt]
  omega
theorem fa_nlt0 {a : Int32} (h : 0 ≤ a) : ¬ a < 0 := fa_nlt h
theorem fa_lt0 {a : Int32} (h : ¬ 0 ≤ a) : a < 0 := fa_nge h
set_option maxHeartbeats 4000000 in
set_option maxRecDepth 100000 in
/-- copy(f, t, n) -/
theorem cX_copy (l : Launch) (D : va_G) (ad : Nat → Nat) (d z : ClassId) {σ : gS} {M : MS} (h : RelX σ M) (f t n0 : Int32) : gMi l yX0_copy cX0_copy 6 (some .int) rmB [.ref (ad 7), .int (f), .int (t), .int (n0)] D (xw ad d z) (xt d z) σ (fun r σ' => r = a_copy f t n0 ∧ RelX σ' (s_copy M f t n0)) := by
  refine gMi_of (by decide) (Nat.le_of_ble_eq_true rfl) ?_
  intro p e s m args below meth c A H0 Q G ret H locs ls X hl
  have G : gC RX0 6 (xt d z) p s m args c cX0_copy D := G
  have hx := G.1
  have hb := G.2.1
  have hl : lv_has ls 6 [(0, .ref (ad 7)), (1, .int (f)), (2, .int (t)), (3, .int (n0))] := hl
  have K9 : W p l e rmB s m args below meth c H locs 0 0 Q (F0 m 9 ls [.int (kcl n0)]) := by
    refine g_ist (lv' := [(0, _), (1, _), (2, _), (3, _), (4, _)]) hx hb dX0_copy_9 hl rfl (by decide) rfl (fun ls hl => ?_)
    have K31 : cpo_ f t n0 → W p l e rmB s m args below meth c H locs 0 0 Q (F0 m 31 ls []) := by
      intro ho
      refine lv_bipush (v := -2) hx hb dX0_copy_31 (by decide) ?_
      exact ret _ _ _ _ _ _ X (⟨(a_copy_out ho).symm, by rw [s_copy_out ho]; exact h⟩) rfl dX0_copy_33
    have K52 : cpo_ f t n0 → W p l e rmB s m args below meth c H locs 0 0 Q (F0 m 52 ls []) := by
      intro ho
      refine lv_bipush (v := -2) hx hb dX0_copy_52 (by decide) ?_
      exact ret _ _ _ _ _ _ X (⟨(a_copy_out ho).symm, by rw [s_copy_out ho]; exact h⟩) rfl dX0_copy_54
    refine lv_iload_n hx hb dX0_copy_11 rfl (lv_at hl 1 rfl) ?_
    refine lv_if_lt (tgt := 31) hx hb dX0_copy_12 (by decide) (fun q1 => ?_) (fun q1 => ?_)
    · exact K31 (Or.inl (Or.inl q1))
    · refine lv_iload_n hx hb dX0_copy_15 rfl (lv_at hl 1 rfl) ?_
      refine lv_bipush (v := nI 16) hx hb dX0_copy_16 (by decide) ?_
      refine lv_icmp_ge (tgt := 31) hx hb dX0_copy_18 (by decide) (fun q2 => ?_) (fun q2 => ?_)
      · exact K31 (Or.inl (Or.inr q2))
      · refine lv_iload_n hx hb dX0_copy_21 rfl (lv_at hl 2 rfl) ?_
        refine lv_if_lt (tgt := 31) hx hb dX0_copy_22 (by decide) (fun q3 => ?_) (fun q3 => ?_)
        · exact K31 (Or.inr (Or.inl (Or.inl q3)))
        · refine lv_iload_n hx hb dX0_copy_25 rfl (lv_at hl 2 rfl) ?_
          refine lv_bipush (v := nI 16) hx hb dX0_copy_26 (by decide) ?_
          refine lv_icmp_lt (tgt := 34) hx hb dX0_copy_28 (by decide) (fun q4 => ?_) (fun q4 => ?_)
          · refine lv_iload hx hb dX0_copy_34 (lv_at hl 4 rfl) ?_
            refine lv_bipush (v := nI 16) hx hb dX0_copy_36 (by decide) ?_
            refine lv_iload_n hx hb dX0_copy_38 rfl (lv_at hl 1 rfl) ?_
            refine lv_isub hx hb dX0_copy_39 ?_
            refine lv_icmp_gt (tgt := 52) hx hb dX0_copy_40 (by decide) (fun q5 => ?_) (fun q5 => ?_)
            · exact K52 (Or.inr (Or.inr (Or.inl q5)))
            · refine lv_iload hx hb dX0_copy_43 (lv_at hl 4 rfl) ?_
              refine lv_bipush (v := nI 16) hx hb dX0_copy_45 (by decide) ?_
              refine lv_iload_n hx hb dX0_copy_47 rfl (lv_at hl 2 rfl) ?_
              refine lv_isub hx hb dX0_copy_48 ?_
              refine lv_icmp_le (tgt := 55) hx hb dX0_copy_49 (by decide) (fun q6 => ?_) (fun q6 => ?_)
              · obtain ⟨a, ha, rfl⟩ := blk_of q1 (fa_nge q2)
                obtain ⟨b, hb16, rfl⟩ := blk_of q3 q4
                obtain ⟨k, hk1, ek⟩ := kcl_of ha q5
                obtain ⟨k2, hk2, ek2⟩ := kcl_of hb16 (fa_nlt q6)
                have e12 : k = k2 := (nI_eq (by omega) (by omega)).mp (ek.symm.trans ek2)
                rw [← e12] at hk2
                rw [ek] at hl
                have loop2 : ∀ (n i : Nat) (σ1 : gS) (H : Heap) (locs : List Loc) (ls : Array Slot), i ≤ k → k + 1 ≤ i + n → (RelX σ1 (dk_ M.1 a b i, M.2) ∧ ∀ j, j < k → σ1 1 j = M.1 (a + j)) → gH D A H0 (xw ad d z) σ1 H locs → lv_has ls 6 [(0, .ref (ad 7)), (1, .int (nI a)), (2, .int (nI b)), (3, .int (n0)), (4, .int (nI k)), (5, .int (nI i))] → W p l e rmB s m args below meth c H locs 0 0 Q (F0 m 90 ls []) := by
                  intro n
                  induction n with
                  | zero => intro i σ1 H locs ls h1 h2; exact absurd h2 (by omega)
                  | succ n ih =>
                    intro i σ1 H locs ls h1 h2 hJ X hl
                    refine lv_iload hx hb dX0_copy_90 (lv_at hl 5 rfl) ?_
                    refine lv_iload hx hb dX0_copy_92 (lv_at hl 4 rfl) ?_
                    refine n_ge (tgt := 118) hx hb (i) (k) rfl rfl (by omega) (by omega) dX0_copy_94 (by decide) (fun q7 => ?_) (fun q7 => ?_)
                    · obtain rfl : i = k := by omega
                      refine lv_iload hx hb dX0_copy_118 (lv_at hl 4 rfl) ?_
                      exact ret _ _ _ _ _ _ X (⟨(a_copy_in ha hb16 hk1 hk2 ek).symm, by rw [s_copy_in ha hb16 hk1 hk2 ek]; exact hJ.1⟩) rfl dX0_copy_120
                    · refine lv_aload_n hx hb dX0_copy_97 rfl (lv_at hl 0 rfl) ?_
                      refine lv_iload_n hx hb dX0_copy_98 rfl (lv_at hl 2 rfl) ?_
                      refine lv_iload hx hb dX0_copy_99 (lv_at hl 5 rfl) ?_
                      refine lv_iadd hx hb dX0_copy_101 ?_
                      refine g_top (nI (b + i)) (by simp only [pk_mul, nI_add]) ?_
                      refine x_tf G X hl 1 (by decide) q21 rfl rfl dX0_copy_102 dX0_copy_103 ?_
                      refine lv_iload hx hb dX0_copy_106 (lv_at hl 5 rfl) ?_
                      refine g_ld G X xk1 (i) rfl (by omega) dX0_copy_108 ?_
                      refine g_callv (n := 2) (rest := []) (q0 := 7) G X (cX_store l D ad d z hJ.1 (by omega : b + i < 16) _) (lw_V q60 q62 qs0 q10 q63) (by decide +kernel) ⟨rfl, rfl⟩ ⟨Nat.le_of_ble_eq_true rfl, Nat.le_of_ble_eq_true rfl⟩ rfl rfl rfl rfl hl.1 rfl (Nat.le_of_ble_eq_true rfl) dX0_copy_109 ⟨Nat.zero_le _, Nat.zero_le _⟩ (fun σ2 H locs hp X => ?_)
                      rw [hJ.2 i q7, dk_step] at hp
                      refine g_iinc (k := 5) (v := nI (i + 1)) (lv' := [(0, _), (1, _), (2, _), (3, _), (4, _), (5, _)]) hx hb dX0_copy_112 hl rfl (nI_i1 i) rfl (by decide) rfl (fun ls hl => ?_)
                      refine lv_goto (tgt := 90) hx hb dX0_copy_115 (by decide) ?_
                      exact ih (i + 1) σ2 H locs ls (by omega) (by omega) ⟨hp.1, fun j hj => by rw [hp.2]; exact hJ.2 j hj⟩ X hl
                have loop1 : ∀ (n i : Nat) (σ1 : gS) (H : Heap) (locs : List Loc) (ls : Array Slot), i ≤ k → k + 1 ≤ i + n → (RelX σ1 M ∧ ∀ j, j < i → σ1 1 j = M.1 (a + j)) → gH D A H0 (xw ad d z) σ1 H locs → lv_has ls 6 [(0, .ref (ad 7)), (1, .int (nI a)), (2, .int (nI b)), (3, .int (n0)), (4, .int (nI k)), (5, .int (nI i))] → W p l e rmB s m args below meth c H locs 0 0 Q (F0 m 58 ls []) := by
                  intro n
                  induction n with
                  | zero => intro i σ1 H locs ls h1 h2; exact absurd h2 (by omega)
                  | succ n ih =>
                    intro i σ1 H locs ls h1 h2 hJ X hl
                    refine lv_iload hx hb dX0_copy_58 (lv_at hl 5 rfl) ?_
                    refine lv_iload hx hb dX0_copy_60 (lv_at hl 4 rfl) ?_
                    refine n_ge (tgt := 87) hx hb (i) (k) rfl rfl (by omega) (by omega) dX0_copy_62 (by decide) (fun q7 => ?_) (fun q7 => ?_)
                    · obtain rfl : i = k := by omega
                      refine lv_iconst (v := nI 0) hx hb dX0_copy_87 (by decide) ?_
                      refine g_ist (lv' := [(0, _), (1, _), (2, _), (3, _), (4, _), (5, _)]) hx hb dX0_copy_88 hl rfl (by decide) rfl (fun ls hl => ?_)
                      exact loop2 (i + 1) 0 σ1 H locs ls (by omega) (by omega) ⟨by rw [dk_0]; exact hJ.1, hJ.2⟩ X hl
                    · refine x_tf G X hl 1 (by decide) q21 rfl rfl dX0_copy_65 dX0_copy_66 ?_
                      refine lv_iload hx hb dX0_copy_69 (lv_at hl 5 rfl) ?_
                      refine x_tf G X hl 0 (by decide) q20 rfl rfl dX0_copy_71 dX0_copy_72 ?_
                      refine lv_iload_n hx hb dX0_copy_75 rfl (lv_at hl 1 rfl) ?_
                      refine lv_iload hx hb dX0_copy_76 (lv_at hl 5 rfl) ?_
                      refine lv_iadd hx hb dX0_copy_78 ?_
                      refine g_ld G X xk0 (a + i) (by simp only [pk_mul, nI_add]) (by omega) dX0_copy_79 ?_
                      refine g_st G X xk1 (i) rfl (by omega) dX0_copy_80 (fun H locs X => ?_)
                      refine g_iinc (k := 5) (v := nI (i + 1)) (lv' := [(0, _), (1, _), (2, _), (3, _), (4, _), (5, _)]) hx hb dX0_copy_81 hl rfl (nI_i1 i) rfl (by decide) rfl (fun ls hl => ?_)
                      refine lv_goto (tgt := 58) hx hb dX0_copy_84 (by decide) ?_
                      refine ih (i + 1) _ H locs ls (by omega) (by omega) ⟨by exact RelX_same hJ.1 rfl rfl rfl rfl rfl rfl rfl rfl, fun j hj => ?_⟩ X hl
                      show upd (σ1 1) i (σ1 0 (a + i)) j = M.1 (a + j)
                      by_cases e9 : j = i
                      · rw [e9, pk_us]; exact hJ.1.1 (a + i) (by omega)
                      · rw [pk_un e9]; exact hJ.2 j (by omega)
                refine lv_iconst (v := nI 0) hx hb dX0_copy_55 (by decide) ?_
                refine g_ist (lv' := [(0, _), (1, _), (2, _), (3, _), (4, _), (5, _)]) hx hb dX0_copy_56 hl rfl (by decide) rfl (fun ls hl => ?_)
                exact loop1 (k + 1) 0 σ H locs ls (by omega) (by omega) ⟨h, fun j hj => absurd hj (Nat.not_lt_zero j)⟩ X hl
              · exact K52 (Or.inr (Or.inr (Or.inr (fa_nle q6))))
          · exact K31 (Or.inr (Or.inl (out_of q4)))
  refine lv_iload_n hx hb dX0_copy_0 rfl (lv_at hl 3 rfl) ?_
  refine lv_if_ge (tgt := 8) hx hb dX0_copy_1 (by decide) (fun q => ?_) (fun q => ?_)
  · refine lv_iload_n hx hb dX0_copy_8 rfl (lv_at hl 3 rfl) ?_
    refine g_top (kcl n0) (kcl_pos (fa_nlt0 q)) ?_
    exact K9
  · refine lv_iconst (v := nI 0) hx hb dX0_copy_4 (by decide) ?_
    refine lv_goto (tgt := 9) hx hb dX0_copy_5 (by decide) ?_
    refine g_top (kcl n0) (kcl_neg (fa_lt0 q)) ?_
    exact K9
end
section
/-- images moved down: of the images from a to below i each holds what the next one held -/
def mvd (a : Nat) (σs : gS) (i : Nat) (σ1 : gS) : Prop :=
  (∀ j, j ≠ 9 → j ≠ 10 → σ1 j = σs j) ∧ (∀ j, a ≤ j → j < i → σ1 9 j = σs 9 (j + 1)) ∧ (∀ j, (j < a ∨ i ≤ j) → σ1 9 j = σs 9 j) ∧ (∀ j, a ≤ j → j < i → ∀ b, b < 16 → σ1 10 (j * 16 + b) = σs 10 ((j + 1) * 16 + b)) ∧ ∀ j, (j < a * 16 ∨ i * 16 ≤ j) → σ1 10 j = σs 10 j
theorem mvd_0 (a : Nat) (σ : gS) : mvd a σ a σ := ⟨fun _ _ _ => rfl, fun _ h1 h2 => by omega, fun _ _ => rfl, fun _ h1 h2 => by omega, fun _ _ => rfl⟩
theorem mvd_s {a i : Nat} {σs σ1 σ2 : gS} (hai : a ≤ i) (h : mvd a σs i σ1) (g1 : ∀ k, k ≠ 9 → k ≠ 10 → σ2 k = σ1 k) (g2 : σ2 9 = upd (σ1 9) i (σ1 9 (i + 1))) (g3 : ∀ j, (j < i * 16 ∨ i * 16 + 16 ≤ j) → σ2 10 j = σ1 10 j) (g4 : ∀ b, b < 16 → σ2 10 (i * 16 + b) = σ1 10 ((i + 1) * 16 + b)) : mvd a σs (i + 1) σ2 := by
  obtain ⟨h1, h2, h3, h4, h5⟩ := h
  refine ⟨fun j a1 a2 => (g1 j a1 a2).trans (h1 j a1 a2), fun j a1 a2 => ?_, fun j a1 => ?_, fun j a1 a2 b hb => ?_, fun j a1 => ?_⟩
  · rw [g2]
    by_cases e : j = i
    · rw [e, pk_us]
      exact h3 _ (by omega)
    · rw [pk_un e]
      exact h2 j a1 (by omega)
  · rw [g2, pk_un (by omega)]
    exact h3 j (by omega)
  · by_cases e : j = i
    · rw [e, g4 b hb]
      exact h5 _ (by omega)
    · rw [g3 _ (by omega)]
      exact h4 j a1 (by omega) b hb
  · rw [g3 _ (by omega)]
    exact h5 j (by omega)
/-- the blocks that the next image lacks, copied up to i -/
def mrg (a : Nat) (ms : Int32) (σ : gS) (i : Nat) (σ1 : gS) : Prop :=
  (∀ j, j ≠ 10 → σ1 j = σ j) ∧ (∀ j, (j < (a + 1) * 16 ∨ (a + 1) * 16 + 16 ≤ j) → σ1 10 j = σ 10 j) ∧ ∀ b, b < 16 → σ1 10 ((a + 1) * 16 + b) = if b < i ∧ bt ms b = true then σ 10 (a * 16 + b) else σ 10 ((a + 1) * 16 + b)
theorem mrg_0 (a : Nat) (ms : Int32) (σ : gS) : mrg a ms σ 0 σ := ⟨fun _ _ => rfl, fun _ _ => rfl, fun b _ => (if_neg (by omega)).symm⟩
theorem mrg_no {a i : Nat} {ms : Int32} {σ σ1 : gS} (h : mrg a ms σ i σ1) (hb : bt ms i = false) : mrg a ms σ (i + 1) σ1 := by
  refine ⟨h.1, h.2.1, fun b hb9 => ?_⟩
  rw [h.2.2 b hb9]
  by_cases e : b = i
  · rw [e, hb, if_neg (by omega), if_neg (by simp)]
  · by_cases e2 : b < i ∧ bt ms b = true
    · rw [if_pos e2, if_pos ⟨by omega, e2.2⟩]
    · rw [if_neg e2, if_neg (fun q => e2 ⟨by omega, q.2⟩)]
theorem mrg_yes {a i : Nat} {ms : Int32} {σ σ1 : gS} (hi : i < 16) (h : mrg a ms σ i σ1) (hb : bt ms i = true) : mrg a ms σ (i + 1) (up2 σ1 10 (upd (σ1 10) ((a + 1) * 16 + i) (σ1 10 (a * 16 + i)))) := by
  refine ⟨fun j hj => (up2_n hj).trans (h.1 j hj), fun j hj => ?_, fun b hb9 => ?_⟩
  · show upd (σ1 10) ((a + 1) * 16 + i) (σ1 10 (a * 16 + i)) j = σ 10 j
    rw [pk_un (by omega)]
    exact h.2.1 j hj
  · show upd (σ1 10) ((a + 1) * 16 + i) (σ1 10 (a * 16 + i)) ((a + 1) * 16 + b) = _
    by_cases e : b = i
    · rw [e, pk_us, if_pos ⟨by omega, hb⟩]
      exact h.2.1 _ (by omega)
    · rw [pk_un (by omega), h.2.2 b hb9]
      by_cases e2 : b < i ∧ bt ms b = true
      · rw [if_pos e2, if_pos ⟨by omega, e2.2⟩]
      · rw [if_neg e2, if_neg (fun q => e2 ⟨by omega, q.2⟩)]
/-- takeOut of an image that isn't the newest: the whole -/
theorem tk_mid {σ σ1 σ2 : gS} {M : MS} {c0 k : Nat} (h : RelX σ M) (hc : c0 < 2) (hk : k + 1 < M.2.1 c0) (h1 : mrg (c0 * 6 + k) (σ 9 (c0 * 6 + k) &&& (σ 9 (c0 * 6 + k + 1) ^^^ (-1))) σ 16 σ1)
    (h2 : mvd (c0 * 6 + k) (up2 σ1 9 (upd (σ1 9) (c0 * 6 + k + 1) (σ1 9 (c0 * 6 + k + 1) ||| (σ 9 (c0 * 6 + k) &&& (σ 9 (c0 * 6 + k + 1) ^^^ (-1)))))) (c0 * 6 + (M.2.1 c0 - 1)) σ2) : RelX (up2 σ2 8 (upd (σ2 8) c0 (nI (M.2.1 c0 - 1)))) (s_drop0 M c0 k) := by
  have h6 := (h.2.1 c0 hc).1
  obtain ⟨a1, a2, a3⟩ := h1
  obtain ⟨b1, b2, b3, b4, b5⟩ := h2
  have k9 : ∀ j, j ≠ c0 * 6 + k + 1 → (up2 σ1 9 (upd (σ1 9) (c0 * 6 + k + 1) (σ1 9 (c0 * 6 + k + 1) ||| (σ 9 (c0 * 6 + k) &&& (σ 9 (c0 * 6 + k + 1) ^^^ (-1)))))) 9 j = σ 9 j := by
    intro j hj
    show upd (σ1 9) (c0 * 6 + k + 1) _ j = σ 9 j
    rw [pk_un hj, a1 9 (by decide)]
  refine RelX_drop h hc hk ?_ ?_ ?_ ?_ ?_ ?_ ?_ ?_ ?_ ?_ ?_ ?_
  · exact (b1 0 (by decide) (by decide)).trans (a1 0 (by decide))
  · exact (b1 2 (by decide) (by decide)).trans (a1 2 (by decide))
  · exact (b1 3 (by decide) (by decide)).trans (a1 3 (by decide))
  · exact (b1 4 (by decide) (by decide)).trans (a1 4 (by decide))
  · exact congrFun ((b1 7 (by decide) (by decide)).trans (a1 7 (by decide))) 0
  · show upd (σ2 8) c0 (nI (M.2.1 c0 - 1)) = upd (σ 8) c0 (nI (M.2.1 c0 - 1))
    rw [show σ2 8 = σ 8 from (b1 8 (by decide) (by decide)).trans (a1 8 (by decide))]
  · intro j hj
    show σ2 9 j = σ 9 j
    rw [b3 j (by omega)]
    exact k9 j (by omega)
  · intro j hj
    show σ2 10 j = σ 10 j
    rw [b5 j (by omega)]
    exact a2 j (by omega)
  · intro b hb
    show bt (σ2 9 (c0 * 6 + k)) b = _
    rw [b2 _ (Nat.le_refl _) (by omega)]
    show bt (upd (σ1 9) (c0 * 6 + k + 1) (σ1 9 (c0 * 6 + k + 1) ||| (σ 9 (c0 * 6 + k) &&& (σ 9 (c0 * 6 + k + 1) ^^^ (-1)))) (c0 * 6 + k + 1)) b = _
    rw [pk_us, a1 9 (by decide), b_or, b_and, bt_not _ (by omega)]
    cases bt (σ 9 (c0 * 6 + k + 1)) b <;> cases bt (σ 9 (c0 * 6 + k)) b <;> rfl
  · intro b hb
    show σ2 10 ((c0 * 6 + k) * 16 + b) = _
    rw [b4 _ (Nat.le_refl _) (by omega) b hb]
    show σ1 10 ((c0 * 6 + k + 1) * 16 + b) = _
    rw [a3 b hb, b_and, bt_not _ (by omega)]
    cases bt (σ 9 (c0 * 6 + k + 1)) b <;> cases bt (σ 9 (c0 * 6 + k)) b <;> simp [hb]
  · intro i h1 h2
    show σ2 9 (c0 * 6 + i) = _
    rw [b2 _ (by omega) (by omega)]
    exact k9 _ (by omega)
  · intro i h1 h2 b hb
    show σ2 10 ((c0 * 6 + i) * 16 + b) = _
    rw [b4 _ (by omega) (by omega) b hb]
    exact a2 _ (by omega)
set_option maxHeartbeats 4000000 in
set_option maxRecDepth 100000 in
/-- takeOut(c, k) -/
theorem cX_take (l : Launch) (D : va_G) (ad : Nat → Nat) (d z : ClassId) {σ : gS} {M : MS} (h : RelX σ M) {c0 k : Nat} (hc : c0 < 2) (hk : k < M.2.1 c0) : gMi l yX0_takeOut cX0_takeOut 7 (some .int) rmB [.ref (ad 7), .int (nI c0), .int (nI k)] D (xw ad d z) (xt d z) σ (fun r σ' => r = nI (M.2.1 c0 - 1) ∧ RelX σ' (s_drop0 M c0 k)) := by
  obtain ⟨h6, h8⟩ := h.2.1 c0 hc
  refine gMi_of (by decide) (Nat.le_of_ble_eq_true rfl) ?_
  intro p e s m args below meth c A H0 Q G ret H locs ls X hl
  have G : gC RX0 7 (xt d z) p s m args c cX0_takeOut D := G
  have hx := G.1
  have hb := G.2.1
  have hl : lv_has ls 7 [(0, .ref (ad 7)), (1, .int (nI c0)), (2, .int (nI k))] := hl
  have L150 : ∀ (σs : gS), (∀ σ1, mvd (c0 * 6 + k) σs (c0 * 6 + (M.2.1 c0 - 1)) σ1 → RelX (up2 σ1 8 (upd (σ1 8) c0 (nI (M.2.1 c0 - 1)))) (s_drop0 M c0 k)) → ∀ (n i : Nat) (σ1 : gS) (H : Heap) (locs : List Loc) (ls : Array Slot), (c0 * 6 + k) ≤ i → i ≤ c0 * 6 + (M.2.1 c0 - 1) → c0 * 6 + (M.2.1 c0 - 1) + 1 ≤ i + n → mvd (c0 * 6 + k) σs i σ1 → gH D A H0 (xw ad d z) σ1 H locs → lv_has ls 7 [(0, .ref (ad 7)), (1, .int (nI c0)), (2, .int (nI k)), (3, .int (nI (M.2.1 c0 - 1))), (4, .int (nI (c0 * 6 + k))), (5, .int (nI i))] → W p l e rmB s m args below meth c H locs 0 0 Q (F0 m 150 ls []) := by
    intro σs hfin n
    induction n with
    | zero => intro i σ1 H locs ls h0 h1 h2; exact absurd h2 (by omega)
    | succ n ih =>
      intro i σ1 H locs ls h0 h1 h2 hJ X hl
      refine lv_iload hx hb dX0_takeOut_150 (lv_at hl 5 rfl) ?_
      refine lv_iload_n hx hb dX0_takeOut_152 rfl (lv_at hl 1 rfl) ?_
      refine lv_bipush (v := nI 6) hx hb dX0_takeOut_153 (by decide) ?_
      refine lv_imul hx hb dX0_takeOut_155 ?_
      refine lv_iload_n hx hb dX0_takeOut_156 rfl (lv_at hl 3 rfl) ?_
      refine lv_iadd hx hb dX0_takeOut_157 ?_
      refine n_ge (tgt := 177) hx hb (i) (c0 * 6 + (M.2.1 c0 - 1)) rfl (by simp only [pk_mul, nI_add]) (by omega) (by omega) dX0_takeOut_158 (by decide) (fun q => ?_) (fun q => ?_)
      · obtain rfl : i = c0 * 6 + (M.2.1 c0 - 1) := by omega
        refine x_tf G X hl 8 (by decide) q28 rfl rfl dX0_takeOut_177 dX0_takeOut_178 ?_
        refine lv_iload_n hx hb dX0_takeOut_181 rfl (lv_at hl 1 rfl) ?_
        refine lv_iload_n hx hb dX0_takeOut_182 rfl (lv_at hl 3 rfl) ?_
        refine g_st G X xk8 (c0) rfl hc dX0_takeOut_183 (fun H locs X => ?_)
        refine lv_iload_n hx hb dX0_takeOut_184 rfl (lv_at hl 3 rfl) ?_
        exact ret _ _ _ _ _ _ X (⟨rfl, hfin _ hJ⟩) rfl dX0_takeOut_185
      · refine lv_aload_n hx hb dX0_takeOut_161 rfl (lv_at hl 0 rfl) ?_
        refine lv_iload hx hb dX0_takeOut_162 (lv_at hl 5 rfl) ?_
        refine lv_iconst (v := nI 1) hx hb dX0_takeOut_164 (by decide) ?_
        refine lv_iadd hx hb dX0_takeOut_165 ?_
        refine g_top (nI (i + 1)) (by simp only [pk_mul, nI_add]) ?_
        refine lv_iload hx hb dX0_takeOut_166 (lv_at hl 5 rfl) ?_
        refine g_callv (n := 2) (rest := []) (q0 := 7) G X (cX_move l D ad d z (by omega : i + 1 < 12) (by omega : i < 12) (by omega)) (lw_V q96 q98 qs4 q10 q99) (by decide +kernel) ⟨rfl, rfl⟩ ⟨Nat.le_of_ble_eq_true rfl, Nat.le_of_ble_eq_true rfl⟩ rfl rfl rfl rfl hl.1 rfl (Nat.le_of_ble_eq_true rfl) dX0_takeOut_168 ⟨Nat.zero_le _, Nat.zero_le _⟩ (fun σ2 H locs hp X => ?_)
        refine g_iinc (k := 5) (v := nI (i + 1)) (lv' := [(0, _), (1, _), (2, _), (3, _), (4, _), (5, _)]) hx hb dX0_takeOut_171 hl rfl (nI_i1 i) rfl (by decide) rfl (fun ls hl => ?_)
        refine lv_goto (tgt := 150) hx hb dX0_takeOut_174 (by decide) ?_
        exact ih (i + 1) σ2 H locs ls (by omega) (by omega) (by omega) (mvd_s h0 hJ hp.1 hp.2.1 hp.2.2.1 hp.2.2.2) X hl
  refine x_tf G X hl 8 (by decide) q28 rfl rfl dX0_takeOut_0 dX0_takeOut_1 ?_
  refine lv_iload_n hx hb dX0_takeOut_4 rfl (lv_at hl 1 rfl) ?_
  refine g_ld G X xk8 (c0) rfl hc dX0_takeOut_5 ?_
  refine g_top (nI (M.2.1 c0)) h8 ?_
  refine lv_iconst (v := nI 1) hx hb dX0_takeOut_6 (by decide) ?_
  refine lv_isub hx hb dX0_takeOut_7 ?_
  refine g_top (nI (M.2.1 c0 - 1)) (pk_sub (by omega)) ?_
  refine g_istn (lv' := [(0, _), (1, _), (2, _), (3, _)]) hx hb dX0_takeOut_8 rfl hl rfl (by decide) rfl (fun ls hl => ?_)
  refine lv_iload_n hx hb dX0_takeOut_9 rfl (lv_at hl 1 rfl) ?_
  refine lv_bipush (v := nI 6) hx hb dX0_takeOut_10 (by decide) ?_
  refine lv_imul hx hb dX0_takeOut_12 ?_
  refine lv_iload_n hx hb dX0_takeOut_13 rfl (lv_at hl 2 rfl) ?_
  refine lv_iadd hx hb dX0_takeOut_14 ?_
  refine g_top (nI (c0 * 6 + k)) (by simp only [pk_mul, nI_add]) ?_
  refine g_ist (lv' := [(0, _), (1, _), (2, _), (3, _), (4, _)]) hx hb dX0_takeOut_15 hl rfl (by decide) rfl (fun ls hl => ?_)
  refine lv_iload_n hx hb dX0_takeOut_17 rfl (lv_at hl 2 rfl) ?_
  refine lv_iload_n hx hb dX0_takeOut_18 rfl (lv_at hl 3 rfl) ?_
  refine n_ge (tgt := 115) hx hb (k) ((M.2.1 c0 - 1)) rfl rfl (by omega) (by omega) dX0_takeOut_19 (by decide) (fun q => ?_) (fun q => ?_)
  · have ek : k + 1 = M.2.1 c0 := by omega
    refine x_tf G X hl 2 (by decide) q22 rfl rfl dX0_takeOut_115 dX0_takeOut_116 ?_
    refine lv_iload_n hx hb dX0_takeOut_119 rfl (lv_at hl 1 rfl) ?_
    refine lv_dup2_11 hx hb dX0_takeOut_120 rfl rfl ?_
    refine g_ld G X xk2 (c0) rfl hc dX0_takeOut_121 ?_
    refine x_tf G X hl 9 (by decide) q29 rfl rfl dX0_takeOut_122 dX0_takeOut_123 ?_
    refine lv_iload hx hb dX0_takeOut_126 (lv_at hl 4 rfl) ?_
    refine g_ld G X xk9 (c0 * 6 + k) rfl (by omega) dX0_takeOut_128 ?_
    refine lv_ior hx hb dX0_takeOut_129 ?_
    refine g_st G X xk2 (c0) rfl hc dX0_takeOut_130 (fun H locs X => ?_)
    refine x_tf G X hl 6 (by decide) q26 rfl rfl dX0_takeOut_131 dX0_takeOut_132 ?_
    refine lv_iload_n hx hb dX0_takeOut_135 rfl (lv_at hl 1 rfl) ?_
    refine lv_dup2_11 hx hb dX0_takeOut_136 rfl rfl ?_
    refine g_ld G X xk6 (c0) rfl hc dX0_takeOut_137 ?_
    refine lv_iconst (v := nI 1) hx hb dX0_takeOut_138 (by decide) ?_
    refine lv_iadd hx hb dX0_takeOut_139 ?_
    refine g_st G X xk6 (c0) rfl hc dX0_takeOut_140 (fun H locs X => ?_)
    refine lv_aload_n hx hb dX0_takeOut_141 rfl (lv_at hl 0 rfl) ?_
    refine lv_iconst (v := nI 0) hx hb dX0_takeOut_142 (by decide) ?_
    refine x_put7 G X rfl rfl dX0_takeOut_143 (fun H locs X => ?_)
    refine lv_iload hx hb dX0_takeOut_146 (lv_at hl 4 rfl) ?_
    refine g_ist (lv' := [(0, _), (1, _), (2, _), (3, _), (4, _), (5, _)]) hx hb dX0_takeOut_148 hl rfl (by decide) rfl (fun ls hl => ?_)
    refine L150 _ (fun σ1 hJ => ?_) (c0 * 6 + (M.2.1 c0 - 1) + 1) (c0 * 6 + k) _ H locs ls (Nat.le_refl _) (by omega) (by omega) (mvd_0 _ _) X hl
    obtain ⟨b1, b2, b3, b4, b5⟩ := hJ
    refine RelX_dropLast h hc ek (b1 0 (by decide) (by decide)) (b1 2 (by decide) (by decide)) (b1 3 (by decide) (by decide)) ?_ ?_ ?_ ?_
    · exact congrFun (b1 7 (by decide) (by decide)) 0
    · show upd (σ1 8) c0 (nI (M.2.1 c0 - 1)) = upd (σ 8) c0 (nI (M.2.1 c0 - 1))
      rw [show σ1 8 = σ 8 from b1 8 (by decide) (by decide)]
    · funext j
      exact b3 j (by omega)
    · funext j
      exact b5 j (by omega)
  · refine x_tf G X hl 9 (by decide) q29 rfl rfl dX0_takeOut_22 dX0_takeOut_23 ?_
    refine lv_iload hx hb dX0_takeOut_26 (lv_at hl 4 rfl) ?_
    refine g_ld G X xk9 (c0 * 6 + k) rfl (by omega) dX0_takeOut_28 ?_
    refine x_tf G X hl 9 (by decide) q29 rfl rfl dX0_takeOut_29 dX0_takeOut_30 ?_
    refine lv_iload hx hb dX0_takeOut_33 (lv_at hl 4 rfl) ?_
    refine lv_iconst (v := nI 1) hx hb dX0_takeOut_35 (by decide) ?_
    refine lv_iadd hx hb dX0_takeOut_36 ?_
    refine g_ld G X xk9 (c0 * 6 + k + 1) (by simp only [pk_mul, nI_add]) (by omega) dX0_takeOut_37 ?_
    refine lv_iconst (v := -1) hx hb dX0_takeOut_38 (by decide) ?_
    refine lv_ixor hx hb dX0_takeOut_39 ?_
    refine lv_iand hx hb dX0_takeOut_40 ?_
    refine g_ist (lv' := [(0, _), (1, _), (2, _), (3, _), (4, _), (5, _)]) hx hb dX0_takeOut_41 hl rfl (by decide) rfl (fun ls hl => ?_)
    have loop : ∀ (n i : Nat) (σ1 : gS) (H : Heap) (locs : List Loc) (ls : Array Slot), i ≤ 16 → 17 ≤ i + n → mrg (c0 * 6 + k) (σ 9 (c0 * 6 + k) &&& (σ 9 (c0 * 6 + k + 1) ^^^ (-1))) σ i σ1 → gH D A H0 (xw ad d z) σ1 H locs → lv_has ls 7 [(0, .ref (ad 7)), (1, .int (nI c0)), (2, .int (nI k)), (3, .int (nI (M.2.1 c0 - 1))), (4, .int (nI (c0 * 6 + k))), (5, .int ((σ 9 (c0 * 6 + k) &&& (σ 9 (c0 * 6 + k + 1) ^^^ (-1))))), (6, .int (nI i))] → W p l e rmB s m args below meth c H locs 0 0 Q (F0 m 46 ls []) := by
      intro n
      induction n with
      | zero => intro i σ1 H locs ls h1 h2; exact absurd h2 (by omega)
      | succ n ih =>
        intro i σ1 H locs ls h1 h2 hJ X hl
        refine lv_iload hx hb dX0_takeOut_46 (lv_at hl 6 rfl) ?_
        refine lv_bipush (v := nI 16) hx hb dX0_takeOut_48 (by decide) ?_
        refine n_ge (tgt := 98) hx hb (i) (16) rfl rfl (by omega) (by omega) dX0_takeOut_50 (by decide) (fun q2 => ?_) (fun q2 => ?_)
        · obtain rfl : i = 16 := by omega
          refine x_tf G X hl 9 (by decide) q29 rfl rfl dX0_takeOut_98 dX0_takeOut_99 ?_
          refine lv_iload hx hb dX0_takeOut_102 (lv_at hl 4 rfl) ?_
          refine lv_iconst (v := nI 1) hx hb dX0_takeOut_104 (by decide) ?_
          refine lv_iadd hx hb dX0_takeOut_105 ?_
          refine lv_dup2_11 hx hb dX0_takeOut_106 rfl rfl ?_
          refine g_ld G X xk9 (c0 * 6 + k + 1) (by simp only [pk_mul, nI_add]) (by omega) dX0_takeOut_107 ?_
          refine lv_iload hx hb dX0_takeOut_108 (lv_at hl 5 rfl) ?_
          refine lv_ior hx hb dX0_takeOut_110 ?_
          refine g_st G X xk9 (c0 * 6 + k + 1) (by simp only [pk_mul, nI_add]) (by omega) dX0_takeOut_111 (fun H locs X => ?_)
          refine lv_goto (tgt := 146) hx hb dX0_takeOut_112 (by decide) ?_
          refine lv_iload hx hb dX0_takeOut_146 (lv_at hl 4 rfl) ?_
          refine g_ist (lv' := [(0, _), (1, _), (2, _), (3, _), (4, _), (5, _), (6, _)]) hx hb dX0_takeOut_148 hl rfl (by decide) rfl (fun ls hl => ?_)
          exact L150 _ (fun σ2 hJ2 => tk_mid h hc (by omega) hJ hJ2) (c0 * 6 + (M.2.1 c0 - 1) + 1) (c0 * 6 + k) _ H locs ls (Nat.le_refl _) (by omega) (by omega) (mvd_0 _ _) X (lv_sub hl [0, 1, 2, 3, 4, 5] rfl)
        · refine lv_iload hx hb dX0_takeOut_53 (lv_at hl 5 rfl) ?_
          refine lv_iload hx hb dX0_takeOut_55 (lv_at hl 6 rfl) ?_
          refine lv_ishr hx hb dX0_takeOut_57 ?_
          refine lv_iconst (v := nI 1) hx hb dX0_takeOut_58 (by decide) ?_
          refine lv_iand hx hb dX0_takeOut_59 ?_
          refine lv_iconst (v := nI 1) hx hb dX0_takeOut_60 (by decide) ?_
          refine lv_icmp_ne (tgt := 92) hx hb dX0_takeOut_61 (by decide) (fun q3 => ?_) (fun q3 => ?_)
          · have hJ := mrg_no hJ (by cases z : bt (σ 9 (c0 * 6 + k) &&& (σ 9 (c0 * 6 + k + 1) ^^^ (-1))) i; rfl; exact absurd ((bt_get1 (by omega)).mpr z) q3)
            refine g_iinc (k := 6) (v := nI (i + 1)) (lv' := [(0, _), (1, _), (2, _), (3, _), (4, _), (5, _), (6, _)]) hx hb dX0_takeOut_92 hl rfl (nI_i1 i) rfl (by decide) rfl (fun ls hl => ?_)
            refine lv_goto (tgt := 46) hx hb dX0_takeOut_95 (by decide) ?_
            exact ih (i + 1) σ1 H locs ls (by omega) (by omega) hJ X hl
          · refine x_tf G X hl 10 (by decide) q30 rfl rfl dX0_takeOut_64 dX0_takeOut_65 ?_
            refine lv_iload hx hb dX0_takeOut_68 (lv_at hl 4 rfl) ?_
            refine lv_iconst (v := nI 1) hx hb dX0_takeOut_70 (by decide) ?_
            refine lv_iadd hx hb dX0_takeOut_71 ?_
            refine lv_bipush (v := nI 16) hx hb dX0_takeOut_72 (by decide) ?_
            refine lv_imul hx hb dX0_takeOut_74 ?_
            refine lv_iload hx hb dX0_takeOut_75 (lv_at hl 6 rfl) ?_
            refine lv_iadd hx hb dX0_takeOut_77 ?_
            refine x_tf G X hl 10 (by decide) q30 rfl rfl dX0_takeOut_78 dX0_takeOut_79 ?_
            refine lv_iload hx hb dX0_takeOut_82 (lv_at hl 4 rfl) ?_
            refine lv_bipush (v := nI 16) hx hb dX0_takeOut_84 (by decide) ?_
            refine lv_imul hx hb dX0_takeOut_86 ?_
            refine lv_iload hx hb dX0_takeOut_87 (lv_at hl 6 rfl) ?_
            refine lv_iadd hx hb dX0_takeOut_89 ?_
            refine g_ld G X xk10 ((c0 * 6 + k) * 16 + i) (by simp only [pk_mul, nI_add]) (by omega) dX0_takeOut_90 ?_
            refine g_st G X xk10 ((c0 * 6 + k + 1) * 16 + i) (by simp only [pk_mul, nI_add]) (by omega) dX0_takeOut_91 (fun H locs X => ?_)
            refine g_iinc (k := 6) (v := nI (i + 1)) (lv' := [(0, _), (1, _), (2, _), (3, _), (4, _), (5, _), (6, _)]) hx hb dX0_takeOut_92 hl rfl (nI_i1 i) rfl (by decide) rfl (fun ls hl => ?_)
            refine lv_goto (tgt := 46) hx hb dX0_takeOut_95 (by decide) ?_
            exact ih (i + 1) _ H locs ls (by omega) (by omega) (mrg_yes (by omega) hJ ((bt_get1 (by omega)).mp q3)) X hl
    refine lv_iconst (v := nI 0) hx hb dX0_takeOut_43 (by decide) ?_
    refine g_ist (lv' := [(0, _), (1, _), (2, _), (3, _), (4, _), (5, _), (6, _)]) hx hb dX0_takeOut_44 hl rfl (by decide) rfl (fun ls hl => ?_)
    exact loop 17 0 σ H locs ls (by omega) (by omega) (mrg_0 _ _ _) X hl
set_option maxHeartbeats 4000000 in
set_option maxRecDepth 100000 in
/-- drop(c, k) -/
theorem cX_drop (l : Launch) (D : va_G) (ad : Nat → Nat) (d z : ClassId) {σ : gS} {M : MS} (h : RelX σ M) (cI kI : Int32) : gMi l yX0_drop cX0_drop 3 (some .int) rmC [.ref (ad 7), .int (cI), .int (kI)] D (xw ad d z) (xt d z) σ (fun r σ' => r = a_drop M cI kI ∧ RelX σ' (s_drop M cI kI)) := by
  refine gMi_of (by decide) (Nat.le_of_ble_eq_true rfl) ?_
  intro p e s m args below meth c A H0 Q G ret H locs ls X hl
  have G : gC RX0 3 (xt d z) p s m args c cX0_drop D := G
  have hx := G.1
  have hb := G.2.1
  have hl : lv_has ls 3 [(0, .ref (ad 7)), (1, .int (cI)), (2, .int (kI))] := hl
  refine lv_iload_n hx hb dX0_drop_0 rfl (lv_at hl 1 rfl) ?_
  refine g_calls (n := 1) (rest := []) G X (cX_bad l cI) (lw_S q72 q73 q10 q74) (by decide +kernel) ⟨rfl, rfl⟩ ⟨Nat.le_of_ble_eq_true rfl, Nat.le_of_ble_eq_true rfl⟩ rfl hl.1 rfl (Nat.le_of_ble_eq_true rfl) dX0_drop_1 ⟨Nat.zero_le _, Nat.zero_le _⟩ (fun r H locs hp X => ?_)
  refine lv_if_eq (tgt := 9) hx hb dX0_drop_4 (by decide) (fun q => ?_) (fun q => ?_)
  · obtain ⟨c0, hc, rfl⟩ := hp.1 q
    have h6 := (h.2.1 c0 hc).1
    refine lv_aload_n hx hb dX0_drop_9 rfl (lv_at hl 0 rfl) ?_
    refine lv_iload_n hx hb dX0_drop_10 rfl (lv_at hl 1 rfl) ?_
    refine lv_iload_n hx hb dX0_drop_11 rfl (lv_at hl 2 rfl) ?_
    refine g_calli (n := 2) (rest := []) (q0 := 7) G X (cX_nob l D ad d z h hc kI) (lw_V q80 q82 qs1 q10 q83) (by decide +kernel) ⟨rfl, rfl⟩ ⟨Nat.le_of_ble_eq_true rfl, Nat.le_of_ble_eq_true rfl⟩ rfl rfl rfl rfl hl.1 rfl (Nat.le_of_ble_eq_true rfl) dX0_drop_12 ⟨Nat.zero_le _, Nat.zero_le _⟩ (fun r2 σ1 H locs hp2 X => ?_)
    rw [hp2.1] at X
    have hp2 := hp2.2
    refine lv_if_eq (tgt := 21) hx hb dX0_drop_15 (by decide) (fun q2 => ?_) (fun q2 => ?_)
    · obtain ⟨k, hk, rfl⟩ := hp2.1 q2
      refine lv_aload_n hx hb dX0_drop_21 rfl (lv_at hl 0 rfl) ?_
      refine lv_iload_n hx hb dX0_drop_22 rfl (lv_at hl 1 rfl) ?_
      refine lv_iload_n hx hb dX0_drop_23 rfl (lv_at hl 2 rfl) ?_
      refine g_calli (n := 2) (rest := []) (q0 := 7) G X (cX_take l D ad d z h hc hk) (lw_V q92 q94 qs3 q10 q95) (by decide +kernel) ⟨rfl, rfl⟩ ⟨Nat.le_of_ble_eq_true rfl, Nat.le_of_ble_eq_true rfl⟩ rfl rfl rfl rfl hl.1 rfl (Nat.le_of_ble_eq_true rfl) dX0_drop_24 ⟨Nat.zero_le _, Nat.zero_le _⟩ (fun r3 σ2 H locs hp3 X => ?_)
      exact ret _ _ _ _ _ _ X (⟨hp3.1.trans (a_drop_ok hc h6 hk).symm, by rw [s_drop_ok hc h6 hk]; exact hp3.2⟩) rfl dX0_drop_27
    · refine lv_bipush (v := -4) hx hb dX0_drop_18 (by decide) ?_
      exact ret _ _ _ _ _ _ X (⟨(a_drop_nob hc (hp2.2 q2)).symm, by rw [s_drop_nob hc (hp2.2 q2)]; exact h⟩) rfl dX0_drop_20
  · refine lv_iconst (v := -1) hx hb dX0_drop_7 (by decide) ?_
    exact ret _ _ _ _ _ _ X (⟨(a_drop_bad (hp.2 q)).symm, by rw [s_drop_bad (hp.2 q)]; exact h⟩) rfl dX0_drop_8
set_option maxHeartbeats 4000000 in
set_option maxRecDepth 100000 in
/-- dropOldest(c) -/
theorem cX_dropO (l : Launch) (D : va_G) (ad : Nat → Nat) (d z : ClassId) {σ : gS} {M : MS} (h : RelX σ M) (cI : Int32) : gMi l yX0_dropOldest cX0_dropOldest 2 (some .int) rmC [.ref (ad 7), .int (cI)] D (xw ad d z) (xt d z) σ (fun r σ' => r = a_drop M cI 0 ∧ RelX σ' (s_drop M cI 0)) := by
  refine gMi_of (by decide) (Nat.le_of_ble_eq_true rfl) ?_
  intro p e s m args below meth c A H0 Q G ret H locs ls X hl
  have G : gC RX0 2 (xt d z) p s m args c cX0_dropOldest D := G
  have hx := G.1
  have hb := G.2.1
  have hl : lv_has ls 2 [(0, .ref (ad 7)), (1, .int (cI))] := hl
  refine lv_iload_n hx hb dX0_dropOldest_0 rfl (lv_at hl 1 rfl) ?_
  refine g_calls (n := 1) (rest := []) G X (cX_bad l cI) (lw_S q72 q73 q10 q74) (by decide +kernel) ⟨rfl, rfl⟩ ⟨Nat.le_of_ble_eq_true rfl, Nat.le_of_ble_eq_true rfl⟩ rfl hl.1 rfl (Nat.le_of_ble_eq_true rfl) dX0_dropOldest_1 ⟨Nat.zero_le _, Nat.zero_le _⟩ (fun r H locs hp X => ?_)
  refine lv_if_eq (tgt := 9) hx hb dX0_dropOldest_4 (by decide) (fun q => ?_) (fun q => ?_)
  · obtain ⟨c0, hc, rfl⟩ := hp.1 q
    obtain ⟨h6, h8⟩ := h.2.1 c0 hc
    refine x_tf G X hl 8 (by decide) q28 rfl rfl dX0_dropOldest_9 dX0_dropOldest_10 ?_
    refine lv_iload_n hx hb dX0_dropOldest_13 rfl (lv_at hl 1 rfl) ?_
    refine g_ld G X xk8 (c0) rfl hc dX0_dropOldest_14 ?_
    refine g_top (nI (M.2.1 c0)) h8 ?_
    refine lv_if_ne (tgt := 21) hx hb dX0_dropOldest_15 (by decide) (fun q2 => ?_) (fun q2 => ?_)
    · have hk : 0 < M.2.1 c0 := Nat.pos_of_ne_zero (fun e9 => q2 (by rw [e9]; rfl))
      refine lv_aload_n hx hb dX0_dropOldest_21 rfl (lv_at hl 0 rfl) ?_
      refine lv_iload_n hx hb dX0_dropOldest_22 rfl (lv_at hl 1 rfl) ?_
      refine lv_iconst (v := nI 0) hx hb dX0_dropOldest_23 (by decide) ?_
      refine g_calli (n := 2) (rest := []) (q0 := 7) G X (cX_take l D ad d z h hc hk) (lw_V q92 q94 qs3 q10 q95) (by decide +kernel) ⟨rfl, rfl⟩ ⟨Nat.le_of_ble_eq_true rfl, Nat.le_of_ble_eq_true rfl⟩ rfl rfl rfl rfl hl.1 rfl (Nat.le_of_ble_eq_true rfl) dX0_dropOldest_24 ⟨Nat.zero_le _, Nat.zero_le _⟩ (fun r3 σ2 H locs hp3 X => ?_)
      exact ret _ _ _ _ _ _ X (⟨hp3.1.trans (a_drop_ok hc h6 hk).symm, (s_drop_ok hc h6 hk).symm ▸ hp3.2⟩) rfl dX0_dropOldest_27
    · have hn : nob_ M (nI c0) 0 := Or.inr (by rw [cn_nI (by omega), q2]; decide)
      refine lv_bipush (v := -4) hx hb dX0_dropOldest_18 (by decide) ?_
      exact ret _ _ _ _ _ _ X (⟨(a_drop_nob hc hn).symm, by rw [s_drop_nob hc hn]; exact h⟩) rfl dX0_dropOldest_20
  · refine lv_iconst (v := -1) hx hb dX0_dropOldest_7 (by decide) ?_
    exact ret _ _ _ _ _ _ X (⟨(a_drop_bad (hp.2 q)).symm, by rw [s_drop_bad (hp.2 q)]; exact h⟩) rfl dX0_dropOldest_8
end
section
theorem RelX_disk {σ : gS} {f g : Nat → Int32} {R : (Nat → Nat) × (Nat → Nat → Nat → Int32)} (h : RelX σ (f, R)) (e : ∀ b, b < 16 → f b = g b) : RelX σ (g, R) := by
  obtain ⟨h1, h2, h3, h4, h5⟩ := h
  exact ⟨fun b hb => (h1 b hb).trans (e b hb), h2, h3, fun c hc ht hp b hb hd => (e b hb).symm.trans (h4 c hc ht hp b hb hd), h5⟩
set_option maxHeartbeats 4000000 in
set_option maxRecDepth 100000 in
/-- restore(c, k) -/
theorem cX_restore (l : Launch) (D : va_G) (ad : Nat → Nat) (d z : ClassId) {σ : gS} {M : MS} (h : RelX σ M) (cI kI : Int32) : gMi l yX0_restore cX0_restore 6 (some .int) rmB [.ref (ad 7), .int (cI), .int (kI)] D (xw ad d z) (xt d z) σ (fun r σ' => r = a_restore M cI kI ∧ RelX σ' (s_restore M cI kI)) := by
  refine gMi_of (by decide) (Nat.le_of_ble_eq_true rfl) ?_
  intro p e s m args below meth c A H0 Q G ret H locs ls X hl
  have G : gC RX0 6 (xt d z) p s m args c cX0_restore D := G
  have hx := G.1
  have hb := G.2.1
  have hl : lv_has ls 6 [(0, .ref (ad 7)), (1, .int (cI)), (2, .int (kI))] := hl
  refine lv_iload_n hx hb dX0_restore_0 rfl (lv_at hl 1 rfl) ?_
  refine g_calls (n := 1) (rest := []) G X (cX_bad l cI) (lw_S q72 q73 q10 q74) (by decide +kernel) ⟨rfl, rfl⟩ ⟨Nat.le_of_ble_eq_true rfl, Nat.le_of_ble_eq_true rfl⟩ rfl hl.1 rfl (Nat.le_of_ble_eq_true rfl) dX0_restore_1 ⟨Nat.zero_le _, Nat.zero_le _⟩ (fun r H locs hp X => ?_)
  refine lv_if_eq (tgt := 9) hx hb dX0_restore_4 (by decide) (fun q => ?_) (fun q => ?_)
  · obtain ⟨c0, hc, rfl⟩ := hp.1 q
    have h6 := (h.2.1 c0 hc).1
    refine lv_aload_n hx hb dX0_restore_9 rfl (lv_at hl 0 rfl) ?_
    refine lv_iload_n hx hb dX0_restore_10 rfl (lv_at hl 1 rfl) ?_
    refine lv_iload_n hx hb dX0_restore_11 rfl (lv_at hl 2 rfl) ?_
    refine g_calli (n := 2) (rest := []) (q0 := 7) G X (cX_nob l D ad d z h hc kI) (lw_V q80 q82 qs1 q10 q83) (by decide +kernel) ⟨rfl, rfl⟩ ⟨Nat.le_of_ble_eq_true rfl, Nat.le_of_ble_eq_true rfl⟩ rfl rfl rfl rfl hl.1 rfl (Nat.le_of_ble_eq_true rfl) dX0_restore_12 ⟨Nat.zero_le _, Nat.zero_le _⟩ (fun r2 σ1 H locs hp2 X => ?_)
    rw [hp2.1] at X
    have hp2 := hp2.2
    refine lv_if_eq (tgt := 21) hx hb dX0_restore_15 (by decide) (fun q2 => ?_) (fun q2 => ?_)
    · obtain ⟨k, hk, rfl⟩ := hp2.1 q2
      have loop : ∀ (n i : Nat) (a : Nat) (σ1 : gS) (H : Heap) (locs : List Loc) (ls : Array Slot), i ≤ 16 → 17 ≤ i + n → (RelX σ1 (rk_ M.1 (M.2.2 c0 k) i, M.2) ∧ a = fb_ct (fun b => !(M.1 b == M.2.2 c0 k b)) i) → gH D A H0 (xw ad d z) σ1 H locs → lv_has ls 6 [(0, .ref (ad 7)), (1, .int (nI c0)), (2, .int (nI k)), (3, .int (nI a)), (4, .int (nI i))] → W p l e rmB s m args below meth c H locs 0 0 Q (F0 m 26 ls []) := by
        intro n
        induction n with
        | zero => intro i a σ1 H locs ls h1 h2; exact absurd h2 (by omega)
        | succ n ih =>
          intro i a σ1 H locs ls h1 h2 hJ X hl
          have hM1 := hJ.1.1
          refine lv_iload hx hb dX0_restore_26 (lv_at hl 4 rfl) ?_
          refine lv_bipush (v := nI 16) hx hb dX0_restore_28 (by decide) ?_
          refine n_ge (tgt := 72) hx hb (i) (16) rfl rfl (by omega) (by omega) dX0_restore_30 (by decide) (fun q3 => ?_) (fun q3 => ?_)
          · obtain rfl : i = 16 := by omega
            refine lv_iload_n hx hb dX0_restore_72 rfl (lv_at hl 3 rfl) ?_
            exact ret _ _ _ _ _ _ X (⟨(congrArg nI hJ.2).trans (a_restore_ok hc h6 hk).symm, by rw [s_restore_ok hc h6 hk]; exact RelX_disk hJ.1 (fun b hb9 => if_pos hb9)⟩) rfl dX0_restore_73
          · refine lv_aload_n hx hb dX0_restore_33 rfl (lv_at hl 0 rfl) ?_
            refine lv_iload_n hx hb dX0_restore_34 rfl (lv_at hl 1 rfl) ?_
            refine lv_iload_n hx hb dX0_restore_35 rfl (lv_at hl 2 rfl) ?_
            refine lv_iload hx hb dX0_restore_36 (lv_at hl 4 rfl) ?_
            refine g_calli (n := 3) (rest := []) (q0 := 7) G X (cX_block l D ad d z hJ.1 hc hk q3) (lw_V q84 q86 qs2 q10 q87) (by decide +kernel) ⟨rfl, rfl⟩ ⟨Nat.le_of_ble_eq_true rfl, Nat.le_of_ble_eq_true rfl⟩ rfl rfl rfl rfl hl.1 rfl (Nat.le_of_ble_eq_true rfl) dX0_restore_38 ⟨Nat.zero_le _, Nat.zero_le _⟩ (fun r3 σ2 H locs hp3 X => ?_)
            rw [hp3.1] at X
            refine g_top (M.2.2 c0 k i) hp3.2 ?_
            refine g_ist (lv' := [(0, _), (1, _), (2, _), (3, _), (4, _), (5, _)]) hx hb dX0_restore_41 hl rfl (by decide) rfl (fun ls hl => ?_)
            refine x_tf G X hl 0 (by decide) q20 rfl rfl dX0_restore_43 dX0_restore_44 ?_
            refine lv_iload hx hb dX0_restore_47 (lv_at hl 4 rfl) ?_
            refine g_ld G X xk0 (i) rfl q3 dX0_restore_49 ?_
            refine g_top (M.1 i) ((hM1 i q3).trans (rk_at _ _ i)) ?_
            refine lv_iload hx hb dX0_restore_50 (lv_at hl 5 rfl) ?_
            refine lv_icmp_eq (tgt := 66) hx hb dX0_restore_52 (by decide) (fun q4 => ?_) (fun q4 => ?_)
            · refine g_iinc (k := 4) (v := nI (i + 1)) (lv' := [(0, _), (1, _), (2, _), (3, _), (4, _), (5, _)]) hx hb dX0_restore_66 hl rfl (nI_i1 i) rfl (by decide) rfl (fun ls hl => ?_)
              refine lv_goto (tgt := 26) hx hb dX0_restore_69 (by decide) ?_
              exact ih (i + 1) a σ1 H locs ls (by omega) (by omega) ⟨rk_skip q4 ▸ hJ.1, ct_skip hJ.2 (by simp [q4])⟩ X (lv_sub hl [0, 1, 2, 3, 4] rfl)
            · refine lv_aload_n hx hb dX0_restore_55 rfl (lv_at hl 0 rfl) ?_
              refine lv_iload hx hb dX0_restore_56 (lv_at hl 4 rfl) ?_
              refine lv_iload hx hb dX0_restore_58 (lv_at hl 5 rfl) ?_
              refine g_callv (n := 2) (rest := []) (q0 := 7) G X (cX_store l D ad d z hJ.1 q3 (M.2.2 c0 k i)) (lw_V q60 q62 qs0 q10 q63) (by decide +kernel) ⟨rfl, rfl⟩ ⟨Nat.le_of_ble_eq_true rfl, Nat.le_of_ble_eq_true rfl⟩ rfl rfl rfl rfl hl.1 rfl (Nat.le_of_ble_eq_true rfl) dX0_restore_60 ⟨Nat.zero_le _, Nat.zero_le _⟩ (fun σ3 H locs hp4 X => ?_)
              refine g_iinc (k := 3) (v := nI (a + 1)) (lv' := [(0, _), (1, _), (2, _), (3, _), (4, _), (5, _)]) hx hb dX0_restore_63 hl rfl (nI_i1 a) rfl (by decide) rfl (fun ls hl => ?_)
              refine g_iinc (k := 4) (v := nI (i + 1)) (lv' := [(0, _), (1, _), (2, _), (3, _), (4, _), (5, _)]) hx hb dX0_restore_66 hl rfl (nI_i1 i) rfl (by decide) rfl (fun ls hl => ?_)
              refine lv_goto (tgt := 26) hx hb dX0_restore_69 (by decide) ?_
              exact ih (i + 1) (a + 1) σ3 H locs ls (by omega) (by omega) ⟨rk_set M.1 (M.2.2 c0 k) i ▸ hp4.1, ct_step hJ.2 (by simp [q4])⟩ X (lv_sub hl [0, 1, 2, 3, 4] rfl)
      refine lv_iconst (v := nI 0) hx hb dX0_restore_21 (by decide) ?_
      refine g_istn (lv' := [(0, _), (1, _), (2, _), (3, _)]) hx hb dX0_restore_22 rfl hl rfl (by decide) rfl (fun ls hl => ?_)
      refine lv_iconst (v := nI 0) hx hb dX0_restore_23 (by decide) ?_
      refine g_ist (lv' := [(0, _), (1, _), (2, _), (3, _), (4, _)]) hx hb dX0_restore_24 hl rfl (by decide) rfl (fun ls hl => ?_)
      exact loop 17 0 0 σ H locs ls (by omega) (by omega) ⟨by rw [rk_0]; exact h, rfl⟩ X hl
    · refine lv_bipush (v := -4) hx hb dX0_restore_18 (by decide) ?_
      exact ret _ _ _ _ _ _ X (⟨(a_restore_nob hc (hp2.2 q2)).symm, by rw [s_restore_nob hc (hp2.2 q2)]; exact h⟩) rfl dX0_restore_20
  · refine lv_iconst (v := -1) hx hb dX0_restore_7 (by decide) ?_
    exact ret _ _ _ _ _ _ X (⟨(a_restore_bad (hp.2 q)).symm, by rw [s_restore_bad (hp.2 q)]; exact h⟩) rfl dX0_restore_8
end
section
set_option maxHeartbeats 4000000 in
set_option maxRecDepth 100000 in
/-- changed(c) -/
theorem cX_changed (l : Launch) (D : va_G) (ad : Nat → Nat) (d z : ClassId) {σ : gS} {M : MS} (h : RelX σ M) (cI : Int32) : gMi l yX0_changed cX0_changed 7 (some .int) rmB [.ref (ad 7), .int (cI)] D (xw ad d z) (xt d z) σ (fun r σ' => r = a_changed M cI ∧ RelX σ' M) := by
  refine gMi_of (by decide) (Nat.le_of_ble_eq_true rfl) ?_
  intro p e s m args below meth c A H0 Q G ret H locs ls X hl
  have G : gC RX0 7 (xt d z) p s m args c cX0_changed D := G
  have hx := G.1
  have hb := G.2.1
  have hl : lv_has ls 7 [(0, .ref (ad 7)), (1, .int (cI))] := hl
  refine lv_iload_n hx hb dX0_changed_0 rfl (lv_at hl 1 rfl) ?_
  refine g_calls (n := 1) (rest := []) G X (cX_bad l cI) (lw_S q72 q73 q10 q74) (by decide +kernel) ⟨rfl, rfl⟩ ⟨Nat.le_of_ble_eq_true rfl, Nat.le_of_ble_eq_true rfl⟩ rfl hl.1 rfl (Nat.le_of_ble_eq_true rfl) dX0_changed_1 ⟨Nat.zero_le _, Nat.zero_le _⟩ (fun r H locs hp X => ?_)
  refine lv_if_eq (tgt := 9) hx hb dX0_changed_4 (by decide) (fun q => ?_) (fun q => ?_)
  · obtain ⟨c0, hc, rfl⟩ := hp.1 q
    obtain ⟨h6, h8⟩ := h.2.1 c0 hc
    refine x_tf G X hl 8 (by decide) q28 rfl rfl dX0_changed_9 dX0_changed_10 ?_
    refine lv_iload_n hx hb dX0_changed_13 rfl (lv_at hl 1 rfl) ?_
    refine g_ld G X xk8 (c0) rfl hc dX0_changed_14 ?_
    refine g_top (nI (M.2.1 c0)) h8 ?_
    refine lv_iconst (v := nI 1) hx hb dX0_changed_15 (by decide) ?_
    refine lv_isub hx hb dX0_changed_16 ?_
    rcases Nat.eq_zero_or_pos (M.2.1 c0) with e0 | e0
    · refine g_top (-1) (by rw [e0]; decide) ?_
      refine g_istn (lv' := [(0, _), (1, _), (2, _)]) hx hb dX0_changed_17 rfl hl rfl (by decide) rfl (fun ls hl => ?_)
      refine lv_iload_n hx hb dX0_changed_18 rfl (lv_at hl 2 rfl) ?_
      refine lv_if_ge (tgt := 25) hx hb dX0_changed_19 (by decide) (fun q2 => ?_) (fun q2 => ?_)
      · exact absurd q2 (by decide)
      · refine lv_bipush (v := -4) hx hb dX0_changed_22 (by decide) ?_
        exact ret _ _ _ _ _ _ X (⟨(a_changed_0 hc e0).symm, h⟩) rfl dX0_changed_24
    · refine g_top (nI (M.2.1 c0 - 1)) (pk_sub (by omega)) ?_
      refine g_istn (lv' := [(0, _), (1, _), (2, _)]) hx hb dX0_changed_17 rfl hl rfl (by decide) rfl (fun ls hl => ?_)
      refine lv_iload_n hx hb dX0_changed_18 rfl (lv_at hl 2 rfl) ?_
      refine lv_if_ge (tgt := 25) hx hb dX0_changed_19 (by decide) (fun q2 => ?_) (fun q2 => ?_)
      · have K45 : ∀ (look : Int32), (∀ b, b < 16 → bt look b = false → M.1 b = M.2.2 c0 (M.2.1 c0 - 1) b) → W p l e rmB s m args below meth c H locs 0 0 Q (F0 m 45 ls [.int look]) := by
          intro look hlk
          have loop : ∀ (n i a : Nat) (H : Heap) (locs : List Loc) (ls : Array Slot), i ≤ 16 → 17 ≤ i + n → a = fb_ct (fun b => !(M.1 b == M.2.2 c0 (M.2.1 c0 - 1) b)) i → gH D A H0 (xw ad d z) σ H locs → lv_has ls 7 [(0, .ref (ad 7)), (1, .int (nI c0)), (2, .int (nI (M.2.1 c0 - 1))), (3, .int (look)), (4, .int (nI a)), (5, .int (nI i))] → W p l e rmB s m args below meth c H locs 0 0 Q (F0 m 52 ls []) := by
            intro n
            induction n with
            | zero => intro i a H locs ls h1 h2; exact absurd h2 (by omega)
            | succ n ih =>
              intro i a H locs ls h1 h2 hJ X hl
              refine lv_iload hx hb dX0_changed_52 (lv_at hl 5 rfl) ?_
              refine lv_bipush (v := nI 16) hx hb dX0_changed_54 (by decide) ?_
              refine n_ge (tgt := 100) hx hb (i) (16) rfl rfl (by omega) (by omega) dX0_changed_56 (by decide) (fun q3 => ?_) (fun q3 => ?_)
              · obtain rfl : i = 16 := by omega
                refine lv_iload hx hb dX0_changed_100 (lv_at hl 4 rfl) ?_
                exact ret _ _ _ _ _ _ X (⟨(congrArg nI hJ).trans (a_changed_ok hc e0).symm, h⟩) rfl dX0_changed_102
              · have K94 : ∀ (a : Nat) (H : Heap) (locs : List Loc) (ls : Array Slot), a = fb_ct (fun b => !(M.1 b == M.2.2 c0 (M.2.1 c0 - 1) b)) (i + 1) → gH D A H0 (xw ad d z) σ H locs → lv_has ls 7 [(0, .ref (ad 7)), (1, .int (nI c0)), (2, .int (nI (M.2.1 c0 - 1))), (3, .int (look)), (4, .int (nI a)), (5, .int (nI i))] → W p l e rmB s m args below meth c H locs 0 0 Q (F0 m 94 ls []) := by
                  intro a H locs ls hJ X hl
                  refine g_iinc (k := 5) (v := nI (i + 1)) (lv' := [(0, _), (1, _), (2, _), (3, _), (4, _), (5, _)]) hx hb dX0_changed_94 hl rfl (nI_i1 i) rfl (by decide) rfl (fun ls hl => ?_)
                  refine lv_goto (tgt := 52) hx hb dX0_changed_97 (by decide) ?_
                  exact ih (i + 1) a H locs ls (by omega) (by omega) hJ X hl
                refine lv_iload_n hx hb dX0_changed_59 rfl (lv_at hl 3 rfl) ?_
                refine lv_iload hx hb dX0_changed_60 (lv_at hl 5 rfl) ?_
                refine lv_ishr hx hb dX0_changed_62 ?_
                refine lv_iconst (v := nI 1) hx hb dX0_changed_63 (by decide) ?_
                refine lv_iand hx hb dX0_changed_64 ?_
                refine lv_iconst (v := nI 1) hx hb dX0_changed_65 (by decide) ?_
                refine lv_icmp_ne (tgt := 94) hx hb dX0_changed_66 (by decide) (fun q4 => ?_) (fun q4 => ?_)
                · have hz : bt look i = false := by cases z : bt look i; rfl; exact absurd ((bt_get1 (by omega)).mpr z) q4
                  exact K94 a H locs ls (ct_skip hJ (by simp [hlk i q3 hz])) X hl
                · refine lv_aload_n hx hb dX0_changed_69 rfl (lv_at hl 0 rfl) ?_
                  refine lv_iload_n hx hb dX0_changed_70 rfl (lv_at hl 1 rfl) ?_
                  refine lv_iload_n hx hb dX0_changed_71 rfl (lv_at hl 2 rfl) ?_
                  refine lv_iload hx hb dX0_changed_72 (lv_at hl 5 rfl) ?_
                  refine g_calli (n := 3) (rest := []) (q0 := 7) G X (cX_block l D ad d z h hc (by omega : M.2.1 c0 - 1 < M.2.1 c0) q3) (lw_V q84 q86 qs2 q10 q87) (by decide +kernel) ⟨rfl, rfl⟩ ⟨Nat.le_of_ble_eq_true rfl, Nat.le_of_ble_eq_true rfl⟩ rfl rfl rfl rfl hl.1 rfl (Nat.le_of_ble_eq_true rfl) dX0_changed_74 ⟨Nat.zero_le _, Nat.zero_le _⟩ (fun r3 σ2 H locs hp3 X => ?_)
                  rw [hp3.1] at X
                  refine g_top (M.2.2 c0 (M.2.1 c0 - 1) i) hp3.2 ?_
                  refine g_ist (lv' := [(0, _), (1, _), (2, _), (3, _), (4, _), (5, _), (6, _)]) hx hb dX0_changed_77 hl rfl (by decide) rfl (fun ls hl => ?_)
                  refine lv_iload hx hb dX0_changed_79 (lv_at hl 6 rfl) ?_
                  refine x_tf G X hl 0 (by decide) q20 rfl rfl dX0_changed_81 dX0_changed_82 ?_
                  refine lv_iload hx hb dX0_changed_85 (lv_at hl 5 rfl) ?_
                  refine g_ld G X xk0 (i) rfl q3 dX0_changed_87 ?_
                  refine g_top (M.1 i) (h.1 i q3) ?_
                  refine lv_icmp_eq (tgt := 94) hx hb dX0_changed_88 (by decide) (fun q5 => ?_) (fun q5 => ?_)
                  · exact K94 a H locs ls (ct_skip hJ (by simp [q5])) X (lv_sub hl [0, 1, 2, 3, 4, 5] rfl)
                  · refine g_iinc (k := 4) (v := nI (a + 1)) (lv' := [(0, _), (1, _), (2, _), (3, _), (4, _), (5, _), (6, _)]) hx hb dX0_changed_91 hl rfl (nI_i1 a) rfl (by decide) rfl (fun ls hl => ?_)
                    exact K94 (a + 1) H locs ls (ct_step hJ (by simp [Ne.symm q5])) X (lv_sub hl [0, 1, 2, 3, 4, 5] rfl)
          refine g_istn (lv' := [(0, _), (1, _), (2, _), (3, _)]) hx hb dX0_changed_45 rfl hl rfl (by decide) rfl (fun ls hl => ?_)
          refine lv_iconst (v := nI 0) hx hb dX0_changed_46 (by decide) ?_
          refine g_ist (lv' := [(0, _), (1, _), (2, _), (3, _), (4, _)]) hx hb dX0_changed_47 hl rfl (by decide) rfl (fun ls hl => ?_)
          refine lv_iconst (v := nI 0) hx hb dX0_changed_49 (by decide) ?_
          refine g_ist (lv' := [(0, _), (1, _), (2, _), (3, _), (4, _), (5, _)]) hx hb dX0_changed_50 hl rfl (by decide) rfl (fun ls hl => ?_)
          exact loop 17 0 0 H locs ls (by omega) (by omega) rfl X hl
        refine x_tf G X hl 3 (by decide) q23 rfl rfl dX0_changed_25 dX0_changed_26 ?_
        refine lv_iload_n hx hb dX0_changed_29 rfl (lv_at hl 1 rfl) ?_
        refine g_zld G X xk3 (c0) rfl hc dX0_changed_30 ?_
        refine lv_if_eq (tgt := 43) hx hb dX0_changed_31 (by decide) (fun q3 => ?_) (fun q3 => ?_)
        · refine lv_ldc hx hb G.2.2.2.1 (G.2.2.2.2.1 _ q75) dX0_changed_43 ?_
          exact K45 _ (fun b hb9 z => by rw [bt_all hb9] at z; cases z)
        · refine x_tf G X hl 2 (by decide) q22 rfl rfl dX0_changed_34 dX0_changed_35 ?_
          refine lv_iload_n hx hb dX0_changed_38 rfl (lv_at hl 1 rfl) ?_
          refine g_ld G X xk2 (c0) rfl hc dX0_changed_39 ?_
          refine lv_goto (tgt := 45) hx hb dX0_changed_40 (by decide) ?_
          exact K45 _ (fun b hb9 z => h.2.2.2.1 c0 hc q3 e0 b hb9 z)
      · exact absurd (nI_pos' (by omega)) q2
  · refine lv_iconst (v := -1) hx hb dX0_changed_7 (by decide) ?_
    exact ret _ _ _ _ _ _ X (⟨(a_changed_bad (hp.2 q)).symm, h⟩) rfl dX0_changed_8
set_option maxHeartbeats 4000000 in
set_option maxRecDepth 100000 in
/-- differ(c, j, k) -/
theorem cX_differ (l : Launch) (D : va_G) (ad : Nat → Nat) (d z : ClassId) {σ : gS} {M : MS} (h : RelX σ M) (cI jI kI : Int32) : gMi l yX0_differ cX0_differ 11 (some .int) rmB [.ref (ad 7), .int (cI), .int (jI), .int (kI)] D (xw ad d z) (xt d z) σ (fun r σ' => r = a_differ M cI jI kI ∧ RelX σ' M) := by
  refine gMi_of (by decide) (Nat.le_of_ble_eq_true rfl) ?_
  intro p e s m args below meth c A H0 Q G ret H locs ls X hl
  have G : gC RX0 11 (xt d z) p s m args c cX0_differ D := G
  have hx := G.1
  have hb := G.2.1
  have hl : lv_has ls 11 [(0, .ref (ad 7)), (1, .int (cI)), (2, .int (jI)), (3, .int (kI))] := hl
  refine lv_iload_n hx hb dX0_differ_0 rfl (lv_at hl 1 rfl) ?_
  refine g_calls (n := 1) (rest := []) G X (cX_bad l cI) (lw_S q72 q73 q10 q74) (by decide +kernel) ⟨rfl, rfl⟩ ⟨Nat.le_of_ble_eq_true rfl, Nat.le_of_ble_eq_true rfl⟩ rfl hl.1 rfl (Nat.le_of_ble_eq_true rfl) dX0_differ_1 ⟨Nat.zero_le _, Nat.zero_le _⟩ (fun r H locs hp X => ?_)
  refine lv_if_eq (tgt := 9) hx hb dX0_differ_4 (by decide) (fun q => ?_) (fun q => ?_)
  · obtain ⟨c0, hc, rfl⟩ := hp.1 q
    have h6 := (h.2.1 c0 hc).1
    have K27 : ∀ (H : Heap) (locs : List Loc), (nob_ M (nI c0) jI ∨ nob_ M (nI c0) kI) → gH D A H0 (xw ad d z) σ H locs → W p l e rmB s m args below meth c H locs 0 0 Q (F0 m 27 ls []) := by
      intro H locs ho X
      refine lv_bipush (v := -4) hx hb dX0_differ_27 (by decide) ?_
      exact ret _ _ _ _ _ _ X (⟨(a_differ_nob hc ho).symm, h⟩) rfl dX0_differ_29
    refine lv_aload_n hx hb dX0_differ_9 rfl (lv_at hl 0 rfl) ?_
    refine lv_iload_n hx hb dX0_differ_10 rfl (lv_at hl 1 rfl) ?_
    refine lv_iload_n hx hb dX0_differ_11 rfl (lv_at hl 2 rfl) ?_
    refine g_calli (n := 2) (rest := []) (q0 := 7) G X (cX_nob l D ad d z h hc jI) (lw_V q80 q82 qs1 q10 q83) (by decide +kernel) ⟨rfl, rfl⟩ ⟨Nat.le_of_ble_eq_true rfl, Nat.le_of_ble_eq_true rfl⟩ rfl rfl rfl rfl hl.1 rfl (Nat.le_of_ble_eq_true rfl) dX0_differ_12 ⟨Nat.zero_le _, Nat.zero_le _⟩ (fun r2 σ1 H locs hp2 X => ?_)
    rw [hp2.1] at X
    have hp2 := hp2.2
    refine lv_if_ne (tgt := 27) hx hb dX0_differ_15 (by decide) (fun q2 => ?_) (fun q2 => ?_)
    · exact K27 H locs (Or.inl (hp2.2 q2)) X
    · refine lv_aload_n hx hb dX0_differ_18 rfl (lv_at hl 0 rfl) ?_
      refine lv_iload_n hx hb dX0_differ_19 rfl (lv_at hl 1 rfl) ?_
      refine lv_iload_n hx hb dX0_differ_20 rfl (lv_at hl 3 rfl) ?_
      refine g_calli (n := 2) (rest := []) (q0 := 7) G X (cX_nob l D ad d z h hc kI) (lw_V q80 q82 qs1 q10 q83) (by decide +kernel) ⟨rfl, rfl⟩ ⟨Nat.le_of_ble_eq_true rfl, Nat.le_of_ble_eq_true rfl⟩ rfl rfl rfl rfl hl.1 rfl (Nat.le_of_ble_eq_true rfl) dX0_differ_21 ⟨Nat.zero_le _, Nat.zero_le _⟩ (fun r3 σ1 H locs hp3 X => ?_)
      rw [hp3.1] at X
      have hp3 := hp3.2
      refine lv_if_eq (tgt := 30) hx hb dX0_differ_24 (by decide) (fun q3 => ?_) (fun q3 => ?_)
      · obtain ⟨j, hj, rfl⟩ := hp2.1 q2
        obtain ⟨k, hk, rfl⟩ := hp3.1 q3
        have K54 : ∀ (lo hi : Nat) (ls : Array Slot), lo ≤ hi → hi < M.2.1 c0 → a_differ M (nI c0) (nI j) (nI k) = nI (ct_ (M.2.2 c0 lo) (M.2.2 c0 hi)) → lv_has ls 11 [(0, .ref (ad 7)), (1, .int (nI c0)), (2, .int (nI j)), (3, .int (nI k)), (4, .int (nI lo)), (5, .int (nI hi))] → W p l e rmB s m args below meth c H locs 0 0 Q (F0 m 54 ls []) := by
          intro lo hi ls hlh hhi hans hl
          have loopB : ∀ (look : Int32), (∀ b, b < 16 → bt look b = false → M.2.2 c0 hi b = M.2.2 c0 lo b) → ∀ (n i a : Nat) (H : Heap) (locs : List Loc) (ls : Array Slot), i ≤ 16 → 17 ≤ i + n → a = fb_ct (fun b => !(M.2.2 c0 lo b == M.2.2 c0 hi b)) i → gH D A H0 (xw ad d z) σ H locs → lv_has ls 11 [(0, .ref (ad 7)), (1, .int (nI c0)), (2, .int (nI j)), (3, .int (nI k)), (4, .int (nI lo)), (5, .int (nI hi)), (6, .int (look)), (7, .int (nI a)), (8, .int (nI i))] → W p l e rmB s m args below meth c H locs 0 0 Q (F0 m 99 ls []) := by
            intro look hlk n
            induction n with
            | zero => intro i a H locs ls h1 h2; exact absurd h2 (by omega)
            | succ n ih =>
              intro i a H locs ls h1 h2 hJ X hl
              refine lv_iload hx hb dX0_differ_99 (lv_at hl 8 rfl) ?_
              refine lv_bipush (v := nI 16) hx hb dX0_differ_101 (by decide) ?_
              refine n_ge (tgt := 155) hx hb (i) (16) rfl rfl (by omega) (by omega) dX0_differ_103 (by decide) (fun q4 => ?_) (fun q4 => ?_)
              · obtain rfl : i = 16 := by omega
                refine lv_iload hx hb dX0_differ_155 (lv_at hl 7 rfl) ?_
                exact ret _ _ _ _ _ _ X (⟨(congrArg nI hJ).trans hans.symm, h⟩) rfl dX0_differ_157
              · have K149 : ∀ (a : Nat) (H : Heap) (locs : List Loc) (ls : Array Slot), a = fb_ct (fun b => !(M.2.2 c0 lo b == M.2.2 c0 hi b)) (i + 1) → gH D A H0 (xw ad d z) σ H locs → lv_has ls 11 [(0, .ref (ad 7)), (1, .int (nI c0)), (2, .int (nI j)), (3, .int (nI k)), (4, .int (nI lo)), (5, .int (nI hi)), (6, .int (look)), (7, .int (nI a)), (8, .int (nI i))] → W p l e rmB s m args below meth c H locs 0 0 Q (F0 m 149 ls []) := by
                  intro a H locs ls hJ X hl
                  refine g_iinc (k := 8) (v := nI (i + 1)) (lv' := [(0, _), (1, _), (2, _), (3, _), (4, _), (5, _), (6, _), (7, _), (8, _)]) hx hb dX0_differ_149 hl rfl (nI_i1 i) rfl (by decide) rfl (fun ls hl => ?_)
                  refine lv_goto (tgt := 99) hx hb dX0_differ_152 (by decide) ?_
                  exact ih (i + 1) a H locs ls (by omega) (by omega) hJ X hl
                refine lv_iload hx hb dX0_differ_106 (lv_at hl 6 rfl) ?_
                refine lv_iload hx hb dX0_differ_108 (lv_at hl 8 rfl) ?_
                refine lv_ishr hx hb dX0_differ_110 ?_
                refine lv_iconst (v := nI 1) hx hb dX0_differ_111 (by decide) ?_
                refine lv_iand hx hb dX0_differ_112 ?_
                refine lv_iconst (v := nI 1) hx hb dX0_differ_113 (by decide) ?_
                refine lv_icmp_ne (tgt := 149) hx hb dX0_differ_114 (by decide) (fun q5 => ?_) (fun q5 => ?_)
                · have hz : bt look i = false := by cases z : bt look i; rfl; exact absurd ((bt_get1 (by omega)).mpr z) q5
                  exact K149 a H locs ls (ct_skip hJ (by simp [hlk i q4 hz])) X hl
                · refine lv_aload_n hx hb dX0_differ_117 rfl (lv_at hl 0 rfl) ?_
                  refine lv_iload_n hx hb dX0_differ_118 rfl (lv_at hl 1 rfl) ?_
                  refine lv_iload hx hb dX0_differ_119 (lv_at hl 4 rfl) ?_
                  refine lv_iload hx hb dX0_differ_121 (lv_at hl 8 rfl) ?_
                  refine g_calli (n := 3) (rest := []) (q0 := 7) G X (cX_block l D ad d z h hc (by omega : lo < M.2.1 c0) q4) (lw_V q84 q86 qs2 q10 q87) (by decide +kernel) ⟨rfl, rfl⟩ ⟨Nat.le_of_ble_eq_true rfl, Nat.le_of_ble_eq_true rfl⟩ rfl rfl rfl rfl hl.1 rfl (Nat.le_of_ble_eq_true rfl) dX0_differ_123 ⟨Nat.zero_le _, Nat.zero_le _⟩ (fun r4 σ2 H locs hp4 X => ?_)
                  rw [hp4.1] at X
                  refine g_top (M.2.2 c0 lo i) hp4.2 ?_
                  refine g_ist (lv' := [(0, _), (1, _), (2, _), (3, _), (4, _), (5, _), (6, _), (7, _), (8, _), (9, _)]) hx hb dX0_differ_126 hl rfl (by decide) rfl (fun ls hl => ?_)
                  refine lv_aload_n hx hb dX0_differ_128 rfl (lv_at hl 0 rfl) ?_
                  refine lv_iload_n hx hb dX0_differ_129 rfl (lv_at hl 1 rfl) ?_
                  refine lv_iload hx hb dX0_differ_130 (lv_at hl 5 rfl) ?_
                  refine lv_iload hx hb dX0_differ_132 (lv_at hl 8 rfl) ?_
                  refine g_calli (n := 3) (rest := []) (q0 := 7) G X (cX_block l D ad d z h hc hhi q4) (lw_V q84 q86 qs2 q10 q87) (by decide +kernel) ⟨rfl, rfl⟩ ⟨Nat.le_of_ble_eq_true rfl, Nat.le_of_ble_eq_true rfl⟩ rfl rfl rfl rfl hl.1 rfl (Nat.le_of_ble_eq_true rfl) dX0_differ_134 ⟨Nat.zero_le _, Nat.zero_le _⟩ (fun r5 σ2 H locs hp5 X => ?_)
                  rw [hp5.1] at X
                  refine g_top (M.2.2 c0 hi i) hp5.2 ?_
                  refine g_ist (lv' := [(0, _), (1, _), (2, _), (3, _), (4, _), (5, _), (6, _), (7, _), (8, _), (9, _), (10, _)]) hx hb dX0_differ_137 hl rfl (by decide) rfl (fun ls hl => ?_)
                  refine lv_iload hx hb dX0_differ_139 (lv_at hl 9 rfl) ?_
                  refine lv_iload hx hb dX0_differ_141 (lv_at hl 10 rfl) ?_
                  refine lv_icmp_eq (tgt := 149) hx hb dX0_differ_143 (by decide) (fun q6 => ?_) (fun q6 => ?_)
                  · exact K149 a H locs ls (ct_skip hJ (by simp [q6])) X (lv_sub hl [0, 1, 2, 3, 4, 5, 6, 7, 8] rfl)
                  · refine g_iinc (k := 7) (v := nI (a + 1)) (lv' := [(0, _), (1, _), (2, _), (3, _), (4, _), (5, _), (6, _), (7, _), (8, _), (9, _), (10, _)]) hx hb dX0_differ_146 hl rfl (nI_i1 a) rfl (by decide) rfl (fun ls hl => ?_)
                    exact K149 (a + 1) H locs ls (ct_step hJ (by simp [q6])) X (lv_sub hl [0, 1, 2, 3, 4, 5, 6, 7, 8] rfl)
          have loopA : ∀ (n i : Nat) (look : Int32) (H : Heap) (locs : List Loc) (ls : Array Slot), lo < i → i ≤ hi + 1 → hi + 2 ≤ i + n → (∀ b, b < 16 → bt look b = false → ∀ a, lo < a → a < i → bt (σ 9 (c0 * 6 + a)) b = false) → gH D A H0 (xw ad d z) σ H locs → lv_has ls 11 [(0, .ref (ad 7)), (1, .int (nI c0)), (2, .int (nI j)), (3, .int (nI k)), (4, .int (nI lo)), (5, .int (nI hi)), (6, .int (look)), (7, .int (nI i))] → W p l e rmB s m args below meth c H locs 0 0 Q (F0 m 63 ls []) := by
            intro n
            induction n with
            | zero => intro i look H locs ls h0 h1 h2; exact absurd h2 (by omega)
            | succ n ih =>
              intro i look H locs ls h0 h1 h2 hJ X hl
              refine lv_iload hx hb dX0_differ_63 (lv_at hl 7 rfl) ?_
              refine lv_iload hx hb dX0_differ_65 (lv_at hl 5 rfl) ?_
              refine n_gt (tgt := 93) hx hb (i) (hi) rfl rfl (by omega) (by omega) dX0_differ_67 (by decide) (fun q4 => ?_) (fun q4 => ?_)
              · obtain rfl : i = hi + 1 := by omega
                refine lv_iconst (v := nI 0) hx hb dX0_differ_93 (by decide) ?_
                refine g_ist (lv' := [(0, _), (1, _), (2, _), (3, _), (4, _), (5, _), (6, _), (7, _)]) hx hb dX0_differ_94 hl rfl (by decide) rfl (fun ls hl => ?_)
                refine lv_iconst (v := nI 0) hx hb dX0_differ_96 (by decide) ?_
                refine g_ist (lv' := [(0, _), (1, _), (2, _), (3, _), (4, _), (5, _), (6, _), (7, _), (8, _)]) hx hb dX0_differ_97 hl rfl (by decide) rfl (fun ls hl => ?_)
                refine loopB look (fun b hb9 z => ?_) 17 0 0 H locs ls (by omega) (by omega) rfl X hl
                have := RelX_between h hc hb9 (lo := lo) (hi - lo) (by omega) (fun a g1 g2 => hJ b hb9 z a g1 (by omega))
                rwa [show lo + (hi - lo) = hi by omega] at this
              · refine lv_iload hx hb dX0_differ_70 (lv_at hl 6 rfl) ?_
                refine x_tf G X hl 9 (by decide) q29 rfl rfl dX0_differ_72 dX0_differ_73 ?_
                refine lv_iload_n hx hb dX0_differ_76 rfl (lv_at hl 1 rfl) ?_
                refine lv_bipush (v := nI 6) hx hb dX0_differ_77 (by decide) ?_
                refine lv_imul hx hb dX0_differ_79 ?_
                refine lv_iload hx hb dX0_differ_80 (lv_at hl 7 rfl) ?_
                refine lv_iadd hx hb dX0_differ_82 ?_
                refine g_ld G X xk9 (c0 * 6 + i) (by simp only [pk_mul, nI_add]) (by omega) dX0_differ_83 ?_
                refine lv_ior hx hb dX0_differ_84 ?_
                refine g_ist (lv' := [(0, _), (1, _), (2, _), (3, _), (4, _), (5, _), (6, _), (7, _)]) hx hb dX0_differ_85 hl rfl (by decide) rfl (fun ls hl => ?_)
                refine g_iinc (k := 7) (v := nI (i + 1)) (lv' := [(0, _), (1, _), (2, _), (3, _), (4, _), (5, _), (6, _), (7, _)]) hx hb dX0_differ_87 hl rfl (nI_i1 i) rfl (by decide) rfl (fun ls hl => ?_)
                refine lv_goto (tgt := 63) hx hb dX0_differ_90 (by decide) ?_
                refine ih (i + 1) _ H locs ls (by omega) (by omega) (by omega) (fun b hb9 z a g1 g2 => ?_) X hl
                rw [b_or, Bool.or_eq_false_iff] at z
                by_cases e9 : a = i
                · rw [e9]; exact z.2
                · exact hJ b hb9 z.1 a g1 (by omega)
          refine lv_iconst (v := nI 0) hx hb dX0_differ_54 (by decide) ?_
          refine g_ist (lv' := [(0, _), (1, _), (2, _), (3, _), (4, _), (5, _), (6, _)]) hx hb dX0_differ_55 hl rfl (by decide) rfl (fun ls hl => ?_)
          refine lv_iload hx hb dX0_differ_57 (lv_at hl 4 rfl) ?_
          refine lv_iconst (v := nI 1) hx hb dX0_differ_59 (by decide) ?_
          refine lv_iadd hx hb dX0_differ_60 ?_
          refine g_top (nI (lo + 1)) (by simp only [pk_mul, nI_add]) ?_
          refine g_ist (lv' := [(0, _), (1, _), (2, _), (3, _), (4, _), (5, _), (6, _), (7, _)]) hx hb dX0_differ_61 hl rfl (by decide) rfl (fun ls hl => ?_)
          exact loopA (hi + 2) (lo + 1) _ H locs ls (by omega) (by omega) (by omega) (fun b hb9 z a g1 g2 => by omega) X hl
        refine lv_iload_n hx hb dX0_differ_30 rfl (lv_at hl 2 rfl) ?_
        refine lv_iload_n hx hb dX0_differ_31 rfl (lv_at hl 3 rfl) ?_
        refine n_ge (tgt := 39) hx hb (j) (k) rfl rfl (by omega) (by omega) dX0_differ_32 (by decide) (fun q4 => ?_) (fun q4 => ?_)
        · refine lv_iload_n hx hb dX0_differ_39 rfl (lv_at hl 3 rfl) ?_
          refine g_ist (lv' := [(0, _), (1, _), (2, _), (3, _), (4, _)]) hx hb dX0_differ_40 hl rfl (by decide) rfl (fun ls hl => ?_)
          refine lv_iload_n hx hb dX0_differ_42 rfl (lv_at hl 2 rfl) ?_
          refine lv_iload_n hx hb dX0_differ_43 rfl (lv_at hl 3 rfl) ?_
          refine n_ge (tgt := 51) hx hb (j) (k) rfl rfl (by omega) (by omega) dX0_differ_44 (by decide) (fun q5 => ?_) (fun q5 => ?_)
          · refine lv_iload_n hx hb dX0_differ_51 rfl (lv_at hl 2 rfl) ?_
            refine g_ist (lv' := [(0, _), (1, _), (2, _), (3, _), (4, _), (5, _)]) hx hb dX0_differ_52 hl rfl (by decide) rfl (fun ls hl => ?_)
            exact K54 k j ls q4 hj (by rw [a_differ_ok hc h6 hj hk, ct_comm]) hl
          · exact absurd q5 (by omega)
        · refine lv_iload_n hx hb dX0_differ_35 rfl (lv_at hl 2 rfl) ?_
          refine lv_goto (tgt := 40) hx hb dX0_differ_36 (by decide) ?_
          refine g_ist (lv' := [(0, _), (1, _), (2, _), (3, _), (4, _)]) hx hb dX0_differ_40 hl rfl (by decide) rfl (fun ls hl => ?_)
          refine lv_iload_n hx hb dX0_differ_42 rfl (lv_at hl 2 rfl) ?_
          refine lv_iload_n hx hb dX0_differ_43 rfl (lv_at hl 3 rfl) ?_
          refine n_ge (tgt := 51) hx hb (j) (k) rfl rfl (by omega) (by omega) dX0_differ_44 (by decide) (fun q5 => ?_) (fun q5 => ?_)
          · exact absurd q5 (by omega)
          · refine lv_iload_n hx hb dX0_differ_47 rfl (lv_at hl 3 rfl) ?_
            refine lv_goto (tgt := 52) hx hb dX0_differ_48 (by decide) ?_
            refine g_ist (lv' := [(0, _), (1, _), (2, _), (3, _), (4, _), (5, _)]) hx hb dX0_differ_52 hl rfl (by decide) rfl (fun ls hl => ?_)
            exact K54 j k ls (by omega) hk (a_differ_ok hc h6 hj hk) hl
      · exact K27 H locs (Or.inr (hp3.2 q3)) X
  · refine lv_iconst (v := -1) hx hb dX0_differ_7 (by decide) ?_
    exact ret _ _ _ _ _ _ X (⟨(a_differ_bad (hp.2 q)).symm, h⟩) rfl dX0_differ_8
end
section
set_option maxHeartbeats 4000000 in
set_option maxRecDepth 100000 in
/-- badChain(x) -/
theorem cM_bad (l : Launch) (D : va_G) (ad : Nat → Nat) (d : ClassId) {σ : gS} (x : Int32) : gMi l yX1_badChain cX1_badChain 2 (some .boolean) rmA [.ref (ad 4), .int (x)] D (mw ad d) (mt d) σ (fun r σ' => σ' = σ ∧ (r = 0 → ∃ j, j < 2 ∧ x = nI j) ∧ (r ≠ 0 → bad_ x)) := by
  refine gMi_of (by decide) (Nat.le_of_ble_eq_true rfl) ?_
  intro p e s m args below meth c A H0 Q G ret H locs ls X hl
  have G : gC RX1 2 (mt d) p s m args c cX1_badChain D := G
  have hx := G.1
  have hb := G.2.1
  have hl : lv_has ls 2 [(0, .ref (ad 4)), (1, .int (x))] := hl
  refine lv_iload_n hx hb dX1_badChain_0 rfl (lv_at hl 1 rfl) ?_
  refine lv_if_lt (tgt := 9) hx hb dX1_badChain_1 (by decide) (fun q => ?_) (fun q => ?_)
  · refine lv_iconst (v := nI 1) hx hb dX1_badChain_9 (by decide) ?_
    refine lv_goto (tgt := 14) hx hb dX1_badChain_10 (by decide) ?_
    exact ret _ _ _ _ _ _ X (⟨rfl, fun z => absurd z (by decide), fun _ => Or.inl q⟩) rfl dX1_badChain_14
  · refine lv_iload_n hx hb dX1_badChain_4 rfl (lv_at hl 1 rfl) ?_
    refine lv_iconst (v := nI 1) hx hb dX1_badChain_5 (by decide) ?_
    refine lv_icmp_le (tgt := 13) hx hb dX1_badChain_6 (by decide) (fun q2 => ?_) (fun q2 => ?_)
    · refine lv_iconst (v := nI 0) hx hb dX1_badChain_13 (by decide) ?_
      exact ret _ _ _ _ _ _ X (⟨rfl, fun _ => chain_of q q2, fun z => absurd rfl z⟩) rfl dX1_badChain_14
    · refine lv_iconst (v := nI 1) hx hb dX1_badChain_9 (by decide) ?_
      refine lv_goto (tgt := 14) hx hb dX1_badChain_10 (by decide) ?_
      exact ret _ _ _ _ _ _ X (⟨rfl, fun z => absurd z (by decide), fun _ => bad_of q2⟩) rfl dX1_badChain_14
theorem nob_of5 {M : MS} {c : Nat} {k : Int32} (hc : c < 2) (h6 : M.2.1 c ≤ 6) (h : nI 5 < k) : nob_ M (nI c) k := by
  right
  rw [cn_nI (by omega)]
  rw [Int32.lt_iff_toInt_lt] at h
  rw [Int32.le_iff_toInt_le, nI_toInt (by omega)]
  have e1 : (nI 5).toInt = 5 := by decide
  omega
theorem RelM_disk {σ σ' : gS} {M : MS} {f : Nat → Int32} (h : RelM σ M) (e0 : ∀ b, b < 16 → σ' 0 b = f b) (e2 : σ' 2 = σ 2) (e3 : σ' 3 = σ 3) : RelM σ' (f, M.2) := by
  refine ⟨e0, fun c hc => ?_, fun c hc k hk b hb => ?_⟩
  · rw [e2]; exact h.2.1 c hc
  · rw [e3]; exact h.2.2 c hc k hk b hb
set_option maxHeartbeats 4000000 in
set_option maxRecDepth 100000 in
/-- none(c, k) -/
theorem cM_none (l : Launch) (D : va_G) (ad : Nat → Nat) (d : ClassId) {σ : gS} {M : MS} (h : RelM σ M) {c0 : Nat} (hc : c0 < 2) (k : Int32) : gMi l yX1_none cX1_none 3 (some .boolean) rmA [.ref (ad 4), .int (nI c0), .int (k)] D (mw ad d) (mt d) σ (fun r σ' => σ' = σ ∧ (r = 0 → ∃ j, j < M.2.1 c0 ∧ k = nI j) ∧ (r ≠ 0 → nob_ M (nI c0) k)) := by
  obtain ⟨h6, h8⟩ := h.2.1 c0 hc
  refine gMi_of (by decide) (Nat.le_of_ble_eq_true rfl) ?_
  intro p e s m args below meth c A H0 Q G ret H locs ls X hl
  have G : gC RX1 3 (mt d) p s m args c cX1_none D := G
  have hx := G.1
  have hb := G.2.1
  have hl : lv_has ls 3 [(0, .ref (ad 4)), (1, .int (nI c0)), (2, .int (k))] := hl
  refine lv_iload_n hx hb dX1_none_0 rfl (lv_at hl 2 rfl) ?_
  refine lv_if_lt (tgt := 19) hx hb dX1_none_1 (by decide) (fun q => ?_) (fun q => ?_)
  · refine lv_iconst (v := nI 1) hx hb dX1_none_19 (by decide) ?_
    refine lv_goto (tgt := 24) hx hb dX1_none_20 (by decide) ?_
    exact ret _ _ _ _ _ _ X (⟨rfl, fun z => absurd z (by decide), fun _ => Or.inl q⟩) rfl dX1_none_24
  · refine lv_iload_n hx hb dX1_none_4 rfl (lv_at hl 2 rfl) ?_
    refine lv_iconst (v := nI 5) hx hb dX1_none_5 (by decide) ?_
    refine lv_icmp_gt (tgt := 19) hx hb dX1_none_6 (by decide) (fun q2 => ?_) (fun q2 => ?_)
    · refine lv_iconst (v := nI 1) hx hb dX1_none_19 (by decide) ?_
      refine lv_goto (tgt := 24) hx hb dX1_none_20 (by decide) ?_
      exact ret _ _ _ _ _ _ X (⟨rfl, fun z => absurd z (by decide), fun _ => nob_of5 hc h6 q2⟩) rfl dX1_none_24
    · refine lv_iload_n hx hb dX1_none_9 rfl (lv_at hl 2 rfl) ?_
      refine m_tf G X hl 2 (by decide) q144 rfl rfl dX1_none_10 dX1_none_11 ?_
      refine lv_iload_n hx hb dX1_none_14 rfl (lv_at hl 1 rfl) ?_
      refine g_ld G X mk2 (c0) rfl hc dX1_none_15 ?_
      refine g_top (nI (M.2.1 c0)) h8 ?_
      refine lv_icmp_lt (tgt := 23) hx hb dX1_none_16 (by decide) (fun q3 => ?_) (fun q3 => ?_)
      · refine lv_iconst (v := nI 0) hx hb dX1_none_23 (by decide) ?_
        exact ret _ _ _ _ _ _ X (⟨rfl, fun _ => bk_of hc h6 q q3, fun z => absurd rfl z⟩) rfl dX1_none_24
      · refine lv_iconst (v := nI 1) hx hb dX1_none_19 (by decide) ?_
        refine lv_goto (tgt := 24) hx hb dX1_none_20 (by decide) ?_
        exact ret _ _ _ _ _ _ X (⟨rfl, fun z => absurd z (by decide), fun _ => nob_of hc h6 q3⟩) rfl dX1_none_24
set_option maxHeartbeats 4000000 in
set_option maxRecDepth 100000 in
/-- write(b, v) -/
theorem cM_write (l : Launch) (D : va_G) (ad : Nat → Nat) (d : ClassId) {σ : gS} {M : MS} (h : RelM σ M) (b v : Int32) : gMi l yX1_write cX1_write 3 (some .int) rmB [.ref (ad 4), .int (b), .int (v)] D (mw ad d) (mt d) σ (fun r σ' => r = a_write b ∧ RelM σ' (s_write M b v)) := by
  refine gMi_of (by decide) (Nat.le_of_ble_eq_true rfl) ?_
  intro p e s m args below meth c A H0 Q G ret H locs ls X hl
  have G : gC RX1 3 (mt d) p s m args c cX1_write D := G
  have hx := G.1
  have hb := G.2.1
  have hl : lv_has ls 3 [(0, .ref (ad 4)), (1, .int (b)), (2, .int (v))] := hl
  refine lv_iload_n hx hb dX1_write_0 rfl (lv_at hl 1 rfl) ?_
  refine lv_if_lt (tgt := 10) hx hb dX1_write_1 (by decide) (fun q => ?_) (fun q => ?_)
  · refine lv_bipush (v := -2) hx hb dX1_write_10 (by decide) ?_
    exact ret _ _ _ _ _ _ X (⟨(a_write_out (Or.inl q)).symm, by rw [s_write_out (Or.inl q)]; exact h⟩) rfl dX1_write_12
  · refine lv_iload_n hx hb dX1_write_4 rfl (lv_at hl 1 rfl) ?_
    refine lv_bipush (v := nI 15) hx hb dX1_write_5 (by decide) ?_
    refine lv_icmp_le (tgt := 13) hx hb dX1_write_7 (by decide) (fun q2 => ?_) (fun q2 => ?_)
    · obtain ⟨j, hj, rfl⟩ := blk_of15 q q2
      refine m_tf G X hl 0 (by decide) q142 rfl rfl dX1_write_13 dX1_write_14 ?_
      refine lv_iload_n hx hb dX1_write_17 rfl (lv_at hl 1 rfl) ?_
      refine lv_iload_n hx hb dX1_write_18 rfl (lv_at hl 2 rfl) ?_
      refine g_st G X mk0 (j) rfl hj dX1_write_19 (fun H locs X => ?_)
      refine lv_iconst (v := nI 0) hx hb dX1_write_20 (by decide) ?_
      refine ret _ _ _ _ _ _ X ⟨(a_write_in hj).symm, ?_⟩ rfl dX1_write_21
      rw [s_write_in hj]
      refine RelM_disk h (fun a ha => ?_) rfl rfl
      show upd (σ 0) j v a = upd M.1 j v a
      unfold upd
      split
      · rfl
      · exact h.1 a ha
    · refine lv_bipush (v := -2) hx hb dX1_write_10 (by decide) ?_
      exact ret _ _ _ _ _ _ X (⟨(a_write_out (out_of15 q2)).symm, by rw [s_write_out (out_of15 q2)]; exact h⟩) rfl dX1_write_12
theorem fa_ngt {a b : Int32} (h : b < a) : ¬ a ≤ b := by
  rw [Int32.lt_iff_toInt_lt] at h
  rw [Int32.le_iff_toInt_le]
  omega
theorem fa_le_of {a b : Int32} (h : ¬ b < a) : a ≤ b := by
  rw [Int32.lt_iff_toInt_lt] at h
  rw [Int32.le_iff_toInt_le]
  omega
set_option maxHeartbeats 4000000 in
set_option maxRecDepth 100000 in
/-- copy(f, t, n) -/
theorem cM_copy (l : Launch) (D : va_G) (ad : Nat → Nat) (d : ClassId) {σ : gS} {M : MS} (h : RelM σ M) (f t n0 : Int32) : gMi l yX1_copy cX1_copy 6 (some .int) rmB [.ref (ad 4), .int (f), .int (t), .int (n0)] D (mw ad d) (mt d) σ (fun r σ' => r = a_copy f t n0 ∧ RelM σ' (s_copy M f t n0)) := by
  refine gMi_of (by decide) (Nat.le_of_ble_eq_true rfl) ?_
  intro p e s m args below meth c A H0 Q G ret H locs ls X hl
  have G : gC RX1 6 (mt d) p s m args c cX1_copy D := G
  have hx := G.1
  have hb := G.2.1
  have hl : lv_has ls 6 [(0, .ref (ad 4)), (1, .int (f)), (2, .int (t)), (3, .int (n0))] := hl
  have K9 : W p l e rmB s m args below meth c H locs 0 0 Q (F0 m 9 ls [.int (kcl n0)]) := by
    refine g_ist (lv' := [(0, _), (1, _), (2, _), (3, _), (4, _)]) hx hb dX1_copy_9 hl rfl (by decide) rfl (fun ls hl => ?_)
    have K49 : cpo_ f t n0 → W p l e rmB s m args below meth c H locs 0 0 Q (F0 m 49 ls []) := by
      intro ho
      refine lv_bipush (v := -2) hx hb dX1_copy_49 (by decide) ?_
      exact ret _ _ _ _ _ _ X (⟨(a_copy_out ho).symm, by rw [s_copy_out ho]; exact h⟩) rfl dX1_copy_51
    refine lv_iload_n hx hb dX1_copy_11 rfl (lv_at hl 1 rfl) ?_
    refine lv_if_lt (tgt := 49) hx hb dX1_copy_12 (by decide) (fun q1 => ?_) (fun q1 => ?_)
    · exact K49 (Or.inl (Or.inl q1))
    · refine lv_iload_n hx hb dX1_copy_15 rfl (lv_at hl 1 rfl) ?_
      refine lv_bipush (v := nI 15) hx hb dX1_copy_16 (by decide) ?_
      refine lv_icmp_gt (tgt := 49) hx hb dX1_copy_18 (by decide) (fun q2 => ?_) (fun q2 => ?_)
      · exact K49 (Or.inl (out_of15 (fa_ngt q2)))
      · refine lv_iload_n hx hb dX1_copy_21 rfl (lv_at hl 2 rfl) ?_
        refine lv_if_lt (tgt := 49) hx hb dX1_copy_22 (by decide) (fun q3 => ?_) (fun q3 => ?_)
        · exact K49 (Or.inr (Or.inl (Or.inl q3)))
        · refine lv_iload_n hx hb dX1_copy_25 rfl (lv_at hl 2 rfl) ?_
          refine lv_bipush (v := nI 15) hx hb dX1_copy_26 (by decide) ?_
          refine lv_icmp_gt (tgt := 49) hx hb dX1_copy_28 (by decide) (fun q4 => ?_) (fun q4 => ?_)
          · exact K49 (Or.inr (Or.inl (out_of15 (fa_ngt q4))))
          · refine lv_iload hx hb dX1_copy_31 (lv_at hl 4 rfl) ?_
            refine lv_bipush (v := nI 16) hx hb dX1_copy_33 (by decide) ?_
            refine lv_iload_n hx hb dX1_copy_35 rfl (lv_at hl 1 rfl) ?_
            refine lv_isub hx hb dX1_copy_36 ?_
            refine lv_icmp_gt (tgt := 49) hx hb dX1_copy_37 (by decide) (fun q5 => ?_) (fun q5 => ?_)
            · exact K49 (Or.inr (Or.inr (Or.inl q5)))
            · refine lv_iload hx hb dX1_copy_40 (lv_at hl 4 rfl) ?_
              refine lv_bipush (v := nI 16) hx hb dX1_copy_42 (by decide) ?_
              refine lv_iload_n hx hb dX1_copy_44 rfl (lv_at hl 2 rfl) ?_
              refine lv_isub hx hb dX1_copy_45 ?_
              refine lv_icmp_le (tgt := 52) hx hb dX1_copy_46 (by decide) (fun q6 => ?_) (fun q6 => ?_)
              · obtain ⟨a, ha, rfl⟩ := blk_of15 q1 (fa_le_of q2)
                obtain ⟨b, hb16, rfl⟩ := blk_of15 q3 (fa_le_of q4)
                obtain ⟨k, hk1, ek⟩ := kcl_of ha q5
                obtain ⟨k2, hk2, ek2⟩ := kcl_of hb16 (fa_nlt q6)
                have e12 : k = k2 := (nI_eq (by omega) (by omega)).mp (ek.symm.trans ek2)
                rw [← e12] at hk2
                rw [ek] at hl
                have loop2 : ∀ (n i : Nat) (σ1 : gS) (H : Heap) (locs : List Loc) (ls : Array Slot), i ≤ k → k + 1 ≤ i + n → (RelM σ1 (dk_ M.1 a b i, M.2) ∧ ∀ j, j < k → σ1 1 j = M.1 (a + j)) → gH D A H0 (mw ad d) σ1 H locs → lv_has ls 6 [(0, .ref (ad 4)), (1, .int (nI a)), (2, .int (nI b)), (3, .int (n0)), (4, .int (nI k)), (5, .int (nI i))] → W p l e rmB s m args below meth c H locs 0 0 Q (F0 m 87 ls []) := by
                  intro n
                  induction n with
                  | zero => intro i σ1 H locs ls h1 h2; exact absurd h2 (by omega)
                  | succ n ih =>
                    intro i σ1 H locs ls h1 h2 hJ X hl
                    refine lv_iload hx hb dX1_copy_87 (lv_at hl 5 rfl) ?_
                    refine lv_iload hx hb dX1_copy_89 (lv_at hl 4 rfl) ?_
                    refine n_ge (tgt := 116) hx hb (i) (k) rfl rfl (by omega) (by omega) dX1_copy_91 (by decide) (fun q7 => ?_) (fun q7 => ?_)
                    · obtain rfl : i = k := by omega
                      refine lv_iload hx hb dX1_copy_116 (lv_at hl 4 rfl) ?_
                      exact ret _ _ _ _ _ _ X (⟨(a_copy_in ha hb16 hk1 hk2 ek).symm, by rw [s_copy_in ha hb16 hk1 hk2 ek]; exact hJ.1⟩) rfl dX1_copy_118
                    · refine m_tf G X hl 0 (by decide) q142 rfl rfl dX1_copy_94 dX1_copy_95 ?_
                      refine lv_iload_n hx hb dX1_copy_98 rfl (lv_at hl 2 rfl) ?_
                      refine lv_iload hx hb dX1_copy_99 (lv_at hl 5 rfl) ?_
                      refine lv_iadd hx hb dX1_copy_101 ?_
                      refine m_tf G X hl 1 (by decide) q143 rfl rfl dX1_copy_102 dX1_copy_103 ?_
                      refine lv_iload hx hb dX1_copy_106 (lv_at hl 5 rfl) ?_
                      refine g_ld G X mk1 (i) rfl (by omega) dX1_copy_108 ?_
                      refine g_st G X mk0 (b + i) (by simp only [pk_mul, nI_add]) (by omega) dX1_copy_109 (fun H locs X => ?_)
                      refine g_iinc (k := 5) (v := nI (i + 1)) (lv' := [(0, _), (1, _), (2, _), (3, _), (4, _), (5, _)]) hx hb dX1_copy_110 hl rfl (nI_i1 i) rfl (by decide) rfl (fun ls hl => ?_)
                      refine lv_goto (tgt := 87) hx hb dX1_copy_113 (by decide) ?_
                      refine ih (i + 1) _ H locs ls (by omega) (by omega) ⟨?_, by exact hJ.2⟩ X hl
                      rw [← dk_step]
                      refine RelM_disk (M := (dk_ M.1 a b i, M.2)) hJ.1 (fun j hj => ?_) rfl rfl
                      show upd (σ1 0) (b + i) (σ1 1 i) j = upd (dk_ M.1 a b i) (b + i) (M.1 (a + i)) j
                      rw [hJ.2 i q7]
                      unfold upd
                      split
                      · rfl
                      · exact hJ.1.1 j hj
                have loop1 : ∀ (n i : Nat) (σ1 : gS) (H : Heap) (locs : List Loc) (ls : Array Slot), i ≤ k → k + 1 ≤ i + n → (RelM σ1 M ∧ ∀ j, j < i → σ1 1 j = M.1 (a + j)) → gH D A H0 (mw ad d) σ1 H locs → lv_has ls 6 [(0, .ref (ad 4)), (1, .int (nI a)), (2, .int (nI b)), (3, .int (n0)), (4, .int (nI k)), (5, .int (nI i))] → W p l e rmB s m args below meth c H locs 0 0 Q (F0 m 55 ls []) := by
                  intro n
                  induction n with
                  | zero => intro i σ1 H locs ls h1 h2; exact absurd h2 (by omega)
                  | succ n ih =>
                    intro i σ1 H locs ls h1 h2 hJ X hl
                    refine lv_iload hx hb dX1_copy_55 (lv_at hl 5 rfl) ?_
                    refine lv_iload hx hb dX1_copy_57 (lv_at hl 4 rfl) ?_
                    refine n_ge (tgt := 84) hx hb (i) (k) rfl rfl (by omega) (by omega) dX1_copy_59 (by decide) (fun q7 => ?_) (fun q7 => ?_)
                    · obtain rfl : i = k := by omega
                      refine lv_iconst (v := nI 0) hx hb dX1_copy_84 (by decide) ?_
                      refine g_ist (lv' := [(0, _), (1, _), (2, _), (3, _), (4, _), (5, _)]) hx hb dX1_copy_85 hl rfl (by decide) rfl (fun ls hl => ?_)
                      exact loop2 (i + 1) 0 σ1 H locs ls (by omega) (by omega) ⟨by rw [dk_0]; exact hJ.1, hJ.2⟩ X hl
                    · refine m_tf G X hl 1 (by decide) q143 rfl rfl dX1_copy_62 dX1_copy_63 ?_
                      refine lv_iload hx hb dX1_copy_66 (lv_at hl 5 rfl) ?_
                      refine m_tf G X hl 0 (by decide) q142 rfl rfl dX1_copy_68 dX1_copy_69 ?_
                      refine lv_iload_n hx hb dX1_copy_72 rfl (lv_at hl 1 rfl) ?_
                      refine lv_iload hx hb dX1_copy_73 (lv_at hl 5 rfl) ?_
                      refine lv_iadd hx hb dX1_copy_75 ?_
                      refine g_ld G X mk0 (a + i) (by simp only [pk_mul, nI_add]) (by omega) dX1_copy_76 ?_
                      refine g_st G X mk1 (i) rfl (by omega) dX1_copy_77 (fun H locs X => ?_)
                      refine g_iinc (k := 5) (v := nI (i + 1)) (lv' := [(0, _), (1, _), (2, _), (3, _), (4, _), (5, _)]) hx hb dX1_copy_78 hl rfl (nI_i1 i) rfl (by decide) rfl (fun ls hl => ?_)
                      refine lv_goto (tgt := 55) hx hb dX1_copy_81 (by decide) ?_
                      refine ih (i + 1) _ H locs ls (by omega) (by omega) ⟨by exact RelM_disk hJ.1 hJ.1.1 rfl rfl, fun j hj => ?_⟩ X hl
                      show upd (σ1 1) i (σ1 0 (a + i)) j = M.1 (a + j)
                      by_cases e9 : j = i
                      · rw [e9, pk_us]; exact hJ.1.1 (a + i) (by omega)
                      · rw [pk_un e9]; exact hJ.2 j (by omega)
                refine lv_iconst (v := nI 0) hx hb dX1_copy_52 (by decide) ?_
                refine g_ist (lv' := [(0, _), (1, _), (2, _), (3, _), (4, _), (5, _)]) hx hb dX1_copy_53 hl rfl (by decide) rfl (fun ls hl => ?_)
                exact loop1 (k + 1) 0 σ H locs ls (by omega) (by omega) ⟨h, fun j hj => absurd hj (Nat.not_lt_zero j)⟩ X hl
              · exact K49 (Or.inr (Or.inr (Or.inr (fa_nle q6))))
  refine lv_iload_n hx hb dX1_copy_0 rfl (lv_at hl 3 rfl) ?_
  refine lv_if_ge (tgt := 8) hx hb dX1_copy_1 (by decide) (fun q => ?_) (fun q => ?_)
  · refine lv_iload_n hx hb dX1_copy_8 rfl (lv_at hl 3 rfl) ?_
    refine g_top (kcl n0) (kcl_pos (fa_nlt0 q)) ?_
    exact K9
  · refine lv_iconst (v := nI 0) hx hb dX1_copy_4 (by decide) ?_
    refine lv_goto (tgt := 9) hx hb dX1_copy_5 (by decide) ?_
    refine g_top (kcl n0) (kcl_neg (fa_lt0 q)) ?_
    exact K9
end
section
theorem RelM_backup {σ σ' : gS} {M : MS} {c0 : Nat} (h : RelM σ M) (hc0 : c0 < 2) (h6 : M.2.1 c0 < 6) (e0 : σ' 0 = σ 0) (e2 : σ' 2 = upd (σ 2) c0 (nI (M.2.1 c0 + 1)))
    (e3 : ∀ j, (j < (c0 * 6 + M.2.1 c0) * 16 ∨ (c0 * 6 + M.2.1 c0) * 16 + 16 ≤ j) → σ' 3 j = σ 3 j) (e4 : ∀ b, b < 16 → σ' 3 ((c0 * 6 + M.2.1 c0) * 16 + b) = M.1 b) : RelM σ' (s_backup0 M c0) := by
  obtain ⟨h1, h2, h3⟩ := h
  refine ⟨fun b hb => by rw [e0]; exact h1 b hb, fun c hc => ?_, fun c hc k hk b hb => ?_⟩
  · show updN M.2.1 c0 (M.2.1 c0 + 1) c ≤ 6 ∧ σ' 2 c = nI (updN M.2.1 c0 (M.2.1 c0 + 1) c)
    rw [e2]
    unfold updN upd
    by_cases e : c = c0
    · rw [if_pos e, if_pos e]
      exact ⟨h6, rfl⟩
    · rw [if_neg e, if_neg e]
      exact h2 c hc
  · have hk : k < updN M.2.1 c0 (M.2.1 c0 + 1) c := hk
    show σ' 3 ((c * 6 + k) * 16 + b) = if c = c0 ∧ k = M.2.1 c0 then M.1 b else M.2.2 c k b
    unfold updN at hk
    have h2c := h2 c hc
    by_cases e : c = c0
    · subst e
      rw [if_pos rfl] at hk
      by_cases e2 : k = M.2.1 c
      · subst e2
        rw [if_pos (by omega)]
        exact e4 b hb
      · rw [if_neg (by omega), e3 _ (by omega)]
        exact h3 c hc k (by omega) b hb
    · rw [if_neg e] at hk
      rw [if_neg (by omega), e3 _ (by omega)]
      exact h3 c hc k hk b hb
theorem RelM_drop {σ σ' : gS} {M : MS} {c0 k0 : Nat} (h : RelM σ M) (hc0 : c0 < 2) (hk0 : k0 < M.2.1 c0) (e0 : σ' 0 = σ 0) (e2 : σ' 2 = upd (σ 2) c0 (nI (M.2.1 c0 - 1)))
    (e3 : ∀ j, (j < (c0 * 6 + k0) * 16 ∨ (c0 * 6 + 5) * 16 ≤ j) → σ' 3 j = σ 3 j) (e4 : ∀ j, (c0 * 6 + k0) * 16 ≤ j → j < (c0 * 6 + 5) * 16 → σ' 3 j = σ 3 (j + 16)) : RelM σ' (s_drop0 M c0 k0) := by
  obtain ⟨h1, h2, h3⟩ := h
  have h60 := (h2 c0 hc0).1
  refine ⟨fun b hb => by rw [e0]; exact h1 b hb, fun c hc => ?_, fun c hc k hk b hb => ?_⟩
  · show updN M.2.1 c0 (M.2.1 c0 - 1) c ≤ 6 ∧ σ' 2 c = nI (updN M.2.1 c0 (M.2.1 c0 - 1) c)
    rw [e2]
    unfold updN upd
    by_cases e : c = c0
    · rw [if_pos e, if_pos e]
      exact ⟨by omega, rfl⟩
    · rw [if_neg e, if_neg e]
      exact h2 c hc
  · have hk : k < updN M.2.1 c0 (M.2.1 c0 - 1) c := hk
    show σ' 3 ((c * 6 + k) * 16 + b) = if c = c0 ∧ k0 ≤ k then M.2.2 c (k + 1) b else M.2.2 c k b
    unfold updN at hk
    have h2c := h2 c hc
    by_cases e : c = c0
    · subst e
      rw [if_pos rfl] at hk
      by_cases e2 : k0 ≤ k
      · rw [if_pos (by omega), e4 _ (by omega) (by omega), show (c * 6 + k) * 16 + b + 16 = (c * 6 + (k + 1)) * 16 + b by omega]
        exact h3 c hc (k + 1) (by omega) b hb
      · rw [if_neg (by omega), e3 _ (by omega)]
        exact h3 c hc k (by omega) b hb
    · rw [if_neg e] at hk
      rw [if_neg (by omega), e3 _ (by omega)]
      exact h3 c hc k hk b hb
set_option maxHeartbeats 4000000 in
set_option maxRecDepth 100000 in
/-- backup(c) -/
theorem cM_backup (l : Launch) (D : va_G) (ad : Nat → Nat) (d : ClassId) {σ : gS} {M : MS} (h : RelM σ M) (cI : Int32) : gMi l yX1_backup cX1_backup 4 (some .int) rmB [.ref (ad 4), .int (cI)] D (mw ad d) (mt d) σ (fun r σ' => r = a_backup M cI ∧ RelM σ' (s_backup M cI)) := by
  refine gMi_of (by decide) (Nat.le_of_ble_eq_true rfl) ?_
  intro p e s m args below meth c A H0 Q G ret H locs ls X hl
  have G : gC RX1 4 (mt d) p s m args c cX1_backup D := G
  have hx := G.1
  have hb := G.2.1
  have hl : lv_has ls 4 [(0, .ref (ad 4)), (1, .int (cI))] := hl
  refine lv_aload_n hx hb dX1_backup_0 rfl (lv_at hl 0 rfl) ?_
  refine lv_iload_n hx hb dX1_backup_1 rfl (lv_at hl 1 rfl) ?_
  refine g_calli (n := 1) (rest := []) (q0 := 4) G X (cM_bad l D ad d cI) (lw_V q167 q169 qs6 q11 q170) (by decide +kernel) ⟨rfl, rfl⟩ ⟨Nat.le_of_ble_eq_true rfl, Nat.le_of_ble_eq_true rfl⟩ rfl rfl rfl rfl hl.1 rfl (Nat.le_of_ble_eq_true rfl) dX1_backup_2 ⟨Nat.zero_le _, Nat.zero_le _⟩ (fun r1 σ1 H locs hp X => ?_)
  rw [hp.1] at X
  have hp := hp.2
  refine lv_if_eq (tgt := 10) hx hb dX1_backup_5 (by decide) (fun q => ?_) (fun q => ?_)
  · obtain ⟨c0, hc, rfl⟩ := hp.1 q
    obtain ⟨h6, h8⟩ := h.2.1 c0 hc
    refine m_tf G X hl 2 (by decide) q144 rfl rfl dX1_backup_10 dX1_backup_11 ?_
    refine lv_iload_n hx hb dX1_backup_14 rfl (lv_at hl 1 rfl) ?_
    refine g_ld G X mk2 (c0) rfl hc dX1_backup_15 ?_
    refine g_top (nI (M.2.1 c0)) h8 ?_
    refine g_istn (lv' := [(0, _), (1, _), (2, _)]) hx hb dX1_backup_16 rfl hl rfl (by decide) rfl (fun ls hl => ?_)
    refine lv_iload_n hx hb dX1_backup_17 rfl (lv_at hl 2 rfl) ?_
    refine lv_bipush (v := nI 6) hx hb dX1_backup_18 (by decide) ?_
    refine lv_icmp_ne (tgt := 26) hx hb dX1_backup_20 (by decide) (fun q2 => ?_) (fun q2 => ?_)
    · have h5 : M.2.1 c0 < 6 := by rcases Nat.lt_or_ge (M.2.1 c0) 6 with z | z; exact z; exact absurd (by rw [show M.2.1 c0 = 6 by omega]) q2
      have loop : ∀ (n i : Nat) (σ1 : gS) (H : Heap) (locs : List Loc) (ls : Array Slot), i ≤ 16 → 17 ≤ i + n → ((∀ j, j ≠ 3 → σ1 j = σ j) ∧ (∀ j, (j < (c0 * 6 + M.2.1 c0) * 16 ∨ (c0 * 6 + M.2.1 c0) * 16 + 16 ≤ j) → σ1 3 j = σ 3 j) ∧ ∀ b, b < i → σ1 3 ((c0 * 6 + M.2.1 c0) * 16 + b) = M.1 b) → gH D A H0 (mw ad d) σ1 H locs → lv_has ls 4 [(0, .ref (ad 4)), (1, .int (nI c0)), (2, .int (nI (M.2.1 c0))), (3, .int (nI i))] → W p l e rmB s m args below meth c H locs 0 0 Q (F0 m 28 ls []) := by
        intro n
        induction n with
        | zero => intro i σ1 H locs ls h1 h2; exact absurd h2 (by omega)
        | succ n ih =>
          intro i σ1 H locs ls h1 h2 hJ X hl
          obtain ⟨j1, j2, j3⟩ := hJ
          refine lv_iload_n hx hb dX1_backup_28 rfl (lv_at hl 3 rfl) ?_
          refine lv_bipush (v := nI 16) hx hb dX1_backup_29 (by decide) ?_
          refine n_ge (tgt := 62) hx hb (i) (16) rfl rfl (by omega) (by omega) dX1_backup_31 (by decide) (fun q3 => ?_) (fun q3 => ?_)
          · obtain rfl : i = 16 := by omega
            refine m_tf G X hl 2 (by decide) q144 rfl rfl dX1_backup_62 dX1_backup_63 ?_
            refine lv_iload_n hx hb dX1_backup_66 rfl (lv_at hl 1 rfl) ?_
            refine lv_iload_n hx hb dX1_backup_67 rfl (lv_at hl 2 rfl) ?_
            refine lv_iconst (v := nI 1) hx hb dX1_backup_68 (by decide) ?_
            refine lv_iadd hx hb dX1_backup_69 ?_
            refine g_top (nI (M.2.1 c0 + 1)) (nI_add _ _) ?_
            refine g_st G X mk2 (c0) rfl hc dX1_backup_70 (fun H locs X => ?_)
            refine lv_iload_n hx hb dX1_backup_71 rfl (lv_at hl 2 rfl) ?_
            exact ret _ _ _ _ _ _ X (⟨(a_backup_ok hc h5).symm, by rw [s_backup_ok hc h5]; exact RelM_backup h hc h5 (j1 0 (by decide)) (congrArg (fun f => upd f c0 (nI (M.2.1 c0 + 1))) (j1 2 (by decide))) j2 j3⟩) rfl dX1_backup_72
          · refine m_tf G X hl 3 (by decide) q145 rfl rfl dX1_backup_34 dX1_backup_35 ?_
            refine lv_iload_n hx hb dX1_backup_38 rfl (lv_at hl 1 rfl) ?_
            refine lv_bipush (v := nI 6) hx hb dX1_backup_39 (by decide) ?_
            refine lv_imul hx hb dX1_backup_41 ?_
            refine lv_iload_n hx hb dX1_backup_42 rfl (lv_at hl 2 rfl) ?_
            refine lv_iadd hx hb dX1_backup_43 ?_
            refine lv_bipush (v := nI 16) hx hb dX1_backup_44 (by decide) ?_
            refine lv_imul hx hb dX1_backup_46 ?_
            refine lv_iload_n hx hb dX1_backup_47 rfl (lv_at hl 3 rfl) ?_
            refine lv_iadd hx hb dX1_backup_48 ?_
            refine m_tf G X hl 0 (by decide) q142 rfl rfl dX1_backup_49 dX1_backup_50 ?_
            refine lv_iload_n hx hb dX1_backup_53 rfl (lv_at hl 3 rfl) ?_
            refine g_ld G X mk0 (i) rfl q3 dX1_backup_54 ?_
            refine g_st G X mk3 ((c0 * 6 + M.2.1 c0) * 16 + i) (by simp only [pk_mul, nI_add]) (by omega) dX1_backup_55 (fun H locs X => ?_)
            refine g_iinc (k := 3) (v := nI (i + 1)) (lv' := [(0, _), (1, _), (2, _), (3, _)]) hx hb dX1_backup_56 hl rfl (nI_i1 i) rfl (by decide) rfl (fun ls hl => ?_)
            refine lv_goto (tgt := 28) hx hb dX1_backup_59 (by decide) ?_
            refine ih (i + 1) _ H locs ls (by omega) (by omega) ⟨fun j hj => (up2_n hj).trans (j1 j hj), fun j hj => ?_, fun b hb9 => ?_⟩ X hl
            · show upd (σ1 3) ((c0 * 6 + M.2.1 c0) * 16 + i) (σ1 0 i) j = σ 3 j
              rw [pk_un (by omega)]
              exact j2 j hj
            · show upd (σ1 3) ((c0 * 6 + M.2.1 c0) * 16 + i) (σ1 0 i) ((c0 * 6 + M.2.1 c0) * 16 + b) = M.1 b
              by_cases e9 : b = i
              · rw [e9, pk_us, j1 0 (by decide)]; exact h.1 i q3
              · rw [pk_un (by omega)]; exact j3 b (by omega)
      refine lv_iconst (v := nI 0) hx hb dX1_backup_26 (by decide) ?_
      refine g_istn (lv' := [(0, _), (1, _), (2, _), (3, _)]) hx hb dX1_backup_27 rfl hl rfl (by decide) rfl (fun ls hl => ?_)
      exact loop 17 0 σ H locs ls (by omega) (by omega) ⟨fun j hj => rfl, fun j hj => rfl, fun b hb9 => absurd hb9 (Nat.not_lt_zero b)⟩ X hl
    · have h5 : 6 ≤ M.2.1 c0 := by have := (nI_eq (a := M.2.1 c0) (b := 6) (by omega) (by omega)).mp q2; omega
      refine lv_bipush (v := -3) hx hb dX1_backup_23 (by decide) ?_
      exact ret _ _ _ _ _ _ X (⟨(a_backup_full hc h5).symm, by rw [s_backup_full hc h5]; exact h⟩) rfl dX1_backup_25
  · refine lv_iconst (v := -1) hx hb dX1_backup_8 (by decide) ?_
    exact ret _ _ _ _ _ _ X (⟨(a_backup_bad (hp.2 q)).symm, by rw [s_backup_bad (hp.2 q)]; exact h⟩) rfl dX1_backup_9
set_option maxHeartbeats 4000000 in
set_option maxRecDepth 100000 in
/-- against(c, k) -/
theorem cM_against (l : Launch) (D : va_G) (ad : Nat → Nat) (d : ClassId) {σ : gS} {M : MS} (h : RelM σ M) {c0 k : Nat} (hc : c0 < 2) (hk : k < M.2.1 c0) : gMi l yX1_against cX1_against 5 (some .int) rmA [.ref (ad 4), .int (nI c0), .int (nI k)] D (mw ad d) (mt d) σ (fun r σ' => σ' = σ ∧ r = nI (ct_ M.1 (M.2.2 c0 k))) := by
  have h6 := (h.2.1 c0 hc).1
  refine gMi_of (by decide) (Nat.le_of_ble_eq_true rfl) ?_
  intro p e s m args below meth c A H0 Q G ret H locs ls X hl
  have G : gC RX1 5 (mt d) p s m args c cX1_against D := G
  have hx := G.1
  have hb := G.2.1
  have hl : lv_has ls 5 [(0, .ref (ad 4)), (1, .int (nI c0)), (2, .int (nI k))] := hl
  have loop : ∀ (n i a : Nat) (H : Heap) (locs : List Loc) (ls : Array Slot), i ≤ 16 → 17 ≤ i + n → a = fb_ct (fun b => !(M.1 b == M.2.2 c0 k b)) i → gH D A H0 (mw ad d) σ H locs → lv_has ls 5 [(0, .ref (ad 4)), (1, .int (nI c0)), (2, .int (nI k)), (3, .int (nI a)), (4, .int (nI i))] → W p l e rmA s m args below meth c H locs 0 0 Q (F0 m 5 ls []) := by
    intro n
    induction n with
    | zero => intro i a H locs ls h1 h2; exact absurd h2 (by omega)
    | succ n ih =>
      intro i a H locs ls h1 h2 hJ X hl
      refine lv_iload hx hb dX1_against_5 (lv_at hl 4 rfl) ?_
      refine lv_bipush (v := nI 16) hx hb dX1_against_7 (by decide) ?_
      refine n_ge (tgt := 48) hx hb (i) (16) rfl rfl (by omega) (by omega) dX1_against_9 (by decide) (fun q => ?_) (fun q => ?_)
      · obtain rfl : i = 16 := by omega
        refine lv_iload_n hx hb dX1_against_48 rfl (lv_at hl 3 rfl) ?_
        exact ret _ _ _ _ _ _ X (⟨rfl, congrArg nI hJ⟩) rfl dX1_against_49
      · refine m_tf G X hl 0 (by decide) q142 rfl rfl dX1_against_12 dX1_against_13 ?_
        refine lv_iload hx hb dX1_against_16 (lv_at hl 4 rfl) ?_
        refine g_ld G X mk0 (i) rfl q dX1_against_18 ?_
        refine g_top (M.1 i) (h.1 i q) ?_
        refine m_tf G X hl 3 (by decide) q145 rfl rfl dX1_against_19 dX1_against_20 ?_
        refine lv_iload_n hx hb dX1_against_23 rfl (lv_at hl 1 rfl) ?_
        refine lv_bipush (v := nI 6) hx hb dX1_against_24 (by decide) ?_
        refine lv_imul hx hb dX1_against_26 ?_
        refine lv_iload_n hx hb dX1_against_27 rfl (lv_at hl 2 rfl) ?_
        refine lv_iadd hx hb dX1_against_28 ?_
        refine lv_bipush (v := nI 16) hx hb dX1_against_29 (by decide) ?_
        refine lv_imul hx hb dX1_against_31 ?_
        refine lv_iload hx hb dX1_against_32 (lv_at hl 4 rfl) ?_
        refine lv_iadd hx hb dX1_against_34 ?_
        refine g_ld G X mk3 ((c0 * 6 + k) * 16 + i) (by simp only [pk_mul, nI_add]) (by omega) dX1_against_35 ?_
        refine g_top (M.2.2 c0 k i) (h.2.2 c0 hc k hk i q) ?_
        refine lv_icmp_eq (tgt := 42) hx hb dX1_against_36 (by decide) (fun q2 => ?_) (fun q2 => ?_)
        · refine g_iinc (k := 4) (v := nI (i + 1)) (lv' := [(0, _), (1, _), (2, _), (3, _), (4, _)]) hx hb dX1_against_42 hl rfl (nI_i1 i) rfl (by decide) rfl (fun ls hl => ?_)
          refine lv_goto (tgt := 5) hx hb dX1_against_45 (by decide) ?_
          exact ih (i + 1) a H locs ls (by omega) (by omega) (ct_skip hJ (by simp [q2])) X hl
        · refine g_iinc (k := 3) (v := nI (a + 1)) (lv' := [(0, _), (1, _), (2, _), (3, _), (4, _)]) hx hb dX1_against_39 hl rfl (nI_i1 a) rfl (by decide) rfl (fun ls hl => ?_)
          refine g_iinc (k := 4) (v := nI (i + 1)) (lv' := [(0, _), (1, _), (2, _), (3, _), (4, _)]) hx hb dX1_against_42 hl rfl (nI_i1 i) rfl (by decide) rfl (fun ls hl => ?_)
          refine lv_goto (tgt := 5) hx hb dX1_against_45 (by decide) ?_
          exact ih (i + 1) (a + 1) H locs ls (by omega) (by omega) (ct_step hJ (by simp [q2])) X hl
  refine lv_iconst (v := nI 0) hx hb dX1_against_0 (by decide) ?_
  refine g_istn (lv' := [(0, _), (1, _), (2, _), (3, _)]) hx hb dX1_against_1 rfl hl rfl (by decide) rfl (fun ls hl => ?_)
  refine lv_iconst (v := nI 0) hx hb dX1_against_2 (by decide) ?_
  refine g_ist (lv' := [(0, _), (1, _), (2, _), (3, _), (4, _)]) hx hb dX1_against_3 hl rfl (by decide) rfl (fun ls hl => ?_)
  exact loop 17 0 0 H locs ls (by omega) (by omega) rfl X hl
set_option maxHeartbeats 4000000 in
set_option maxRecDepth 100000 in
/-- restore(c, k) -/
theorem cM_restore (l : Launch) (D : va_G) (ad : Nat → Nat) (d : ClassId) {σ : gS} {M : MS} (h : RelM σ M) (cI kI : Int32) : gMi l yX1_restore cX1_restore 5 (some .int) rmB [.ref (ad 4), .int (cI), .int (kI)] D (mw ad d) (mt d) σ (fun r σ' => r = a_restore M cI kI ∧ RelM σ' (s_restore M cI kI)) := by
  refine gMi_of (by decide) (Nat.le_of_ble_eq_true rfl) ?_
  intro p e s m args below meth c A H0 Q G ret H locs ls X hl
  have G : gC RX1 5 (mt d) p s m args c cX1_restore D := G
  have hx := G.1
  have hb := G.2.1
  have hl : lv_has ls 5 [(0, .ref (ad 4)), (1, .int (cI)), (2, .int (kI))] := hl
  refine lv_aload_n hx hb dX1_restore_0 rfl (lv_at hl 0 rfl) ?_
  refine lv_iload_n hx hb dX1_restore_1 rfl (lv_at hl 1 rfl) ?_
  refine g_calli (n := 1) (rest := []) (q0 := 4) G X (cM_bad l D ad d cI) (lw_V q167 q169 qs6 q11 q170) (by decide +kernel) ⟨rfl, rfl⟩ ⟨Nat.le_of_ble_eq_true rfl, Nat.le_of_ble_eq_true rfl⟩ rfl rfl rfl rfl hl.1 rfl (Nat.le_of_ble_eq_true rfl) dX1_restore_2 ⟨Nat.zero_le _, Nat.zero_le _⟩ (fun r1 σ1 H locs hp X => ?_)
  rw [hp.1] at X
  have hp := hp.2
  refine lv_if_eq (tgt := 10) hx hb dX1_restore_5 (by decide) (fun q => ?_) (fun q => ?_)
  · obtain ⟨c0, hc, rfl⟩ := hp.1 q
    have h6 := (h.2.1 c0 hc).1
    refine lv_aload_n hx hb dX1_restore_10 rfl (lv_at hl 0 rfl) ?_
    refine lv_iload_n hx hb dX1_restore_11 rfl (lv_at hl 1 rfl) ?_
    refine lv_iload_n hx hb dX1_restore_12 rfl (lv_at hl 2 rfl) ?_
    refine g_calli (n := 2) (rest := []) (q0 := 4) G X (cM_none l D ad d h hc kI) (lw_V q175 q177 qs7 q11 q178) (by decide +kernel) ⟨rfl, rfl⟩ ⟨Nat.le_of_ble_eq_true rfl, Nat.le_of_ble_eq_true rfl⟩ rfl rfl rfl rfl hl.1 rfl (Nat.le_of_ble_eq_true rfl) dX1_restore_13 ⟨Nat.zero_le _, Nat.zero_le _⟩ (fun r2 σ1 H locs hp2 X => ?_)
    rw [hp2.1] at X
    have hp2 := hp2.2
    refine lv_if_eq (tgt := 22) hx hb dX1_restore_16 (by decide) (fun q2 => ?_) (fun q2 => ?_)
    · obtain ⟨k, hk, rfl⟩ := hp2.1 q2
      refine lv_aload_n hx hb dX1_restore_22 rfl (lv_at hl 0 rfl) ?_
      refine lv_iload_n hx hb dX1_restore_23 rfl (lv_at hl 1 rfl) ?_
      refine lv_iload_n hx hb dX1_restore_24 rfl (lv_at hl 2 rfl) ?_
      refine g_calli (n := 2) (rest := []) (q0 := 4) G X (cM_against l D ad d h hc hk) (lw_V q179 q181 qs8 q11 q182) (by decide +kernel) ⟨rfl, rfl⟩ ⟨Nat.le_of_ble_eq_true rfl, Nat.le_of_ble_eq_true rfl⟩ rfl rfl rfl rfl hl.1 rfl (Nat.le_of_ble_eq_true rfl) dX1_restore_25 ⟨Nat.zero_le _, Nat.zero_le _⟩ (fun r3 σ1 H locs hp3 X => ?_)
      rw [hp3.1] at X
      have loop : ∀ (n i : Nat) (σ1 : gS) (H : Heap) (locs : List Loc) (ls : Array Slot), i ≤ 16 → 17 ≤ i + n → ((∀ j, j ≠ 0 → σ1 j = σ j) ∧ ∀ b, b < i → σ1 0 b = M.2.2 c0 k b) → gH D A H0 (mw ad d) σ1 H locs → lv_has ls 5 [(0, .ref (ad 4)), (1, .int (nI c0)), (2, .int (nI k)), (3, .int (r3)), (4, .int (nI i))] → W p l e rmB s m args below meth c H locs 0 0 Q (F0 m 32 ls []) := by
        intro n
        induction n with
        | zero => intro i σ1 H locs ls h1 h2; exact absurd h2 (by omega)
        | succ n ih =>
          intro i σ1 H locs ls h1 h2 hJ X hl
          refine lv_iload hx hb dX1_restore_32 (lv_at hl 4 rfl) ?_
          refine lv_bipush (v := nI 16) hx hb dX1_restore_34 (by decide) ?_
          refine n_ge (tgt := 69) hx hb (i) (16) rfl rfl (by omega) (by omega) dX1_restore_36 (by decide) (fun q3 => ?_) (fun q3 => ?_)
          · obtain rfl : i = 16 := by omega
            refine lv_iload_n hx hb dX1_restore_69 rfl (lv_at hl 3 rfl) ?_
            exact ret _ _ _ _ _ _ X (⟨hp3.2.trans (a_restore_ok hc h6 hk).symm, by rw [s_restore_ok hc h6 hk]; exact RelM_disk h hJ.2 (hJ.1 2 (by decide)) (hJ.1 3 (by decide))⟩) rfl dX1_restore_70
          · refine m_tf G X hl 0 (by decide) q142 rfl rfl dX1_restore_39 dX1_restore_40 ?_
            refine lv_iload hx hb dX1_restore_43 (lv_at hl 4 rfl) ?_
            refine m_tf G X hl 3 (by decide) q145 rfl rfl dX1_restore_45 dX1_restore_46 ?_
            refine lv_iload_n hx hb dX1_restore_49 rfl (lv_at hl 1 rfl) ?_
            refine lv_bipush (v := nI 6) hx hb dX1_restore_50 (by decide) ?_
            refine lv_imul hx hb dX1_restore_52 ?_
            refine lv_iload_n hx hb dX1_restore_53 rfl (lv_at hl 2 rfl) ?_
            refine lv_iadd hx hb dX1_restore_54 ?_
            refine lv_bipush (v := nI 16) hx hb dX1_restore_55 (by decide) ?_
            refine lv_imul hx hb dX1_restore_57 ?_
            refine lv_iload hx hb dX1_restore_58 (lv_at hl 4 rfl) ?_
            refine lv_iadd hx hb dX1_restore_60 ?_
            refine g_ld G X mk3 ((c0 * 6 + k) * 16 + i) (by simp only [pk_mul, nI_add]) (by omega) dX1_restore_61 ?_
            refine g_st G X mk0 (i) rfl q3 dX1_restore_62 (fun H locs X => ?_)
            refine g_iinc (k := 4) (v := nI (i + 1)) (lv' := [(0, _), (1, _), (2, _), (3, _), (4, _)]) hx hb dX1_restore_63 hl rfl (nI_i1 i) rfl (by decide) rfl (fun ls hl => ?_)
            refine lv_goto (tgt := 32) hx hb dX1_restore_66 (by decide) ?_
            refine ih (i + 1) _ H locs ls (by omega) (by omega) ⟨fun j hj => (up2_n hj).trans (hJ.1 j hj), fun b hb9 => ?_⟩ X hl
            show upd (σ1 0) i (σ1 3 ((c0 * 6 + k) * 16 + i)) b = M.2.2 c0 k b
            by_cases e9 : b = i
            · rw [e9, pk_us, hJ.1 3 (by decide)]; exact h.2.2 c0 hc k hk i q3
            · rw [pk_un e9]; exact hJ.2 b (by omega)
      refine g_istn (lv' := [(0, _), (1, _), (2, _), (3, _)]) hx hb dX1_restore_28 rfl hl rfl (by decide) rfl (fun ls hl => ?_)
      refine lv_iconst (v := nI 0) hx hb dX1_restore_29 (by decide) ?_
      refine g_ist (lv' := [(0, _), (1, _), (2, _), (3, _), (4, _)]) hx hb dX1_restore_30 hl rfl (by decide) rfl (fun ls hl => ?_)
      exact loop 17 0 σ H locs ls (by omega) (by omega) ⟨fun j hj => rfl, fun b hb9 => absurd hb9 (Nat.not_lt_zero b)⟩ X hl
    · refine lv_bipush (v := -4) hx hb dX1_restore_19 (by decide) ?_
      exact ret _ _ _ _ _ _ X (⟨(a_restore_nob hc (hp2.2 q2)).symm, by rw [s_restore_nob hc (hp2.2 q2)]; exact h⟩) rfl dX1_restore_21
  · refine lv_iconst (v := -1) hx hb dX1_restore_8 (by decide) ?_
    exact ret _ _ _ _ _ _ X (⟨(a_restore_bad (hp.2 q)).symm, by rw [s_restore_bad (hp.2 q)]; exact h⟩) rfl dX1_restore_9
end
section
set_option maxHeartbeats 4000000 in
set_option maxRecDepth 100000 in
/-- drop(c, k) -/
theorem cM_drop (l : Launch) (D : va_G) (ad : Nat → Nat) (d : ClassId) {σ : gS} {M : MS} (h : RelM σ M) (cI kI : Int32) : gMi l yX1_drop cX1_drop 4 (some .int) rmB [.ref (ad 4), .int (cI), .int (kI)] D (mw ad d) (mt d) σ (fun r σ' => r = a_drop M cI kI ∧ RelM σ' (s_drop M cI kI)) := by
  refine gMi_of (by decide) (Nat.le_of_ble_eq_true rfl) ?_
  intro p e s m args below meth c A H0 Q G ret H locs ls X hl
  have G : gC RX1 4 (mt d) p s m args c cX1_drop D := G
  have hx := G.1
  have hb := G.2.1
  have hl : lv_has ls 4 [(0, .ref (ad 4)), (1, .int (cI)), (2, .int (kI))] := hl
  refine lv_aload_n hx hb dX1_drop_0 rfl (lv_at hl 0 rfl) ?_
  refine lv_iload_n hx hb dX1_drop_1 rfl (lv_at hl 1 rfl) ?_
  refine g_calli (n := 1) (rest := []) (q0 := 4) G X (cM_bad l D ad d cI) (lw_V q167 q169 qs6 q11 q170) (by decide +kernel) ⟨rfl, rfl⟩ ⟨Nat.le_of_ble_eq_true rfl, Nat.le_of_ble_eq_true rfl⟩ rfl rfl rfl rfl hl.1 rfl (Nat.le_of_ble_eq_true rfl) dX1_drop_2 ⟨Nat.zero_le _, Nat.zero_le _⟩ (fun r1 σ1 H locs hp X => ?_)
  rw [hp.1] at X
  have hp := hp.2
  refine lv_if_eq (tgt := 10) hx hb dX1_drop_5 (by decide) (fun q => ?_) (fun q => ?_)
  · obtain ⟨c0, hc, rfl⟩ := hp.1 q
    obtain ⟨h6, h8⟩ := h.2.1 c0 hc
    refine lv_aload_n hx hb dX1_drop_10 rfl (lv_at hl 0 rfl) ?_
    refine lv_iload_n hx hb dX1_drop_11 rfl (lv_at hl 1 rfl) ?_
    refine lv_iload_n hx hb dX1_drop_12 rfl (lv_at hl 2 rfl) ?_
    refine g_calli (n := 2) (rest := []) (q0 := 4) G X (cM_none l D ad d h hc kI) (lw_V q175 q177 qs7 q11 q178) (by decide +kernel) ⟨rfl, rfl⟩ ⟨Nat.le_of_ble_eq_true rfl, Nat.le_of_ble_eq_true rfl⟩ rfl rfl rfl rfl hl.1 rfl (Nat.le_of_ble_eq_true rfl) dX1_drop_13 ⟨Nat.zero_le _, Nat.zero_le _⟩ (fun r2 σ1 H locs hp2 X => ?_)
    rw [hp2.1] at X
    have hp2 := hp2.2
    refine lv_if_eq (tgt := 22) hx hb dX1_drop_16 (by decide) (fun q2 => ?_) (fun q2 => ?_)
    · obtain ⟨k, hk, rfl⟩ := hp2.1 q2
      have loop : ∀ (n i : Nat) (σ1 : gS) (H : Heap) (locs : List Loc) (ls : Array Slot), (c0 * 6 + k) * 16 ≤ i → i ≤ (c0 * 6 + 5) * 16 → (c0 * 6 + 5) * 16 + 1 ≤ i + n → ((∀ j, j ≠ 3 → σ1 j = σ j) ∧ (∀ j, (j < (c0 * 6 + k) * 16 ∨ i ≤ j) → σ1 3 j = σ 3 j) ∧ ∀ j, (c0 * 6 + k) * 16 ≤ j → j < i → σ1 3 j = σ 3 (j + 16)) → gH D A H0 (mw ad d) σ1 H locs → lv_has ls 4 [(0, .ref (ad 4)), (1, .int (nI c0)), (2, .int (nI k)), (3, .int (nI i))] → W p l e rmB s m args below meth c H locs 0 0 Q (F0 m 32 ls []) := by
        intro n
        induction n with
        | zero => intro i σ1 H locs ls h0 h1 h2; exact absurd h2 (by omega)
        | succ n ih =>
          intro i σ1 H locs ls h0 h1 h2 hJ X hl
          obtain ⟨j1, j2, j3⟩ := hJ
          refine lv_iload_n hx hb dX1_drop_32 rfl (lv_at hl 3 rfl) ?_
          refine lv_iload_n hx hb dX1_drop_33 rfl (lv_at hl 1 rfl) ?_
          refine lv_bipush (v := nI 6) hx hb dX1_drop_34 (by decide) ?_
          refine lv_imul hx hb dX1_drop_36 ?_
          refine lv_iconst (v := nI 5) hx hb dX1_drop_37 (by decide) ?_
          refine lv_iadd hx hb dX1_drop_38 ?_
          refine lv_bipush (v := nI 16) hx hb dX1_drop_39 (by decide) ?_
          refine lv_imul hx hb dX1_drop_41 ?_
          refine n_ge (tgt := 66) hx hb (i) ((c0 * 6 + 5) * 16) rfl (by simp only [pk_mul, nI_add]) (by omega) (by omega) dX1_drop_42 (by decide) (fun q3 => ?_) (fun q3 => ?_)
          · obtain rfl : i = (c0 * 6 + 5) * 16 := by omega
            refine m_tf G X hl 2 (by decide) q144 rfl rfl dX1_drop_66 dX1_drop_67 ?_
            refine lv_iload_n hx hb dX1_drop_70 rfl (lv_at hl 1 rfl) ?_
            refine m_tf G X hl 2 (by decide) q144 rfl rfl dX1_drop_71 dX1_drop_72 ?_
            refine lv_iload_n hx hb dX1_drop_75 rfl (lv_at hl 1 rfl) ?_
            refine g_ld G X mk2 (c0) rfl hc dX1_drop_76 ?_
            refine g_top (nI (M.2.1 c0)) (by rw [j1 2 (by decide)]; exact h8) ?_
            refine lv_iconst (v := nI 1) hx hb dX1_drop_77 (by decide) ?_
            refine lv_isub hx hb dX1_drop_78 ?_
            refine g_top (nI (M.2.1 c0 - 1)) (pk_sub (by omega)) ?_
            refine g_st G X mk2 (c0) rfl hc dX1_drop_79 (fun H locs X => ?_)
            refine m_tf G X hl 2 (by decide) q144 rfl rfl dX1_drop_80 dX1_drop_81 ?_
            refine lv_iload_n hx hb dX1_drop_84 rfl (lv_at hl 1 rfl) ?_
            refine g_ld G X mk2 (c0) rfl hc dX1_drop_85 ?_
            refine g_top (nI (M.2.1 c0 - 1)) pk_us ?_
            exact ret _ _ _ _ _ _ X (⟨(a_drop_ok hc h6 hk).symm, by rw [s_drop_ok hc h6 hk]; exact RelM_drop h hc hk (j1 0 (by decide)) (congrArg (fun f => upd f c0 (nI (M.2.1 c0 - 1))) (j1 2 (by decide))) j2 j3⟩) rfl dX1_drop_86
          · refine m_tf G X hl 3 (by decide) q145 rfl rfl dX1_drop_45 dX1_drop_46 ?_
            refine lv_iload_n hx hb dX1_drop_49 rfl (lv_at hl 3 rfl) ?_
            refine m_tf G X hl 3 (by decide) q145 rfl rfl dX1_drop_50 dX1_drop_51 ?_
            refine lv_iload_n hx hb dX1_drop_54 rfl (lv_at hl 3 rfl) ?_
            refine lv_bipush (v := nI 16) hx hb dX1_drop_55 (by decide) ?_
            refine lv_iadd hx hb dX1_drop_57 ?_
            refine g_ld G X mk3 (i + 16) (by simp only [pk_mul, nI_add]) (by omega) dX1_drop_58 ?_
            refine g_st G X mk3 (i) rfl (by omega) dX1_drop_59 (fun H locs X => ?_)
            refine g_iinc (k := 3) (v := nI (i + 1)) (lv' := [(0, _), (1, _), (2, _), (3, _)]) hx hb dX1_drop_60 hl rfl (nI_i1 i) rfl (by decide) rfl (fun ls hl => ?_)
            refine lv_goto (tgt := 32) hx hb dX1_drop_63 (by decide) ?_
            refine ih (i + 1) _ H locs ls (by omega) (by omega) (by omega) ⟨fun j hj => (up2_n hj).trans (j1 j hj), fun j hj => ?_, fun j hj hj2 => ?_⟩ X hl
            · show upd (σ1 3) i (σ1 3 (i + 16)) j = σ 3 j
              rw [pk_un (by omega)]
              exact j2 j (by omega)
            · show upd (σ1 3) i (σ1 3 (i + 16)) j = σ 3 (j + 16)
              by_cases e9 : j = i
              · rw [e9, pk_us]; exact j2 _ (by omega)
              · rw [pk_un e9]; exact j3 j hj (by omega)
      refine lv_iload_n hx hb dX1_drop_22 rfl (lv_at hl 1 rfl) ?_
      refine lv_bipush (v := nI 6) hx hb dX1_drop_23 (by decide) ?_
      refine lv_imul hx hb dX1_drop_25 ?_
      refine lv_iload_n hx hb dX1_drop_26 rfl (lv_at hl 2 rfl) ?_
      refine lv_iadd hx hb dX1_drop_27 ?_
      refine lv_bipush (v := nI 16) hx hb dX1_drop_28 (by decide) ?_
      refine lv_imul hx hb dX1_drop_30 ?_
      refine g_top (nI ((c0 * 6 + k) * 16)) (by simp only [pk_mul, nI_add]) ?_
      refine g_istn (lv' := [(0, _), (1, _), (2, _), (3, _)]) hx hb dX1_drop_31 rfl hl rfl (by decide) rfl (fun ls hl => ?_)
      exact loop ((c0 * 6 + 5) * 16 + 1) ((c0 * 6 + k) * 16) σ H locs ls (Nat.le_refl _) (by omega) (by omega) ⟨fun j hj => rfl, fun j hj => rfl, fun j hj hj2 => by omega⟩ X hl
    · refine lv_bipush (v := -4) hx hb dX1_drop_19 (by decide) ?_
      exact ret _ _ _ _ _ _ X (⟨(a_drop_nob hc (hp2.2 q2)).symm, by rw [s_drop_nob hc (hp2.2 q2)]; exact h⟩) rfl dX1_drop_21
  · refine lv_iconst (v := -1) hx hb dX1_drop_8 (by decide) ?_
    exact ret _ _ _ _ _ _ X (⟨(a_drop_bad (hp.2 q)).symm, by rw [s_drop_bad (hp.2 q)]; exact h⟩) rfl dX1_drop_9
set_option maxHeartbeats 4000000 in
set_option maxRecDepth 100000 in
/-- dropOldest(c) -/
theorem cM_dropO (l : Launch) (D : va_G) (ad : Nat → Nat) (d : ClassId) {σ : gS} {M : MS} (h : RelM σ M) (cI : Int32) : gMi l yX1_dropOldest cX1_dropOldest 2 (some .int) rmC [.ref (ad 4), .int (cI)] D (mw ad d) (mt d) σ (fun r σ' => r = a_drop M cI 0 ∧ RelM σ' (s_drop M cI 0)) := by
  refine gMi_of (by decide) (Nat.le_of_ble_eq_true rfl) ?_
  intro p e s m args below meth c A H0 Q G ret H locs ls X hl
  have G : gC RX1 2 (mt d) p s m args c cX1_dropOldest D := G
  have hx := G.1
  have hb := G.2.1
  have hl : lv_has ls 2 [(0, .ref (ad 4)), (1, .int (cI))] := hl
  refine lv_aload_n hx hb dX1_dropOldest_0 rfl (lv_at hl 0 rfl) ?_
  refine lv_iload_n hx hb dX1_dropOldest_1 rfl (lv_at hl 1 rfl) ?_
  refine lv_iconst (v := 0) hx hb dX1_dropOldest_2 (by decide) ?_
  refine g_calli (n := 2) (rest := []) (q0 := 4) G X (cM_drop l D ad d h cI 0) (lw_V q187 q188 q189 q11 q190) (by decide +kernel) ⟨rfl, rfl⟩ ⟨Nat.le_of_ble_eq_true rfl, Nat.le_of_ble_eq_true rfl⟩ rfl rfl rfl rfl hl.1 rfl (Nat.le_of_ble_eq_true rfl) dX1_dropOldest_3 ⟨Nat.zero_le _, Nat.zero_le _⟩ (fun r2 σ1 H locs hp2 X => ?_)
  exact ret _ _ _ _ _ _ X (hp2) rfl dX1_dropOldest_6
set_option maxHeartbeats 4000000 in
set_option maxRecDepth 100000 in
/-- restart() -/
theorem cM_restart (l : Launch) (D : va_G) (ad : Nat → Nat) (d : ClassId) {σ : gS} {M : MS} (h : RelM σ M) : gMv l yX1_restart cX1_restart 1 rmB [.ref (ad 4)] D (mw ad d) (mt d) σ (fun σ' => RelM σ' M) := by
  refine gMv_of (by decide) (Nat.le_of_ble_eq_true rfl) ?_
  intro p e s m args below meth c A H0 Q G ret H locs ls X hl
  have G : gC RX1 1 (mt d) p s m args c cX1_restart D := G
  have hx := G.1
  have hb := G.2.1
  have hl : lv_has ls 1 [(0, .ref (ad 4))] := hl
  exact ret _ _ _ _ _ X (h) dX1_restart_0
set_option maxHeartbeats 4000000 in
set_option maxRecDepth 100000 in
/-- crash() -/
theorem cM_crash (l : Launch) (D : va_G) (ad : Nat → Nat) (d : ClassId) {σ : gS} {M : MS} (h : RelM σ M) : gMv l yX1_crash cX1_crash 1 rmB [.ref (ad 4)] D (mw ad d) (mt d) σ (fun σ' => RelM σ' M) := by
  refine gMv_of (by decide) (Nat.le_of_ble_eq_true rfl) ?_
  intro p e s m args below meth c A H0 Q G ret H locs ls X hl
  have G : gC RX1 1 (mt d) p s m args c cX1_crash D := G
  have hx := G.1
  have hb := G.2.1
  have hl : lv_has ls 1 [(0, .ref (ad 4))] := hl
  exact ret _ _ _ _ _ X (h) dX1_crash_0
set_option maxHeartbeats 4000000 in
set_option maxRecDepth 100000 in
/-- read(b) -/
theorem cM_read (l : Launch) (D : va_G) (ad : Nat → Nat) (d : ClassId) {σ : gS} {M : MS} (h : RelM σ M) (b : Int32) : gMi l yX1_read cX1_read 2 (some .int) rmB [.ref (ad 4), .int (b)] D (mw ad d) (mt d) σ (fun r σ' => r = a_read M b ∧ RelM σ' M) := by
  refine gMi_of (by decide) (Nat.le_of_ble_eq_true rfl) ?_
  intro p e s m args below meth c A H0 Q G ret H locs ls X hl
  have G : gC RX1 2 (mt d) p s m args c cX1_read D := G
  have hx := G.1
  have hb := G.2.1
  have hl : lv_has ls 2 [(0, .ref (ad 4)), (1, .int (b))] := hl
  refine lv_iload_n hx hb dX1_read_0 rfl (lv_at hl 1 rfl) ?_
  refine lv_if_lt (tgt := 10) hx hb dX1_read_1 (by decide) (fun q => ?_) (fun q => ?_)
  · refine lv_iconst (v := nI 0) hx hb dX1_read_10 (by decide) ?_
    refine lv_goto (tgt := 20) hx hb dX1_read_11 (by decide) ?_
    exact ret _ _ _ _ _ _ X (⟨(a_read_out (Or.inl q)).symm, h⟩) rfl dX1_read_20
  · refine lv_iload_n hx hb dX1_read_4 rfl (lv_at hl 1 rfl) ?_
    refine lv_bipush (v := nI 15) hx hb dX1_read_5 (by decide) ?_
    refine lv_icmp_le (tgt := 14) hx hb dX1_read_7 (by decide) (fun q2 => ?_) (fun q2 => ?_)
    · obtain ⟨j, hj, rfl⟩ := blk_of15 q q2
      refine m_tf G X hl 0 (by decide) q142 rfl rfl dX1_read_14 dX1_read_15 ?_
      refine lv_iload_n hx hb dX1_read_18 rfl (lv_at hl 1 rfl) ?_
      refine g_ld G X mk0 (j) rfl hj dX1_read_19 ?_
      exact ret _ _ _ _ _ _ X (⟨(h.1 j hj).trans (a_read_in hj).symm, h⟩) rfl dX1_read_20
    · refine lv_iconst (v := nI 0) hx hb dX1_read_10 (by decide) ?_
      refine lv_goto (tgt := 20) hx hb dX1_read_11 (by decide) ?_
      exact ret _ _ _ _ _ _ X (⟨(a_read_out (out_of15 q2)).symm, h⟩) rfl dX1_read_20
set_option maxHeartbeats 4000000 in
set_option maxRecDepth 100000 in
/-- readBackup(c, k, b) -/
theorem cM_readB (l : Launch) (D : va_G) (ad : Nat → Nat) (d : ClassId) {σ : gS} {M : MS} (h : RelM σ M) (cI kI bI : Int32) : gMi l yX1_readBackup cX1_readBackup 4 (some .int) rmB [.ref (ad 4), .int (cI), .int (kI), .int (bI)] D (mw ad d) (mt d) σ (fun r σ' => r = a_readB M cI kI bI ∧ RelM σ' M) := by
  refine gMi_of (by decide) (Nat.le_of_ble_eq_true rfl) ?_
  intro p e s m args below meth c A H0 Q G ret H locs ls X hl
  have G : gC RX1 4 (mt d) p s m args c cX1_readBackup D := G
  have hx := G.1
  have hb := G.2.1
  have hl : lv_has ls 4 [(0, .ref (ad 4)), (1, .int (cI)), (2, .int (kI)), (3, .int (bI))] := hl
  have K27 : ∀ (H : Heap) (locs : List Loc), (bad_ cI ∨ nob_ M cI kI ∨ out_ bI) → gH D A H0 (mw ad d) σ H locs → W p l e rmB s m args below meth c H locs 0 0 Q (F0 m 27 ls []) := by
    intro H locs ho X
    refine lv_iconst (v := nI 0) hx hb dX1_readBackup_27 (by decide) ?_
    exact ret _ _ _ _ _ _ X (⟨(a_readB_no ho).symm, h⟩) rfl dX1_readBackup_28
  refine lv_aload_n hx hb dX1_readBackup_0 rfl (lv_at hl 0 rfl) ?_
  refine lv_iload_n hx hb dX1_readBackup_1 rfl (lv_at hl 1 rfl) ?_
  refine g_calli (n := 1) (rest := []) (q0 := 4) G X (cM_bad l D ad d cI) (lw_V q167 q169 qs6 q11 q170) (by decide +kernel) ⟨rfl, rfl⟩ ⟨Nat.le_of_ble_eq_true rfl, Nat.le_of_ble_eq_true rfl⟩ rfl rfl rfl rfl hl.1 rfl (Nat.le_of_ble_eq_true rfl) dX1_readBackup_2 ⟨Nat.zero_le _, Nat.zero_le _⟩ (fun r1 σ1 H locs hp X => ?_)
  rw [hp.1] at X
  have hp := hp.2
  refine lv_if_ne (tgt := 27) hx hb dX1_readBackup_5 (by decide) (fun q => ?_) (fun q => ?_)
  · exact K27 H locs (Or.inl (hp.2 q)) X
  · obtain ⟨c0, hc, rfl⟩ := hp.1 q
    have h6 := (h.2.1 c0 hc).1
    refine lv_aload_n hx hb dX1_readBackup_8 rfl (lv_at hl 0 rfl) ?_
    refine lv_iload_n hx hb dX1_readBackup_9 rfl (lv_at hl 1 rfl) ?_
    refine lv_iload_n hx hb dX1_readBackup_10 rfl (lv_at hl 2 rfl) ?_
    refine g_calli (n := 2) (rest := []) (q0 := 4) G X (cM_none l D ad d h hc kI) (lw_V q175 q177 qs7 q11 q178) (by decide +kernel) ⟨rfl, rfl⟩ ⟨Nat.le_of_ble_eq_true rfl, Nat.le_of_ble_eq_true rfl⟩ rfl rfl rfl rfl hl.1 rfl (Nat.le_of_ble_eq_true rfl) dX1_readBackup_11 ⟨Nat.zero_le _, Nat.zero_le _⟩ (fun r2 σ1 H locs hp2 X => ?_)
    rw [hp2.1] at X
    have hp2 := hp2.2
    refine lv_if_ne (tgt := 27) hx hb dX1_readBackup_14 (by decide) (fun q2 => ?_) (fun q2 => ?_)
    · exact K27 H locs (Or.inr (Or.inl (hp2.2 q2))) X
    · obtain ⟨k, hk, rfl⟩ := hp2.1 q2
      refine lv_iload_n hx hb dX1_readBackup_17 rfl (lv_at hl 3 rfl) ?_
      refine lv_if_lt (tgt := 27) hx hb dX1_readBackup_18 (by decide) (fun q3 => ?_) (fun q3 => ?_)
      · exact K27 H locs (Or.inr (Or.inr (Or.inl q3))) X
      · refine lv_iload_n hx hb dX1_readBackup_21 rfl (lv_at hl 3 rfl) ?_
        refine lv_bipush (v := nI 15) hx hb dX1_readBackup_22 (by decide) ?_
        refine lv_icmp_le (tgt := 29) hx hb dX1_readBackup_24 (by decide) (fun q4 => ?_) (fun q4 => ?_)
        · obtain ⟨b, hb16, rfl⟩ := blk_of15 q3 q4
          refine m_tf G X hl 3 (by decide) q145 rfl rfl dX1_readBackup_29 dX1_readBackup_30 ?_
          refine lv_iload_n hx hb dX1_readBackup_33 rfl (lv_at hl 1 rfl) ?_
          refine lv_bipush (v := nI 6) hx hb dX1_readBackup_34 (by decide) ?_
          refine lv_imul hx hb dX1_readBackup_36 ?_
          refine lv_iload_n hx hb dX1_readBackup_37 rfl (lv_at hl 2 rfl) ?_
          refine lv_iadd hx hb dX1_readBackup_38 ?_
          refine lv_bipush (v := nI 16) hx hb dX1_readBackup_39 (by decide) ?_
          refine lv_imul hx hb dX1_readBackup_41 ?_
          refine lv_iload_n hx hb dX1_readBackup_42 rfl (lv_at hl 3 rfl) ?_
          refine lv_iadd hx hb dX1_readBackup_43 ?_
          refine g_ld G X mk3 ((c0 * 6 + k) * 16 + b) (by simp only [pk_mul, nI_add]) (by omega) dX1_readBackup_44 ?_
          exact ret _ _ _ _ _ _ X (⟨(h.2.2 c0 hc k hk b hb16).trans (a_readB_ok hc h6 hk hb16).symm, h⟩) rfl dX1_readBackup_45
        · exact K27 H locs (Or.inr (Or.inr (out_of15 q4))) X
set_option maxHeartbeats 4000000 in
set_option maxRecDepth 100000 in
/-- backups(c) -/
theorem cM_backups (l : Launch) (D : va_G) (ad : Nat → Nat) (d : ClassId) {σ : gS} {M : MS} (h : RelM σ M) (cI : Int32) : gMi l yX1_backups cX1_backups 2 (some .int) rmB [.ref (ad 4), .int (cI)] D (mw ad d) (mt d) σ (fun r σ' => r = a_backups M cI ∧ RelM σ' M) := by
  refine gMi_of (by decide) (Nat.le_of_ble_eq_true rfl) ?_
  intro p e s m args below meth c A H0 Q G ret H locs ls X hl
  have G : gC RX1 2 (mt d) p s m args c cX1_backups D := G
  have hx := G.1
  have hb := G.2.1
  have hl : lv_has ls 2 [(0, .ref (ad 4)), (1, .int (cI))] := hl
  refine lv_aload_n hx hb dX1_backups_0 rfl (lv_at hl 0 rfl) ?_
  refine lv_iload_n hx hb dX1_backups_1 rfl (lv_at hl 1 rfl) ?_
  refine g_calli (n := 1) (rest := []) (q0 := 4) G X (cM_bad l D ad d cI) (lw_V q167 q169 qs6 q11 q170) (by decide +kernel) ⟨rfl, rfl⟩ ⟨Nat.le_of_ble_eq_true rfl, Nat.le_of_ble_eq_true rfl⟩ rfl rfl rfl rfl hl.1 rfl (Nat.le_of_ble_eq_true rfl) dX1_backups_2 ⟨Nat.zero_le _, Nat.zero_le _⟩ (fun r1 σ1 H locs hp X => ?_)
  rw [hp.1] at X
  have hp := hp.2
  refine lv_if_eq (tgt := 12) hx hb dX1_backups_5 (by decide) (fun q => ?_) (fun q => ?_)
  · obtain ⟨c0, hc, rfl⟩ := hp.1 q
    refine m_tf G X hl 2 (by decide) q144 rfl rfl dX1_backups_12 dX1_backups_13 ?_
    refine lv_iload_n hx hb dX1_backups_16 rfl (lv_at hl 1 rfl) ?_
    refine g_ld G X mk2 (c0) rfl hc dX1_backups_17 ?_
    exact ret _ _ _ _ _ _ X (⟨(h.2.1 c0 hc).2.trans (a_backups_ok hc).symm, h⟩) rfl dX1_backups_18
  · refine lv_iconst (v := -1) hx hb dX1_backups_8 (by decide) ?_
    refine lv_goto (tgt := 18) hx hb dX1_backups_9 (by decide) ?_
    exact ret _ _ _ _ _ _ X (⟨(a_backups_bad (hp.2 q)).symm, h⟩) rfl dX1_backups_18
set_option maxHeartbeats 4000000 in
set_option maxRecDepth 100000 in
/-- changed(c) -/
theorem cM_changed (l : Launch) (D : va_G) (ad : Nat → Nat) (d : ClassId) {σ : gS} {M : MS} (h : RelM σ M) (cI : Int32) : gMi l yX1_changed cX1_changed 2 (some .int) rmB [.ref (ad 4), .int (cI)] D (mw ad d) (mt d) σ (fun r σ' => r = a_changed M cI ∧ RelM σ' M) := by
  refine gMi_of (by decide) (Nat.le_of_ble_eq_true rfl) ?_
  intro p e s m args below meth c A H0 Q G ret H locs ls X hl
  have G : gC RX1 2 (mt d) p s m args c cX1_changed D := G
  have hx := G.1
  have hb := G.2.1
  have hl : lv_has ls 2 [(0, .ref (ad 4)), (1, .int (cI))] := hl
  refine lv_aload_n hx hb dX1_changed_0 rfl (lv_at hl 0 rfl) ?_
  refine lv_iload_n hx hb dX1_changed_1 rfl (lv_at hl 1 rfl) ?_
  refine g_calli (n := 1) (rest := []) (q0 := 4) G X (cM_bad l D ad d cI) (lw_V q167 q169 qs6 q11 q170) (by decide +kernel) ⟨rfl, rfl⟩ ⟨Nat.le_of_ble_eq_true rfl, Nat.le_of_ble_eq_true rfl⟩ rfl rfl rfl rfl hl.1 rfl (Nat.le_of_ble_eq_true rfl) dX1_changed_2 ⟨Nat.zero_le _, Nat.zero_le _⟩ (fun r1 σ1 H locs hp X => ?_)
  rw [hp.1] at X
  have hp := hp.2
  refine lv_if_eq (tgt := 10) hx hb dX1_changed_5 (by decide) (fun q => ?_) (fun q => ?_)
  · obtain ⟨c0, hc, rfl⟩ := hp.1 q
    obtain ⟨h6, h8⟩ := h.2.1 c0 hc
    refine m_tf G X hl 2 (by decide) q144 rfl rfl dX1_changed_10 dX1_changed_11 ?_
    refine lv_iload_n hx hb dX1_changed_14 rfl (lv_at hl 1 rfl) ?_
    refine g_ld G X mk2 (c0) rfl hc dX1_changed_15 ?_
    refine g_top (nI (M.2.1 c0)) h8 ?_
    refine lv_if_ne (tgt := 22) hx hb dX1_changed_16 (by decide) (fun q2 => ?_) (fun q2 => ?_)
    · have e0 : 0 < M.2.1 c0 := Nat.pos_of_ne_zero (fun e9 => q2 (by rw [e9]; rfl))
      refine lv_aload_n hx hb dX1_changed_22 rfl (lv_at hl 0 rfl) ?_
      refine lv_iload_n hx hb dX1_changed_23 rfl (lv_at hl 1 rfl) ?_
      refine m_tf G X hl 2 (by decide) q144 rfl rfl dX1_changed_24 dX1_changed_25 ?_
      refine lv_iload_n hx hb dX1_changed_28 rfl (lv_at hl 1 rfl) ?_
      refine g_ld G X mk2 (c0) rfl hc dX1_changed_29 ?_
      refine g_top (nI (M.2.1 c0)) h8 ?_
      refine lv_iconst (v := nI 1) hx hb dX1_changed_30 (by decide) ?_
      refine lv_isub hx hb dX1_changed_31 ?_
      refine g_top (nI (M.2.1 c0 - 1)) (pk_sub (by omega)) ?_
      refine g_calli (n := 2) (rest := []) (q0 := 4) G X (cM_against l D ad d h hc (by omega : M.2.1 c0 - 1 < M.2.1 c0)) (lw_V q179 q181 qs8 q11 q182) (by decide +kernel) ⟨rfl, rfl⟩ ⟨Nat.le_of_ble_eq_true rfl, Nat.le_of_ble_eq_true rfl⟩ rfl rfl rfl rfl hl.1 rfl (Nat.le_of_ble_eq_true rfl) dX1_changed_32 ⟨Nat.zero_le _, Nat.zero_le _⟩ (fun r2 σ1 H locs hp2 X => ?_)
      rw [hp2.1] at X
      exact ret _ _ _ _ _ _ X (⟨hp2.2.trans (a_changed_ok hc e0).symm, h⟩) rfl dX1_changed_35
    · have e0 : M.2.1 c0 = 0 := (nI_eq (a := M.2.1 c0) (b := 0) (by omega) (by omega)).mp q2
      refine lv_bipush (v := -4) hx hb dX1_changed_19 (by decide) ?_
      exact ret _ _ _ _ _ _ X (⟨(a_changed_0 hc e0).symm, h⟩) rfl dX1_changed_21
  · refine lv_iconst (v := -1) hx hb dX1_changed_8 (by decide) ?_
    exact ret _ _ _ _ _ _ X (⟨(a_changed_bad (hp.2 q)).symm, h⟩) rfl dX1_changed_9
set_option maxHeartbeats 4000000 in
set_option maxRecDepth 100000 in
/-- differ(c, j, k) -/
theorem cM_differ (l : Launch) (D : va_G) (ad : Nat → Nat) (d : ClassId) {σ : gS} {M : MS} (h : RelM σ M) (cI jI kI : Int32) : gMi l yX1_differ cX1_differ 6 (some .int) rmB [.ref (ad 4), .int (cI), .int (jI), .int (kI)] D (mw ad d) (mt d) σ (fun r σ' => r = a_differ M cI jI kI ∧ RelM σ' M) := by
  refine gMi_of (by decide) (Nat.le_of_ble_eq_true rfl) ?_
  intro p e s m args below meth c A H0 Q G ret H locs ls X hl
  have G : gC RX1 6 (mt d) p s m args c cX1_differ D := G
  have hx := G.1
  have hb := G.2.1
  have hl : lv_has ls 6 [(0, .ref (ad 4)), (1, .int (cI)), (2, .int (jI)), (3, .int (kI))] := hl
  refine lv_aload_n hx hb dX1_differ_0 rfl (lv_at hl 0 rfl) ?_
  refine lv_iload_n hx hb dX1_differ_1 rfl (lv_at hl 1 rfl) ?_
  refine g_calli (n := 1) (rest := []) (q0 := 4) G X (cM_bad l D ad d cI) (lw_V q167 q169 qs6 q11 q170) (by decide +kernel) ⟨rfl, rfl⟩ ⟨Nat.le_of_ble_eq_true rfl, Nat.le_of_ble_eq_true rfl⟩ rfl rfl rfl rfl hl.1 rfl (Nat.le_of_ble_eq_true rfl) dX1_differ_2 ⟨Nat.zero_le _, Nat.zero_le _⟩ (fun r1 σ1 H locs hp X => ?_)
  rw [hp.1] at X
  have hp := hp.2
  refine lv_if_eq (tgt := 10) hx hb dX1_differ_5 (by decide) (fun q => ?_) (fun q => ?_)
  · obtain ⟨c0, hc, rfl⟩ := hp.1 q
    have h6 := (h.2.1 c0 hc).1
    have K28 : ∀ (H : Heap) (locs : List Loc), (nob_ M (nI c0) jI ∨ nob_ M (nI c0) kI) → gH D A H0 (mw ad d) σ H locs → W p l e rmB s m args below meth c H locs 0 0 Q (F0 m 28 ls []) := by
      intro H locs ho X
      refine lv_bipush (v := -4) hx hb dX1_differ_28 (by decide) ?_
      exact ret _ _ _ _ _ _ X (⟨(a_differ_nob hc ho).symm, h⟩) rfl dX1_differ_30
    refine lv_aload_n hx hb dX1_differ_10 rfl (lv_at hl 0 rfl) ?_
    refine lv_iload_n hx hb dX1_differ_11 rfl (lv_at hl 1 rfl) ?_
    refine lv_iload_n hx hb dX1_differ_12 rfl (lv_at hl 2 rfl) ?_
    refine g_calli (n := 2) (rest := []) (q0 := 4) G X (cM_none l D ad d h hc jI) (lw_V q175 q177 qs7 q11 q178) (by decide +kernel) ⟨rfl, rfl⟩ ⟨Nat.le_of_ble_eq_true rfl, Nat.le_of_ble_eq_true rfl⟩ rfl rfl rfl rfl hl.1 rfl (Nat.le_of_ble_eq_true rfl) dX1_differ_13 ⟨Nat.zero_le _, Nat.zero_le _⟩ (fun r2 σ1 H locs hp2 X => ?_)
    rw [hp2.1] at X
    have hp2 := hp2.2
    refine lv_if_ne (tgt := 28) hx hb dX1_differ_16 (by decide) (fun q2 => ?_) (fun q2 => ?_)
    · exact K28 H locs (Or.inl (hp2.2 q2)) X
    · refine lv_aload_n hx hb dX1_differ_19 rfl (lv_at hl 0 rfl) ?_
      refine lv_iload_n hx hb dX1_differ_20 rfl (lv_at hl 1 rfl) ?_
      refine lv_iload_n hx hb dX1_differ_21 rfl (lv_at hl 3 rfl) ?_
      refine g_calli (n := 2) (rest := []) (q0 := 4) G X (cM_none l D ad d h hc kI) (lw_V q175 q177 qs7 q11 q178) (by decide +kernel) ⟨rfl, rfl⟩ ⟨Nat.le_of_ble_eq_true rfl, Nat.le_of_ble_eq_true rfl⟩ rfl rfl rfl rfl hl.1 rfl (Nat.le_of_ble_eq_true rfl) dX1_differ_22 ⟨Nat.zero_le _, Nat.zero_le _⟩ (fun r3 σ1 H locs hp3 X => ?_)
      rw [hp3.1] at X
      have hp3 := hp3.2
      refine lv_if_eq (tgt := 31) hx hb dX1_differ_25 (by decide) (fun q3 => ?_) (fun q3 => ?_)
      · obtain ⟨j, hj, rfl⟩ := hp2.1 q2
        obtain ⟨k, hk, rfl⟩ := hp3.1 q3
        have loop : ∀ (n i a : Nat) (H : Heap) (locs : List Loc) (ls : Array Slot), i ≤ 16 → 17 ≤ i + n → a = fb_ct (fun b => !(M.2.2 c0 j b == M.2.2 c0 k b)) i → gH D A H0 (mw ad d) σ H locs → lv_has ls 6 [(0, .ref (ad 4)), (1, .int (nI c0)), (2, .int (nI j)), (3, .int (nI k)), (4, .int (nI a)), (5, .int (nI i))] → W p l e rmB s m args below meth c H locs 0 0 Q (F0 m 37 ls []) := by
          intro n
          induction n with
          | zero => intro i a H locs ls h1 h2; exact absurd h2 (by omega)
          | succ n ih =>
            intro i a H locs ls h1 h2 hJ X hl
            refine lv_iload hx hb dX1_differ_37 (lv_at hl 5 rfl) ?_
            refine lv_bipush (v := nI 16) hx hb dX1_differ_39 (by decide) ?_
            refine n_ge (tgt := 90) hx hb (i) (16) rfl rfl (by omega) (by omega) dX1_differ_41 (by decide) (fun q4 => ?_) (fun q4 => ?_)
            · obtain rfl : i = 16 := by omega
              refine lv_iload hx hb dX1_differ_90 (lv_at hl 4 rfl) ?_
              exact ret _ _ _ _ _ _ X (⟨(congrArg nI hJ).trans (a_differ_ok hc h6 hj hk).symm, h⟩) rfl dX1_differ_92
            · refine m_tf G X hl 3 (by decide) q145 rfl rfl dX1_differ_44 dX1_differ_45 ?_
              refine lv_iload_n hx hb dX1_differ_48 rfl (lv_at hl 1 rfl) ?_
              refine lv_bipush (v := nI 6) hx hb dX1_differ_49 (by decide) ?_
              refine lv_imul hx hb dX1_differ_51 ?_
              refine lv_iload_n hx hb dX1_differ_52 rfl (lv_at hl 2 rfl) ?_
              refine lv_iadd hx hb dX1_differ_53 ?_
              refine lv_bipush (v := nI 16) hx hb dX1_differ_54 (by decide) ?_
              refine lv_imul hx hb dX1_differ_56 ?_
              refine lv_iload hx hb dX1_differ_57 (lv_at hl 5 rfl) ?_
              refine lv_iadd hx hb dX1_differ_59 ?_
              refine g_ld G X mk3 ((c0 * 6 + j) * 16 + i) (by simp only [pk_mul, nI_add]) (by omega) dX1_differ_60 ?_
              refine g_top (M.2.2 c0 j i) (h.2.2 c0 hc j hj i q4) ?_
              refine m_tf G X hl 3 (by decide) q145 rfl rfl dX1_differ_61 dX1_differ_62 ?_
              refine lv_iload_n hx hb dX1_differ_65 rfl (lv_at hl 1 rfl) ?_
              refine lv_bipush (v := nI 6) hx hb dX1_differ_66 (by decide) ?_
              refine lv_imul hx hb dX1_differ_68 ?_
              refine lv_iload_n hx hb dX1_differ_69 rfl (lv_at hl 3 rfl) ?_
              refine lv_iadd hx hb dX1_differ_70 ?_
              refine lv_bipush (v := nI 16) hx hb dX1_differ_71 (by decide) ?_
              refine lv_imul hx hb dX1_differ_73 ?_
              refine lv_iload hx hb dX1_differ_74 (lv_at hl 5 rfl) ?_
              refine lv_iadd hx hb dX1_differ_76 ?_
              refine g_ld G X mk3 ((c0 * 6 + k) * 16 + i) (by simp only [pk_mul, nI_add]) (by omega) dX1_differ_77 ?_
              refine g_top (M.2.2 c0 k i) (h.2.2 c0 hc k hk i q4) ?_
              refine lv_icmp_eq (tgt := 84) hx hb dX1_differ_78 (by decide) (fun q5 => ?_) (fun q5 => ?_)
              · refine g_iinc (k := 5) (v := nI (i + 1)) (lv' := [(0, _), (1, _), (2, _), (3, _), (4, _), (5, _)]) hx hb dX1_differ_84 hl rfl (nI_i1 i) rfl (by decide) rfl (fun ls hl => ?_)
                refine lv_goto (tgt := 37) hx hb dX1_differ_87 (by decide) ?_
                exact ih (i + 1) a H locs ls (by omega) (by omega) (ct_skip hJ (by simp [q5])) X hl
              · refine g_iinc (k := 4) (v := nI (a + 1)) (lv' := [(0, _), (1, _), (2, _), (3, _), (4, _), (5, _)]) hx hb dX1_differ_81 hl rfl (nI_i1 a) rfl (by decide) rfl (fun ls hl => ?_)
                refine g_iinc (k := 5) (v := nI (i + 1)) (lv' := [(0, _), (1, _), (2, _), (3, _), (4, _), (5, _)]) hx hb dX1_differ_84 hl rfl (nI_i1 i) rfl (by decide) rfl (fun ls hl => ?_)
                refine lv_goto (tgt := 37) hx hb dX1_differ_87 (by decide) ?_
                exact ih (i + 1) (a + 1) H locs ls (by omega) (by omega) (ct_step hJ (by simp [q5])) X hl
        refine lv_iconst (v := nI 0) hx hb dX1_differ_31 (by decide) ?_
        refine g_ist (lv' := [(0, _), (1, _), (2, _), (3, _), (4, _)]) hx hb dX1_differ_32 hl rfl (by decide) rfl (fun ls hl => ?_)
        refine lv_iconst (v := nI 0) hx hb dX1_differ_34 (by decide) ?_
        refine g_ist (lv' := [(0, _), (1, _), (2, _), (3, _), (4, _), (5, _)]) hx hb dX1_differ_35 hl rfl (by decide) rfl (fun ls hl => ?_)
        exact loop 17 0 0 H locs ls (by omega) (by omega) rfl X hl
      · exact K28 H locs (Or.inr (hp3.2 q3)) X
  · refine lv_iconst (v := -1) hx hb dX1_differ_8 (by decide) ?_
    exact ret _ _ _ _ _ _ X (⟨(a_differ_bad (hp.2 q)).symm, h⟩) rfl dX1_differ_9
end
section
set_option maxHeartbeats 4000000 in
set_option maxRecDepth 100000 in
/-- the constructor: 10 new arrays, all zero -/
theorem cX_init (l : Launch) (D : va_G) (h0 sz : Nat) : Met l yX0_init (ws_ yX0_init cX0_init 1 none) ({ frames := 1, cells := 10, slots := 248, locals := 12 }) (va_Pc [.ref h0] (fun U => U.heap.size = sz ∧ va_P D vwCl [(h0, .inr (0, [.null, .null, .null, .null, .null, .null, .null, .int 0, .null, .null, .null]))] U.heap ∧ va_K D vwCl [] U ∧ va_D (fun _ => True) [(h0, .inr (0, [.null, .null, .null, .null, .null, .null, .null, .int 0, .null, .null, .null]))])) (va_Qv (fun (_ : Unit) => True) (fun _ t => ∃ (ad : Nat → Nat) (d z : ClassId), ad 7 = h0 ∧ va_P D vwCl (xw ad d z (fun _ _ => 0)) t.heap ∧ va_K D vwCl (xt d z) t ∧ va_D (va_A [(h0, .inr (0, [.null, .null, .null, .null, .null, .null, .null, .int 0, .null, .null, .null]))] sz) (xw ad d z (fun _ _ => 0))) (va_A [(h0, .inr (0, [.null, .null, .null, .null, .null, .null, .null, .int 0, .null, .null, .null]))] sz)) 10 248 (va_A [(h0, .inr (0, [.null, .null, .null, .null, .null, .null, .null, .int 0, .null, .null, .null]))] sz) := by
  refine Met.ofW (cc := cX0_init) (maxL := 1) (ret := none) (by decide) rfl ?_
  intro p e s m args below meth c s₁ B hml hv
  obtain ⟨rfl, hsz, hP, hK, hD0⟩ := hv
  have hx := B.exec
  have hb := B.bytes
  have hr := B.returns
  have hts := atoms_spec (ws := ws_ yX0_init cX0_init 1 none) B.pre
  have hts : ∀ w ∈ lw_all, w.before _ s = true := fun w h => hts w (List.mem_cons_of_mem _ h)
  have hown : s.vm.findClass RX0 = some m.cls := findClass_of_methodNamed B.named
  have hlk := B.notSynchronized
  have hin : meth.name = "<init>" := (name_of_methodNamed B.named B.method).1
  subst hsz
  have hD := hD0.self (sz := s.heap.size)
  generalize hAe : va_A [(h0, .inr (0, [.null, .null, .null, .null, .null, .null, .null, .int 0, .null, .null, .null]))] s.heap.size = A at hD ⊢
  have hA : ∀ q : Nat, s.heap.size ≤ q → A q := fun q h => by rw [← hAe]; exact Or.inr h
  have hS : va_S A s.heap s.heap [] := va_S.rf
  have hl := lv_entry ([.ref h0]) (n := 1) (Nat.le_of_ble_eq_true rfl)
  rw [lg_entry_eq]
  generalize (lg_sl ([.ref h0]) ++ List.replicate (1 - (lg_sl ([.ref h0])).length) Slot.unset).toArray = ls at hl ⊢
  have hl : lv_has ls 1 [(0, .ref h0)] := hl
  refine lv_aload_n hx hb dX0_init_0 rfl (lv_at hl 0 rfl) ?_
  refine W.objInit hx hb hown (hts _ q17) (hts _ q18) (hts _ q19) rfl (by rw [hml]; exact hl.1) rfl dX0_init_1 (Nat.le_of_ble_eq_true rfl) (Nat.le_of_ble_eq_true rfl) ?_
  refine W.eq (g2 := F0 m 4 ls []) rfl ?_
  refine lv_aload_n hx hb dX0_init_4 rfl (lv_at hl 0 rfl) ?_
  refine lv_bipush (v := nI 16) hx hb dX0_init_5 (by decide) ?_
  refine va_newa (atype := .int) (a0 := (16, .inl (fun _ => 0))) (N' := 16) hx hb (hts _ q54) rfl hK hP hD hS hA (fun _ => rfl) (by decide) (by decide) (by decide) (Nat.le_of_ble_eq_true rfl) (Nat.le_of_ble_eq_true rfl) dX0_init_7 (fun q0 c0_ H hK hP hD hS => ?_)
  refine W.widen (k := 1) (n := 16) (Nat.le_of_ble_eq_true rfl) (Nat.le_of_ble_eq_true rfl) ?_
  obtain ⟨d, ed⟩ : ∃ y, y = c0_ := ⟨_, rfl⟩
  subst ed
  have hK : va_K D vwCl [(d, .int)] s := hK
  have hP : va_P D vwCl [(h0, .inr (0, [.null, .null, .null, .null, .null, .null, .null, .int 0, .null, .null, .null])), (q0, .inl (d, 16, .inl (fun _ => 0)))] H := hP
  have hD : va_D A [(h0, .inr (0, [.null, .null, .null, .null, .null, .null, .null, .int 0, .null, .null, .null])), (q0, .inl (d, 16, .inl (fun _ => 0)))] := hD
  refine va_putF (D := D) (ci := 0) (v := .ref q0) (ty := .array .int) (C := RX0) (T := TX0) (N := 11) hx hb hts in_X0 tyX0 tyX0_ok nmX0 hown hK hP hD hS 0 rfl rfl 0 (by decide) (hts _ q20) (fun _ h9 => h9) rfl hin rfl (by decide +kernel) rfl rfl (Nat.le_of_ble_eq_true rfl) dX0_init_9 (fun H locs hP hD hS => ?_)
  have hP : va_P D vwCl [(h0, .inr (0, [.ref q0, .null, .null, .null, .null, .null, .null, .int 0, .null, .null, .null])), (q0, .inl (d, 16, .inl (fun _ => 0)))] H := hP
  have hD : va_D A [(h0, .inr (0, [.ref q0, .null, .null, .null, .null, .null, .null, .int 0, .null, .null, .null])), (q0, .inl (d, 16, .inl (fun _ => 0)))] := hD
  refine lv_aload_n hx hb dX0_init_12 rfl (lv_at hl 0 rfl) ?_
  refine lv_bipush (v := nI 16) hx hb dX0_init_13 (by decide) ?_
  refine va_newa (atype := .int) (a0 := (16, .inl (fun _ => 0))) (N' := 16) hx hb (hts _ q54) rfl hK hP hD hS hA (fun _ => rfl) (by decide) (by decide) (by decide) (Nat.le_of_ble_eq_true rfl) (Nat.le_of_ble_eq_true rfl) dX0_init_15 (fun q1 c1_ H hK hP hD hS => ?_)
  refine W.widen (k := 2) (n := 32) (Nat.le_of_ble_eq_true rfl) (Nat.le_of_ble_eq_true rfl) ?_
  obtain rfl : d = c1_ := Option.some.inj ((hK.2 0 _ rfl).2.symm.trans (hK.2 1 _ rfl).2)
  have hK : va_K D vwCl [(d, .int), (d, .int)] s := hK
  have hP : va_P D vwCl [(h0, .inr (0, [.ref q0, .null, .null, .null, .null, .null, .null, .int 0, .null, .null, .null])), (q0, .inl (d, 16, .inl (fun _ => 0))), (q1, .inl (d, 16, .inl (fun _ => 0)))] H := hP
  have hD : va_D A [(h0, .inr (0, [.ref q0, .null, .null, .null, .null, .null, .null, .int 0, .null, .null, .null])), (q0, .inl (d, 16, .inl (fun _ => 0))), (q1, .inl (d, 16, .inl (fun _ => 0)))] := hD
  refine va_putF (D := D) (ci := 0) (v := .ref q1) (ty := .array .int) (C := RX0) (T := TX0) (N := 11) hx hb hts in_X0 tyX0 tyX0_ok nmX0 hown hK hP hD hS 0 rfl rfl 1 (by decide) (hts _ q21) (fun _ h9 => h9) rfl hin rfl (by decide +kernel) rfl rfl (Nat.le_of_ble_eq_true rfl) dX0_init_17 (fun H locs hP hD hS => ?_)
  have hP : va_P D vwCl [(h0, .inr (0, [.ref q0, .ref q1, .null, .null, .null, .null, .null, .int 0, .null, .null, .null])), (q0, .inl (d, 16, .inl (fun _ => 0))), (q1, .inl (d, 16, .inl (fun _ => 0)))] H := hP
  have hD : va_D A [(h0, .inr (0, [.ref q0, .ref q1, .null, .null, .null, .null, .null, .int 0, .null, .null, .null])), (q0, .inl (d, 16, .inl (fun _ => 0))), (q1, .inl (d, 16, .inl (fun _ => 0)))] := hD
  refine lv_aload_n hx hb dX0_init_20 rfl (lv_at hl 0 rfl) ?_
  refine lv_iconst (v := nI 2) hx hb dX0_init_21 (by decide) ?_
  refine va_newa (atype := .int) (a0 := (2, .inl (fun _ => 0))) (N' := 2) hx hb (hts _ q54) rfl hK hP hD hS hA (fun _ => rfl) (by decide) (by decide) (by decide) (Nat.le_of_ble_eq_true rfl) (Nat.le_of_ble_eq_true rfl) dX0_init_22 (fun q2 c2_ H hK hP hD hS => ?_)
  refine W.widen (k := 3) (n := 34) (Nat.le_of_ble_eq_true rfl) (Nat.le_of_ble_eq_true rfl) ?_
  obtain rfl : d = c2_ := Option.some.inj ((hK.2 0 _ rfl).2.symm.trans (hK.2 2 _ rfl).2)
  have hK : va_K D vwCl [(d, .int), (d, .int), (d, .int)] s := hK
  have hP : va_P D vwCl [(h0, .inr (0, [.ref q0, .ref q1, .null, .null, .null, .null, .null, .int 0, .null, .null, .null])), (q0, .inl (d, 16, .inl (fun _ => 0))), (q1, .inl (d, 16, .inl (fun _ => 0))), (q2, .inl (d, 2, .inl (fun _ => 0)))] H := hP
  have hD : va_D A [(h0, .inr (0, [.ref q0, .ref q1, .null, .null, .null, .null, .null, .int 0, .null, .null, .null])), (q0, .inl (d, 16, .inl (fun _ => 0))), (q1, .inl (d, 16, .inl (fun _ => 0))), (q2, .inl (d, 2, .inl (fun _ => 0)))] := hD
  refine va_putF (D := D) (ci := 0) (v := .ref q2) (ty := .array .int) (C := RX0) (T := TX0) (N := 11) hx hb hts in_X0 tyX0 tyX0_ok nmX0 hown hK hP hD hS 0 rfl rfl 2 (by decide) (hts _ q22) (fun _ h9 => h9) rfl hin rfl (by decide +kernel) rfl rfl (Nat.le_of_ble_eq_true rfl) dX0_init_24 (fun H locs hP hD hS => ?_)
  have hP : va_P D vwCl [(h0, .inr (0, [.ref q0, .ref q1, .ref q2, .null, .null, .null, .null, .int 0, .null, .null, .null])), (q0, .inl (d, 16, .inl (fun _ => 0))), (q1, .inl (d, 16, .inl (fun _ => 0))), (q2, .inl (d, 2, .inl (fun _ => 0)))] H := hP
  have hD : va_D A [(h0, .inr (0, [.ref q0, .ref q1, .ref q2, .null, .null, .null, .null, .int 0, .null, .null, .null])), (q0, .inl (d, 16, .inl (fun _ => 0))), (q1, .inl (d, 16, .inl (fun _ => 0))), (q2, .inl (d, 2, .inl (fun _ => 0)))] := hD
  refine lv_aload_n hx hb dX0_init_27 rfl (lv_at hl 0 rfl) ?_
  refine lv_iconst (v := nI 2) hx hb dX0_init_28 (by decide) ?_
  refine va_newa (atype := .boolean) (a0 := (2, .inl (fun _ => 0))) (N' := 2) hx hb (hts _ q55) rfl hK hP hD hS hA (fun _ => rfl) (by decide) (by decide) (by decide) (Nat.le_of_ble_eq_true rfl) (Nat.le_of_ble_eq_true rfl) dX0_init_29 (fun q3 c3_ H hK hP hD hS => ?_)
  refine W.widen (k := 4) (n := 36) (Nat.le_of_ble_eq_true rfl) (Nat.le_of_ble_eq_true rfl) ?_
  obtain ⟨z, ez⟩ : ∃ y, y = c3_ := ⟨_, rfl⟩
  subst ez
  have hK : va_K D vwCl [(d, .int), (d, .int), (d, .int), (z, .boolean)] s := hK
  have hP : va_P D vwCl [(h0, .inr (0, [.ref q0, .ref q1, .ref q2, .null, .null, .null, .null, .int 0, .null, .null, .null])), (q0, .inl (d, 16, .inl (fun _ => 0))), (q1, .inl (d, 16, .inl (fun _ => 0))), (q2, .inl (d, 2, .inl (fun _ => 0))), (q3, .inl (z, 2, .inl (fun _ => 0)))] H := hP
  have hD : va_D A [(h0, .inr (0, [.ref q0, .ref q1, .ref q2, .null, .null, .null, .null, .int 0, .null, .null, .null])), (q0, .inl (d, 16, .inl (fun _ => 0))), (q1, .inl (d, 16, .inl (fun _ => 0))), (q2, .inl (d, 2, .inl (fun _ => 0))), (q3, .inl (z, 2, .inl (fun _ => 0)))] := hD
  refine va_putF (D := D) (ci := 0) (v := .ref q3) (ty := .array .boolean) (C := RX0) (T := TX0) (N := 11) hx hb hts in_X0 tyX0 tyX0_ok nmX0 hown hK hP hD hS 0 rfl rfl 3 (by decide) (hts _ q23) (fun _ h9 => h9) rfl hin rfl (by decide +kernel) rfl rfl (Nat.le_of_ble_eq_true rfl) dX0_init_31 (fun H locs hP hD hS => ?_)
  have hP : va_P D vwCl [(h0, .inr (0, [.ref q0, .ref q1, .ref q2, .ref q3, .null, .null, .null, .int 0, .null, .null, .null])), (q0, .inl (d, 16, .inl (fun _ => 0))), (q1, .inl (d, 16, .inl (fun _ => 0))), (q2, .inl (d, 2, .inl (fun _ => 0))), (q3, .inl (z, 2, .inl (fun _ => 0)))] H := hP
  have hD : va_D A [(h0, .inr (0, [.ref q0, .ref q1, .ref q2, .ref q3, .null, .null, .null, .int 0, .null, .null, .null])), (q0, .inl (d, 16, .inl (fun _ => 0))), (q1, .inl (d, 16, .inl (fun _ => 0))), (q2, .inl (d, 2, .inl (fun _ => 0))), (q3, .inl (z, 2, .inl (fun _ => 0)))] := hD
  refine lv_aload_n hx hb dX0_init_34 rfl (lv_at hl 0 rfl) ?_
  refine lv_iconst (v := nI 2) hx hb dX0_init_35 (by decide) ?_
  refine va_newa (atype := .int) (a0 := (2, .inl (fun _ => 0))) (N' := 2) hx hb (hts _ q54) rfl hK hP hD hS hA (fun _ => rfl) (by decide) (by decide) (by decide) (Nat.le_of_ble_eq_true rfl) (Nat.le_of_ble_eq_true rfl) dX0_init_36 (fun q4 c4_ H hK hP hD hS => ?_)
  refine W.widen (k := 5) (n := 38) (Nat.le_of_ble_eq_true rfl) (Nat.le_of_ble_eq_true rfl) ?_
  obtain rfl : d = c4_ := Option.some.inj ((hK.2 0 _ rfl).2.symm.trans (hK.2 4 _ rfl).2)
  have hK : va_K D vwCl [(d, .int), (d, .int), (d, .int), (z, .boolean), (d, .int)] s := hK
  have hP : va_P D vwCl [(h0, .inr (0, [.ref q0, .ref q1, .ref q2, .ref q3, .null, .null, .null, .int 0, .null, .null, .null])), (q0, .inl (d, 16, .inl (fun _ => 0))), (q1, .inl (d, 16, .inl (fun _ => 0))), (q2, .inl (d, 2, .inl (fun _ => 0))), (q3, .inl (z, 2, .inl (fun _ => 0))), (q4, .inl (d, 2, .inl (fun _ => 0)))] H := hP
  have hD : va_D A [(h0, .inr (0, [.ref q0, .ref q1, .ref q2, .ref q3, .null, .null, .null, .int 0, .null, .null, .null])), (q0, .inl (d, 16, .inl (fun _ => 0))), (q1, .inl (d, 16, .inl (fun _ => 0))), (q2, .inl (d, 2, .inl (fun _ => 0))), (q3, .inl (z, 2, .inl (fun _ => 0))), (q4, .inl (d, 2, .inl (fun _ => 0)))] := hD
  refine va_putF (D := D) (ci := 0) (v := .ref q4) (ty := .array .int) (C := RX0) (T := TX0) (N := 11) hx hb hts in_X0 tyX0 tyX0_ok nmX0 hown hK hP hD hS 0 rfl rfl 4 (by decide) (hts _ q24) (fun _ h9 => h9) rfl hin rfl (by decide +kernel) rfl rfl (Nat.le_of_ble_eq_true rfl) dX0_init_38 (fun H locs hP hD hS => ?_)
  have hP : va_P D vwCl [(h0, .inr (0, [.ref q0, .ref q1, .ref q2, .ref q3, .ref q4, .null, .null, .int 0, .null, .null, .null])), (q0, .inl (d, 16, .inl (fun _ => 0))), (q1, .inl (d, 16, .inl (fun _ => 0))), (q2, .inl (d, 2, .inl (fun _ => 0))), (q3, .inl (z, 2, .inl (fun _ => 0))), (q4, .inl (d, 2, .inl (fun _ => 0)))] H := hP
  have hD : va_D A [(h0, .inr (0, [.ref q0, .ref q1, .ref q2, .ref q3, .ref q4, .null, .null, .int 0, .null, .null, .null])), (q0, .inl (d, 16, .inl (fun _ => 0))), (q1, .inl (d, 16, .inl (fun _ => 0))), (q2, .inl (d, 2, .inl (fun _ => 0))), (q3, .inl (z, 2, .inl (fun _ => 0))), (q4, .inl (d, 2, .inl (fun _ => 0)))] := hD
  refine lv_aload_n hx hb dX0_init_41 rfl (lv_at hl 0 rfl) ?_
  refine lv_iconst (v := nI 2) hx hb dX0_init_42 (by decide) ?_
  refine va_newa (atype := .int) (a0 := (2, .inl (fun _ => 0))) (N' := 2) hx hb (hts _ q54) rfl hK hP hD hS hA (fun _ => rfl) (by decide) (by decide) (by decide) (Nat.le_of_ble_eq_true rfl) (Nat.le_of_ble_eq_true rfl) dX0_init_43 (fun q5 c5_ H hK hP hD hS => ?_)
  refine W.widen (k := 6) (n := 40) (Nat.le_of_ble_eq_true rfl) (Nat.le_of_ble_eq_true rfl) ?_
  obtain rfl : d = c5_ := Option.some.inj ((hK.2 0 _ rfl).2.symm.trans (hK.2 5 _ rfl).2)
  have hK : va_K D vwCl [(d, .int), (d, .int), (d, .int), (z, .boolean), (d, .int), (d, .int)] s := hK
  have hP : va_P D vwCl [(h0, .inr (0, [.ref q0, .ref q1, .ref q2, .ref q3, .ref q4, .null, .null, .int 0, .null, .null, .null])), (q0, .inl (d, 16, .inl (fun _ => 0))), (q1, .inl (d, 16, .inl (fun _ => 0))), (q2, .inl (d, 2, .inl (fun _ => 0))), (q3, .inl (z, 2, .inl (fun _ => 0))), (q4, .inl (d, 2, .inl (fun _ => 0))), (q5, .inl (d, 2, .inl (fun _ => 0)))] H := hP
  have hD : va_D A [(h0, .inr (0, [.ref q0, .ref q1, .ref q2, .ref q3, .ref q4, .null, .null, .int 0, .null, .null, .null])), (q0, .inl (d, 16, .inl (fun _ => 0))), (q1, .inl (d, 16, .inl (fun _ => 0))), (q2, .inl (d, 2, .inl (fun _ => 0))), (q3, .inl (z, 2, .inl (fun _ => 0))), (q4, .inl (d, 2, .inl (fun _ => 0))), (q5, .inl (d, 2, .inl (fun _ => 0)))] := hD
  refine va_putF (D := D) (ci := 0) (v := .ref q5) (ty := .array .int) (C := RX0) (T := TX0) (N := 11) hx hb hts in_X0 tyX0 tyX0_ok nmX0 hown hK hP hD hS 0 rfl rfl 5 (by decide) (hts _ q25) (fun _ h9 => h9) rfl hin rfl (by decide +kernel) rfl rfl (Nat.le_of_ble_eq_true rfl) dX0_init_45 (fun H locs hP hD hS => ?_)
  have hP : va_P D vwCl [(h0, .inr (0, [.ref q0, .ref q1, .ref q2, .ref q3, .ref q4, .ref q5, .null, .int 0, .null, .null, .null])), (q0, .inl (d, 16, .inl (fun _ => 0))), (q1, .inl (d, 16, .inl (fun _ => 0))), (q2, .inl (d, 2, .inl (fun _ => 0))), (q3, .inl (z, 2, .inl (fun _ => 0))), (q4, .inl (d, 2, .inl (fun _ => 0))), (q5, .inl (d, 2, .inl (fun _ => 0)))] H := hP
  have hD : va_D A [(h0, .inr (0, [.ref q0, .ref q1, .ref q2, .ref q3, .ref q4, .ref q5, .null, .int 0, .null, .null, .null])), (q0, .inl (d, 16, .inl (fun _ => 0))), (q1, .inl (d, 16, .inl (fun _ => 0))), (q2, .inl (d, 2, .inl (fun _ => 0))), (q3, .inl (z, 2, .inl (fun _ => 0))), (q4, .inl (d, 2, .inl (fun _ => 0))), (q5, .inl (d, 2, .inl (fun _ => 0)))] := hD
  refine lv_aload_n hx hb dX0_init_48 rfl (lv_at hl 0 rfl) ?_
  refine lv_iconst (v := nI 2) hx hb dX0_init_49 (by decide) ?_
  refine va_newa (atype := .int) (a0 := (2, .inl (fun _ => 0))) (N' := 2) hx hb (hts _ q54) rfl hK hP hD hS hA (fun _ => rfl) (by decide) (by decide) (by decide) (Nat.le_of_ble_eq_true rfl) (Nat.le_of_ble_eq_true rfl) dX0_init_50 (fun q6 c6_ H hK hP hD hS => ?_)
  refine W.widen (k := 7) (n := 42) (Nat.le_of_ble_eq_true rfl) (Nat.le_of_ble_eq_true rfl) ?_
  obtain rfl : d = c6_ := Option.some.inj ((hK.2 0 _ rfl).2.symm.trans (hK.2 6 _ rfl).2)
  have hK : va_K D vwCl [(d, .int), (d, .int), (d, .int), (z, .boolean), (d, .int), (d, .int), (d, .int)] s := hK
  have hP : va_P D vwCl [(h0, .inr (0, [.ref q0, .ref q1, .ref q2, .ref q3, .ref q4, .ref q5, .null, .int 0, .null, .null, .null])), (q0, .inl (d, 16, .inl (fun _ => 0))), (q1, .inl (d, 16, .inl (fun _ => 0))), (q2, .inl (d, 2, .inl (fun _ => 0))), (q3, .inl (z, 2, .inl (fun _ => 0))), (q4, .inl (d, 2, .inl (fun _ => 0))), (q5, .inl (d, 2, .inl (fun _ => 0))), (q6, .inl (d, 2, .inl (fun _ => 0)))] H := hP
  have hD : va_D A [(h0, .inr (0, [.ref q0, .ref q1, .ref q2, .ref q3, .ref q4, .ref q5, .null, .int 0, .null, .null, .null])), (q0, .inl (d, 16, .inl (fun _ => 0))), (q1, .inl (d, 16, .inl (fun _ => 0))), (q2, .inl (d, 2, .inl (fun _ => 0))), (q3, .inl (z, 2, .inl (fun _ => 0))), (q4, .inl (d, 2, .inl (fun _ => 0))), (q5, .inl (d, 2, .inl (fun _ => 0))), (q6, .inl (d, 2, .inl (fun _ => 0)))] := hD
  refine va_putF (D := D) (ci := 0) (v := .ref q6) (ty := .array .int) (C := RX0) (T := TX0) (N := 11) hx hb hts in_X0 tyX0 tyX0_ok nmX0 hown hK hP hD hS 0 rfl rfl 6 (by decide) (hts _ q26) (fun _ h9 => h9) rfl hin rfl (by decide +kernel) rfl rfl (Nat.le_of_ble_eq_true rfl) dX0_init_52 (fun H locs hP hD hS => ?_)
  have hP : va_P D vwCl [(h0, .inr (0, [.ref q0, .ref q1, .ref q2, .ref q3, .ref q4, .ref q5, .ref q6, .int 0, .null, .null, .null])), (q0, .inl (d, 16, .inl (fun _ => 0))), (q1, .inl (d, 16, .inl (fun _ => 0))), (q2, .inl (d, 2, .inl (fun _ => 0))), (q3, .inl (z, 2, .inl (fun _ => 0))), (q4, .inl (d, 2, .inl (fun _ => 0))), (q5, .inl (d, 2, .inl (fun _ => 0))), (q6, .inl (d, 2, .inl (fun _ => 0)))] H := hP
  have hD : va_D A [(h0, .inr (0, [.ref q0, .ref q1, .ref q2, .ref q3, .ref q4, .ref q5, .ref q6, .int 0, .null, .null, .null])), (q0, .inl (d, 16, .inl (fun _ => 0))), (q1, .inl (d, 16, .inl (fun _ => 0))), (q2, .inl (d, 2, .inl (fun _ => 0))), (q3, .inl (z, 2, .inl (fun _ => 0))), (q4, .inl (d, 2, .inl (fun _ => 0))), (q5, .inl (d, 2, .inl (fun _ => 0))), (q6, .inl (d, 2, .inl (fun _ => 0)))] := hD
  refine lv_aload_n hx hb dX0_init_55 rfl (lv_at hl 0 rfl) ?_
  refine lv_iconst (v := nI 2) hx hb dX0_init_56 (by decide) ?_
  refine va_newa (atype := .int) (a0 := (2, .inl (fun _ => 0))) (N' := 2) hx hb (hts _ q54) rfl hK hP hD hS hA (fun _ => rfl) (by decide) (by decide) (by decide) (Nat.le_of_ble_eq_true rfl) (Nat.le_of_ble_eq_true rfl) dX0_init_57 (fun q8 c8_ H hK hP hD hS => ?_)
  refine W.widen (k := 8) (n := 44) (Nat.le_of_ble_eq_true rfl) (Nat.le_of_ble_eq_true rfl) ?_
  obtain rfl : d = c8_ := Option.some.inj ((hK.2 0 _ rfl).2.symm.trans (hK.2 7 _ rfl).2)
  have hK : va_K D vwCl [(d, .int), (d, .int), (d, .int), (z, .boolean), (d, .int), (d, .int), (d, .int), (d, .int)] s := hK
  have hP : va_P D vwCl [(h0, .inr (0, [.ref q0, .ref q1, .ref q2, .ref q3, .ref q4, .ref q5, .ref q6, .int 0, .null, .null, .null])), (q0, .inl (d, 16, .inl (fun _ => 0))), (q1, .inl (d, 16, .inl (fun _ => 0))), (q2, .inl (d, 2, .inl (fun _ => 0))), (q3, .inl (z, 2, .inl (fun _ => 0))), (q4, .inl (d, 2, .inl (fun _ => 0))), (q5, .inl (d, 2, .inl (fun _ => 0))), (q6, .inl (d, 2, .inl (fun _ => 0))), (q8, .inl (d, 2, .inl (fun _ => 0)))] H := hP
  have hD : va_D A [(h0, .inr (0, [.ref q0, .ref q1, .ref q2, .ref q3, .ref q4, .ref q5, .ref q6, .int 0, .null, .null, .null])), (q0, .inl (d, 16, .inl (fun _ => 0))), (q1, .inl (d, 16, .inl (fun _ => 0))), (q2, .inl (d, 2, .inl (fun _ => 0))), (q3, .inl (z, 2, .inl (fun _ => 0))), (q4, .inl (d, 2, .inl (fun _ => 0))), (q5, .inl (d, 2, .inl (fun _ => 0))), (q6, .inl (d, 2, .inl (fun _ => 0))), (q8, .inl (d, 2, .inl (fun _ => 0)))] := hD
  refine va_putF (D := D) (ci := 0) (v := .ref q8) (ty := .array .int) (C := RX0) (T := TX0) (N := 11) hx hb hts in_X0 tyX0 tyX0_ok nmX0 hown hK hP hD hS 0 rfl rfl 8 (by decide) (hts _ q28) (fun _ h9 => h9) rfl hin rfl (by decide +kernel) rfl rfl (Nat.le_of_ble_eq_true rfl) dX0_init_59 (fun H locs hP hD hS => ?_)
  have hP : va_P D vwCl [(h0, .inr (0, [.ref q0, .ref q1, .ref q2, .ref q3, .ref q4, .ref q5, .ref q6, .int 0, .ref q8, .null, .null])), (q0, .inl (d, 16, .inl (fun _ => 0))), (q1, .inl (d, 16, .inl (fun _ => 0))), (q2, .inl (d, 2, .inl (fun _ => 0))), (q3, .inl (z, 2, .inl (fun _ => 0))), (q4, .inl (d, 2, .inl (fun _ => 0))), (q5, .inl (d, 2, .inl (fun _ => 0))), (q6, .inl (d, 2, .inl (fun _ => 0))), (q8, .inl (d, 2, .inl (fun _ => 0)))] H := hP
  have hD : va_D A [(h0, .inr (0, [.ref q0, .ref q1, .ref q2, .ref q3, .ref q4, .ref q5, .ref q6, .int 0, .ref q8, .null, .null])), (q0, .inl (d, 16, .inl (fun _ => 0))), (q1, .inl (d, 16, .inl (fun _ => 0))), (q2, .inl (d, 2, .inl (fun _ => 0))), (q3, .inl (z, 2, .inl (fun _ => 0))), (q4, .inl (d, 2, .inl (fun _ => 0))), (q5, .inl (d, 2, .inl (fun _ => 0))), (q6, .inl (d, 2, .inl (fun _ => 0))), (q8, .inl (d, 2, .inl (fun _ => 0)))] := hD
  refine lv_aload_n hx hb dX0_init_62 rfl (lv_at hl 0 rfl) ?_
  refine lv_bipush (v := nI 12) hx hb dX0_init_63 (by decide) ?_
  refine va_newa (atype := .int) (a0 := (12, .inl (fun _ => 0))) (N' := 12) hx hb (hts _ q54) rfl hK hP hD hS hA (fun _ => rfl) (by decide) (by decide) (by decide) (Nat.le_of_ble_eq_true rfl) (Nat.le_of_ble_eq_true rfl) dX0_init_65 (fun q9 c9_ H hK hP hD hS => ?_)
  refine W.widen (k := 9) (n := 56) (Nat.le_of_ble_eq_true rfl) (Nat.le_of_ble_eq_true rfl) ?_
  obtain rfl : d = c9_ := Option.some.inj ((hK.2 0 _ rfl).2.symm.trans (hK.2 8 _ rfl).2)
  have hK : va_K D vwCl [(d, .int), (d, .int), (d, .int), (z, .boolean), (d, .int), (d, .int), (d, .int), (d, .int), (d, .int)] s := hK
  have hP : va_P D vwCl [(h0, .inr (0, [.ref q0, .ref q1, .ref q2, .ref q3, .ref q4, .ref q5, .ref q6, .int 0, .ref q8, .null, .null])), (q0, .inl (d, 16, .inl (fun _ => 0))), (q1, .inl (d, 16, .inl (fun _ => 0))), (q2, .inl (d, 2, .inl (fun _ => 0))), (q3, .inl (z, 2, .inl (fun _ => 0))), (q4, .inl (d, 2, .inl (fun _ => 0))), (q5, .inl (d, 2, .inl (fun _ => 0))), (q6, .inl (d, 2, .inl (fun _ => 0))), (q8, .inl (d, 2, .inl (fun _ => 0))), (q9, .inl (d, 12, .inl (fun _ => 0)))] H := hP
  have hD : va_D A [(h0, .inr (0, [.ref q0, .ref q1, .ref q2, .ref q3, .ref q4, .ref q5, .ref q6, .int 0, .ref q8, .null, .null])), (q0, .inl (d, 16, .inl (fun _ => 0))), (q1, .inl (d, 16, .inl (fun _ => 0))), (q2, .inl (d, 2, .inl (fun _ => 0))), (q3, .inl (z, 2, .inl (fun _ => 0))), (q4, .inl (d, 2, .inl (fun _ => 0))), (q5, .inl (d, 2, .inl (fun _ => 0))), (q6, .inl (d, 2, .inl (fun _ => 0))), (q8, .inl (d, 2, .inl (fun _ => 0))), (q9, .inl (d, 12, .inl (fun _ => 0)))] := hD
  refine va_putF (D := D) (ci := 0) (v := .ref q9) (ty := .array .int) (C := RX0) (T := TX0) (N := 11) hx hb hts in_X0 tyX0 tyX0_ok nmX0 hown hK hP hD hS 0 rfl rfl 9 (by decide) (hts _ q29) (fun _ h9 => h9) rfl hin rfl (by decide +kernel) rfl rfl (Nat.le_of_ble_eq_true rfl) dX0_init_67 (fun H locs hP hD hS => ?_)
  have hP : va_P D vwCl [(h0, .inr (0, [.ref q0, .ref q1, .ref q2, .ref q3, .ref q4, .ref q5, .ref q6, .int 0, .ref q8, .ref q9, .null])), (q0, .inl (d, 16, .inl (fun _ => 0))), (q1, .inl (d, 16, .inl (fun _ => 0))), (q2, .inl (d, 2, .inl (fun _ => 0))), (q3, .inl (z, 2, .inl (fun _ => 0))), (q4, .inl (d, 2, .inl (fun _ => 0))), (q5, .inl (d, 2, .inl (fun _ => 0))), (q6, .inl (d, 2, .inl (fun _ => 0))), (q8, .inl (d, 2, .inl (fun _ => 0))), (q9, .inl (d, 12, .inl (fun _ => 0)))] H := hP
  have hD : va_D A [(h0, .inr (0, [.ref q0, .ref q1, .ref q2, .ref q3, .ref q4, .ref q5, .ref q6, .int 0, .ref q8, .ref q9, .null])), (q0, .inl (d, 16, .inl (fun _ => 0))), (q1, .inl (d, 16, .inl (fun _ => 0))), (q2, .inl (d, 2, .inl (fun _ => 0))), (q3, .inl (z, 2, .inl (fun _ => 0))), (q4, .inl (d, 2, .inl (fun _ => 0))), (q5, .inl (d, 2, .inl (fun _ => 0))), (q6, .inl (d, 2, .inl (fun _ => 0))), (q8, .inl (d, 2, .inl (fun _ => 0))), (q9, .inl (d, 12, .inl (fun _ => 0)))] := hD
  refine lv_aload_n hx hb dX0_init_70 rfl (lv_at hl 0 rfl) ?_
  refine lv_sipush (v := nI 192) hx hb dX0_init_71 (by decide) ?_
  refine va_newa (atype := .int) (a0 := (192, .inl (fun _ => 0))) (N' := 192) hx hb (hts _ q54) rfl hK hP hD hS hA (fun _ => rfl) (by decide) (by decide) (by decide) (Nat.le_of_ble_eq_true rfl) (Nat.le_of_ble_eq_true rfl) dX0_init_74 (fun q10 c10_ H hK hP hD hS => ?_)
  refine W.widen (k := 10) (n := 248) (Nat.le_of_ble_eq_true rfl) (Nat.le_of_ble_eq_true rfl) ?_
  obtain rfl : d = c10_ := Option.some.inj ((hK.2 0 _ rfl).2.symm.trans (hK.2 9 _ rfl).2)
  have hK : va_K D vwCl [(d, .int), (d, .int), (d, .int), (z, .boolean), (d, .int), (d, .int), (d, .int), (d, .int), (d, .int), (d, .int)] s := hK
  have hP : va_P D vwCl [(h0, .inr (0, [.ref q0, .ref q1, .ref q2, .ref q3, .ref q4, .ref q5, .ref q6, .int 0, .ref q8, .ref q9, .null])), (q0, .inl (d, 16, .inl (fun _ => 0))), (q1, .inl (d, 16, .inl (fun _ => 0))), (q2, .inl (d, 2, .inl (fun _ => 0))), (q3, .inl (z, 2, .inl (fun _ => 0))), (q4, .inl (d, 2, .inl (fun _ => 0))), (q5, .inl (d, 2, .inl (fun _ => 0))), (q6, .inl (d, 2, .inl (fun _ => 0))), (q8, .inl (d, 2, .inl (fun _ => 0))), (q9, .inl (d, 12, .inl (fun _ => 0))), (q10, .inl (d, 192, .inl (fun _ => 0)))] H := hP
  have hD : va_D A [(h0, .inr (0, [.ref q0, .ref q1, .ref q2, .ref q3, .ref q4, .ref q5, .ref q6, .int 0, .ref q8, .ref q9, .null])), (q0, .inl (d, 16, .inl (fun _ => 0))), (q1, .inl (d, 16, .inl (fun _ => 0))), (q2, .inl (d, 2, .inl (fun _ => 0))), (q3, .inl (z, 2, .inl (fun _ => 0))), (q4, .inl (d, 2, .inl (fun _ => 0))), (q5, .inl (d, 2, .inl (fun _ => 0))), (q6, .inl (d, 2, .inl (fun _ => 0))), (q8, .inl (d, 2, .inl (fun _ => 0))), (q9, .inl (d, 12, .inl (fun _ => 0))), (q10, .inl (d, 192, .inl (fun _ => 0)))] := hD
  refine va_putF (D := D) (ci := 0) (v := .ref q10) (ty := .array .int) (C := RX0) (T := TX0) (N := 11) hx hb hts in_X0 tyX0 tyX0_ok nmX0 hown hK hP hD hS 0 rfl rfl 10 (by decide) (hts _ q30) (fun _ h9 => h9) rfl hin rfl (by decide +kernel) rfl rfl (Nat.le_of_ble_eq_true rfl) dX0_init_76 (fun H locs hP hD hS => ?_)
  have hP : va_P D vwCl [(h0, .inr (0, [.ref q0, .ref q1, .ref q2, .ref q3, .ref q4, .ref q5, .ref q6, .int 0, .ref q8, .ref q9, .ref q10])), (q0, .inl (d, 16, .inl (fun _ => 0))), (q1, .inl (d, 16, .inl (fun _ => 0))), (q2, .inl (d, 2, .inl (fun _ => 0))), (q3, .inl (z, 2, .inl (fun _ => 0))), (q4, .inl (d, 2, .inl (fun _ => 0))), (q5, .inl (d, 2, .inl (fun _ => 0))), (q6, .inl (d, 2, .inl (fun _ => 0))), (q8, .inl (d, 2, .inl (fun _ => 0))), (q9, .inl (d, 12, .inl (fun _ => 0))), (q10, .inl (d, 192, .inl (fun _ => 0)))] H := hP
  have hD : va_D A [(h0, .inr (0, [.ref q0, .ref q1, .ref q2, .ref q3, .ref q4, .ref q5, .ref q6, .int 0, .ref q8, .ref q9, .ref q10])), (q0, .inl (d, 16, .inl (fun _ => 0))), (q1, .inl (d, 16, .inl (fun _ => 0))), (q2, .inl (d, 2, .inl (fun _ => 0))), (q3, .inl (z, 2, .inl (fun _ => 0))), (q4, .inl (d, 2, .inl (fun _ => 0))), (q5, .inl (d, 2, .inl (fun _ => 0))), (q6, .inl (d, 2, .inl (fun _ => 0))), (q8, .inl (d, 2, .inl (fun _ => 0))), (q9, .inl (d, 12, .inl (fun _ => 0))), (q10, .inl (d, 192, .inl (fun _ => 0)))] := hD
  refine lv_aload_n hx hb dX0_init_79 rfl (lv_at hl 0 rfl) ?_
  refine lv_iconst (v := nI 0) hx hb dX0_init_80 (by decide) ?_
  refine va_put (D := D) (ci := 0) (v := .int (nI 0)) (ty := .boolean) (C := RX0) (T := TX0) (N := 11) hx hb hts in_X0 tyX0 tyX0_ok nmX0 hown hK hP hD hS 0 rfl rfl 7 (by decide) (hts _ q27) (fun _ h9 => h9) rfl (by decide +kernel) rfl rfl (Nat.le_of_ble_eq_true rfl) dX0_init_81 (fun H locs hP hD hS => ?_)
  have hP : va_P D vwCl [(h0, .inr (0, [.ref q0, .ref q1, .ref q2, .ref q3, .ref q4, .ref q5, .ref q6, .int (nI 0), .ref q8, .ref q9, .ref q10])), (q0, .inl (d, 16, .inl (fun _ => 0))), (q1, .inl (d, 16, .inl (fun _ => 0))), (q2, .inl (d, 2, .inl (fun _ => 0))), (q3, .inl (z, 2, .inl (fun _ => 0))), (q4, .inl (d, 2, .inl (fun _ => 0))), (q5, .inl (d, 2, .inl (fun _ => 0))), (q6, .inl (d, 2, .inl (fun _ => 0))), (q8, .inl (d, 2, .inl (fun _ => 0))), (q9, .inl (d, 12, .inl (fun _ => 0))), (q10, .inl (d, 192, .inl (fun _ => 0)))] H := hP
  have hD : va_D A [(h0, .inr (0, [.ref q0, .ref q1, .ref q2, .ref q3, .ref q4, .ref q5, .ref q6, .int (nI 0), .ref q8, .ref q9, .ref q10])), (q0, .inl (d, 16, .inl (fun _ => 0))), (q1, .inl (d, 16, .inl (fun _ => 0))), (q2, .inl (d, 2, .inl (fun _ => 0))), (q3, .inl (z, 2, .inl (fun _ => 0))), (q4, .inl (d, 2, .inl (fun _ => 0))), (q5, .inl (d, 2, .inl (fun _ => 0))), (q6, .inl (d, 2, .inl (fun _ => 0))), (q8, .inl (d, 2, .inl (fun _ => 0))), (q9, .inl (d, 12, .inl (fun _ => 0))), (q10, .inl (d, 192, .inl (fun _ => 0)))] := hD
  have hP9 := hP.sub (ws' := xw (fun k => ([q0, q1, q2, q3, q4, q5, q6, h0, q8, q9, q10] : List Nat).getD k 0) d z (fun _ _ => 0)) [1, 2, 3, 4, 5, 6, 7, 0, 8, 9, 10] rfl
  have hD9 := hD.sub (ws' := xw (fun k => ([q0, q1, q2, q3, q4, q5, q6, h0, q8, q9, q10] : List Nat).getD k 0) d z (fun _ _ => 0)) [1, 2, 3, 4, 5, 6, 7, 0, 8, 9, 10] (by decide) rfl
  have hK9 := hK.sub (tys' := xt d z) [0, 3] rfl
  exact W.vret hx hb hr (fun t ht hW => ⟨⟨(), rfl, trivial, (fun k => ([q0, q1, q2, q3, q4, q5, q6, h0, q8, q9, q10] : List Nat).getD k 0), d, z, rfl, by rw [ht]; exact hP9, va_K.moved hW.alike hK9, hD9⟩, hS.F ht⟩) hS.2.2 dX0_init_84 hlk
set_option maxHeartbeats 4000000 in
set_option maxRecDepth 100000 in
/-- the constructor: 4 new arrays, all zero -/
theorem cM_init (l : Launch) (D : va_G) (h0 sz : Nat) : Met l yX1_init (ws_ yX1_init cX1_init 1 none) ({ frames := 1, cells := 4, slots := 226, locals := 12 }) (va_Pc [.ref h0] (fun U => U.heap.size = sz ∧ va_P D vwCl [(h0, .inr (1, [.null, .null, .null, .null]))] U.heap ∧ va_K D vwCl [] U ∧ va_D (fun _ => True) [(h0, .inr (1, [.null, .null, .null, .null]))])) (va_Qv (fun (_ : Unit) => True) (fun _ t => ∃ (ad : Nat → Nat) (d : ClassId), ad 4 = h0 ∧ va_P D vwCl (mw ad d (fun _ _ => 0)) t.heap ∧ va_K D vwCl (mt d) t ∧ va_D (va_A [(h0, .inr (1, [.null, .null, .null, .null]))] sz) (mw ad d (fun _ _ => 0))) (va_A [(h0, .inr (1, [.null, .null, .null, .null]))] sz)) 4 226 (va_A [(h0, .inr (1, [.null, .null, .null, .null]))] sz) := by
  refine Met.ofW (cc := cX1_init) (maxL := 1) (ret := none) (by decide) rfl ?_
  intro p e s m args below meth c s₁ B hml hv
  obtain ⟨rfl, hsz, hP, hK, hD0⟩ := hv
  have hx := B.exec
  have hb := B.bytes
  have hr := B.returns
  have hts := atoms_spec (ws := ws_ yX1_init cX1_init 1 none) B.pre
  have hts : ∀ w ∈ lw_all, w.before _ s = true := fun w h => hts w (List.mem_cons_of_mem _ h)
  have hown : s.vm.findClass RX1 = some m.cls := findClass_of_methodNamed B.named
  have hlk := B.notSynchronized
  have hin : meth.name = "<init>" := (name_of_methodNamed B.named B.method).1
  subst hsz
  have hD := hD0.self (sz := s.heap.size)
  generalize hAe : va_A [(h0, .inr (1, [.null, .null, .null, .null]))] s.heap.size = A at hD ⊢
  have hA : ∀ q : Nat, s.heap.size ≤ q → A q := fun q h => by rw [← hAe]; exact Or.inr h
  have hS : va_S A s.heap s.heap [] := va_S.rf
  have hl := lv_entry ([.ref h0]) (n := 1) (Nat.le_of_ble_eq_true rfl)
  rw [lg_entry_eq]
  generalize (lg_sl ([.ref h0]) ++ List.replicate (1 - (lg_sl ([.ref h0])).length) Slot.unset).toArray = ls at hl ⊢
  have hl : lv_has ls 1 [(0, .ref h0)] := hl
  refine lv_aload_n hx hb dX1_init_0 rfl (lv_at hl 0 rfl) ?_
  refine W.objInit hx hb hown (hts _ q141) (hts _ q18) (hts _ q19) rfl (by rw [hml]; exact hl.1) rfl dX1_init_1 (Nat.le_of_ble_eq_true rfl) (Nat.le_of_ble_eq_true rfl) ?_
  refine W.eq (g2 := F0 m 4 ls []) rfl ?_
  refine lv_aload_n hx hb dX1_init_4 rfl (lv_at hl 0 rfl) ?_
  refine lv_bipush (v := nI 16) hx hb dX1_init_5 (by decide) ?_
  refine va_newa (atype := .int) (a0 := (16, .inl (fun _ => 0))) (N' := 16) hx hb (hts _ q54) rfl hK hP hD hS hA (fun _ => rfl) (by decide) (by decide) (by decide) (Nat.le_of_ble_eq_true rfl) (Nat.le_of_ble_eq_true rfl) dX1_init_7 (fun q0 c0_ H hK hP hD hS => ?_)
  refine W.widen (k := 1) (n := 16) (Nat.le_of_ble_eq_true rfl) (Nat.le_of_ble_eq_true rfl) ?_
  obtain ⟨d, ed⟩ : ∃ y, y = c0_ := ⟨_, rfl⟩
  subst ed
  have hK : va_K D vwCl [(d, .int)] s := hK
  have hP : va_P D vwCl [(h0, .inr (1, [.null, .null, .null, .null])), (q0, .inl (d, 16, .inl (fun _ => 0)))] H := hP
  have hD : va_D A [(h0, .inr (1, [.null, .null, .null, .null])), (q0, .inl (d, 16, .inl (fun _ => 0)))] := hD
  refine va_putF (D := D) (ci := 1) (v := .ref q0) (ty := .array .int) (C := RX1) (T := TX1) (N := 4) hx hb hts in_X1 tyX1 tyX1_ok nmX1 hown hK hP hD hS 0 rfl rfl 0 (by decide) (hts _ q142) (fun _ h9 => h9) rfl hin rfl (by decide +kernel) rfl rfl (Nat.le_of_ble_eq_true rfl) dX1_init_9 (fun H locs hP hD hS => ?_)
  have hP : va_P D vwCl [(h0, .inr (1, [.ref q0, .null, .null, .null])), (q0, .inl (d, 16, .inl (fun _ => 0)))] H := hP
  have hD : va_D A [(h0, .inr (1, [.ref q0, .null, .null, .null])), (q0, .inl (d, 16, .inl (fun _ => 0)))] := hD
  refine lv_aload_n hx hb dX1_init_12 rfl (lv_at hl 0 rfl) ?_
  refine lv_bipush (v := nI 16) hx hb dX1_init_13 (by decide) ?_
  refine va_newa (atype := .int) (a0 := (16, .inl (fun _ => 0))) (N' := 16) hx hb (hts _ q54) rfl hK hP hD hS hA (fun _ => rfl) (by decide) (by decide) (by decide) (Nat.le_of_ble_eq_true rfl) (Nat.le_of_ble_eq_true rfl) dX1_init_15 (fun q1 c1_ H hK hP hD hS => ?_)
  refine W.widen (k := 2) (n := 32) (Nat.le_of_ble_eq_true rfl) (Nat.le_of_ble_eq_true rfl) ?_
  obtain rfl : d = c1_ := Option.some.inj ((hK.2 0 _ rfl).2.symm.trans (hK.2 1 _ rfl).2)
  have hK : va_K D vwCl [(d, .int), (d, .int)] s := hK
  have hP : va_P D vwCl [(h0, .inr (1, [.ref q0, .null, .null, .null])), (q0, .inl (d, 16, .inl (fun _ => 0))), (q1, .inl (d, 16, .inl (fun _ => 0)))] H := hP
  have hD : va_D A [(h0, .inr (1, [.ref q0, .null, .null, .null])), (q0, .inl (d, 16, .inl (fun _ => 0))), (q1, .inl (d, 16, .inl (fun _ => 0)))] := hD
  refine va_putF (D := D) (ci := 1) (v := .ref q1) (ty := .array .int) (C := RX1) (T := TX1) (N := 4) hx hb hts in_X1 tyX1 tyX1_ok nmX1 hown hK hP hD hS 0 rfl rfl 1 (by decide) (hts _ q143) (fun _ h9 => h9) rfl hin rfl (by decide +kernel) rfl rfl (Nat.le_of_ble_eq_true rfl) dX1_init_17 (fun H locs hP hD hS => ?_)
  have hP : va_P D vwCl [(h0, .inr (1, [.ref q0, .ref q1, .null, .null])), (q0, .inl (d, 16, .inl (fun _ => 0))), (q1, .inl (d, 16, .inl (fun _ => 0)))] H := hP
  have hD : va_D A [(h0, .inr (1, [.ref q0, .ref q1, .null, .null])), (q0, .inl (d, 16, .inl (fun _ => 0))), (q1, .inl (d, 16, .inl (fun _ => 0)))] := hD
  refine lv_aload_n hx hb dX1_init_20 rfl (lv_at hl 0 rfl) ?_
  refine lv_iconst (v := nI 2) hx hb dX1_init_21 (by decide) ?_
  refine va_newa (atype := .int) (a0 := (2, .inl (fun _ => 0))) (N' := 2) hx hb (hts _ q54) rfl hK hP hD hS hA (fun _ => rfl) (by decide) (by decide) (by decide) (Nat.le_of_ble_eq_true rfl) (Nat.le_of_ble_eq_true rfl) dX1_init_22 (fun q2 c2_ H hK hP hD hS => ?_)
  refine W.widen (k := 3) (n := 34) (Nat.le_of_ble_eq_true rfl) (Nat.le_of_ble_eq_true rfl) ?_
  obtain rfl : d = c2_ := Option.some.inj ((hK.2 0 _ rfl).2.symm.trans (hK.2 2 _ rfl).2)
  have hK : va_K D vwCl [(d, .int), (d, .int), (d, .int)] s := hK
  have hP : va_P D vwCl [(h0, .inr (1, [.ref q0, .ref q1, .null, .null])), (q0, .inl (d, 16, .inl (fun _ => 0))), (q1, .inl (d, 16, .inl (fun _ => 0))), (q2, .inl (d, 2, .inl (fun _ => 0)))] H := hP
  have hD : va_D A [(h0, .inr (1, [.ref q0, .ref q1, .null, .null])), (q0, .inl (d, 16, .inl (fun _ => 0))), (q1, .inl (d, 16, .inl (fun _ => 0))), (q2, .inl (d, 2, .inl (fun _ => 0)))] := hD
  refine va_putF (D := D) (ci := 1) (v := .ref q2) (ty := .array .int) (C := RX1) (T := TX1) (N := 4) hx hb hts in_X1 tyX1 tyX1_ok nmX1 hown hK hP hD hS 0 rfl rfl 2 (by decide) (hts _ q144) (fun _ h9 => h9) rfl hin rfl (by decide +kernel) rfl rfl (Nat.le_of_ble_eq_true rfl) dX1_init_24 (fun H locs hP hD hS => ?_)
  have hP : va_P D vwCl [(h0, .inr (1, [.ref q0, .ref q1, .ref q2, .null])), (q0, .inl (d, 16, .inl (fun _ => 0))), (q1, .inl (d, 16, .inl (fun _ => 0))), (q2, .inl (d, 2, .inl (fun _ => 0)))] H := hP
  have hD : va_D A [(h0, .inr (1, [.ref q0, .ref q1, .ref q2, .null])), (q0, .inl (d, 16, .inl (fun _ => 0))), (q1, .inl (d, 16, .inl (fun _ => 0))), (q2, .inl (d, 2, .inl (fun _ => 0)))] := hD
  refine lv_aload_n hx hb dX1_init_27 rfl (lv_at hl 0 rfl) ?_
  refine lv_sipush (v := nI 192) hx hb dX1_init_28 (by decide) ?_
  refine va_newa (atype := .int) (a0 := (192, .inl (fun _ => 0))) (N' := 192) hx hb (hts _ q54) rfl hK hP hD hS hA (fun _ => rfl) (by decide) (by decide) (by decide) (Nat.le_of_ble_eq_true rfl) (Nat.le_of_ble_eq_true rfl) dX1_init_31 (fun q3 c3_ H hK hP hD hS => ?_)
  refine W.widen (k := 4) (n := 226) (Nat.le_of_ble_eq_true rfl) (Nat.le_of_ble_eq_true rfl) ?_
  obtain rfl : d = c3_ := Option.some.inj ((hK.2 0 _ rfl).2.symm.trans (hK.2 3 _ rfl).2)
  have hK : va_K D vwCl [(d, .int), (d, .int), (d, .int), (d, .int)] s := hK
  have hP : va_P D vwCl [(h0, .inr (1, [.ref q0, .ref q1, .ref q2, .null])), (q0, .inl (d, 16, .inl (fun _ => 0))), (q1, .inl (d, 16, .inl (fun _ => 0))), (q2, .inl (d, 2, .inl (fun _ => 0))), (q3, .inl (d, 192, .inl (fun _ => 0)))] H := hP
  have hD : va_D A [(h0, .inr (1, [.ref q0, .ref q1, .ref q2, .null])), (q0, .inl (d, 16, .inl (fun _ => 0))), (q1, .inl (d, 16, .inl (fun _ => 0))), (q2, .inl (d, 2, .inl (fun _ => 0))), (q3, .inl (d, 192, .inl (fun _ => 0)))] := hD
  refine va_putF (D := D) (ci := 1) (v := .ref q3) (ty := .array .int) (C := RX1) (T := TX1) (N := 4) hx hb hts in_X1 tyX1 tyX1_ok nmX1 hown hK hP hD hS 0 rfl rfl 3 (by decide) (hts _ q145) (fun _ h9 => h9) rfl hin rfl (by decide +kernel) rfl rfl (Nat.le_of_ble_eq_true rfl) dX1_init_33 (fun H locs hP hD hS => ?_)
  have hP : va_P D vwCl [(h0, .inr (1, [.ref q0, .ref q1, .ref q2, .ref q3])), (q0, .inl (d, 16, .inl (fun _ => 0))), (q1, .inl (d, 16, .inl (fun _ => 0))), (q2, .inl (d, 2, .inl (fun _ => 0))), (q3, .inl (d, 192, .inl (fun _ => 0)))] H := hP
  have hD : va_D A [(h0, .inr (1, [.ref q0, .ref q1, .ref q2, .ref q3])), (q0, .inl (d, 16, .inl (fun _ => 0))), (q1, .inl (d, 16, .inl (fun _ => 0))), (q2, .inl (d, 2, .inl (fun _ => 0))), (q3, .inl (d, 192, .inl (fun _ => 0)))] := hD
  have hP9 := hP.sub (ws' := mw (fun k => ([q0, q1, q2, q3, h0] : List Nat).getD k 0) d (fun _ _ => 0)) [1, 2, 3, 4, 0] rfl
  have hD9 := hD.sub (ws' := mw (fun k => ([q0, q1, q2, q3, h0] : List Nat).getD k 0) d (fun _ _ => 0)) [1, 2, 3, 4, 0] (by decide) rfl
  have hK9 := hK.sub (tys' := mt d) [0] rfl
  exact W.vret hx hb hr (fun t ht hW => ⟨⟨(), rfl, trivial, (fun k => ([q0, q1, q2, q3, h0] : List Nat).getD k 0), d, rfl, by rw [ht]; exact hP9, va_K.moved hW.alike hK9, hD9⟩, hS.F ht⟩) hS.2.2 dX1_init_36 hlk
end
section
/-! THE CLAIM OUT OF ONE WALK OF THE LAW'S BODY. Your part is whole_start (and what it stands on); all else here is the same for every law, but numbers. -/
def R_law : String := "ChangedBlocksLaw"
def lw_P (b : Addr) (xs : List Int32) (args : Array Value) (s : State) : Prop := args = #[.ref b] ∧ s.IntsAt b xs ∧ xs.length ≤ 256 ∧ (Jvm.Cond.and given_1 narrow_1).before args s = true
def lw_Q (_ : Array Value) (s : State) (o : Outcome) (t : State) : Prop := o = .returned (some (.int 1)) ∧ Framed s o t [] 600000 7290000
def lw_Z (below : List Frame) (a : Array Value) (s : State) : State → Prop := fun t => ∃ o, t.status = .running ∧ Ended t below o ∧ lw_Q a s o t
/-- the law's own end, with 1 on the stack, nothing written that was there before, its room as the claim has it -/
theorem lw_ret {p : Program} {l : Launch} {e : Env} {s : State} {m : MethodId} {below : List Frame} {meth : Method} {c : Code} {b : Nat} (hx : p.tables.exec = Jvm.exec) (hb : c.code = code) (hr : meth.sig.returnType = ret) (hlocks : meth.locks = false) {pc : Nat} {H : Heap} {ls : Array Slot} (hdg : decode code pc = .ok (.ireturn, 1)) : W p l e room_1 s m #[Value.ref b] below meth c H [] 600000 7290000 (lw_Z below #[Value.ref b] s) (F0 m pc ls [.int 1]) := by
  intro T hT X
  obtain ⟨fs, hret, hrun, hended, hW, hframe⟩ := X.leave (v := some (.int 1)) (hlocks := hlocks) (fun h => by rw [hr] at h; cases h)
  have hmeth' : T.vm.method? m = some meth := X.method'
  refine ⟨T.setFrames fs, ?_, .returned (some (.int 1)), hrun, hended, rfl, ⟨_, rfl⟩, hW, hframe⟩
  jvm_step X.here [X.here.top, hx, hb, hdg, hmeth', hr, ret, narrow_b1]
  (try refine ⟨rfl, ?_⟩); (try refine ⟨rfl, ?_⟩)
  first | (intro acts; rw [hret _ acts rfl rfl rfl]) | rw [hret _ _ rfl rfl rfl]
  exact Steps.refl _
/-- what holds at the law's entry: the machine, the code, the tables' words (any of lw_tbl by 'hts w (by decide +kernel)'), the script of L ints xs at the cell b, what the Statement gives of the start (any of its parts by flat_of_before) -/
def lw_At (p : Program) (s : State) (m : MethodId) (meth : Method) (c : Code) (b L : Nat) (xs : Nat → Int32) : Prop :=
  p.tables.exec = Jvm.exec ∧ c.code = code ∧ meth.sig.returnType = ret ∧ c.maxLocals = 4 ∧ s.vm.findClass R_law = some m.cls ∧ (∀ w ∈ lw_tbl, w.before #[Value.ref b] s = true) ∧ va_X b L xs s s.heap ∧ b < s.heap.size ∧ meth.locks = false ∧ (Jvm.Cond.and given_1 narrow_1).before #[Value.ref b] s = true
/-! the law's rows: two worlds side by side -/
def lH (D : va_G) (A : Nat → Prop) (H0 : Heap) (w1 w2 : va_W) (H : Heap) (locs : List Loc) : Prop :=
  va_P D vwCl w1 H ∧ va_P D vwCl w2 H ∧ va_D A w1 ∧ va_D A w2 ∧ (∀ (i j : Nat) (p q : Nat × va_E), w1[i]? = some p → w2[j]? = some q → p.1 ≠ q.1) ∧ va_S A H0 H locs ∧ ∀ q, H0.size ≤ q → A q
theorem lH.swap {D : va_G} {A : Nat → Prop} {H0 : Heap} {w1 w2 : va_W} {H : Heap} {locs : List Loc} (X : lH D A H0 w1 w2 H locs) : lH D A H0 w2 w1 H locs :=
  ⟨X.2.1, X.1, X.2.2.2.1, X.2.2.1, fun i j p q h1 h2 e => X.2.2.2.2.1 j i q p h2 h1 e.symm, X.2.2.2.2.2⟩
theorem lH_of {D : va_G} {A : Nat → Prop} {H0 : Heap} {w1 w2 : va_W} {H : Heap} {locs : List Loc} (hP : va_P D vwCl (w1 ++ w2) H) (hD : va_D A (w1 ++ w2)) (hS : va_S A H0 H locs) (hA : ∀ q, H0.size ≤ q → A q) : lH D A H0 w1 w2 H locs := by
  have e1 : ∀ (k : Nat) (q : Nat × va_E), w1[k]? = some q → k < w1.length ∧ (w1 ++ w2)[k]? = some q := fun k q h => by
    have hl := (List.getElem?_eq_some_iff.mp h).1
    exact ⟨hl, by rw [List.getElem?_append_left hl]; exact h⟩
  have e2 : ∀ (k : Nat) (q : Nat × va_E), w2[k]? = some q → (w1 ++ w2)[w1.length + k]? = some q := fun k q h => by
    rw [List.getElem?_append_right (by omega), Nat.add_sub_cancel_left]
    exact h
  refine ⟨fun k q h => hP k q (e1 k q h).2, fun k q h => hP _ q (e2 k q h), ⟨fun i j p q h1 h2 e => hD.1 i j p q (e1 i p h1).2 (e1 j q h2).2 e, fun k q h => hD.2 k q (e1 k q h).2⟩, ⟨fun i j p q h1 h2 e => ?_, fun k q h => hD.2 _ q (e2 k q h)⟩, fun i j p q h1 h2 e => ?_, hS, hA⟩
  · have := hD.1 _ _ p q (e2 i p h1) (e2 j q h2) e
    omega
  · have h3 := hD.1 _ _ p q (e1 i p h1).2 (e2 j q h2) e
    have h4 := (e1 i p h1).1
    omega
theorem lH_call {D : va_G} {A : Nat → Prop} {H0 : Heap} {w1 w2 w3 : va_W} {H H1 : Heap} {locs locs1 : List Loc} (X : lH D A H0 w1 w2 H locs) (hP1 : va_P D vwCl w3 H1) (hD1 : va_D (va_A w1 H.size) w3) (hk : ∀ q : Nat, q < H.size → ¬ va_A w1 H.size q → H1[q]? = H[q]?) (hF : ∀ q, va_A w1 H.size q → A q) (hS1 : va_S A H0 H1 locs1) : lH D A H0 w3 w2 H1 locs1 := by
  obtain ⟨hP, hP2, hD, hD2, hap, hS, hA⟩ := X
  have far : ∀ (k : Nat) (q : Nat × va_E), w2[k]? = some q → ¬ va_A w1 H.size q.1 := by
    intro k q hq h
    rcases h with ⟨i, e, h⟩ | h
    · exact hap i k (q.1, e) q h hq rfl
    · have := (hP2 k q hq).lt
      omega
  refine ⟨hP1, hP2.kept (fun k q hq => hk q.1 ((hP2 k q hq).lt) (far k q hq)), hD1.weaken (fun _ q _ h => hF q.1 h), hD2, fun i j p q h1 h2 e => ?_, hS1, hA⟩
  exact far j q h2 (by rw [← e]; exact hD1.2 i p h1)
section LR
variable {p : Program} {l : Launch} {e : Env} {R : Room} {s : State} {m : MethodId} {args : Array Value} {below : List Frame} {meth : Method} {c : Code} {H : Heap} {locs : List Loc} {cells slots : Nat} {Q : State → Prop}
variable {cc : ByteArray} {pc : Nat} {ls : Array Slot} {rest : List Value} {D : va_G} {A : Nat → Prop} {tys : List (ClassId × FieldType)} {H0 : Heap} {wf : gS → va_W} {w2 : va_W} {σ : gS} {own : String} {nL : Nat}
theorem lH_free (X : lH D A H0 (wf σ) w2 H locs) : ∀ q, va_A (wf σ) H.size q → A q := by
  intro q h
  rcases h with ⟨k, e, h⟩ | h
  · exact X.2.2.1.2 k _ h
  · exact X.2.2.2.2.2.2 q (Nat.le_trans X.2.2.2.2.2.1.1 h)
theorem l_calli (G : gC own nL tys p s m args c cc D) (X : lH D A H0 (wf σ) w2 H locs) {y : MethodName} {bytes : ByteArray} {maxL idx n : Nat} {ret : Option FieldType} {rm : Room} {a : Nat} {As st0 : List Value} {post : Int32 → gS → Prop} {C : String} {q0 ci : Nat} {q : vw_C} {fs : List Value}
    (hM : gMi l y bytes maxL ret rm (.ref a :: As) D wf tys σ post) (hw : GoodIn lw_all (wsV own idx C y (ws_ y bytes maxL ret))) (hd : y.cls = C ∧ y.cls ≠ "java/lang/invoke/MethodHandle" ∧ y.cls ≠ "java/lang/invoke/VarHandle" ∧ (parseMethodDescriptor y.desc).map (fun d => d.parameters.length) = some n)
    (hrm : rm.cells = 0 ∧ rm.slots = 0) (hR : rm.frames + 1 ≤ R.frames ∧ 8 + (maxL + 11) + rm.locals ≤ R.locals) (hn : As.length = n) (he : (wf σ)[q0]? = some (a, .inr (ci, fs))) (hc : vwCl[ci]? = some q) (hqC : q.1 = C) (hsz : ls.size = nL) (hst : st0 = As.reverse ++ .ref a :: rest) (hroom : (rest.map fun v => v.category).sum ≤ 8) (hdg : decode cc pc = .ok (.invokevirtual idx, 3)) (hf : cells ≤ R.cells ∧ slots ≤ R.slots)
    (kk : ∀ (r : Int32) (σ' : gS) (H1 : Heap) (locs1 : List Loc), post r σ' → lH D A H0 (wf σ') w2 H1 locs1 → W p l e R s m args below meth c H1 locs1 cells slots Q (F0 m (pc + 3) ls (.int r :: rest))) : W p l e R s m args below meth c H locs cells slots Q (F0 m pc ls st0) := by
  subst hqC
  subst hst
  obtain ⟨hx, hb, hml, hown, hts, hK⟩ := G
  have hFc := lH_free X
  have hP := X.1
  have hD := X.2.2.1
  refine va_calli (va_runV (As := As) (rest := rest) ⟨hx, hb, hml, hown, hts⟩ (hM H.size) (cwV n hts hw rfl hrm.1 hrm.2 hd hR) ⟨fun a U g mk q => by obtain ⟨q0, q1, qP, qK, qD⟩ := q; exact ⟨q0, q1, qP, va_K.moved (u := U) (U := U.calling g mk a) (Vm.Alike.refl U.vm) qK, qD⟩, va_recv hK hP hc he, fun U hU hW => ⟨rfl, by rw [hU], by rw [hU]; exact hP, va_K.moved hW.alike hK, hD.weaken (fun _ _ _ _ => trivial)⟩⟩ rfl hn hsz rfl (lv_room hroom) hdg hf) X.2.2.2.2.2.1 (fun q _ h => hFc q h) hFc (fun r u t H1 locs1 ht hvm hw1 hB hz1 hk1 hS1 => ?_)
  obtain ⟨hP1, -, hD1⟩ := hB
  rw [ht] at hP1
  exact kk r u H1 locs1 hw1 (lH_call X hP1 hD1 hk1 hFc hS1)
theorem l_callv (G : gC own nL tys p s m args c cc D) (X : lH D A H0 (wf σ) w2 H locs) {y : MethodName} {bytes : ByteArray} {maxL idx n : Nat} {rm : Room} {a : Nat} {As st0 : List Value} {post : gS → Prop} {C : String} {q0 ci : Nat} {q : vw_C} {fs : List Value}
    (hM : gMv l y bytes maxL rm (.ref a :: As) D wf tys σ post) (hw : GoodIn lw_all (wsV own idx C y (ws_ y bytes maxL none))) (hd : y.cls = C ∧ y.cls ≠ "java/lang/invoke/MethodHandle" ∧ y.cls ≠ "java/lang/invoke/VarHandle" ∧ (parseMethodDescriptor y.desc).map (fun d => d.parameters.length) = some n)
    (hrm : rm.cells = 0 ∧ rm.slots = 0) (hR : rm.frames + 1 ≤ R.frames ∧ 8 + (maxL + 11) + rm.locals ≤ R.locals) (hn : As.length = n) (he : (wf σ)[q0]? = some (a, .inr (ci, fs))) (hc : vwCl[ci]? = some q) (hqC : q.1 = C) (hsz : ls.size = nL) (hst : st0 = As.reverse ++ .ref a :: rest) (hroom : (rest.map fun v => v.category).sum ≤ 8) (hdg : decode cc pc = .ok (.invokevirtual idx, 3)) (hf : cells ≤ R.cells ∧ slots ≤ R.slots)
    (kk : ∀ (σ' : gS) (H1 : Heap) (locs1 : List Loc), post σ' → lH D A H0 (wf σ') w2 H1 locs1 → W p l e R s m args below meth c H1 locs1 cells slots Q (F0 m (pc + 3) ls rest)) : W p l e R s m args below meth c H locs cells slots Q (F0 m pc ls st0) := by
  subst hqC
  subst hst
  obtain ⟨hx, hb, hml, hown, hts, hK⟩ := G
  have hFc := lH_free X
  have hP := X.1
  have hD := X.2.2.1
  refine va_callv (va_runV (As := As) (rest := rest) ⟨hx, hb, hml, hown, hts⟩ (hM H.size) (cwV n hts hw rfl hrm.1 hrm.2 hd hR) ⟨fun a U g mk q => by obtain ⟨q0, q1, qP, qK, qD⟩ := q; exact ⟨q0, q1, qP, va_K.moved (u := U) (U := U.calling g mk a) (Vm.Alike.refl U.vm) qK, qD⟩, va_recv hK hP hc he, fun U hU hW => ⟨rfl, by rw [hU], by rw [hU]; exact hP, va_K.moved hW.alike hK, hD.weaken (fun _ _ _ _ => trivial)⟩⟩ rfl hn hsz rfl (lv_room hroom) hdg hf) X.2.2.2.2.2.1 (fun q _ h => hFc q h) hFc (fun u t H1 locs1 ht hvm hw1 hB hz1 hk1 hS1 => ?_)
  obtain ⟨hP1, -, hD1⟩ := hB
  rw [ht] at hP1
  exact kk u H1 locs1 hw1 (lH_call X hP1 hD1 hk1 hFc hS1)
/-- a number of the script: aload_0, iload_3, iconst, iadd, iaload -/
theorem l_arg (hx : p.tables.exec = Jvm.exec) (hb : c.code = cc) {b L : Nat} {xs : Nat → Int32} (hX : va_X b L xs s H0) (hbl : b < H0.size) (hbA : ¬ A b) (X : lH D A H0 (wf σ) w2 H locs) (hL : L ≤ 256) {i k x1 x2 : Nat} {n : Int} (hl : lv_has ls 4 [(0, .ref b), (1, .ref x1), (2, .ref x2), (3, .int (nI i))]) (hk : i + k < L) (hn : Int32.ofInt n = nI k) (d1 : decode cc pc = .ok (.aload_n 0, 1)) (d2 : decode cc (pc + 1) = .ok (.iload_n 3, 1)) (d3 : decode cc (pc + 2) = .ok (.iconst n, 1)) (d4 : decode cc (pc + 3) = .ok (.iadd, 1)) (d5 : decode cc (pc + 4) = .ok (.iaload, 1))
    (kk : W p l e R s m args below meth c H locs cells slots Q (F0 m (pc + 5) ls (.int (xs (i + k)) :: rest))) : W p l e R s m args below meth c H locs cells slots Q (F0 m pc ls rest) := by
  refine lv_aload_n hx hb d1 rfl (lv_at hl 0 rfl) ?_
  refine lv_iload_n hx hb d2 rfl (lv_at hl 3 rfl) ?_
  refine lv_iconst hx hb d3 hn ?_
  refine lv_iadd hx hb d4 ?_
  refine g_top (nI (i + k)) (nI_add _ _) ?_
  refine va_sld hx hb hX hbl hbA X.2.2.2.2.2.1 (vp_in_nI hk (by omega)) d5 ?_
  rw [nI_clamp (by omega)]
  exact kk
end LR
/-- where the loop ends -/
theorem lw_more {L i : Nat} (hL : L ≤ 256) (hi : i ≤ L) (h : ¬ nI L - nI 4 < nI i) : i + 4 ≤ L := by
  rw [Int32.lt_iff_toInt_lt, pk_sub_toInt (by omega) (by omega), nI_toInt (by omega)] at h
  omega
end
section
set_option maxHeartbeats 4000000 in
set_option maxRecDepth 100000 in
/-- THE LAW's LOOP at its head: i ints read; both objects stand for one M -/
theorem law_loop {p : Program} {l : Launch} {e : Env} {s : State} {m : MethodId} {below : List Frame} {meth : Method} {c : Code} {D : va_G} {b L : Nat} {xs : Nat → Int32} {adx adm : Nat → Nat} {d z d2 : ClassId} (hL : L ≤ 256) (C0 : lw_At p s m meth c b L xs) (hKx : va_K D vwCl (xt d z) s) (hKm : va_K D vwCl (mt d2) s) :
    ∀ (n i : Nat) (σ τ : gS) (M : MS) (H : Heap) (locs : List Loc) (ls : Array Slot), i ≤ L → L + 1 ≤ i + n → RelX σ M → RelM τ M → lH D (fun q : Nat => s.heap.size ≤ q) s.heap (xw adx d z σ) (mw adm d2 τ) H locs → lv_has ls 4 [(0, .ref b), (1, .ref (adx 7)), (2, .ref (adm 4)), (3, .int (nI i))] → W p l e room_1 s m #[Value.ref b] below meth c H locs 600000 7290000 (lw_Z below #[Value.ref b] s) (F0 m 18 ls []) := by
  obtain ⟨hx, hb, hr, hml, hown, hts0, hX, hbl, hlocks, hgv⟩ := C0
  have hts : ∀ w ∈ lw_all, w.before #[Value.ref b] s = true := fun w h => hts0 w (lw_all_tbl h)
  have hb : c.code = cL_law := hb
  have GX : gC R_law 4 (xt d z) p s m #[Value.ref b] c cL_law D := ⟨hx, hb, hml, hown, hts, hKx⟩
  have GM : gC R_law 4 (mt d2) p s m #[Value.ref b] c cL_law D := ⟨hx, hb, hml, hown, hts, hKm⟩
  have hbA : ¬ (fun q : Nat => s.heap.size ≤ q) b := Nat.not_le.mpr hbl
  intro n
  induction n with
  | zero => intro i σ τ M H locs ls h1 h2; exact absurd h2 (by omega)
  | succ n ih =>
    intro i σ τ M H locs ls h1 h2 hR hT X hl
    refine lv_iload_n hx hb dL_law_18 rfl (lv_at hl 3 rfl) ?_
    refine lv_aload_n hx hb dL_law_19 rfl (lv_at hl 0 rfl) ?_
    refine va_slen hx hb hX hbl hbA X.2.2.2.2.2.1 dL_law_20 ?_
    refine lv_iconst (v := nI 4) hx hb dL_law_21 (by decide) ?_
    refine lv_isub hx hb dL_law_22 ?_
    refine lv_icmp_gt (tgt := 471) hx hb dL_law_23 (by decide) (fun q => ?_) (fun q => ?_)
    · refine lv_iconst (v := 1) hx hb dL_law_471 (by decide) ?_
      refine va_forget (fun q hq => X.2.2.2.2.2.1.2.2 q hq) ?_
      exact lw_ret hx hb hr hlocks dL_law_472
    · have h4 : i + 4 ≤ L := lw_more hL h1 q
      have K465 : ∀ (σ τ : gS) (M : MS) (H : Heap) (locs : List Loc), RelX σ M → RelM τ M → lH D (fun q : Nat => s.heap.size ≤ q) s.heap (xw adx d z σ) (mw adm d2 τ) H locs → W p l e room_1 s m #[Value.ref b] below meth c H locs 600000 7290000 (lw_Z below #[Value.ref b] s) (F0 m 465 ls []) := by
        intro σ τ M H locs hR hT X
        refine g_iinc (k := 3) (v := nI (i + 4)) (lv' := [(0, _), (1, _), (2, _), (3, _)]) hx hb dL_law_465 hl rfl (nI_add i 4) rfl (by decide) rfl (fun ls hl => ?_)
        refine lv_goto (tgt := 18) hx hb dL_law_468 (by decide) ?_
        exact ih (i + 4) σ τ M H locs ls h4 (by omega) hR hT X hl
      refine lv_aload_n hx hb dL_law_26 rfl (lv_at hl 0 rfl) ?_
      refine lv_iload_n hx hb dL_law_27 rfl (lv_at hl 3 rfl) ?_
      refine va_sld hx hb hX hbl hbA X.2.2.2.2.2.1 (vp_in_nI (by omega) (by omega)) dL_law_28 ?_
      refine lv_bipush (v := nI 15) hx hb dL_law_29 (by decide) ?_
      refine lv_iand hx hb dL_law_31 ?_
      obtain ⟨j, hj, ej⟩ := pk_andE (xs (nI i).toNatClampNeg) (m := nI 15) 4 (by decide)
      refine g_top (nI j) ej ?_
      have hj16 : j = 0 ∨ j = 1 ∨ j = 2 ∨ j = 3 ∨ j = 4 ∨ j = 5 ∨ j = 6 ∨ j = 7 ∨ j = 8 ∨ j = 9 ∨ j = 10 ∨ j = 11 ∨ j = 12 ∨ 13 ≤ j := by omega
      rcases hj16 with rfl | rfl | rfl | rfl | rfl | rfl | rfl | rfl | rfl | rfl | rfl | rfl | rfl | h13
      · refine lv_tableIn (tgt := 100) hx hb dL_law_32 (by decide) (by decide) rfl (by decide) ?_
        refine lv_aload_n hx hb dL_law_100 rfl (lv_at hl 1 rfl) ?_
        refine l_arg (k := 1) hx hb hX hbl hbA X hL hl (by omega) (by decide) dL_law_101 dL_law_102 dL_law_103 dL_law_104 dL_law_105 ?_
        refine l_arg (k := 2) hx hb hX hbl hbA X hL hl (by omega) (by decide) dL_law_106 dL_law_107 dL_law_108 dL_law_109 dL_law_110 ?_
        refine l_calli (n := 2) (rest := []) (q0 := 7) GX X (cX_write l D adx d z hR (xs (i + 1)) (xs (i + 2))) (lw_V q56 q57 q58 q10 q59) (by decide +kernel) ⟨rfl, rfl⟩ ⟨Nat.le_of_ble_eq_true rfl, Nat.le_of_ble_eq_true rfl⟩ rfl rfl rfl rfl hl.1 rfl (Nat.le_of_ble_eq_true rfl) dL_law_111 ⟨Nat.le_of_ble_eq_true rfl, Nat.le_of_ble_eq_true rfl⟩ (fun r1 σ1 H locs hp1 X => ?_)
        refine lv_aload_n hx hb dL_law_114 rfl (lv_at hl 2 rfl) ?_
        refine l_arg (k := 1) hx hb hX hbl hbA X hL hl (by omega) (by decide) dL_law_115 dL_law_116 dL_law_117 dL_law_118 dL_law_119 ?_
        refine l_arg (k := 2) hx hb hX hbl hbA X hL hl (by omega) (by decide) dL_law_120 dL_law_121 dL_law_122 dL_law_123 dL_law_124 ?_
        refine l_calli (n := 2) (rest := [.int r1]) (q0 := 4) GM X.swap (cM_write l D adm d2 hT (xs (i + 1)) (xs (i + 2))) (lw_V q155 q156 q157 q11 q158) (by decide +kernel) ⟨rfl, rfl⟩ ⟨Nat.le_of_ble_eq_true rfl, Nat.le_of_ble_eq_true rfl⟩ rfl rfl rfl rfl hl.1 rfl (Nat.le_of_ble_eq_true rfl) dL_law_125 ⟨Nat.le_of_ble_eq_true rfl, Nat.le_of_ble_eq_true rfl⟩ (fun r2 τ1 H locs hp2 X => ?_)
        refine lv_icmp_eq (tgt := 465) hx hb dL_law_128 (by decide) (fun qe => ?_) (fun qe => ?_)
        · exact K465 σ1 τ1 _ H locs hp1.2 hp2.2 X.swap
        · exact absurd (hp1.1.trans hp2.1.symm) qe
      · refine lv_tableIn (tgt := 133) hx hb dL_law_32 (by decide) (by decide) rfl (by decide) ?_
        refine lv_aload_n hx hb dL_law_133 rfl (lv_at hl 1 rfl) ?_
        refine l_arg (k := 1) hx hb hX hbl hbA X hL hl (by omega) (by decide) dL_law_134 dL_law_135 dL_law_136 dL_law_137 dL_law_138 ?_
        refine l_arg (k := 2) hx hb hX hbl hbA X hL hl (by omega) (by decide) dL_law_139 dL_law_140 dL_law_141 dL_law_142 dL_law_143 ?_
        refine l_arg (k := 3) hx hb hX hbl hbA X hL hl (by omega) (by decide) dL_law_144 dL_law_145 dL_law_146 dL_law_147 dL_law_148 ?_
        refine l_calli (n := 3) (rest := []) (q0 := 7) GX X (cX_copy l D adx d z hR (xs (i + 1)) (xs (i + 2)) (xs (i + 3))) (lw_V q64 q65 q66 q10 q67) (by decide +kernel) ⟨rfl, rfl⟩ ⟨Nat.le_of_ble_eq_true rfl, Nat.le_of_ble_eq_true rfl⟩ rfl rfl rfl rfl hl.1 rfl (Nat.le_of_ble_eq_true rfl) dL_law_149 ⟨Nat.le_of_ble_eq_true rfl, Nat.le_of_ble_eq_true rfl⟩ (fun r1 σ1 H locs hp1 X => ?_)
        refine lv_aload_n hx hb dL_law_152 rfl (lv_at hl 2 rfl) ?_
        refine l_arg (k := 1) hx hb hX hbl hbA X hL hl (by omega) (by decide) dL_law_153 dL_law_154 dL_law_155 dL_law_156 dL_law_157 ?_
        refine l_arg (k := 2) hx hb hX hbl hbA X hL hl (by omega) (by decide) dL_law_158 dL_law_159 dL_law_160 dL_law_161 dL_law_162 ?_
        refine l_arg (k := 3) hx hb hX hbl hbA X hL hl (by omega) (by decide) dL_law_163 dL_law_164 dL_law_165 dL_law_166 dL_law_167 ?_
        refine l_calli (n := 3) (rest := [.int r1]) (q0 := 4) GM X.swap (cM_copy l D adm d2 hT (xs (i + 1)) (xs (i + 2)) (xs (i + 3))) (lw_V q159 q160 q161 q11 q162) (by decide +kernel) ⟨rfl, rfl⟩ ⟨Nat.le_of_ble_eq_true rfl, Nat.le_of_ble_eq_true rfl⟩ rfl rfl rfl rfl hl.1 rfl (Nat.le_of_ble_eq_true rfl) dL_law_168 ⟨Nat.le_of_ble_eq_true rfl, Nat.le_of_ble_eq_true rfl⟩ (fun r2 τ1 H locs hp2 X => ?_)
        refine lv_icmp_eq (tgt := 465) hx hb dL_law_171 (by decide) (fun qe => ?_) (fun qe => ?_)
        · exact K465 σ1 τ1 _ H locs hp1.2 hp2.2 X.swap
        · exact absurd (hp1.1.trans hp2.1.symm) qe
      · refine lv_tableIn (tgt := 176) hx hb dL_law_32 (by decide) (by decide) rfl (by decide) ?_
        refine lv_aload_n hx hb dL_law_176 rfl (lv_at hl 1 rfl) ?_
        refine l_arg (k := 1) hx hb hX hbl hbA X hL hl (by omega) (by decide) dL_law_177 dL_law_178 dL_law_179 dL_law_180 dL_law_181 ?_
        refine l_calli (n := 1) (rest := []) (q0 := 7) GX X (cX_backup l D adx d z hR (xs (i + 1))) (lw_V q68 q69 q70 q10 q71) (by decide +kernel) ⟨rfl, rfl⟩ ⟨Nat.le_of_ble_eq_true rfl, Nat.le_of_ble_eq_true rfl⟩ rfl rfl rfl rfl hl.1 rfl (Nat.le_of_ble_eq_true rfl) dL_law_182 ⟨Nat.le_of_ble_eq_true rfl, Nat.le_of_ble_eq_true rfl⟩ (fun r1 σ1 H locs hp1 X => ?_)
        refine lv_aload_n hx hb dL_law_185 rfl (lv_at hl 2 rfl) ?_
        refine l_arg (k := 1) hx hb hX hbl hbA X hL hl (by omega) (by decide) dL_law_186 dL_law_187 dL_law_188 dL_law_189 dL_law_190 ?_
        refine l_calli (n := 1) (rest := [.int r1]) (q0 := 4) GM X.swap (cM_backup l D adm d2 hT (xs (i + 1))) (lw_V q163 q164 q165 q11 q166) (by decide +kernel) ⟨rfl, rfl⟩ ⟨Nat.le_of_ble_eq_true rfl, Nat.le_of_ble_eq_true rfl⟩ rfl rfl rfl rfl hl.1 rfl (Nat.le_of_ble_eq_true rfl) dL_law_191 ⟨Nat.le_of_ble_eq_true rfl, Nat.le_of_ble_eq_true rfl⟩ (fun r2 τ1 H locs hp2 X => ?_)
        refine lv_icmp_eq (tgt := 465) hx hb dL_law_194 (by decide) (fun qe => ?_) (fun qe => ?_)
        · exact K465 σ1 τ1 _ H locs hp1.2 hp2.2 X.swap
        · exact absurd (hp1.1.trans hp2.1.symm) qe
      · refine lv_tableIn (tgt := 199) hx hb dL_law_32 (by decide) (by decide) rfl (by decide) ?_
        refine lv_aload_n hx hb dL_law_199 rfl (lv_at hl 1 rfl) ?_
        refine l_arg (k := 1) hx hb hX hbl hbA X hL hl (by omega) (by decide) dL_law_200 dL_law_201 dL_law_202 dL_law_203 dL_law_204 ?_
        refine l_arg (k := 2) hx hb hX hbl hbA X hL hl (by omega) (by decide) dL_law_205 dL_law_206 dL_law_207 dL_law_208 dL_law_209 ?_
        refine l_calli (n := 2) (rest := []) (q0 := 7) GX X (cX_restore l D adx d z hR (xs (i + 1)) (xs (i + 2))) (lw_V q76 q77 q78 q10 q79) (by decide +kernel) ⟨rfl, rfl⟩ ⟨Nat.le_of_ble_eq_true rfl, Nat.le_of_ble_eq_true rfl⟩ rfl rfl rfl rfl hl.1 rfl (Nat.le_of_ble_eq_true rfl) dL_law_210 ⟨Nat.le_of_ble_eq_true rfl, Nat.le_of_ble_eq_true rfl⟩ (fun r1 σ1 H locs hp1 X => ?_)
        refine lv_aload_n hx hb dL_law_213 rfl (lv_at hl 2 rfl) ?_
        refine l_arg (k := 1) hx hb hX hbl hbA X hL hl (by omega) (by decide) dL_law_214 dL_law_215 dL_law_216 dL_law_217 dL_law_218 ?_
        refine l_arg (k := 2) hx hb hX hbl hbA X hL hl (by omega) (by decide) dL_law_219 dL_law_220 dL_law_221 dL_law_222 dL_law_223 ?_
        refine l_calli (n := 2) (rest := [.int r1]) (q0 := 4) GM X.swap (cM_restore l D adm d2 hT (xs (i + 1)) (xs (i + 2))) (lw_V q171 q172 q173 q11 q174) (by decide +kernel) ⟨rfl, rfl⟩ ⟨Nat.le_of_ble_eq_true rfl, Nat.le_of_ble_eq_true rfl⟩ rfl rfl rfl rfl hl.1 rfl (Nat.le_of_ble_eq_true rfl) dL_law_224 ⟨Nat.le_of_ble_eq_true rfl, Nat.le_of_ble_eq_true rfl⟩ (fun r2 τ1 H locs hp2 X => ?_)
        refine lv_icmp_eq (tgt := 465) hx hb dL_law_227 (by decide) (fun qe => ?_) (fun qe => ?_)
        · exact K465 σ1 τ1 _ H locs hp1.2 hp2.2 X.swap
        · exact absurd (hp1.1.trans hp2.1.symm) qe
      · refine lv_tableIn (tgt := 232) hx hb dL_law_32 (by decide) (by decide) rfl (by decide) ?_
        refine lv_aload_n hx hb dL_law_232 rfl (lv_at hl 1 rfl) ?_
        refine l_arg (k := 1) hx hb hX hbl hbA X hL hl (by omega) (by decide) dL_law_233 dL_law_234 dL_law_235 dL_law_236 dL_law_237 ?_
        refine l_calli (n := 1) (rest := []) (q0 := 7) GX X (cX_dropO l D adx d z hR (xs (i + 1))) (lw_V q88 q89 q90 q10 q91) (by decide +kernel) ⟨rfl, rfl⟩ ⟨Nat.le_of_ble_eq_true rfl, Nat.le_of_ble_eq_true rfl⟩ rfl rfl rfl rfl hl.1 rfl (Nat.le_of_ble_eq_true rfl) dL_law_238 ⟨Nat.le_of_ble_eq_true rfl, Nat.le_of_ble_eq_true rfl⟩ (fun r1 σ1 H locs hp1 X => ?_)
        refine lv_aload_n hx hb dL_law_241 rfl (lv_at hl 2 rfl) ?_
        refine l_arg (k := 1) hx hb hX hbl hbA X hL hl (by omega) (by decide) dL_law_242 dL_law_243 dL_law_244 dL_law_245 dL_law_246 ?_
        refine l_calli (n := 1) (rest := [.int r1]) (q0 := 4) GM X.swap (cM_dropO l D adm d2 hT (xs (i + 1))) (lw_V q183 q184 q185 q11 q186) (by decide +kernel) ⟨rfl, rfl⟩ ⟨Nat.le_of_ble_eq_true rfl, Nat.le_of_ble_eq_true rfl⟩ rfl rfl rfl rfl hl.1 rfl (Nat.le_of_ble_eq_true rfl) dL_law_247 ⟨Nat.le_of_ble_eq_true rfl, Nat.le_of_ble_eq_true rfl⟩ (fun r2 τ1 H locs hp2 X => ?_)
        refine lv_icmp_eq (tgt := 465) hx hb dL_law_250 (by decide) (fun qe => ?_) (fun qe => ?_)
        · exact K465 σ1 τ1 _ H locs hp1.2 hp2.2 X.swap
        · exact absurd (hp1.1.trans hp2.1.symm) qe
      · refine lv_tableIn (tgt := 255) hx hb dL_law_32 (by decide) (by decide) rfl (by decide) ?_
        refine lv_aload_n hx hb dL_law_255 rfl (lv_at hl 1 rfl) ?_
        refine l_arg (k := 1) hx hb hX hbl hbA X hL hl (by omega) (by decide) dL_law_256 dL_law_257 dL_law_258 dL_law_259 dL_law_260 ?_
        refine l_arg (k := 2) hx hb hX hbl hbA X hL hl (by omega) (by decide) dL_law_261 dL_law_262 dL_law_263 dL_law_264 dL_law_265 ?_
        refine l_calli (n := 2) (rest := []) (q0 := 7) GX X (cX_drop l D adx d z hR (xs (i + 1)) (xs (i + 2))) (lw_V q100 q101 q102 q10 q103) (by decide +kernel) ⟨rfl, rfl⟩ ⟨Nat.le_of_ble_eq_true rfl, Nat.le_of_ble_eq_true rfl⟩ rfl rfl rfl rfl hl.1 rfl (Nat.le_of_ble_eq_true rfl) dL_law_266 ⟨Nat.le_of_ble_eq_true rfl, Nat.le_of_ble_eq_true rfl⟩ (fun r1 σ1 H locs hp1 X => ?_)
        refine lv_aload_n hx hb dL_law_269 rfl (lv_at hl 2 rfl) ?_
        refine l_arg (k := 1) hx hb hX hbl hbA X hL hl (by omega) (by decide) dL_law_270 dL_law_271 dL_law_272 dL_law_273 dL_law_274 ?_
        refine l_arg (k := 2) hx hb hX hbl hbA X hL hl (by omega) (by decide) dL_law_275 dL_law_276 dL_law_277 dL_law_278 dL_law_279 ?_
        refine l_calli (n := 2) (rest := [.int r1]) (q0 := 4) GM X.swap (cM_drop l D adm d2 hT (xs (i + 1)) (xs (i + 2))) (lw_V q191 q188 q189 q11 q190) (by decide +kernel) ⟨rfl, rfl⟩ ⟨Nat.le_of_ble_eq_true rfl, Nat.le_of_ble_eq_true rfl⟩ rfl rfl rfl rfl hl.1 rfl (Nat.le_of_ble_eq_true rfl) dL_law_280 ⟨Nat.le_of_ble_eq_true rfl, Nat.le_of_ble_eq_true rfl⟩ (fun r2 τ1 H locs hp2 X => ?_)
        refine lv_icmp_eq (tgt := 465) hx hb dL_law_283 (by decide) (fun qe => ?_) (fun qe => ?_)
        · exact K465 σ1 τ1 _ H locs hp1.2 hp2.2 X.swap
        · exact absurd (hp1.1.trans hp2.1.symm) qe
      · refine lv_tableIn (tgt := 288) hx hb dL_law_32 (by decide) (by decide) rfl (by decide) ?_
        refine lv_aload_n hx hb dL_law_288 rfl (lv_at hl 1 rfl) ?_
        refine l_callv (n := 0) (rest := []) (q0 := 7) GX X (cX_restart l D adx d z hR ) (lw_V q104 q105 q106 q10 q107) (by decide +kernel) ⟨rfl, rfl⟩ ⟨Nat.le_of_ble_eq_true rfl, Nat.le_of_ble_eq_true rfl⟩ rfl rfl rfl rfl hl.1 rfl (Nat.le_of_ble_eq_true rfl) dL_law_289 ⟨Nat.le_of_ble_eq_true rfl, Nat.le_of_ble_eq_true rfl⟩ (fun σ1 H locs hp1 X => ?_)
        refine lv_aload_n hx hb dL_law_292 rfl (lv_at hl 2 rfl) ?_
        refine l_callv (n := 0) (rest := []) (q0 := 4) GM X.swap (cM_restart l D adm d2 hT ) (lw_V q192 q193 q194 q11 q195) (by decide +kernel) ⟨rfl, rfl⟩ ⟨Nat.le_of_ble_eq_true rfl, Nat.le_of_ble_eq_true rfl⟩ rfl rfl rfl rfl hl.1 rfl (Nat.le_of_ble_eq_true rfl) dL_law_293 ⟨Nat.le_of_ble_eq_true rfl, Nat.le_of_ble_eq_true rfl⟩ (fun τ1 H locs hp2 X => ?_)
        refine lv_goto (tgt := 465) hx hb dL_law_296 (by decide) ?_
        exact K465 σ1 τ1 M H locs hp1 hp2 X.swap
      · refine lv_tableIn (tgt := 299) hx hb dL_law_32 (by decide) (by decide) rfl (by decide) ?_
        refine lv_aload_n hx hb dL_law_299 rfl (lv_at hl 1 rfl) ?_
        refine l_callv (n := 0) (rest := []) (q0 := 7) GX X (cX_crash l D adx d z hR ) (lw_V q112 q113 q114 q10 q115) (by decide +kernel) ⟨rfl, rfl⟩ ⟨Nat.le_of_ble_eq_true rfl, Nat.le_of_ble_eq_true rfl⟩ rfl rfl rfl rfl hl.1 rfl (Nat.le_of_ble_eq_true rfl) dL_law_300 ⟨Nat.le_of_ble_eq_true rfl, Nat.le_of_ble_eq_true rfl⟩ (fun σ1 H locs hp1 X => ?_)
        refine lv_aload_n hx hb dL_law_303 rfl (lv_at hl 2 rfl) ?_
        refine l_callv (n := 0) (rest := []) (q0 := 4) GM X.swap (cM_crash l D adm d2 hT ) (lw_V q196 q197 q198 q11 q199) (by decide +kernel) ⟨rfl, rfl⟩ ⟨Nat.le_of_ble_eq_true rfl, Nat.le_of_ble_eq_true rfl⟩ rfl rfl rfl rfl hl.1 rfl (Nat.le_of_ble_eq_true rfl) dL_law_304 ⟨Nat.le_of_ble_eq_true rfl, Nat.le_of_ble_eq_true rfl⟩ (fun τ1 H locs hp2 X => ?_)
        refine lv_goto (tgt := 465) hx hb dL_law_307 (by decide) ?_
        exact K465 σ1 τ1 M H locs hp1 hp2 X.swap
      · refine lv_tableIn (tgt := 310) hx hb dL_law_32 (by decide) (by decide) rfl (by decide) ?_
        refine lv_aload_n hx hb dL_law_310 rfl (lv_at hl 1 rfl) ?_
        refine l_arg (k := 1) hx hb hX hbl hbA X hL hl (by omega) (by decide) dL_law_311 dL_law_312 dL_law_313 dL_law_314 dL_law_315 ?_
        refine l_calli (n := 1) (rest := []) (q0 := 7) GX X (cX_read l D adx d z hR (xs (i + 1))) (lw_V q116 q117 q118 q10 q119) (by decide +kernel) ⟨rfl, rfl⟩ ⟨Nat.le_of_ble_eq_true rfl, Nat.le_of_ble_eq_true rfl⟩ rfl rfl rfl rfl hl.1 rfl (Nat.le_of_ble_eq_true rfl) dL_law_316 ⟨Nat.le_of_ble_eq_true rfl, Nat.le_of_ble_eq_true rfl⟩ (fun r1 σ1 H locs hp1 X => ?_)
        refine lv_aload_n hx hb dL_law_319 rfl (lv_at hl 2 rfl) ?_
        refine l_arg (k := 1) hx hb hX hbl hbA X hL hl (by omega) (by decide) dL_law_320 dL_law_321 dL_law_322 dL_law_323 dL_law_324 ?_
        refine l_calli (n := 1) (rest := [.int r1]) (q0 := 4) GM X.swap (cM_read l D adm d2 hT (xs (i + 1))) (lw_V q200 q201 q202 q11 q203) (by decide +kernel) ⟨rfl, rfl⟩ ⟨Nat.le_of_ble_eq_true rfl, Nat.le_of_ble_eq_true rfl⟩ rfl rfl rfl rfl hl.1 rfl (Nat.le_of_ble_eq_true rfl) dL_law_325 ⟨Nat.le_of_ble_eq_true rfl, Nat.le_of_ble_eq_true rfl⟩ (fun r2 τ1 H locs hp2 X => ?_)
        refine lv_icmp_eq (tgt := 465) hx hb dL_law_328 (by decide) (fun qe => ?_) (fun qe => ?_)
        · exact K465 σ1 τ1 _ H locs hp1.2 hp2.2 X.swap
        · exact absurd (hp1.1.trans hp2.1.symm) qe
      · refine lv_tableIn (tgt := 333) hx hb dL_law_32 (by decide) (by decide) rfl (by decide) ?_
        refine lv_aload_n hx hb dL_law_333 rfl (lv_at hl 1 rfl) ?_
        refine l_arg (k := 1) hx hb hX hbl hbA X hL hl (by omega) (by decide) dL_law_334 dL_law_335 dL_law_336 dL_law_337 dL_law_338 ?_
        refine l_arg (k := 2) hx hb hX hbl hbA X hL hl (by omega) (by decide) dL_law_339 dL_law_340 dL_law_341 dL_law_342 dL_law_343 ?_
        refine l_arg (k := 3) hx hb hX hbl hbA X hL hl (by omega) (by decide) dL_law_344 dL_law_345 dL_law_346 dL_law_347 dL_law_348 ?_
        refine l_calli (n := 3) (rest := []) (q0 := 7) GX X (cX_readB l D adx d z hR (xs (i + 1)) (xs (i + 2)) (xs (i + 3))) (lw_V q120 q121 q122 q10 q123) (by decide +kernel) ⟨rfl, rfl⟩ ⟨Nat.le_of_ble_eq_true rfl, Nat.le_of_ble_eq_true rfl⟩ rfl rfl rfl rfl hl.1 rfl (Nat.le_of_ble_eq_true rfl) dL_law_349 ⟨Nat.le_of_ble_eq_true rfl, Nat.le_of_ble_eq_true rfl⟩ (fun r1 σ1 H locs hp1 X => ?_)
        refine lv_aload_n hx hb dL_law_352 rfl (lv_at hl 2 rfl) ?_
        refine l_arg (k := 1) hx hb hX hbl hbA X hL hl (by omega) (by decide) dL_law_353 dL_law_354 dL_law_355 dL_law_356 dL_law_357 ?_
        refine l_arg (k := 2) hx hb hX hbl hbA X hL hl (by omega) (by decide) dL_law_358 dL_law_359 dL_law_360 dL_law_361 dL_law_362 ?_
        refine l_arg (k := 3) hx hb hX hbl hbA X hL hl (by omega) (by decide) dL_law_363 dL_law_364 dL_law_365 dL_law_366 dL_law_367 ?_
        refine l_calli (n := 3) (rest := [.int r1]) (q0 := 4) GM X.swap (cM_readB l D adm d2 hT (xs (i + 1)) (xs (i + 2)) (xs (i + 3))) (lw_V q204 q205 q206 q11 q207) (by decide +kernel) ⟨rfl, rfl⟩ ⟨Nat.le_of_ble_eq_true rfl, Nat.le_of_ble_eq_true rfl⟩ rfl rfl rfl rfl hl.1 rfl (Nat.le_of_ble_eq_true rfl) dL_law_368 ⟨Nat.le_of_ble_eq_true rfl, Nat.le_of_ble_eq_true rfl⟩ (fun r2 τ1 H locs hp2 X => ?_)
        refine lv_icmp_eq (tgt := 465) hx hb dL_law_371 (by decide) (fun qe => ?_) (fun qe => ?_)
        · exact K465 σ1 τ1 _ H locs hp1.2 hp2.2 X.swap
        · exact absurd (hp1.1.trans hp2.1.symm) qe
      · refine lv_tableIn (tgt := 376) hx hb dL_law_32 (by decide) (by decide) rfl (by decide) ?_
        refine lv_aload_n hx hb dL_law_376 rfl (lv_at hl 1 rfl) ?_
        refine l_arg (k := 1) hx hb hX hbl hbA X hL hl (by omega) (by decide) dL_law_377 dL_law_378 dL_law_379 dL_law_380 dL_law_381 ?_
        refine l_calli (n := 1) (rest := []) (q0 := 7) GX X (cX_backups l D adx d z hR (xs (i + 1))) (lw_V q124 q125 q126 q10 q127) (by decide +kernel) ⟨rfl, rfl⟩ ⟨Nat.le_of_ble_eq_true rfl, Nat.le_of_ble_eq_true rfl⟩ rfl rfl rfl rfl hl.1 rfl (Nat.le_of_ble_eq_true rfl) dL_law_382 ⟨Nat.le_of_ble_eq_true rfl, Nat.le_of_ble_eq_true rfl⟩ (fun r1 σ1 H locs hp1 X => ?_)
        refine lv_aload_n hx hb dL_law_385 rfl (lv_at hl 2 rfl) ?_
        refine l_arg (k := 1) hx hb hX hbl hbA X hL hl (by omega) (by decide) dL_law_386 dL_law_387 dL_law_388 dL_law_389 dL_law_390 ?_
        refine l_calli (n := 1) (rest := [.int r1]) (q0 := 4) GM X.swap (cM_backups l D adm d2 hT (xs (i + 1))) (lw_V q208 q209 q210 q11 q211) (by decide +kernel) ⟨rfl, rfl⟩ ⟨Nat.le_of_ble_eq_true rfl, Nat.le_of_ble_eq_true rfl⟩ rfl rfl rfl rfl hl.1 rfl (Nat.le_of_ble_eq_true rfl) dL_law_391 ⟨Nat.le_of_ble_eq_true rfl, Nat.le_of_ble_eq_true rfl⟩ (fun r2 τ1 H locs hp2 X => ?_)
        refine lv_icmp_eq (tgt := 465) hx hb dL_law_394 (by decide) (fun qe => ?_) (fun qe => ?_)
        · exact K465 σ1 τ1 _ H locs hp1.2 hp2.2 X.swap
        · exact absurd (hp1.1.trans hp2.1.symm) qe
      · refine lv_tableIn (tgt := 399) hx hb dL_law_32 (by decide) (by decide) rfl (by decide) ?_
        refine lv_aload_n hx hb dL_law_399 rfl (lv_at hl 1 rfl) ?_
        refine l_arg (k := 1) hx hb hX hbl hbA X hL hl (by omega) (by decide) dL_law_400 dL_law_401 dL_law_402 dL_law_403 dL_law_404 ?_
        refine l_calli (n := 1) (rest := []) (q0 := 7) GX X (cX_changed l D adx d z hR (xs (i + 1))) (lw_V q128 q129 q130 q10 q131) (by decide +kernel) ⟨rfl, rfl⟩ ⟨Nat.le_of_ble_eq_true rfl, Nat.le_of_ble_eq_true rfl⟩ rfl rfl rfl rfl hl.1 rfl (Nat.le_of_ble_eq_true rfl) dL_law_405 ⟨Nat.le_of_ble_eq_true rfl, Nat.le_of_ble_eq_true rfl⟩ (fun r1 σ1 H locs hp1 X => ?_)
        refine lv_aload_n hx hb dL_law_408 rfl (lv_at hl 2 rfl) ?_
        refine l_arg (k := 1) hx hb hX hbl hbA X hL hl (by omega) (by decide) dL_law_409 dL_law_410 dL_law_411 dL_law_412 dL_law_413 ?_
        refine l_calli (n := 1) (rest := [.int r1]) (q0 := 4) GM X.swap (cM_changed l D adm d2 hT (xs (i + 1))) (lw_V q212 q213 q214 q11 q215) (by decide +kernel) ⟨rfl, rfl⟩ ⟨Nat.le_of_ble_eq_true rfl, Nat.le_of_ble_eq_true rfl⟩ rfl rfl rfl rfl hl.1 rfl (Nat.le_of_ble_eq_true rfl) dL_law_414 ⟨Nat.le_of_ble_eq_true rfl, Nat.le_of_ble_eq_true rfl⟩ (fun r2 τ1 H locs hp2 X => ?_)
        refine lv_icmp_eq (tgt := 465) hx hb dL_law_417 (by decide) (fun qe => ?_) (fun qe => ?_)
        · exact K465 σ1 τ1 _ H locs hp1.2 hp2.2 X.swap
        · exact absurd (hp1.1.trans hp2.1.symm) qe
      · refine lv_tableIn (tgt := 422) hx hb dL_law_32 (by decide) (by decide) rfl (by decide) ?_
        refine lv_aload_n hx hb dL_law_422 rfl (lv_at hl 1 rfl) ?_
        refine l_arg (k := 1) hx hb hX hbl hbA X hL hl (by omega) (by decide) dL_law_423 dL_law_424 dL_law_425 dL_law_426 dL_law_427 ?_
        refine l_arg (k := 2) hx hb hX hbl hbA X hL hl (by omega) (by decide) dL_law_428 dL_law_429 dL_law_430 dL_law_431 dL_law_432 ?_
        refine l_arg (k := 3) hx hb hX hbl hbA X hL hl (by omega) (by decide) dL_law_433 dL_law_434 dL_law_435 dL_law_436 dL_law_437 ?_
        refine l_calli (n := 3) (rest := []) (q0 := 7) GX X (cX_differ l D adx d z hR (xs (i + 1)) (xs (i + 2)) (xs (i + 3))) (lw_V q132 q133 q134 q10 q135) (by decide +kernel) ⟨rfl, rfl⟩ ⟨Nat.le_of_ble_eq_true rfl, Nat.le_of_ble_eq_true rfl⟩ rfl rfl rfl rfl hl.1 rfl (Nat.le_of_ble_eq_true rfl) dL_law_438 ⟨Nat.le_of_ble_eq_true rfl, Nat.le_of_ble_eq_true rfl⟩ (fun r1 σ1 H locs hp1 X => ?_)
        refine lv_aload_n hx hb dL_law_441 rfl (lv_at hl 2 rfl) ?_
        refine l_arg (k := 1) hx hb hX hbl hbA X hL hl (by omega) (by decide) dL_law_442 dL_law_443 dL_law_444 dL_law_445 dL_law_446 ?_
        refine l_arg (k := 2) hx hb hX hbl hbA X hL hl (by omega) (by decide) dL_law_447 dL_law_448 dL_law_449 dL_law_450 dL_law_451 ?_
        refine l_arg (k := 3) hx hb hX hbl hbA X hL hl (by omega) (by decide) dL_law_452 dL_law_453 dL_law_454 dL_law_455 dL_law_456 ?_
        refine l_calli (n := 3) (rest := [.int r1]) (q0 := 4) GM X.swap (cM_differ l D adm d2 hT (xs (i + 1)) (xs (i + 2)) (xs (i + 3))) (lw_V q216 q217 q218 q11 q219) (by decide +kernel) ⟨rfl, rfl⟩ ⟨Nat.le_of_ble_eq_true rfl, Nat.le_of_ble_eq_true rfl⟩ rfl rfl rfl rfl hl.1 rfl (Nat.le_of_ble_eq_true rfl) dL_law_457 ⟨Nat.le_of_ble_eq_true rfl, Nat.le_of_ble_eq_true rfl⟩ (fun r2 τ1 H locs hp2 X => ?_)
        refine lv_icmp_eq (tgt := 465) hx hb dL_law_460 (by decide) (fun qe => ?_) (fun qe => ?_)
        · exact K465 σ1 τ1 _ H locs hp1.2 hp2.2 X.swap
        · exact absurd (hp1.1.trans hp2.1.symm) qe
      · refine lv_tableOut (tgt := 465) hx hb dL_law_32 (Or.inr (by rw [nI_toInt (by omega)]; omega)) (by decide) ?_
        exact K465 σ τ M H locs hR hT X
end
section
set_option maxHeartbeats 4000000 in
set_option maxRecDepth 100000 in
/-- THE LAW, from its entry -/
theorem whole_start {p : Program} {e : Env} {s : State} {m : MethodId} {below : List Frame} {meth : Method} {c : Code} (l : Launch) {b L : Nat} {xs : Nat → Int32} (hL : L ≤ 256) (C0 : lw_At p s m meth c b L xs) : W p l e room_1 s m #[Value.ref b] below meth c s.heap [] 0 0 (lw_Z below #[Value.ref b] s) (entryFrame m ([Value.ref b] : List Value).toArray 4) := by
  obtain ⟨hx, hb, hr, hml, hown, hts0, hX, hbl, hlocks, hgv⟩ := id C0
  have hts : ∀ w ∈ lw_all, w.before #[Value.ref b] s = true := fun w h => hts0 w (lw_all_tbl h)
  have hb : c.code = cL_law := hb
  have hA : ∀ q : Nat, s.heap.size ≤ q → (fun q : Nat => s.heap.size ≤ q) q := fun _ h => h
  obtain ⟨c0, iS0, hKn0⟩ := u_known (C := RX0) (T := TX0) (N := 11) (n := 11) hts in_X0 (hts _ q13)
  obtain ⟨c1, iS1, hKn1⟩ := u_known (C := RX1) (T := TX1) (N := 4) (n := 4) hts in_X1 (hts _ q137)
  obtain ⟨dC, dI, hKc⟩ : ∃ (dC : Nat → ClassId) (dI : Nat → Nat → Nat), ∀ (k : Nat) (q : vw_C), vwCl[k]? = some q → u_Kn s q.1 q.2.1 q.2.2 (dC k) (dI k) := by
    refine ⟨fun k => if k = 0 then c0 else c1, fun k => if k = 0 then iS0 else iS1, ?_⟩
    intro k q hq
    match k, hq with
    | 0, hq => cases hq; exact hKn0
    | 1, hq => cases hq; exact hKn1
    | k + 2, hq => simp [vwCl] at hq
  have hS : va_S (fun q : Nat => s.heap.size ≤ q) s.heap s.heap [] := va_S.rf
  have hK : va_K (dC, dI) vwCl [] s := ⟨hKc, fun k q h => by simp at h⟩
  have hP : va_P (dC, dI) vwCl [] s.heap := fun k q h => by simp at h
  have hD : va_D (fun q : Nat => s.heap.size ≤ q) [] := ⟨fun i j p q h => by simp at h, fun k q h => by simp at h⟩
  have hl := lv_entry ([.ref b]) (n := 4) (Nat.le_of_ble_eq_true rfl)
  rw [lg_entry_eq]
  generalize (lg_sl ([.ref b]) ++ List.replicate (4 - (lg_sl ([.ref b])).length) Slot.unset).toArray = ls at hl ⊢
  have hl : lv_has ls 4 [(0, .ref b)] := hl
  refine va_new (ci := 0) (fs := [.null, .null, .null, .null, .null, .null, .null, .int 0, .null, .null, .null]) (C := RX0) (T := TX0) (N := 11) hx hb hts in_X0 tyX0 tyX0_ok hown (hts _ q12) (hts _ q13) (hts _ q10) hK hP hD hS hA rfl (fun j hj => by rcases (show j = 0 ∨ j = 1 ∨ j = 2 ∨ j = 3 ∨ j = 4 ∨ j = 5 ∨ j = 6 ∨ j = 7 ∨ j = 8 ∨ j = 9 ∨ j = 10 by omega) with rfl | rfl | rfl | rfl | rfl | rfl | rfl | rfl | rfl | rfl | rfl <;> rfl) (Nat.le_of_ble_eq_true rfl) (Nat.le_of_ble_eq_true rfl) dL_law_0 (fun qx H hP hD hS => ?_)
  have hP : va_P (dC, dI) vwCl [(qx, .inr (0, [.null, .null, .null, .null, .null, .null, .null, .int 0, .null, .null, .null]))] H := hP
  have hD : va_D (fun q : Nat => s.heap.size ≤ q) [(qx, .inr (0, [.null, .null, .null, .null, .null, .null, .null, .int 0, .null, .null, .null]))] := hD
  refine W.widen (k := 1) (n := 11) (Nat.le_of_ble_eq_true rfl) (Nat.le_of_ble_eq_true rfl) ?_
  refine lv_dup hx hb dL_law_3 rfl ?_
  have hFc := va_free (wc := [(qx, .inr (0, [.null, .null, .null, .null, .null, .null, .null, .int 0, .null, .null, .null]))]) hD hS hA [0] rfl
  refine va_callv (va_runI (As := []) (rest := [.ref qx]) ⟨hx, hb, hml, hown, hts⟩ (cX_init l (dC, dI) qx H.size) (cwI 0 hts (lw_meth q16) rfl rfl rfl (hts _ q10) (hts _ q14) (hts _ q15) rfl (by decide +kernel) ⟨Nat.le_of_ble_eq_true rfl, Nat.le_of_ble_eq_true rfl⟩) ⟨fun a U g mk q => by obtain ⟨q0, q1, qP, qK, qD⟩ := q; exact ⟨q0, q1, qP, va_K.moved (u := U) (U := U.calling g mk a) (Vm.Alike.refl U.vm) qK, qD⟩, fun U hU hW => ⟨rfl, by rw [hU], by rw [hU]; exact hP, va_K.moved hW.alike hK, hD.weaken (fun _ _ _ _ => trivial)⟩⟩ rfl rfl hl.1 rfl (lv_room (Nat.le_of_ble_eq_true rfl)) dL_law_4 ⟨Nat.le_of_ble_eq_true rfl, Nat.le_of_ble_eq_true rfl⟩) hS (fun q _ h => hFc q h) hFc (fun u t H1 locs ht hvm hw1 hB hz1 hk1 hS => ?_)
  obtain ⟨adx, d, z, rfl, hP1, hK1, hD1⟩ := hB
  rw [ht] at hP1
  have hKx := va_K.moved hvm.symm hK1
  have hD := hD1.weaken (fun _ q _ h => hFc q.1 h)
  generalize H1 = H at hP1 hS ⊢
  have hP := hP1
  refine W.widen (k := 11) (n := 259) (Nat.le_of_ble_eq_true rfl) (Nat.le_of_ble_eq_true rfl) ?_
  refine lv_astore_n (lv' := [(1, .ref (adx 7)), (0, .ref b)]) hx hb dL_law_7 rfl hl (by decide) rfl (fun ls hl => ?_)
  refine va_new (ci := 1) (fs := [.null, .null, .null, .null]) (C := RX1) (T := TX1) (N := 4) hx hb hts in_X1 tyX1 tyX1_ok hown (hts _ q136) (hts _ q137) (hts _ q11) hK hP hD hS hA rfl (fun j hj => by rcases (show j = 0 ∨ j = 1 ∨ j = 2 ∨ j = 3 by omega) with rfl | rfl | rfl | rfl <;> rfl) (Nat.le_of_ble_eq_true rfl) (Nat.le_of_ble_eq_true rfl) dL_law_8 (fun qm H hP hD hS => ?_)
  refine W.widen (k := 12) (n := 263) (Nat.le_of_ble_eq_true rfl) (Nat.le_of_ble_eq_true rfl) ?_
  refine lv_dup hx hb dL_law_11 rfl ?_
  have hPc := hP.sub (ws' := [(qm, .inr (1, [.null, .null, .null, .null]))]) [11] rfl
  have hDc := hD.sub (ws' := [(qm, .inr (1, [.null, .null, .null, .null]))]) [11] (by decide) rfl
  have hFc := va_free (wc := [(qm, .inr (1, [.null, .null, .null, .null]))]) hD hS hA [11] rfl
  refine va_callv (va_runI (As := []) (rest := [.ref qm]) ⟨hx, hb, hml, hown, hts⟩ (cM_init l (dC, dI) qm H.size) (cwI 0 hts (lw_meth q140) rfl rfl rfl (hts _ q11) (hts _ q138) (hts _ q139) rfl (by decide +kernel) ⟨Nat.le_of_ble_eq_true rfl, Nat.le_of_ble_eq_true rfl⟩) ⟨fun a U g mk q => by obtain ⟨q0, q1, qP, qK, qD⟩ := q; exact ⟨q0, q1, qP, va_K.moved (u := U) (U := U.calling g mk a) (Vm.Alike.refl U.vm) qK, qD⟩, fun U hU hW => ⟨rfl, by rw [hU], by rw [hU]; exact hPc, va_K.moved hW.alike hK, hDc.weaken (fun _ _ _ _ => trivial)⟩⟩ rfl rfl hl.1 rfl (lv_room (Nat.le_of_ble_eq_true rfl)) dL_law_12 ⟨Nat.le_of_ble_eq_true rfl, Nat.le_of_ble_eq_true rfl⟩) hS (fun q _ h => hFc q h) hFc (fun u t H1 locs ht hvm hw2 hB hz1 hk1 hS => ?_)
  obtain ⟨adm, d2, rfl, hP1, hK1, hD1⟩ := hB
  rw [ht] at hP1
  have hKm := va_K.moved hvm.symm hK1
  obtain ⟨hP, hD⟩ := va_join (wr := xw adx d z (fun _ _ => 0)) (w1 := mw adm d2 (fun _ _ => 0)) hP hD [11] [0, 1, 2, 3, 4, 5, 6, 7, 8, 9, 10] rfl rfl (by decide) (by decide) hk1 hFc hP1 hD1
  have X := lH_of hP hD hS hA
  refine W.widen (k := 600000) (n := 7290000) (Nat.le_of_ble_eq_true rfl) (Nat.le_of_ble_eq_true rfl) ?_
  refine lv_astore_n (lv' := [(2, .ref (adm 4)), (1, .ref (adx 7)), (0, .ref b)]) hx hb dL_law_15 rfl hl (by decide) rfl (fun ls hl => ?_)
  refine lv_iconst (v := nI 0) hx hb dL_law_16 (by decide) ?_
  refine lv_istore_n (lv' := [(3, .int (nI 0)), (2, .ref (adm 4)), (1, .ref (adx 7)), (0, .ref b)]) hx hb dL_law_17 rfl hl (by decide) rfl (fun ls hl => ?_)
  exact law_loop hL C0 hKx hKm (L + 1) 0 _ _ M0 H1 locs ls (Nat.zero_le L) (by omega) RelX_0 RelM_0 X (lv_sub hl [3, 2, 1, 0] rfl)
end
section
set_option maxHeartbeats 4000000 in
theorem lw_walk (l : Launch) (b : Addr) (xs : List Int32) : MetFree l x (headSpec (Jvm.Cond.code x code maxLocals ret :: tables_1) room_1) (lw_P b xs) (fun _ _ _ _ _ => True) lw_Q := by
  refine MetFree.of_bodyS (code := code) (maxLocals := maxLocals) (ret := ret) (by decide) ?_ ?_
  · intro args s m h hn
    obtain ⟨meth, c, h1, h2, h3, h4, h5, h6, -, -⟩ := Cond.code_spec hn (atoms_spec (ws := Jvm.Cond.code x code maxLocals ret :: tables_1) h _ List.mem_cons_self)
    exact ⟨meth, c, h1, h2, h3, h4, h5, h6⟩
  · intro p e s m args below meth c s₁ B hml0 hP _
    obtain ⟨rfl, hx, hbd, hgv⟩ := hP
    obtain ⟨scr, harrAt, hlist, hof, hsmall⟩ := hx
    obtain ⟨hcb, hkn, -, -⟩ := State.arrayAt?_spec harrAt
    have hown : s.vm.findClass R_law = some m.cls := findClass_of_methodNamed B.named
    have hts0 : ∀ c ∈ (Jvm.Cond.code x code maxLocals ret :: tables_1), c.before #[Value.ref b] s = true := atoms_spec (ws := Jvm.Cond.code x code maxLocals ret :: tables_1) B.pre
    have hts : ∀ w ∈ lw_tbl, w.before #[Value.ref b] s = true := k2_hts_sels lw_privs (fun w hw => hts0 w (List.mem_cons_of_mem _ hw)) lw_privs_ok
    have hml : c.maxLocals = 4 := B.maxLocals_eq (hts0 _ List.mem_cons_self)
    have X₀ : Stand p l e room_1 s m #[Value.ref b] below meth c s₁ [] 0 0 := Stand.of_body B
    have hh0 : s₁.heap = s.heap := by rw [B.state]; rfl
    have hsz : scr.slots.size = xs.length := by rw [← Array.length_toList, hlist, List.length_map]
    have hval : ∀ j : Nat, j < xs.length → scr.slots[j]? = some (.int (xs.getD j 0)) := fun j hj => by
      rw [← Array.getElem?_toList, hlist]
      simp [hj]
    have hbl : b < s.heap.size := (Array.getElem?_eq_some_iff.mp hcb).1
    have hX : va_X b xs.length (fun j => xs.getD j 0) s s.heap := ⟨scr, hcb, hof, hkn, hsz, hval⟩
    have K : W p l e room_1 s m #[Value.ref b] below meth c s₁.heap [] 0 0 (lw_Z below #[Value.ref b] s) (entryFrame m ([Value.ref b] : List Value).toArray 4) := by
      rw [hh0]
      exact whole_start l hbd ⟨B.exec, B.bytes, B.returns, hml, hown, hts, hX, hbl, B.notSynchronized, hgv⟩
    obtain ⟨t, a1, o, b1, b2, b3⟩ := K s₁ rfl X₀
    exact ⟨t, o, a1, b1, b2, b3⟩
theorem lw_pre_spec {args : Array Value} {s : State} (h : (Jvm.Cond.and given_1 narrow_1).before args s = true) (hr : rest_1_c.before args s = true) : ∃ (b : Addr) (xs : List Int32), lw_P b xs args s := by
  have hs := flat_of_before _ h
  have hq := flat_of_before _ hr
  have hc : (Cond.count 1).before args s = true := hs _ (by decide +kernel)
  have harr : (Cond.arrayOf (.arg 0) .int).before args s = true := hs _ (by decide +kernel)
  have hle : (Cond.le (.length (.arg 0)) (.int 256)).before args s = true := hs _ (by decide +kernel)
  have hlen : (Cond.isInt (.length (.arg 0))).before args s = true := hq _ (by decide +kernel)
  have hall : (Cond.all (.arg 0) (.isInt (.elem (.arg 0) (.index 0)))).before args s = true := hq _ (by decide +kernel)
  obtain ⟨b, xs, hb, hx⟩ := State.ints_of_pre rfl harr hlen hall
  have hsm : xs.length < 2 ^ 31 := hx.choose_spec.2.2.2
  have hev : (Term.length (.arg 0)).eval args s none [] s = some (.int xs.length.toInt32) := hx.length_eval hb
  have hv := Cond.le_ints hev (show (Term.int 256).eval args s none [] s = some (.int 256) from rfl)
  have hd : xs.length.toInt32 ≤ 256 := by
    simpa [Cond.before, Cond.holds, hv] using hle
  have hN : xs.length ≤ 256 := (Int32.ofNat_le_ofNat hsm (by decide)).mp (show Int32.ofNat xs.length ≤ Int32.ofNat 256 from hd)
  exact ⟨b, xs, Cond.one_arg hc (show args[0]? = some (.ref b) from hb), hx, hN, h⟩
theorem lw_comes (l : Launch) : Comes l x (Jvm.Cond.code x code maxLocals ret :: tables_1) room_1 (fun tb e args s => Calls_1 tb e args s ∧ rest_1 tb e args s ∧ Pre_1 tb e args s)
    (fun _ _ args s o t => lw_Q args s o t) := by
  intro p e ha hc hk s m args below hf hfit hheap happ hpre
  obtain ⟨b, xs, hP⟩ := lw_pre_spec hpre.2.2 hpre.2.1
  obtain ⟨k, o, h1, h2, h3, hQ⟩ := lw_walk l b xs p e ha hc hk s m args below hf ((Spec.applies_iff_loose hf).mp happ).1 hP trivial
  exact ⟨k, o, h1, h2, h3, hQ⟩
theorem lw_frame {s t : State} {o : Outcome} {args : Array Value} (h : Framed s o t [] 600000 7290000) :
    Framed s o t (fieldLocs frame_1_writes args s ++ arrayLocs frame_1_arrays args s ++ staticLocs frame_1_statics s) 600000 7290000 := h
theorem lw_limb (L : Cond) (hL : ∀ (args : Array Value) (s t : State), L.after args s (.returned (some (.int 1))) t = true) :
    ArmFor flags0 classFile x code maxLocals ret World_1 tables_1 room_1 Calls_1 rest_1 Pre_1
      (fun tb e a s o t => postC L tb e a s o t ∧ Framed s o t (fieldLocs frame_1_writes a s ++ arrayLocs frame_1_arrays a s ++ staticLocs frame_1_statics s) 600000 7290000) := by
  intro l _ _ _ p e ha hc hk s m args below hf hfit hheap happ hpre
  obtain ⟨k, o, h1, h2, h3, rfl, hF⟩ := lw_comes l p e ha hc hk s m args below hf hfit hheap happ hpre
  exact ⟨k, _, h1, h2, h3, hL args s _, lw_frame hF⟩
theorem i_vc : Claimed_1_1 ∧ Claimed_1_2 := ⟨lw_limb limb_1_1 (fun args s t => by simp [limb_1_1, Cond.after, Cond.holds, Cond.value]), lw_limb limb_1_2 (fun args s t => Cond.after_iff.mpr (by
  first | (rw [show limb_1_2 = Cond.eq .result (.int 1) from rfl, Cond.eq_ints (x := 1) (y := 1) rfl rfl]; simp; done) | (simp [limb_1_2, Cond.value, Term.eval]; done)))⟩
end
