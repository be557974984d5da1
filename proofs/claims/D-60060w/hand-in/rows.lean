section
-- ===== PART A: goes FIRST, ahead of the names: the tables' words, and 'selects' of the private methods out of them =====
/-- a private method of a class that the tables say can be made, by its rows of tables_1 -/
def lw_okq (q : MethodName × Nat) : Prop := (q.1.cls ≠ "java/lang/invoke/MethodHandle" ∧ q.1.cls ≠ "java/lang/invoke/VarHandle") ∧ Cond.instantiable q.1.cls q.2 ∈ tables_1 ∧ Cond.privateMethod q.1 ∈ tables_1 ∧ Cond.instanceMethod q.1 ∈ tables_1
set_option maxRecDepth 100000
theorem lw_p0 : lw_okq (⟨"TileDesk", "all", "()I"⟩, 6) := ⟨⟨by decide +kernel, by decide +kernel⟩, List.mem_of_getElem? (i := 4) rfl, List.mem_of_getElem? (i := 44) rfl, List.mem_of_getElem? (i := 45) rfl⟩
theorem lw_p1 : lw_okq (⟨"TileDesk", "work", "(I)V"⟩, 6) := ⟨⟨by decide +kernel, by decide +kernel⟩, List.mem_of_getElem? (i := 4) rfl, List.mem_of_getElem? (i := 56) rfl, List.mem_of_getElem? (i := 57) rfl⟩
theorem lw_p2 : lw_okq (⟨"TileDeskModel", "reckon", "()V"⟩, 7) := ⟨⟨by decide +kernel, by decide +kernel⟩, List.mem_of_getElem? (i := 72) rfl, List.mem_of_getElem? (i := 118) rfl, List.mem_of_getElem? (i := 119) rfl⟩
def lw_privs_1 : List (MethodName × Nat) := [(⟨"TileDesk", "all", "()I"⟩, 6), (⟨"TileDesk", "work", "(I)V"⟩, 6), (⟨"TileDeskModel", "reckon", "()V"⟩, 7)]
theorem lw_r1 : ∀ q ∈ lw_privs_1, lw_okq q := List.forall_mem_cons.mpr ⟨lw_p0, List.forall_mem_cons.mpr ⟨lw_p1, List.forall_mem_cons.mpr ⟨lw_p2, fun _ h => absurd h List.not_mem_nil⟩⟩⟩
def lw_privs : List (MethodName × Nat) := lw_privs_1
def lw_tbl : List Cond := k2_sels lw_privs ++ tables_1
theorem lw_privs_ok : ∀ q ∈ lw_privs, lw_okq q := lw_r1
-- ===== ONE list of words for every method: the tables' words that hold all through a run =====
def lw_all : List Cond := lw_tbl.filter goodWord
/-- a word of the tables by its place: claim/WORDS.tsv -/
theorem lw_w {w : Cond} (i : Nat) (h : lw_tbl[i]? = some w) (g : goodWord w = true) : w ∈ lw_all := List.mem_filter.mpr ⟨List.mem_of_getElem? h, g⟩
theorem lw_all_tbl {w : Cond} (h : w ∈ lw_all) : w ∈ lw_tbl := (List.mem_filter.mp h).1
theorem lw_self : GoodIn lw_all lw_all := fun w h => ⟨h, good_of_word (List.mem_filter.mp h).2⟩
/-- a class's field words, by their places -/
theorem lw_in (ws : List Cond) (ps : List Nat) (hp : ws = ps.filterMap (fun i => lw_tbl[i]?)) (hg : ws.all goodWord = true) : ∀ w ∈ ws, w ∈ lw_all := by
  intro w h
  have h1 := List.all_eq_true.mp hg w h
  rw [hp] at h
  obtain ⟨i, -, hi⟩ := List.mem_filterMap.mp h
  exact lw_w i hi h1
/-- the words of a contract for the method y with code b, L locals, answer r -/
abbrev ws_ (y : MethodName) (b : ByteArray) (L : Nat) (r : Option FieldType) : List Cond := Cond.code y b L r :: lw_all
theorem lw_meth {y : MethodName} {b : ByteArray} {L : Nat} {r : Option FieldType} (h : Cond.code y b L r ∈ lw_all) : GoodIn lw_all (ws_ y b L r) := by
  intro w hw
  rcases List.mem_cons.mp hw with e | e
  · rw [e]
    exact lw_self _ h
  · exact lw_self _ e
theorem lw_app {a c : List Cond} (ha : ∀ w ∈ a, w ∈ lw_all) (hc : GoodIn lw_all c) : GoodIn lw_all (a ++ c) := by
  intro w hw
  rcases List.mem_append.mp hw with e | e
  · exact lw_self w (ha w e)
  · exact hc w e
/-- what a call through an object asks: cwV n hts (lw_V ..) -/
theorem lw_V {own : String} {idx : Nat} {C : String} {y : MethodName} {b : ByteArray} {L : Nat} {r : Option FieldType} (h1 : Cond.methodLink own idx y ∈ lw_all) (h2 : Cond.instanceMethod y ∈ lw_all) (h3 : Cond.selects C y y ∈ lw_all) (h4 : Cond.initialized C ∈ lw_all) (h5 : Cond.code y b L r ∈ lw_all) : GoodIn lw_all (wsV own idx C y (ws_ y b L r)) := by
  refine lw_app ?_ (lw_meth h5)
  intro w hw
  simp only [List.mem_cons, List.not_mem_nil, or_false] at hw
  rcases hw with e | e | e | e
  · rw [e]; exact h1
  · rw [e]; exact h2
  · rw [e]; exact h3
  · rw [e]; exact h4
/-- what a static call asks: va_cwS n hts (lw_S ..) -/
theorem lw_S {own : String} {idx : Nat} {y : MethodName} {b : ByteArray} {L : Nat} {r : Option FieldType} (h1 : Cond.methodLink own idx y ∈ lw_all) (h2 : Cond.static y ∈ lw_all) (h3 : Cond.initialized y.cls ∈ lw_all) (h4 : Cond.code y b L r ∈ lw_all) : GoodIn lw_all (va_wsS own idx y (ws_ y b L r)) := by
  refine lw_app ?_ (lw_meth h4)
  intro w hw
  simp only [List.mem_cons, List.not_mem_nil, or_false] at hw
  rcases hw with e | e | e
  · rw [e]; exact h1
  · rw [e]; exact h2
  · rw [e]; exact h3
/-- the words of a contract for a method WITH HANDLERS (hh: its table) -/
abbrev wsW_ (y : MethodName) (b : ByteArray) (L : Nat) (r : Option FieldType) (hh : List (Nat × Nat × Nat × Nat)) : List Cond := Cond.codeWith y b L r hh :: lw_all
theorem lw_methW {y : MethodName} {b : ByteArray} {L : Nat} {r : Option FieldType} {hh : List (Nat × Nat × Nat × Nat)} (h : Cond.codeWith y b L r hh ∈ lw_all) : GoodIn lw_all (wsW_ y b L r hh) := by
  intro w hw
  rcases List.mem_cons.mp hw with e | e
  · rw [e]
    exact lw_self _ h
  · exact lw_self _ e
/-- any list of words by their places (lw_in), good -/
theorem lw_good {ws : List Cond} (h : ∀ w ∈ ws, w ∈ lw_all) : GoodIn lw_all ws := fun w hw => lw_self w (h w hw)
/-- what a call of a method with handlers asks: vx_cwVW n hts (lw_VW ..), vx_cwSW n hts (lw_SW ..) -/
theorem lw_VW {own : String} {idx : Nat} {C : String} {y : MethodName} {b : ByteArray} {L : Nat} {r : Option FieldType} {hh : List (Nat × Nat × Nat × Nat)} (h1 : Cond.methodLink own idx y ∈ lw_all) (h2 : Cond.instanceMethod y ∈ lw_all) (h3 : Cond.selects C y y ∈ lw_all) (h4 : Cond.initialized C ∈ lw_all) (h5 : Cond.codeWith y b L r hh ∈ lw_all) : GoodIn lw_all (wsV own idx C y (wsW_ y b L r hh)) := by
  refine lw_app ?_ (lw_methW h5)
  intro w hw
  simp only [List.mem_cons, List.not_mem_nil, or_false] at hw
  rcases hw with e | e | e | e
  · rw [e]; exact h1
  · rw [e]; exact h2
  · rw [e]; exact h3
  · rw [e]; exact h4
theorem lw_SW {own : String} {idx : Nat} {y : MethodName} {b : ByteArray} {L : Nat} {r : Option FieldType} {hh : List (Nat × Nat × Nat × Nat)} (h1 : Cond.methodLink own idx y ∈ lw_all) (h2 : Cond.static y ∈ lw_all) (h3 : Cond.initialized y.cls ∈ lw_all) (h4 : Cond.codeWith y b L r hh ∈ lw_all) : GoodIn lw_all (va_wsS own idx y (wsW_ y b L r hh)) := by
  refine lw_app ?_ (lw_methW h4)
  intro w hw
  simp only [List.mem_cons, List.not_mem_nil, or_false] at hw
  rcases hw with e | e | e
  · rw [e]; exact h1
  · rw [e]; exact h2
  · rw [e]; exact h3
/-- a word by its place in its run of the tables -/
theorem lw_at {r : List Cond} (hr : ∀ w ∈ r, w ∈ lw_tbl) {w : Cond} (i : Nat) (h : r[i]? = some w) : w ∈ lw_tbl := hr w (List.mem_of_getElem? h)
theorem lw_g {w : Cond} (h : w ∈ lw_tbl) (g : goodWord w = true) : w ∈ lw_all := List.mem_filter.mpr ⟨h, g⟩
theorem lw_ms : ∀ w ∈ k2_sels lw_privs, w ∈ lw_tbl := fun w h => show w ∈ k2_sels lw_privs ++ tables_1 from List.mem_append_left _ h
theorem lw_m0 : ∀ w ∈ tables_1, w ∈ lw_tbl := fun w h => show w ∈ k2_sels lw_privs ++ tables_1 from List.mem_append_right (k2_sels lw_privs) h
theorem qs0 : (Cond.selects "TileDesk" ⟨"TileDesk", "all", "()I"⟩ ⟨"TileDesk", "all", "()I"⟩) ∈ lw_all := lw_g (lw_at lw_ms 0 rfl) rfl
theorem qs1 : (Cond.selects "TileDesk" ⟨"TileDesk", "work", "(I)V"⟩ ⟨"TileDesk", "work", "(I)V"⟩) ∈ lw_all := lw_g (lw_at lw_ms 1 rfl) rfl
theorem qs2 : (Cond.selects "TileDeskModel" ⟨"TileDeskModel", "reckon", "()V"⟩ ⟨"TileDeskModel", "reckon", "()V"⟩) ∈ lw_all := lw_g (lw_at lw_ms 2 rfl) rfl
end
section
/-! TileDesk -/
set_option maxRecDepth 100000
def RX0 : String := "TileDesk"
def TX0 : u_T := fun k => match k with
  | 0 => ("TileDesk", "row", "[I", true)
  | 1 => ("TileDesk", "best", "[I", true)
  | 2 => ("TileDesk", "ways", "[J", true)
  | 3 => ("TileDesk", "can", "[Z", true)
  | 4 => ("TileDesk", "columns", "I", false)
  | _ => ("TileDesk", "rows", "I", false)
def tyX0 : Nat → FieldType := fun k => match k with
  | 0 => .array .int
  | 1 => .array .int
  | 2 => .array .long
  | 3 => .array .boolean
  | 4 => .int
  | _ => .int
abbrev wsX00 : List Cond := u_ws RX0 TX0 6
theorem nmX0 : ∀ a, a < 6 → ∀ b, b < 6 → a ≠ b → (TX0 a).2.1 ≠ (TX0 b).2.1 := by decide +kernel
theorem tyX0_ok : ∀ k, k < 6 → parseFieldDescriptor (TX0 k).2.2.1 = some (tyX0 k) := by decide +kernel
abbrev cX0_init : ByteArray := prog_1_method_1_code
def yX0_init : MethodName := ⟨RX0, "<init>", "()V"⟩
theorem dX0_init_0 : decode cX0_init 0 = .ok (.aload_n 0, 1) := by decide +kernel
theorem dX0_init_1 : decode cX0_init 1 = .ok (.invokespecial 1, 3) := by decide +kernel
theorem dX0_init_4 : decode cX0_init 4 = .ok (.aload_n 0, 1) := by decide +kernel
theorem dX0_init_5 : decode cX0_init 5 = .ok (.bipush 24, 2) := by decide +kernel
theorem dX0_init_7 : decode cX0_init 7 = .ok (.newarray .int, 2) := by decide +kernel
theorem dX0_init_9 : decode cX0_init 9 = .ok (.putfield 9, 3) := by decide +kernel
theorem dX0_init_12 : decode cX0_init 12 = .ok (.aload_n 0, 1) := by decide +kernel
theorem dX0_init_13 : decode cX0_init 13 = .ok (.sipush 4096, 3) := by decide +kernel
theorem dX0_init_16 : decode cX0_init 16 = .ok (.newarray .int, 2) := by decide +kernel
theorem dX0_init_18 : decode cX0_init 18 = .ok (.putfield 13, 3) := by decide +kernel
theorem dX0_init_21 : decode cX0_init 21 = .ok (.aload_n 0, 1) := by decide +kernel
theorem dX0_init_22 : decode cX0_init 22 = .ok (.sipush 4096, 3) := by decide +kernel
theorem dX0_init_25 : decode cX0_init 25 = .ok (.newarray .long, 2) := by decide +kernel
theorem dX0_init_27 : decode cX0_init 27 = .ok (.putfield 16, 3) := by decide +kernel
theorem dX0_init_30 : decode cX0_init 30 = .ok (.aload_n 0, 1) := by decide +kernel
theorem dX0_init_31 : decode cX0_init 31 = .ok (.ldc 20, 2) := by decide +kernel
theorem dX0_init_33 : decode cX0_init 33 = .ok (.newarray .boolean, 2) := by decide +kernel
theorem dX0_init_35 : decode cX0_init 35 = .ok (.putfield 21, 3) := by decide +kernel
theorem dX0_init_38 : decode cX0_init 38 = .ok (.aload_n 0, 1) := by decide +kernel
theorem dX0_init_39 : decode cX0_init 39 = .ok (.bipush 6, 2) := by decide +kernel
theorem dX0_init_41 : decode cX0_init 41 = .ok (.putfield 25, 3) := by decide +kernel
theorem dX0_init_44 : decode cX0_init 44 = .ok (.return_, 1) := by decide +kernel
abbrev cX0_columns : ByteArray := prog_1_method_2_code
def yX0_columns : MethodName := ⟨RX0, "columns", "(I)V"⟩
theorem dX0_columns_0 : decode cX0_columns 0 = .ok (.aload_n 0, 1) := by decide +kernel
theorem dX0_columns_1 : decode cX0_columns 1 = .ok (.iconst 1, 1) := by decide +kernel
theorem dX0_columns_2 : decode cX0_columns 2 = .ok (.iload_n 1, 1) := by decide +kernel
theorem dX0_columns_3 : decode cX0_columns 3 = .ok (.ldc 29, 2) := by decide +kernel
theorem dX0_columns_5 : decode cX0_columns 5 = .ok (.iand, 1) := by decide +kernel
theorem dX0_columns_6 : decode cX0_columns 6 = .ok (.bipush 12, 2) := by decide +kernel
theorem dX0_columns_8 : decode cX0_columns 8 = .ok (.irem, 1) := by decide +kernel
theorem dX0_columns_9 : decode cX0_columns 9 = .ok (.iadd, 1) := by decide +kernel
theorem dX0_columns_10 : decode cX0_columns 10 = .ok (.putfield 25, 3) := by decide +kernel
theorem dX0_columns_13 : decode cX0_columns 13 = .ok (.aload_n 0, 1) := by decide +kernel
theorem dX0_columns_14 : decode cX0_columns 14 = .ok (.iconst 0, 1) := by decide +kernel
theorem dX0_columns_15 : decode cX0_columns 15 = .ok (.putfield 30, 3) := by decide +kernel
theorem dX0_columns_18 : decode cX0_columns 18 = .ok (.return_, 1) := by decide +kernel
abbrev cX0_row : ByteArray := prog_1_method_4_code
def yX0_row : MethodName := ⟨RX0, "row", "(I)Z"⟩
theorem dX0_row_0 : decode cX0_row 0 = .ok (.aload_n 0, 1) := by decide +kernel
theorem dX0_row_1 : decode cX0_row 1 = .ok (.getfield 30, 3) := by decide +kernel
theorem dX0_row_4 : decode cX0_row 4 = .ok (.bipush 24, 2) := by decide +kernel
theorem dX0_row_6 : decode cX0_row 6 = .ok (.if_icmp .ne 5, 3) := by decide +kernel
theorem dX0_row_9 : decode cX0_row 9 = .ok (.iconst 0, 1) := by decide +kernel
theorem dX0_row_10 : decode cX0_row 10 = .ok (.ireturn, 1) := by decide +kernel
theorem dX0_row_11 : decode cX0_row 11 = .ok (.aload_n 0, 1) := by decide +kernel
theorem dX0_row_12 : decode cX0_row 12 = .ok (.getfield 9, 3) := by decide +kernel
theorem dX0_row_15 : decode cX0_row 15 = .ok (.aload_n 0, 1) := by decide +kernel
theorem dX0_row_16 : decode cX0_row 16 = .ok (.getfield 30, 3) := by decide +kernel
theorem dX0_row_19 : decode cX0_row 19 = .ok (.iload_n 1, 1) := by decide +kernel
theorem dX0_row_20 : decode cX0_row 20 = .ok (.aload_n 0, 1) := by decide +kernel
theorem dX0_row_21 : decode cX0_row 21 = .ok (.invokevirtual 33, 3) := by decide +kernel
theorem dX0_row_24 : decode cX0_row 24 = .ok (.iand, 1) := by decide +kernel
theorem dX0_row_25 : decode cX0_row 25 = .ok (.iastore, 1) := by decide +kernel
theorem dX0_row_26 : decode cX0_row 26 = .ok (.aload_n 0, 1) := by decide +kernel
theorem dX0_row_27 : decode cX0_row 27 = .ok (.dup, 1) := by decide +kernel
theorem dX0_row_28 : decode cX0_row 28 = .ok (.getfield 30, 3) := by decide +kernel
theorem dX0_row_31 : decode cX0_row 31 = .ok (.iconst 1, 1) := by decide +kernel
theorem dX0_row_32 : decode cX0_row 32 = .ok (.iadd, 1) := by decide +kernel
theorem dX0_row_33 : decode cX0_row 33 = .ok (.putfield 30, 3) := by decide +kernel
theorem dX0_row_36 : decode cX0_row 36 = .ok (.iconst 1, 1) := by decide +kernel
theorem dX0_row_37 : decode cX0_row 37 = .ok (.ireturn, 1) := by decide +kernel
abbrev cX0_all : ByteArray := prog_1_method_3_code
def yX0_all : MethodName := ⟨RX0, "all", "()I"⟩
theorem dX0_all_0 : decode cX0_all 0 = .ok (.iconst 1, 1) := by decide +kernel
theorem dX0_all_1 : decode cX0_all 1 = .ok (.aload_n 0, 1) := by decide +kernel
theorem dX0_all_2 : decode cX0_all 2 = .ok (.getfield 25, 3) := by decide +kernel
theorem dX0_all_5 : decode cX0_all 5 = .ok (.ishl, 1) := by decide +kernel
theorem dX0_all_6 : decode cX0_all 6 = .ok (.iconst 1, 1) := by decide +kernel
theorem dX0_all_7 : decode cX0_all 7 = .ok (.isub, 1) := by decide +kernel
theorem dX0_all_8 : decode cX0_all 8 = .ok (.ireturn, 1) := by decide +kernel
abbrev cX0_drop : ByteArray := prog_1_method_5_code
def yX0_drop : MethodName := ⟨RX0, "drop", "()Z"⟩
theorem dX0_drop_0 : decode cX0_drop 0 = .ok (.aload_n 0, 1) := by decide +kernel
theorem dX0_drop_1 : decode cX0_drop 1 = .ok (.getfield 30, 3) := by decide +kernel
theorem dX0_drop_4 : decode cX0_drop 4 = .ok (.ifCond .ne 5, 3) := by decide +kernel
theorem dX0_drop_7 : decode cX0_drop 7 = .ok (.iconst 0, 1) := by decide +kernel
theorem dX0_drop_8 : decode cX0_drop 8 = .ok (.ireturn, 1) := by decide +kernel
theorem dX0_drop_9 : decode cX0_drop 9 = .ok (.aload_n 0, 1) := by decide +kernel
theorem dX0_drop_10 : decode cX0_drop 10 = .ok (.dup, 1) := by decide +kernel
theorem dX0_drop_11 : decode cX0_drop 11 = .ok (.getfield 30, 3) := by decide +kernel
theorem dX0_drop_14 : decode cX0_drop 14 = .ok (.iconst 1, 1) := by decide +kernel
theorem dX0_drop_15 : decode cX0_drop 15 = .ok (.isub, 1) := by decide +kernel
theorem dX0_drop_16 : decode cX0_drop 16 = .ok (.putfield 30, 3) := by decide +kernel
theorem dX0_drop_19 : decode cX0_drop 19 = .ok (.iconst 1, 1) := by decide +kernel
theorem dX0_drop_20 : decode cX0_drop 20 = .ok (.ireturn, 1) := by decide +kernel
abbrev cX0_count : ByteArray := prog_1_method_7_code
def yX0_count : MethodName := ⟨RX0, "count", "()J"⟩
theorem dX0_count_0 : decode cX0_count 0 = .ok (.aload_n 0, 1) := by decide +kernel
theorem dX0_count_1 : decode cX0_count 1 = .ok (.iconst (-1), 1) := by decide +kernel
theorem dX0_count_2 : decode cX0_count 2 = .ok (.invokevirtual 37, 3) := by decide +kernel
theorem dX0_count_5 : decode cX0_count 5 = .ok (.aload_n 0, 1) := by decide +kernel
theorem dX0_count_6 : decode cX0_count 6 = .ok (.getfield 16, 3) := by decide +kernel
theorem dX0_count_9 : decode cX0_count 9 = .ok (.aload_n 0, 1) := by decide +kernel
theorem dX0_count_10 : decode cX0_count 10 = .ok (.invokevirtual 33, 3) := by decide +kernel
theorem dX0_count_13 : decode cX0_count 13 = .ok (.laload, 1) := by decide +kernel
theorem dX0_count_14 : decode cX0_count 14 = .ok (.lreturn, 1) := by decide +kernel
abbrev cX0_work : ByteArray := prog_1_method_6_code
def yX0_work : MethodName := ⟨RX0, "work", "(I)V"⟩
theorem dX0_work_0 : decode cX0_work 0 = .ok (.aload_n 0, 1) := by decide +kernel
theorem dX0_work_1 : decode cX0_work 1 = .ok (.invokevirtual 33, 3) := by decide +kernel
theorem dX0_work_4 : decode cX0_work 4 = .ok (.istore_n 2, 1) := by decide +kernel
theorem dX0_work_5 : decode cX0_work 5 = .ok (.iconst 0, 1) := by decide +kernel
theorem dX0_work_6 : decode cX0_work 6 = .ok (.istore_n 3, 1) := by decide +kernel
theorem dX0_work_7 : decode cX0_work 7 = .ok (.iload_n 3, 1) := by decide +kernel
theorem dX0_work_8 : decode cX0_work 8 = .ok (.iload_n 2, 1) := by decide +kernel
theorem dX0_work_9 : decode cX0_work 9 = .ok (.if_icmp .gt 16, 3) := by decide +kernel
theorem dX0_work_12 : decode cX0_work 12 = .ok (.aload_n 0, 1) := by decide +kernel
theorem dX0_work_13 : decode cX0_work 13 = .ok (.getfield 16, 3) := by decide +kernel
theorem dX0_work_16 : decode cX0_work 16 = .ok (.iload_n 3, 1) := by decide +kernel
theorem dX0_work_17 : decode cX0_work 17 = .ok (.lconst 0, 1) := by decide +kernel
theorem dX0_work_18 : decode cX0_work 18 = .ok (.lastore, 1) := by decide +kernel
theorem dX0_work_19 : decode cX0_work 19 = .ok (.iinc 3 1, 3) := by decide +kernel
theorem dX0_work_22 : decode cX0_work 22 = .ok (.goto (-15), 3) := by decide +kernel
theorem dX0_work_25 : decode cX0_work 25 = .ok (.aload_n 0, 1) := by decide +kernel
theorem dX0_work_26 : decode cX0_work 26 = .ok (.getfield 16, 3) := by decide +kernel
theorem dX0_work_29 : decode cX0_work 29 = .ok (.iconst 0, 1) := by decide +kernel
theorem dX0_work_30 : decode cX0_work 30 = .ok (.lconst 1, 1) := by decide +kernel
theorem dX0_work_31 : decode cX0_work 31 = .ok (.lastore, 1) := by decide +kernel
theorem dX0_work_32 : decode cX0_work 32 = .ok (.iconst 0, 1) := by decide +kernel
theorem dX0_work_33 : decode cX0_work 33 = .ok (.istore_n 3, 1) := by decide +kernel
theorem dX0_work_34 : decode cX0_work 34 = .ok (.iload_n 3, 1) := by decide +kernel
theorem dX0_work_35 : decode cX0_work 35 = .ok (.aload_n 0, 1) := by decide +kernel
theorem dX0_work_36 : decode cX0_work 36 = .ok (.getfield 30, 3) := by decide +kernel
theorem dX0_work_39 : decode cX0_work 39 = .ok (.if_icmp .ge 69, 3) := by decide +kernel
theorem dX0_work_42 : decode cX0_work 42 = .ok (.iload_n 3, 1) := by decide +kernel
theorem dX0_work_43 : decode cX0_work 43 = .ok (.iload_n 1, 1) := by decide +kernel
theorem dX0_work_44 : decode cX0_work 44 = .ok (.if_icmp .ne 6, 3) := by decide +kernel
theorem dX0_work_47 : decode cX0_work 47 = .ok (.goto 55, 3) := by decide +kernel
theorem dX0_work_50 : decode cX0_work 50 = .ok (.aload_n 0, 1) := by decide +kernel
theorem dX0_work_51 : decode cX0_work 51 = .ok (.getfield 9, 3) := by decide +kernel
theorem dX0_work_54 : decode cX0_work 54 = .ok (.iload_n 3, 1) := by decide +kernel
theorem dX0_work_55 : decode cX0_work 55 = .ok (.iaload, 1) := by decide +kernel
theorem dX0_work_56 : decode cX0_work 56 = .ok (.istore 4, 2) := by decide +kernel
theorem dX0_work_58 : decode cX0_work 58 = .ok (.iload_n 2, 1) := by decide +kernel
theorem dX0_work_59 : decode cX0_work 59 = .ok (.istore 5, 2) := by decide +kernel
theorem dX0_work_61 : decode cX0_work 61 = .ok (.iload 5, 2) := by decide +kernel
theorem dX0_work_63 : decode cX0_work 63 = .ok (.ifCond .lt 39, 3) := by decide +kernel
theorem dX0_work_66 : decode cX0_work 66 = .ok (.iload 5, 2) := by decide +kernel
theorem dX0_work_68 : decode cX0_work 68 = .ok (.iload 4, 2) := by decide +kernel
theorem dX0_work_70 : decode cX0_work 70 = .ok (.iand, 1) := by decide +kernel
theorem dX0_work_71 : decode cX0_work 71 = .ok (.iload 4, 2) := by decide +kernel
theorem dX0_work_73 : decode cX0_work 73 = .ok (.if_icmp .ne 23, 3) := by decide +kernel
theorem dX0_work_76 : decode cX0_work 76 = .ok (.aload_n 0, 1) := by decide +kernel
theorem dX0_work_77 : decode cX0_work 77 = .ok (.getfield 16, 3) := by decide +kernel
theorem dX0_work_80 : decode cX0_work 80 = .ok (.iload 5, 2) := by decide +kernel
theorem dX0_work_82 : decode cX0_work 82 = .ok (.dup2, 1) := by decide +kernel
theorem dX0_work_83 : decode cX0_work 83 = .ok (.laload, 1) := by decide +kernel
theorem dX0_work_84 : decode cX0_work 84 = .ok (.aload_n 0, 1) := by decide +kernel
theorem dX0_work_85 : decode cX0_work 85 = .ok (.getfield 16, 3) := by decide +kernel
theorem dX0_work_88 : decode cX0_work 88 = .ok (.iload 5, 2) := by decide +kernel
theorem dX0_work_90 : decode cX0_work 90 = .ok (.iload 4, 2) := by decide +kernel
theorem dX0_work_92 : decode cX0_work 92 = .ok (.ixor, 1) := by decide +kernel
theorem dX0_work_93 : decode cX0_work 93 = .ok (.laload, 1) := by decide +kernel
theorem dX0_work_94 : decode cX0_work 94 = .ok (.ladd, 1) := by decide +kernel
theorem dX0_work_95 : decode cX0_work 95 = .ok (.lastore, 1) := by decide +kernel
theorem dX0_work_96 : decode cX0_work 96 = .ok (.iinc 5 (-1), 3) := by decide +kernel
theorem dX0_work_99 : decode cX0_work 99 = .ok (.goto (-38), 3) := by decide +kernel
theorem dX0_work_102 : decode cX0_work 102 = .ok (.iinc 3 1, 3) := by decide +kernel
theorem dX0_work_105 : decode cX0_work 105 = .ok (.goto (-71), 3) := by decide +kernel
theorem dX0_work_108 : decode cX0_work 108 = .ok (.return_, 1) := by decide +kernel
abbrev cX0_first : ByteArray := prog_1_method_8_code
def yX0_first : MethodName := ⟨RX0, "first", "()I"⟩
theorem dX0_first_0 : decode cX0_first 0 = .ok (.aload_n 0, 1) := by decide +kernel
theorem dX0_first_1 : decode cX0_first 1 = .ok (.invokevirtual 33, 3) := by decide +kernel
theorem dX0_first_4 : decode cX0_first 4 = .ok (.istore_n 1, 1) := by decide +kernel
theorem dX0_first_5 : decode cX0_first 5 = .ok (.iconst 0, 1) := by decide +kernel
theorem dX0_first_6 : decode cX0_first 6 = .ok (.istore_n 2, 1) := by decide +kernel
theorem dX0_first_7 : decode cX0_first 7 = .ok (.iload_n 2, 1) := by decide +kernel
theorem dX0_first_8 : decode cX0_first 8 = .ok (.iload_n 1, 1) := by decide +kernel
theorem dX0_first_9 : decode cX0_first 9 = .ok (.if_icmp .gt 34, 3) := by decide +kernel
theorem dX0_first_12 : decode cX0_first 12 = .ok (.aload_n 0, 1) := by decide +kernel
theorem dX0_first_13 : decode cX0_first 13 = .ok (.getfield 21, 3) := by decide +kernel
theorem dX0_first_16 : decode cX0_first 16 = .ok (.aload_n 0, 1) := by decide +kernel
theorem dX0_first_17 : decode cX0_first 17 = .ok (.getfield 30, 3) := by decide +kernel
theorem dX0_first_20 : decode cX0_first 20 = .ok (.sipush 4096, 3) := by decide +kernel
theorem dX0_first_23 : decode cX0_first 23 = .ok (.imul, 1) := by decide +kernel
theorem dX0_first_24 : decode cX0_first 24 = .ok (.iload_n 2, 1) := by decide +kernel
theorem dX0_first_25 : decode cX0_first 25 = .ok (.iadd, 1) := by decide +kernel
theorem dX0_first_26 : decode cX0_first 26 = .ok (.iload_n 2, 1) := by decide +kernel
theorem dX0_first_27 : decode cX0_first 27 = .ok (.iload_n 1, 1) := by decide +kernel
theorem dX0_first_28 : decode cX0_first 28 = .ok (.if_icmp .ne 7, 3) := by decide +kernel
theorem dX0_first_31 : decode cX0_first 31 = .ok (.iconst 1, 1) := by decide +kernel
theorem dX0_first_32 : decode cX0_first 32 = .ok (.goto 4, 3) := by decide +kernel
theorem dX0_first_35 : decode cX0_first 35 = .ok (.iconst 0, 1) := by decide +kernel
theorem dX0_first_36 : decode cX0_first 36 = .ok (.bastore, 1) := by decide +kernel
theorem dX0_first_37 : decode cX0_first 37 = .ok (.iinc 2 1, 3) := by decide +kernel
theorem dX0_first_40 : decode cX0_first 40 = .ok (.goto (-33), 3) := by decide +kernel
theorem dX0_first_43 : decode cX0_first 43 = .ok (.aload_n 0, 1) := by decide +kernel
theorem dX0_first_44 : decode cX0_first 44 = .ok (.getfield 30, 3) := by decide +kernel
theorem dX0_first_47 : decode cX0_first 47 = .ok (.iconst 1, 1) := by decide +kernel
theorem dX0_first_48 : decode cX0_first 48 = .ok (.isub, 1) := by decide +kernel
theorem dX0_first_49 : decode cX0_first 49 = .ok (.istore_n 2, 1) := by decide +kernel
theorem dX0_first_50 : decode cX0_first 50 = .ok (.iload_n 2, 1) := by decide +kernel
theorem dX0_first_51 : decode cX0_first 51 = .ok (.ifCond .lt 91, 3) := by decide +kernel
theorem dX0_first_54 : decode cX0_first 54 = .ok (.iconst 0, 1) := by decide +kernel
theorem dX0_first_55 : decode cX0_first 55 = .ok (.istore_n 3, 1) := by decide +kernel
theorem dX0_first_56 : decode cX0_first 56 = .ok (.iload_n 3, 1) := by decide +kernel
theorem dX0_first_57 : decode cX0_first 57 = .ok (.iload_n 1, 1) := by decide +kernel
theorem dX0_first_58 : decode cX0_first 58 = .ok (.if_icmp .gt 78, 3) := by decide +kernel
theorem dX0_first_61 : decode cX0_first 61 = .ok (.aload_n 0, 1) := by decide +kernel
theorem dX0_first_62 : decode cX0_first 62 = .ok (.getfield 21, 3) := by decide +kernel
theorem dX0_first_65 : decode cX0_first 65 = .ok (.iload_n 2, 1) := by decide +kernel
theorem dX0_first_66 : decode cX0_first 66 = .ok (.sipush 4096, 3) := by decide +kernel
theorem dX0_first_69 : decode cX0_first 69 = .ok (.imul, 1) := by decide +kernel
theorem dX0_first_70 : decode cX0_first 70 = .ok (.iload_n 3, 1) := by decide +kernel
theorem dX0_first_71 : decode cX0_first 71 = .ok (.iadd, 1) := by decide +kernel
theorem dX0_first_72 : decode cX0_first 72 = .ok (.aload_n 0, 1) := by decide +kernel
theorem dX0_first_73 : decode cX0_first 73 = .ok (.getfield 21, 3) := by decide +kernel
theorem dX0_first_76 : decode cX0_first 76 = .ok (.iload_n 2, 1) := by decide +kernel
theorem dX0_first_77 : decode cX0_first 77 = .ok (.iconst 1, 1) := by decide +kernel
theorem dX0_first_78 : decode cX0_first 78 = .ok (.iadd, 1) := by decide +kernel
theorem dX0_first_79 : decode cX0_first 79 = .ok (.sipush 4096, 3) := by decide +kernel
theorem dX0_first_82 : decode cX0_first 82 = .ok (.imul, 1) := by decide +kernel
theorem dX0_first_83 : decode cX0_first 83 = .ok (.iload_n 3, 1) := by decide +kernel
theorem dX0_first_84 : decode cX0_first 84 = .ok (.iadd, 1) := by decide +kernel
theorem dX0_first_85 : decode cX0_first 85 = .ok (.baload, 1) := by decide +kernel
theorem dX0_first_86 : decode cX0_first 86 = .ok (.ifCond .ne 38, 3) := by decide +kernel
theorem dX0_first_89 : decode cX0_first 89 = .ok (.iload_n 3, 1) := by decide +kernel
theorem dX0_first_90 : decode cX0_first 90 = .ok (.aload_n 0, 1) := by decide +kernel
theorem dX0_first_91 : decode cX0_first 91 = .ok (.getfield 9, 3) := by decide +kernel
theorem dX0_first_94 : decode cX0_first 94 = .ok (.iload_n 2, 1) := by decide +kernel
theorem dX0_first_95 : decode cX0_first 95 = .ok (.iaload, 1) := by decide +kernel
theorem dX0_first_96 : decode cX0_first 96 = .ok (.iand, 1) := by decide +kernel
theorem dX0_first_97 : decode cX0_first 97 = .ok (.ifCond .ne 31, 3) := by decide +kernel
theorem dX0_first_100 : decode cX0_first 100 = .ok (.aload_n 0, 1) := by decide +kernel
theorem dX0_first_101 : decode cX0_first 101 = .ok (.getfield 21, 3) := by decide +kernel
theorem dX0_first_104 : decode cX0_first 104 = .ok (.iload_n 2, 1) := by decide +kernel
theorem dX0_first_105 : decode cX0_first 105 = .ok (.iconst 1, 1) := by decide +kernel
theorem dX0_first_106 : decode cX0_first 106 = .ok (.iadd, 1) := by decide +kernel
theorem dX0_first_107 : decode cX0_first 107 = .ok (.sipush 4096, 3) := by decide +kernel
theorem dX0_first_110 : decode cX0_first 110 = .ok (.imul, 1) := by decide +kernel
theorem dX0_first_111 : decode cX0_first 111 = .ok (.iload_n 3, 1) := by decide +kernel
theorem dX0_first_112 : decode cX0_first 112 = .ok (.aload_n 0, 1) := by decide +kernel
theorem dX0_first_113 : decode cX0_first 113 = .ok (.getfield 9, 3) := by decide +kernel
theorem dX0_first_116 : decode cX0_first 116 = .ok (.iload_n 2, 1) := by decide +kernel
theorem dX0_first_117 : decode cX0_first 117 = .ok (.iaload, 1) := by decide +kernel
theorem dX0_first_118 : decode cX0_first 118 = .ok (.ior, 1) := by decide +kernel
theorem dX0_first_119 : decode cX0_first 119 = .ok (.iadd, 1) := by decide +kernel
theorem dX0_first_120 : decode cX0_first 120 = .ok (.baload, 1) := by decide +kernel
theorem dX0_first_121 : decode cX0_first 121 = .ok (.ifCond .eq 7, 3) := by decide +kernel
theorem dX0_first_124 : decode cX0_first 124 = .ok (.iconst 1, 1) := by decide +kernel
theorem dX0_first_125 : decode cX0_first 125 = .ok (.goto 4, 3) := by decide +kernel
theorem dX0_first_128 : decode cX0_first 128 = .ok (.iconst 0, 1) := by decide +kernel
theorem dX0_first_129 : decode cX0_first 129 = .ok (.bastore, 1) := by decide +kernel
theorem dX0_first_130 : decode cX0_first 130 = .ok (.iinc 3 1, 3) := by decide +kernel
theorem dX0_first_133 : decode cX0_first 133 = .ok (.goto (-77), 3) := by decide +kernel
theorem dX0_first_136 : decode cX0_first 136 = .ok (.iinc 2 (-1), 3) := by decide +kernel
theorem dX0_first_139 : decode cX0_first 139 = .ok (.goto (-89), 3) := by decide +kernel
theorem dX0_first_142 : decode cX0_first 142 = .ok (.aload_n 0, 1) := by decide +kernel
theorem dX0_first_143 : decode cX0_first 143 = .ok (.getfield 21, 3) := by decide +kernel
theorem dX0_first_146 : decode cX0_first 146 = .ok (.iconst 0, 1) := by decide +kernel
theorem dX0_first_147 : decode cX0_first 147 = .ok (.baload, 1) := by decide +kernel
theorem dX0_first_148 : decode cX0_first 148 = .ok (.ifCond .ne 5, 3) := by decide +kernel
theorem dX0_first_151 : decode cX0_first 151 = .ok (.iconst (-1), 1) := by decide +kernel
theorem dX0_first_152 : decode cX0_first 152 = .ok (.ireturn, 1) := by decide +kernel
theorem dX0_first_153 : decode cX0_first 153 = .ok (.iconst 0, 1) := by decide +kernel
theorem dX0_first_154 : decode cX0_first 154 = .ok (.istore_n 2, 1) := by decide +kernel
theorem dX0_first_155 : decode cX0_first 155 = .ok (.iconst 0, 1) := by decide +kernel
theorem dX0_first_156 : decode cX0_first 156 = .ok (.istore_n 3, 1) := by decide +kernel
theorem dX0_first_157 : decode cX0_first 157 = .ok (.iconst 0, 1) := by decide +kernel
theorem dX0_first_158 : decode cX0_first 158 = .ok (.istore 4, 2) := by decide +kernel
theorem dX0_first_160 : decode cX0_first 160 = .ok (.iload 4, 2) := by decide +kernel
theorem dX0_first_162 : decode cX0_first 162 = .ok (.aload_n 0, 1) := by decide +kernel
theorem dX0_first_163 : decode cX0_first 163 = .ok (.getfield 30, 3) := by decide +kernel
theorem dX0_first_166 : decode cX0_first 166 = .ok (.if_icmp .ge 67, 3) := by decide +kernel
theorem dX0_first_169 : decode cX0_first 169 = .ok (.iload_n 3, 1) := by decide +kernel
theorem dX0_first_170 : decode cX0_first 170 = .ok (.aload_n 0, 1) := by decide +kernel
theorem dX0_first_171 : decode cX0_first 171 = .ok (.getfield 9, 3) := by decide +kernel
theorem dX0_first_174 : decode cX0_first 174 = .ok (.iload 4, 2) := by decide +kernel
theorem dX0_first_176 : decode cX0_first 176 = .ok (.iaload, 1) := by decide +kernel
theorem dX0_first_177 : decode cX0_first 177 = .ok (.iand, 1) := by decide +kernel
theorem dX0_first_178 : decode cX0_first 178 = .ok (.ifCond .ne 49, 3) := by decide +kernel
theorem dX0_first_181 : decode cX0_first 181 = .ok (.aload_n 0, 1) := by decide +kernel
theorem dX0_first_182 : decode cX0_first 182 = .ok (.getfield 21, 3) := by decide +kernel
theorem dX0_first_185 : decode cX0_first 185 = .ok (.iload 4, 2) := by decide +kernel
theorem dX0_first_187 : decode cX0_first 187 = .ok (.iconst 1, 1) := by decide +kernel
theorem dX0_first_188 : decode cX0_first 188 = .ok (.iadd, 1) := by decide +kernel
theorem dX0_first_189 : decode cX0_first 189 = .ok (.sipush 4096, 3) := by decide +kernel
theorem dX0_first_192 : decode cX0_first 192 = .ok (.imul, 1) := by decide +kernel
theorem dX0_first_193 : decode cX0_first 193 = .ok (.iload_n 3, 1) := by decide +kernel
theorem dX0_first_194 : decode cX0_first 194 = .ok (.aload_n 0, 1) := by decide +kernel
theorem dX0_first_195 : decode cX0_first 195 = .ok (.getfield 9, 3) := by decide +kernel
theorem dX0_first_198 : decode cX0_first 198 = .ok (.iload 4, 2) := by decide +kernel
theorem dX0_first_200 : decode cX0_first 200 = .ok (.iaload, 1) := by decide +kernel
theorem dX0_first_201 : decode cX0_first 201 = .ok (.ior, 1) := by decide +kernel
theorem dX0_first_202 : decode cX0_first 202 = .ok (.iadd, 1) := by decide +kernel
theorem dX0_first_203 : decode cX0_first 203 = .ok (.baload, 1) := by decide +kernel
theorem dX0_first_204 : decode cX0_first 204 = .ok (.ifCond .ne 6, 3) := by decide +kernel
theorem dX0_first_207 : decode cX0_first 207 = .ok (.goto 20, 3) := by decide +kernel
theorem dX0_first_210 : decode cX0_first 210 = .ok (.iload_n 2, 1) := by decide +kernel
theorem dX0_first_211 : decode cX0_first 211 = .ok (.iconst 1, 1) := by decide +kernel
theorem dX0_first_212 : decode cX0_first 212 = .ok (.iload 4, 2) := by decide +kernel
theorem dX0_first_214 : decode cX0_first 214 = .ok (.ishl, 1) := by decide +kernel
theorem dX0_first_215 : decode cX0_first 215 = .ok (.ior, 1) := by decide +kernel
theorem dX0_first_216 : decode cX0_first 216 = .ok (.istore_n 2, 1) := by decide +kernel
theorem dX0_first_217 : decode cX0_first 217 = .ok (.iload_n 3, 1) := by decide +kernel
theorem dX0_first_218 : decode cX0_first 218 = .ok (.aload_n 0, 1) := by decide +kernel
theorem dX0_first_219 : decode cX0_first 219 = .ok (.getfield 9, 3) := by decide +kernel
theorem dX0_first_222 : decode cX0_first 222 = .ok (.iload 4, 2) := by decide +kernel
theorem dX0_first_224 : decode cX0_first 224 = .ok (.iaload, 1) := by decide +kernel
theorem dX0_first_225 : decode cX0_first 225 = .ok (.ior, 1) := by decide +kernel
theorem dX0_first_226 : decode cX0_first 226 = .ok (.istore_n 3, 1) := by decide +kernel
theorem dX0_first_227 : decode cX0_first 227 = .ok (.iinc 4 1, 3) := by decide +kernel
theorem dX0_first_230 : decode cX0_first 230 = .ok (.goto (-70), 3) := by decide +kernel
theorem dX0_first_233 : decode cX0_first 233 = .ok (.iload_n 2, 1) := by decide +kernel
theorem dX0_first_234 : decode cX0_first 234 = .ok (.ireturn, 1) := by decide +kernel
abbrev cX0_with : ByteArray := prog_1_method_9_code
def yX0_with : MethodName := ⟨RX0, "with", "(I)J"⟩
theorem dX0_with_0 : decode cX0_with 0 = .ok (.aload_n 0, 1) := by decide +kernel
theorem dX0_with_1 : decode cX0_with 1 = .ok (.getfield 30, 3) := by decide +kernel
theorem dX0_with_4 : decode cX0_with 4 = .ok (.ifCond .ne 5, 3) := by decide +kernel
theorem dX0_with_7 : decode cX0_with 7 = .ok (.lconst 0, 1) := by decide +kernel
theorem dX0_with_8 : decode cX0_with 8 = .ok (.lreturn, 1) := by decide +kernel
theorem dX0_with_9 : decode cX0_with 9 = .ok (.iload_n 1, 1) := by decide +kernel
theorem dX0_with_10 : decode cX0_with 10 = .ok (.ldc 29, 2) := by decide +kernel
theorem dX0_with_12 : decode cX0_with 12 = .ok (.iand, 1) := by decide +kernel
theorem dX0_with_13 : decode cX0_with 13 = .ok (.aload_n 0, 1) := by decide +kernel
theorem dX0_with_14 : decode cX0_with 14 = .ok (.getfield 30, 3) := by decide +kernel
theorem dX0_with_17 : decode cX0_with 17 = .ok (.irem, 1) := by decide +kernel
theorem dX0_with_18 : decode cX0_with 18 = .ok (.istore_n 2, 1) := by decide +kernel
theorem dX0_with_19 : decode cX0_with 19 = .ok (.aload_n 0, 1) := by decide +kernel
theorem dX0_with_20 : decode cX0_with 20 = .ok (.iload_n 2, 1) := by decide +kernel
theorem dX0_with_21 : decode cX0_with 21 = .ok (.invokevirtual 37, 3) := by decide +kernel
theorem dX0_with_24 : decode cX0_with 24 = .ok (.aload_n 0, 1) := by decide +kernel
theorem dX0_with_25 : decode cX0_with 25 = .ok (.getfield 16, 3) := by decide +kernel
theorem dX0_with_28 : decode cX0_with 28 = .ok (.aload_n 0, 1) := by decide +kernel
theorem dX0_with_29 : decode cX0_with 29 = .ok (.invokevirtual 33, 3) := by decide +kernel
theorem dX0_with_32 : decode cX0_with 32 = .ok (.aload_n 0, 1) := by decide +kernel
theorem dX0_with_33 : decode cX0_with 33 = .ok (.getfield 9, 3) := by decide +kernel
theorem dX0_with_36 : decode cX0_with 36 = .ok (.iload_n 2, 1) := by decide +kernel
theorem dX0_with_37 : decode cX0_with 37 = .ok (.iaload, 1) := by decide +kernel
theorem dX0_with_38 : decode cX0_with 38 = .ok (.iconst (-1), 1) := by decide +kernel
theorem dX0_with_39 : decode cX0_with 39 = .ok (.ixor, 1) := by decide +kernel
theorem dX0_with_40 : decode cX0_with 40 = .ok (.iand, 1) := by decide +kernel
theorem dX0_with_41 : decode cX0_with 41 = .ok (.laload, 1) := by decide +kernel
theorem dX0_with_42 : decode cX0_with 42 = .ok (.lreturn, 1) := by decide +kernel
abbrev cX0_least : ByteArray := prog_1_method_10_code
def yX0_least : MethodName := ⟨RX0, "least", "()I"⟩
theorem dX0_least_0 : decode cX0_least 0 = .ok (.aload_n 0, 1) := by decide +kernel
theorem dX0_least_1 : decode cX0_least 1 = .ok (.invokevirtual 33, 3) := by decide +kernel
theorem dX0_least_4 : decode cX0_least 4 = .ok (.istore_n 1, 1) := by decide +kernel
theorem dX0_least_5 : decode cX0_least 5 = .ok (.iconst 0, 1) := by decide +kernel
theorem dX0_least_6 : decode cX0_least 6 = .ok (.istore_n 2, 1) := by decide +kernel
theorem dX0_least_7 : decode cX0_least 7 = .ok (.iload_n 2, 1) := by decide +kernel
theorem dX0_least_8 : decode cX0_least 8 = .ok (.iload_n 1, 1) := by decide +kernel
theorem dX0_least_9 : decode cX0_least 9 = .ok (.if_icmp .gt 17, 3) := by decide +kernel
theorem dX0_least_12 : decode cX0_least 12 = .ok (.aload_n 0, 1) := by decide +kernel
theorem dX0_least_13 : decode cX0_least 13 = .ok (.getfield 13, 3) := by decide +kernel
theorem dX0_least_16 : decode cX0_least 16 = .ok (.iload_n 2, 1) := by decide +kernel
theorem dX0_least_17 : decode cX0_least 17 = .ok (.bipush 25, 2) := by decide +kernel
theorem dX0_least_19 : decode cX0_least 19 = .ok (.iastore, 1) := by decide +kernel
theorem dX0_least_20 : decode cX0_least 20 = .ok (.iinc 2 1, 3) := by decide +kernel
theorem dX0_least_23 : decode cX0_least 23 = .ok (.goto (-16), 3) := by decide +kernel
theorem dX0_least_26 : decode cX0_least 26 = .ok (.aload_n 0, 1) := by decide +kernel
theorem dX0_least_27 : decode cX0_least 27 = .ok (.getfield 13, 3) := by decide +kernel
theorem dX0_least_30 : decode cX0_least 30 = .ok (.iconst 0, 1) := by decide +kernel
theorem dX0_least_31 : decode cX0_least 31 = .ok (.iconst 0, 1) := by decide +kernel
theorem dX0_least_32 : decode cX0_least 32 = .ok (.iastore, 1) := by decide +kernel
theorem dX0_least_33 : decode cX0_least 33 = .ok (.iconst 0, 1) := by decide +kernel
theorem dX0_least_34 : decode cX0_least 34 = .ok (.istore_n 2, 1) := by decide +kernel
theorem dX0_least_35 : decode cX0_least 35 = .ok (.iload_n 2, 1) := by decide +kernel
theorem dX0_least_36 : decode cX0_least 36 = .ok (.aload_n 0, 1) := by decide +kernel
theorem dX0_least_37 : decode cX0_least 37 = .ok (.getfield 30, 3) := by decide +kernel
theorem dX0_least_40 : decode cX0_least 40 = .ok (.if_icmp .ge 77, 3) := by decide +kernel
theorem dX0_least_43 : decode cX0_least 43 = .ok (.aload_n 0, 1) := by decide +kernel
theorem dX0_least_44 : decode cX0_least 44 = .ok (.getfield 9, 3) := by decide +kernel
theorem dX0_least_47 : decode cX0_least 47 = .ok (.iload_n 2, 1) := by decide +kernel
theorem dX0_least_48 : decode cX0_least 48 = .ok (.iaload, 1) := by decide +kernel
theorem dX0_least_49 : decode cX0_least 49 = .ok (.istore_n 3, 1) := by decide +kernel
theorem dX0_least_50 : decode cX0_least 50 = .ok (.iload_n 1, 1) := by decide +kernel
theorem dX0_least_51 : decode cX0_least 51 = .ok (.istore 4, 2) := by decide +kernel
theorem dX0_least_53 : decode cX0_least 53 = .ok (.iload 4, 2) := by decide +kernel
theorem dX0_least_55 : decode cX0_least 55 = .ok (.ifCond .le 56, 3) := by decide +kernel
theorem dX0_least_58 : decode cX0_least 58 = .ok (.iload 4, 2) := by decide +kernel
theorem dX0_least_60 : decode cX0_least 60 = .ok (.iload_n 3, 1) := by decide +kernel
theorem dX0_least_61 : decode cX0_least 61 = .ok (.iand, 1) := by decide +kernel
theorem dX0_least_62 : decode cX0_least 62 = .ok (.iload_n 3, 1) := by decide +kernel
theorem dX0_least_63 : decode cX0_least 63 = .ok (.if_icmp .ne 42, 3) := by decide +kernel
theorem dX0_least_66 : decode cX0_least 66 = .ok (.aload_n 0, 1) := by decide +kernel
theorem dX0_least_67 : decode cX0_least 67 = .ok (.getfield 13, 3) := by decide +kernel
theorem dX0_least_70 : decode cX0_least 70 = .ok (.iload 4, 2) := by decide +kernel
theorem dX0_least_72 : decode cX0_least 72 = .ok (.iload_n 3, 1) := by decide +kernel
theorem dX0_least_73 : decode cX0_least 73 = .ok (.ixor, 1) := by decide +kernel
theorem dX0_least_74 : decode cX0_least 74 = .ok (.iaload, 1) := by decide +kernel
theorem dX0_least_75 : decode cX0_least 75 = .ok (.iconst 1, 1) := by decide +kernel
theorem dX0_least_76 : decode cX0_least 76 = .ok (.iadd, 1) := by decide +kernel
theorem dX0_least_77 : decode cX0_least 77 = .ok (.aload_n 0, 1) := by decide +kernel
theorem dX0_least_78 : decode cX0_least 78 = .ok (.getfield 13, 3) := by decide +kernel
theorem dX0_least_81 : decode cX0_least 81 = .ok (.iload 4, 2) := by decide +kernel
theorem dX0_least_83 : decode cX0_least 83 = .ok (.iaload, 1) := by decide +kernel
theorem dX0_least_84 : decode cX0_least 84 = .ok (.if_icmp .ge 21, 3) := by decide +kernel
theorem dX0_least_87 : decode cX0_least 87 = .ok (.aload_n 0, 1) := by decide +kernel
theorem dX0_least_88 : decode cX0_least 88 = .ok (.getfield 13, 3) := by decide +kernel
theorem dX0_least_91 : decode cX0_least 91 = .ok (.iload 4, 2) := by decide +kernel
theorem dX0_least_93 : decode cX0_least 93 = .ok (.aload_n 0, 1) := by decide +kernel
theorem dX0_least_94 : decode cX0_least 94 = .ok (.getfield 13, 3) := by decide +kernel
theorem dX0_least_97 : decode cX0_least 97 = .ok (.iload 4, 2) := by decide +kernel
theorem dX0_least_99 : decode cX0_least 99 = .ok (.iload_n 3, 1) := by decide +kernel
theorem dX0_least_100 : decode cX0_least 100 = .ok (.ixor, 1) := by decide +kernel
theorem dX0_least_101 : decode cX0_least 101 = .ok (.iaload, 1) := by decide +kernel
theorem dX0_least_102 : decode cX0_least 102 = .ok (.iconst 1, 1) := by decide +kernel
theorem dX0_least_103 : decode cX0_least 103 = .ok (.iadd, 1) := by decide +kernel
theorem dX0_least_104 : decode cX0_least 104 = .ok (.iastore, 1) := by decide +kernel
theorem dX0_least_105 : decode cX0_least 105 = .ok (.iinc 4 (-1), 3) := by decide +kernel
theorem dX0_least_108 : decode cX0_least 108 = .ok (.goto (-55), 3) := by decide +kernel
theorem dX0_least_111 : decode cX0_least 111 = .ok (.iinc 2 1, 3) := by decide +kernel
theorem dX0_least_114 : decode cX0_least 114 = .ok (.goto (-79), 3) := by decide +kernel
theorem dX0_least_117 : decode cX0_least 117 = .ok (.aload_n 0, 1) := by decide +kernel
theorem dX0_least_118 : decode cX0_least 118 = .ok (.getfield 13, 3) := by decide +kernel
theorem dX0_least_121 : decode cX0_least 121 = .ok (.iload_n 1, 1) := by decide +kernel
theorem dX0_least_122 : decode cX0_least 122 = .ok (.iaload, 1) := by decide +kernel
theorem dX0_least_123 : decode cX0_least 123 = .ok (.bipush 24, 2) := by decide +kernel
theorem dX0_least_125 : decode cX0_least 125 = .ok (.if_icmp .le 7, 3) := by decide +kernel
theorem dX0_least_128 : decode cX0_least 128 = .ok (.iconst (-1), 1) := by decide +kernel
theorem dX0_least_129 : decode cX0_least 129 = .ok (.goto 9, 3) := by decide +kernel
theorem dX0_least_132 : decode cX0_least 132 = .ok (.aload_n 0, 1) := by decide +kernel
theorem dX0_least_133 : decode cX0_least 133 = .ok (.getfield 13, 3) := by decide +kernel
theorem dX0_least_136 : decode cX0_least 136 = .ok (.iload_n 1, 1) := by decide +kernel
theorem dX0_least_137 : decode cX0_least 137 = .ok (.iaload, 1) := by decide +kernel
theorem dX0_least_138 : decode cX0_least 138 = .ok (.ireturn, 1) := by decide +kernel
theorem q4 : (Jvm.Cond.initialized "TileDesk") ∈ lw_all := lw_g (lw_at lw_m0 1 rfl) rfl
theorem q7 : (Jvm.Cond.instantiable "TileDesk" (6 : Nat)) ∈ lw_all := lw_g (lw_at lw_m0 4 rfl) rfl
theorem q9 : (Jvm.Cond.instanceMethod ({ cls := "TileDesk", name := "<init>", desc := "()V" } : Jvm.MethodName)) ∈ lw_all := lw_g (lw_at lw_m0 6 rfl) rfl
theorem q10 : (Jvm.Cond.code ({ cls := "TileDesk", name := "<init>", desc := "()V" } : Jvm.MethodName) prog_1_method_1_code (1 : Nat) (Option.none : Option Jvm.ClassFile.FieldType)) ∈ lw_all := lw_g (lw_at lw_m0 7 rfl) rfl
theorem q11 : (Jvm.Cond.methodLink "TileDesk" (1 : Nat) ({ cls := "java/lang/Object", name := "<init>", desc := "()V" } : Jvm.MethodName)) ∈ lw_all := lw_g (lw_at lw_m0 8 rfl) rfl
theorem q14 : (Jvm.Cond.constant "TileDesk" (20 : Nat) (102400 : Int32)) ∈ lw_all := lw_g (lw_at lw_m0 11 rfl) rfl
theorem q15 : (Jvm.Cond.fieldLink "TileDesk" (9 : Nat) "TileDesk" "row" "[I") ∈ lw_all := lw_g (lw_at lw_m0 12 rfl) rfl
theorem q16 : (Jvm.Cond.fieldLink "TileDesk" (13 : Nat) "TileDesk" "best" "[I") ∈ lw_all := lw_g (lw_at lw_m0 13 rfl) rfl
theorem q17 : (Jvm.Cond.fieldLink "TileDesk" (16 : Nat) "TileDesk" "ways" "[J") ∈ lw_all := lw_g (lw_at lw_m0 14 rfl) rfl
theorem q18 : (Jvm.Cond.fieldLink "TileDesk" (21 : Nat) "TileDesk" "can" "[Z") ∈ lw_all := lw_g (lw_at lw_m0 15 rfl) rfl
theorem q19 : (Jvm.Cond.fieldLink "TileDesk" (25 : Nat) "TileDesk" "columns" "I") ∈ lw_all := lw_g (lw_at lw_m0 16 rfl) rfl
theorem q20 : (Jvm.Cond.fieldLink "TileDesk" (30 : Nat) "TileDesk" "rows" "I") ∈ lw_all := lw_g (lw_at lw_m0 17 rfl) rfl
theorem q21 : (Jvm.Cond.laysFinal "TileDesk" "TileDesk" "row" "[I") ∈ lw_all := lw_g (lw_at lw_m0 18 rfl) rfl
theorem q22 : (Jvm.Cond.soleField "TileDesk" "row") ∈ lw_all := lw_g (lw_at lw_m0 19 rfl) rfl
theorem q23 : (Jvm.Cond.laysFinal "TileDesk" "TileDesk" "best" "[I") ∈ lw_all := lw_g (lw_at lw_m0 20 rfl) rfl
theorem q24 : (Jvm.Cond.soleField "TileDesk" "best") ∈ lw_all := lw_g (lw_at lw_m0 21 rfl) rfl
theorem q25 : (Jvm.Cond.laysFinal "TileDesk" "TileDesk" "ways" "[J") ∈ lw_all := lw_g (lw_at lw_m0 22 rfl) rfl
theorem q26 : (Jvm.Cond.soleField "TileDesk" "ways") ∈ lw_all := lw_g (lw_at lw_m0 23 rfl) rfl
theorem q27 : (Jvm.Cond.laysFinal "TileDesk" "TileDesk" "can" "[Z") ∈ lw_all := lw_g (lw_at lw_m0 24 rfl) rfl
theorem q28 : (Jvm.Cond.soleField "TileDesk" "can") ∈ lw_all := lw_g (lw_at lw_m0 25 rfl) rfl
theorem q29 : (Jvm.Cond.lays "TileDesk" "TileDesk" "columns" "I") ∈ lw_all := lw_g (lw_at lw_m0 26 rfl) rfl
theorem q30 : (Jvm.Cond.soleField "TileDesk" "columns") ∈ lw_all := lw_g (lw_at lw_m0 27 rfl) rfl
theorem q31 : (Jvm.Cond.lays "TileDesk" "TileDesk" "rows" "I") ∈ lw_all := lw_g (lw_at lw_m0 28 rfl) rfl
theorem q32 : (Jvm.Cond.soleField "TileDesk" "rows") ∈ lw_all := lw_g (lw_at lw_m0 29 rfl) rfl
theorem q33 : (Jvm.Cond.superclass "TileDesk" "java/lang/Object") ∈ lw_all := lw_g (lw_at lw_m0 30 rfl) rfl
theorem q38 : (Jvm.Cond.instanceMethod ({ cls := "TileDesk", name := "columns", desc := "(I)V" } : Jvm.MethodName)) ∈ lw_all := lw_g (lw_at lw_m0 35 rfl) rfl
theorem q39 : (Jvm.Cond.selects "TileDesk" ({ cls := "TileDesk", name := "columns", desc := "(I)V" } : Jvm.MethodName) ({ cls := "TileDesk", name := "columns", desc := "(I)V" } : Jvm.MethodName)) ∈ lw_all := lw_g (lw_at lw_m0 36 rfl) rfl
theorem q40 : (Jvm.Cond.code ({ cls := "TileDesk", name := "columns", desc := "(I)V" } : Jvm.MethodName) prog_1_method_2_code (2 : Nat) (Option.none : Option Jvm.ClassFile.FieldType)) ∈ lw_all := lw_g (lw_at lw_m0 37 rfl) rfl
theorem q41 : (Jvm.Cond.constant "TileDesk" (29 : Nat) (2147483647 : Int32)) ∈ lw_all := lw_g (lw_at lw_m0 38 rfl) rfl
theorem q43 : (Jvm.Cond.instanceMethod ({ cls := "TileDesk", name := "row", desc := "(I)Z" } : Jvm.MethodName)) ∈ lw_all := lw_g (lw_at lw_m0 40 rfl) rfl
theorem q44 : (Jvm.Cond.selects "TileDesk" ({ cls := "TileDesk", name := "row", desc := "(I)Z" } : Jvm.MethodName) ({ cls := "TileDesk", name := "row", desc := "(I)Z" } : Jvm.MethodName)) ∈ lw_all := lw_g (lw_at lw_m0 41 rfl) rfl
theorem q45 : (Jvm.Cond.code ({ cls := "TileDesk", name := "row", desc := "(I)Z" } : Jvm.MethodName) prog_1_method_4_code (2 : Nat) (Option.some Jvm.ClassFile.FieldType.boolean)) ∈ lw_all := lw_g (lw_at lw_m0 42 rfl) rfl
theorem q46 : (Jvm.Cond.methodLink "TileDesk" (33 : Nat) ({ cls := "TileDesk", name := "all", desc := "()I" } : Jvm.MethodName)) ∈ lw_all := lw_g (lw_at lw_m0 43 rfl) rfl
theorem q47 : (Jvm.Cond.privateMethod ({ cls := "TileDesk", name := "all", desc := "()I" } : Jvm.MethodName)) ∈ lw_tbl := lw_at lw_m0 44 rfl
theorem q48 : (Jvm.Cond.instanceMethod ({ cls := "TileDesk", name := "all", desc := "()I" } : Jvm.MethodName)) ∈ lw_all := lw_g (lw_at lw_m0 45 rfl) rfl
theorem q49 : (Jvm.Cond.code ({ cls := "TileDesk", name := "all", desc := "()I" } : Jvm.MethodName) prog_1_method_3_code (1 : Nat) (Option.some Jvm.ClassFile.FieldType.int)) ∈ lw_all := lw_g (lw_at lw_m0 46 rfl) rfl
theorem q51 : (Jvm.Cond.instanceMethod ({ cls := "TileDesk", name := "drop", desc := "()Z" } : Jvm.MethodName)) ∈ lw_all := lw_g (lw_at lw_m0 48 rfl) rfl
theorem q52 : (Jvm.Cond.selects "TileDesk" ({ cls := "TileDesk", name := "drop", desc := "()Z" } : Jvm.MethodName) ({ cls := "TileDesk", name := "drop", desc := "()Z" } : Jvm.MethodName)) ∈ lw_all := lw_g (lw_at lw_m0 49 rfl) rfl
theorem q53 : (Jvm.Cond.code ({ cls := "TileDesk", name := "drop", desc := "()Z" } : Jvm.MethodName) prog_1_method_5_code (1 : Nat) (Option.some Jvm.ClassFile.FieldType.boolean)) ∈ lw_all := lw_g (lw_at lw_m0 50 rfl) rfl
theorem q55 : (Jvm.Cond.instanceMethod ({ cls := "TileDesk", name := "count", desc := "()J" } : Jvm.MethodName)) ∈ lw_all := lw_g (lw_at lw_m0 52 rfl) rfl
theorem q56 : (Jvm.Cond.selects "TileDesk" ({ cls := "TileDesk", name := "count", desc := "()J" } : Jvm.MethodName) ({ cls := "TileDesk", name := "count", desc := "()J" } : Jvm.MethodName)) ∈ lw_all := lw_g (lw_at lw_m0 53 rfl) rfl
theorem q57 : (Jvm.Cond.code ({ cls := "TileDesk", name := "count", desc := "()J" } : Jvm.MethodName) prog_1_method_7_code (1 : Nat) (Option.some Jvm.ClassFile.FieldType.long)) ∈ lw_all := lw_g (lw_at lw_m0 54 rfl) rfl
theorem q58 : (Jvm.Cond.methodLink "TileDesk" (37 : Nat) ({ cls := "TileDesk", name := "work", desc := "(I)V" } : Jvm.MethodName)) ∈ lw_all := lw_g (lw_at lw_m0 55 rfl) rfl
theorem q59 : (Jvm.Cond.privateMethod ({ cls := "TileDesk", name := "work", desc := "(I)V" } : Jvm.MethodName)) ∈ lw_tbl := lw_at lw_m0 56 rfl
theorem q60 : (Jvm.Cond.instanceMethod ({ cls := "TileDesk", name := "work", desc := "(I)V" } : Jvm.MethodName)) ∈ lw_all := lw_g (lw_at lw_m0 57 rfl) rfl
theorem q61 : (Jvm.Cond.code ({ cls := "TileDesk", name := "work", desc := "(I)V" } : Jvm.MethodName) prog_1_method_6_code (6 : Nat) (Option.none : Option Jvm.ClassFile.FieldType)) ∈ lw_all := lw_g (lw_at lw_m0 58 rfl) rfl
theorem q63 : (Jvm.Cond.instanceMethod ({ cls := "TileDesk", name := "first", desc := "()I" } : Jvm.MethodName)) ∈ lw_all := lw_g (lw_at lw_m0 60 rfl) rfl
theorem q64 : (Jvm.Cond.selects "TileDesk" ({ cls := "TileDesk", name := "first", desc := "()I" } : Jvm.MethodName) ({ cls := "TileDesk", name := "first", desc := "()I" } : Jvm.MethodName)) ∈ lw_all := lw_g (lw_at lw_m0 61 rfl) rfl
theorem q65 : (Jvm.Cond.code ({ cls := "TileDesk", name := "first", desc := "()I" } : Jvm.MethodName) prog_1_method_8_code (5 : Nat) (Option.some Jvm.ClassFile.FieldType.int)) ∈ lw_all := lw_g (lw_at lw_m0 62 rfl) rfl
theorem q67 : (Jvm.Cond.instanceMethod ({ cls := "TileDesk", name := "with", desc := "(I)J" } : Jvm.MethodName)) ∈ lw_all := lw_g (lw_at lw_m0 64 rfl) rfl
theorem q68 : (Jvm.Cond.selects "TileDesk" ({ cls := "TileDesk", name := "with", desc := "(I)J" } : Jvm.MethodName) ({ cls := "TileDesk", name := "with", desc := "(I)J" } : Jvm.MethodName)) ∈ lw_all := lw_g (lw_at lw_m0 65 rfl) rfl
theorem q69 : (Jvm.Cond.code ({ cls := "TileDesk", name := "with", desc := "(I)J" } : Jvm.MethodName) prog_1_method_9_code (3 : Nat) (Option.some Jvm.ClassFile.FieldType.long)) ∈ lw_all := lw_g (lw_at lw_m0 66 rfl) rfl
theorem q71 : (Jvm.Cond.instanceMethod ({ cls := "TileDesk", name := "least", desc := "()I" } : Jvm.MethodName)) ∈ lw_all := lw_g (lw_at lw_m0 68 rfl) rfl
theorem q72 : (Jvm.Cond.selects "TileDesk" ({ cls := "TileDesk", name := "least", desc := "()I" } : Jvm.MethodName) ({ cls := "TileDesk", name := "least", desc := "()I" } : Jvm.MethodName)) ∈ lw_all := lw_g (lw_at lw_m0 69 rfl) rfl
theorem q73 : (Jvm.Cond.code ({ cls := "TileDesk", name := "least", desc := "()I" } : Jvm.MethodName) prog_1_method_10_code (5 : Nat) (Option.some Jvm.ClassFile.FieldType.int)) ∈ lw_all := lw_g (lw_at lw_m0 70 rfl) rfl
theorem in_X0 : ∀ w ∈ wsX00, w ∈ lw_all := lw_in wsX00 [21, 23, 25, 27, 29, 31] (by decide +kernel) (by decide +kernel)
end
section
/-! TileDeskModel -/
set_option maxRecDepth 100000
def RX1 : String := "TileDeskModel"
def TX1 : u_T := fun k => match k with
  | 0 => ("TileDeskModel", "row", "[I", true)
  | 1 => ("TileDeskModel", "rows", "I", false)
  | 2 => ("TileDeskModel", "n", "I", false)
  | 3 => ("TileDeskModel", "known", "Z", false)
  | 4 => ("TileDeskModel", "ways", "[J", true)
  | 5 => ("TileDeskModel", "other", "[J", true)
  | _ => ("TileDeskModel", "size", "[I", true)
def tyX1 : Nat → FieldType := fun k => match k with
  | 0 => .array .int
  | 1 => .int
  | 2 => .int
  | 3 => .boolean
  | 4 => .array .long
  | 5 => .array .long
  | _ => .array .int
abbrev wsX10 : List Cond := u_ws RX1 TX1 7
theorem nmX1 : ∀ a, a < 7 → ∀ b, b < 7 → a ≠ b → (TX1 a).2.1 ≠ (TX1 b).2.1 := by decide +kernel
theorem tyX1_ok : ∀ k, k < 7 → parseFieldDescriptor (TX1 k).2.2.1 = some (tyX1 k) := by decide +kernel
abbrev cX1_init : ByteArray := prog_3_method_1_code
def yX1_init : MethodName := ⟨RX1, "<init>", "()V"⟩
theorem dX1_init_0 : decode cX1_init 0 = .ok (.aload_n 0, 1) := by decide +kernel
theorem dX1_init_1 : decode cX1_init 1 = .ok (.invokespecial 1, 3) := by decide +kernel
theorem dX1_init_4 : decode cX1_init 4 = .ok (.aload_n 0, 1) := by decide +kernel
theorem dX1_init_5 : decode cX1_init 5 = .ok (.bipush 24, 2) := by decide +kernel
theorem dX1_init_7 : decode cX1_init 7 = .ok (.newarray .int, 2) := by decide +kernel
theorem dX1_init_9 : decode cX1_init 9 = .ok (.putfield 7, 3) := by decide +kernel
theorem dX1_init_12 : decode cX1_init 12 = .ok (.aload_n 0, 1) := by decide +kernel
theorem dX1_init_13 : decode cX1_init 13 = .ok (.bipush 6, 2) := by decide +kernel
theorem dX1_init_15 : decode cX1_init 15 = .ok (.putfield 13, 3) := by decide +kernel
theorem dX1_init_18 : decode cX1_init 18 = .ok (.aload_n 0, 1) := by decide +kernel
theorem dX1_init_19 : decode cX1_init 19 = .ok (.ldc 17, 2) := by decide +kernel
theorem dX1_init_21 : decode cX1_init 21 = .ok (.newarray .long, 2) := by decide +kernel
theorem dX1_init_23 : decode cX1_init 23 = .ok (.putfield 18, 3) := by decide +kernel
theorem dX1_init_26 : decode cX1_init 26 = .ok (.aload_n 0, 1) := by decide +kernel
theorem dX1_init_27 : decode cX1_init 27 = .ok (.sipush 4096, 3) := by decide +kernel
theorem dX1_init_30 : decode cX1_init 30 = .ok (.newarray .long, 2) := by decide +kernel
theorem dX1_init_32 : decode cX1_init 32 = .ok (.putfield 22, 3) := by decide +kernel
theorem dX1_init_35 : decode cX1_init 35 = .ok (.aload_n 0, 1) := by decide +kernel
theorem dX1_init_36 : decode cX1_init 36 = .ok (.sipush 4096, 3) := by decide +kernel
theorem dX1_init_39 : decode cX1_init 39 = .ok (.newarray .int, 2) := by decide +kernel
theorem dX1_init_41 : decode cX1_init 41 = .ok (.putfield 25, 3) := by decide +kernel
theorem dX1_init_44 : decode cX1_init 44 = .ok (.return_, 1) := by decide +kernel
abbrev cX1_columns : ByteArray := prog_3_method_2_code
def yX1_columns : MethodName := ⟨RX1, "columns", "(I)V"⟩
theorem dX1_columns_0 : decode cX1_columns 0 = .ok (.aload_n 0, 1) := by decide +kernel
theorem dX1_columns_1 : decode cX1_columns 1 = .ok (.iconst 1, 1) := by decide +kernel
theorem dX1_columns_2 : decode cX1_columns 2 = .ok (.iload_n 1, 1) := by decide +kernel
theorem dX1_columns_3 : decode cX1_columns 3 = .ok (.ldc 28, 2) := by decide +kernel
theorem dX1_columns_5 : decode cX1_columns 5 = .ok (.iand, 1) := by decide +kernel
theorem dX1_columns_6 : decode cX1_columns 6 = .ok (.bipush 12, 2) := by decide +kernel
theorem dX1_columns_8 : decode cX1_columns 8 = .ok (.irem, 1) := by decide +kernel
theorem dX1_columns_9 : decode cX1_columns 9 = .ok (.iadd, 1) := by decide +kernel
theorem dX1_columns_10 : decode cX1_columns 10 = .ok (.putfield 13, 3) := by decide +kernel
theorem dX1_columns_13 : decode cX1_columns 13 = .ok (.aload_n 0, 1) := by decide +kernel
theorem dX1_columns_14 : decode cX1_columns 14 = .ok (.iconst 0, 1) := by decide +kernel
theorem dX1_columns_15 : decode cX1_columns 15 = .ok (.putfield 29, 3) := by decide +kernel
theorem dX1_columns_18 : decode cX1_columns 18 = .ok (.aload_n 0, 1) := by decide +kernel
theorem dX1_columns_19 : decode cX1_columns 19 = .ok (.iconst 0, 1) := by decide +kernel
theorem dX1_columns_20 : decode cX1_columns 20 = .ok (.putfield 32, 3) := by decide +kernel
theorem dX1_columns_23 : decode cX1_columns 23 = .ok (.return_, 1) := by decide +kernel
abbrev cX1_row : ByteArray := prog_3_method_3_code
def yX1_row : MethodName := ⟨RX1, "row", "(I)Z"⟩
theorem dX1_row_0 : decode cX1_row 0 = .ok (.aload_n 0, 1) := by decide +kernel
theorem dX1_row_1 : decode cX1_row 1 = .ok (.getfield 29, 3) := by decide +kernel
theorem dX1_row_4 : decode cX1_row 4 = .ok (.bipush 24, 2) := by decide +kernel
theorem dX1_row_6 : decode cX1_row 6 = .ok (.if_icmp .ne 5, 3) := by decide +kernel
theorem dX1_row_9 : decode cX1_row 9 = .ok (.iconst 0, 1) := by decide +kernel
theorem dX1_row_10 : decode cX1_row 10 = .ok (.ireturn, 1) := by decide +kernel
theorem dX1_row_11 : decode cX1_row 11 = .ok (.aload_n 0, 1) := by decide +kernel
theorem dX1_row_12 : decode cX1_row 12 = .ok (.getfield 7, 3) := by decide +kernel
theorem dX1_row_15 : decode cX1_row 15 = .ok (.aload_n 0, 1) := by decide +kernel
theorem dX1_row_16 : decode cX1_row 16 = .ok (.getfield 29, 3) := by decide +kernel
theorem dX1_row_19 : decode cX1_row 19 = .ok (.iload_n 1, 1) := by decide +kernel
theorem dX1_row_20 : decode cX1_row 20 = .ok (.iconst 1, 1) := by decide +kernel
theorem dX1_row_21 : decode cX1_row 21 = .ok (.aload_n 0, 1) := by decide +kernel
theorem dX1_row_22 : decode cX1_row 22 = .ok (.getfield 13, 3) := by decide +kernel
theorem dX1_row_25 : decode cX1_row 25 = .ok (.ishl, 1) := by decide +kernel
theorem dX1_row_26 : decode cX1_row 26 = .ok (.iconst 1, 1) := by decide +kernel
theorem dX1_row_27 : decode cX1_row 27 = .ok (.isub, 1) := by decide +kernel
theorem dX1_row_28 : decode cX1_row 28 = .ok (.iand, 1) := by decide +kernel
theorem dX1_row_29 : decode cX1_row 29 = .ok (.iastore, 1) := by decide +kernel
theorem dX1_row_30 : decode cX1_row 30 = .ok (.aload_n 0, 1) := by decide +kernel
theorem dX1_row_31 : decode cX1_row 31 = .ok (.aload_n 0, 1) := by decide +kernel
theorem dX1_row_32 : decode cX1_row 32 = .ok (.getfield 29, 3) := by decide +kernel
theorem dX1_row_35 : decode cX1_row 35 = .ok (.iconst 1, 1) := by decide +kernel
theorem dX1_row_36 : decode cX1_row 36 = .ok (.iadd, 1) := by decide +kernel
theorem dX1_row_37 : decode cX1_row 37 = .ok (.putfield 29, 3) := by decide +kernel
theorem dX1_row_40 : decode cX1_row 40 = .ok (.aload_n 0, 1) := by decide +kernel
theorem dX1_row_41 : decode cX1_row 41 = .ok (.iconst 0, 1) := by decide +kernel
theorem dX1_row_42 : decode cX1_row 42 = .ok (.putfield 32, 3) := by decide +kernel
theorem dX1_row_45 : decode cX1_row 45 = .ok (.iconst 1, 1) := by decide +kernel
theorem dX1_row_46 : decode cX1_row 46 = .ok (.ireturn, 1) := by decide +kernel
abbrev cX1_drop : ByteArray := prog_3_method_4_code
def yX1_drop : MethodName := ⟨RX1, "drop", "()Z"⟩
theorem dX1_drop_0 : decode cX1_drop 0 = .ok (.aload_n 0, 1) := by decide +kernel
theorem dX1_drop_1 : decode cX1_drop 1 = .ok (.getfield 29, 3) := by decide +kernel
theorem dX1_drop_4 : decode cX1_drop 4 = .ok (.ifCond .ne 5, 3) := by decide +kernel
theorem dX1_drop_7 : decode cX1_drop 7 = .ok (.iconst 0, 1) := by decide +kernel
theorem dX1_drop_8 : decode cX1_drop 8 = .ok (.ireturn, 1) := by decide +kernel
theorem dX1_drop_9 : decode cX1_drop 9 = .ok (.aload_n 0, 1) := by decide +kernel
theorem dX1_drop_10 : decode cX1_drop 10 = .ok (.aload_n 0, 1) := by decide +kernel
theorem dX1_drop_11 : decode cX1_drop 11 = .ok (.getfield 29, 3) := by decide +kernel
theorem dX1_drop_14 : decode cX1_drop 14 = .ok (.iconst 1, 1) := by decide +kernel
theorem dX1_drop_15 : decode cX1_drop 15 = .ok (.isub, 1) := by decide +kernel
theorem dX1_drop_16 : decode cX1_drop 16 = .ok (.putfield 29, 3) := by decide +kernel
theorem dX1_drop_19 : decode cX1_drop 19 = .ok (.aload_n 0, 1) := by decide +kernel
theorem dX1_drop_20 : decode cX1_drop 20 = .ok (.iconst 0, 1) := by decide +kernel
theorem dX1_drop_21 : decode cX1_drop 21 = .ok (.putfield 32, 3) := by decide +kernel
theorem dX1_drop_24 : decode cX1_drop 24 = .ok (.iconst 1, 1) := by decide +kernel
theorem dX1_drop_25 : decode cX1_drop 25 = .ok (.ireturn, 1) := by decide +kernel
abbrev cX1_count : ByteArray := prog_3_method_6_code
def yX1_count : MethodName := ⟨RX1, "count", "()J"⟩
theorem dX1_count_0 : decode cX1_count 0 = .ok (.aload_n 0, 1) := by decide +kernel
theorem dX1_count_1 : decode cX1_count 1 = .ok (.invokevirtual 36, 3) := by decide +kernel
theorem dX1_count_4 : decode cX1_count 4 = .ok (.aload_n 0, 1) := by decide +kernel
theorem dX1_count_5 : decode cX1_count 5 = .ok (.getfield 18, 3) := by decide +kernel
theorem dX1_count_8 : decode cX1_count 8 = .ok (.iconst 1, 1) := by decide +kernel
theorem dX1_count_9 : decode cX1_count 9 = .ok (.aload_n 0, 1) := by decide +kernel
theorem dX1_count_10 : decode cX1_count 10 = .ok (.getfield 13, 3) := by decide +kernel
theorem dX1_count_13 : decode cX1_count 13 = .ok (.ishl, 1) := by decide +kernel
theorem dX1_count_14 : decode cX1_count 14 = .ok (.iconst 1, 1) := by decide +kernel
theorem dX1_count_15 : decode cX1_count 15 = .ok (.isub, 1) := by decide +kernel
theorem dX1_count_16 : decode cX1_count 16 = .ok (.laload, 1) := by decide +kernel
theorem dX1_count_17 : decode cX1_count 17 = .ok (.lreturn, 1) := by decide +kernel
abbrev cX1_reckon : ByteArray := prog_3_method_5_code
def yX1_reckon : MethodName := ⟨RX1, "reckon", "()V"⟩
theorem dX1_reckon_0 : decode cX1_reckon 0 = .ok (.aload_n 0, 1) := by decide +kernel
theorem dX1_reckon_1 : decode cX1_reckon 1 = .ok (.getfield 32, 3) := by decide +kernel
theorem dX1_reckon_4 : decode cX1_reckon 4 = .ok (.ifCond .eq 4, 3) := by decide +kernel
theorem dX1_reckon_7 : decode cX1_reckon 7 = .ok (.return_, 1) := by decide +kernel
theorem dX1_reckon_8 : decode cX1_reckon 8 = .ok (.aload_n 0, 1) := by decide +kernel
theorem dX1_reckon_9 : decode cX1_reckon 9 = .ok (.iconst 1, 1) := by decide +kernel
theorem dX1_reckon_10 : decode cX1_reckon 10 = .ok (.putfield 32, 3) := by decide +kernel
theorem dX1_reckon_13 : decode cX1_reckon 13 = .ok (.iconst 0, 1) := by decide +kernel
theorem dX1_reckon_14 : decode cX1_reckon 14 = .ok (.istore_n 1, 1) := by decide +kernel
theorem dX1_reckon_15 : decode cX1_reckon 15 = .ok (.iload_n 1, 1) := by decide +kernel
theorem dX1_reckon_16 : decode cX1_reckon 16 = .ok (.iconst 1, 1) := by decide +kernel
theorem dX1_reckon_17 : decode cX1_reckon 17 = .ok (.aload_n 0, 1) := by decide +kernel
theorem dX1_reckon_18 : decode cX1_reckon 18 = .ok (.getfield 13, 3) := by decide +kernel
theorem dX1_reckon_21 : decode cX1_reckon 21 = .ok (.ishl, 1) := by decide +kernel
theorem dX1_reckon_22 : decode cX1_reckon 22 = .ok (.if_icmp .ge 48, 3) := by decide +kernel
theorem dX1_reckon_25 : decode cX1_reckon 25 = .ok (.aload_n 0, 1) := by decide +kernel
theorem dX1_reckon_26 : decode cX1_reckon 26 = .ok (.getfield 18, 3) := by decide +kernel
theorem dX1_reckon_29 : decode cX1_reckon 29 = .ok (.sipush 4096, 3) := by decide +kernel
theorem dX1_reckon_32 : decode cX1_reckon 32 = .ok (.aload_n 0, 1) := by decide +kernel
theorem dX1_reckon_33 : decode cX1_reckon 33 = .ok (.getfield 29, 3) := by decide +kernel
theorem dX1_reckon_36 : decode cX1_reckon 36 = .ok (.imul, 1) := by decide +kernel
theorem dX1_reckon_37 : decode cX1_reckon 37 = .ok (.iload_n 1, 1) := by decide +kernel
theorem dX1_reckon_38 : decode cX1_reckon 38 = .ok (.iadd, 1) := by decide +kernel
theorem dX1_reckon_39 : decode cX1_reckon 39 = .ok (.iload_n 1, 1) := by decide +kernel
theorem dX1_reckon_40 : decode cX1_reckon 40 = .ok (.ifCond .ne 7, 3) := by decide +kernel
theorem dX1_reckon_43 : decode cX1_reckon 43 = .ok (.lconst 1, 1) := by decide +kernel
theorem dX1_reckon_44 : decode cX1_reckon 44 = .ok (.goto 4, 3) := by decide +kernel
theorem dX1_reckon_47 : decode cX1_reckon 47 = .ok (.lconst 0, 1) := by decide +kernel
theorem dX1_reckon_48 : decode cX1_reckon 48 = .ok (.lastore, 1) := by decide +kernel
theorem dX1_reckon_49 : decode cX1_reckon 49 = .ok (.aload_n 0, 1) := by decide +kernel
theorem dX1_reckon_50 : decode cX1_reckon 50 = .ok (.getfield 25, 3) := by decide +kernel
theorem dX1_reckon_53 : decode cX1_reckon 53 = .ok (.iload_n 1, 1) := by decide +kernel
theorem dX1_reckon_54 : decode cX1_reckon 54 = .ok (.iload_n 1, 1) := by decide +kernel
theorem dX1_reckon_55 : decode cX1_reckon 55 = .ok (.ifCond .ne 7, 3) := by decide +kernel
theorem dX1_reckon_58 : decode cX1_reckon 58 = .ok (.iconst 0, 1) := by decide +kernel
theorem dX1_reckon_59 : decode cX1_reckon 59 = .ok (.goto 4, 3) := by decide +kernel
theorem dX1_reckon_62 : decode cX1_reckon 62 = .ok (.iconst (-1), 1) := by decide +kernel
theorem dX1_reckon_63 : decode cX1_reckon 63 = .ok (.iastore, 1) := by decide +kernel
theorem dX1_reckon_64 : decode cX1_reckon 64 = .ok (.iinc 1 1, 3) := by decide +kernel
theorem dX1_reckon_67 : decode cX1_reckon 67 = .ok (.goto (-52), 3) := by decide +kernel
theorem dX1_reckon_70 : decode cX1_reckon 70 = .ok (.aload_n 0, 1) := by decide +kernel
theorem dX1_reckon_71 : decode cX1_reckon 71 = .ok (.getfield 29, 3) := by decide +kernel
theorem dX1_reckon_74 : decode cX1_reckon 74 = .ok (.iconst 1, 1) := by decide +kernel
theorem dX1_reckon_75 : decode cX1_reckon 75 = .ok (.isub, 1) := by decide +kernel
theorem dX1_reckon_76 : decode cX1_reckon 76 = .ok (.istore_n 1, 1) := by decide +kernel
theorem dX1_reckon_77 : decode cX1_reckon 77 = .ok (.iload_n 1, 1) := by decide +kernel
theorem dX1_reckon_78 : decode cX1_reckon 78 = .ok (.ifCond .lt 98, 3) := by decide +kernel
theorem dX1_reckon_81 : decode cX1_reckon 81 = .ok (.iconst 0, 1) := by decide +kernel
theorem dX1_reckon_82 : decode cX1_reckon 82 = .ok (.istore_n 2, 1) := by decide +kernel
theorem dX1_reckon_83 : decode cX1_reckon 83 = .ok (.iload_n 2, 1) := by decide +kernel
theorem dX1_reckon_84 : decode cX1_reckon 84 = .ok (.iconst 1, 1) := by decide +kernel
theorem dX1_reckon_85 : decode cX1_reckon 85 = .ok (.aload_n 0, 1) := by decide +kernel
theorem dX1_reckon_86 : decode cX1_reckon 86 = .ok (.getfield 13, 3) := by decide +kernel
theorem dX1_reckon_89 : decode cX1_reckon 89 = .ok (.ishl, 1) := by decide +kernel
theorem dX1_reckon_90 : decode cX1_reckon 90 = .ok (.if_icmp .ge 80, 3) := by decide +kernel
theorem dX1_reckon_93 : decode cX1_reckon 93 = .ok (.aload_n 0, 1) := by decide +kernel
theorem dX1_reckon_94 : decode cX1_reckon 94 = .ok (.getfield 18, 3) := by decide +kernel
theorem dX1_reckon_97 : decode cX1_reckon 97 = .ok (.sipush 4096, 3) := by decide +kernel
theorem dX1_reckon_100 : decode cX1_reckon 100 = .ok (.iload_n 1, 1) := by decide +kernel
theorem dX1_reckon_101 : decode cX1_reckon 101 = .ok (.imul, 1) := by decide +kernel
theorem dX1_reckon_102 : decode cX1_reckon 102 = .ok (.iload_n 2, 1) := by decide +kernel
theorem dX1_reckon_103 : decode cX1_reckon 103 = .ok (.iadd, 1) := by decide +kernel
theorem dX1_reckon_104 : decode cX1_reckon 104 = .ok (.aload_n 0, 1) := by decide +kernel
theorem dX1_reckon_105 : decode cX1_reckon 105 = .ok (.getfield 18, 3) := by decide +kernel
theorem dX1_reckon_108 : decode cX1_reckon 108 = .ok (.sipush 4096, 3) := by decide +kernel
theorem dX1_reckon_111 : decode cX1_reckon 111 = .ok (.iload_n 1, 1) := by decide +kernel
theorem dX1_reckon_112 : decode cX1_reckon 112 = .ok (.iconst 1, 1) := by decide +kernel
theorem dX1_reckon_113 : decode cX1_reckon 113 = .ok (.iadd, 1) := by decide +kernel
theorem dX1_reckon_114 : decode cX1_reckon 114 = .ok (.imul, 1) := by decide +kernel
theorem dX1_reckon_115 : decode cX1_reckon 115 = .ok (.iload_n 2, 1) := by decide +kernel
theorem dX1_reckon_116 : decode cX1_reckon 116 = .ok (.iadd, 1) := by decide +kernel
theorem dX1_reckon_117 : decode cX1_reckon 117 = .ok (.laload, 1) := by decide +kernel
theorem dX1_reckon_118 : decode cX1_reckon 118 = .ok (.iload_n 2, 1) := by decide +kernel
theorem dX1_reckon_119 : decode cX1_reckon 119 = .ok (.aload_n 0, 1) := by decide +kernel
theorem dX1_reckon_120 : decode cX1_reckon 120 = .ok (.getfield 7, 3) := by decide +kernel
theorem dX1_reckon_123 : decode cX1_reckon 123 = .ok (.iload_n 1, 1) := by decide +kernel
theorem dX1_reckon_124 : decode cX1_reckon 124 = .ok (.iaload, 1) := by decide +kernel
theorem dX1_reckon_125 : decode cX1_reckon 125 = .ok (.iand, 1) := by decide +kernel
theorem dX1_reckon_126 : decode cX1_reckon 126 = .ok (.aload_n 0, 1) := by decide +kernel
theorem dX1_reckon_127 : decode cX1_reckon 127 = .ok (.getfield 7, 3) := by decide +kernel
theorem dX1_reckon_130 : decode cX1_reckon 130 = .ok (.iload_n 1, 1) := by decide +kernel
theorem dX1_reckon_131 : decode cX1_reckon 131 = .ok (.iaload, 1) := by decide +kernel
theorem dX1_reckon_132 : decode cX1_reckon 132 = .ok (.if_icmp .ne 29, 3) := by decide +kernel
theorem dX1_reckon_135 : decode cX1_reckon 135 = .ok (.aload_n 0, 1) := by decide +kernel
theorem dX1_reckon_136 : decode cX1_reckon 136 = .ok (.getfield 18, 3) := by decide +kernel
theorem dX1_reckon_139 : decode cX1_reckon 139 = .ok (.sipush 4096, 3) := by decide +kernel
theorem dX1_reckon_142 : decode cX1_reckon 142 = .ok (.iload_n 1, 1) := by decide +kernel
theorem dX1_reckon_143 : decode cX1_reckon 143 = .ok (.iconst 1, 1) := by decide +kernel
theorem dX1_reckon_144 : decode cX1_reckon 144 = .ok (.iadd, 1) := by decide +kernel
theorem dX1_reckon_145 : decode cX1_reckon 145 = .ok (.imul, 1) := by decide +kernel
theorem dX1_reckon_146 : decode cX1_reckon 146 = .ok (.iload_n 2, 1) := by decide +kernel
theorem dX1_reckon_147 : decode cX1_reckon 147 = .ok (.aload_n 0, 1) := by decide +kernel
theorem dX1_reckon_148 : decode cX1_reckon 148 = .ok (.getfield 7, 3) := by decide +kernel
theorem dX1_reckon_151 : decode cX1_reckon 151 = .ok (.iload_n 1, 1) := by decide +kernel
theorem dX1_reckon_152 : decode cX1_reckon 152 = .ok (.iaload, 1) := by decide +kernel
theorem dX1_reckon_153 : decode cX1_reckon 153 = .ok (.iconst (-1), 1) := by decide +kernel
theorem dX1_reckon_154 : decode cX1_reckon 154 = .ok (.ixor, 1) := by decide +kernel
theorem dX1_reckon_155 : decode cX1_reckon 155 = .ok (.iand, 1) := by decide +kernel
theorem dX1_reckon_156 : decode cX1_reckon 156 = .ok (.iadd, 1) := by decide +kernel
theorem dX1_reckon_157 : decode cX1_reckon 157 = .ok (.laload, 1) := by decide +kernel
theorem dX1_reckon_158 : decode cX1_reckon 158 = .ok (.goto 4, 3) := by decide +kernel
theorem dX1_reckon_161 : decode cX1_reckon 161 = .ok (.lconst 0, 1) := by decide +kernel
theorem dX1_reckon_162 : decode cX1_reckon 162 = .ok (.ladd, 1) := by decide +kernel
theorem dX1_reckon_163 : decode cX1_reckon 163 = .ok (.lastore, 1) := by decide +kernel
theorem dX1_reckon_164 : decode cX1_reckon 164 = .ok (.iinc 2 1, 3) := by decide +kernel
theorem dX1_reckon_167 : decode cX1_reckon 167 = .ok (.goto (-84), 3) := by decide +kernel
theorem dX1_reckon_170 : decode cX1_reckon 170 = .ok (.iinc 1 (-1), 3) := by decide +kernel
theorem dX1_reckon_173 : decode cX1_reckon 173 = .ok (.goto (-96), 3) := by decide +kernel
theorem dX1_reckon_176 : decode cX1_reckon 176 = .ok (.iconst 0, 1) := by decide +kernel
theorem dX1_reckon_177 : decode cX1_reckon 177 = .ok (.istore_n 1, 1) := by decide +kernel
theorem dX1_reckon_178 : decode cX1_reckon 178 = .ok (.iload_n 1, 1) := by decide +kernel
theorem dX1_reckon_179 : decode cX1_reckon 179 = .ok (.aload_n 0, 1) := by decide +kernel
theorem dX1_reckon_180 : decode cX1_reckon 180 = .ok (.getfield 29, 3) := by decide +kernel
theorem dX1_reckon_183 : decode cX1_reckon 183 = .ok (.if_icmp .ge 121, 3) := by decide +kernel
theorem dX1_reckon_186 : decode cX1_reckon 186 = .ok (.iconst 1, 1) := by decide +kernel
theorem dX1_reckon_187 : decode cX1_reckon 187 = .ok (.aload_n 0, 1) := by decide +kernel
theorem dX1_reckon_188 : decode cX1_reckon 188 = .ok (.getfield 13, 3) := by decide +kernel
theorem dX1_reckon_191 : decode cX1_reckon 191 = .ok (.ishl, 1) := by decide +kernel
theorem dX1_reckon_192 : decode cX1_reckon 192 = .ok (.iconst 1, 1) := by decide +kernel
theorem dX1_reckon_193 : decode cX1_reckon 193 = .ok (.isub, 1) := by decide +kernel
theorem dX1_reckon_194 : decode cX1_reckon 194 = .ok (.istore_n 2, 1) := by decide +kernel
theorem dX1_reckon_195 : decode cX1_reckon 195 = .ok (.iload_n 2, 1) := by decide +kernel
theorem dX1_reckon_196 : decode cX1_reckon 196 = .ok (.ifCond .le 102, 3) := by decide +kernel
theorem dX1_reckon_199 : decode cX1_reckon 199 = .ok (.iload_n 2, 1) := by decide +kernel
theorem dX1_reckon_200 : decode cX1_reckon 200 = .ok (.aload_n 0, 1) := by decide +kernel
theorem dX1_reckon_201 : decode cX1_reckon 201 = .ok (.getfield 7, 3) := by decide +kernel
theorem dX1_reckon_204 : decode cX1_reckon 204 = .ok (.iload_n 1, 1) := by decide +kernel
theorem dX1_reckon_205 : decode cX1_reckon 205 = .ok (.iaload, 1) := by decide +kernel
theorem dX1_reckon_206 : decode cX1_reckon 206 = .ok (.iand, 1) := by decide +kernel
theorem dX1_reckon_207 : decode cX1_reckon 207 = .ok (.aload_n 0, 1) := by decide +kernel
theorem dX1_reckon_208 : decode cX1_reckon 208 = .ok (.getfield 7, 3) := by decide +kernel
theorem dX1_reckon_211 : decode cX1_reckon 211 = .ok (.iload_n 1, 1) := by decide +kernel
theorem dX1_reckon_212 : decode cX1_reckon 212 = .ok (.iaload, 1) := by decide +kernel
theorem dX1_reckon_213 : decode cX1_reckon 213 = .ok (.if_icmp .ne 79, 3) := by decide +kernel
theorem dX1_reckon_216 : decode cX1_reckon 216 = .ok (.aload_n 0, 1) := by decide +kernel
theorem dX1_reckon_217 : decode cX1_reckon 217 = .ok (.getfield 25, 3) := by decide +kernel
theorem dX1_reckon_220 : decode cX1_reckon 220 = .ok (.iload_n 2, 1) := by decide +kernel
theorem dX1_reckon_221 : decode cX1_reckon 221 = .ok (.aload_n 0, 1) := by decide +kernel
theorem dX1_reckon_222 : decode cX1_reckon 222 = .ok (.getfield 7, 3) := by decide +kernel
theorem dX1_reckon_225 : decode cX1_reckon 225 = .ok (.iload_n 1, 1) := by decide +kernel
theorem dX1_reckon_226 : decode cX1_reckon 226 = .ok (.iaload, 1) := by decide +kernel
theorem dX1_reckon_227 : decode cX1_reckon 227 = .ok (.iconst (-1), 1) := by decide +kernel
theorem dX1_reckon_228 : decode cX1_reckon 228 = .ok (.ixor, 1) := by decide +kernel
theorem dX1_reckon_229 : decode cX1_reckon 229 = .ok (.iand, 1) := by decide +kernel
theorem dX1_reckon_230 : decode cX1_reckon 230 = .ok (.iaload, 1) := by decide +kernel
theorem dX1_reckon_231 : decode cX1_reckon 231 = .ok (.ifCond .lt 61, 3) := by decide +kernel
theorem dX1_reckon_234 : decode cX1_reckon 234 = .ok (.aload_n 0, 1) := by decide +kernel
theorem dX1_reckon_235 : decode cX1_reckon 235 = .ok (.getfield 25, 3) := by decide +kernel
theorem dX1_reckon_238 : decode cX1_reckon 238 = .ok (.iload_n 2, 1) := by decide +kernel
theorem dX1_reckon_239 : decode cX1_reckon 239 = .ok (.iaload, 1) := by decide +kernel
theorem dX1_reckon_240 : decode cX1_reckon 240 = .ok (.ifCond .lt 29, 3) := by decide +kernel
theorem dX1_reckon_243 : decode cX1_reckon 243 = .ok (.aload_n 0, 1) := by decide +kernel
theorem dX1_reckon_244 : decode cX1_reckon 244 = .ok (.getfield 25, 3) := by decide +kernel
theorem dX1_reckon_247 : decode cX1_reckon 247 = .ok (.iload_n 2, 1) := by decide +kernel
theorem dX1_reckon_248 : decode cX1_reckon 248 = .ok (.aload_n 0, 1) := by decide +kernel
theorem dX1_reckon_249 : decode cX1_reckon 249 = .ok (.getfield 7, 3) := by decide +kernel
theorem dX1_reckon_252 : decode cX1_reckon 252 = .ok (.iload_n 1, 1) := by decide +kernel
theorem dX1_reckon_253 : decode cX1_reckon 253 = .ok (.iaload, 1) := by decide +kernel
theorem dX1_reckon_254 : decode cX1_reckon 254 = .ok (.iconst (-1), 1) := by decide +kernel
theorem dX1_reckon_255 : decode cX1_reckon 255 = .ok (.ixor, 1) := by decide +kernel
theorem dX1_reckon_256 : decode cX1_reckon 256 = .ok (.iand, 1) := by decide +kernel
theorem dX1_reckon_257 : decode cX1_reckon 257 = .ok (.iaload, 1) := by decide +kernel
theorem dX1_reckon_258 : decode cX1_reckon 258 = .ok (.iconst 1, 1) := by decide +kernel
theorem dX1_reckon_259 : decode cX1_reckon 259 = .ok (.iadd, 1) := by decide +kernel
theorem dX1_reckon_260 : decode cX1_reckon 260 = .ok (.aload_n 0, 1) := by decide +kernel
theorem dX1_reckon_261 : decode cX1_reckon 261 = .ok (.getfield 25, 3) := by decide +kernel
theorem dX1_reckon_264 : decode cX1_reckon 264 = .ok (.iload_n 2, 1) := by decide +kernel
theorem dX1_reckon_265 : decode cX1_reckon 265 = .ok (.iaload, 1) := by decide +kernel
theorem dX1_reckon_266 : decode cX1_reckon 266 = .ok (.if_icmp .ge 26, 3) := by decide +kernel
theorem dX1_reckon_269 : decode cX1_reckon 269 = .ok (.aload_n 0, 1) := by decide +kernel
theorem dX1_reckon_270 : decode cX1_reckon 270 = .ok (.getfield 25, 3) := by decide +kernel
theorem dX1_reckon_273 : decode cX1_reckon 273 = .ok (.iload_n 2, 1) := by decide +kernel
theorem dX1_reckon_274 : decode cX1_reckon 274 = .ok (.aload_n 0, 1) := by decide +kernel
theorem dX1_reckon_275 : decode cX1_reckon 275 = .ok (.getfield 25, 3) := by decide +kernel
theorem dX1_reckon_278 : decode cX1_reckon 278 = .ok (.iload_n 2, 1) := by decide +kernel
theorem dX1_reckon_279 : decode cX1_reckon 279 = .ok (.aload_n 0, 1) := by decide +kernel
theorem dX1_reckon_280 : decode cX1_reckon 280 = .ok (.getfield 7, 3) := by decide +kernel
theorem dX1_reckon_283 : decode cX1_reckon 283 = .ok (.iload_n 1, 1) := by decide +kernel
theorem dX1_reckon_284 : decode cX1_reckon 284 = .ok (.iaload, 1) := by decide +kernel
theorem dX1_reckon_285 : decode cX1_reckon 285 = .ok (.iconst (-1), 1) := by decide +kernel
theorem dX1_reckon_286 : decode cX1_reckon 286 = .ok (.ixor, 1) := by decide +kernel
theorem dX1_reckon_287 : decode cX1_reckon 287 = .ok (.iand, 1) := by decide +kernel
theorem dX1_reckon_288 : decode cX1_reckon 288 = .ok (.iaload, 1) := by decide +kernel
theorem dX1_reckon_289 : decode cX1_reckon 289 = .ok (.iconst 1, 1) := by decide +kernel
theorem dX1_reckon_290 : decode cX1_reckon 290 = .ok (.iadd, 1) := by decide +kernel
theorem dX1_reckon_291 : decode cX1_reckon 291 = .ok (.iastore, 1) := by decide +kernel
theorem dX1_reckon_292 : decode cX1_reckon 292 = .ok (.iinc 2 (-1), 3) := by decide +kernel
theorem dX1_reckon_295 : decode cX1_reckon 295 = .ok (.goto (-100), 3) := by decide +kernel
theorem dX1_reckon_298 : decode cX1_reckon 298 = .ok (.iinc 1 1, 3) := by decide +kernel
theorem dX1_reckon_301 : decode cX1_reckon 301 = .ok (.goto (-123), 3) := by decide +kernel
theorem dX1_reckon_304 : decode cX1_reckon 304 = .ok (.return_, 1) := by decide +kernel
abbrev cX1_first : ByteArray := prog_3_method_7_code
def yX1_first : MethodName := ⟨RX1, "first", "()I"⟩
theorem dX1_first_0 : decode cX1_first 0 = .ok (.aload_n 0, 1) := by decide +kernel
theorem dX1_first_1 : decode cX1_first 1 = .ok (.invokevirtual 36, 3) := by decide +kernel
theorem dX1_first_4 : decode cX1_first 4 = .ok (.iconst 1, 1) := by decide +kernel
theorem dX1_first_5 : decode cX1_first 5 = .ok (.aload_n 0, 1) := by decide +kernel
theorem dX1_first_6 : decode cX1_first 6 = .ok (.getfield 13, 3) := by decide +kernel
theorem dX1_first_9 : decode cX1_first 9 = .ok (.ishl, 1) := by decide +kernel
theorem dX1_first_10 : decode cX1_first 10 = .ok (.iconst 1, 1) := by decide +kernel
theorem dX1_first_11 : decode cX1_first 11 = .ok (.isub, 1) := by decide +kernel
theorem dX1_first_12 : decode cX1_first 12 = .ok (.istore_n 1, 1) := by decide +kernel
theorem dX1_first_13 : decode cX1_first 13 = .ok (.iconst 0, 1) := by decide +kernel
theorem dX1_first_14 : decode cX1_first 14 = .ok (.istore_n 2, 1) := by decide +kernel
theorem dX1_first_15 : decode cX1_first 15 = .ok (.aload_n 0, 1) := by decide +kernel
theorem dX1_first_16 : decode cX1_first 16 = .ok (.getfield 18, 3) := by decide +kernel
theorem dX1_first_19 : decode cX1_first 19 = .ok (.iload_n 1, 1) := by decide +kernel
theorem dX1_first_20 : decode cX1_first 20 = .ok (.laload, 1) := by decide +kernel
theorem dX1_first_21 : decode cX1_first 21 = .ok (.lconst 0, 1) := by decide +kernel
theorem dX1_first_22 : decode cX1_first 22 = .ok (.lcmp, 1) := by decide +kernel
theorem dX1_first_23 : decode cX1_first 23 = .ok (.ifCond .ne 5, 3) := by decide +kernel
theorem dX1_first_26 : decode cX1_first 26 = .ok (.iconst (-1), 1) := by decide +kernel
theorem dX1_first_27 : decode cX1_first 27 = .ok (.ireturn, 1) := by decide +kernel
theorem dX1_first_28 : decode cX1_first 28 = .ok (.iconst 0, 1) := by decide +kernel
theorem dX1_first_29 : decode cX1_first 29 = .ok (.istore_n 3, 1) := by decide +kernel
theorem dX1_first_30 : decode cX1_first 30 = .ok (.iload_n 3, 1) := by decide +kernel
theorem dX1_first_31 : decode cX1_first 31 = .ok (.aload_n 0, 1) := by decide +kernel
theorem dX1_first_32 : decode cX1_first 32 = .ok (.getfield 29, 3) := by decide +kernel
theorem dX1_first_35 : decode cX1_first 35 = .ok (.if_icmp .ge 71, 3) := by decide +kernel
theorem dX1_first_38 : decode cX1_first 38 = .ok (.iload_n 1, 1) := by decide +kernel
theorem dX1_first_39 : decode cX1_first 39 = .ok (.aload_n 0, 1) := by decide +kernel
theorem dX1_first_40 : decode cX1_first 40 = .ok (.getfield 7, 3) := by decide +kernel
theorem dX1_first_43 : decode cX1_first 43 = .ok (.iload_n 3, 1) := by decide +kernel
theorem dX1_first_44 : decode cX1_first 44 = .ok (.iaload, 1) := by decide +kernel
theorem dX1_first_45 : decode cX1_first 45 = .ok (.iand, 1) := by decide +kernel
theorem dX1_first_46 : decode cX1_first 46 = .ok (.aload_n 0, 1) := by decide +kernel
theorem dX1_first_47 : decode cX1_first 47 = .ok (.getfield 7, 3) := by decide +kernel
theorem dX1_first_50 : decode cX1_first 50 = .ok (.iload_n 3, 1) := by decide +kernel
theorem dX1_first_51 : decode cX1_first 51 = .ok (.iaload, 1) := by decide +kernel
theorem dX1_first_52 : decode cX1_first 52 = .ok (.if_icmp .ne 48, 3) := by decide +kernel
theorem dX1_first_55 : decode cX1_first 55 = .ok (.aload_n 0, 1) := by decide +kernel
theorem dX1_first_56 : decode cX1_first 56 = .ok (.getfield 18, 3) := by decide +kernel
theorem dX1_first_59 : decode cX1_first 59 = .ok (.sipush 4096, 3) := by decide +kernel
theorem dX1_first_62 : decode cX1_first 62 = .ok (.iload_n 3, 1) := by decide +kernel
theorem dX1_first_63 : decode cX1_first 63 = .ok (.iconst 1, 1) := by decide +kernel
theorem dX1_first_64 : decode cX1_first 64 = .ok (.iadd, 1) := by decide +kernel
theorem dX1_first_65 : decode cX1_first 65 = .ok (.imul, 1) := by decide +kernel
theorem dX1_first_66 : decode cX1_first 66 = .ok (.iload_n 1, 1) := by decide +kernel
theorem dX1_first_67 : decode cX1_first 67 = .ok (.aload_n 0, 1) := by decide +kernel
theorem dX1_first_68 : decode cX1_first 68 = .ok (.getfield 7, 3) := by decide +kernel
theorem dX1_first_71 : decode cX1_first 71 = .ok (.iload_n 3, 1) := by decide +kernel
theorem dX1_first_72 : decode cX1_first 72 = .ok (.iaload, 1) := by decide +kernel
theorem dX1_first_73 : decode cX1_first 73 = .ok (.iconst (-1), 1) := by decide +kernel
theorem dX1_first_74 : decode cX1_first 74 = .ok (.ixor, 1) := by decide +kernel
theorem dX1_first_75 : decode cX1_first 75 = .ok (.iand, 1) := by decide +kernel
theorem dX1_first_76 : decode cX1_first 76 = .ok (.iadd, 1) := by decide +kernel
theorem dX1_first_77 : decode cX1_first 77 = .ok (.laload, 1) := by decide +kernel
theorem dX1_first_78 : decode cX1_first 78 = .ok (.lconst 0, 1) := by decide +kernel
theorem dX1_first_79 : decode cX1_first 79 = .ok (.lcmp, 1) := by decide +kernel
theorem dX1_first_80 : decode cX1_first 80 = .ok (.ifCond .le 20, 3) := by decide +kernel
theorem dX1_first_83 : decode cX1_first 83 = .ok (.iload_n 2, 1) := by decide +kernel
theorem dX1_first_84 : decode cX1_first 84 = .ok (.iconst 1, 1) := by decide +kernel
theorem dX1_first_85 : decode cX1_first 85 = .ok (.iload_n 3, 1) := by decide +kernel
theorem dX1_first_86 : decode cX1_first 86 = .ok (.ishl, 1) := by decide +kernel
theorem dX1_first_87 : decode cX1_first 87 = .ok (.ior, 1) := by decide +kernel
theorem dX1_first_88 : decode cX1_first 88 = .ok (.istore_n 2, 1) := by decide +kernel
theorem dX1_first_89 : decode cX1_first 89 = .ok (.iload_n 1, 1) := by decide +kernel
theorem dX1_first_90 : decode cX1_first 90 = .ok (.aload_n 0, 1) := by decide +kernel
theorem dX1_first_91 : decode cX1_first 91 = .ok (.getfield 7, 3) := by decide +kernel
theorem dX1_first_94 : decode cX1_first 94 = .ok (.iload_n 3, 1) := by decide +kernel
theorem dX1_first_95 : decode cX1_first 95 = .ok (.iaload, 1) := by decide +kernel
theorem dX1_first_96 : decode cX1_first 96 = .ok (.iconst (-1), 1) := by decide +kernel
theorem dX1_first_97 : decode cX1_first 97 = .ok (.ixor, 1) := by decide +kernel
theorem dX1_first_98 : decode cX1_first 98 = .ok (.iand, 1) := by decide +kernel
theorem dX1_first_99 : decode cX1_first 99 = .ok (.istore_n 1, 1) := by decide +kernel
theorem dX1_first_100 : decode cX1_first 100 = .ok (.iinc 3 1, 3) := by decide +kernel
theorem dX1_first_103 : decode cX1_first 103 = .ok (.goto (-73), 3) := by decide +kernel
theorem dX1_first_106 : decode cX1_first 106 = .ok (.iload_n 2, 1) := by decide +kernel
theorem dX1_first_107 : decode cX1_first 107 = .ok (.ireturn, 1) := by decide +kernel
abbrev cX1_with : ByteArray := prog_3_method_8_code
def yX1_with : MethodName := ⟨RX1, "with", "(I)J"⟩
theorem dX1_with_0 : decode cX1_with 0 = .ok (.aload_n 0, 1) := by decide +kernel
theorem dX1_with_1 : decode cX1_with 1 = .ok (.getfield 29, 3) := by decide +kernel
theorem dX1_with_4 : decode cX1_with 4 = .ok (.ifCond .ne 5, 3) := by decide +kernel
theorem dX1_with_7 : decode cX1_with 7 = .ok (.lconst 0, 1) := by decide +kernel
theorem dX1_with_8 : decode cX1_with 8 = .ok (.lreturn, 1) := by decide +kernel
theorem dX1_with_9 : decode cX1_with 9 = .ok (.iload_n 1, 1) := by decide +kernel
theorem dX1_with_10 : decode cX1_with 10 = .ok (.ldc 28, 2) := by decide +kernel
theorem dX1_with_12 : decode cX1_with 12 = .ok (.iand, 1) := by decide +kernel
theorem dX1_with_13 : decode cX1_with 13 = .ok (.aload_n 0, 1) := by decide +kernel
theorem dX1_with_14 : decode cX1_with 14 = .ok (.getfield 29, 3) := by decide +kernel
theorem dX1_with_17 : decode cX1_with 17 = .ok (.irem, 1) := by decide +kernel
theorem dX1_with_18 : decode cX1_with 18 = .ok (.istore_n 2, 1) := by decide +kernel
theorem dX1_with_19 : decode cX1_with 19 = .ok (.iconst 0, 1) := by decide +kernel
theorem dX1_with_20 : decode cX1_with 20 = .ok (.istore_n 3, 1) := by decide +kernel
theorem dX1_with_21 : decode cX1_with 21 = .ok (.iload_n 3, 1) := by decide +kernel
theorem dX1_with_22 : decode cX1_with 22 = .ok (.iconst 1, 1) := by decide +kernel
theorem dX1_with_23 : decode cX1_with 23 = .ok (.aload_n 0, 1) := by decide +kernel
theorem dX1_with_24 : decode cX1_with 24 = .ok (.getfield 13, 3) := by decide +kernel
theorem dX1_with_27 : decode cX1_with 27 = .ok (.ishl, 1) := by decide +kernel
theorem dX1_with_28 : decode cX1_with 28 = .ok (.if_icmp .ge 24, 3) := by decide +kernel
theorem dX1_with_31 : decode cX1_with 31 = .ok (.aload_n 0, 1) := by decide +kernel
theorem dX1_with_32 : decode cX1_with 32 = .ok (.getfield 22, 3) := by decide +kernel
theorem dX1_with_35 : decode cX1_with 35 = .ok (.iload_n 3, 1) := by decide +kernel
theorem dX1_with_36 : decode cX1_with 36 = .ok (.iload_n 3, 1) := by decide +kernel
theorem dX1_with_37 : decode cX1_with 37 = .ok (.ifCond .ne 7, 3) := by decide +kernel
theorem dX1_with_40 : decode cX1_with 40 = .ok (.lconst 1, 1) := by decide +kernel
theorem dX1_with_41 : decode cX1_with 41 = .ok (.goto 4, 3) := by decide +kernel
theorem dX1_with_44 : decode cX1_with 44 = .ok (.lconst 0, 1) := by decide +kernel
theorem dX1_with_45 : decode cX1_with 45 = .ok (.lastore, 1) := by decide +kernel
theorem dX1_with_46 : decode cX1_with 46 = .ok (.iinc 3 1, 3) := by decide +kernel
theorem dX1_with_49 : decode cX1_with 49 = .ok (.goto (-28), 3) := by decide +kernel
theorem dX1_with_52 : decode cX1_with 52 = .ok (.iconst 0, 1) := by decide +kernel
theorem dX1_with_53 : decode cX1_with 53 = .ok (.istore_n 3, 1) := by decide +kernel
theorem dX1_with_54 : decode cX1_with 54 = .ok (.iload_n 3, 1) := by decide +kernel
theorem dX1_with_55 : decode cX1_with 55 = .ok (.aload_n 0, 1) := by decide +kernel
theorem dX1_with_56 : decode cX1_with 56 = .ok (.getfield 29, 3) := by decide +kernel
theorem dX1_with_59 : decode cX1_with 59 = .ok (.if_icmp .ge 84, 3) := by decide +kernel
theorem dX1_with_62 : decode cX1_with 62 = .ok (.iload_n 3, 1) := by decide +kernel
theorem dX1_with_63 : decode cX1_with 63 = .ok (.iload_n 2, 1) := by decide +kernel
theorem dX1_with_64 : decode cX1_with 64 = .ok (.if_icmp .eq 73, 3) := by decide +kernel
theorem dX1_with_67 : decode cX1_with 67 = .ok (.iconst 1, 1) := by decide +kernel
theorem dX1_with_68 : decode cX1_with 68 = .ok (.aload_n 0, 1) := by decide +kernel
theorem dX1_with_69 : decode cX1_with 69 = .ok (.getfield 13, 3) := by decide +kernel
theorem dX1_with_72 : decode cX1_with 72 = .ok (.ishl, 1) := by decide +kernel
theorem dX1_with_73 : decode cX1_with 73 = .ok (.iconst 1, 1) := by decide +kernel
theorem dX1_with_74 : decode cX1_with 74 = .ok (.isub, 1) := by decide +kernel
theorem dX1_with_75 : decode cX1_with 75 = .ok (.istore 4, 2) := by decide +kernel
theorem dX1_with_77 : decode cX1_with 77 = .ok (.iload 4, 2) := by decide +kernel
theorem dX1_with_79 : decode cX1_with 79 = .ok (.ifCond .lt 58, 3) := by decide +kernel
theorem dX1_with_82 : decode cX1_with 82 = .ok (.iload 4, 2) := by decide +kernel
theorem dX1_with_84 : decode cX1_with 84 = .ok (.aload_n 0, 1) := by decide +kernel
theorem dX1_with_85 : decode cX1_with 85 = .ok (.getfield 7, 3) := by decide +kernel
theorem dX1_with_88 : decode cX1_with 88 = .ok (.iload_n 3, 1) := by decide +kernel
theorem dX1_with_89 : decode cX1_with 89 = .ok (.iaload, 1) := by decide +kernel
theorem dX1_with_90 : decode cX1_with 90 = .ok (.iand, 1) := by decide +kernel
theorem dX1_with_91 : decode cX1_with 91 = .ok (.aload_n 0, 1) := by decide +kernel
theorem dX1_with_92 : decode cX1_with 92 = .ok (.getfield 7, 3) := by decide +kernel
theorem dX1_with_95 : decode cX1_with 95 = .ok (.iload_n 3, 1) := by decide +kernel
theorem dX1_with_96 : decode cX1_with 96 = .ok (.iaload, 1) := by decide +kernel
theorem dX1_with_97 : decode cX1_with 97 = .ok (.if_icmp .ne 34, 3) := by decide +kernel
theorem dX1_with_100 : decode cX1_with 100 = .ok (.aload_n 0, 1) := by decide +kernel
theorem dX1_with_101 : decode cX1_with 101 = .ok (.getfield 22, 3) := by decide +kernel
theorem dX1_with_104 : decode cX1_with 104 = .ok (.iload 4, 2) := by decide +kernel
theorem dX1_with_106 : decode cX1_with 106 = .ok (.aload_n 0, 1) := by decide +kernel
theorem dX1_with_107 : decode cX1_with 107 = .ok (.getfield 22, 3) := by decide +kernel
theorem dX1_with_110 : decode cX1_with 110 = .ok (.iload 4, 2) := by decide +kernel
theorem dX1_with_112 : decode cX1_with 112 = .ok (.laload, 1) := by decide +kernel
theorem dX1_with_113 : decode cX1_with 113 = .ok (.aload_n 0, 1) := by decide +kernel
theorem dX1_with_114 : decode cX1_with 114 = .ok (.getfield 22, 3) := by decide +kernel
theorem dX1_with_117 : decode cX1_with 117 = .ok (.iload 4, 2) := by decide +kernel
theorem dX1_with_119 : decode cX1_with 119 = .ok (.aload_n 0, 1) := by decide +kernel
theorem dX1_with_120 : decode cX1_with 120 = .ok (.getfield 7, 3) := by decide +kernel
theorem dX1_with_123 : decode cX1_with 123 = .ok (.iload_n 3, 1) := by decide +kernel
theorem dX1_with_124 : decode cX1_with 124 = .ok (.iaload, 1) := by decide +kernel
theorem dX1_with_125 : decode cX1_with 125 = .ok (.iconst (-1), 1) := by decide +kernel
theorem dX1_with_126 : decode cX1_with 126 = .ok (.ixor, 1) := by decide +kernel
theorem dX1_with_127 : decode cX1_with 127 = .ok (.iand, 1) := by decide +kernel
theorem dX1_with_128 : decode cX1_with 128 = .ok (.laload, 1) := by decide +kernel
theorem dX1_with_129 : decode cX1_with 129 = .ok (.ladd, 1) := by decide +kernel
theorem dX1_with_130 : decode cX1_with 130 = .ok (.lastore, 1) := by decide +kernel
theorem dX1_with_131 : decode cX1_with 131 = .ok (.iinc 4 (-1), 3) := by decide +kernel
theorem dX1_with_134 : decode cX1_with 134 = .ok (.goto (-57), 3) := by decide +kernel
theorem dX1_with_137 : decode cX1_with 137 = .ok (.iinc 3 1, 3) := by decide +kernel
theorem dX1_with_140 : decode cX1_with 140 = .ok (.goto (-86), 3) := by decide +kernel
theorem dX1_with_143 : decode cX1_with 143 = .ok (.aload_n 0, 1) := by decide +kernel
theorem dX1_with_144 : decode cX1_with 144 = .ok (.invokevirtual 39, 3) := by decide +kernel
theorem dX1_with_147 : decode cX1_with 147 = .ok (.aload_n 0, 1) := by decide +kernel
theorem dX1_with_148 : decode cX1_with 148 = .ok (.getfield 22, 3) := by decide +kernel
theorem dX1_with_151 : decode cX1_with 151 = .ok (.iconst 1, 1) := by decide +kernel
theorem dX1_with_152 : decode cX1_with 152 = .ok (.aload_n 0, 1) := by decide +kernel
theorem dX1_with_153 : decode cX1_with 153 = .ok (.getfield 13, 3) := by decide +kernel
theorem dX1_with_156 : decode cX1_with 156 = .ok (.ishl, 1) := by decide +kernel
theorem dX1_with_157 : decode cX1_with 157 = .ok (.iconst 1, 1) := by decide +kernel
theorem dX1_with_158 : decode cX1_with 158 = .ok (.isub, 1) := by decide +kernel
theorem dX1_with_159 : decode cX1_with 159 = .ok (.laload, 1) := by decide +kernel
theorem dX1_with_160 : decode cX1_with 160 = .ok (.lsub, 1) := by decide +kernel
theorem dX1_with_161 : decode cX1_with 161 = .ok (.lreturn, 1) := by decide +kernel
abbrev cX1_least : ByteArray := prog_3_method_9_code
def yX1_least : MethodName := ⟨RX1, "least", "()I"⟩
theorem dX1_least_0 : decode cX1_least 0 = .ok (.aload_n 0, 1) := by decide +kernel
theorem dX1_least_1 : decode cX1_least 1 = .ok (.invokevirtual 36, 3) := by decide +kernel
theorem dX1_least_4 : decode cX1_least 4 = .ok (.aload_n 0, 1) := by decide +kernel
theorem dX1_least_5 : decode cX1_least 5 = .ok (.getfield 25, 3) := by decide +kernel
theorem dX1_least_8 : decode cX1_least 8 = .ok (.iconst 1, 1) := by decide +kernel
theorem dX1_least_9 : decode cX1_least 9 = .ok (.aload_n 0, 1) := by decide +kernel
theorem dX1_least_10 : decode cX1_least 10 = .ok (.getfield 13, 3) := by decide +kernel
theorem dX1_least_13 : decode cX1_least 13 = .ok (.ishl, 1) := by decide +kernel
theorem dX1_least_14 : decode cX1_least 14 = .ok (.iconst 1, 1) := by decide +kernel
theorem dX1_least_15 : decode cX1_least 15 = .ok (.isub, 1) := by decide +kernel
theorem dX1_least_16 : decode cX1_least 16 = .ok (.iaload, 1) := by decide +kernel
theorem dX1_least_17 : decode cX1_least 17 = .ok (.ireturn, 1) := by decide +kernel
theorem q5 : (Jvm.Cond.initialized "TileDeskModel") ∈ lw_all := lw_g (lw_at lw_m0 2 rfl) rfl
theorem q75 : (Jvm.Cond.instantiable "TileDeskModel" (7 : Nat)) ∈ lw_all := lw_g (lw_at lw_m0 72 rfl) rfl
theorem q77 : (Jvm.Cond.instanceMethod ({ cls := "TileDeskModel", name := "<init>", desc := "()V" } : Jvm.MethodName)) ∈ lw_all := lw_g (lw_at lw_m0 74 rfl) rfl
theorem q78 : (Jvm.Cond.code ({ cls := "TileDeskModel", name := "<init>", desc := "()V" } : Jvm.MethodName) prog_3_method_1_code (1 : Nat) (Option.none : Option Jvm.ClassFile.FieldType)) ∈ lw_all := lw_g (lw_at lw_m0 75 rfl) rfl
theorem q79 : (Jvm.Cond.methodLink "TileDeskModel" (1 : Nat) ({ cls := "java/lang/Object", name := "<init>", desc := "()V" } : Jvm.MethodName)) ∈ lw_all := lw_g (lw_at lw_m0 76 rfl) rfl
theorem q80 : (Jvm.Cond.constant "TileDeskModel" (17 : Nat) (102400 : Int32)) ∈ lw_all := lw_g (lw_at lw_m0 77 rfl) rfl
theorem q81 : (Jvm.Cond.fieldLink "TileDeskModel" (7 : Nat) "TileDeskModel" "row" "[I") ∈ lw_all := lw_g (lw_at lw_m0 78 rfl) rfl
theorem q82 : (Jvm.Cond.fieldLink "TileDeskModel" (29 : Nat) "TileDeskModel" "rows" "I") ∈ lw_all := lw_g (lw_at lw_m0 79 rfl) rfl
theorem q83 : (Jvm.Cond.fieldLink "TileDeskModel" (13 : Nat) "TileDeskModel" "n" "I") ∈ lw_all := lw_g (lw_at lw_m0 80 rfl) rfl
theorem q84 : (Jvm.Cond.fieldLink "TileDeskModel" (32 : Nat) "TileDeskModel" "known" "Z") ∈ lw_all := lw_g (lw_at lw_m0 81 rfl) rfl
theorem q85 : (Jvm.Cond.fieldLink "TileDeskModel" (18 : Nat) "TileDeskModel" "ways" "[J") ∈ lw_all := lw_g (lw_at lw_m0 82 rfl) rfl
theorem q86 : (Jvm.Cond.fieldLink "TileDeskModel" (22 : Nat) "TileDeskModel" "other" "[J") ∈ lw_all := lw_g (lw_at lw_m0 83 rfl) rfl
theorem q87 : (Jvm.Cond.fieldLink "TileDeskModel" (25 : Nat) "TileDeskModel" "size" "[I") ∈ lw_all := lw_g (lw_at lw_m0 84 rfl) rfl
theorem q88 : (Jvm.Cond.laysFinal "TileDeskModel" "TileDeskModel" "row" "[I") ∈ lw_all := lw_g (lw_at lw_m0 85 rfl) rfl
theorem q89 : (Jvm.Cond.soleField "TileDeskModel" "row") ∈ lw_all := lw_g (lw_at lw_m0 86 rfl) rfl
theorem q90 : (Jvm.Cond.lays "TileDeskModel" "TileDeskModel" "rows" "I") ∈ lw_all := lw_g (lw_at lw_m0 87 rfl) rfl
theorem q91 : (Jvm.Cond.soleField "TileDeskModel" "rows") ∈ lw_all := lw_g (lw_at lw_m0 88 rfl) rfl
theorem q92 : (Jvm.Cond.lays "TileDeskModel" "TileDeskModel" "n" "I") ∈ lw_all := lw_g (lw_at lw_m0 89 rfl) rfl
theorem q93 : (Jvm.Cond.soleField "TileDeskModel" "n") ∈ lw_all := lw_g (lw_at lw_m0 90 rfl) rfl
theorem q94 : (Jvm.Cond.lays "TileDeskModel" "TileDeskModel" "known" "Z") ∈ lw_all := lw_g (lw_at lw_m0 91 rfl) rfl
theorem q95 : (Jvm.Cond.soleField "TileDeskModel" "known") ∈ lw_all := lw_g (lw_at lw_m0 92 rfl) rfl
theorem q96 : (Jvm.Cond.laysFinal "TileDeskModel" "TileDeskModel" "ways" "[J") ∈ lw_all := lw_g (lw_at lw_m0 93 rfl) rfl
theorem q97 : (Jvm.Cond.soleField "TileDeskModel" "ways") ∈ lw_all := lw_g (lw_at lw_m0 94 rfl) rfl
theorem q98 : (Jvm.Cond.laysFinal "TileDeskModel" "TileDeskModel" "other" "[J") ∈ lw_all := lw_g (lw_at lw_m0 95 rfl) rfl
theorem q99 : (Jvm.Cond.soleField "TileDeskModel" "other") ∈ lw_all := lw_g (lw_at lw_m0 96 rfl) rfl
theorem q100 : (Jvm.Cond.laysFinal "TileDeskModel" "TileDeskModel" "size" "[I") ∈ lw_all := lw_g (lw_at lw_m0 97 rfl) rfl
theorem q101 : (Jvm.Cond.soleField "TileDeskModel" "size") ∈ lw_all := lw_g (lw_at lw_m0 98 rfl) rfl
theorem q102 : (Jvm.Cond.superclass "TileDeskModel" "java/lang/Object") ∈ lw_all := lw_g (lw_at lw_m0 99 rfl) rfl
theorem q104 : (Jvm.Cond.instanceMethod ({ cls := "TileDeskModel", name := "columns", desc := "(I)V" } : Jvm.MethodName)) ∈ lw_all := lw_g (lw_at lw_m0 101 rfl) rfl
theorem q105 : (Jvm.Cond.selects "TileDeskModel" ({ cls := "TileDeskModel", name := "columns", desc := "(I)V" } : Jvm.MethodName) ({ cls := "TileDeskModel", name := "columns", desc := "(I)V" } : Jvm.MethodName)) ∈ lw_all := lw_g (lw_at lw_m0 102 rfl) rfl
theorem q106 : (Jvm.Cond.code ({ cls := "TileDeskModel", name := "columns", desc := "(I)V" } : Jvm.MethodName) prog_3_method_2_code (2 : Nat) (Option.none : Option Jvm.ClassFile.FieldType)) ∈ lw_all := lw_g (lw_at lw_m0 103 rfl) rfl
theorem q107 : (Jvm.Cond.constant "TileDeskModel" (28 : Nat) (2147483647 : Int32)) ∈ lw_all := lw_g (lw_at lw_m0 104 rfl) rfl
theorem q109 : (Jvm.Cond.instanceMethod ({ cls := "TileDeskModel", name := "row", desc := "(I)Z" } : Jvm.MethodName)) ∈ lw_all := lw_g (lw_at lw_m0 106 rfl) rfl
theorem q110 : (Jvm.Cond.selects "TileDeskModel" ({ cls := "TileDeskModel", name := "row", desc := "(I)Z" } : Jvm.MethodName) ({ cls := "TileDeskModel", name := "row", desc := "(I)Z" } : Jvm.MethodName)) ∈ lw_all := lw_g (lw_at lw_m0 107 rfl) rfl
theorem q111 : (Jvm.Cond.code ({ cls := "TileDeskModel", name := "row", desc := "(I)Z" } : Jvm.MethodName) prog_3_method_3_code (2 : Nat) (Option.some Jvm.ClassFile.FieldType.boolean)) ∈ lw_all := lw_g (lw_at lw_m0 108 rfl) rfl
theorem q113 : (Jvm.Cond.instanceMethod ({ cls := "TileDeskModel", name := "drop", desc := "()Z" } : Jvm.MethodName)) ∈ lw_all := lw_g (lw_at lw_m0 110 rfl) rfl
theorem q114 : (Jvm.Cond.selects "TileDeskModel" ({ cls := "TileDeskModel", name := "drop", desc := "()Z" } : Jvm.MethodName) ({ cls := "TileDeskModel", name := "drop", desc := "()Z" } : Jvm.MethodName)) ∈ lw_all := lw_g (lw_at lw_m0 111 rfl) rfl
theorem q115 : (Jvm.Cond.code ({ cls := "TileDeskModel", name := "drop", desc := "()Z" } : Jvm.MethodName) prog_3_method_4_code (1 : Nat) (Option.some Jvm.ClassFile.FieldType.boolean)) ∈ lw_all := lw_g (lw_at lw_m0 112 rfl) rfl
theorem q117 : (Jvm.Cond.instanceMethod ({ cls := "TileDeskModel", name := "count", desc := "()J" } : Jvm.MethodName)) ∈ lw_all := lw_g (lw_at lw_m0 114 rfl) rfl
theorem q118 : (Jvm.Cond.selects "TileDeskModel" ({ cls := "TileDeskModel", name := "count", desc := "()J" } : Jvm.MethodName) ({ cls := "TileDeskModel", name := "count", desc := "()J" } : Jvm.MethodName)) ∈ lw_all := lw_g (lw_at lw_m0 115 rfl) rfl
theorem q119 : (Jvm.Cond.code ({ cls := "TileDeskModel", name := "count", desc := "()J" } : Jvm.MethodName) prog_3_method_6_code (1 : Nat) (Option.some Jvm.ClassFile.FieldType.long)) ∈ lw_all := lw_g (lw_at lw_m0 116 rfl) rfl
theorem q120 : (Jvm.Cond.methodLink "TileDeskModel" (36 : Nat) ({ cls := "TileDeskModel", name := "reckon", desc := "()V" } : Jvm.MethodName)) ∈ lw_all := lw_g (lw_at lw_m0 117 rfl) rfl
theorem q121 : (Jvm.Cond.privateMethod ({ cls := "TileDeskModel", name := "reckon", desc := "()V" } : Jvm.MethodName)) ∈ lw_tbl := lw_at lw_m0 118 rfl
theorem q122 : (Jvm.Cond.instanceMethod ({ cls := "TileDeskModel", name := "reckon", desc := "()V" } : Jvm.MethodName)) ∈ lw_all := lw_g (lw_at lw_m0 119 rfl) rfl
theorem q123 : (Jvm.Cond.code ({ cls := "TileDeskModel", name := "reckon", desc := "()V" } : Jvm.MethodName) prog_3_method_5_code (3 : Nat) (Option.none : Option Jvm.ClassFile.FieldType)) ∈ lw_all := lw_g (lw_at lw_m0 120 rfl) rfl
theorem q125 : (Jvm.Cond.instanceMethod ({ cls := "TileDeskModel", name := "first", desc := "()I" } : Jvm.MethodName)) ∈ lw_all := lw_g (lw_at lw_m0 122 rfl) rfl
theorem q126 : (Jvm.Cond.selects "TileDeskModel" ({ cls := "TileDeskModel", name := "first", desc := "()I" } : Jvm.MethodName) ({ cls := "TileDeskModel", name := "first", desc := "()I" } : Jvm.MethodName)) ∈ lw_all := lw_g (lw_at lw_m0 123 rfl) rfl
theorem q127 : (Jvm.Cond.code ({ cls := "TileDeskModel", name := "first", desc := "()I" } : Jvm.MethodName) prog_3_method_7_code (4 : Nat) (Option.some Jvm.ClassFile.FieldType.int)) ∈ lw_all := lw_g (lw_at lw_m0 124 rfl) rfl
theorem q129 : (Jvm.Cond.instanceMethod ({ cls := "TileDeskModel", name := "with", desc := "(I)J" } : Jvm.MethodName)) ∈ lw_all := lw_g (lw_at lw_m0 126 rfl) rfl
theorem q130 : (Jvm.Cond.selects "TileDeskModel" ({ cls := "TileDeskModel", name := "with", desc := "(I)J" } : Jvm.MethodName) ({ cls := "TileDeskModel", name := "with", desc := "(I)J" } : Jvm.MethodName)) ∈ lw_all := lw_g (lw_at lw_m0 127 rfl) rfl
theorem q131 : (Jvm.Cond.code ({ cls := "TileDeskModel", name := "with", desc := "(I)J" } : Jvm.MethodName) prog_3_method_8_code (5 : Nat) (Option.some Jvm.ClassFile.FieldType.long)) ∈ lw_all := lw_g (lw_at lw_m0 128 rfl) rfl
theorem q132 : (Jvm.Cond.methodLink "TileDeskModel" (39 : Nat) ({ cls := "TileDeskModel", name := "count", desc := "()J" } : Jvm.MethodName)) ∈ lw_all := lw_g (lw_at lw_m0 129 rfl) rfl
theorem q134 : (Jvm.Cond.instanceMethod ({ cls := "TileDeskModel", name := "least", desc := "()I" } : Jvm.MethodName)) ∈ lw_all := lw_g (lw_at lw_m0 131 rfl) rfl
theorem q135 : (Jvm.Cond.selects "TileDeskModel" ({ cls := "TileDeskModel", name := "least", desc := "()I" } : Jvm.MethodName) ({ cls := "TileDeskModel", name := "least", desc := "()I" } : Jvm.MethodName)) ∈ lw_all := lw_g (lw_at lw_m0 132 rfl) rfl
theorem q136 : (Jvm.Cond.code ({ cls := "TileDeskModel", name := "least", desc := "()I" } : Jvm.MethodName) prog_3_method_9_code (1 : Nat) (Option.some Jvm.ClassFile.FieldType.int)) ∈ lw_all := lw_g (lw_at lw_m0 133 rfl) rfl
theorem in_X1 : ∀ w ∈ wsX10, w ∈ lw_all := lw_in wsX10 [88, 90, 92, 94, 96, 98, 100] (by decide +kernel) (by decide +kernel)
end
section
/-! java/lang/Object -/
set_option maxRecDepth 100000
def RJ0 : String := "java/lang/Object"
abbrev cJ0_init : ByteArray := object_method_1_code
def yJ0_init : MethodName := ⟨RJ0, "<init>", "()V"⟩
theorem dJ0_init_0 : decode cJ0_init 0 = .ok (.return_, 1) := by decide +kernel
theorem q12 : (Jvm.Cond.instanceMethod ({ cls := "java/lang/Object", name := "<init>", desc := "()V" } : Jvm.MethodName)) ∈ lw_all := lw_g (lw_at lw_m0 9 rfl) rfl
theorem q13 : (Jvm.Cond.code ({ cls := "java/lang/Object", name := "<init>", desc := "()V" } : Jvm.MethodName) object_method_1_code (1 : Nat) (Option.none : Option Jvm.ClassFile.FieldType)) ∈ lw_all := lw_g (lw_at lw_m0 10 rfl) rfl
theorem q34 : (Jvm.Cond.arrayClass Jvm.ClassFile.FieldType.int) ∈ lw_all := lw_g (lw_at lw_m0 31 rfl) rfl
set_option maxRecDepth 100000
theorem q35 : (Jvm.Cond.arrayClass Jvm.ClassFile.FieldType.long) ∈ lw_all := lw_g (lw_at lw_m0 32 rfl) rfl
theorem q36 : (Jvm.Cond.arrayClass Jvm.ClassFile.FieldType.boolean) ∈ lw_all := lw_g (lw_at lw_m0 33 rfl) rfl
theorem q3 : (Jvm.Cond.initialized "TileDeskLaw") ∈ lw_all := lw_g (lw_at lw_m0 0 rfl) rfl
set_option maxRecDepth 100000
theorem q6 : (Jvm.Cond.classLink "TileDeskLaw" (7 : Nat) "TileDesk") ∈ lw_all := lw_g (lw_at lw_m0 3 rfl) rfl
theorem q8 : (Jvm.Cond.methodLink "TileDeskLaw" (9 : Nat) ({ cls := "TileDesk", name := "<init>", desc := "()V" } : Jvm.MethodName)) ∈ lw_all := lw_g (lw_at lw_m0 5 rfl) rfl
theorem q37 : (Jvm.Cond.methodLink "TileDeskLaw" (13 : Nat) ({ cls := "TileDesk", name := "columns", desc := "(I)V" } : Jvm.MethodName)) ∈ lw_all := lw_g (lw_at lw_m0 34 rfl) rfl
theorem q42 : (Jvm.Cond.methodLink "TileDeskLaw" (18 : Nat) ({ cls := "TileDesk", name := "row", desc := "(I)Z" } : Jvm.MethodName)) ∈ lw_all := lw_g (lw_at lw_m0 39 rfl) rfl
theorem q50 : (Jvm.Cond.methodLink "TileDeskLaw" (23 : Nat) ({ cls := "TileDesk", name := "drop", desc := "()Z" } : Jvm.MethodName)) ∈ lw_all := lw_g (lw_at lw_m0 47 rfl) rfl
theorem q54 : (Jvm.Cond.methodLink "TileDeskLaw" (28 : Nat) ({ cls := "TileDesk", name := "count", desc := "()J" } : Jvm.MethodName)) ∈ lw_all := lw_g (lw_at lw_m0 51 rfl) rfl
theorem q62 : (Jvm.Cond.methodLink "TileDeskLaw" (33 : Nat) ({ cls := "TileDesk", name := "first", desc := "()I" } : Jvm.MethodName)) ∈ lw_all := lw_g (lw_at lw_m0 59 rfl) rfl
theorem q66 : (Jvm.Cond.methodLink "TileDeskLaw" (38 : Nat) ({ cls := "TileDesk", name := "with", desc := "(I)J" } : Jvm.MethodName)) ∈ lw_all := lw_g (lw_at lw_m0 63 rfl) rfl
theorem q70 : (Jvm.Cond.methodLink "TileDeskLaw" (43 : Nat) ({ cls := "TileDesk", name := "least", desc := "()I" } : Jvm.MethodName)) ∈ lw_all := lw_g (lw_at lw_m0 67 rfl) rfl
theorem q74 : (Jvm.Cond.classLink "TileDeskLaw" (10 : Nat) "TileDeskModel") ∈ lw_all := lw_g (lw_at lw_m0 71 rfl) rfl
theorem q76 : (Jvm.Cond.methodLink "TileDeskLaw" (12 : Nat) ({ cls := "TileDeskModel", name := "<init>", desc := "()V" } : Jvm.MethodName)) ∈ lw_all := lw_g (lw_at lw_m0 73 rfl) rfl
theorem q103 : (Jvm.Cond.methodLink "TileDeskLaw" (17 : Nat) ({ cls := "TileDeskModel", name := "columns", desc := "(I)V" } : Jvm.MethodName)) ∈ lw_all := lw_g (lw_at lw_m0 100 rfl) rfl
theorem q108 : (Jvm.Cond.methodLink "TileDeskLaw" (22 : Nat) ({ cls := "TileDeskModel", name := "row", desc := "(I)Z" } : Jvm.MethodName)) ∈ lw_all := lw_g (lw_at lw_m0 105 rfl) rfl
theorem q112 : (Jvm.Cond.methodLink "TileDeskLaw" (27 : Nat) ({ cls := "TileDeskModel", name := "drop", desc := "()Z" } : Jvm.MethodName)) ∈ lw_all := lw_g (lw_at lw_m0 109 rfl) rfl
theorem q116 : (Jvm.Cond.methodLink "TileDeskLaw" (32 : Nat) ({ cls := "TileDeskModel", name := "count", desc := "()J" } : Jvm.MethodName)) ∈ lw_all := lw_g (lw_at lw_m0 113 rfl) rfl
theorem q124 : (Jvm.Cond.methodLink "TileDeskLaw" (37 : Nat) ({ cls := "TileDeskModel", name := "first", desc := "()I" } : Jvm.MethodName)) ∈ lw_all := lw_g (lw_at lw_m0 121 rfl) rfl
theorem q128 : (Jvm.Cond.methodLink "TileDeskLaw" (42 : Nat) ({ cls := "TileDeskModel", name := "with", desc := "(I)J" } : Jvm.MethodName)) ∈ lw_all := lw_g (lw_at lw_m0 125 rfl) rfl
theorem q133 : (Jvm.Cond.methodLink "TileDeskLaw" (46 : Nat) ({ cls := "TileDeskModel", name := "least", desc := "()I" } : Jvm.MethodName)) ∈ lw_all := lw_g (lw_at lw_m0 130 rfl) rfl
/-! the law's own entry -/
set_option maxRecDepth 100000
abbrev cL_law : ByteArray := code
theorem dL_law_0 : decode cL_law 0 = .ok (.new 7, 3) := by decide +kernel
theorem dL_law_3 : decode cL_law 3 = .ok (.dup, 1) := by decide +kernel
theorem dL_law_4 : decode cL_law 4 = .ok (.invokespecial 9, 3) := by decide +kernel
theorem dL_law_7 : decode cL_law 7 = .ok (.astore_n 1, 1) := by decide +kernel
theorem dL_law_8 : decode cL_law 8 = .ok (.new 10, 3) := by decide +kernel
theorem dL_law_11 : decode cL_law 11 = .ok (.dup, 1) := by decide +kernel
theorem dL_law_12 : decode cL_law 12 = .ok (.invokespecial 12, 3) := by decide +kernel
theorem dL_law_15 : decode cL_law 15 = .ok (.astore_n 2, 1) := by decide +kernel
theorem dL_law_16 : decode cL_law 16 = .ok (.iconst 0, 1) := by decide +kernel
theorem dL_law_17 : decode cL_law 17 = .ok (.istore_n 3, 1) := by decide +kernel
theorem dL_law_18 : decode cL_law 18 = .ok (.iload_n 3, 1) := by decide +kernel
theorem dL_law_19 : decode cL_law 19 = .ok (.aload_n 0, 1) := by decide +kernel
theorem dL_law_20 : decode cL_law 20 = .ok (.arraylength, 1) := by decide +kernel
theorem dL_law_21 : decode cL_law 21 = .ok (.iconst 2, 1) := by decide +kernel
theorem dL_law_22 : decode cL_law 22 = .ok (.isub, 1) := by decide +kernel
theorem dL_law_23 : decode cL_law 23 = .ok (.if_icmp .gt 180, 3) := by decide +kernel
theorem dL_law_26 : decode cL_law 26 = .ok (.aload_n 0, 1) := by decide +kernel
theorem dL_law_27 : decode cL_law 27 = .ok (.iload_n 3, 1) := by decide +kernel
theorem dL_law_28 : decode cL_law 28 = .ok (.iaload, 1) := by decide +kernel
theorem dL_law_29 : decode cL_law 29 = .ok (.bipush 7, 2) := by decide +kernel
theorem dL_law_31 : decode cL_law 31 = .ok (.iand, 1) := by decide +kernel
theorem dL_law_32 : decode cL_law 32 = .ok (.tableswitch 165 0 6 #[44, 65, 88, 101, 115, 128, 152], 44) := by decide +kernel
theorem dL_law_76 : decode cL_law 76 = .ok (.aload_n 1, 1) := by decide +kernel
theorem dL_law_77 : decode cL_law 77 = .ok (.aload_n 0, 1) := by decide +kernel
theorem dL_law_78 : decode cL_law 78 = .ok (.iload_n 3, 1) := by decide +kernel
theorem dL_law_79 : decode cL_law 79 = .ok (.iconst 1, 1) := by decide +kernel
theorem dL_law_80 : decode cL_law 80 = .ok (.iadd, 1) := by decide +kernel
theorem dL_law_81 : decode cL_law 81 = .ok (.iaload, 1) := by decide +kernel
theorem dL_law_82 : decode cL_law 82 = .ok (.invokevirtual 13, 3) := by decide +kernel
theorem dL_law_85 : decode cL_law 85 = .ok (.aload_n 2, 1) := by decide +kernel
theorem dL_law_86 : decode cL_law 86 = .ok (.aload_n 0, 1) := by decide +kernel
theorem dL_law_87 : decode cL_law 87 = .ok (.iload_n 3, 1) := by decide +kernel
theorem dL_law_88 : decode cL_law 88 = .ok (.iconst 1, 1) := by decide +kernel
theorem dL_law_89 : decode cL_law 89 = .ok (.iadd, 1) := by decide +kernel
theorem dL_law_90 : decode cL_law 90 = .ok (.iaload, 1) := by decide +kernel
theorem dL_law_91 : decode cL_law 91 = .ok (.invokevirtual 17, 3) := by decide +kernel
theorem dL_law_94 : decode cL_law 94 = .ok (.goto 103, 3) := by decide +kernel
theorem dL_law_97 : decode cL_law 97 = .ok (.aload_n 1, 1) := by decide +kernel
theorem dL_law_98 : decode cL_law 98 = .ok (.aload_n 0, 1) := by decide +kernel
theorem dL_law_99 : decode cL_law 99 = .ok (.iload_n 3, 1) := by decide +kernel
theorem dL_law_100 : decode cL_law 100 = .ok (.iconst 1, 1) := by decide +kernel
theorem dL_law_101 : decode cL_law 101 = .ok (.iadd, 1) := by decide +kernel
theorem dL_law_102 : decode cL_law 102 = .ok (.iaload, 1) := by decide +kernel
theorem dL_law_103 : decode cL_law 103 = .ok (.invokevirtual 18, 3) := by decide +kernel
theorem dL_law_106 : decode cL_law 106 = .ok (.aload_n 2, 1) := by decide +kernel
theorem dL_law_107 : decode cL_law 107 = .ok (.aload_n 0, 1) := by decide +kernel
theorem dL_law_108 : decode cL_law 108 = .ok (.iload_n 3, 1) := by decide +kernel
theorem dL_law_109 : decode cL_law 109 = .ok (.iconst 1, 1) := by decide +kernel
theorem dL_law_110 : decode cL_law 110 = .ok (.iadd, 1) := by decide +kernel
theorem dL_law_111 : decode cL_law 111 = .ok (.iaload, 1) := by decide +kernel
theorem dL_law_112 : decode cL_law 112 = .ok (.invokevirtual 22, 3) := by decide +kernel
theorem dL_law_115 : decode cL_law 115 = .ok (.if_icmp .eq 82, 3) := by decide +kernel
theorem dL_law_118 : decode cL_law 118 = .ok (.iconst 0, 1) := by decide +kernel
theorem dL_law_119 : decode cL_law 119 = .ok (.ireturn, 1) := by decide +kernel
theorem dL_law_120 : decode cL_law 120 = .ok (.aload_n 1, 1) := by decide +kernel
theorem dL_law_121 : decode cL_law 121 = .ok (.invokevirtual 23, 3) := by decide +kernel
theorem dL_law_124 : decode cL_law 124 = .ok (.aload_n 2, 1) := by decide +kernel
theorem dL_law_125 : decode cL_law 125 = .ok (.invokevirtual 27, 3) := by decide +kernel
theorem dL_law_128 : decode cL_law 128 = .ok (.if_icmp .eq 69, 3) := by decide +kernel
theorem dL_law_131 : decode cL_law 131 = .ok (.iconst 0, 1) := by decide +kernel
theorem dL_law_132 : decode cL_law 132 = .ok (.ireturn, 1) := by decide +kernel
theorem dL_law_133 : decode cL_law 133 = .ok (.aload_n 1, 1) := by decide +kernel
theorem dL_law_134 : decode cL_law 134 = .ok (.invokevirtual 28, 3) := by decide +kernel
theorem dL_law_137 : decode cL_law 137 = .ok (.aload_n 2, 1) := by decide +kernel
theorem dL_law_138 : decode cL_law 138 = .ok (.invokevirtual 32, 3) := by decide +kernel
theorem dL_law_141 : decode cL_law 141 = .ok (.lcmp, 1) := by decide +kernel
theorem dL_law_142 : decode cL_law 142 = .ok (.ifCond .eq 55, 3) := by decide +kernel
theorem dL_law_145 : decode cL_law 145 = .ok (.iconst 0, 1) := by decide +kernel
theorem dL_law_146 : decode cL_law 146 = .ok (.ireturn, 1) := by decide +kernel
theorem dL_law_147 : decode cL_law 147 = .ok (.aload_n 1, 1) := by decide +kernel
theorem dL_law_148 : decode cL_law 148 = .ok (.invokevirtual 33, 3) := by decide +kernel
theorem dL_law_151 : decode cL_law 151 = .ok (.aload_n 2, 1) := by decide +kernel
theorem dL_law_152 : decode cL_law 152 = .ok (.invokevirtual 37, 3) := by decide +kernel
theorem dL_law_155 : decode cL_law 155 = .ok (.if_icmp .eq 42, 3) := by decide +kernel
theorem dL_law_158 : decode cL_law 158 = .ok (.iconst 0, 1) := by decide +kernel
theorem dL_law_159 : decode cL_law 159 = .ok (.ireturn, 1) := by decide +kernel
theorem dL_law_160 : decode cL_law 160 = .ok (.aload_n 1, 1) := by decide +kernel
theorem dL_law_161 : decode cL_law 161 = .ok (.aload_n 0, 1) := by decide +kernel
theorem dL_law_162 : decode cL_law 162 = .ok (.iload_n 3, 1) := by decide +kernel
theorem dL_law_163 : decode cL_law 163 = .ok (.iconst 1, 1) := by decide +kernel
theorem dL_law_164 : decode cL_law 164 = .ok (.iadd, 1) := by decide +kernel
theorem dL_law_165 : decode cL_law 165 = .ok (.iaload, 1) := by decide +kernel
theorem dL_law_166 : decode cL_law 166 = .ok (.invokevirtual 38, 3) := by decide +kernel
theorem dL_law_169 : decode cL_law 169 = .ok (.aload_n 2, 1) := by decide +kernel
theorem dL_law_170 : decode cL_law 170 = .ok (.aload_n 0, 1) := by decide +kernel
theorem dL_law_171 : decode cL_law 171 = .ok (.iload_n 3, 1) := by decide +kernel
theorem dL_law_172 : decode cL_law 172 = .ok (.iconst 1, 1) := by decide +kernel
theorem dL_law_173 : decode cL_law 173 = .ok (.iadd, 1) := by decide +kernel
theorem dL_law_174 : decode cL_law 174 = .ok (.iaload, 1) := by decide +kernel
theorem dL_law_175 : decode cL_law 175 = .ok (.invokevirtual 42, 3) := by decide +kernel
theorem dL_law_178 : decode cL_law 178 = .ok (.lcmp, 1) := by decide +kernel
theorem dL_law_179 : decode cL_law 179 = .ok (.ifCond .eq 18, 3) := by decide +kernel
theorem dL_law_182 : decode cL_law 182 = .ok (.iconst 0, 1) := by decide +kernel
theorem dL_law_183 : decode cL_law 183 = .ok (.ireturn, 1) := by decide +kernel
theorem dL_law_184 : decode cL_law 184 = .ok (.aload_n 1, 1) := by decide +kernel
theorem dL_law_185 : decode cL_law 185 = .ok (.invokevirtual 43, 3) := by decide +kernel
theorem dL_law_188 : decode cL_law 188 = .ok (.aload_n 2, 1) := by decide +kernel
theorem dL_law_189 : decode cL_law 189 = .ok (.invokevirtual 46, 3) := by decide +kernel
theorem dL_law_192 : decode cL_law 192 = .ok (.if_icmp .eq 5, 3) := by decide +kernel
theorem dL_law_195 : decode cL_law 195 = .ok (.iconst 0, 1) := by decide +kernel
theorem dL_law_196 : decode cL_law 196 = .ok (.ireturn, 1) := by decide +kernel
theorem dL_law_197 : decode cL_law 197 = .ok (.iinc 3 2, 3) := by decide +kernel
theorem dL_law_200 : decode cL_law 200 = .ok (.goto (-182), 3) := by decide +kernel
theorem dL_law_203 : decode cL_law 203 = .ok (.iconst 1, 1) := by decide +kernel
theorem dL_law_204 : decode cL_law 204 = .ok (.ireturn, 1) := by decide +kernel
end
section
/-! the plain law: what both sides compute, with no program in sight -/
/-- one more row m: the ways without it, and those with it -/
def td_t (m : Nat) (f : Nat → Nat) : Nat → Nat := fun s => f s + if s &&& m = m then f (s ^^^ m) else 0
def td_z : Nat → Nat := fun s => if s = 0 then 1 else 0
/-- rows 0 .. k-1 in order, but not row w -/
def td_fw (R : Nat → Nat) (w : Nat) : Nat → Nat → Nat
  | 0 => td_z
  | k + 1 => if k = w then td_fw R w k else td_t (R k) (td_fw R w k)
/-- d rows from row r on -/
def td_bw (R : Nat → Nat) : Nat → Nat → Nat → Nat
  | 0, _ => td_z
  | d + 1, r => td_t (R r) (td_bw R d (r + 1))
/-- the rows r .. k-1 -/
def td_b (R : Nat → Nat) (k r : Nat) : Nat → Nat := td_bw R (k - r) r
/-- the first cover: what is left to cover and what is taken, behind i rows -/
def td_g (R : Nat → Nat) (k al : Nat) : Nat → Nat × Nat
  | 0 => (al, 0)
  | i + 1 => if (td_g R k al i).1 &&& R i = R i ∧ 0 < td_b R k (i + 1) ((td_g R k al i).1 ^^^ R i) then ((td_g R k al i).1 ^^^ R i, (td_g R k al i).2 ||| 2 ^ i) else td_g R k al i
/-- one more row m: the least number of rows -/
def td_u (m : Nat) (f : Nat → Nat) : Nat → Nat := fun s => if s &&& m = m ∧ f (s ^^^ m) + 1 < f s then f (s ^^^ m) + 1 else f s
def td_l (R : Nat → Nat) : Nat → Nat → Nat
  | 0 => fun s => if s = 0 then 0 else 25
  | k + 1 => td_u (R k) (td_l R k)
theorem td_bit {x y : Nat} : (x &&& y = y) ↔ ∀ i, (x.testBit i && y.testBit i) = y.testBit i := by
  constructor
  · intro h i
    rw [← Nat.testBit_and, h]
  · intro h
    apply Nat.eq_of_testBit_eq
    intro i
    rw [Nat.testBit_and]
    exact h i
theorem td_two {s a b : Nat} (h1 : s &&& a = a) (h2 : (s ^^^ a) &&& b = b) : s &&& b = b ∧ (s ^^^ b) &&& a = a := by
  rw [td_bit] at h1 h2
  constructor
  · rw [td_bit]
    intro i
    have g1 := h1 i
    have g2 := h2 i
    rw [Nat.testBit_xor] at g2
    revert g1 g2
    cases s.testBit i <;> cases a.testBit i <;> cases b.testBit i <;> decide
  · rw [td_bit]
    intro i
    have g1 := h1 i
    have g2 := h2 i
    rw [Nat.testBit_xor] at g2
    rw [Nat.testBit_xor]
    revert g1 g2
    cases s.testBit i <;> cases a.testBit i <;> cases b.testBit i <;> decide
theorem td_xc (s a b : Nat) : s ^^^ a ^^^ b = s ^^^ b ^^^ a := by
  rw [Nat.xor_assoc, Nat.xor_comm a b, ← Nat.xor_assoc]
theorem td_comm (a b : Nat) (f : Nat → Nat) : td_t a (td_t b f) = td_t b (td_t a f) := by
  funext s
  simp only [td_t]
  by_cases ha : s &&& a = a
  · by_cases hb : s &&& b = b
    · by_cases hc : (s ^^^ a) &&& b = b
      · have hd := (td_two ha hc).2
        rw [td_xc s b a]
        simp only [if_pos ha, if_pos hb, if_pos hc, if_pos hd]
        omega
      · have hd : ¬ (s ^^^ b) &&& a = a := fun q => hc (td_two hb q).2
        simp only [if_pos ha, if_pos hb, if_neg hc, if_neg hd]
        omega
    · have hc : ¬ (s ^^^ a) &&& b = b := fun q => hb (td_two ha q).1
      simp only [if_pos ha, if_neg hb, if_neg hc]
      omega
  · by_cases hb : s &&& b = b
    · have hd : ¬ (s ^^^ b) &&& a = a := fun q => ha (td_two hb q).1
      simp only [if_neg ha, if_pos hb, if_neg hd]
      omega
    · simp only [if_neg ha, if_neg hb]
/-- the last of d + 1 rows may be taken last -/
theorem td_bw_last (R : Nat → Nat) : ∀ d r : Nat, td_bw R (d + 1) r = td_t (R (r + d)) (td_bw R d r) := by
  intro d
  induction d with
  | zero => intro r; rfl
  | succ d ih =>
    intro r
    show td_t (R r) (td_bw R (d + 1) (r + 1)) = td_t (R (r + (d + 1))) (td_t (R r) (td_bw R d (r + 1)))
    rw [ih (r + 1), td_comm, show r + 1 + d = r + (d + 1) by omega]
theorem td_fw_bw (R : Nat → Nat) (w : Nat) : ∀ k : Nat, k ≤ w → td_fw R w k = td_bw R k 0 := by
  intro k
  induction k with
  | zero => intro _; rfl
  | succ k ih =>
    intro h
    show (if k = w then td_fw R w k else td_t (R k) (td_fw R w k)) = _
    rw [if_neg (by omega), ih (by omega), td_bw_last, Nat.zero_add]
theorem td_b_self (R : Nat → Nat) (k : Nat) : td_b R k k = td_z := by
  unfold td_b
  rw [Nat.sub_self]
  rfl
theorem td_b_step (R : Nat → Nat) {k r : Nat} (h : r < k) : td_b R k r = td_t (R r) (td_b R k (r + 1)) := by
  unfold td_b
  rw [show k - r = (k - (r + 1)) + 1 by omega]
  rfl
/-- row by row forward, or backward: the same count -/
theorem td_count (R : Nat → Nat) {k w : Nat} (h : k ≤ w) : td_fw R w k = td_b R k 0 := by
  rw [td_fw_bw R w k h]
  rfl
/-- all rows: row w, and the others -/
theorem td_fw_all (R : Nat → Nat) (w v : Nat) : ∀ k : Nat, w < k → k ≤ v → td_fw R v k = td_t (R w) (td_fw R w k) := by
  intro k
  induction k with
  | zero => intro h; omega
  | succ k ih =>
    intro h hv
    show (if k = v then td_fw R v k else td_t (R k) (td_fw R v k)) = td_t (R w) (if k = w then td_fw R w k else td_t (R k) (td_fw R w k))
    rw [if_neg (show ¬ k = v by omega)]
    by_cases hk : k = w
    · rw [if_pos hk, hk, td_fw_bw R v w (by omega), td_fw_bw R w w (Nat.le_refl w)]
    · rw [if_neg hk, ih (by omega) (by omega), td_comm]
theorem td_with (R : Nat → Nat) {k w al : Nat} (h : w < k) (hw : al &&& R w = R w) : td_b R k 0 al = td_fw R w k al + td_fw R w k (al ^^^ R w) := by
  rw [← td_count R (Nat.le_refl k), td_fw_all R w k k h (Nat.le_refl k)]
  simp only [td_t, if_pos hw]
theorem td_bw_le (R : Nat → Nat) : ∀ (d r s : Nat), td_bw R d r s ≤ 2 ^ d := by
  intro d
  induction d with
  | zero =>
    intro r s
    show td_z s ≤ 1
    unfold td_z
    split <;> omega
  | succ d ih =>
    intro r s
    show td_bw R d (r + 1) s + (if s &&& R r = R r then td_bw R d (r + 1) (s ^^^ R r) else 0) ≤ 2 ^ (d + 1)
    have h1 := ih (r + 1) s
    have h2 := ih (r + 1) (s ^^^ R r)
    rw [Nat.pow_succ]
    split <;> omega
theorem td_b_lt (R : Nat → Nat) {k : Nat} (hk : k ≤ 24) (r s : Nat) : td_b R k r s < 2 ^ 31 := by
  have h := td_bw_le R (k - r) r s
  have h2 : 2 ^ (k - r) ≤ 2 ^ 24 := Nat.pow_le_pow_right (by omega) (by omega)
  have h3 : (2 : Nat) ^ 24 < 2 ^ 31 := by decide
  unfold td_b
  omega
/-- a part of a set, taken off it, is less -/
theorem td_xle {s m : Nat} (h : s &&& m = m) : s ^^^ m ≤ s := by
  have e : s &&& (s ^^^ m) = s ^^^ m := by
    rw [td_bit] at h ⊢
    intro i
    have g := h i
    rw [Nat.testBit_xor]
    revert g
    cases s.testBit i <;> cases m.testBit i <;> decide
  have h1 : s &&& (s ^^^ m) ≤ s := Nat.and_le_left
  omega
theorem td_al {n m : Nat} (h : m < 2 ^ n) : (2 ^ n - 1) &&& m = m := by
  rw [Nat.and_comm, Nat.and_two_pow_sub_one_eq_mod, Nat.mod_eq_of_lt h]
theorem td_xx (x y : Nat) : x ^^^ (x ^^^ y) = y := by
  rw [← Nat.xor_assoc, Nat.xor_self, Nat.zero_xor]
theorem td_x0 {x y : Nat} : x ^^^ y = 0 ↔ y = x := by
  constructor
  · intro h
    have e := td_xx x y
    rw [h, Nat.xor_zero] at e
    exact e.symm
  · intro h
    rw [h, Nat.xor_self]
/-- what is covered and what is left -/
theorem td_left {al s m : Nat} (hs : al &&& s = s) (hm : al &&& m = m) : (al ^^^ s) &&& m = m ↔ s &&& m = 0 := by
  constructor
  · intro h
    rw [td_bit] at h hs hm
    apply Nat.eq_of_testBit_eq
    intro i
    have g := h i
    have g1 := hs i
    have g2 := hm i
    rw [Nat.testBit_xor] at g
    rw [Nat.testBit_and, Nat.zero_testBit]
    revert g g1 g2
    cases al.testBit i <;> cases s.testBit i <;> cases m.testBit i <;> decide
  · intro h
    rw [td_bit] at hs hm ⊢
    intro i
    have g : (s &&& m).testBit i = (0 : Nat).testBit i := by rw [h]
    have g1 := hs i
    have g2 := hm i
    rw [Nat.testBit_and, Nat.zero_testBit] at g
    rw [Nat.testBit_xor]
    revert g g1 g2
    cases al.testBit i <;> cases s.testBit i <;> cases m.testBit i <;> decide
theorem td_or {al s m : Nat} (h : s &&& m = 0) : (al ^^^ s) ^^^ m = al ^^^ (s ||| m) := by
  apply Nat.eq_of_testBit_eq
  intro i
  have g : (s &&& m).testBit i = (0 : Nat).testBit i := by rw [h]
  rw [Nat.testBit_and, Nat.zero_testBit] at g
  rw [Nat.testBit_xor, Nat.testBit_xor, Nat.testBit_xor, Nat.testBit_or]
  revert g
  cases al.testBit i <;> cases s.testBit i <;> cases m.testBit i <;> decide
/-- whether the rows from r on can make what the set s lacks -/
def td_can (R : Nat → Nat) (k al r s : Nat) : Prop := 0 < td_b R k r (al ^^^ s)
theorem td_can_self (R : Nat → Nat) (k al s : Nat) : td_can R k al k s ↔ s = al := by
  unfold td_can
  rw [td_b_self]
  unfold td_z
  rw [← td_x0 (x := al) (y := s)]
  split <;> omega
theorem td_can_step (R : Nat → Nat) {k al r s : Nat} (h : r < k) (hs : al &&& s = s) (hm : al &&& R r = R r) : td_can R k al r s ↔ (td_can R k al (r + 1) s ∨ (s &&& R r = 0 ∧ td_can R k al (r + 1) (s ||| R r))) := by
  unfold td_can
  rw [td_b_step R h]
  simp only [td_t]
  by_cases hc : s &&& R r = 0
  · rw [if_pos ((td_left hs hm).mpr hc), td_or hc]
    constructor
    · intro q
      rcases Nat.eq_zero_or_pos (td_b R k (r + 1) (al ^^^ s)) with z | z
      · exact Or.inr ⟨hc, by omega⟩
      · exact Or.inl z
    · intro q
      rcases q with q | ⟨-, q⟩ <;> omega
  · rw [if_neg (fun q => hc ((td_left hs hm).mp q))]
    constructor
    · intro q
      exact Or.inl (by omega)
    · intro q
      rcases q with q | ⟨q, -⟩
      · omega
      · exact absurd q hc
theorem td_g_lt (R : Nat → Nat) (k n : Nat) : ∀ i : Nat, (∀ j, j < i → R j < 2 ^ n) → (td_g R k (2 ^ n - 1) i).1 < 2 ^ n := by
  intro i
  induction i with
  | zero =>
    intro _
    show 2 ^ n - 1 < 2 ^ n
    have := Nat.two_pow_pos n
    omega
  | succ i ih =>
    intro h
    have h1 := ih (fun j hj => h j (by omega))
    show (if _ then _ else _ : Nat × Nat).1 < 2 ^ n
    split
    · exact Nat.xor_lt_two_pow h1 (h i (by omega))
    · exact h1
theorem td_l_le (R : Nat → Nat) : ∀ (k s : Nat), td_l R k s ≤ k ∨ td_l R k s = 25 := by
  intro k
  induction k with
  | zero =>
    intro s
    show (if s = 0 then 0 else 25) ≤ 0 ∨ (if s = 0 then 0 else 25) = 25
    split <;> omega
  | succ k ih =>
    intro s
    have h1 := ih s
    have h2 := ih (s ^^^ R k)
    show td_u (R k) (td_l R k) s ≤ k + 1 ∨ td_u (R k) (td_l R k) s = 25
    unfold td_u
    split
    · rename_i h
      have := h.2
      omega
    · omega
theorem td_l_le25 (R : Nat → Nat) {k : Nat} (hk : k ≤ 24) (s : Nat) : td_l R k s ≤ 25 := by
  have := td_l_le R k s
  omega
theorem td_l_zero (R : Nat → Nat) : ∀ k : Nat, td_l R k 0 = 0 := by
  intro k
  induction k with
  | zero => rfl
  | succ k ih =>
    show td_u (R k) (td_l R k) 0 = 0
    unfold td_u
    split
    · rename_i h
      have := h.2
      omega
    · exact ih
theorem td_u_zero (m : Nat) (f : Nat → Nat) (h : f 0 = 0) : td_u m f 0 = f 0 := by
  unfold td_u
  split
  · rename_i q
    have := q.2
    omega
  · rfl
/-- how the reference writes 'none' -/
def td_s (v : Nat) : Int32 := if v = 25 then -1 else nI v
/-- what the first cover answers -/
def td_f (R : Nat → Nat) (k al : Nat) : Int32 := if td_b R k 0 al = 0 then -1 else nI (td_g R k al k).2
/-- a counter that runs down: dn (j + 1) is j, dn 0 is -1 -/
def td_dn : Nat → Int32
  | 0 => -1
  | j + 1 => nI j
theorem td_dn_of {N : Nat} (h : 0 < N) : nI (N - 1) = td_dn N := by
  obtain ⟨j, rfl⟩ : ∃ j, N = j + 1 := ⟨N - 1, by omega⟩
  rfl
theorem td_dec (j : Nat) : nI j + Int32.ofInt (-1) = td_dn j := by
  cases j with
  | zero => decide +kernel
  | succ j => exact pk_m1 j
theorem td_sub1 (j : Nat) : nI j - nI 1 = td_dn j := by
  cases j with
  | zero => decide +kernel
  | succ j => exact nI_pred j
theorem td_dec1 (j : Nat) : nI (j + 1) + Int32.ofInt (-1) = nI j := pk_m1 j
theorem td_inc (j : Nat) : nI j + Int32.ofInt 1 = nI (j + 1) := nI_1 j
theorem td_inc2 (j : Nat) : nI j + Int32.ofInt 2 = nI (j + 2) := nI_add j 2
theorem nx_and (a b : Nat) : nI a &&& nI b = nI (a &&& b) := by
  apply Int32.toBitVec_inj.1
  show BitVec.ofNat 32 a &&& BitVec.ofNat 32 b = BitVec.ofNat 32 (a &&& b)
  apply BitVec.eq_of_getLsbD_eq
  intro i hi
  simp [hi]
theorem nx_xor (a b : Nat) : nI a ^^^ nI b = nI (a ^^^ b) := by
  apply Int32.toBitVec_inj.1
  show BitVec.ofNat 32 a ^^^ BitVec.ofNat 32 b = BitVec.ofNat 32 (a ^^^ b)
  apply BitVec.eq_of_getLsbD_eq
  intro i hi
  simp [hi]
theorem nx_or (a b : Nat) : nI a ||| nI b = nI (a ||| b) := by
  apply Int32.toBitVec_inj.1
  show BitVec.ofNat 32 a ||| BitVec.ofNat 32 b = BitVec.ofNat 32 (a ||| b)
  apply BitVec.eq_of_getLsbD_eq
  intro i hi
  simp [hi]
theorem nx_shl : ∀ k, k < 31 → nI 1 <<< (nI k &&& 31) = nI (2 ^ k) := by decide +kernel
theorem nx_m1 : (-1 : Int32) = nI (2 ^ 32 - 1) := by decide +kernel
theorem nx_not {s m : Nat} (hs : s < 2 ^ 32) (h : s &&& m = m) : nI s &&& (nI m ^^^ (-1)) = nI (s ^^^ m) := by
  rw [nx_m1, nx_xor, nx_and]
  congr 1
  rw [td_bit] at h
  apply Nat.eq_of_testBit_eq
  intro i
  have g := h i
  rw [Nat.testBit_and, Nat.testBit_xor, Nat.testBit_xor, Nat.testBit_two_pow_sub_one]
  by_cases hi : i < 32
  · rw [decide_eq_true hi]
    revert g
    cases s.testBit i <;> cases m.testBit i <;> decide
  · have hsi : s.testBit i = false := Nat.testBit_lt_two_pow (Nat.lt_of_lt_of_le hs (Nat.pow_le_pow_right (by omega) (by omega)))
    rw [hsi] at g ⊢
    revert g
    cases m.testBit i <;> simp
/-- the number that an int is under the mask of 31 ones -/
def td_p (x : Int32) : Nat := x.toBitVec.toNat % 2 ^ 31
theorem td_p_lt (x : Int32) : td_p x < 2 ^ 31 := Nat.mod_lt _ (by decide)
theorem td_p_and (x : Int32) : x &&& 2147483647 = nI (td_p x) := pk_and x 31 (by decide +kernel)
/-- the set that an int is under n columns -/
def td_m (n : Nat) (x : Int32) : Nat := x.toBitVec.toNat % 2 ^ n
theorem td_m_lt (n : Nat) (x : Int32) : td_m n x < 2 ^ n := Nat.mod_lt _ (Nat.two_pow_pos n)
theorem td_2n {n : Nat} (h : n ≤ 12) : 0 < 2 ^ n ∧ 2 ^ n ≤ 4096 := ⟨Nat.two_pow_pos n, show 2 ^ n ≤ 2 ^ 12 from Nat.pow_le_pow_right (by decide) h⟩
theorem td_m_and {n : Nat} (h : n ≤ 12) (x : Int32) : x &&& nI (2 ^ n - 1) = nI (td_m n x) := pk_and x n (pk_tn (by have := td_2n h; omega))
end
section
/-! rows of the walk over natural numbers: an int on the stack is nI of a number -/
/-- a count against 0, as a compare of longs has it -/
theorem td_cmp0 {a : Nat} (ha : a < 2 ^ 31) : lg_cmp (lN a) (lN 0) = nI (if a = 0 then 0 else 1) := by
  unfold lg_cmp
  by_cases h : a = 0
  · subst h
    decide +kernel
  · have h1 : lN a > lN 0 := (lN_lt (by decide) ha).mpr (by omega)
    rw [if_pos h1, if_neg h]
    rfl
section TDR
variable {p : Program} {l : Launch} {e : Env} {R : Room} {s : State} {m : MethodId} {args : Array Value} {below : List Frame} {meth : Method} {c : Code} {H : Heap} {locs : List Loc} {cells slots : Nat} {Q : State → Prop}
variable {cc : ByteArray} {pc : Nat} {ls : Array Slot} {rest : List Value}
theorem tr_i {x y : Int32} (h : x = y) (k : W p l e R s m args below meth c H locs cells slots Q (F0 m pc ls (.int y :: rest))) : W p l e R s m args below meth c H locs cells slots Q (F0 m pc ls (.int x :: rest)) := by rw [h]; exact k
theorem tr_l {x y : Int64} (h : x = y) (k : W p l e R s m args below meth c H locs cells slots Q (F0 m pc ls (.long y :: rest))) : W p l e R s m args below meth c H locs cells slots Q (F0 m pc ls (.long x :: rest)) := by rw [h]; exact k
theorem tr_iadd (hx : p.tables.exec = Jvm.exec) (hb : c.code = cc) {a b : Nat} (hd : decode cc pc = .ok (.iadd, 1)) (k : W p l e R s m args below meth c H locs cells slots Q (F0 m (pc + 1) ls (.int (nI (a + b)) :: rest))) : W p l e R s m args below meth c H locs cells slots Q (F0 m pc ls (.int (nI b) :: .int (nI a) :: rest)) := lv_iadd hx hb hd (by rw [nI_add]; exact k)
theorem tr_imul (hx : p.tables.exec = Jvm.exec) (hb : c.code = cc) {a b : Nat} (hd : decode cc pc = .ok (.imul, 1)) (k : W p l e R s m args below meth c H locs cells slots Q (F0 m (pc + 1) ls (.int (nI (a * b)) :: rest))) : W p l e R s m args below meth c H locs cells slots Q (F0 m pc ls (.int (nI b) :: .int (nI a) :: rest)) := lv_imul hx hb hd (by rw [pk_mul]; exact k)
theorem tr_iand (hx : p.tables.exec = Jvm.exec) (hb : c.code = cc) {a b : Nat} (hd : decode cc pc = .ok (.iand, 1)) (k : W p l e R s m args below meth c H locs cells slots Q (F0 m (pc + 1) ls (.int (nI (a &&& b)) :: rest))) : W p l e R s m args below meth c H locs cells slots Q (F0 m pc ls (.int (nI b) :: .int (nI a) :: rest)) := lv_iand hx hb hd (by rw [nx_and]; exact k)
theorem tr_ior (hx : p.tables.exec = Jvm.exec) (hb : c.code = cc) {a b : Nat} (hd : decode cc pc = .ok (.ior, 1)) (k : W p l e R s m args below meth c H locs cells slots Q (F0 m (pc + 1) ls (.int (nI (a ||| b)) :: rest))) : W p l e R s m args below meth c H locs cells slots Q (F0 m pc ls (.int (nI b) :: .int (nI a) :: rest)) := lv_ior hx hb hd (by rw [nx_or]; exact k)
theorem tr_ixor (hx : p.tables.exec = Jvm.exec) (hb : c.code = cc) {a b : Nat} (hd : decode cc pc = .ok (.ixor, 1)) (k : W p l e R s m args below meth c H locs cells slots Q (F0 m (pc + 1) ls (.int (nI (a ^^^ b)) :: rest))) : W p l e R s m args below meth c H locs cells slots Q (F0 m pc ls (.int (nI b) :: .int (nI a) :: rest)) := lv_ixor hx hb hd (by rw [nx_xor]; exact k)
theorem tr_isub (hx : p.tables.exec = Jvm.exec) (hb : c.code = cc) {a b : Nat} (h : b ≤ a) (hd : decode cc pc = .ok (.isub, 1)) (k : W p l e R s m args below meth c H locs cells slots Q (F0 m (pc + 1) ls (.int (nI (a - b)) :: rest))) : W p l e R s m args below meth c H locs cells slots Q (F0 m pc ls (.int (nI b) :: .int (nI a) :: rest)) := lv_isub hx hb hd (by rw [pk_sub h]; exact k)
theorem tr_shl (hx : p.tables.exec = Jvm.exec) (hb : c.code = cc) {b : Nat} (h : b < 31) (hd : decode cc pc = .ok (.ishl, 1)) (k : W p l e R s m args below meth c H locs cells slots Q (F0 m (pc + 1) ls (.int (nI (2 ^ b)) :: rest))) : W p l e R s m args below meth c H locs cells slots Q (F0 m pc ls (.int (nI b) :: .int (nI 1) :: rest)) := lv_ishl hx hb hd (by rw [nx_shl b h]; exact k)
theorem tr_irem (hx : p.tables.exec = Jvm.exec) (hb : c.code = cc) {a b : Nat} (h1 : a < 2 ^ 31) (h2 : 0 < b) (h3 : b < 2 ^ 31) (hd : decode cc pc = .ok (.irem, 1)) (k : W p l e R s m args below meth c H locs cells slots Q (F0 m (pc + 1) ls (.int (nI (a % b)) :: rest))) : W p l e R s m args below meth c H locs cells slots Q (F0 m pc ls (.int (nI b) :: .int (nI a) :: rest)) := lv_irem hx hb hd (nI_ne0 h2 h3) (by rw [pk_rem h1 h2 h3]; exact k)
theorem tr_andn (hx : p.tables.exec = Jvm.exec) (hb : c.code = cc) {a b : Nat} (h1 : a < 2 ^ 32) (h2 : a &&& b = b) (hd : decode cc pc = .ok (.iand, 1)) (k : W p l e R s m args below meth c H locs cells slots Q (F0 m (pc + 1) ls (.int (nI (a ^^^ b)) :: rest))) : W p l e R s m args below meth c H locs cells slots Q (F0 m pc ls (.int (nI b ^^^ (-1)) :: .int (nI a) :: rest)) := lv_iand hx hb hd (by rw [nx_not h1 h2]; exact k)
theorem tr_p31 (hx : p.tables.exec = Jvm.exec) (hb : c.code = cc) {x : Int32} (hd : decode cc pc = .ok (.iand, 1)) (k : W p l e R s m args below meth c H locs cells slots Q (F0 m (pc + 1) ls (.int (nI (td_p x)) :: rest))) : W p l e R s m args below meth c H locs cells slots Q (F0 m pc ls (.int 2147483647 :: .int x :: rest)) := lv_iand hx hb hd (by rw [td_p_and]; exact k)
theorem tr_msk (hx : p.tables.exec = Jvm.exec) (hb : c.code = cc) {x : Int32} {n : Nat} (h : n ≤ 12) (hd : decode cc pc = .ok (.iand, 1)) (k : W p l e R s m args below meth c H locs cells slots Q (F0 m (pc + 1) ls (.int (nI (td_m n x)) :: rest))) : W p l e R s m args below meth c H locs cells slots Q (F0 m pc ls (.int (nI (2 ^ n - 1)) :: .int x :: rest)) := lv_iand hx hb hd (by rw [td_m_and h]; exact k)
theorem tr_ladd (hx : p.tables.exec = Jvm.exec) (hb : c.code = cc) {a b : Nat} (hd : decode cc pc = .ok (.ladd, 1)) (k : W p l e R s m args below meth c H locs cells slots Q (F0 m (pc + 1) ls (.long (lN (a + b)) :: rest))) : W p l e R s m args below meth c H locs cells slots Q (F0 m pc ls (.long (lN b) :: .long (lN a) :: rest)) := lv_ladd hx hb hd (by rw [lN_add]; exact k)
theorem tb_ge (hx : p.tables.exec = Jvm.exec) (hb : c.code = cc) {a b : Nat} (ha : a < 2 ^ 31) (hb2 : b < 2 ^ 31) {off : Int} {tgt : Nat} (hd : decode cc pc = .ok (.if_icmp .ge off, 3)) (ht : (pc : Int) + off = (tgt : Int)) (kt : b ≤ a → W p l e R s m args below meth c H locs cells slots Q (F0 m tgt ls rest)) (kf : a < b → W p l e R s m args below meth c H locs cells slots Q (F0 m (pc + 3) ls rest)) : W p l e R s m args below meth c H locs cells slots Q (F0 m pc ls (.int (nI b) :: .int (nI a) :: rest)) := lv_icmp_ge hx hb hd ht (fun q => kt ((nI_leI hb2 ha).mp q)) (fun q => kf (Nat.not_le.mp (fun z => q ((nI_leI hb2 ha).mpr z))))
theorem tb_gt (hx : p.tables.exec = Jvm.exec) (hb : c.code = cc) {a b : Nat} (ha : a < 2 ^ 31) (hb2 : b < 2 ^ 31) {off : Int} {tgt : Nat} (hd : decode cc pc = .ok (.if_icmp .gt off, 3)) (ht : (pc : Int) + off = (tgt : Int)) (kt : b < a → W p l e R s m args below meth c H locs cells slots Q (F0 m tgt ls rest)) (kf : a ≤ b → W p l e R s m args below meth c H locs cells slots Q (F0 m (pc + 3) ls rest)) : W p l e R s m args below meth c H locs cells slots Q (F0 m pc ls (.int (nI b) :: .int (nI a) :: rest)) := lv_icmp_gt hx hb hd ht (fun q => kt ((nI_ltI hb2 ha).mp q)) (fun q => kf (Nat.not_lt.mp (fun z => q ((nI_ltI hb2 ha).mpr z))))
theorem tb_le (hx : p.tables.exec = Jvm.exec) (hb : c.code = cc) {a b : Nat} (ha : a < 2 ^ 31) (hb2 : b < 2 ^ 31) {off : Int} {tgt : Nat} (hd : decode cc pc = .ok (.if_icmp .le off, 3)) (ht : (pc : Int) + off = (tgt : Int)) (kt : a ≤ b → W p l e R s m args below meth c H locs cells slots Q (F0 m tgt ls rest)) (kf : b < a → W p l e R s m args below meth c H locs cells slots Q (F0 m (pc + 3) ls rest)) : W p l e R s m args below meth c H locs cells slots Q (F0 m pc ls (.int (nI b) :: .int (nI a) :: rest)) := lv_icmp_le hx hb hd ht (fun q => kt ((nI_leI ha hb2).mp q)) (fun q => kf (Nat.not_le.mp (fun z => q ((nI_leI ha hb2).mpr z))))
theorem tb_eq (hx : p.tables.exec = Jvm.exec) (hb : c.code = cc) {a b : Nat} (ha : a < 2 ^ 31) (hb2 : b < 2 ^ 31) {off : Int} {tgt : Nat} (hd : decode cc pc = .ok (.if_icmp .eq off, 3)) (ht : (pc : Int) + off = (tgt : Int)) (kt : a = b → W p l e R s m args below meth c H locs cells slots Q (F0 m tgt ls rest)) (kf : ¬ a = b → W p l e R s m args below meth c H locs cells slots Q (F0 m (pc + 3) ls rest)) : W p l e R s m args below meth c H locs cells slots Q (F0 m pc ls (.int (nI b) :: .int (nI a) :: rest)) := lv_icmp_eq hx hb hd ht (fun q => kt ((nI_eq ha hb2).mp q)) (fun q => kf (fun z => q ((nI_eq ha hb2).mpr z)))
theorem tb_ne (hx : p.tables.exec = Jvm.exec) (hb : c.code = cc) {a b : Nat} (ha : a < 2 ^ 31) (hb2 : b < 2 ^ 31) {off : Int} {tgt : Nat} (hd : decode cc pc = .ok (.if_icmp .ne off, 3)) (ht : (pc : Int) + off = (tgt : Int)) (kt : ¬ a = b → W p l e R s m args below meth c H locs cells slots Q (F0 m tgt ls rest)) (kf : a = b → W p l e R s m args below meth c H locs cells slots Q (F0 m (pc + 3) ls rest)) : W p l e R s m args below meth c H locs cells slots Q (F0 m pc ls (.int (nI b) :: .int (nI a) :: rest)) := lv_icmp_ne hx hb hd ht (fun q => kt (fun z => q ((nI_eq ha hb2).mpr z))) (fun q => kf ((nI_eq ha hb2).mp q))
theorem tb_if_ne (hx : p.tables.exec = Jvm.exec) (hb : c.code = cc) {a : Nat} (ha : a < 2 ^ 31) {off : Int} {tgt : Nat} (hd : decode cc pc = .ok (.ifCond .ne off, 3)) (ht : (pc : Int) + off = (tgt : Int)) (kt : ¬ a = 0 → W p l e R s m args below meth c H locs cells slots Q (F0 m tgt ls rest)) (kf : a = 0 → W p l e R s m args below meth c H locs cells slots Q (F0 m (pc + 3) ls rest)) : W p l e R s m args below meth c H locs cells slots Q (F0 m pc ls (.int (nI a) :: rest)) := lv_if_ne hx hb hd ht (fun q => kt (fun z => q ((nI_eq (b := 0) ha (by decide)).mpr z))) (fun q => kf ((nI_eq (b := 0) ha (by decide)).mp q))
theorem tb_if_eq (hx : p.tables.exec = Jvm.exec) (hb : c.code = cc) {a : Nat} (ha : a < 2 ^ 31) {off : Int} {tgt : Nat} (hd : decode cc pc = .ok (.ifCond .eq off, 3)) (ht : (pc : Int) + off = (tgt : Int)) (kt : a = 0 → W p l e R s m args below meth c H locs cells slots Q (F0 m tgt ls rest)) (kf : ¬ a = 0 → W p l e R s m args below meth c H locs cells slots Q (F0 m (pc + 3) ls rest)) : W p l e R s m args below meth c H locs cells slots Q (F0 m pc ls (.int (nI a) :: rest)) := lv_if_eq hx hb hd ht (fun q => kt ((nI_eq (b := 0) ha (by decide)).mp q)) (fun q => kf (fun z => q ((nI_eq (b := 0) ha (by decide)).mpr z)))
theorem tb_if_le (hx : p.tables.exec = Jvm.exec) (hb : c.code = cc) {a : Nat} (ha : a < 2 ^ 31) {off : Int} {tgt : Nat} (hd : decode cc pc = .ok (.ifCond .le off, 3)) (ht : (pc : Int) + off = (tgt : Int)) (kt : a = 0 → W p l e R s m args below meth c H locs cells slots Q (F0 m tgt ls rest)) (kf : 0 < a → W p l e R s m args below meth c H locs cells slots Q (F0 m (pc + 3) ls rest)) : W p l e R s m args below meth c H locs cells slots Q (F0 m pc ls (.int (nI a) :: rest)) := lv_if_le hx hb hd ht (fun q => kt (Nat.le_zero.mp ((nI_leI ha (show (0 : Nat) < 2 ^ 31 by decide)).mp q))) (fun q => kf (Nat.pos_of_ne_zero (fun z => q ((nI_leI ha (show (0 : Nat) < 2 ^ 31 by decide)).mpr (by omega)))))
theorem tb_lt_no (hx : p.tables.exec = Jvm.exec) (hb : c.code = cc) {a : Nat} (ha : a < 2 ^ 31) {off : Int} {tgt : Nat} (hd : decode cc pc = .ok (.ifCond .lt off, 3)) (ht : (pc : Int) + off = (tgt : Int)) (k : W p l e R s m args below meth c H locs cells slots Q (F0 m (pc + 3) ls rest)) : W p l e R s m args below meth c H locs cells slots Q (F0 m pc ls (.int (nI a) :: rest)) := lv_if_lt hx hb hd ht (fun q => absurd q (nI_pos ha)) (fun _ => k)
theorem tb_lt_yes (hx : p.tables.exec = Jvm.exec) (hb : c.code = cc) {x : Int32} (hq : x = -1) {off : Int} {tgt : Nat} (hd : decode cc pc = .ok (.ifCond .lt off, 3)) (ht : (pc : Int) + off = (tgt : Int)) (k : W p l e R s m args below meth c H locs cells slots Q (F0 m tgt ls rest)) : W p l e R s m args below meth c H locs cells slots Q (F0 m pc ls (.int x :: rest)) := lv_if_lt hx hb hd ht (fun _ => k) (fun q => absurd (by rw [hq]; decide) q)
theorem tr_lcmp0 (hx : p.tables.exec = Jvm.exec) (hb : c.code = cc) {a : Nat} (ha : a < 2 ^ 31) (hd : decode cc pc = .ok (.lcmp, 1)) (k : W p l e R s m args below meth c H locs cells slots Q (F0 m (pc + 1) ls (.int (nI (if a = 0 then 0 else 1)) :: rest))) : W p l e R s m args below meth c H locs cells slots Q (F0 m pc ls (.long (lN 0) :: .long (lN a) :: rest)) := W.lcmp hx hb hd (by rw [td_cmp0 ha]; exact k)
end TDR
end
section
/-! the worlds of the two desks, and a row for each of their fields and arrays -/
abbrev vwCl : List vw_C := [(RX0, TX0, 6), (RX1, TX1, 7)]
/-- what stays through a walk of a method -/
def td_E (p : Program) (m : MethodId) (c : Code) (s : State) (args : Array Value) (cc : ByteArray) (nL : Nat) (own : String) (dC : Nat → ClassId) (dI : Nat → Nat → Nat) (tys : List (ClassId × FieldType)) (A : Nat → Prop) : Prop := p.tables.exec = Jvm.exec ∧ c.code = cc ∧ (∀ w ∈ lw_all, w.before args s = true) ∧ s.vm.findClass own = some m.cls ∧ va_K (dC, dI) vwCl tys s ∧ (∀ q : Nat, s.heap.size ≤ q → A q) ∧ c.maxLocals = nL
def xW (a : Nat → Nat) (ca : Nat → ClassId) (fR : Nat → Int32) (fB : Nat → Int32) (fW : Nat → Int64) (fC : Nat → Int32) (kc : Int32) (kr : Int32) : va_W := [(a 0, .inr (0, [.ref (a 1), .ref (a 2), .ref (a 3), .ref (a 4), .int kc, .int kr])), (a 1, .inl (ca 1, 24, .inl fR)), (a 2, .inl (ca 2, 4096, .inl fB)), (a 3, .inl (ca 3, 4096, .inr (.inl fW))), (a 4, .inl (ca 4, 102400, .inl fC))]
def xT (ca : Nat → ClassId) : List (ClassId × FieldType) := [(ca 1, .int), (ca 2, .int), (ca 3, .long), (ca 4, .boolean)]
abbrev xE (p : Program) (m : MethodId) (c : Code) (s : State) (args : Array Value) (cc : ByteArray) (nL : Nat) (dC : Nat → ClassId) (dI : Nat → Nat → Nat) (ca : Nat → ClassId) (A : Nat → Prop) : Prop := td_E p m c s args cc nL RX0 dC dI (xT ca) A
/-- the world as it is now -/
def xS (dC : Nat → ClassId) (dI : Nat → Nat → Nat) (A : Nat → Prop) (s : State) (a : Nat → Nat) (ca : Nat → ClassId) (fR : Nat → Int32) (fB : Nat → Int32) (fW : Nat → Int64) (fC : Nat → Int32) (kc : Int32) (kr : Int32) (H : Heap) (locs : List Loc) : Prop := va_P (dC, dI) vwCl (xW a ca fR fB fW fC kc kr) H ∧ va_D A (xW a ca fR fB fW fC kc kr) ∧ va_S A s.heap H locs
abbrev xU : Type := (Nat → Int32) × (Nat → Int32) × (Nat → Int64) × (Nat → Int32) × (Int32) × (Int32)
/-- the world behind a method -/
def xB (dC : Nat → ClassId) (dI : Nat → Nat → Nat) (A : Nat → Prop) (a : Nat → Nat) (ca : Nat → ClassId) (u : xU) (t : State) : Prop := va_P (dC, dI) vwCl (xW a ca u.1 u.2.1 u.2.2.1 u.2.2.2.1 u.2.2.2.2.1 u.2.2.2.2.2) t.heap ∧ va_K (dC, dI) vwCl (xT ca) t ∧ va_D A (xW a ca u.1 u.2.1 u.2.2.1 u.2.2.2.1 u.2.2.2.2.1 u.2.2.2.2.2)
/-- the world ahead of a method -/
def xPre (dC : Nat → ClassId) (dI : Nat → Nat → Nat) (a : Nat → Nat) (ca : Nat → ClassId) (sz : Nat) (fR : Nat → Int32) (fB : Nat → Int32) (fW : Nat → Int64) (fC : Nat → Int32) (kc : Int32) (kr : Int32) (U : State) : Prop := U.heap.size = sz ∧ va_P (dC, dI) vwCl (xW a ca fR fB fW fC kc kr) U.heap ∧ va_K (dC, dI) vwCl (xT ca) U ∧ va_D (fun _ => True) (xW a ca fR fB fW fC kc kr)
section TX
variable {p : Program} {l : Launch} {e : Env} {R : Room} {s : State} {m : MethodId} {args : Array Value} {below : List Frame} {meth : Method} {c : Code} {H : Heap} {locs : List Loc} {cells slots : Nat} {Q : State → Prop}
variable {cc : ByteArray} {pc nL : Nat} {ls : Array Slot} {rest : List Value} {dC : Nat → ClassId} {dI : Nat → Nat → Nat} {A : Nat → Prop} {a : Nat → Nat} {ca : Nat → ClassId}
variable {fR : Nat → Int32} {fB : Nat → Int32} {fW : Nat → Int64} {fC : Nat → Int32} {kc : Int32} {kr : Int32}
theorem xg_row (E : xE p m c s args cc nL dC dI ca A) (S : xS dC dI A s a ca fR fB fW fC kc kr H locs) (hd : decode cc pc = .ok (.getfield 9, 3)) (k : W p l e R s m args below meth c H locs cells slots Q (F0 m (pc + 3) ls (.ref (a 1) :: rest))) : W p l e R s m args below meth c H locs cells slots Q (F0 m pc ls (.ref (a 0) :: rest)) := va_get (D := (dC, dI)) (ci := 0) (v := .ref (a 1)) (C := RX0) (T := TX0) (N := 6) E.1 E.2.1 E.2.2.1 in_X0 E.2.2.2.1 E.2.2.2.2.1 S.1 0 rfl rfl 0 (by decide) (E.2.2.1 _ q15) (fun _ h9 => h9) rfl hd k
theorem xg_best (E : xE p m c s args cc nL dC dI ca A) (S : xS dC dI A s a ca fR fB fW fC kc kr H locs) (hd : decode cc pc = .ok (.getfield 13, 3)) (k : W p l e R s m args below meth c H locs cells slots Q (F0 m (pc + 3) ls (.ref (a 2) :: rest))) : W p l e R s m args below meth c H locs cells slots Q (F0 m pc ls (.ref (a 0) :: rest)) := va_get (D := (dC, dI)) (ci := 0) (v := .ref (a 2)) (C := RX0) (T := TX0) (N := 6) E.1 E.2.1 E.2.2.1 in_X0 E.2.2.2.1 E.2.2.2.2.1 S.1 0 rfl rfl 1 (by decide) (E.2.2.1 _ q16) (fun _ h9 => h9) rfl hd k
theorem xg_ways (E : xE p m c s args cc nL dC dI ca A) (S : xS dC dI A s a ca fR fB fW fC kc kr H locs) (hd : decode cc pc = .ok (.getfield 16, 3)) (k : W p l e R s m args below meth c H locs cells slots Q (F0 m (pc + 3) ls (.ref (a 3) :: rest))) : W p l e R s m args below meth c H locs cells slots Q (F0 m pc ls (.ref (a 0) :: rest)) := va_get (D := (dC, dI)) (ci := 0) (v := .ref (a 3)) (C := RX0) (T := TX0) (N := 6) E.1 E.2.1 E.2.2.1 in_X0 E.2.2.2.1 E.2.2.2.2.1 S.1 0 rfl rfl 2 (by decide) (E.2.2.1 _ q17) (fun _ h9 => h9) rfl hd k
theorem xg_can (E : xE p m c s args cc nL dC dI ca A) (S : xS dC dI A s a ca fR fB fW fC kc kr H locs) (hd : decode cc pc = .ok (.getfield 21, 3)) (k : W p l e R s m args below meth c H locs cells slots Q (F0 m (pc + 3) ls (.ref (a 4) :: rest))) : W p l e R s m args below meth c H locs cells slots Q (F0 m pc ls (.ref (a 0) :: rest)) := va_get (D := (dC, dI)) (ci := 0) (v := .ref (a 4)) (C := RX0) (T := TX0) (N := 6) E.1 E.2.1 E.2.2.1 in_X0 E.2.2.2.1 E.2.2.2.2.1 S.1 0 rfl rfl 3 (by decide) (E.2.2.1 _ q18) (fun _ h9 => h9) rfl hd k
theorem xg_columns (E : xE p m c s args cc nL dC dI ca A) (S : xS dC dI A s a ca fR fB fW fC kc kr H locs) (hd : decode cc pc = .ok (.getfield 25, 3)) (k : W p l e R s m args below meth c H locs cells slots Q (F0 m (pc + 3) ls (.int kc :: rest))) : W p l e R s m args below meth c H locs cells slots Q (F0 m pc ls (.ref (a 0) :: rest)) := va_get (D := (dC, dI)) (ci := 0) (v := .int kc) (C := RX0) (T := TX0) (N := 6) E.1 E.2.1 E.2.2.1 in_X0 E.2.2.2.1 E.2.2.2.2.1 S.1 0 rfl rfl 4 (by decide) (E.2.2.1 _ q19) (fun _ h9 => h9) rfl hd k
theorem xp_columns (E : xE p m c s args cc nL dC dI ca A) (S : xS dC dI A s a ca fR fB fW fC kc kr H locs) {v : Int32} (hd : decode cc pc = .ok (.putfield 25, 3)) (k : ∀ (H : Heap) (locs : List Loc), xS dC dI A s a ca fR fB fW fC v kr H locs → W p l e R s m args below meth c H locs cells slots Q (F0 m (pc + 3) ls rest)) : W p l e R s m args below meth c H locs cells slots Q (F0 m pc ls (.int v :: .ref (a 0) :: rest)) := va_put (D := (dC, dI)) (ci := 0) (v := .int v) (ty := .int) (C := RX0) (T := TX0) (N := 6) E.1 E.2.1 E.2.2.1 in_X0 tyX0 tyX0_ok nmX0 E.2.2.2.1 E.2.2.2.2.1 S.1 S.2.1 S.2.2 0 rfl rfl 4 (by decide) (E.2.2.1 _ q19) (fun _ h9 => h9) rfl (by decide +kernel) rfl rfl (Nat.le_of_ble_eq_true rfl) hd (fun H locs hP hD hS => k H locs ⟨hP, hD, hS⟩)
theorem xg_rows (E : xE p m c s args cc nL dC dI ca A) (S : xS dC dI A s a ca fR fB fW fC kc kr H locs) (hd : decode cc pc = .ok (.getfield 30, 3)) (k : W p l e R s m args below meth c H locs cells slots Q (F0 m (pc + 3) ls (.int kr :: rest))) : W p l e R s m args below meth c H locs cells slots Q (F0 m pc ls (.ref (a 0) :: rest)) := va_get (D := (dC, dI)) (ci := 0) (v := .int kr) (C := RX0) (T := TX0) (N := 6) E.1 E.2.1 E.2.2.1 in_X0 E.2.2.2.1 E.2.2.2.2.1 S.1 0 rfl rfl 5 (by decide) (E.2.2.1 _ q20) (fun _ h9 => h9) rfl hd k
theorem xp_rows (E : xE p m c s args cc nL dC dI ca A) (S : xS dC dI A s a ca fR fB fW fC kc kr H locs) {v : Int32} (hd : decode cc pc = .ok (.putfield 30, 3)) (k : ∀ (H : Heap) (locs : List Loc), xS dC dI A s a ca fR fB fW fC kc v H locs → W p l e R s m args below meth c H locs cells slots Q (F0 m (pc + 3) ls rest)) : W p l e R s m args below meth c H locs cells slots Q (F0 m pc ls (.int v :: .ref (a 0) :: rest)) := va_put (D := (dC, dI)) (ci := 0) (v := .int v) (ty := .int) (C := RX0) (T := TX0) (N := 6) E.1 E.2.1 E.2.2.1 in_X0 tyX0 tyX0_ok nmX0 E.2.2.2.1 E.2.2.2.2.1 S.1 S.2.1 S.2.2 0 rfl rfl 5 (by decide) (E.2.2.1 _ q20) (fun _ h9 => h9) rfl (by decide +kernel) rfl rfl (Nat.le_of_ble_eq_true rfl) hd (fun H locs hP hD hS => k H locs ⟨hP, hD, hS⟩)
theorem xl_row (E : xE p m c s args cc nL dC dI ca A) (S : xS dC dI A s a ca fR fB fW fC kc kr H locs) {j : Nat} (hj : j < 24) (hd : decode cc pc = .ok (.iaload, 1)) (k : W p l e R s m args below meth c H locs cells slots Q (F0 m (pc + 1) ls (.int (fR j) :: rest))) : W p l e R s m args below meth c H locs cells slots Q (F0 m pc ls (.int (nI j) :: .ref (a 1) :: rest)) := va_iald E.1 E.2.1 E.2.2.2.2.1 S.1 1 0 rfl rfl (vp_in_nI hj (by decide)) hd (by rw [nI_clamp (by omega)]; exact k)
theorem xs_row (E : xE p m c s args cc nL dC dI ca A) (S : xS dC dI A s a ca fR fB fW fC kc kr H locs) {j : Nat} {x : Int32} (hj : j < 24) (hd : decode cc pc = .ok (.iastore, 1)) (k : ∀ (H : Heap) (locs : List Loc), xS dC dI A s a ca (upd fR j x) fB fW fC kc kr H locs → W p l e R s m args below meth c H locs cells slots Q (F0 m (pc + 1) ls rest)) : W p l e R s m args below meth c H locs cells slots Q (F0 m pc ls (.int x :: .int (nI j) :: .ref (a 1) :: rest)) := va_iast E.1 E.2.1 E.2.2.2.2.1 S.1 S.2.1 S.2.2 1 0 rfl rfl (vp_in_nI hj (by decide)) hd (fun H locs hP hD hS => k H locs (by rw [nI_clamp (by omega)] at hP hD; exact ⟨hP, hD, hS⟩))
theorem xl_best (E : xE p m c s args cc nL dC dI ca A) (S : xS dC dI A s a ca fR fB fW fC kc kr H locs) {j : Nat} (hj : j < 4096) (hd : decode cc pc = .ok (.iaload, 1)) (k : W p l e R s m args below meth c H locs cells slots Q (F0 m (pc + 1) ls (.int (fB j) :: rest))) : W p l e R s m args below meth c H locs cells slots Q (F0 m pc ls (.int (nI j) :: .ref (a 2) :: rest)) := va_iald E.1 E.2.1 E.2.2.2.2.1 S.1 2 1 rfl rfl (vp_in_nI hj (by decide)) hd (by rw [nI_clamp (by omega)]; exact k)
theorem xs_best (E : xE p m c s args cc nL dC dI ca A) (S : xS dC dI A s a ca fR fB fW fC kc kr H locs) {j : Nat} {x : Int32} (hj : j < 4096) (hd : decode cc pc = .ok (.iastore, 1)) (k : ∀ (H : Heap) (locs : List Loc), xS dC dI A s a ca fR (upd fB j x) fW fC kc kr H locs → W p l e R s m args below meth c H locs cells slots Q (F0 m (pc + 1) ls rest)) : W p l e R s m args below meth c H locs cells slots Q (F0 m pc ls (.int x :: .int (nI j) :: .ref (a 2) :: rest)) := va_iast E.1 E.2.1 E.2.2.2.2.1 S.1 S.2.1 S.2.2 2 1 rfl rfl (vp_in_nI hj (by decide)) hd (fun H locs hP hD hS => k H locs (by rw [nI_clamp (by omega)] at hP hD; exact ⟨hP, hD, hS⟩))
theorem xl_ways (E : xE p m c s args cc nL dC dI ca A) (S : xS dC dI A s a ca fR fB fW fC kc kr H locs) {j : Nat} (hj : j < 4096) (hd : decode cc pc = .ok (.laload, 1)) (k : W p l e R s m args below meth c H locs cells slots Q (F0 m (pc + 1) ls (.long (fW j) :: rest))) : W p l e R s m args below meth c H locs cells slots Q (F0 m pc ls (.int (nI j) :: .ref (a 3) :: rest)) := va_lald E.1 E.2.1 E.2.2.2.2.1 S.1 3 2 rfl rfl (vp_in_nI hj (by decide)) hd (by rw [nI_clamp (by omega)]; exact k)
theorem xs_ways (E : xE p m c s args cc nL dC dI ca A) (S : xS dC dI A s a ca fR fB fW fC kc kr H locs) {j : Nat} {x : Int64} (hj : j < 4096) (hd : decode cc pc = .ok (.lastore, 1)) (k : ∀ (H : Heap) (locs : List Loc), xS dC dI A s a ca fR fB (vp_updL fW j x) fC kc kr H locs → W p l e R s m args below meth c H locs cells slots Q (F0 m (pc + 1) ls rest)) : W p l e R s m args below meth c H locs cells slots Q (F0 m pc ls (.long x :: .int (nI j) :: .ref (a 3) :: rest)) := va_last E.1 E.2.1 E.2.2.2.2.1 S.1 S.2.1 S.2.2 3 2 rfl rfl (vp_in_nI hj (by decide)) hd (fun H locs hP hD hS => k H locs (by rw [nI_clamp (by omega)] at hP hD; exact ⟨hP, hD, hS⟩))
theorem xl_can (E : xE p m c s args cc nL dC dI ca A) (S : xS dC dI A s a ca fR fB fW fC kc kr H locs) {j : Nat} (hj : j < 102400) (hd : decode cc pc = .ok (.baload, 1)) (k : W p l e R s m args below meth c H locs cells slots Q (F0 m (pc + 1) ls (.int (fC j) :: rest))) : W p l e R s m args below meth c H locs cells slots Q (F0 m pc ls (.int (nI j) :: .ref (a 4) :: rest)) := va_zald E.1 E.2.1 E.2.2.2.2.1 S.1 4 3 rfl rfl (vp_in_nI hj (by decide)) hd (by rw [nI_clamp (by omega)]; exact k)
theorem xs_can (E : xE p m c s args cc nL dC dI ca A) (S : xS dC dI A s a ca fR fB fW fC kc kr H locs) {j : Nat} {x : Int32} (hj : j < 102400) (hz : vp_nar .boolean x = x) (hd : decode cc pc = .ok (.bastore, 1)) (k : ∀ (H : Heap) (locs : List Loc), xS dC dI A s a ca fR fB fW (upd fC j x) kc kr H locs → W p l e R s m args below meth c H locs cells slots Q (F0 m (pc + 1) ls rest)) : W p l e R s m args below meth c H locs cells slots Q (F0 m pc ls (.int x :: .int (nI j) :: .ref (a 4) :: rest)) := va_zast E.1 E.2.1 E.2.2.2.2.1 S.1 S.2.1 S.2.2 4 3 rfl rfl (vp_in_nI hj (by decide)) hd (fun H locs hP hD hS => k H locs (by rw [nI_clamp (by omega), hz] at hP hD; exact ⟨hP, hD, hS⟩))
theorem x_vret (E : xE p m c s args cc nL dC dI ca A) (hr : meth.sig.returnType = none) (hlocks : meth.locks = false) (S : xS dC dI A s a ca fR fB fW fC kc kr H locs) {post : xU → Prop} (hp : post (fR, fB, fW, fC, kc, kr)) (hd : decode cc pc = .ok (.return_, 1)) : W p l e R s m args below meth c H locs cells slots (MQ below (va_Qv post (xB dC dI A a ca) A) args s cells slots A) (F0 m pc ls []) := W.vret E.1 E.2.1 hr (fun t ht hW => ⟨⟨(fR, fB, fW, fC, kc, kr), rfl, hp, by rw [ht]; exact S.1, va_K.moved hW.alike E.2.2.2.2.1, S.2.1⟩, S.2.2.F ht⟩) S.2.2.2.2 hd
theorem x_iret (E : xE p m c s args cc nL dC dI ca A) (hr : meth.sig.returnType = some .int) (hlocks : meth.locks = false) (S : xS dC dI A s a ca fR fB fW fC kc kr H locs) {post : Int32 → xU → Prop} {v : Int32} (hp : post v (fR, fB, fW, fC, kc, kr)) (hd : decode cc pc = .ok (.ireturn, 1)) : W p l e R s m args below meth c H locs cells slots (MQ below (va_Qi post (xB dC dI A a ca) A) args s cells slots A) (F0 m pc ls [.int v]) := W.iret (v := v) E.1 E.2.1 hr (fun t ht hW => ⟨⟨v, (fR, fB, fW, fC, kc, kr), rfl, hp, by rw [ht]; exact S.1, va_K.moved hW.alike E.2.2.2.2.1, S.2.1⟩, S.2.2.F ht⟩) S.2.2.2.2 hd
theorem x_zret (E : xE p m c s args cc nL dC dI ca A) (hr : meth.sig.returnType = some .boolean) (hlocks : meth.locks = false) (S : xS dC dI A s a ca fR fB fW fC kc kr H locs) {post : Int32 → xU → Prop} {v : Int32} (hn : narrow .boolean (.int v) = .int v) (hp : post v (fR, fB, fW, fC, kc, kr)) (hd : decode cc pc = .ok (.ireturn, 1)) : W p l e R s m args below meth c H locs cells slots (MQ below (va_Qi post (xB dC dI A a ca) A) args s cells slots A) (F0 m pc ls [.int v]) := W.zret (v := v) E.1 E.2.1 hr hn (fun t ht hW => ⟨⟨v, (fR, fB, fW, fC, kc, kr), rfl, hp, by rw [ht]; exact S.1, va_K.moved hW.alike E.2.2.2.2.1, S.2.1⟩, S.2.2.F ht⟩) S.2.2.2.2 hd
theorem x_lret (E : xE p m c s args cc nL dC dI ca A) (hr : meth.sig.returnType = some .long) (hlocks : meth.locks = false) (S : xS dC dI A s a ca fR fB fW fC kc kr H locs) {post : Int64 → xU → Prop} {v : Int64} (hp : post v (fR, fB, fW, fC, kc, kr)) (hd : decode cc pc = .ok (.lreturn, 1)) : W p l e R s m args below meth c H locs cells slots (MQ below (va_Ql post (xB dC dI A a ca) A) args s cells slots A) (F0 m pc ls [.long v]) := W.lret (v := v) E.1 E.2.1 hr (fun t ht hW => ⟨⟨v, (fR, fB, fW, fC, kc, kr), rfl, hp, by rw [ht]; exact S.1, va_K.moved hW.alike E.2.2.2.2.1, S.2.1⟩, S.2.2.F ht⟩) S.2.2.2.2 hd
end TX
/-- a method of this desk, from its entry -/
theorem x_enter {l : Launch} {y : MethodName} {cc : ByteArray} {maxL : Nat} {rt : Option FieldType} {rm : Room} {mc ms sz : Nat} {dC : Nat → ClassId} {dI : Nat → Nat → Nat} {a : Nat → Nat} {ca : Nat → ClassId} {fR : Nat → Int32} {fB : Nat → Int32} {fW : Nat → Int64} {fC : Nat → Int32} {kc : Int32} {kr : Int32} (av : List Value) (hav : (lg_sl av).length ≤ maxL) (hy : plainName y.cls = true) (hcl : y.cls = RX0) (Qc : (Nat → Prop) → Array Value → State → Outcome → State → Prop)
    (body : ∀ (p : Program) (e : Env) (s : State) (m : MethodId) (below : List Frame) (meth : Method) (c : Code) (A : Nat → Prop) (ls : Array Slot), xE p m c s av.toArray cc maxL dC dI ca A → meth.sig.returnType = rt → meth.locks = false → xS dC dI A s a ca fR fB fW fC kc kr s.heap [] → lv_has ls maxL (lv_args 0 av) → W p l e rm s m av.toArray below meth c s.heap [] 0 0 (MQ below (Qc A) av.toArray s mc ms A) (F0 m 0 ls [])) :
    Met l y (ws_ y cc maxL rt) rm (va_Pc av (xPre dC dI a ca sz fR fB fW fC kc kr)) (Qc (va_A (xW a ca fR fB fW fC kc kr) sz)) mc ms (va_A (xW a ca fR fB fW fC kc kr) sz) := by
  refine Met.ofW (cc := cc) (maxL := maxL) (ret := rt) hy rfl ?_
  intro p e s m args below meth c s₁ B hml hv
  obtain ⟨rfl, hsz, hP, hK, hD0⟩ := hv
  have hts := atoms_spec (ws := ws_ y cc maxL rt) B.pre
  have hts : ∀ w ∈ lw_all, w.before _ s = true := fun w h => hts w (List.mem_cons_of_mem _ h)
  have hown : s.vm.findClass y.cls = some m.cls := findClass_of_methodNamed B.named
  rw [hcl] at hown
  subst hsz
  have hl := lv_entry av (n := maxL) hav
  rw [lg_entry_eq]
  exact body p e s m below meth c _ _ ⟨B.exec, B.bytes, hts, hown, hK, fun q h => Or.inr h, hml⟩ B.returns B.notSynchronized ⟨hP, hD0.self, va_S.rf⟩ hl
def yW (a : Nat → Nat) (ca : Nat → ClassId) (gR : Nat → Int32) (gW : Nat → Int64) (gO : Nat → Int64) (gS : Nat → Int32) (kr : Int32) (kn : Int32) (kk : Int32) : va_W := [(a 0, .inr (1, [.ref (a 1), .int kr, .int kn, .int kk, .ref (a 2), .ref (a 3), .ref (a 4)])), (a 1, .inl (ca 1, 24, .inl gR)), (a 2, .inl (ca 2, 102400, .inr (.inl gW))), (a 3, .inl (ca 3, 4096, .inr (.inl gO))), (a 4, .inl (ca 4, 4096, .inl gS))]
def yT (ca : Nat → ClassId) : List (ClassId × FieldType) := [(ca 1, .int), (ca 2, .long), (ca 3, .long), (ca 4, .int)]
abbrev yE (p : Program) (m : MethodId) (c : Code) (s : State) (args : Array Value) (cc : ByteArray) (nL : Nat) (dC : Nat → ClassId) (dI : Nat → Nat → Nat) (ca : Nat → ClassId) (A : Nat → Prop) : Prop := td_E p m c s args cc nL RX1 dC dI (yT ca) A
/-- the world as it is now -/
def yS (dC : Nat → ClassId) (dI : Nat → Nat → Nat) (A : Nat → Prop) (s : State) (a : Nat → Nat) (ca : Nat → ClassId) (gR : Nat → Int32) (gW : Nat → Int64) (gO : Nat → Int64) (gS : Nat → Int32) (kr : Int32) (kn : Int32) (kk : Int32) (H : Heap) (locs : List Loc) : Prop := va_P (dC, dI) vwCl (yW a ca gR gW gO gS kr kn kk) H ∧ va_D A (yW a ca gR gW gO gS kr kn kk) ∧ va_S A s.heap H locs
abbrev yU : Type := (Nat → Int32) × (Nat → Int64) × (Nat → Int64) × (Nat → Int32) × (Int32) × (Int32) × (Int32)
/-- the world behind a method -/
def yB (dC : Nat → ClassId) (dI : Nat → Nat → Nat) (A : Nat → Prop) (a : Nat → Nat) (ca : Nat → ClassId) (u : yU) (t : State) : Prop := va_P (dC, dI) vwCl (yW a ca u.1 u.2.1 u.2.2.1 u.2.2.2.1 u.2.2.2.2.1 u.2.2.2.2.2.1 u.2.2.2.2.2.2) t.heap ∧ va_K (dC, dI) vwCl (yT ca) t ∧ va_D A (yW a ca u.1 u.2.1 u.2.2.1 u.2.2.2.1 u.2.2.2.2.1 u.2.2.2.2.2.1 u.2.2.2.2.2.2)
/-- the world ahead of a method -/
def yPre (dC : Nat → ClassId) (dI : Nat → Nat → Nat) (a : Nat → Nat) (ca : Nat → ClassId) (sz : Nat) (gR : Nat → Int32) (gW : Nat → Int64) (gO : Nat → Int64) (gS : Nat → Int32) (kr : Int32) (kn : Int32) (kk : Int32) (U : State) : Prop := U.heap.size = sz ∧ va_P (dC, dI) vwCl (yW a ca gR gW gO gS kr kn kk) U.heap ∧ va_K (dC, dI) vwCl (yT ca) U ∧ va_D (fun _ => True) (yW a ca gR gW gO gS kr kn kk)
section TY
variable {p : Program} {l : Launch} {e : Env} {R : Room} {s : State} {m : MethodId} {args : Array Value} {below : List Frame} {meth : Method} {c : Code} {H : Heap} {locs : List Loc} {cells slots : Nat} {Q : State → Prop}
variable {cc : ByteArray} {pc nL : Nat} {ls : Array Slot} {rest : List Value} {dC : Nat → ClassId} {dI : Nat → Nat → Nat} {A : Nat → Prop} {a : Nat → Nat} {ca : Nat → ClassId}
variable {gR : Nat → Int32} {gW : Nat → Int64} {gO : Nat → Int64} {gS : Nat → Int32} {kr : Int32} {kn : Int32} {kk : Int32}
theorem yg_row (E : yE p m c s args cc nL dC dI ca A) (S : yS dC dI A s a ca gR gW gO gS kr kn kk H locs) (hd : decode cc pc = .ok (.getfield 7, 3)) (k : W p l e R s m args below meth c H locs cells slots Q (F0 m (pc + 3) ls (.ref (a 1) :: rest))) : W p l e R s m args below meth c H locs cells slots Q (F0 m pc ls (.ref (a 0) :: rest)) := va_get (D := (dC, dI)) (ci := 1) (v := .ref (a 1)) (C := RX1) (T := TX1) (N := 7) E.1 E.2.1 E.2.2.1 in_X1 E.2.2.2.1 E.2.2.2.2.1 S.1 0 rfl rfl 0 (by decide) (E.2.2.1 _ q81) (fun _ h9 => h9) rfl hd k
theorem yg_rows (E : yE p m c s args cc nL dC dI ca A) (S : yS dC dI A s a ca gR gW gO gS kr kn kk H locs) (hd : decode cc pc = .ok (.getfield 29, 3)) (k : W p l e R s m args below meth c H locs cells slots Q (F0 m (pc + 3) ls (.int kr :: rest))) : W p l e R s m args below meth c H locs cells slots Q (F0 m pc ls (.ref (a 0) :: rest)) := va_get (D := (dC, dI)) (ci := 1) (v := .int kr) (C := RX1) (T := TX1) (N := 7) E.1 E.2.1 E.2.2.1 in_X1 E.2.2.2.1 E.2.2.2.2.1 S.1 0 rfl rfl 1 (by decide) (E.2.2.1 _ q82) (fun _ h9 => h9) rfl hd k
theorem yp_rows (E : yE p m c s args cc nL dC dI ca A) (S : yS dC dI A s a ca gR gW gO gS kr kn kk H locs) {v : Int32} (hd : decode cc pc = .ok (.putfield 29, 3)) (k : ∀ (H : Heap) (locs : List Loc), yS dC dI A s a ca gR gW gO gS v kn kk H locs → W p l e R s m args below meth c H locs cells slots Q (F0 m (pc + 3) ls rest)) : W p l e R s m args below meth c H locs cells slots Q (F0 m pc ls (.int v :: .ref (a 0) :: rest)) := va_put (D := (dC, dI)) (ci := 1) (v := .int v) (ty := .int) (C := RX1) (T := TX1) (N := 7) E.1 E.2.1 E.2.2.1 in_X1 tyX1 tyX1_ok nmX1 E.2.2.2.1 E.2.2.2.2.1 S.1 S.2.1 S.2.2 0 rfl rfl 1 (by decide) (E.2.2.1 _ q82) (fun _ h9 => h9) rfl (by decide +kernel) rfl rfl (Nat.le_of_ble_eq_true rfl) hd (fun H locs hP hD hS => k H locs ⟨hP, hD, hS⟩)
theorem yg_n (E : yE p m c s args cc nL dC dI ca A) (S : yS dC dI A s a ca gR gW gO gS kr kn kk H locs) (hd : decode cc pc = .ok (.getfield 13, 3)) (k : W p l e R s m args below meth c H locs cells slots Q (F0 m (pc + 3) ls (.int kn :: rest))) : W p l e R s m args below meth c H locs cells slots Q (F0 m pc ls (.ref (a 0) :: rest)) := va_get (D := (dC, dI)) (ci := 1) (v := .int kn) (C := RX1) (T := TX1) (N := 7) E.1 E.2.1 E.2.2.1 in_X1 E.2.2.2.1 E.2.2.2.2.1 S.1 0 rfl rfl 2 (by decide) (E.2.2.1 _ q83) (fun _ h9 => h9) rfl hd k
theorem yp_n (E : yE p m c s args cc nL dC dI ca A) (S : yS dC dI A s a ca gR gW gO gS kr kn kk H locs) {v : Int32} (hd : decode cc pc = .ok (.putfield 13, 3)) (k : ∀ (H : Heap) (locs : List Loc), yS dC dI A s a ca gR gW gO gS kr v kk H locs → W p l e R s m args below meth c H locs cells slots Q (F0 m (pc + 3) ls rest)) : W p l e R s m args below meth c H locs cells slots Q (F0 m pc ls (.int v :: .ref (a 0) :: rest)) := va_put (D := (dC, dI)) (ci := 1) (v := .int v) (ty := .int) (C := RX1) (T := TX1) (N := 7) E.1 E.2.1 E.2.2.1 in_X1 tyX1 tyX1_ok nmX1 E.2.2.2.1 E.2.2.2.2.1 S.1 S.2.1 S.2.2 0 rfl rfl 2 (by decide) (E.2.2.1 _ q83) (fun _ h9 => h9) rfl (by decide +kernel) rfl rfl (Nat.le_of_ble_eq_true rfl) hd (fun H locs hP hD hS => k H locs ⟨hP, hD, hS⟩)
theorem yg_known (E : yE p m c s args cc nL dC dI ca A) (S : yS dC dI A s a ca gR gW gO gS kr kn kk H locs) (hd : decode cc pc = .ok (.getfield 32, 3)) (k : W p l e R s m args below meth c H locs cells slots Q (F0 m (pc + 3) ls (.int kk :: rest))) : W p l e R s m args below meth c H locs cells slots Q (F0 m pc ls (.ref (a 0) :: rest)) := va_get (D := (dC, dI)) (ci := 1) (v := .int kk) (C := RX1) (T := TX1) (N := 7) E.1 E.2.1 E.2.2.1 in_X1 E.2.2.2.1 E.2.2.2.2.1 S.1 0 rfl rfl 3 (by decide) (E.2.2.1 _ q84) (fun _ h9 => h9) rfl hd k
theorem yp_known (E : yE p m c s args cc nL dC dI ca A) (S : yS dC dI A s a ca gR gW gO gS kr kn kk H locs) {v : Int32} (hn : narrow .boolean (.int v) = .int v) (hf : fits .boolean (.int v) = true) (hd : decode cc pc = .ok (.putfield 32, 3)) (k : ∀ (H : Heap) (locs : List Loc), yS dC dI A s a ca gR gW gO gS kr kn v H locs → W p l e R s m args below meth c H locs cells slots Q (F0 m (pc + 3) ls rest)) : W p l e R s m args below meth c H locs cells slots Q (F0 m pc ls (.int v :: .ref (a 0) :: rest)) := va_put (D := (dC, dI)) (ci := 1) (v := .int v) (ty := .boolean) (C := RX1) (T := TX1) (N := 7) E.1 E.2.1 E.2.2.1 in_X1 tyX1 tyX1_ok nmX1 E.2.2.2.1 E.2.2.2.2.1 S.1 S.2.1 S.2.2 0 rfl rfl 3 (by decide) (E.2.2.1 _ q84) (fun _ h9 => h9) rfl (by decide +kernel) hn hf (Nat.le_of_ble_eq_true rfl) hd (fun H locs hP hD hS => k H locs ⟨hP, hD, hS⟩)
theorem yg_ways (E : yE p m c s args cc nL dC dI ca A) (S : yS dC dI A s a ca gR gW gO gS kr kn kk H locs) (hd : decode cc pc = .ok (.getfield 18, 3)) (k : W p l e R s m args below meth c H locs cells slots Q (F0 m (pc + 3) ls (.ref (a 2) :: rest))) : W p l e R s m args below meth c H locs cells slots Q (F0 m pc ls (.ref (a 0) :: rest)) := va_get (D := (dC, dI)) (ci := 1) (v := .ref (a 2)) (C := RX1) (T := TX1) (N := 7) E.1 E.2.1 E.2.2.1 in_X1 E.2.2.2.1 E.2.2.2.2.1 S.1 0 rfl rfl 4 (by decide) (E.2.2.1 _ q85) (fun _ h9 => h9) rfl hd k
theorem yg_other (E : yE p m c s args cc nL dC dI ca A) (S : yS dC dI A s a ca gR gW gO gS kr kn kk H locs) (hd : decode cc pc = .ok (.getfield 22, 3)) (k : W p l e R s m args below meth c H locs cells slots Q (F0 m (pc + 3) ls (.ref (a 3) :: rest))) : W p l e R s m args below meth c H locs cells slots Q (F0 m pc ls (.ref (a 0) :: rest)) := va_get (D := (dC, dI)) (ci := 1) (v := .ref (a 3)) (C := RX1) (T := TX1) (N := 7) E.1 E.2.1 E.2.2.1 in_X1 E.2.2.2.1 E.2.2.2.2.1 S.1 0 rfl rfl 5 (by decide) (E.2.2.1 _ q86) (fun _ h9 => h9) rfl hd k
theorem yg_size (E : yE p m c s args cc nL dC dI ca A) (S : yS dC dI A s a ca gR gW gO gS kr kn kk H locs) (hd : decode cc pc = .ok (.getfield 25, 3)) (k : W p l e R s m args below meth c H locs cells slots Q (F0 m (pc + 3) ls (.ref (a 4) :: rest))) : W p l e R s m args below meth c H locs cells slots Q (F0 m pc ls (.ref (a 0) :: rest)) := va_get (D := (dC, dI)) (ci := 1) (v := .ref (a 4)) (C := RX1) (T := TX1) (N := 7) E.1 E.2.1 E.2.2.1 in_X1 E.2.2.2.1 E.2.2.2.2.1 S.1 0 rfl rfl 6 (by decide) (E.2.2.1 _ q87) (fun _ h9 => h9) rfl hd k
theorem yl_row (E : yE p m c s args cc nL dC dI ca A) (S : yS dC dI A s a ca gR gW gO gS kr kn kk H locs) {j : Nat} (hj : j < 24) (hd : decode cc pc = .ok (.iaload, 1)) (k : W p l e R s m args below meth c H locs cells slots Q (F0 m (pc + 1) ls (.int (gR j) :: rest))) : W p l e R s m args below meth c H locs cells slots Q (F0 m pc ls (.int (nI j) :: .ref (a 1) :: rest)) := va_iald E.1 E.2.1 E.2.2.2.2.1 S.1 1 0 rfl rfl (vp_in_nI hj (by decide)) hd (by rw [nI_clamp (by omega)]; exact k)
theorem ys_row (E : yE p m c s args cc nL dC dI ca A) (S : yS dC dI A s a ca gR gW gO gS kr kn kk H locs) {j : Nat} {x : Int32} (hj : j < 24) (hd : decode cc pc = .ok (.iastore, 1)) (k : ∀ (H : Heap) (locs : List Loc), yS dC dI A s a ca (upd gR j x) gW gO gS kr kn kk H locs → W p l e R s m args below meth c H locs cells slots Q (F0 m (pc + 1) ls rest)) : W p l e R s m args below meth c H locs cells slots Q (F0 m pc ls (.int x :: .int (nI j) :: .ref (a 1) :: rest)) := va_iast E.1 E.2.1 E.2.2.2.2.1 S.1 S.2.1 S.2.2 1 0 rfl rfl (vp_in_nI hj (by decide)) hd (fun H locs hP hD hS => k H locs (by rw [nI_clamp (by omega)] at hP hD; exact ⟨hP, hD, hS⟩))
theorem yl_ways (E : yE p m c s args cc nL dC dI ca A) (S : yS dC dI A s a ca gR gW gO gS kr kn kk H locs) {j : Nat} (hj : j < 102400) (hd : decode cc pc = .ok (.laload, 1)) (k : W p l e R s m args below meth c H locs cells slots Q (F0 m (pc + 1) ls (.long (gW j) :: rest))) : W p l e R s m args below meth c H locs cells slots Q (F0 m pc ls (.int (nI j) :: .ref (a 2) :: rest)) := va_lald E.1 E.2.1 E.2.2.2.2.1 S.1 2 1 rfl rfl (vp_in_nI hj (by decide)) hd (by rw [nI_clamp (by omega)]; exact k)
theorem ys_ways (E : yE p m c s args cc nL dC dI ca A) (S : yS dC dI A s a ca gR gW gO gS kr kn kk H locs) {j : Nat} {x : Int64} (hj : j < 102400) (hd : decode cc pc = .ok (.lastore, 1)) (k : ∀ (H : Heap) (locs : List Loc), yS dC dI A s a ca gR (vp_updL gW j x) gO gS kr kn kk H locs → W p l e R s m args below meth c H locs cells slots Q (F0 m (pc + 1) ls rest)) : W p l e R s m args below meth c H locs cells slots Q (F0 m pc ls (.long x :: .int (nI j) :: .ref (a 2) :: rest)) := va_last E.1 E.2.1 E.2.2.2.2.1 S.1 S.2.1 S.2.2 2 1 rfl rfl (vp_in_nI hj (by decide)) hd (fun H locs hP hD hS => k H locs (by rw [nI_clamp (by omega)] at hP hD; exact ⟨hP, hD, hS⟩))
theorem yl_other (E : yE p m c s args cc nL dC dI ca A) (S : yS dC dI A s a ca gR gW gO gS kr kn kk H locs) {j : Nat} (hj : j < 4096) (hd : decode cc pc = .ok (.laload, 1)) (k : W p l e R s m args below meth c H locs cells slots Q (F0 m (pc + 1) ls (.long (gO j) :: rest))) : W p l e R s m args below meth c H locs cells slots Q (F0 m pc ls (.int (nI j) :: .ref (a 3) :: rest)) := va_lald E.1 E.2.1 E.2.2.2.2.1 S.1 3 2 rfl rfl (vp_in_nI hj (by decide)) hd (by rw [nI_clamp (by omega)]; exact k)
theorem ys_other (E : yE p m c s args cc nL dC dI ca A) (S : yS dC dI A s a ca gR gW gO gS kr kn kk H locs) {j : Nat} {x : Int64} (hj : j < 4096) (hd : decode cc pc = .ok (.lastore, 1)) (k : ∀ (H : Heap) (locs : List Loc), yS dC dI A s a ca gR gW (vp_updL gO j x) gS kr kn kk H locs → W p l e R s m args below meth c H locs cells slots Q (F0 m (pc + 1) ls rest)) : W p l e R s m args below meth c H locs cells slots Q (F0 m pc ls (.long x :: .int (nI j) :: .ref (a 3) :: rest)) := va_last E.1 E.2.1 E.2.2.2.2.1 S.1 S.2.1 S.2.2 3 2 rfl rfl (vp_in_nI hj (by decide)) hd (fun H locs hP hD hS => k H locs (by rw [nI_clamp (by omega)] at hP hD; exact ⟨hP, hD, hS⟩))
theorem yl_size (E : yE p m c s args cc nL dC dI ca A) (S : yS dC dI A s a ca gR gW gO gS kr kn kk H locs) {j : Nat} (hj : j < 4096) (hd : decode cc pc = .ok (.iaload, 1)) (k : W p l e R s m args below meth c H locs cells slots Q (F0 m (pc + 1) ls (.int (gS j) :: rest))) : W p l e R s m args below meth c H locs cells slots Q (F0 m pc ls (.int (nI j) :: .ref (a 4) :: rest)) := va_iald E.1 E.2.1 E.2.2.2.2.1 S.1 4 3 rfl rfl (vp_in_nI hj (by decide)) hd (by rw [nI_clamp (by omega)]; exact k)
theorem ys_size (E : yE p m c s args cc nL dC dI ca A) (S : yS dC dI A s a ca gR gW gO gS kr kn kk H locs) {j : Nat} {x : Int32} (hj : j < 4096) (hd : decode cc pc = .ok (.iastore, 1)) (k : ∀ (H : Heap) (locs : List Loc), yS dC dI A s a ca gR gW gO (upd gS j x) kr kn kk H locs → W p l e R s m args below meth c H locs cells slots Q (F0 m (pc + 1) ls rest)) : W p l e R s m args below meth c H locs cells slots Q (F0 m pc ls (.int x :: .int (nI j) :: .ref (a 4) :: rest)) := va_iast E.1 E.2.1 E.2.2.2.2.1 S.1 S.2.1 S.2.2 4 3 rfl rfl (vp_in_nI hj (by decide)) hd (fun H locs hP hD hS => k H locs (by rw [nI_clamp (by omega)] at hP hD; exact ⟨hP, hD, hS⟩))
theorem y_vret (E : yE p m c s args cc nL dC dI ca A) (hr : meth.sig.returnType = none) (hlocks : meth.locks = false) (S : yS dC dI A s a ca gR gW gO gS kr kn kk H locs) {post : yU → Prop} (hp : post (gR, gW, gO, gS, kr, kn, kk)) (hd : decode cc pc = .ok (.return_, 1)) : W p l e R s m args below meth c H locs cells slots (MQ below (va_Qv post (yB dC dI A a ca) A) args s cells slots A) (F0 m pc ls []) := W.vret E.1 E.2.1 hr (fun t ht hW => ⟨⟨(gR, gW, gO, gS, kr, kn, kk), rfl, hp, by rw [ht]; exact S.1, va_K.moved hW.alike E.2.2.2.2.1, S.2.1⟩, S.2.2.F ht⟩) S.2.2.2.2 hd
theorem y_iret (E : yE p m c s args cc nL dC dI ca A) (hr : meth.sig.returnType = some .int) (hlocks : meth.locks = false) (S : yS dC dI A s a ca gR gW gO gS kr kn kk H locs) {post : Int32 → yU → Prop} {v : Int32} (hp : post v (gR, gW, gO, gS, kr, kn, kk)) (hd : decode cc pc = .ok (.ireturn, 1)) : W p l e R s m args below meth c H locs cells slots (MQ below (va_Qi post (yB dC dI A a ca) A) args s cells slots A) (F0 m pc ls [.int v]) := W.iret (v := v) E.1 E.2.1 hr (fun t ht hW => ⟨⟨v, (gR, gW, gO, gS, kr, kn, kk), rfl, hp, by rw [ht]; exact S.1, va_K.moved hW.alike E.2.2.2.2.1, S.2.1⟩, S.2.2.F ht⟩) S.2.2.2.2 hd
theorem y_zret (E : yE p m c s args cc nL dC dI ca A) (hr : meth.sig.returnType = some .boolean) (hlocks : meth.locks = false) (S : yS dC dI A s a ca gR gW gO gS kr kn kk H locs) {post : Int32 → yU → Prop} {v : Int32} (hn : narrow .boolean (.int v) = .int v) (hp : post v (gR, gW, gO, gS, kr, kn, kk)) (hd : decode cc pc = .ok (.ireturn, 1)) : W p l e R s m args below meth c H locs cells slots (MQ below (va_Qi post (yB dC dI A a ca) A) args s cells slots A) (F0 m pc ls [.int v]) := W.zret (v := v) E.1 E.2.1 hr hn (fun t ht hW => ⟨⟨v, (gR, gW, gO, gS, kr, kn, kk), rfl, hp, by rw [ht]; exact S.1, va_K.moved hW.alike E.2.2.2.2.1, S.2.1⟩, S.2.2.F ht⟩) S.2.2.2.2 hd
theorem y_lret (E : yE p m c s args cc nL dC dI ca A) (hr : meth.sig.returnType = some .long) (hlocks : meth.locks = false) (S : yS dC dI A s a ca gR gW gO gS kr kn kk H locs) {post : Int64 → yU → Prop} {v : Int64} (hp : post v (gR, gW, gO, gS, kr, kn, kk)) (hd : decode cc pc = .ok (.lreturn, 1)) : W p l e R s m args below meth c H locs cells slots (MQ below (va_Ql post (yB dC dI A a ca) A) args s cells slots A) (F0 m pc ls [.long v]) := W.lret (v := v) E.1 E.2.1 hr (fun t ht hW => ⟨⟨v, (gR, gW, gO, gS, kr, kn, kk), rfl, hp, by rw [ht]; exact S.1, va_K.moved hW.alike E.2.2.2.2.1, S.2.1⟩, S.2.2.F ht⟩) S.2.2.2.2 hd
end TY
/-- a method of this desk, from its entry -/
theorem y_enter {l : Launch} {y : MethodName} {cc : ByteArray} {maxL : Nat} {rt : Option FieldType} {rm : Room} {mc ms sz : Nat} {dC : Nat → ClassId} {dI : Nat → Nat → Nat} {a : Nat → Nat} {ca : Nat → ClassId} {gR : Nat → Int32} {gW : Nat → Int64} {gO : Nat → Int64} {gS : Nat → Int32} {kr : Int32} {kn : Int32} {kk : Int32} (av : List Value) (hav : (lg_sl av).length ≤ maxL) (hy : plainName y.cls = true) (hcl : y.cls = RX1) (Qc : (Nat → Prop) → Array Value → State → Outcome → State → Prop)
    (body : ∀ (p : Program) (e : Env) (s : State) (m : MethodId) (below : List Frame) (meth : Method) (c : Code) (A : Nat → Prop) (ls : Array Slot), yE p m c s av.toArray cc maxL dC dI ca A → meth.sig.returnType = rt → meth.locks = false → yS dC dI A s a ca gR gW gO gS kr kn kk s.heap [] → lv_has ls maxL (lv_args 0 av) → W p l e rm s m av.toArray below meth c s.heap [] 0 0 (MQ below (Qc A) av.toArray s mc ms A) (F0 m 0 ls [])) :
    Met l y (ws_ y cc maxL rt) rm (va_Pc av (yPre dC dI a ca sz gR gW gO gS kr kn kk)) (Qc (va_A (yW a ca gR gW gO gS kr kn kk) sz)) mc ms (va_A (yW a ca gR gW gO gS kr kn kk) sz) := by
  refine Met.ofW (cc := cc) (maxL := maxL) (ret := rt) hy rfl ?_
  intro p e s m args below meth c s₁ B hml hv
  obtain ⟨rfl, hsz, hP, hK, hD0⟩ := hv
  have hts := atoms_spec (ws := ws_ y cc maxL rt) B.pre
  have hts : ∀ w ∈ lw_all, w.before _ s = true := fun w h => hts w (List.mem_cons_of_mem _ h)
  have hown : s.vm.findClass y.cls = some m.cls := findClass_of_methodNamed B.named
  rw [hcl] at hown
  subst hsz
  have hl := lv_entry av (n := maxL) hav
  rw [lg_entry_eq]
  exact body p e s m below meth c _ _ ⟨B.exec, B.bytes, hts, hown, hK, fun q h => Or.inr h, hml⟩ B.returns B.notSynchronized ⟨hP, hD0.self, va_S.rf⟩ hl
end
section
/-! contracts of the two desks: their forms, a call within a desk, constructors -/
abbrev xMi (l : Launch) (y : MethodName) (cc : ByteArray) (maxL : Nat) (rt : Option FieldType) (rm : Room) (av : List Value) (dC : Nat → ClassId) (dI : Nat → Nat → Nat) (a : Nat → Nat) (ca : Nat → ClassId) (sz : Nat) (fR : Nat → Int32) (fB : Nat → Int32) (fW : Nat → Int64) (fC : Nat → Int32) (kc : Int32) (kr : Int32) (post : Int32 → xU → Prop) : Prop := Met l y (ws_ y cc maxL rt) rm (va_Pc av (xPre dC dI a ca sz fR fB fW fC kc kr)) (va_Qi post (xB dC dI (va_A (xW a ca fR fB fW fC kc kr) sz) a ca) (va_A (xW a ca fR fB fW fC kc kr) sz)) 0 0 (va_A (xW a ca fR fB fW fC kc kr) sz)
abbrev xMl (l : Launch) (y : MethodName) (cc : ByteArray) (maxL : Nat) (rt : Option FieldType) (rm : Room) (av : List Value) (dC : Nat → ClassId) (dI : Nat → Nat → Nat) (a : Nat → Nat) (ca : Nat → ClassId) (sz : Nat) (fR : Nat → Int32) (fB : Nat → Int32) (fW : Nat → Int64) (fC : Nat → Int32) (kc : Int32) (kr : Int32) (post : Int64 → xU → Prop) : Prop := Met l y (ws_ y cc maxL rt) rm (va_Pc av (xPre dC dI a ca sz fR fB fW fC kc kr)) (va_Ql post (xB dC dI (va_A (xW a ca fR fB fW fC kc kr) sz) a ca) (va_A (xW a ca fR fB fW fC kc kr) sz)) 0 0 (va_A (xW a ca fR fB fW fC kc kr) sz)
abbrev xMv (l : Launch) (y : MethodName) (cc : ByteArray) (maxL : Nat) (rt : Option FieldType) (rm : Room) (av : List Value) (dC : Nat → ClassId) (dI : Nat → Nat → Nat) (a : Nat → Nat) (ca : Nat → ClassId) (sz : Nat) (fR : Nat → Int32) (fB : Nat → Int32) (fW : Nat → Int64) (fC : Nat → Int32) (kc : Int32) (kr : Int32) (post : xU → Prop) : Prop := Met l y (ws_ y cc maxL rt) rm (va_Pc av (xPre dC dI a ca sz fR fB fW fC kc kr)) (va_Qv post (xB dC dI (va_A (xW a ca fR fB fW fC kc kr) sz) a ca) (va_A (xW a ca fR fB fW fC kc kr) sz)) 0 0 (va_A (xW a ca fR fB fW fC kc kr) sz)
section CX
variable {p : Program} {l : Launch} {e : Env} {R : Room} {s : State} {m : MethodId} {args : Array Value} {below : List Frame} {meth : Method} {c : Code} {H : Heap} {locs : List Loc} {cells slots : Nat} {Q : State → Prop}
variable {cc : ByteArray} {pc nL : Nat} {ls : Array Slot} {rest : List Value} {dC : Nat → ClassId} {dI : Nat → Nat → Nat} {A : Nat → Prop} {a : Nat → Nat} {ca : Nat → ClassId}
variable {fR : Nat → Int32} {fB : Nat → Int32} {fW : Nat → Int64} {fC : Nat → Int32} {kc : Int32} {kr : Int32} {y : MethodName} {bytes : ByteArray} {maxL idx n : Nat} {rt : Option FieldType} {rm : Room} {As st0 : List Value}
theorem xc_i (E : xE p m c s args cc nL dC dI ca A) (S : xS dC dI A s a ca fR fB fW fC kc kr H locs) {post : Int32 → xU → Prop} (hM : ∀ sz, xMi l y bytes maxL rt rm (.ref (a 0) :: As) dC dI a ca sz fR fB fW fC kc kr post) (hq1 : Cond.methodLink RX0 idx y ∈ lw_all) (hq2 : Cond.instanceMethod y ∈ lw_all) (hq3 : Cond.selects RX0 y y ∈ lw_all) (hq5 : Cond.code y bytes maxL rt ∈ lw_all) (hrc : rm.cells = 0) (hrs : rm.slots = 0) (hy : y.cls = RX0 ∧ y.cls ≠ "java/lang/invoke/MethodHandle" ∧ y.cls ≠ "java/lang/invoke/VarHandle" ∧ (parseMethodDescriptor y.desc).map (fun d => d.parameters.length) = some n) (hR : rm.frames + 1 ≤ R.frames ∧ 8 + (maxL + 11) + rm.locals ≤ R.locals) (hn : As.length = n) (hls : ls.size = nL) (hstk : st0 = As.reverse ++ .ref (a 0) :: rest) (hw : (rest.map fun v => v.category).sum ≤ 8) (hf : cells ≤ R.cells ∧ slots ≤ R.slots) (hd : decode cc pc = .ok (.invokevirtual idx, 3))
    (k : ∀ (r : Int32) (u : xU) (H : Heap) (locs : List Loc), post r u → xS dC dI A s a ca u.1 u.2.1 u.2.2.1 u.2.2.2.1 u.2.2.2.2.1 u.2.2.2.2.2 H locs → W p l e R s m args below meth c H locs cells slots Q (F0 m (pc + 3) ls (.int r :: rest))) : W p l e R s m args below meth c H locs cells slots Q (F0 m pc ls st0) := by
  have hFc := va_free (wc := xW a ca fR fB fW fC kc kr) S.2.1 S.2.2 E.2.2.2.2.2.1 [0, 1, 2, 3, 4] rfl
  refine va_calli (va_runV (As := As) (rest := rest) (b := a 0) ⟨E.1, E.2.1, E.2.2.2.2.2.2, E.2.2.2.1, E.2.2.1⟩ (hM H.size) (cwV n E.2.2.1 (lw_V hq1 hq2 hq3 q4 hq5) rfl hrc hrs hy hR) ⟨fun a U g mk q => by obtain ⟨q0, q1, qP, qK, qD⟩ := q; exact ⟨q0, q1, qP, va_K.moved (u := U) (U := U.calling g mk a) (Vm.Alike.refl U.vm) qK, qD⟩, va_recv E.2.2.2.2.1 S.1 (ci := 0) (q0 := 0) rfl rfl, fun U hU hW => ⟨rfl, by rw [hU], by rw [hU]; exact S.1, va_K.moved hW.alike E.2.2.2.2.1, S.2.1.weaken (fun _ _ _ _ => trivial)⟩⟩ rfl hn hls hstk (lv_room hw) hd ⟨hf.1, hf.2⟩) S.2.2 (fun q _ h => hFc q h) hFc (fun r u t H1 locs1 ht hvm hw1 hB hz1 hk1 hS => ?_)
  exact k r u H1 locs1 hw1 ⟨by rw [← ht]; exact hB.1, hB.2.2.weaken (fun _ q _ h => hFc q.1 h), hS⟩
theorem xc_l (E : xE p m c s args cc nL dC dI ca A) (S : xS dC dI A s a ca fR fB fW fC kc kr H locs) {post : Int64 → xU → Prop} (hM : ∀ sz, xMl l y bytes maxL rt rm (.ref (a 0) :: As) dC dI a ca sz fR fB fW fC kc kr post) (hq1 : Cond.methodLink RX0 idx y ∈ lw_all) (hq2 : Cond.instanceMethod y ∈ lw_all) (hq3 : Cond.selects RX0 y y ∈ lw_all) (hq5 : Cond.code y bytes maxL rt ∈ lw_all) (hrc : rm.cells = 0) (hrs : rm.slots = 0) (hy : y.cls = RX0 ∧ y.cls ≠ "java/lang/invoke/MethodHandle" ∧ y.cls ≠ "java/lang/invoke/VarHandle" ∧ (parseMethodDescriptor y.desc).map (fun d => d.parameters.length) = some n) (hR : rm.frames + 1 ≤ R.frames ∧ 8 + (maxL + 11) + rm.locals ≤ R.locals) (hn : As.length = n) (hls : ls.size = nL) (hstk : st0 = As.reverse ++ .ref (a 0) :: rest) (hw : (rest.map fun v => v.category).sum ≤ 8) (hf : cells ≤ R.cells ∧ slots ≤ R.slots) (hd : decode cc pc = .ok (.invokevirtual idx, 3))
    (k : ∀ (r : Int64) (u : xU) (H : Heap) (locs : List Loc), post r u → xS dC dI A s a ca u.1 u.2.1 u.2.2.1 u.2.2.2.1 u.2.2.2.2.1 u.2.2.2.2.2 H locs → W p l e R s m args below meth c H locs cells slots Q (F0 m (pc + 3) ls (.long r :: rest))) : W p l e R s m args below meth c H locs cells slots Q (F0 m pc ls st0) := by
  have hFc := va_free (wc := xW a ca fR fB fW fC kc kr) S.2.1 S.2.2 E.2.2.2.2.2.1 [0, 1, 2, 3, 4] rfl
  refine va_calll (va_runV (As := As) (rest := rest) (b := a 0) ⟨E.1, E.2.1, E.2.2.2.2.2.2, E.2.2.2.1, E.2.2.1⟩ (hM H.size) (cwV n E.2.2.1 (lw_V hq1 hq2 hq3 q4 hq5) rfl hrc hrs hy hR) ⟨fun a U g mk q => by obtain ⟨q0, q1, qP, qK, qD⟩ := q; exact ⟨q0, q1, qP, va_K.moved (u := U) (U := U.calling g mk a) (Vm.Alike.refl U.vm) qK, qD⟩, va_recv E.2.2.2.2.1 S.1 (ci := 0) (q0 := 0) rfl rfl, fun U hU hW => ⟨rfl, by rw [hU], by rw [hU]; exact S.1, va_K.moved hW.alike E.2.2.2.2.1, S.2.1.weaken (fun _ _ _ _ => trivial)⟩⟩ rfl hn hls hstk (lv_room hw) hd ⟨hf.1, hf.2⟩) S.2.2 (fun q _ h => hFc q h) hFc (fun r u t H1 locs1 ht hvm hw1 hB hz1 hk1 hS => ?_)
  exact k r u H1 locs1 hw1 ⟨by rw [← ht]; exact hB.1, hB.2.2.weaken (fun _ q _ h => hFc q.1 h), hS⟩
theorem xc_v (E : xE p m c s args cc nL dC dI ca A) (S : xS dC dI A s a ca fR fB fW fC kc kr H locs) {post : xU → Prop} (hM : ∀ sz, xMv l y bytes maxL rt rm (.ref (a 0) :: As) dC dI a ca sz fR fB fW fC kc kr post) (hq1 : Cond.methodLink RX0 idx y ∈ lw_all) (hq2 : Cond.instanceMethod y ∈ lw_all) (hq3 : Cond.selects RX0 y y ∈ lw_all) (hq5 : Cond.code y bytes maxL rt ∈ lw_all) (hrc : rm.cells = 0) (hrs : rm.slots = 0) (hy : y.cls = RX0 ∧ y.cls ≠ "java/lang/invoke/MethodHandle" ∧ y.cls ≠ "java/lang/invoke/VarHandle" ∧ (parseMethodDescriptor y.desc).map (fun d => d.parameters.length) = some n) (hR : rm.frames + 1 ≤ R.frames ∧ 8 + (maxL + 11) + rm.locals ≤ R.locals) (hn : As.length = n) (hls : ls.size = nL) (hstk : st0 = As.reverse ++ .ref (a 0) :: rest) (hw : (rest.map fun v => v.category).sum ≤ 8) (hf : cells ≤ R.cells ∧ slots ≤ R.slots) (hd : decode cc pc = .ok (.invokevirtual idx, 3))
    (k : ∀ (u : xU) (H : Heap) (locs : List Loc), post u → xS dC dI A s a ca u.1 u.2.1 u.2.2.1 u.2.2.2.1 u.2.2.2.2.1 u.2.2.2.2.2 H locs → W p l e R s m args below meth c H locs cells slots Q (F0 m (pc + 3) ls (rest))) : W p l e R s m args below meth c H locs cells slots Q (F0 m pc ls st0) := by
  have hFc := va_free (wc := xW a ca fR fB fW fC kc kr) S.2.1 S.2.2 E.2.2.2.2.2.1 [0, 1, 2, 3, 4] rfl
  refine va_callv (va_runV (As := As) (rest := rest) (b := a 0) ⟨E.1, E.2.1, E.2.2.2.2.2.2, E.2.2.2.1, E.2.2.1⟩ (hM H.size) (cwV n E.2.2.1 (lw_V hq1 hq2 hq3 q4 hq5) rfl hrc hrs hy hR) ⟨fun a U g mk q => by obtain ⟨q0, q1, qP, qK, qD⟩ := q; exact ⟨q0, q1, qP, va_K.moved (u := U) (U := U.calling g mk a) (Vm.Alike.refl U.vm) qK, qD⟩, va_recv E.2.2.2.2.1 S.1 (ci := 0) (q0 := 0) rfl rfl, fun U hU hW => ⟨rfl, by rw [hU], by rw [hU]; exact S.1, va_K.moved hW.alike E.2.2.2.2.1, S.2.1.weaken (fun _ _ _ _ => trivial)⟩⟩ rfl hn hls hstk (lv_room hw) hd ⟨hf.1, hf.2⟩) S.2.2 (fun q _ h => hFc q h) hFc (fun u t H1 locs1 ht hvm hw1 hB hz1 hk1 hS => ?_)
  exact k u H1 locs1 hw1 ⟨by rw [← ht]; exact hB.1, hB.2.2.weaken (fun _ q _ h => hFc q.1 h), hS⟩
end CX
abbrev yMi (l : Launch) (y : MethodName) (cc : ByteArray) (maxL : Nat) (rt : Option FieldType) (rm : Room) (av : List Value) (dC : Nat → ClassId) (dI : Nat → Nat → Nat) (a : Nat → Nat) (ca : Nat → ClassId) (sz : Nat) (gR : Nat → Int32) (gW : Nat → Int64) (gO : Nat → Int64) (gS : Nat → Int32) (kr : Int32) (kn : Int32) (kk : Int32) (post : Int32 → yU → Prop) : Prop := Met l y (ws_ y cc maxL rt) rm (va_Pc av (yPre dC dI a ca sz gR gW gO gS kr kn kk)) (va_Qi post (yB dC dI (va_A (yW a ca gR gW gO gS kr kn kk) sz) a ca) (va_A (yW a ca gR gW gO gS kr kn kk) sz)) 0 0 (va_A (yW a ca gR gW gO gS kr kn kk) sz)
abbrev yMl (l : Launch) (y : MethodName) (cc : ByteArray) (maxL : Nat) (rt : Option FieldType) (rm : Room) (av : List Value) (dC : Nat → ClassId) (dI : Nat → Nat → Nat) (a : Nat → Nat) (ca : Nat → ClassId) (sz : Nat) (gR : Nat → Int32) (gW : Nat → Int64) (gO : Nat → Int64) (gS : Nat → Int32) (kr : Int32) (kn : Int32) (kk : Int32) (post : Int64 → yU → Prop) : Prop := Met l y (ws_ y cc maxL rt) rm (va_Pc av (yPre dC dI a ca sz gR gW gO gS kr kn kk)) (va_Ql post (yB dC dI (va_A (yW a ca gR gW gO gS kr kn kk) sz) a ca) (va_A (yW a ca gR gW gO gS kr kn kk) sz)) 0 0 (va_A (yW a ca gR gW gO gS kr kn kk) sz)
abbrev yMv (l : Launch) (y : MethodName) (cc : ByteArray) (maxL : Nat) (rt : Option FieldType) (rm : Room) (av : List Value) (dC : Nat → ClassId) (dI : Nat → Nat → Nat) (a : Nat → Nat) (ca : Nat → ClassId) (sz : Nat) (gR : Nat → Int32) (gW : Nat → Int64) (gO : Nat → Int64) (gS : Nat → Int32) (kr : Int32) (kn : Int32) (kk : Int32) (post : yU → Prop) : Prop := Met l y (ws_ y cc maxL rt) rm (va_Pc av (yPre dC dI a ca sz gR gW gO gS kr kn kk)) (va_Qv post (yB dC dI (va_A (yW a ca gR gW gO gS kr kn kk) sz) a ca) (va_A (yW a ca gR gW gO gS kr kn kk) sz)) 0 0 (va_A (yW a ca gR gW gO gS kr kn kk) sz)
section CY
variable {p : Program} {l : Launch} {e : Env} {R : Room} {s : State} {m : MethodId} {args : Array Value} {below : List Frame} {meth : Method} {c : Code} {H : Heap} {locs : List Loc} {cells slots : Nat} {Q : State → Prop}
variable {cc : ByteArray} {pc nL : Nat} {ls : Array Slot} {rest : List Value} {dC : Nat → ClassId} {dI : Nat → Nat → Nat} {A : Nat → Prop} {a : Nat → Nat} {ca : Nat → ClassId}
variable {gR : Nat → Int32} {gW : Nat → Int64} {gO : Nat → Int64} {gS : Nat → Int32} {kr : Int32} {kn : Int32} {kk : Int32} {y : MethodName} {bytes : ByteArray} {maxL idx n : Nat} {rt : Option FieldType} {rm : Room} {As st0 : List Value}
theorem yc_i (E : yE p m c s args cc nL dC dI ca A) (S : yS dC dI A s a ca gR gW gO gS kr kn kk H locs) {post : Int32 → yU → Prop} (hM : ∀ sz, yMi l y bytes maxL rt rm (.ref (a 0) :: As) dC dI a ca sz gR gW gO gS kr kn kk post) (hq1 : Cond.methodLink RX1 idx y ∈ lw_all) (hq2 : Cond.instanceMethod y ∈ lw_all) (hq3 : Cond.selects RX1 y y ∈ lw_all) (hq5 : Cond.code y bytes maxL rt ∈ lw_all) (hrc : rm.cells = 0) (hrs : rm.slots = 0) (hy : y.cls = RX1 ∧ y.cls ≠ "java/lang/invoke/MethodHandle" ∧ y.cls ≠ "java/lang/invoke/VarHandle" ∧ (parseMethodDescriptor y.desc).map (fun d => d.parameters.length) = some n) (hR : rm.frames + 1 ≤ R.frames ∧ 8 + (maxL + 11) + rm.locals ≤ R.locals) (hn : As.length = n) (hls : ls.size = nL) (hstk : st0 = As.reverse ++ .ref (a 0) :: rest) (hw : (rest.map fun v => v.category).sum ≤ 8) (hf : cells ≤ R.cells ∧ slots ≤ R.slots) (hd : decode cc pc = .ok (.invokevirtual idx, 3))
    (k : ∀ (r : Int32) (u : yU) (H : Heap) (locs : List Loc), post r u → yS dC dI A s a ca u.1 u.2.1 u.2.2.1 u.2.2.2.1 u.2.2.2.2.1 u.2.2.2.2.2.1 u.2.2.2.2.2.2 H locs → W p l e R s m args below meth c H locs cells slots Q (F0 m (pc + 3) ls (.int r :: rest))) : W p l e R s m args below meth c H locs cells slots Q (F0 m pc ls st0) := by
  have hFc := va_free (wc := yW a ca gR gW gO gS kr kn kk) S.2.1 S.2.2 E.2.2.2.2.2.1 [0, 1, 2, 3, 4] rfl
  refine va_calli (va_runV (As := As) (rest := rest) (b := a 0) ⟨E.1, E.2.1, E.2.2.2.2.2.2, E.2.2.2.1, E.2.2.1⟩ (hM H.size) (cwV n E.2.2.1 (lw_V hq1 hq2 hq3 q5 hq5) rfl hrc hrs hy hR) ⟨fun a U g mk q => by obtain ⟨q0, q1, qP, qK, qD⟩ := q; exact ⟨q0, q1, qP, va_K.moved (u := U) (U := U.calling g mk a) (Vm.Alike.refl U.vm) qK, qD⟩, va_recv E.2.2.2.2.1 S.1 (ci := 1) (q0 := 0) rfl rfl, fun U hU hW => ⟨rfl, by rw [hU], by rw [hU]; exact S.1, va_K.moved hW.alike E.2.2.2.2.1, S.2.1.weaken (fun _ _ _ _ => trivial)⟩⟩ rfl hn hls hstk (lv_room hw) hd ⟨hf.1, hf.2⟩) S.2.2 (fun q _ h => hFc q h) hFc (fun r u t H1 locs1 ht hvm hw1 hB hz1 hk1 hS => ?_)
  exact k r u H1 locs1 hw1 ⟨by rw [← ht]; exact hB.1, hB.2.2.weaken (fun _ q _ h => hFc q.1 h), hS⟩
theorem yc_l (E : yE p m c s args cc nL dC dI ca A) (S : yS dC dI A s a ca gR gW gO gS kr kn kk H locs) {post : Int64 → yU → Prop} (hM : ∀ sz, yMl l y bytes maxL rt rm (.ref (a 0) :: As) dC dI a ca sz gR gW gO gS kr kn kk post) (hq1 : Cond.methodLink RX1 idx y ∈ lw_all) (hq2 : Cond.instanceMethod y ∈ lw_all) (hq3 : Cond.selects RX1 y y ∈ lw_all) (hq5 : Cond.code y bytes maxL rt ∈ lw_all) (hrc : rm.cells = 0) (hrs : rm.slots = 0) (hy : y.cls = RX1 ∧ y.cls ≠ "java/lang/invoke/MethodHandle" ∧ y.cls ≠ "java/lang/invoke/VarHandle" ∧ (parseMethodDescriptor y.desc).map (fun d => d.parameters.length) = some n) (hR : rm.frames + 1 ≤ R.frames ∧ 8 + (maxL + 11) + rm.locals ≤ R.locals) (hn : As.length = n) (hls : ls.size = nL) (hstk : st0 = As.reverse ++ .ref (a 0) :: rest) (hw : (rest.map fun v => v.category).sum ≤ 8) (hf : cells ≤ R.cells ∧ slots ≤ R.slots) (hd : decode cc pc = .ok (.invokevirtual idx, 3))
    (k : ∀ (r : Int64) (u : yU) (H : Heap) (locs : List Loc), post r u → yS dC dI A s a ca u.1 u.2.1 u.2.2.1 u.2.2.2.1 u.2.2.2.2.1 u.2.2.2.2.2.1 u.2.2.2.2.2.2 H locs → W p l e R s m args below meth c H locs cells slots Q (F0 m (pc + 3) ls (.long r :: rest))) : W p l e R s m args below meth c H locs cells slots Q (F0 m pc ls st0) := by
  have hFc := va_free (wc := yW a ca gR gW gO gS kr kn kk) S.2.1 S.2.2 E.2.2.2.2.2.1 [0, 1, 2, 3, 4] rfl
  refine va_calll (va_runV (As := As) (rest := rest) (b := a 0) ⟨E.1, E.2.1, E.2.2.2.2.2.2, E.2.2.2.1, E.2.2.1⟩ (hM H.size) (cwV n E.2.2.1 (lw_V hq1 hq2 hq3 q5 hq5) rfl hrc hrs hy hR) ⟨fun a U g mk q => by obtain ⟨q0, q1, qP, qK, qD⟩ := q; exact ⟨q0, q1, qP, va_K.moved (u := U) (U := U.calling g mk a) (Vm.Alike.refl U.vm) qK, qD⟩, va_recv E.2.2.2.2.1 S.1 (ci := 1) (q0 := 0) rfl rfl, fun U hU hW => ⟨rfl, by rw [hU], by rw [hU]; exact S.1, va_K.moved hW.alike E.2.2.2.2.1, S.2.1.weaken (fun _ _ _ _ => trivial)⟩⟩ rfl hn hls hstk (lv_room hw) hd ⟨hf.1, hf.2⟩) S.2.2 (fun q _ h => hFc q h) hFc (fun r u t H1 locs1 ht hvm hw1 hB hz1 hk1 hS => ?_)
  exact k r u H1 locs1 hw1 ⟨by rw [← ht]; exact hB.1, hB.2.2.weaken (fun _ q _ h => hFc q.1 h), hS⟩
theorem yc_v (E : yE p m c s args cc nL dC dI ca A) (S : yS dC dI A s a ca gR gW gO gS kr kn kk H locs) {post : yU → Prop} (hM : ∀ sz, yMv l y bytes maxL rt rm (.ref (a 0) :: As) dC dI a ca sz gR gW gO gS kr kn kk post) (hq1 : Cond.methodLink RX1 idx y ∈ lw_all) (hq2 : Cond.instanceMethod y ∈ lw_all) (hq3 : Cond.selects RX1 y y ∈ lw_all) (hq5 : Cond.code y bytes maxL rt ∈ lw_all) (hrc : rm.cells = 0) (hrs : rm.slots = 0) (hy : y.cls = RX1 ∧ y.cls ≠ "java/lang/invoke/MethodHandle" ∧ y.cls ≠ "java/lang/invoke/VarHandle" ∧ (parseMethodDescriptor y.desc).map (fun d => d.parameters.length) = some n) (hR : rm.frames + 1 ≤ R.frames ∧ 8 + (maxL + 11) + rm.locals ≤ R.locals) (hn : As.length = n) (hls : ls.size = nL) (hstk : st0 = As.reverse ++ .ref (a 0) :: rest) (hw : (rest.map fun v => v.category).sum ≤ 8) (hf : cells ≤ R.cells ∧ slots ≤ R.slots) (hd : decode cc pc = .ok (.invokevirtual idx, 3))
    (k : ∀ (u : yU) (H : Heap) (locs : List Loc), post u → yS dC dI A s a ca u.1 u.2.1 u.2.2.1 u.2.2.2.1 u.2.2.2.2.1 u.2.2.2.2.2.1 u.2.2.2.2.2.2 H locs → W p l e R s m args below meth c H locs cells slots Q (F0 m (pc + 3) ls (rest))) : W p l e R s m args below meth c H locs cells slots Q (F0 m pc ls st0) := by
  have hFc := va_free (wc := yW a ca gR gW gO gS kr kn kk) S.2.1 S.2.2 E.2.2.2.2.2.1 [0, 1, 2, 3, 4] rfl
  refine va_callv (va_runV (As := As) (rest := rest) (b := a 0) ⟨E.1, E.2.1, E.2.2.2.2.2.2, E.2.2.2.1, E.2.2.1⟩ (hM H.size) (cwV n E.2.2.1 (lw_V hq1 hq2 hq3 q5 hq5) rfl hrc hrs hy hR) ⟨fun a U g mk q => by obtain ⟨q0, q1, qP, qK, qD⟩ := q; exact ⟨q0, q1, qP, va_K.moved (u := U) (U := U.calling g mk a) (Vm.Alike.refl U.vm) qK, qD⟩, va_recv E.2.2.2.2.1 S.1 (ci := 1) (q0 := 0) rfl rfl, fun U hU hW => ⟨rfl, by rw [hU], by rw [hU]; exact S.1, va_K.moved hW.alike E.2.2.2.2.1, S.2.1.weaken (fun _ _ _ _ => trivial)⟩⟩ rfl hn hls hstk (lv_room hw) hd ⟨hf.1, hf.2⟩) S.2.2 (fun q _ h => hFc q h) hFc (fun u t H1 locs1 ht hvm hw1 hB hz1 hk1 hS => ?_)
  exact k u H1 locs1 hw1 ⟨by rw [← ht]; exact hB.1, hB.2.2.weaken (fun _ q _ h => hFc q.1 h), hS⟩
end CY
/-- the new desk, all its arrays of zeros -/
def xN (dC : Nat → ClassId) (dI : Nat → Nat → Nat) (A : Nat → Prop) (u : (Nat → Nat) × (Nat → ClassId)) (t : State) : Prop := va_P (dC, dI) vwCl (xW u.1 u.2 (fun _ => 0) (fun _ => 0) (fun _ => 0) (fun _ => 0) (nI 6) (nI 0)) t.heap ∧ va_K (dC, dI) vwCl (xT u.2) t ∧ va_D A (xW u.1 u.2 (fun _ => 0) (fun _ => 0) (fun _ => 0) (fun _ => 0) (nI 6) (nI 0))
set_option maxHeartbeats 4000000 in
set_option maxRecDepth 100000 in
theorem mx_init (l : Launch) (dC : Nat → ClassId) (dI : Nat → Nat → Nat) (h sz : Nat) : Met l yX0_init (ws_ yX0_init cX0_init 1 none) ({ frames := 1, cells := 4, slots := 110616, locals := 12 }) (va_Pc [.ref h] (fun U => U.heap.size = sz ∧ va_P (dC, dI) vwCl [(h, .inr (0, [.null, .null, .null, .null, .int 0, .int 0]))] U.heap ∧ va_K (dC, dI) vwCl [] U ∧ va_D (fun _ => True) [(h, .inr (0, [.null, .null, .null, .null, .int 0, .int 0]))])) (va_Qv (fun u : (Nat → Nat) × (Nat → ClassId) => u.1 0 = h) (xN dC dI (va_A [(h, .inr (0, [.null, .null, .null, .null, .int 0, .int 0]))] sz)) (va_A [(h, .inr (0, [.null, .null, .null, .null, .int 0, .int 0]))] sz)) 4 110616 (va_A [(h, .inr (0, [.null, .null, .null, .null, .int 0, .int 0]))] sz) := by
  refine Met.ofW (cc := cX0_init) (maxL := 1) (ret := none) (by decide) rfl ?_
  intro p e s m args below meth c s₁ B hml hv
  obtain ⟨rfl, hsz, hP, hK, hD0⟩ := hv
  have hx := B.exec
  have hb := B.bytes
  have hr := B.returns
  have hts := atoms_spec (ws := ws_ yX0_init cX0_init 1 none) B.pre
  have hts : ∀ w ∈ lw_all, w.before _ s = true := fun w h => hts w (List.mem_cons_of_mem _ h)
  have hown : s.vm.findClass RX0 = some m.cls := findClass_of_methodNamed B.named
  have hlocks := B.notSynchronized
  have hin : meth.name = "<init>" := (name_of_methodNamed B.named B.method).1
  subst hsz
  have hD := hD0.self (sz := s.heap.size)
  generalize hAe : va_A [(h, .inr (0, [.null, .null, .null, .null, .int 0, .int 0]))] s.heap.size = A at hD ⊢
  have hA : ∀ q : Nat, s.heap.size ≤ q → A q := fun q h => by rw [← hAe]; exact Or.inr h
  have hS : va_S A s.heap s.heap [] := va_S.rf
  have hP : va_P (dC, dI) vwCl [(h, .inr (0, [.null, .null, .null, .null, .int 0, .int 0]))] s.heap := hP
  have hl := lv_entry ([.ref h]) (n := 1) (Nat.le_of_ble_eq_true rfl)
  rw [lg_entry_eq]
  generalize (lg_sl ([.ref h]) ++ List.replicate (1 - (lg_sl ([.ref h])).length) Slot.unset).toArray = ls at hl ⊢
  have hl : lv_has ls 1 [(0, .ref h)] := hl
  refine lv_aload_n hx hb dX0_init_0 rfl (lv_at hl 0 rfl) ?_
  refine W.objInit hx hb hown (hts _ q11) (hts _ q12) (hts _ q13) rfl (by rw [hml]; exact hl.1) rfl dX0_init_1 (Nat.le_of_ble_eq_true rfl) (Nat.le_of_ble_eq_true rfl) ?_
  refine W.eq (g2 := F0 m 4 ls []) rfl ?_
  refine lv_aload_n hx hb dX0_init_4 rfl (lv_at hl 0 rfl) ?_
  refine lv_bipush (v := 24) hx hb dX0_init_5 (by decide +kernel) ?_
  refine va_newa (atype := .int) (a0 := (24, .inl (fun _ => 0))) hx hb (hts _ q34) (ty := .int) rfl hK hP hD hS hA (fun _ => rfl) (by decide +kernel) (by decide +kernel) (by decide +kernel) (Nat.le_of_ble_eq_true rfl) (Nat.le_of_ble_eq_true rfl) dX0_init_7 (fun q1 c1 H hK hP hD hS => ?_)
  have hP : va_P (dC, dI) vwCl [(h, .inr (0, [.null, .null, .null, .null, .int 0, .int 0])), (q1, .inl (c1, 24, .inl (fun _ => 0)))] H := hP
  have hD : va_D A [(h, .inr (0, [.null, .null, .null, .null, .int 0, .int 0])), (q1, .inl (c1, 24, .inl (fun _ => 0)))] := hD
  refine va_putF (D := (dC, dI)) (ci := 0) (v := .ref q1) (ty := .array .int) (C := RX0) (T := TX0) (N := 6) hx hb hts in_X0 tyX0 tyX0_ok nmX0 hown hK hP hD hS 0 rfl rfl 0 (by decide) (hts _ q15) (fun _ h9 => h9) rfl hin rfl (by decide +kernel) rfl rfl (Nat.le_of_ble_eq_true rfl) dX0_init_9 (fun H locs hP hD hS => ?_)
  have hP : va_P (dC, dI) vwCl [(h, .inr (0, [.ref q1, .null, .null, .null, .int 0, .int 0])), (q1, .inl (c1, 24, .inl (fun _ => 0)))] H := hP
  have hD : va_D A [(h, .inr (0, [.ref q1, .null, .null, .null, .int 0, .int 0])), (q1, .inl (c1, 24, .inl (fun _ => 0)))] := hD
  refine lv_aload_n hx hb dX0_init_12 rfl (lv_at hl 0 rfl) ?_
  refine lv_sipush (v := 4096) hx hb dX0_init_13 (by decide +kernel) ?_
  refine va_newa (atype := .int) (a0 := (4096, .inl (fun _ => 0))) hx hb (hts _ q34) (ty := .int) rfl hK hP hD hS hA (fun _ => rfl) (by decide +kernel) (by decide +kernel) (by decide +kernel) (Nat.le_of_ble_eq_true rfl) (Nat.le_of_ble_eq_true rfl) dX0_init_16 (fun q2 c2 H hK hP hD hS => ?_)
  have hP : va_P (dC, dI) vwCl [(h, .inr (0, [.ref q1, .null, .null, .null, .int 0, .int 0])), (q1, .inl (c1, 24, .inl (fun _ => 0))), (q2, .inl (c2, 4096, .inl (fun _ => 0)))] H := hP
  have hD : va_D A [(h, .inr (0, [.ref q1, .null, .null, .null, .int 0, .int 0])), (q1, .inl (c1, 24, .inl (fun _ => 0))), (q2, .inl (c2, 4096, .inl (fun _ => 0)))] := hD
  refine va_putF (D := (dC, dI)) (ci := 0) (v := .ref q2) (ty := .array .int) (C := RX0) (T := TX0) (N := 6) hx hb hts in_X0 tyX0 tyX0_ok nmX0 hown hK hP hD hS 0 rfl rfl 1 (by decide) (hts _ q16) (fun _ h9 => h9) rfl hin rfl (by decide +kernel) rfl rfl (Nat.le_of_ble_eq_true rfl) dX0_init_18 (fun H locs hP hD hS => ?_)
  have hP : va_P (dC, dI) vwCl [(h, .inr (0, [.ref q1, .ref q2, .null, .null, .int 0, .int 0])), (q1, .inl (c1, 24, .inl (fun _ => 0))), (q2, .inl (c2, 4096, .inl (fun _ => 0)))] H := hP
  have hD : va_D A [(h, .inr (0, [.ref q1, .ref q2, .null, .null, .int 0, .int 0])), (q1, .inl (c1, 24, .inl (fun _ => 0))), (q2, .inl (c2, 4096, .inl (fun _ => 0)))] := hD
  refine lv_aload_n hx hb dX0_init_21 rfl (lv_at hl 0 rfl) ?_
  refine lv_sipush (v := 4096) hx hb dX0_init_22 (by decide +kernel) ?_
  refine va_newa (atype := .long) (a0 := (4096, .inr (.inl (fun _ => 0)))) hx hb (hts _ q35) (ty := .long) rfl hK hP hD hS hA (fun _ => rfl) (by decide +kernel) (by decide +kernel) (by decide +kernel) (Nat.le_of_ble_eq_true rfl) (Nat.le_of_ble_eq_true rfl) dX0_init_25 (fun q3 c3 H hK hP hD hS => ?_)
  have hP : va_P (dC, dI) vwCl [(h, .inr (0, [.ref q1, .ref q2, .null, .null, .int 0, .int 0])), (q1, .inl (c1, 24, .inl (fun _ => 0))), (q2, .inl (c2, 4096, .inl (fun _ => 0))), (q3, .inl (c3, 4096, .inr (.inl (fun _ => 0))))] H := hP
  have hD : va_D A [(h, .inr (0, [.ref q1, .ref q2, .null, .null, .int 0, .int 0])), (q1, .inl (c1, 24, .inl (fun _ => 0))), (q2, .inl (c2, 4096, .inl (fun _ => 0))), (q3, .inl (c3, 4096, .inr (.inl (fun _ => 0))))] := hD
  refine va_putF (D := (dC, dI)) (ci := 0) (v := .ref q3) (ty := .array .long) (C := RX0) (T := TX0) (N := 6) hx hb hts in_X0 tyX0 tyX0_ok nmX0 hown hK hP hD hS 0 rfl rfl 2 (by decide) (hts _ q17) (fun _ h9 => h9) rfl hin rfl (by decide +kernel) rfl rfl (Nat.le_of_ble_eq_true rfl) dX0_init_27 (fun H locs hP hD hS => ?_)
  have hP : va_P (dC, dI) vwCl [(h, .inr (0, [.ref q1, .ref q2, .ref q3, .null, .int 0, .int 0])), (q1, .inl (c1, 24, .inl (fun _ => 0))), (q2, .inl (c2, 4096, .inl (fun _ => 0))), (q3, .inl (c3, 4096, .inr (.inl (fun _ => 0))))] H := hP
  have hD : va_D A [(h, .inr (0, [.ref q1, .ref q2, .ref q3, .null, .int 0, .int 0])), (q1, .inl (c1, 24, .inl (fun _ => 0))), (q2, .inl (c2, 4096, .inl (fun _ => 0))), (q3, .inl (c3, 4096, .inr (.inl (fun _ => 0))))] := hD
  refine lv_aload_n hx hb dX0_init_30 rfl (lv_at hl 0 rfl) ?_
  refine lv_ldc hx hb hown (hts _ q14) dX0_init_31 ?_
  refine va_newa (atype := .boolean) (a0 := (102400, .inl (fun _ => 0))) hx hb (hts _ q36) (ty := .boolean) rfl hK hP hD hS hA (fun _ => rfl) (by decide +kernel) (by decide +kernel) (by decide +kernel) (Nat.le_of_ble_eq_true rfl) (Nat.le_of_ble_eq_true rfl) dX0_init_33 (fun q4 c4 H hK hP hD hS => ?_)
  have hP : va_P (dC, dI) vwCl [(h, .inr (0, [.ref q1, .ref q2, .ref q3, .null, .int 0, .int 0])), (q1, .inl (c1, 24, .inl (fun _ => 0))), (q2, .inl (c2, 4096, .inl (fun _ => 0))), (q3, .inl (c3, 4096, .inr (.inl (fun _ => 0)))), (q4, .inl (c4, 102400, .inl (fun _ => 0)))] H := hP
  have hD : va_D A [(h, .inr (0, [.ref q1, .ref q2, .ref q3, .null, .int 0, .int 0])), (q1, .inl (c1, 24, .inl (fun _ => 0))), (q2, .inl (c2, 4096, .inl (fun _ => 0))), (q3, .inl (c3, 4096, .inr (.inl (fun _ => 0)))), (q4, .inl (c4, 102400, .inl (fun _ => 0)))] := hD
  refine va_putF (D := (dC, dI)) (ci := 0) (v := .ref q4) (ty := .array .boolean) (C := RX0) (T := TX0) (N := 6) hx hb hts in_X0 tyX0 tyX0_ok nmX0 hown hK hP hD hS 0 rfl rfl 3 (by decide) (hts _ q18) (fun _ h9 => h9) rfl hin rfl (by decide +kernel) rfl rfl (Nat.le_of_ble_eq_true rfl) dX0_init_35 (fun H locs hP hD hS => ?_)
  have hP : va_P (dC, dI) vwCl [(h, .inr (0, [.ref q1, .ref q2, .ref q3, .ref q4, .int 0, .int 0])), (q1, .inl (c1, 24, .inl (fun _ => 0))), (q2, .inl (c2, 4096, .inl (fun _ => 0))), (q3, .inl (c3, 4096, .inr (.inl (fun _ => 0)))), (q4, .inl (c4, 102400, .inl (fun _ => 0)))] H := hP
  have hD : va_D A [(h, .inr (0, [.ref q1, .ref q2, .ref q3, .ref q4, .int 0, .int 0])), (q1, .inl (c1, 24, .inl (fun _ => 0))), (q2, .inl (c2, 4096, .inl (fun _ => 0))), (q3, .inl (c3, 4096, .inr (.inl (fun _ => 0)))), (q4, .inl (c4, 102400, .inl (fun _ => 0)))] := hD
  refine lv_aload_n hx hb dX0_init_38 rfl (lv_at hl 0 rfl) ?_
  refine lv_bipush (v := nI 6) hx hb dX0_init_39 (by decide +kernel) ?_
  refine va_put (D := (dC, dI)) (ci := 0) (v := .int (nI 6)) (ty := .int) (C := RX0) (T := TX0) (N := 6) hx hb hts in_X0 tyX0 tyX0_ok nmX0 hown hK hP hD hS 0 rfl rfl 4 (by decide) (hts _ q19) (fun _ h9 => h9) rfl (by decide +kernel) rfl rfl (Nat.le_of_ble_eq_true rfl) dX0_init_41 (fun H locs hP hD hS => ?_)
  have hP : va_P (dC, dI) vwCl [(h, .inr (0, [.ref q1, .ref q2, .ref q3, .ref q4, .int (nI 6), .int 0])), (q1, .inl (c1, 24, .inl (fun _ => 0))), (q2, .inl (c2, 4096, .inl (fun _ => 0))), (q3, .inl (c3, 4096, .inr (.inl (fun _ => 0)))), (q4, .inl (c4, 102400, .inl (fun _ => 0)))] H := hP
  have hD : va_D A [(h, .inr (0, [.ref q1, .ref q2, .ref q3, .ref q4, .int (nI 6), .int 0])), (q1, .inl (c1, 24, .inl (fun _ => 0))), (q2, .inl (c2, 4096, .inl (fun _ => 0))), (q3, .inl (c3, 4096, .inr (.inl (fun _ => 0)))), (q4, .inl (c4, 102400, .inl (fun _ => 0)))] := hD
  refine W.widen (k := 4) (n := 110616) (Nat.le_of_ble_eq_true rfl) (Nat.le_of_ble_eq_true rfl) ?_
  exact W.vret hx hb hr (fun t ht hW => ⟨⟨((fun k => match k with | 0 => h | 1 => q1 | 2 => q2 | 3 => q3 | _ => q4), (fun k => match k with | 1 => c1 | 2 => c2 | 3 => c3 | _ => c4)), rfl, rfl, by rw [ht]; exact hP, va_K.moved hW.alike hK, hD⟩, hS.F ht⟩) hS.2.2 dX0_init_44
/-- the new desk, all its arrays of zeros -/
def yN (dC : Nat → ClassId) (dI : Nat → Nat → Nat) (A : Nat → Prop) (u : (Nat → Nat) × (Nat → ClassId)) (t : State) : Prop := va_P (dC, dI) vwCl (yW u.1 u.2 (fun _ => 0) (fun _ => 0) (fun _ => 0) (fun _ => 0) (nI 0) (nI 6) (nI 0)) t.heap ∧ va_K (dC, dI) vwCl (yT u.2) t ∧ va_D A (yW u.1 u.2 (fun _ => 0) (fun _ => 0) (fun _ => 0) (fun _ => 0) (nI 0) (nI 6) (nI 0))
set_option maxHeartbeats 4000000 in
set_option maxRecDepth 100000 in
theorem my_init (l : Launch) (dC : Nat → ClassId) (dI : Nat → Nat → Nat) (h sz : Nat) : Met l yX1_init (ws_ yX1_init cX1_init 1 none) ({ frames := 1, cells := 4, slots := 110616, locals := 12 }) (va_Pc [.ref h] (fun U => U.heap.size = sz ∧ va_P (dC, dI) vwCl [(h, .inr (1, [.null, .int 0, .int 0, .int 0, .null, .null, .null]))] U.heap ∧ va_K (dC, dI) vwCl [] U ∧ va_D (fun _ => True) [(h, .inr (1, [.null, .int 0, .int 0, .int 0, .null, .null, .null]))])) (va_Qv (fun u : (Nat → Nat) × (Nat → ClassId) => u.1 0 = h) (yN dC dI (va_A [(h, .inr (1, [.null, .int 0, .int 0, .int 0, .null, .null, .null]))] sz)) (va_A [(h, .inr (1, [.null, .int 0, .int 0, .int 0, .null, .null, .null]))] sz)) 4 110616 (va_A [(h, .inr (1, [.null, .int 0, .int 0, .int 0, .null, .null, .null]))] sz) := by
  refine Met.ofW (cc := cX1_init) (maxL := 1) (ret := none) (by decide) rfl ?_
  intro p e s m args below meth c s₁ B hml hv
  obtain ⟨rfl, hsz, hP, hK, hD0⟩ := hv
  have hx := B.exec
  have hb := B.bytes
  have hr := B.returns
  have hts := atoms_spec (ws := ws_ yX1_init cX1_init 1 none) B.pre
  have hts : ∀ w ∈ lw_all, w.before _ s = true := fun w h => hts w (List.mem_cons_of_mem _ h)
  have hown : s.vm.findClass RX1 = some m.cls := findClass_of_methodNamed B.named
  have hlocks := B.notSynchronized
  have hin : meth.name = "<init>" := (name_of_methodNamed B.named B.method).1
  subst hsz
  have hD := hD0.self (sz := s.heap.size)
  generalize hAe : va_A [(h, .inr (1, [.null, .int 0, .int 0, .int 0, .null, .null, .null]))] s.heap.size = A at hD ⊢
  have hA : ∀ q : Nat, s.heap.size ≤ q → A q := fun q h => by rw [← hAe]; exact Or.inr h
  have hS : va_S A s.heap s.heap [] := va_S.rf
  have hP : va_P (dC, dI) vwCl [(h, .inr (1, [.null, .int 0, .int 0, .int 0, .null, .null, .null]))] s.heap := hP
  have hl := lv_entry ([.ref h]) (n := 1) (Nat.le_of_ble_eq_true rfl)
  rw [lg_entry_eq]
  generalize (lg_sl ([.ref h]) ++ List.replicate (1 - (lg_sl ([.ref h])).length) Slot.unset).toArray = ls at hl ⊢
  have hl : lv_has ls 1 [(0, .ref h)] := hl
  refine lv_aload_n hx hb dX1_init_0 rfl (lv_at hl 0 rfl) ?_
  refine W.objInit hx hb hown (hts _ q79) (hts _ q12) (hts _ q13) rfl (by rw [hml]; exact hl.1) rfl dX1_init_1 (Nat.le_of_ble_eq_true rfl) (Nat.le_of_ble_eq_true rfl) ?_
  refine W.eq (g2 := F0 m 4 ls []) rfl ?_
  refine lv_aload_n hx hb dX1_init_4 rfl (lv_at hl 0 rfl) ?_
  refine lv_bipush (v := 24) hx hb dX1_init_5 (by decide +kernel) ?_
  refine va_newa (atype := .int) (a0 := (24, .inl (fun _ => 0))) hx hb (hts _ q34) (ty := .int) rfl hK hP hD hS hA (fun _ => rfl) (by decide +kernel) (by decide +kernel) (by decide +kernel) (Nat.le_of_ble_eq_true rfl) (Nat.le_of_ble_eq_true rfl) dX1_init_7 (fun q1 c1 H hK hP hD hS => ?_)
  have hP : va_P (dC, dI) vwCl [(h, .inr (1, [.null, .int 0, .int 0, .int 0, .null, .null, .null])), (q1, .inl (c1, 24, .inl (fun _ => 0)))] H := hP
  have hD : va_D A [(h, .inr (1, [.null, .int 0, .int 0, .int 0, .null, .null, .null])), (q1, .inl (c1, 24, .inl (fun _ => 0)))] := hD
  refine va_putF (D := (dC, dI)) (ci := 1) (v := .ref q1) (ty := .array .int) (C := RX1) (T := TX1) (N := 7) hx hb hts in_X1 tyX1 tyX1_ok nmX1 hown hK hP hD hS 0 rfl rfl 0 (by decide) (hts _ q81) (fun _ h9 => h9) rfl hin rfl (by decide +kernel) rfl rfl (Nat.le_of_ble_eq_true rfl) dX1_init_9 (fun H locs hP hD hS => ?_)
  have hP : va_P (dC, dI) vwCl [(h, .inr (1, [.ref q1, .int 0, .int 0, .int 0, .null, .null, .null])), (q1, .inl (c1, 24, .inl (fun _ => 0)))] H := hP
  have hD : va_D A [(h, .inr (1, [.ref q1, .int 0, .int 0, .int 0, .null, .null, .null])), (q1, .inl (c1, 24, .inl (fun _ => 0)))] := hD
  refine lv_aload_n hx hb dX1_init_12 rfl (lv_at hl 0 rfl) ?_
  refine lv_bipush (v := nI 6) hx hb dX1_init_13 (by decide +kernel) ?_
  refine va_put (D := (dC, dI)) (ci := 1) (v := .int (nI 6)) (ty := .int) (C := RX1) (T := TX1) (N := 7) hx hb hts in_X1 tyX1 tyX1_ok nmX1 hown hK hP hD hS 0 rfl rfl 2 (by decide) (hts _ q83) (fun _ h9 => h9) rfl (by decide +kernel) rfl rfl (Nat.le_of_ble_eq_true rfl) dX1_init_15 (fun H locs hP hD hS => ?_)
  have hP : va_P (dC, dI) vwCl [(h, .inr (1, [.ref q1, .int 0, .int (nI 6), .int 0, .null, .null, .null])), (q1, .inl (c1, 24, .inl (fun _ => 0)))] H := hP
  have hD : va_D A [(h, .inr (1, [.ref q1, .int 0, .int (nI 6), .int 0, .null, .null, .null])), (q1, .inl (c1, 24, .inl (fun _ => 0)))] := hD
  refine lv_aload_n hx hb dX1_init_18 rfl (lv_at hl 0 rfl) ?_
  refine lv_ldc hx hb hown (hts _ q80) dX1_init_19 ?_
  refine va_newa (atype := .long) (a0 := (102400, .inr (.inl (fun _ => 0)))) hx hb (hts _ q35) (ty := .long) rfl hK hP hD hS hA (fun _ => rfl) (by decide +kernel) (by decide +kernel) (by decide +kernel) (Nat.le_of_ble_eq_true rfl) (Nat.le_of_ble_eq_true rfl) dX1_init_21 (fun q2 c2 H hK hP hD hS => ?_)
  have hP : va_P (dC, dI) vwCl [(h, .inr (1, [.ref q1, .int 0, .int (nI 6), .int 0, .null, .null, .null])), (q1, .inl (c1, 24, .inl (fun _ => 0))), (q2, .inl (c2, 102400, .inr (.inl (fun _ => 0))))] H := hP
  have hD : va_D A [(h, .inr (1, [.ref q1, .int 0, .int (nI 6), .int 0, .null, .null, .null])), (q1, .inl (c1, 24, .inl (fun _ => 0))), (q2, .inl (c2, 102400, .inr (.inl (fun _ => 0))))] := hD
  refine va_putF (D := (dC, dI)) (ci := 1) (v := .ref q2) (ty := .array .long) (C := RX1) (T := TX1) (N := 7) hx hb hts in_X1 tyX1 tyX1_ok nmX1 hown hK hP hD hS 0 rfl rfl 4 (by decide) (hts _ q85) (fun _ h9 => h9) rfl hin rfl (by decide +kernel) rfl rfl (Nat.le_of_ble_eq_true rfl) dX1_init_23 (fun H locs hP hD hS => ?_)
  have hP : va_P (dC, dI) vwCl [(h, .inr (1, [.ref q1, .int 0, .int (nI 6), .int 0, .ref q2, .null, .null])), (q1, .inl (c1, 24, .inl (fun _ => 0))), (q2, .inl (c2, 102400, .inr (.inl (fun _ => 0))))] H := hP
  have hD : va_D A [(h, .inr (1, [.ref q1, .int 0, .int (nI 6), .int 0, .ref q2, .null, .null])), (q1, .inl (c1, 24, .inl (fun _ => 0))), (q2, .inl (c2, 102400, .inr (.inl (fun _ => 0))))] := hD
  refine lv_aload_n hx hb dX1_init_26 rfl (lv_at hl 0 rfl) ?_
  refine lv_sipush (v := 4096) hx hb dX1_init_27 (by decide +kernel) ?_
  refine va_newa (atype := .long) (a0 := (4096, .inr (.inl (fun _ => 0)))) hx hb (hts _ q35) (ty := .long) rfl hK hP hD hS hA (fun _ => rfl) (by decide +kernel) (by decide +kernel) (by decide +kernel) (Nat.le_of_ble_eq_true rfl) (Nat.le_of_ble_eq_true rfl) dX1_init_30 (fun q3 c3 H hK hP hD hS => ?_)
  have hP : va_P (dC, dI) vwCl [(h, .inr (1, [.ref q1, .int 0, .int (nI 6), .int 0, .ref q2, .null, .null])), (q1, .inl (c1, 24, .inl (fun _ => 0))), (q2, .inl (c2, 102400, .inr (.inl (fun _ => 0)))), (q3, .inl (c3, 4096, .inr (.inl (fun _ => 0))))] H := hP
  have hD : va_D A [(h, .inr (1, [.ref q1, .int 0, .int (nI 6), .int 0, .ref q2, .null, .null])), (q1, .inl (c1, 24, .inl (fun _ => 0))), (q2, .inl (c2, 102400, .inr (.inl (fun _ => 0)))), (q3, .inl (c3, 4096, .inr (.inl (fun _ => 0))))] := hD
  refine va_putF (D := (dC, dI)) (ci := 1) (v := .ref q3) (ty := .array .long) (C := RX1) (T := TX1) (N := 7) hx hb hts in_X1 tyX1 tyX1_ok nmX1 hown hK hP hD hS 0 rfl rfl 5 (by decide) (hts _ q86) (fun _ h9 => h9) rfl hin rfl (by decide +kernel) rfl rfl (Nat.le_of_ble_eq_true rfl) dX1_init_32 (fun H locs hP hD hS => ?_)
  have hP : va_P (dC, dI) vwCl [(h, .inr (1, [.ref q1, .int 0, .int (nI 6), .int 0, .ref q2, .ref q3, .null])), (q1, .inl (c1, 24, .inl (fun _ => 0))), (q2, .inl (c2, 102400, .inr (.inl (fun _ => 0)))), (q3, .inl (c3, 4096, .inr (.inl (fun _ => 0))))] H := hP
  have hD : va_D A [(h, .inr (1, [.ref q1, .int 0, .int (nI 6), .int 0, .ref q2, .ref q3, .null])), (q1, .inl (c1, 24, .inl (fun _ => 0))), (q2, .inl (c2, 102400, .inr (.inl (fun _ => 0)))), (q3, .inl (c3, 4096, .inr (.inl (fun _ => 0))))] := hD
  refine lv_aload_n hx hb dX1_init_35 rfl (lv_at hl 0 rfl) ?_
  refine lv_sipush (v := 4096) hx hb dX1_init_36 (by decide +kernel) ?_
  refine va_newa (atype := .int) (a0 := (4096, .inl (fun _ => 0))) hx hb (hts _ q34) (ty := .int) rfl hK hP hD hS hA (fun _ => rfl) (by decide +kernel) (by decide +kernel) (by decide +kernel) (Nat.le_of_ble_eq_true rfl) (Nat.le_of_ble_eq_true rfl) dX1_init_39 (fun q4 c4 H hK hP hD hS => ?_)
  have hP : va_P (dC, dI) vwCl [(h, .inr (1, [.ref q1, .int 0, .int (nI 6), .int 0, .ref q2, .ref q3, .null])), (q1, .inl (c1, 24, .inl (fun _ => 0))), (q2, .inl (c2, 102400, .inr (.inl (fun _ => 0)))), (q3, .inl (c3, 4096, .inr (.inl (fun _ => 0)))), (q4, .inl (c4, 4096, .inl (fun _ => 0)))] H := hP
  have hD : va_D A [(h, .inr (1, [.ref q1, .int 0, .int (nI 6), .int 0, .ref q2, .ref q3, .null])), (q1, .inl (c1, 24, .inl (fun _ => 0))), (q2, .inl (c2, 102400, .inr (.inl (fun _ => 0)))), (q3, .inl (c3, 4096, .inr (.inl (fun _ => 0)))), (q4, .inl (c4, 4096, .inl (fun _ => 0)))] := hD
  refine va_putF (D := (dC, dI)) (ci := 1) (v := .ref q4) (ty := .array .int) (C := RX1) (T := TX1) (N := 7) hx hb hts in_X1 tyX1 tyX1_ok nmX1 hown hK hP hD hS 0 rfl rfl 6 (by decide) (hts _ q87) (fun _ h9 => h9) rfl hin rfl (by decide +kernel) rfl rfl (Nat.le_of_ble_eq_true rfl) dX1_init_41 (fun H locs hP hD hS => ?_)
  have hP : va_P (dC, dI) vwCl [(h, .inr (1, [.ref q1, .int 0, .int (nI 6), .int 0, .ref q2, .ref q3, .ref q4])), (q1, .inl (c1, 24, .inl (fun _ => 0))), (q2, .inl (c2, 102400, .inr (.inl (fun _ => 0)))), (q3, .inl (c3, 4096, .inr (.inl (fun _ => 0)))), (q4, .inl (c4, 4096, .inl (fun _ => 0)))] H := hP
  have hD : va_D A [(h, .inr (1, [.ref q1, .int 0, .int (nI 6), .int 0, .ref q2, .ref q3, .ref q4])), (q1, .inl (c1, 24, .inl (fun _ => 0))), (q2, .inl (c2, 102400, .inr (.inl (fun _ => 0)))), (q3, .inl (c3, 4096, .inr (.inl (fun _ => 0)))), (q4, .inl (c4, 4096, .inl (fun _ => 0)))] := hD
  refine W.widen (k := 4) (n := 110616) (Nat.le_of_ble_eq_true rfl) (Nat.le_of_ble_eq_true rfl) ?_
  exact W.vret hx hb hr (fun t ht hW => ⟨⟨((fun k => match k with | 0 => h | 1 => q1 | 2 => q2 | 3 => q3 | _ => q4), (fun k => match k with | 1 => c1 | 2 => c2 | 3 => c3 | _ => c4)), rfl, rfl, by rw [ht]; exact hP, va_K.moved hW.alike hK, hD⟩, hS.F ht⟩) hS.2.2 dX1_init_44
end
section
/-! the rows that a desk holds: k of them, sets of n columns -/
def td_R (R : Nat → Nat) (k n : Nat) (f : Nat → Int32) : Prop := ∀ i, i < k → f i = nI (R i) ∧ R i < 2 ^ n
set_option maxHeartbeats 4000000 in
set_option maxRecDepth 100000 in
theorem mx_all (l : Launch) (dC : Nat → ClassId) (dI : Nat → Nat → Nat) (a : Nat → Nat) (ca : Nat → ClassId) (sz : Nat) (fR fB : Nat → Int32) (fW : Nat → Int64) (fC : Nat → Int32) (n : Nat) (kr : Int32) (hn : n ≤ 12) : xMi l yX0_all cX0_all 1 (some .int) ({ frames := 0, cells := 0, slots := 0, locals := 0 }) [.ref (a 0)] dC dI a ca sz fR fB fW fC ((nI (n))) kr (fun (r : Int32) (u : xU) => r = nI (2 ^ n - 1) ∧ u = (fR, fB, fW, fC, nI n, kr)) := by
  refine x_enter [.ref (a 0)] (Nat.le_of_ble_eq_true rfl) (by decide) rfl (fun A => va_Qi (fun (r : Int32) (u : xU) => r = nI (2 ^ n - 1) ∧ u = (fR, fB, fW, fC, nI n, kr)) (xB dC dI A a ca) A) ?_
  intro p e s m below meth c A ls E hr hlocks S hl
  have hx := E.1
  have hb := E.2.1
  have hl : lv_has ls 1 [(0, .ref (a 0))] := hl
  have h2 := td_2n hn
  refine lv_iconst (v := nI 1) hx hb dX0_all_0 (by decide +kernel) ?_
  refine lv_aload_n hx hb dX0_all_1 rfl (lv_at hl 0 rfl) ?_
  refine xg_columns E S dX0_all_2 ?_
  refine tr_shl hx hb (by omega) dX0_all_5 ?_
  refine lv_iconst (v := nI 1) hx hb dX0_all_6 (by decide +kernel) ?_
  refine tr_isub hx hb (by omega) dX0_all_7 ?_
  exact x_iret E hr hlocks S ⟨rfl, rfl⟩ dX0_all_8
set_option maxHeartbeats 4000000 in
set_option maxRecDepth 100000 in
theorem mx_columns (l : Launch) (dC : Nat → ClassId) (dI : Nat → Nat → Nat) (a : Nat → Nat) (ca : Nat → ClassId) (sz : Nat) (fR fB : Nat → Int32) (fW : Nat → Int64) (fC : Nat → Int32) (kc kr p0 : Int32) : xMv l yX0_columns cX0_columns 2 none ({ frames := 0, cells := 0, slots := 0, locals := 0 }) [.ref (a 0), .int p0] dC dI a ca sz fR fB fW fC kc kr (fun (u : xU) => u = (fR, fB, fW, fC, nI (1 + td_p p0 % 12), nI 0)) := by
  refine x_enter [.ref (a 0), .int p0] (Nat.le_of_ble_eq_true rfl) (by decide) rfl (fun A => va_Qv (fun (u : xU) => u = (fR, fB, fW, fC, nI (1 + td_p p0 % 12), nI 0)) (xB dC dI A a ca) A) ?_
  intro p e s m below meth c A ls E hr hlocks S hl
  have hx := E.1
  have hb := E.2.1
  have hl : lv_has ls 2 [(0, .ref (a 0)), (1, .int (p0))] := hl
  refine lv_aload_n hx hb dX0_columns_0 rfl (lv_at hl 0 rfl) ?_
  refine lv_iconst (v := nI 1) hx hb dX0_columns_1 (by decide +kernel) ?_
  refine lv_iload_n hx hb dX0_columns_2 rfl (lv_at hl 1 rfl) ?_
  refine lv_ldc hx hb E.2.2.2.1 (E.2.2.1 _ q41) dX0_columns_3 ?_
  refine tr_p31 hx hb dX0_columns_5 ?_
  refine lv_bipush (v := nI 12) hx hb dX0_columns_6 (by decide +kernel) ?_
  refine tr_irem hx hb (td_p_lt p0) (by decide) (by decide) dX0_columns_8 ?_
  refine tr_iadd hx hb dX0_columns_9 ?_
  refine xp_columns E S dX0_columns_10 (fun H locs S => ?_)
  refine lv_aload_n hx hb dX0_columns_13 rfl (lv_at hl 0 rfl) ?_
  refine lv_iconst (v := nI 0) hx hb dX0_columns_14 (by decide +kernel) ?_
  refine xp_rows E S dX0_columns_15 (fun H locs S => ?_)
  exact x_vret E hr hlocks S rfl dX0_columns_18
set_option maxHeartbeats 4000000 in
set_option maxRecDepth 100000 in
theorem mx_row (l : Launch) (dC : Nat → ClassId) (dI : Nat → Nat → Nat) (a : Nat → Nat) (ca : Nat → ClassId) (sz : Nat) (fR fB : Nat → Int32) (fW : Nat → Int64) (fC : Nat → Int32) (n k : Nat) (p0 : Int32) (hn : n ≤ 12) (hk : k ≤ 24) : xMi l yX0_row cX0_row 2 (some .boolean) ({ frames := 1, cells := 0, slots := 0, locals := 20 }) [.ref (a 0), .int p0] dC dI a ca sz fR fB fW fC ((nI (n))) ((nI (k))) (fun (r : Int32) (u : xU) => (k = 24 → r = nI 0 ∧ u = (fR, fB, fW, fC, nI n, nI k)) ∧ (¬ k = 24 → r = nI 1 ∧ u = (upd fR k (nI (td_m n p0)), fB, fW, fC, nI n, nI (k + 1)))) := by
  refine x_enter [.ref (a 0), .int p0] (Nat.le_of_ble_eq_true rfl) (by decide) rfl (fun A => va_Qi (fun (r : Int32) (u : xU) => (k = 24 → r = nI 0 ∧ u = (fR, fB, fW, fC, nI n, nI k)) ∧ (¬ k = 24 → r = nI 1 ∧ u = (upd fR k (nI (td_m n p0)), fB, fW, fC, nI n, nI (k + 1)))) (xB dC dI A a ca) A) ?_
  intro p e s m below meth c A ls E hr hlocks S hl
  have hx := E.1
  have hb := E.2.1
  have hl : lv_has ls 2 [(0, .ref (a 0)), (1, .int (p0))] := hl
  refine lv_aload_n hx hb dX0_row_0 rfl (lv_at hl 0 rfl) ?_
  refine xg_rows E S dX0_row_1 ?_
  refine lv_bipush (v := nI 24) hx hb dX0_row_4 (by decide +kernel) ?_
  refine tb_ne (tgt := 11) hx hb (by omega) (by omega) dX0_row_6 (by decide) (fun c1 => ?_) (fun c1 => ?_)
  · refine lv_aload_n hx hb dX0_row_11 rfl (lv_at hl 0 rfl) ?_
    refine xg_row E S dX0_row_12 ?_
    refine lv_aload_n hx hb dX0_row_15 rfl (lv_at hl 0 rfl) ?_
    refine xg_rows E S dX0_row_16 ?_
    refine lv_iload_n hx hb dX0_row_19 rfl (lv_at hl 1 rfl) ?_
    refine lv_aload_n hx hb dX0_row_20 rfl (lv_at hl 0 rfl) ?_
    refine xc_i E S (fun sz => mx_all l dC dI a ca sz fR fB fW fC n (nI k) hn) q46 q48 qs0 q49 rfl rfl (by decide +kernel) ⟨Nat.le_of_ble_eq_true rfl, Nat.le_of_ble_eq_true rfl⟩ rfl hl.1 rfl (Nat.le_of_ble_eq_true rfl) ⟨Nat.zero_le _, Nat.zero_le _⟩ dX0_row_21 (fun r u H locs hu S => ?_)
    obtain ⟨rfl, rfl⟩ := hu
    have S : xS dC dI A s a ca fR fB fW fC (nI n) (nI k) H locs := S
    refine tr_msk hx hb hn dX0_row_24 ?_
    refine xs_row E S (by omega) dX0_row_25 (fun H locs S => ?_)
    refine lv_aload_n hx hb dX0_row_26 rfl (lv_at hl 0 rfl) ?_
    refine lv_dup hx hb dX0_row_27 rfl ?_
    refine xg_rows E S dX0_row_28 ?_
    refine lv_iconst (v := nI 1) hx hb dX0_row_31 (by decide +kernel) ?_
    refine tr_iadd hx hb dX0_row_32 ?_
    refine xp_rows E S dX0_row_33 (fun H locs S => ?_)
    refine lv_iconst (v := nI 1) hx hb dX0_row_36 (by decide +kernel) ?_
    exact x_zret E hr hlocks S (by decide +kernel) ⟨fun q => absurd q c1, fun _ => ⟨rfl, rfl⟩⟩ dX0_row_37
  · refine lv_iconst (v := nI 0) hx hb dX0_row_9 (by decide +kernel) ?_
    exact x_zret E hr hlocks S (by decide +kernel) ⟨fun _ => ⟨rfl, rfl⟩, fun q => absurd c1 q⟩ dX0_row_10
set_option maxHeartbeats 4000000 in
set_option maxRecDepth 100000 in
theorem mx_drop (l : Launch) (dC : Nat → ClassId) (dI : Nat → Nat → Nat) (a : Nat → Nat) (ca : Nat → ClassId) (sz : Nat) (fR fB : Nat → Int32) (fW : Nat → Int64) (fC : Nat → Int32) (n k : Nat) (hk : k ≤ 24) : xMi l yX0_drop cX0_drop 1 (some .boolean) ({ frames := 0, cells := 0, slots := 0, locals := 0 }) [.ref (a 0)] dC dI a ca sz fR fB fW fC ((nI (n))) ((nI (k))) (fun (r : Int32) (u : xU) => (k = 0 → r = nI 0 ∧ u = (fR, fB, fW, fC, nI n, nI k)) ∧ (¬ k = 0 → r = nI 1 ∧ u = (fR, fB, fW, fC, nI n, nI (k - 1)))) := by
  refine x_enter [.ref (a 0)] (Nat.le_of_ble_eq_true rfl) (by decide) rfl (fun A => va_Qi (fun (r : Int32) (u : xU) => (k = 0 → r = nI 0 ∧ u = (fR, fB, fW, fC, nI n, nI k)) ∧ (¬ k = 0 → r = nI 1 ∧ u = (fR, fB, fW, fC, nI n, nI (k - 1)))) (xB dC dI A a ca) A) ?_
  intro p e s m below meth c A ls E hr hlocks S hl
  have hx := E.1
  have hb := E.2.1
  have hl : lv_has ls 1 [(0, .ref (a 0))] := hl
  refine lv_aload_n hx hb dX0_drop_0 rfl (lv_at hl 0 rfl) ?_
  refine xg_rows E S dX0_drop_1 ?_
  refine tb_if_ne (tgt := 9) hx hb (by omega) dX0_drop_4 (by decide) (fun c1 => ?_) (fun c1 => ?_)
  · refine lv_aload_n hx hb dX0_drop_9 rfl (lv_at hl 0 rfl) ?_
    refine lv_dup hx hb dX0_drop_10 rfl ?_
    refine xg_rows E S dX0_drop_11 ?_
    refine lv_iconst (v := nI 1) hx hb dX0_drop_14 (by decide +kernel) ?_
    refine tr_isub hx hb (by omega) dX0_drop_15 ?_
    refine xp_rows E S dX0_drop_16 (fun H locs S => ?_)
    refine lv_iconst (v := nI 1) hx hb dX0_drop_19 (by decide +kernel) ?_
    exact x_zret E hr hlocks S (by decide +kernel) ⟨fun q => absurd q c1, fun _ => ⟨rfl, rfl⟩⟩ dX0_drop_20
  · refine lv_iconst (v := nI 0) hx hb dX0_drop_7 (by decide +kernel) ?_
    exact x_zret E hr hlocks S (by decide +kernel) ⟨fun _ => ⟨rfl, rfl⟩, fun q => absurd c1 q⟩ dX0_drop_8
set_option maxHeartbeats 4000000 in
set_option maxRecDepth 100000 in
theorem my_columns (l : Launch) (dC : Nat → ClassId) (dI : Nat → Nat → Nat) (a : Nat → Nat) (ca : Nat → ClassId) (sz : Nat) (gR : Nat → Int32) (gW gO : Nat → Int64) (gS : Nat → Int32) (kr kn kk p0 : Int32) : yMv l yX1_columns cX1_columns 2 none ({ frames := 0, cells := 0, slots := 0, locals := 0 }) [.ref (a 0), .int p0] dC dI a ca sz gR gW gO gS kr kn kk (fun (u : yU) => u = (gR, gW, gO, gS, nI 0, nI (1 + td_p p0 % 12), nI 0)) := by
  refine y_enter [.ref (a 0), .int p0] (Nat.le_of_ble_eq_true rfl) (by decide) rfl (fun A => va_Qv (fun (u : yU) => u = (gR, gW, gO, gS, nI 0, nI (1 + td_p p0 % 12), nI 0)) (yB dC dI A a ca) A) ?_
  intro p e s m below meth c A ls E hr hlocks S hl
  have hx := E.1
  have hb := E.2.1
  have hl : lv_has ls 2 [(0, .ref (a 0)), (1, .int (p0))] := hl
  refine lv_aload_n hx hb dX1_columns_0 rfl (lv_at hl 0 rfl) ?_
  refine lv_iconst (v := nI 1) hx hb dX1_columns_1 (by decide +kernel) ?_
  refine lv_iload_n hx hb dX1_columns_2 rfl (lv_at hl 1 rfl) ?_
  refine lv_ldc hx hb E.2.2.2.1 (E.2.2.1 _ q107) dX1_columns_3 ?_
  refine tr_p31 hx hb dX1_columns_5 ?_
  refine lv_bipush (v := nI 12) hx hb dX1_columns_6 (by decide +kernel) ?_
  refine tr_irem hx hb (td_p_lt p0) (by decide) (by decide) dX1_columns_8 ?_
  refine tr_iadd hx hb dX1_columns_9 ?_
  refine yp_n E S dX1_columns_10 (fun H locs S => ?_)
  refine lv_aload_n hx hb dX1_columns_13 rfl (lv_at hl 0 rfl) ?_
  refine lv_iconst (v := nI 0) hx hb dX1_columns_14 (by decide +kernel) ?_
  refine yp_rows E S dX1_columns_15 (fun H locs S => ?_)
  refine lv_aload_n hx hb dX1_columns_18 rfl (lv_at hl 0 rfl) ?_
  refine lv_iconst (v := nI 0) hx hb dX1_columns_19 (by decide +kernel) ?_
  refine yp_known E S (by decide +kernel) (by decide +kernel) dX1_columns_20 (fun H locs S => ?_)
  exact y_vret E hr hlocks S rfl dX1_columns_23
set_option maxHeartbeats 4000000 in
set_option maxRecDepth 100000 in
theorem my_row (l : Launch) (dC : Nat → ClassId) (dI : Nat → Nat → Nat) (a : Nat → Nat) (ca : Nat → ClassId) (sz : Nat) (gR : Nat → Int32) (gW gO : Nat → Int64) (gS : Nat → Int32) (n k : Nat) (kk p0 : Int32) (hn : n ≤ 12) (hk : k ≤ 24) : yMi l yX1_row cX1_row 2 (some .boolean) ({ frames := 0, cells := 0, slots := 0, locals := 0 }) [.ref (a 0), .int p0] dC dI a ca sz gR gW gO gS ((nI (k))) ((nI (n))) kk (fun (r : Int32) (u : yU) => (k = 24 → r = nI 0 ∧ u = (gR, gW, gO, gS, nI k, nI n, kk)) ∧ (¬ k = 24 → r = nI 1 ∧ u = (upd gR k (nI (td_m n p0)), gW, gO, gS, nI (k + 1), nI n, nI 0))) := by
  refine y_enter [.ref (a 0), .int p0] (Nat.le_of_ble_eq_true rfl) (by decide) rfl (fun A => va_Qi (fun (r : Int32) (u : yU) => (k = 24 → r = nI 0 ∧ u = (gR, gW, gO, gS, nI k, nI n, kk)) ∧ (¬ k = 24 → r = nI 1 ∧ u = (upd gR k (nI (td_m n p0)), gW, gO, gS, nI (k + 1), nI n, nI 0))) (yB dC dI A a ca) A) ?_
  intro p e s m below meth c A ls E hr hlocks S hl
  have hx := E.1
  have hb := E.2.1
  have hl : lv_has ls 2 [(0, .ref (a 0)), (1, .int (p0))] := hl
  have h2 := td_2n hn
  refine lv_aload_n hx hb dX1_row_0 rfl (lv_at hl 0 rfl) ?_
  refine yg_rows E S dX1_row_1 ?_
  refine lv_bipush (v := nI 24) hx hb dX1_row_4 (by decide +kernel) ?_
  refine tb_ne (tgt := 11) hx hb (by omega) (by omega) dX1_row_6 (by decide) (fun c1 => ?_) (fun c1 => ?_)
  · refine lv_aload_n hx hb dX1_row_11 rfl (lv_at hl 0 rfl) ?_
    refine yg_row E S dX1_row_12 ?_
    refine lv_aload_n hx hb dX1_row_15 rfl (lv_at hl 0 rfl) ?_
    refine yg_rows E S dX1_row_16 ?_
    refine lv_iload_n hx hb dX1_row_19 rfl (lv_at hl 1 rfl) ?_
    refine lv_iconst (v := nI 1) hx hb dX1_row_20 (by decide +kernel) ?_
    refine lv_aload_n hx hb dX1_row_21 rfl (lv_at hl 0 rfl) ?_
    refine yg_n E S dX1_row_22 ?_
    refine tr_shl hx hb (by omega) dX1_row_25 ?_
    refine lv_iconst (v := nI 1) hx hb dX1_row_26 (by decide +kernel) ?_
    refine tr_isub hx hb (by omega) dX1_row_27 ?_
    refine tr_msk hx hb hn dX1_row_28 ?_
    refine ys_row E S (by omega) dX1_row_29 (fun H locs S => ?_)
    refine lv_aload_n hx hb dX1_row_30 rfl (lv_at hl 0 rfl) ?_
    refine lv_aload_n hx hb dX1_row_31 rfl (lv_at hl 0 rfl) ?_
    refine yg_rows E S dX1_row_32 ?_
    refine lv_iconst (v := nI 1) hx hb dX1_row_35 (by decide +kernel) ?_
    refine tr_iadd hx hb dX1_row_36 ?_
    refine yp_rows E S dX1_row_37 (fun H locs S => ?_)
    refine lv_aload_n hx hb dX1_row_40 rfl (lv_at hl 0 rfl) ?_
    refine lv_iconst (v := nI 0) hx hb dX1_row_41 (by decide +kernel) ?_
    refine yp_known E S (by decide +kernel) (by decide +kernel) dX1_row_42 (fun H locs S => ?_)
    refine lv_iconst (v := nI 1) hx hb dX1_row_45 (by decide +kernel) ?_
    exact y_zret E hr hlocks S (by decide +kernel) ⟨fun q => absurd q c1, fun _ => ⟨rfl, rfl⟩⟩ dX1_row_46
  · refine lv_iconst (v := nI 0) hx hb dX1_row_9 (by decide +kernel) ?_
    exact y_zret E hr hlocks S (by decide +kernel) ⟨fun _ => ⟨rfl, rfl⟩, fun q => absurd c1 q⟩ dX1_row_10
set_option maxHeartbeats 4000000 in
set_option maxRecDepth 100000 in
theorem my_drop (l : Launch) (dC : Nat → ClassId) (dI : Nat → Nat → Nat) (a : Nat → Nat) (ca : Nat → ClassId) (sz : Nat) (gR : Nat → Int32) (gW gO : Nat → Int64) (gS : Nat → Int32) (n k : Nat) (kk : Int32) (hk : k ≤ 24) : yMi l yX1_drop cX1_drop 1 (some .boolean) ({ frames := 0, cells := 0, slots := 0, locals := 0 }) [.ref (a 0)] dC dI a ca sz gR gW gO gS ((nI (k))) ((nI (n))) kk (fun (r : Int32) (u : yU) => (k = 0 → r = nI 0 ∧ u = (gR, gW, gO, gS, nI k, nI n, kk)) ∧ (¬ k = 0 → r = nI 1 ∧ u = (gR, gW, gO, gS, nI (k - 1), nI n, nI 0))) := by
  refine y_enter [.ref (a 0)] (Nat.le_of_ble_eq_true rfl) (by decide) rfl (fun A => va_Qi (fun (r : Int32) (u : yU) => (k = 0 → r = nI 0 ∧ u = (gR, gW, gO, gS, nI k, nI n, kk)) ∧ (¬ k = 0 → r = nI 1 ∧ u = (gR, gW, gO, gS, nI (k - 1), nI n, nI 0))) (yB dC dI A a ca) A) ?_
  intro p e s m below meth c A ls E hr hlocks S hl
  have hx := E.1
  have hb := E.2.1
  have hl : lv_has ls 1 [(0, .ref (a 0))] := hl
  refine lv_aload_n hx hb dX1_drop_0 rfl (lv_at hl 0 rfl) ?_
  refine yg_rows E S dX1_drop_1 ?_
  refine tb_if_ne (tgt := 9) hx hb (by omega) dX1_drop_4 (by decide) (fun c1 => ?_) (fun c1 => ?_)
  · refine lv_aload_n hx hb dX1_drop_9 rfl (lv_at hl 0 rfl) ?_
    refine lv_aload_n hx hb dX1_drop_10 rfl (lv_at hl 0 rfl) ?_
    refine yg_rows E S dX1_drop_11 ?_
    refine lv_iconst (v := nI 1) hx hb dX1_drop_14 (by decide +kernel) ?_
    refine tr_isub hx hb (by omega) dX1_drop_15 ?_
    refine yp_rows E S dX1_drop_16 (fun H locs S => ?_)
    refine lv_aload_n hx hb dX1_drop_19 rfl (lv_at hl 0 rfl) ?_
    refine lv_iconst (v := nI 0) hx hb dX1_drop_20 (by decide +kernel) ?_
    refine yp_known E S (by decide +kernel) (by decide +kernel) dX1_drop_21 (fun H locs S => ?_)
    refine lv_iconst (v := nI 1) hx hb dX1_drop_24 (by decide +kernel) ?_
    exact y_zret E hr hlocks S (by decide +kernel) ⟨fun q => absurd q c1, fun _ => ⟨rfl, rfl⟩⟩ dX1_drop_25
  · refine lv_iconst (v := nI 0) hx hb dX1_drop_7 (by decide +kernel) ?_
    exact y_zret E hr hlocks S (by decide +kernel) ⟨fun _ => ⟨rfl, rfl⟩, fun q => absurd c1 q⟩ dX1_drop_8
end
section
/-! TileDesk.work, count, with -/
theorem td_asc {f : Nat → Int64} {g : Nat → Int64} {i : Nat} {x : Int64} (h : ∀ j, j < i → f j = g j) (hx : x = g i) : ∀ j, j < i + 1 → vp_updL f i x j = g j := by
  intro j hj
  unfold vp_updL
  by_cases q : j = i
  · rw [if_pos q, q]
    exact hx
  · rw [if_neg q]
    exact h j (by omega)
theorem td_desc {f g g' : Nat → Int64} {N i : Nat} {x : Int64} (h : ∀ j, j < N → f j = if j < i + 1 then g j else g' j) (hx : x = g' i) : ∀ j, j < N → vp_updL f i x j = if j < i then g j else g' j := by
  intro j hj
  unfold vp_updL
  by_cases q : j = i
  · rw [if_pos q, q, if_neg (Nat.lt_irrefl i)]
    exact hx
  · rw [if_neg q, h j hj]
    by_cases r : j < i
    · rw [if_pos (by omega), if_pos r]
    · rw [if_neg (by omega), if_neg r]
theorem td_keep {f g g' : Nat → Int64} {N i : Nat} (h : ∀ j, j < N → f j = if j < i + 1 then g j else g' j) (hx : g i = g' i) : ∀ j, j < N → f j = if j < i then g j else g' j := by
  intro j hj
  rw [h j hj]
  by_cases q : j = i
  · rw [if_pos (by omega), if_neg (by omega), q]
    exact hx
  · by_cases r : j < i
    · rw [if_pos (by omega), if_pos r]
    · rw [if_neg (by omega), if_neg r]
theorem td_first1 {f : Nat → Int64} {N : Nat} (h : ∀ j, j < N → f j = lN 0) : ∀ j, j < N → vp_updL f 0 (lN 1) j = lN (td_z j) := by
  intro j hj
  unfold vp_updL td_z
  by_cases q : j = 0
  · rw [if_pos q, if_pos q]
  · rw [if_neg q, if_neg q]
    exact h j hj
theorem td_t_in {mk : Nat} {F : Nat → Nat} {i : Nat} (h : i &&& mk = mk) : lN (F i + F (i ^^^ mk)) = lN (td_t mk F i) := by
  unfold td_t
  rw [if_pos h]
theorem td_t_out {mk : Nat} {F : Nat → Nat} {i : Nat} (h : ¬ i &&& mk = mk) : lN (F i) = lN (td_t mk F i) := by
  unfold td_t
  rw [if_neg h, Nat.add_zero]
theorem td_fw_eq (R : Nat → Nat) (w q : Nat) (h : q = w) : td_fw R w (q + 1) = td_fw R w q := by
  show (if q = w then td_fw R w q else td_t (R q) (td_fw R w q)) = _
  rw [if_pos h]
theorem td_fw_ne (R : Nat → Nat) (w q : Nat) (h : ¬ q = w) : td_fw R w (q + 1) = td_t (R q) (td_fw R w q) := by
  show (if q = w then td_fw R w q else td_t (R q) (td_fw R w q)) = _
  rw [if_neg h]
section XWORK
variable {p : Program} {l : Launch} {e : Env} {R0 : Room} {s : State} {m : MethodId} {args : Array Value} {below : List Frame} {meth : Method} {c : Code} {cells slots : Nat} {Q : State → Prop}
variable {dC : Nat → ClassId} {dI : Nat → Nat → Nat} {A : Nat → Prop} {a : Nat → Nat} {ca : Nat → ClassId}
variable {fR fB : Nat → Int32} {fC : Nat → Int32} {kc p0 : Int32}
set_option maxHeartbeats 4000000 in
set_option maxRecDepth 100000 in
theorem xw1 (E : xE p m c s args cX0_work 6 dC dI ca A) {kr : Int32} (N : Nat) (h2 : 0 < N ∧ N ≤ 4096) : ∀ (d i : Nat) (fW : Nat → Int64) (H : Heap) (locs : List Loc) (ls : Array Slot), i + d = N → (∀ j, j < i → fW j = lN 0) → xS dC dI A s a ca fR fB fW fC kc kr H locs → lv_has ls 6 [(0, .ref (a 0)), (1, .int (p0)), (2, .int (nI (N - 1))), (3, .int (nI (i)))] → (∀ (fW : Nat → Int64) (H : Heap) (locs : List Loc) (ls : Array Slot), (∀ j, j < N → fW j = lN 0) → xS dC dI A s a ca fR fB fW fC kc kr H locs → lv_has ls 6 [(0, .ref (a 0)), (1, .int (p0)), (2, .int (nI (N - 1)))] → W p l e R0 s m args below meth c H locs cells slots Q (F0 m 25 ls [])) → W p l e R0 s m args below meth c H locs cells slots Q (F0 m 7 ls []) := by
  have hx := E.1
  have hb := E.2.1
  intro d
  induction d with
  | zero =>
    intro i fW H locs ls hi hF S hl k
    refine lv_iload_n hx hb dX0_work_7 rfl (lv_at hl 3 rfl) ?_
    refine lv_iload_n hx hb dX0_work_8 rfl (lv_at hl 2 rfl) ?_
    refine tb_gt (tgt := 25) hx hb (by omega) (by omega) dX0_work_9 (by decide) (fun c1 => ?_) (fun c1 => ?_)
    · exact k fW H locs ls (fun j hj => hF j (by omega)) S (lv_sub hl [0, 1, 2] rfl)
    · exact absurd c1 (by omega)
  | succ d ih =>
    intro i fW H locs ls hi hF S hl k
    refine lv_iload_n hx hb dX0_work_7 rfl (lv_at hl 3 rfl) ?_
    refine lv_iload_n hx hb dX0_work_8 rfl (lv_at hl 2 rfl) ?_
    refine tb_gt (tgt := 25) hx hb (by omega) (by omega) dX0_work_9 (by decide) (fun c1 => ?_) (fun c1 => ?_)
    · exact absurd c1 (by omega)
    · refine lv_aload_n hx hb dX0_work_12 rfl (lv_at hl 0 rfl) ?_
      refine xg_ways E S dX0_work_13 ?_
      refine lv_iload_n hx hb dX0_work_16 rfl (lv_at hl 3 rfl) ?_
      refine lv_lconst (v := lN 0) hx hb dX0_work_17 rfl ?_
      refine xs_ways E S (by omega) dX0_work_18 (fun H locs S => ?_)
      refine lv_iinc (v := (nI (i + 1))) (lv' := [(3, .int (nI (i + 1))), (0, .ref (a 0)), (1, .int (p0)), (2, .int (nI (N - 1)))]) hx hb dX0_work_19 hl (k := 3) rfl (td_inc _) (by decide) rfl (fun ls hl => ?_)
      refine lv_goto (tgt := 7) hx hb dX0_work_22 (by decide) ?_
      exact ih (i + 1) _ _ _ _ (by omega) (td_asc (g := fun _ => lN 0) hF rfl) S (lv_sub hl [1, 2, 3, 0] rfl) k
set_option maxHeartbeats 4000000 in
set_option maxRecDepth 100000 in
theorem xw3 (E : xE p m c s args cX0_work 6 dC dI ca A) {kr : Int32} (N mk q : Nat) (h2 : 0 < N ∧ N ≤ 4096) (hmk : mk < N) (hx2 : ∀ i, i < N → i ^^^ mk < N) (F : Nat → Nat) : ∀ (i : Nat) (fW : Nat → Int64) (H : Heap) (locs : List Loc) (ls : Array Slot), i ≤ N → (∀ j, j < N → fW j = if j < i then lN (F j) else lN (td_t mk F j)) → xS dC dI A s a ca fR fB fW fC kc kr H locs → lv_has ls 6 [(0, .ref (a 0)), (1, .int (p0)), (2, .int (nI (N - 1))), (3, .int (nI (q))), (4, .int (nI (mk))), (5, .int (td_dn i))] → (∀ (fW : Nat → Int64) (H : Heap) (locs : List Loc) (ls : Array Slot), (∀ j, j < N → fW j = lN (td_t mk F j)) → xS dC dI A s a ca fR fB fW fC kc kr H locs → lv_has ls 6 [(0, .ref (a 0)), (1, .int (p0)), (2, .int (nI (N - 1))), (3, .int (nI (q)))] → W p l e R0 s m args below meth c H locs cells slots Q (F0 m 102 ls [])) → W p l e R0 s m args below meth c H locs cells slots Q (F0 m 61 ls []) := by
  have hx := E.1
  have hb := E.2.1
  intro i
  induction i with
  | zero =>
    intro fW H locs ls hi hF S hl k
    refine lv_iload hx hb dX0_work_61 (lv_at hl 5 rfl) ?_
    refine tb_lt_yes (tgt := 102) hx hb rfl dX0_work_63 (by decide) ?_
    exact k fW H locs ls (fun j hj => by rw [hF j hj, if_neg (Nat.not_lt_zero j)]) S (lv_sub hl [0, 1, 2, 3] rfl)
  | succ i ih =>
    intro fW H locs ls hi hF S hl k
    have hl : lv_has ls 6 [(0, .ref (a 0)), (1, .int (p0)), (2, .int (nI (N - 1))), (3, .int (nI (q))), (4, .int (nI (mk))), (5, .int (nI (i)))] := hl
    refine lv_iload hx hb dX0_work_61 (lv_at hl 5 rfl) ?_
    refine tb_lt_no (tgt := 102) hx hb (by omega) dX0_work_63 (by decide) ?_
    have ha : i &&& mk ≤ i := Nat.and_le_left
    refine lv_iload hx hb dX0_work_66 (lv_at hl 5 rfl) ?_
    refine lv_iload hx hb dX0_work_68 (lv_at hl 4 rfl) ?_
    refine tr_iand hx hb dX0_work_70 ?_
    refine lv_iload hx hb dX0_work_71 (lv_at hl 4 rfl) ?_
    refine tb_ne (tgt := 96) hx hb (by omega) (by omega) dX0_work_73 (by decide) (fun c1 => ?_) (fun c1 => ?_)
    · refine lv_iinc (v := (td_dn i)) (lv' := [(5, .int (td_dn i)), (0, .ref (a 0)), (1, .int (p0)), (2, .int (nI (N - 1))), (3, .int (nI (q))), (4, .int (nI (mk)))]) hx hb dX0_work_96 hl (k := 5) rfl (td_dec i) (by decide) rfl (fun ls hl => ?_)
      refine lv_goto (tgt := 61) hx hb dX0_work_99 (by decide) ?_
      exact ih _ _ _ _ (by omega) (td_keep (g := fun j => lN (F j)) (g' := fun j => lN (td_t mk F j)) hF (td_t_out c1)) S (lv_sub hl [1, 2, 3, 4, 5, 0] rfl) k
    · have hle := td_xle c1
      refine lv_aload_n hx hb dX0_work_76 rfl (lv_at hl 0 rfl) ?_
      refine xg_ways E S dX0_work_77 ?_
      refine lv_iload hx hb dX0_work_80 (lv_at hl 5 rfl) ?_
      refine lv_dup2_11 hx hb dX0_work_82 rfl rfl ?_
      refine xl_ways E S (by omega) dX0_work_83 ?_
      refine tr_l (y := (lN (F i))) (by rw [hF i (by omega), if_pos (by omega)]) ?_
      refine lv_aload_n hx hb dX0_work_84 rfl (lv_at hl 0 rfl) ?_
      refine xg_ways E S dX0_work_85 ?_
      refine lv_iload hx hb dX0_work_88 (lv_at hl 5 rfl) ?_
      refine lv_iload hx hb dX0_work_90 (lv_at hl 4 rfl) ?_
      refine tr_ixor hx hb dX0_work_92 ?_
      refine xl_ways E S (by omega) dX0_work_93 ?_
      refine tr_l (y := (lN (F (i ^^^ mk)))) (by rw [hF _ (hx2 i (by omega)), if_pos (by omega)]) ?_
      refine tr_ladd hx hb dX0_work_94 ?_
      refine xs_ways E S (by omega) dX0_work_95 (fun H locs S => ?_)
      refine lv_iinc (v := (td_dn i)) (lv' := [(5, .int (td_dn i)), (0, .ref (a 0)), (1, .int (p0)), (2, .int (nI (N - 1))), (3, .int (nI (q))), (4, .int (nI (mk)))]) hx hb dX0_work_96 hl (k := 5) rfl (td_dec i) (by decide) rfl (fun ls hl => ?_)
      refine lv_goto (tgt := 61) hx hb dX0_work_99 (by decide) ?_
      exact ih _ _ _ _ (by omega) (td_desc (g := fun j => lN (F j)) (g' := fun j => lN (td_t mk F j)) hF (td_t_in c1)) S (lv_sub hl [1, 2, 3, 4, 5, 0] rfl) k
set_option maxHeartbeats 4000000 in
set_option maxRecDepth 100000 in
theorem xw2 (E : xE p m c s args cX0_work 6 dC dI ca A) (R : Nat → Nat) (k w n N : Nat) (hk : k ≤ 24) (hN : N = 2 ^ n) (h2 : 0 < N ∧ N ≤ 4096) (hR : td_R R k n fR) (hw : ∀ q, q < k → (nI q = p0 ↔ q = w)) : ∀ (d q : Nat) (fW : Nat → Int64) (H : Heap) (locs : List Loc) (ls : Array Slot), q + d = k → (∀ j, j < N → fW j = lN (td_fw R w q j)) → xS dC dI A s a ca fR fB fW fC kc (nI k) H locs → lv_has ls 6 [(0, .ref (a 0)), (1, .int (p0)), (2, .int (nI (N - 1))), (3, .int (nI (q)))] → (∀ (fW : Nat → Int64) (H : Heap) (locs : List Loc) (ls : Array Slot), (∀ j, j < N → fW j = lN (td_fw R w k j)) → xS dC dI A s a ca fR fB fW fC kc (nI k) H locs → W p l e R0 s m args below meth c H locs cells slots Q (F0 m 108 ls [])) → W p l e R0 s m args below meth c H locs cells slots Q (F0 m 34 ls []) := by
  have hx := E.1
  have hb := E.2.1
  intro d
  induction d with
  | zero =>
    intro q fW H locs ls hq hF S hl kk
    refine lv_iload_n hx hb dX0_work_34 rfl (lv_at hl 3 rfl) ?_
    refine lv_aload_n hx hb dX0_work_35 rfl (lv_at hl 0 rfl) ?_
    refine xg_rows E S dX0_work_36 ?_
    refine tb_ge (tgt := 108) hx hb (by omega) (by omega) dX0_work_39 (by decide) (fun c1 => ?_) (fun c1 => ?_)
    · obtain rfl : q = k := by omega
      exact kk fW H locs ls hF S
    · exact absurd c1 (by omega)
  | succ d ih =>
    intro q fW H locs ls hq hF S hl kk
    refine lv_iload_n hx hb dX0_work_34 rfl (lv_at hl 3 rfl) ?_
    refine lv_aload_n hx hb dX0_work_35 rfl (lv_at hl 0 rfl) ?_
    refine xg_rows E S dX0_work_36 ?_
    refine tb_ge (tgt := 108) hx hb (by omega) (by omega) dX0_work_39 (by decide) (fun c1 => ?_) (fun c1 => ?_)
    · exact absurd c1 (by omega)
    · refine lv_iload_n hx hb dX0_work_42 rfl (lv_at hl 3 rfl) ?_
      refine lv_iload_n hx hb dX0_work_43 rfl (lv_at hl 1 rfl) ?_
      refine lv_icmp_ne (tgt := 50) hx hb  dX0_work_44 (by decide) (fun c2 => ?_) (fun c2 => ?_)
      · have hRq := hR q (by omega)
        have hmk : R q < N := by rw [hN]; exact hRq.2
        refine lv_aload_n hx hb dX0_work_50 rfl (lv_at hl 0 rfl) ?_
        refine xg_row E S dX0_work_51 ?_
        refine lv_iload_n hx hb dX0_work_54 rfl (lv_at hl 3 rfl) ?_
        refine xl_row E S (by omega) dX0_work_55 ?_
        refine tr_i (y := (nI (R q))) hRq.1 ?_
        refine lv_istore (lv' := [(4, .int (nI (R q))), (0, .ref (a 0)), (1, .int (p0)), (2, .int (nI (N - 1))), (3, .int (nI (q)))]) hx hb dX0_work_56 hl (by decide) rfl (fun ls hl => ?_)
        refine lv_iload_n hx hb dX0_work_58 rfl (lv_at hl 3 rfl) ?_
        refine tr_i (y := (td_dn N)) (td_dn_of h2.1) ?_
        refine lv_istore (lv' := [(5, .int (td_dn N)), (4, .int (nI (R q))), (0, .ref (a 0)), (1, .int (p0)), (2, .int (nI (N - 1))), (3, .int (nI (q)))]) hx hb dX0_work_59 hl (by decide) rfl (fun ls hl => ?_)
        refine xw3 E N (R q) q h2 hmk (fun i hi => by rw [hN] at hi hmk ⊢; exact Nat.xor_lt_two_pow hi hmk) (td_fw R w q) N _ _ _ _ (Nat.le_refl N) (fun j hj => by rw [hF j hj, if_pos hj]) S (lv_sub hl [2, 3, 4, 5, 1, 0] rfl) (fun fW H locs ls hF S hl => ?_)
        refine lv_iinc (v := (nI (q + 1))) (lv' := [(3, .int (nI (q + 1))), (0, .ref (a 0)), (1, .int (p0)), (2, .int (nI (N - 1)))]) hx hb dX0_work_102 hl (k := 3) rfl (td_inc _) (by decide) rfl (fun ls hl => ?_)
        refine lv_goto (tgt := 34) hx hb dX0_work_105 (by decide) ?_
        exact ih (q + 1) _ _ _ _ (by omega) (fun j hj => by rw [hF j hj, td_fw_ne R w q (fun z => c2 ((hw q (by omega)).mpr z))]) S (lv_sub hl [1, 2, 3, 0] rfl) kk
      · refine lv_goto (tgt := 102) hx hb dX0_work_47 (by decide) ?_
        refine lv_iinc (v := (nI (q + 1))) (lv' := [(3, .int (nI (q + 1))), (0, .ref (a 0)), (1, .int (p0)), (2, .int (nI (N - 1)))]) hx hb dX0_work_102 hl (k := 3) rfl (td_inc _) (by decide) rfl (fun ls hl => ?_)
        refine lv_goto (tgt := 34) hx hb dX0_work_105 (by decide) ?_
        exact ih (q + 1) _ _ _ _ (by omega) (fun j hj => by rw [hF j hj, td_fw_eq R w q ((hw q (by omega)).mp c2)]) S (lv_sub hl [1, 2, 3, 0] rfl) kk
end XWORK
set_option maxHeartbeats 4000000 in
set_option maxRecDepth 100000 in
theorem mx_work (l : Launch) (dC : Nat → ClassId) (dI : Nat → Nat → Nat) (a : Nat → Nat) (ca : Nat → ClassId) (sz : Nat) (fR fB : Nat → Int32) (fW : Nat → Int64) (fC : Nat → Int32) (R : Nat → Nat) (n k w : Nat) (p0 : Int32) (hn : n ≤ 12) (hk : k ≤ 24) (hR : td_R R k n fR) (hw : ∀ q, q < k → (nI q = p0 ↔ q = w)) : xMv l yX0_work cX0_work 6 none ({ frames := 1, cells := 0, slots := 0, locals := 20 }) [.ref (a 0), .int p0] dC dI a ca sz fR fB fW fC ((nI (n))) ((nI (k))) (fun (u : xU) => ∃ fW' : Nat → Int64, u = (fR, fB, fW', fC, nI n, nI k) ∧ ∀ j, j < 2 ^ n → fW' j = lN (td_fw R w k j)) := by
  refine x_enter [.ref (a 0), .int p0] (Nat.le_of_ble_eq_true rfl) (by decide) rfl (fun A => va_Qv (fun (u : xU) => ∃ fW' : Nat → Int64, u = (fR, fB, fW', fC, nI n, nI k) ∧ ∀ j, j < 2 ^ n → fW' j = lN (td_fw R w k j)) (xB dC dI A a ca) A) ?_
  intro p e s m below meth c A ls E hr hlocks S hl
  have hx := E.1
  have hb := E.2.1
  have hl : lv_has ls 6 [(0, .ref (a 0)), (1, .int (p0))] := hl
  have h2 := td_2n hn
  refine lv_aload_n hx hb dX0_work_0 rfl (lv_at hl 0 rfl) ?_
  refine xc_i E S (fun sz => mx_all l dC dI a ca sz fR fB fW fC n (nI k) hn) q46 q48 qs0 q49 rfl rfl (by decide +kernel) ⟨Nat.le_of_ble_eq_true rfl, Nat.le_of_ble_eq_true rfl⟩ rfl hl.1 rfl (Nat.le_of_ble_eq_true rfl) ⟨Nat.zero_le _, Nat.zero_le _⟩ dX0_work_1 (fun r u H locs hu S => ?_)
  obtain ⟨rfl, rfl⟩ := hu
  have S : xS dC dI A s a ca fR fB fW fC (nI n) (nI k) H locs := S
  refine lv_istore_n (lv' := [(2, .int (nI (2 ^ n - 1))), (0, .ref (a 0)), (1, .int (p0))]) hx hb dX0_work_4 rfl hl (by decide) rfl (fun ls hl => ?_)
  refine lv_iconst (v := nI 0) hx hb dX0_work_5 (by decide +kernel) ?_
  refine lv_istore_n (lv' := [(3, .int (nI (0))), (2, .int (nI (2 ^ n - 1))), (0, .ref (a 0)), (1, .int (p0))]) hx hb dX0_work_6 rfl hl (by decide) rfl (fun ls hl => ?_)
  refine xw1 E (2 ^ n) h2 (2 ^ n) 0 fW H locs ls (by omega) (fun j hj => absurd hj (Nat.not_lt_zero j)) S (lv_sub hl [2, 3, 1, 0] rfl) (fun fW H locs ls hF S hl => ?_)
  refine lv_aload_n hx hb dX0_work_25 rfl (lv_at hl 0 rfl) ?_
  refine xg_ways E S dX0_work_26 ?_
  refine lv_iconst (v := nI 0) hx hb dX0_work_29 (by decide +kernel) ?_
  refine lv_lconst (v := lN 1) hx hb dX0_work_30 rfl ?_
  refine xs_ways E S (by omega) dX0_work_31 (fun H locs S => ?_)
  refine lv_iconst (v := nI 0) hx hb dX0_work_32 (by decide +kernel) ?_
  refine lv_istore_n (lv' := [(3, .int (nI (0))), (0, .ref (a 0)), (1, .int (p0)), (2, .int (nI (2 ^ n - 1)))]) hx hb dX0_work_33 rfl hl (by decide) rfl (fun ls hl => ?_)
  refine xw2 E R k w n (2 ^ n) hk rfl h2 hR hw k 0 _ H locs ls (by omega) (td_first1 hF) S (lv_sub hl [1, 2, 3, 0] rfl) (fun fW H locs ls hF S => ?_)
  exact x_vret E hr hlocks S ⟨fW, rfl, hF⟩ dX0_work_108
set_option maxHeartbeats 4000000 in
set_option maxRecDepth 100000 in
theorem mx_count (l : Launch) (dC : Nat → ClassId) (dI : Nat → Nat → Nat) (a : Nat → Nat) (ca : Nat → ClassId) (sz : Nat) (fR fB : Nat → Int32) (fW : Nat → Int64) (fC : Nat → Int32) (R : Nat → Nat) (n k : Nat) (hn : n ≤ 12) (hk : k ≤ 24) (hR : td_R R k n fR) : xMl l yX0_count cX0_count 1 (some .long) ({ frames := 2, cells := 0, slots := 0, locals := 45 }) [.ref (a 0)] dC dI a ca sz fR fB fW fC ((nI (n))) ((nI (k))) (fun (r : Int64) (u : xU) => r = lN (td_b R k 0 (2 ^ n - 1)) ∧ ∃ fW' : Nat → Int64, u = (fR, fB, fW', fC, nI n, nI k)) := by
  refine x_enter [.ref (a 0)] (Nat.le_of_ble_eq_true rfl) (by decide) rfl (fun A => va_Ql (fun (r : Int64) (u : xU) => r = lN (td_b R k 0 (2 ^ n - 1)) ∧ ∃ fW' : Nat → Int64, u = (fR, fB, fW', fC, nI n, nI k)) (xB dC dI A a ca) A) ?_
  intro p e s m below meth c A ls E hr hlocks S hl
  have hx := E.1
  have hb := E.2.1
  have hl : lv_has ls 1 [(0, .ref (a 0))] := hl
  have h2 := td_2n hn
  have hw : ∀ q, q < k → (nI q = (-1 : Int32) ↔ q = k) := fun q hq => ⟨fun z => absurd (show nI q < 0 by rw [z]; decide) (nI_pos (by omega)), fun z => absurd z (by omega)⟩
  refine lv_aload_n hx hb dX0_count_0 rfl (lv_at hl 0 rfl) ?_
  refine lv_iconst (v := -1) hx hb dX0_count_1 (by decide +kernel) ?_
  refine xc_v (n := 1) E S (fun sz => mx_work l dC dI a ca sz fR fB fW fC R n k k (-1) hn hk hR hw) q58 q60 qs1 q61 rfl rfl (by decide +kernel) ⟨Nat.le_of_ble_eq_true rfl, Nat.le_of_ble_eq_true rfl⟩ rfl hl.1 rfl (Nat.le_of_ble_eq_true rfl) ⟨Nat.zero_le _, Nat.zero_le _⟩ dX0_count_2 (fun u H locs hu S => ?_)
  obtain ⟨fW', rfl, hF⟩ := hu
  have S : xS dC dI A s a ca fR fB fW' fC (nI n) (nI k) H locs := S
  refine lv_aload_n hx hb dX0_count_5 rfl (lv_at hl 0 rfl) ?_
  refine xg_ways E S dX0_count_6 ?_
  refine lv_aload_n hx hb dX0_count_9 rfl (lv_at hl 0 rfl) ?_
  refine xc_i E S (fun sz => mx_all l dC dI a ca sz fR fB fW' fC n (nI k) hn) q46 q48 qs0 q49 rfl rfl (by decide +kernel) ⟨Nat.le_of_ble_eq_true rfl, Nat.le_of_ble_eq_true rfl⟩ rfl hl.1 rfl (Nat.le_of_ble_eq_true rfl) ⟨Nat.zero_le _, Nat.zero_le _⟩ dX0_count_10 (fun r u H locs hu S => ?_)
  obtain ⟨rfl, rfl⟩ := hu
  have S : xS dC dI A s a ca fR fB fW' fC (nI n) (nI k) H locs := S
  refine xl_ways E S (by omega) dX0_count_13 ?_
  refine tr_l (y := (lN (td_b R k 0 (2 ^ n - 1)))) (by rw [hF _ (by omega), td_count R (Nat.le_refl k)]) ?_
  exact x_lret E hr hlocks S ⟨rfl, fW', rfl⟩ dX0_count_14
set_option maxHeartbeats 4000000 in
set_option maxRecDepth 100000 in
theorem mx_with (l : Launch) (dC : Nat → ClassId) (dI : Nat → Nat → Nat) (a : Nat → Nat) (ca : Nat → ClassId) (sz : Nat) (fR fB : Nat → Int32) (fW : Nat → Int64) (fC : Nat → Int32) (R : Nat → Nat) (n k : Nat) (p0 : Int32) (hn : n ≤ 12) (hk : k ≤ 24) (hR : td_R R k n fR) : xMl l yX0_with cX0_with 3 (some .long) ({ frames := 2, cells := 0, slots := 0, locals := 45 }) [.ref (a 0), .int p0] dC dI a ca sz fR fB fW fC ((nI (n))) ((nI (k))) (fun (r : Int64) (u : xU) => r = (if k = 0 then lN 0 else lN (td_fw R (td_p p0 % k) k ((2 ^ n - 1) ^^^ R (td_p p0 % k)))) ∧ ∃ fW' : Nat → Int64, u = (fR, fB, fW', fC, nI n, nI k)) := by
  refine x_enter [.ref (a 0), .int p0] (Nat.le_of_ble_eq_true rfl) (by decide) rfl (fun A => va_Ql (fun (r : Int64) (u : xU) => r = (if k = 0 then lN 0 else lN (td_fw R (td_p p0 % k) k ((2 ^ n - 1) ^^^ R (td_p p0 % k)))) ∧ ∃ fW' : Nat → Int64, u = (fR, fB, fW', fC, nI n, nI k)) (xB dC dI A a ca) A) ?_
  intro p e s m below meth c A ls E hr hlocks S hl
  have hx := E.1
  have hb := E.2.1
  have hl : lv_has ls 3 [(0, .ref (a 0)), (1, .int (p0))] := hl
  have h2 := td_2n hn
  refine lv_aload_n hx hb dX0_with_0 rfl (lv_at hl 0 rfl) ?_
  refine xg_rows E S dX0_with_1 ?_
  refine tb_if_ne (tgt := 9) hx hb (by omega) dX0_with_4 (by decide) (fun c1 => ?_) (fun c1 => ?_)
  · refine lv_iload_n hx hb dX0_with_9 rfl (lv_at hl 1 rfl) ?_
    refine lv_ldc hx hb E.2.2.2.1 (E.2.2.1 _ q41) dX0_with_10 ?_
    refine tr_p31 hx hb dX0_with_12 ?_
    refine lv_aload_n hx hb dX0_with_13 rfl (lv_at hl 0 rfl) ?_
    refine xg_rows E S dX0_with_14 ?_
    refine tr_irem hx hb (td_p_lt p0) (by omega) (by omega) dX0_with_17 ?_
    have hwk : td_p p0 % k < k := Nat.mod_lt _ (by omega)
    obtain ⟨w, ew⟩ : ∃ w, w = td_p p0 % k := ⟨_, rfl⟩
    rw [← ew] at hwk ⊢
    have hw : ∀ q, q < k → (nI q = nI w ↔ q = w) := fun q hq => nI_eq (by omega) (by omega)
    have hRw := hR w hwk
    refine lv_istore_n (lv' := [(2, .int (nI (w))), (0, .ref (a 0)), (1, .int (p0))]) hx hb dX0_with_18 rfl hl (by decide) rfl (fun ls hl => ?_)
    refine lv_aload_n hx hb dX0_with_19 rfl (lv_at hl 1 rfl) ?_
    refine lv_iload_n hx hb dX0_with_20 rfl (lv_at hl 0 rfl) ?_
    refine xc_v (n := 1) E S (fun sz => mx_work l dC dI a ca sz fR fB fW fC R n k w (nI w) hn hk hR hw) q58 q60 qs1 q61 rfl rfl (by decide +kernel) ⟨Nat.le_of_ble_eq_true rfl, Nat.le_of_ble_eq_true rfl⟩ rfl hl.1 rfl (Nat.le_of_ble_eq_true rfl) ⟨Nat.zero_le _, Nat.zero_le _⟩ dX0_with_21 (fun u H locs hu S => ?_)
    obtain ⟨fW', rfl, hF⟩ := hu
    have S : xS dC dI A s a ca fR fB fW' fC (nI n) (nI k) H locs := S
    refine lv_aload_n hx hb dX0_with_24 rfl (lv_at hl 1 rfl) ?_
    refine xg_ways E S dX0_with_25 ?_
    refine lv_aload_n hx hb dX0_with_28 rfl (lv_at hl 1 rfl) ?_
    refine xc_i E S (fun sz => mx_all l dC dI a ca sz fR fB fW' fC n (nI k) hn) q46 q48 qs0 q49 rfl rfl (by decide +kernel) ⟨Nat.le_of_ble_eq_true rfl, Nat.le_of_ble_eq_true rfl⟩ rfl hl.1 rfl (Nat.le_of_ble_eq_true rfl) ⟨Nat.zero_le _, Nat.zero_le _⟩ dX0_with_29 (fun r u H locs hu S => ?_)
    obtain ⟨rfl, rfl⟩ := hu
    have S : xS dC dI A s a ca fR fB fW' fC (nI n) (nI k) H locs := S
    have hx2 : (2 ^ n - 1) ^^^ R w < 2 ^ n := Nat.xor_lt_two_pow (by omega) hRw.2
    refine lv_aload_n hx hb dX0_with_32 rfl (lv_at hl 1 rfl) ?_
    refine xg_row E S dX0_with_33 ?_
    refine lv_iload_n hx hb dX0_with_36 rfl (lv_at hl 0 rfl) ?_
    refine xl_row E S (by omega) dX0_with_37 ?_
    refine tr_i (y := (nI (R w))) hRw.1 ?_
    refine lv_iconst (v := -1) hx hb dX0_with_38 (by decide +kernel) ?_
    refine lv_ixor hx hb dX0_with_39 ?_
    refine tr_andn hx hb (by omega) (td_al hRw.2) dX0_with_40 ?_
    refine xl_ways E S (by omega) dX0_with_41 ?_
    refine tr_l (y := (lN (td_fw R w k ((2 ^ n - 1) ^^^ R w)))) (by rw [hF _ hx2]) ?_
    exact x_lret E hr hlocks S ⟨by rw [if_neg c1], fW', rfl⟩ dX0_with_42
  · refine lv_lconst (v := lN 0) hx hb dX0_with_7 rfl ?_
    exact x_lret E hr hlocks S ⟨by rw [if_pos c1], fW, rfl⟩ dX0_with_8
end
section
/-! TileDesk.first -/
/-- the mark in the array 'can' -/
def td_cn (R : Nat → Nat) (k al r t : Nat) : Nat := if 0 < td_b R k r (al ^^^ t) then 1 else 0
theorem td_cn_lt (R : Nat → Nat) (k al r t : Nat) : td_cn R k al r t < 2 ^ 31 := by
  unfold td_cn
  split <;> decide
theorem td_cn_1 {R : Nat → Nat} {k al r t : Nat} (h : td_can R k al r t) : nI 1 = nI (td_cn R k al r t) := by
  unfold td_can at h
  unfold td_cn
  rw [if_pos h]
theorem td_cn_0 {R : Nat → Nat} {k al r t : Nat} (h : ¬ td_can R k al r t) : nI 0 = nI (td_cn R k al r t) := by
  unfold td_can at h
  unfold td_cn
  rw [if_neg h]
theorem td_cn_ne {R : Nat → Nat} {k al r t : Nat} (h : ¬ td_cn R k al r t = 0) : td_can R k al r t := by
  unfold td_cn at h
  unfold td_can
  split at h
  · assumption
  · exact absurd rfl h
theorem td_cn_eq {R : Nat → Nat} {k al r t : Nat} (h : td_cn R k al r t = 0) : ¬ td_can R k al r t := by
  unfold td_cn at h
  unfold td_can
  split at h
  · exact absurd h (by decide)
  · assumption
/-- one more place of row r of a table of 4096 a row -/
theorem td_grid {f g : Nat → Int32} {r i : Nat} {x : Int32} (h : ∀ j, j < i → f (r * 4096 + j) = g j) (hx : x = g i) : ∀ j, j < i + 1 → upd f (r * 4096 + i) x (r * 4096 + j) = g j := by
  intro j hj
  unfold upd
  by_cases q : j = i
  · rw [if_pos (by omega), q]
    exact hx
  · rw [if_neg (by omega)]
    exact h j (by omega)
theorem td_grid_o {f : Nat → Int32} {g : Nat → Nat → Int32} {r i k N : Nat} {x : Int32} (hN : N ≤ 4096) (hi : i < N) (h : ∀ r', r < r' → r' ≤ k → ∀ j, j < N → f (r' * 4096 + j) = g r' j) : ∀ r', r < r' → r' ≤ k → ∀ j, j < N → upd f (r * 4096 + i) x (r' * 4096 + j) = g r' j := by
  intro r' h1 h2 j hj
  unfold upd
  rw [if_neg (by omega)]
  exact h r' h1 h2 j hj
/-- the greedy choice, one row on -/
theorem td_g_yes {R : Nat → Nat} {k al q : Nat} (h1 : (td_g R k al q).1 &&& R q = R q) (h2 : 0 < td_b R k (q + 1) ((td_g R k al q).1 ^^^ R q)) : td_g R k al (q + 1) = ((td_g R k al q).1 ^^^ R q, (td_g R k al q).2 ||| 2 ^ q) := by
  show (if _ then _ else _) = _
  rw [if_pos ⟨h1, h2⟩]
theorem td_g_no {R : Nat → Nat} {k al q : Nat} (h : ¬ ((td_g R k al q).1 &&& R q = R q ∧ 0 < td_b R k (q + 1) ((td_g R k al q).1 ^^^ R q))) : td_g R k al (q + 1) = td_g R k al q := by
  show (if _ then _ else _) = _
  rw [if_neg h]
section XFIRST
variable {p : Program} {l : Launch} {e : Env} {R0 : Room} {s : State} {m : MethodId} {args : Array Value} {below : List Frame} {meth : Method} {c : Code} {cells slots : Nat} {Q : State → Prop}
variable {dC : Nat → ClassId} {dI : Nat → Nat → Nat} {A : Nat → Prop} {a : Nat → Nat} {ca : Nat → ClassId}
variable {fR fB : Nat → Int32} {fW : Nat → Int64} {kc : Int32}
set_option maxHeartbeats 4000000 in
set_option maxRecDepth 100000 in
theorem xf1 (E : xE p m c s args cX0_first 5 dC dI ca A) (k N : Nat) (hk : k ≤ 24) (h2 : 0 < N ∧ N ≤ 4096) (R : Nat → Nat) : ∀ (d i : Nat) (fC : Nat → Int32) (H : Heap) (locs : List Loc) (ls : Array Slot), i + d = N → (∀ j, j < i → fC (k * 4096 + j) = nI (td_cn R k (N - 1) k j)) → xS dC dI A s a ca fR fB fW fC kc (nI k) H locs → lv_has ls 5 [(0, .ref (a 0)), (1, .int (nI (N - 1))), (2, .int (nI (i)))] → (∀ (fC : Nat → Int32) (H : Heap) (locs : List Loc) (ls : Array Slot), (∀ j, j < N → fC (k * 4096 + j) = nI (td_cn R k (N - 1) k j)) → xS dC dI A s a ca fR fB fW fC kc (nI k) H locs → lv_has ls 5 [(0, .ref (a 0)), (1, .int (nI (N - 1)))] → W p l e R0 s m args below meth c H locs cells slots Q (F0 m 43 ls [])) → W p l e R0 s m args below meth c H locs cells slots Q (F0 m 7 ls []) := by
  have hx := E.1
  have hb := E.2.1
  intro d
  induction d with
  | zero =>
    intro i fC H locs ls hi hF S hl kk
    refine lv_iload_n hx hb dX0_first_7 rfl (lv_at hl 2 rfl) ?_
    refine lv_iload_n hx hb dX0_first_8 rfl (lv_at hl 1 rfl) ?_
    refine tb_gt (tgt := 43) hx hb (by omega) (by omega) dX0_first_9 (by decide) (fun c1 => ?_) (fun c1 => ?_)
    · exact kk fC H locs ls (fun j hj => hF j (by omega)) S (lv_sub hl [0, 1] rfl)
    · exact absurd c1 (by omega)
  | succ d ih =>
    intro i fC H locs ls hi hF S hl kk
    refine lv_iload_n hx hb dX0_first_7 rfl (lv_at hl 2 rfl) ?_
    refine lv_iload_n hx hb dX0_first_8 rfl (lv_at hl 1 rfl) ?_
    refine tb_gt (tgt := 43) hx hb (by omega) (by omega) dX0_first_9 (by decide) (fun c1 => ?_) (fun c1 => ?_)
    · exact absurd c1 (by omega)
    · refine lv_aload_n hx hb dX0_first_12 rfl (lv_at hl 0 rfl) ?_
      refine xg_can E S dX0_first_13 ?_
      refine lv_aload_n hx hb dX0_first_16 rfl (lv_at hl 0 rfl) ?_
      refine xg_rows E S dX0_first_17 ?_
      refine lv_sipush (v := nI 4096) hx hb dX0_first_20 (by decide +kernel) ?_
      refine tr_imul hx hb dX0_first_23 ?_
      refine lv_iload_n hx hb dX0_first_24 rfl (lv_at hl 2 rfl) ?_
      refine tr_iadd hx hb dX0_first_25 ?_
      refine lv_iload_n hx hb dX0_first_26 rfl (lv_at hl 2 rfl) ?_
      refine lv_iload_n hx hb dX0_first_27 rfl (lv_at hl 1 rfl) ?_
      refine tb_ne (tgt := 35) hx hb (by omega) (by omega) dX0_first_28 (by decide) (fun c2 => ?_) (fun c2 => ?_)
      · refine lv_iconst (v := nI 0) hx hb dX0_first_35 (by decide +kernel) ?_
        refine xs_can E S (by omega) (by decide +kernel) dX0_first_36 (fun H locs S => ?_)
        refine lv_iinc (v := (nI (i + 1))) (lv' := [(2, .int (nI (i + 1))), (0, .ref (a 0)), (1, .int (nI (N - 1)))]) hx hb dX0_first_37 hl (k := 2) rfl (td_inc _) (by decide) rfl (fun ls hl => ?_)
        refine lv_goto (tgt := 7) hx hb dX0_first_40 (by decide) ?_
        exact ih (i + 1) _ _ _ _ (by omega) (td_grid (g := fun j => nI (td_cn R k (N - 1) k j)) hF (td_cn_0 (fun z => c2 ((td_can_self R k (N - 1) i).mp z)))) S (lv_sub hl [1, 2, 0] rfl) kk
      · refine lv_iconst (v := nI 1) hx hb dX0_first_31 (by decide +kernel) ?_
        refine lv_goto (tgt := 36) hx hb dX0_first_32 (by decide) ?_
        refine xs_can E S (by omega) (by decide +kernel) dX0_first_36 (fun H locs S => ?_)
        refine lv_iinc (v := (nI (i + 1))) (lv' := [(2, .int (nI (i + 1))), (0, .ref (a 0)), (1, .int (nI (N - 1)))]) hx hb dX0_first_37 hl (k := 2) rfl (td_inc _) (by decide) rfl (fun ls hl => ?_)
        refine lv_goto (tgt := 7) hx hb dX0_first_40 (by decide) ?_
        exact ih (i + 1) _ _ _ _ (by omega) (td_grid (g := fun j => nI (td_cn R k (N - 1) k j)) hF (td_cn_1 ((td_can_self R k (N - 1) i).mpr c2))) S (lv_sub hl [1, 2, 0] rfl) kk
set_option maxHeartbeats 4000000 in
set_option maxRecDepth 100000 in
theorem xf3 (E : xE p m c s args cX0_first 5 dC dI ca A) (k n N i : Nat) (hk : k ≤ 24) (hi : i < k) (hN : N = 2 ^ n) (h2 : 0 < N ∧ N ≤ 4096) (R : Nat → Nat) (hR : td_R R k n fR) : ∀ (d t : Nat) (fC : Nat → Int32) (H : Heap) (locs : List Loc) (ls : Array Slot), t + d = N → (∀ r, i < r → r ≤ k → ∀ j, j < N → fC (r * 4096 + j) = nI (td_cn R k (N - 1) r j)) → (∀ j, j < t → fC (i * 4096 + j) = nI (td_cn R k (N - 1) i j)) → xS dC dI A s a ca fR fB fW fC kc (nI k) H locs → lv_has ls 5 [(0, .ref (a 0)), (1, .int (nI (N - 1))), (2, .int (nI (i))), (3, .int (nI (t)))] → (∀ (fC : Nat → Int32) (H : Heap) (locs : List Loc) (ls : Array Slot), (∀ r, i < r → r ≤ k → ∀ j, j < N → fC (r * 4096 + j) = nI (td_cn R k (N - 1) r j)) → (∀ j, j < N → fC (i * 4096 + j) = nI (td_cn R k (N - 1) i j)) → xS dC dI A s a ca fR fB fW fC kc (nI k) H locs → lv_has ls 5 [(0, .ref (a 0)), (1, .int (nI (N - 1))), (2, .int (nI (i)))] → W p l e R0 s m args below meth c H locs cells slots Q (F0 m 136 ls [])) → W p l e R0 s m args below meth c H locs cells slots Q (F0 m 56 ls []) := by
  have hx := E.1
  have hb := E.2.1
  have hRi := hR i hi
  have hm : R i < N := by rw [hN]; exact hRi.2
  have hal : (N - 1) &&& R i = R i := by rw [hN]; exact td_al hRi.2
  intro d
  induction d with
  | zero =>
    intro t fC H locs ls ht hG hF S hl kk
    refine lv_iload_n hx hb dX0_first_56 rfl (lv_at hl 3 rfl) ?_
    refine lv_iload_n hx hb dX0_first_57 rfl (lv_at hl 1 rfl) ?_
    refine tb_gt (tgt := 136) hx hb (by omega) (by omega) dX0_first_58 (by decide) (fun c1 => ?_) (fun c1 => ?_)
    · exact kk fC H locs ls hG (fun j hj => hF j (by omega)) S (lv_sub hl [0, 1, 2] rfl)
    · exact absurd c1 (by omega)
  | succ d ih =>
    intro t fC H locs ls ht hG hF S hl kk
    refine lv_iload_n hx hb dX0_first_56 rfl (lv_at hl 3 rfl) ?_
    refine lv_iload_n hx hb dX0_first_57 rfl (lv_at hl 1 rfl) ?_
    refine tb_gt (tgt := 136) hx hb (by omega) (by omega) dX0_first_58 (by decide) (fun c1 => ?_) (fun c1 => ?_)
    · exact absurd c1 (by omega)
    · have hts : (N - 1) &&& t = t := by rw [hN]; exact td_al (by omega)
      have hst := td_can_step R (k := k) (al := N - 1) (r := i) (s := t) hi hts hal
      have ho : t ||| R i < N := by rw [hN] at hm ⊢; exact Nat.or_lt_two_pow (by omega) hm
      have ha : t &&& R i ≤ t := Nat.and_le_left
      have t1 : td_can R k (N - 1) i t → W p l e R0 s m args below meth c H locs cells slots Q (F0 m 124 ls [.int (nI ((i) * (4096) + (t))), .ref (a 4)]) := by
        intro z
        refine lv_iconst (v := nI 1) hx hb dX0_first_124 (by decide +kernel) ?_
        refine lv_goto (tgt := 129) hx hb dX0_first_125 (by decide) ?_
        refine xs_can E S (by omega) (by decide +kernel) dX0_first_129 (fun H locs S => ?_)
        refine lv_iinc (v := (nI (t + 1))) (lv' := [(3, .int (nI (t + 1))), (0, .ref (a 0)), (1, .int (nI (N - 1))), (2, .int (nI (i)))]) hx hb dX0_first_130 hl (k := 3) rfl (td_inc _) (by decide) rfl (fun ls hl => ?_)
        refine lv_goto (tgt := 56) hx hb dX0_first_133 (by decide) ?_
        exact ih (t + 1) _ _ _ _ (by omega) (td_grid_o (g := fun r j => nI (td_cn R k (N - 1) r j)) h2.2 (by omega) hG) (td_grid (g := fun j => nI (td_cn R k (N - 1) i j)) hF (td_cn_1 z)) S (lv_sub hl [1, 2, 3, 0] rfl) kk
      have t0 : ¬ td_can R k (N - 1) i t → W p l e R0 s m args below meth c H locs cells slots Q (F0 m 128 ls [.int (nI ((i) * (4096) + (t))), .ref (a 4)]) := by
        intro z
        refine lv_iconst (v := nI 0) hx hb dX0_first_128 (by decide +kernel) ?_
        refine xs_can E S (by omega) (by decide +kernel) dX0_first_129 (fun H locs S => ?_)
        refine lv_iinc (v := (nI (t + 1))) (lv' := [(3, .int (nI (t + 1))), (0, .ref (a 0)), (1, .int (nI (N - 1))), (2, .int (nI (i)))]) hx hb dX0_first_130 hl (k := 3) rfl (td_inc _) (by decide) rfl (fun ls hl => ?_)
        refine lv_goto (tgt := 56) hx hb dX0_first_133 (by decide) ?_
        exact ih (t + 1) _ _ _ _ (by omega) (td_grid_o (g := fun r j => nI (td_cn R k (N - 1) r j)) h2.2 (by omega) hG) (td_grid (g := fun j => nI (td_cn R k (N - 1) i j)) hF (td_cn_0 z)) S (lv_sub hl [1, 2, 3, 0] rfl) kk
      refine lv_aload_n hx hb dX0_first_61 rfl (lv_at hl 0 rfl) ?_
      refine xg_can E S dX0_first_62 ?_
      refine lv_iload_n hx hb dX0_first_65 rfl (lv_at hl 2 rfl) ?_
      refine lv_sipush (v := nI 4096) hx hb dX0_first_66 (by decide +kernel) ?_
      refine tr_imul hx hb dX0_first_69 ?_
      refine lv_iload_n hx hb dX0_first_70 rfl (lv_at hl 3 rfl) ?_
      refine tr_iadd hx hb dX0_first_71 ?_
      refine lv_aload_n hx hb dX0_first_72 rfl (lv_at hl 0 rfl) ?_
      refine xg_can E S dX0_first_73 ?_
      refine lv_iload_n hx hb dX0_first_76 rfl (lv_at hl 2 rfl) ?_
      refine lv_iconst (v := nI 1) hx hb dX0_first_77 (by decide +kernel) ?_
      refine tr_iadd hx hb dX0_first_78 ?_
      refine lv_sipush (v := nI 4096) hx hb dX0_first_79 (by decide +kernel) ?_
      refine tr_imul hx hb dX0_first_82 ?_
      refine lv_iload_n hx hb dX0_first_83 rfl (lv_at hl 3 rfl) ?_
      refine tr_iadd hx hb dX0_first_84 ?_
      refine xl_can E S (by omega) dX0_first_85 ?_
      refine tr_i (y := (nI (td_cn R k (N - 1) (i + 1) t))) (hG (i + 1) (by omega) (by omega) t (by omega)) ?_
      refine tb_if_ne (tgt := 124) hx hb (td_cn_lt _ _ _ _ _) dX0_first_86 (by decide) (fun c2 => ?_) (fun c2 => ?_)
      · exact t1 (hst.mpr (Or.inl (td_cn_ne c2)))
      · refine lv_iload_n hx hb dX0_first_89 rfl (lv_at hl 3 rfl) ?_
        refine lv_aload_n hx hb dX0_first_90 rfl (lv_at hl 0 rfl) ?_
        refine xg_row E S dX0_first_91 ?_
        refine lv_iload_n hx hb dX0_first_94 rfl (lv_at hl 2 rfl) ?_
        refine xl_row E S (by omega) dX0_first_95 ?_
        refine tr_i (y := (nI (R i))) hRi.1 ?_
        refine tr_iand hx hb dX0_first_96 ?_
        refine tb_if_ne (tgt := 128) hx hb (by omega) dX0_first_97 (by decide) (fun c3 => ?_) (fun c3 => ?_)
        · exact t0 (fun z => (hst.mp z).elim (td_cn_eq c2) (fun y => c3 y.1))
        · refine lv_aload_n hx hb dX0_first_100 rfl (lv_at hl 0 rfl) ?_
          refine xg_can E S dX0_first_101 ?_
          refine lv_iload_n hx hb dX0_first_104 rfl (lv_at hl 2 rfl) ?_
          refine lv_iconst (v := nI 1) hx hb dX0_first_105 (by decide +kernel) ?_
          refine tr_iadd hx hb dX0_first_106 ?_
          refine lv_sipush (v := nI 4096) hx hb dX0_first_107 (by decide +kernel) ?_
          refine tr_imul hx hb dX0_first_110 ?_
          refine lv_iload_n hx hb dX0_first_111 rfl (lv_at hl 3 rfl) ?_
          refine lv_aload_n hx hb dX0_first_112 rfl (lv_at hl 0 rfl) ?_
          refine xg_row E S dX0_first_113 ?_
          refine lv_iload_n hx hb dX0_first_116 rfl (lv_at hl 2 rfl) ?_
          refine xl_row E S (by omega) dX0_first_117 ?_
          refine tr_i (y := (nI (R i))) hRi.1 ?_
          refine tr_ior hx hb dX0_first_118 ?_
          refine tr_iadd hx hb dX0_first_119 ?_
          refine xl_can E S (by omega) dX0_first_120 ?_
          refine tr_i (y := (nI (td_cn R k (N - 1) (i + 1) (t ||| R i)))) (hG (i + 1) (by omega) (by omega) _ ho) ?_
          refine tb_if_eq (tgt := 128) hx hb (td_cn_lt _ _ _ _ _) dX0_first_121 (by decide) (fun c4 => ?_) (fun c4 => ?_)
          · exact t0 (fun z => (hst.mp z).elim (td_cn_eq c2) (fun y => td_cn_eq c4 y.2))
          · exact t1 (hst.mpr (Or.inr ⟨c3, td_cn_ne c4⟩))
set_option maxHeartbeats 4000000 in
set_option maxRecDepth 100000 in
theorem xf2 (E : xE p m c s args cX0_first 5 dC dI ca A) (k n N : Nat) (hk : k ≤ 24) (hN : N = 2 ^ n) (h2 : 0 < N ∧ N ≤ 4096) (R : Nat → Nat) (hR : td_R R k n fR) : ∀ (i : Nat) (fC : Nat → Int32) (H : Heap) (locs : List Loc) (ls : Array Slot), i ≤ k → (∀ r, i ≤ r → r ≤ k → ∀ j, j < N → fC (r * 4096 + j) = nI (td_cn R k (N - 1) r j)) → xS dC dI A s a ca fR fB fW fC kc (nI k) H locs → lv_has ls 5 [(0, .ref (a 0)), (1, .int (nI (N - 1))), (2, .int (td_dn i))] → (∀ (fC : Nat → Int32) (H : Heap) (locs : List Loc) (ls : Array Slot), (∀ r, r ≤ k → ∀ j, j < N → fC (r * 4096 + j) = nI (td_cn R k (N - 1) r j)) → xS dC dI A s a ca fR fB fW fC kc (nI k) H locs → lv_has ls 5 [(0, .ref (a 0)), (1, .int (nI (N - 1)))] → W p l e R0 s m args below meth c H locs cells slots Q (F0 m 142 ls [])) → W p l e R0 s m args below meth c H locs cells slots Q (F0 m 50 ls []) := by
  have hx := E.1
  have hb := E.2.1
  intro i
  induction i with
  | zero =>
    intro fC H locs ls hi hG S hl kk
    refine lv_iload_n hx hb dX0_first_50 rfl (lv_at hl 2 rfl) ?_
    refine tb_lt_yes (tgt := 142) hx hb rfl dX0_first_51 (by decide) ?_
    exact kk fC H locs ls (fun r hr => hG r (Nat.zero_le r) hr) S (lv_sub hl [0, 1] rfl)
  | succ i ih =>
    intro fC H locs ls hi hG S hl kk
    have hl : lv_has ls 5 [(0, .ref (a 0)), (1, .int (nI (N - 1))), (2, .int (nI (i)))] := hl
    refine lv_iload_n hx hb dX0_first_50 rfl (lv_at hl 2 rfl) ?_
    refine tb_lt_no (tgt := 142) hx hb (by omega) dX0_first_51 (by decide) ?_
    refine lv_iconst (v := nI 0) hx hb dX0_first_54 (by decide +kernel) ?_
    refine lv_istore_n (lv' := [(3, .int (nI (0))), (0, .ref (a 0)), (1, .int (nI (N - 1))), (2, .int (nI (i)))]) hx hb dX0_first_55 rfl hl (by decide) rfl (fun ls hl => ?_)
    refine xf3 E k n N i hk (by omega) hN h2 R hR N 0 _ _ _ _ (by omega) hG (fun j hj => absurd hj (Nat.not_lt_zero j)) S (lv_sub hl [1, 2, 3, 0] rfl) (fun fC H locs ls hG hF S hl => ?_)
    refine lv_iinc (v := (td_dn i)) (lv' := [(2, .int (td_dn i)), (0, .ref (a 0)), (1, .int (nI (N - 1)))]) hx hb dX0_first_136 hl (k := 2) rfl (td_dec i) (by decide) rfl (fun ls hl => ?_)
    refine lv_goto (tgt := 50) hx hb dX0_first_139 (by decide) ?_
    exact ih _ _ _ _ (by omega) (fun r h1 h3 => (Nat.lt_or_ge i r).elim (fun z => hG r z h3) (fun z => by rw [show r = i by omega]; exact hF)) S (lv_sub hl [1, 2, 0] rfl) kk
set_option maxHeartbeats 4000000 in
set_option maxRecDepth 100000 in
theorem xf4 (E : xE p m c s args cX0_first 5 dC dI ca A) {fC : Nat → Int32} (k n N : Nat) (hk : k ≤ 24) (hN : N = 2 ^ n) (h2 : 0 < N ∧ N ≤ 4096) (R : Nat → Nat) (hR : td_R R k n fR) (hG : ∀ r, r ≤ k → ∀ j, j < N → fC (r * 4096 + j) = nI (td_cn R k (N - 1) r j)) {H : Heap} {locs : List Loc} (S : xS dC dI A s a ca fR fB fW fC kc (nI k) H locs) (kk : ∀ (ls : Array Slot), W p l e R0 s m args below meth c H locs cells slots Q (F0 m 234 ls [.int (nI (td_g R k (N - 1) k).2)])) : ∀ (d q : Nat) (ls : Array Slot), q + d = k → lv_has ls 5 [(0, .ref (a 0)), (2, .int (nI ((td_g R k (N - 1) q).2))), (3, .int (nI ((N - 1) ^^^ (td_g R k (N - 1) q).1))), (4, .int (nI (q)))] → W p l e R0 s m args below meth c H locs cells slots Q (F0 m 160 ls []) := by
  have hx := E.1
  have hb := E.2.1
  intro d
  induction d with
  | zero =>
    intro q ls hq hl
    refine lv_iload hx hb dX0_first_160 (lv_at hl 3 rfl) ?_
    refine lv_aload_n hx hb dX0_first_162 rfl (lv_at hl 0 rfl) ?_
    refine xg_rows E S dX0_first_163 ?_
    refine tb_ge (tgt := 233) hx hb (by omega) (by omega) dX0_first_166 (by decide) (fun c1 => ?_) (fun c1 => ?_)
    · obtain rfl : q = k := by omega
      refine lv_iload_n hx hb dX0_first_233 rfl (lv_at hl 1 rfl) ?_
      exact kk ls
    · exact absurd c1 (by omega)
  | succ d ih =>
    intro q ls hq hl
    refine lv_iload hx hb dX0_first_160 (lv_at hl 3 rfl) ?_
    refine lv_aload_n hx hb dX0_first_162 rfl (lv_at hl 0 rfl) ?_
    refine xg_rows E S dX0_first_163 ?_
    refine tb_ge (tgt := 233) hx hb (by omega) (by omega) dX0_first_166 (by decide) (fun c1 => ?_) (fun c1 => ?_)
    · exact absurd c1 (by omega)
    · have hRq := hR q (by omega)
      have hm : R q < N := by rw [hN]; exact hRq.2
      have hal : (N - 1) &&& R q = R q := by rw [hN]; exact td_al hRq.2
      have hset : (td_g R k (N - 1) q).1 < N := by rw [hN]; exact td_g_lt R k n q (fun j hj => (hR j (by omega)).2)
      have hcov : (N - 1) ^^^ (td_g R k (N - 1) q).1 < N := by rw [hN] at hset ⊢; exact Nat.xor_lt_two_pow (by omega) hset
      have hxx := td_xx (N - 1) (td_g R k (N - 1) q).1
      have hcs : (N - 1) &&& ((N - 1) ^^^ (td_g R k (N - 1) q).1) = (N - 1) ^^^ (td_g R k (N - 1) q).1 := by rw [hN] at hcov ⊢; exact td_al hcov
      have hlf := td_left hcs hal
      rw [hxx] at hlf
      have ho : ((N - 1) ^^^ (td_g R k (N - 1) q).1) ||| R q < N := by rw [hN] at hm hcov ⊢; exact Nat.or_lt_two_pow hcov hm
      have ha : ((N - 1) ^^^ (td_g R k (N - 1) q).1) &&& R q ≤ (N - 1) ^^^ (td_g R k (N - 1) q).1 := Nat.and_le_left
      have t0 : td_g R k (N - 1) (q + 1) = td_g R k (N - 1) q → W p l e R0 s m args below meth c H locs cells slots Q (F0 m 227 ls []) := by
        intro z
        rw [← z] at hl
        refine lv_iinc (v := (nI (q + 1))) (lv' := [(4, .int (nI (q + 1))), (0, .ref (a 0)), (2, .int (nI ((td_g R k (N - 1) (q + 1)).2))), (3, .int (nI ((N - 1) ^^^ (td_g R k (N - 1) (q + 1)).1)))]) hx hb dX0_first_227 hl (k := 3) rfl (td_inc _) (by decide) rfl (fun ls hl => ?_)
        refine lv_goto (tgt := 160) hx hb dX0_first_230 (by decide) ?_
        exact ih (q + 1) ls (by omega) (lv_sub hl [1, 2, 3, 0] rfl)
      refine lv_iload_n hx hb dX0_first_169 rfl (lv_at hl 2 rfl) ?_
      refine lv_aload_n hx hb dX0_first_170 rfl (lv_at hl 0 rfl) ?_
      refine xg_row E S dX0_first_171 ?_
      refine lv_iload hx hb dX0_first_174 (lv_at hl 3 rfl) ?_
      refine xl_row E S (by omega) dX0_first_176 ?_
      refine tr_i (y := (nI (R q))) hRq.1 ?_
      refine tr_iand hx hb dX0_first_177 ?_
      refine tb_if_ne (tgt := 227) hx hb (by omega) dX0_first_178 (by decide) (fun c2 => ?_) (fun c2 => ?_)
      · exact t0 (td_g_no (fun z => c2 (hlf.mp z.1)))
      · have hor := td_or (al := N - 1) c2
        rw [hxx] at hor
        refine lv_aload_n hx hb dX0_first_181 rfl (lv_at hl 0 rfl) ?_
        refine xg_can E S dX0_first_182 ?_
        refine lv_iload hx hb dX0_first_185 (lv_at hl 3 rfl) ?_
        refine lv_iconst (v := nI 1) hx hb dX0_first_187 (by decide +kernel) ?_
        refine tr_iadd hx hb dX0_first_188 ?_
        refine lv_sipush (v := nI 4096) hx hb dX0_first_189 (by decide +kernel) ?_
        refine tr_imul hx hb dX0_first_192 ?_
        refine lv_iload_n hx hb dX0_first_193 rfl (lv_at hl 2 rfl) ?_
        refine lv_aload_n hx hb dX0_first_194 rfl (lv_at hl 0 rfl) ?_
        refine xg_row E S dX0_first_195 ?_
        refine lv_iload hx hb dX0_first_198 (lv_at hl 3 rfl) ?_
        refine xl_row E S (by omega) dX0_first_200 ?_
        refine tr_i (y := (nI (R q))) hRq.1 ?_
        refine tr_ior hx hb dX0_first_201 ?_
        refine tr_iadd hx hb dX0_first_202 ?_
        refine xl_can E S (by omega) dX0_first_203 ?_
        refine tr_i (y := (nI (td_cn R k (N - 1) (q + 1) (((N - 1) ^^^ (td_g R k (N - 1) q).1) ||| R q)))) (hG (q + 1) (by omega) _ ho) ?_
        refine tb_if_ne (tgt := 210) hx hb (td_cn_lt _ _ _ _ _) dX0_first_204 (by decide) (fun c3 => ?_) (fun c3 => ?_)
        · have hyes := td_g_yes (hlf.mpr c2) (by have z := td_cn_ne c3; unfold td_can at z; rw [← hor] at z; exact z)
          have e1 : ((N - 1) ^^^ (td_g R k (N - 1) q).1) ||| R q = (N - 1) ^^^ (td_g R k (N - 1) (q + 1)).1 := by rw [hyes]; show _ = (N - 1) ^^^ ((td_g R k (N - 1) q).1 ^^^ R q); rw [hor, td_xx]
          have e2 : (td_g R k (N - 1) q).2 ||| 2 ^ q = (td_g R k (N - 1) (q + 1)).2 := (congrArg Prod.snd hyes).symm
          refine lv_iload_n hx hb dX0_first_210 rfl (lv_at hl 1 rfl) ?_
          refine lv_iconst (v := nI 1) hx hb dX0_first_211 (by decide +kernel) ?_
          refine lv_iload hx hb dX0_first_212 (lv_at hl 3 rfl) ?_
          refine tr_shl hx hb (by omega) dX0_first_214 ?_
          refine tr_ior hx hb dX0_first_215 ?_
          refine tr_i (y := (nI ((td_g R k (N - 1) (q + 1)).2))) (congrArg nI e2) ?_
          refine lv_istore_n (lv' := [(2, .int (nI ((td_g R k (N - 1) (q + 1)).2))), (0, .ref (a 0)), (3, .int (nI ((N - 1) ^^^ (td_g R k (N - 1) q).1))), (4, .int (nI (q)))]) hx hb dX0_first_216 rfl hl (by decide) rfl (fun ls hl => ?_)
          refine lv_iload_n hx hb dX0_first_217 rfl (lv_at hl 2 rfl) ?_
          refine lv_aload_n hx hb dX0_first_218 rfl (lv_at hl 1 rfl) ?_
          refine xg_row E S dX0_first_219 ?_
          refine lv_iload hx hb dX0_first_222 (lv_at hl 3 rfl) ?_
          refine xl_row E S (by omega) dX0_first_224 ?_
          refine tr_i (y := (nI (R q))) hRq.1 ?_
          refine tr_ior hx hb dX0_first_225 ?_
          refine tr_i (y := (nI ((N - 1) ^^^ (td_g R k (N - 1) (q + 1)).1))) (congrArg nI e1) ?_
          refine lv_istore_n (lv' := [(3, .int (nI ((N - 1) ^^^ (td_g R k (N - 1) (q + 1)).1))), (2, .int (nI ((td_g R k (N - 1) (q + 1)).2))), (0, .ref (a 0)), (4, .int (nI (q)))]) hx hb dX0_first_226 rfl hl (by decide) rfl (fun ls hl => ?_)
          refine lv_iinc (v := (nI (q + 1))) (lv' := [(4, .int (nI (q + 1))), (3, .int (nI ((N - 1) ^^^ (td_g R k (N - 1) (q + 1)).1))), (2, .int (nI ((td_g R k (N - 1) (q + 1)).2))), (0, .ref (a 0))]) hx hb dX0_first_227 hl (k := 3) rfl (td_inc _) (by decide) rfl (fun ls hl => ?_)
          refine lv_goto (tgt := 160) hx hb dX0_first_230 (by decide) ?_
          exact ih (q + 1) ls (by omega) (lv_sub hl [3, 2, 1, 0] rfl)
        · refine lv_goto (tgt := 227) hx hb dX0_first_207 (by decide) ?_
          exact t0 (td_g_no (fun z => td_cn_eq c3 (by unfold td_can; rw [← hor]; exact z.2)))
end XFIRST
set_option maxHeartbeats 4000000 in
set_option maxRecDepth 100000 in
theorem mx_first (l : Launch) (dC : Nat → ClassId) (dI : Nat → Nat → Nat) (a : Nat → Nat) (ca : Nat → ClassId) (sz : Nat) (fR fB : Nat → Int32) (fW : Nat → Int64) (fC : Nat → Int32) (R : Nat → Nat) (n k : Nat) (hn : n ≤ 12) (hk : k ≤ 24) (hR : td_R R k n fR) : xMi l yX0_first cX0_first 5 (some .int) ({ frames := 1, cells := 0, slots := 0, locals := 20 }) [.ref (a 0)] dC dI a ca sz fR fB fW fC ((nI (n))) ((nI (k))) (fun (r : Int32) (u : xU) => r = td_f R k (2 ^ n - 1) ∧ ∃ fC' : Nat → Int32, u = (fR, fB, fW, fC', nI n, nI k)) := by
  refine x_enter [.ref (a 0)] (Nat.le_of_ble_eq_true rfl) (by decide) rfl (fun A => va_Qi (fun (r : Int32) (u : xU) => r = td_f R k (2 ^ n - 1) ∧ ∃ fC' : Nat → Int32, u = (fR, fB, fW, fC', nI n, nI k)) (xB dC dI A a ca) A) ?_
  intro p e s m below meth c A ls E hr hlocks S hl
  have hx := E.1
  have hb := E.2.1
  have hl : lv_has ls 5 [(0, .ref (a 0))] := hl
  have h2 := td_2n hn
  refine lv_aload_n hx hb dX0_first_0 rfl (lv_at hl 0 rfl) ?_
  refine xc_i E S (fun sz => mx_all l dC dI a ca sz fR fB fW fC n (nI k) hn) q46 q48 qs0 q49 rfl rfl (by decide +kernel) ⟨Nat.le_of_ble_eq_true rfl, Nat.le_of_ble_eq_true rfl⟩ rfl hl.1 rfl (Nat.le_of_ble_eq_true rfl) ⟨Nat.zero_le _, Nat.zero_le _⟩ dX0_first_1 (fun r u H locs hu S => ?_)
  obtain ⟨rfl, rfl⟩ := hu
  have S : xS dC dI A s a ca fR fB fW fC (nI n) (nI k) H locs := S
  refine lv_istore_n (lv' := [(1, .int (nI (2 ^ n - 1))), (0, .ref (a 0))]) hx hb dX0_first_4 rfl hl (by decide) rfl (fun ls hl => ?_)
  refine lv_iconst (v := nI 0) hx hb dX0_first_5 (by decide +kernel) ?_
  refine lv_istore_n (lv' := [(2, .int (nI (0))), (1, .int (nI (2 ^ n - 1))), (0, .ref (a 0))]) hx hb dX0_first_6 rfl hl (by decide) rfl (fun ls hl => ?_)
  refine xf1 E k (2 ^ n) hk h2 R (2 ^ n) 0 fC H locs ls (by omega) (fun j hj => absurd hj (Nat.not_lt_zero j)) S (lv_sub hl [2, 1, 0] rfl) (fun fC H locs ls hF S hl => ?_)
  refine lv_aload_n hx hb dX0_first_43 rfl (lv_at hl 0 rfl) ?_
  refine xg_rows E S dX0_first_44 ?_
  refine lv_iconst (v := nI 1) hx hb dX0_first_47 (by decide +kernel) ?_
  refine lv_isub hx hb dX0_first_48 ?_
  refine tr_i (y := td_dn k) (td_sub1 k) ?_
  refine lv_istore_n (lv' := [(2, .int (td_dn k)), (0, .ref (a 0)), (1, .int (nI (2 ^ n - 1)))]) hx hb dX0_first_49 rfl hl (by decide) rfl (fun ls hl => ?_)
  refine xf2 E k n (2 ^ n) hk rfl h2 R hR k fC H locs ls (Nat.le_refl k) (fun r h1 h3 => by rw [show r = k by omega]; exact hF) S (lv_sub hl [1, 2, 0] rfl) (fun fC H locs ls hG S hl => ?_)
  have h0 := hG 0 (Nat.zero_le k) 0 h2.1
  refine lv_aload_n hx hb dX0_first_142 rfl (lv_at hl 0 rfl) ?_
  refine xg_can E S dX0_first_143 ?_
  refine lv_iconst (v := nI 0) hx hb dX0_first_146 (by decide +kernel) ?_
  refine xl_can E S (by omega) dX0_first_147 ?_
  refine tr_i (y := (nI (td_cn R k (2 ^ n - 1) 0 0))) h0 ?_
  refine tb_if_ne (tgt := 153) hx hb (td_cn_lt _ _ _ _ _) dX0_first_148 (by decide) (fun c1 => ?_) (fun c1 => ?_)
  · have hc := td_cn_ne c1
    unfold td_can at hc
    rw [Nat.xor_zero] at hc
    refine lv_iconst (v := nI 0) hx hb dX0_first_153 (by decide +kernel) ?_
    refine lv_istore_n (lv' := [(2, .int (nI (0))), (0, .ref (a 0)), (1, .int (nI (2 ^ n - 1)))]) hx hb dX0_first_154 rfl hl (by decide) rfl (fun ls hl => ?_)
    refine lv_iconst (v := nI 0) hx hb dX0_first_155 (by decide +kernel) ?_
    refine tr_i (y := (nI ((2 ^ n - 1) ^^^ (td_g R k (2 ^ n - 1) 0).1))) (congrArg nI (Nat.xor_self _).symm) ?_
    refine lv_istore_n (lv' := [(3, .int (nI ((2 ^ n - 1) ^^^ (td_g R k (2 ^ n - 1) 0).1))), (2, .int (nI (0))), (0, .ref (a 0)), (1, .int (nI (2 ^ n - 1)))]) hx hb dX0_first_156 rfl hl (by decide) rfl (fun ls hl => ?_)
    refine lv_iconst (v := nI 0) hx hb dX0_first_157 (by decide +kernel) ?_
    refine lv_istore (lv' := [(4, .int (nI (0))), (3, .int (nI ((2 ^ n - 1) ^^^ (td_g R k (2 ^ n - 1) 0).1))), (2, .int (nI (0))), (0, .ref (a 0)), (1, .int (nI (2 ^ n - 1)))]) hx hb dX0_first_158 hl (by decide) rfl (fun ls hl => ?_)
    refine xf4 E k n (2 ^ n) hk rfl h2 R hR hG S (fun ls => x_iret E hr hlocks S ⟨by unfold td_f; rw [if_neg (by omega)], fC, rfl⟩ dX0_first_234) k 0 ls (by omega) (lv_sub hl [3, 2, 1, 0] rfl)
  · have hc := td_cn_eq c1
    unfold td_can at hc
    rw [Nat.xor_zero] at hc
    refine lv_iconst (v := -1) hx hb dX0_first_151 (by decide +kernel) ?_
    exact x_iret E hr hlocks S ⟨by unfold td_f; rw [if_pos (by omega)], fC, rfl⟩ dX0_first_152
end
section
/-! TileDesk.least -/
theorem td_ascI {f : Nat → Int32} {g : Nat → Int32} {i : Nat} {x : Int32} (h : ∀ j, j < i → f j = g j) (hx : x = g i) : ∀ j, j < i + 1 → upd f i x j = g j := by
  intro j hj
  unfold upd
  by_cases q : j = i
  · rw [if_pos q, q]
    exact hx
  · rw [if_neg q]
    exact h j (by omega)
theorem td_descI {f g g' : Nat → Int32} {N i : Nat} {x : Int32} (h : ∀ j, j < N → f j = if j < i + 1 then g j else g' j) (hx : x = g' i) : ∀ j, j < N → upd f i x j = if j < i then g j else g' j := by
  intro j hj
  unfold upd
  by_cases q : j = i
  · rw [if_pos q, q, if_neg (Nat.lt_irrefl i)]
    exact hx
  · rw [if_neg q, h j hj]
    by_cases r : j < i
    · rw [if_pos (by omega), if_pos r]
    · rw [if_neg (by omega), if_neg r]
theorem td_keepI {f g g' : Nat → Int32} {N i : Nat} (h : ∀ j, j < N → f j = if j < i + 1 then g j else g' j) (hx : g i = g' i) : ∀ j, j < N → f j = if j < i then g j else g' j := by
  intro j hj
  rw [h j hj]
  by_cases q : j = i
  · rw [if_pos (by omega), if_neg (by omega), q]
    exact hx
  · by_cases r : j < i
    · rw [if_pos (by omega), if_pos r]
    · rw [if_neg (by omega), if_neg r]
theorem td_first0 {f : Nat → Int32} {N : Nat} (h : ∀ j, j < N → f j = nI 25) (R : Nat → Nat) : ∀ j, j < N → upd f 0 (nI 0) j = nI (td_l R 0 j) := by
  intro j hj
  show upd f 0 (nI 0) j = nI (if j = 0 then 0 else 25)
  unfold upd
  by_cases q : j = 0
  · rw [if_pos q, if_pos q]
  · rw [if_neg q, if_neg q]
    exact h j hj
theorem td_u_in {mk : Nat} {F : Nat → Nat} {i : Nat} (h : i &&& mk = mk) (h2 : F (i ^^^ mk) + 1 < F i) : td_u mk F i = F (i ^^^ mk) + 1 := by
  unfold td_u
  rw [if_pos ⟨h, h2⟩]
theorem td_u_out {mk : Nat} {F : Nat → Nat} {i : Nat} (h : ¬ (i &&& mk = mk ∧ F (i ^^^ mk) + 1 < F i)) : td_u mk F i = F i := by
  unfold td_u
  rw [if_neg h]
section XLEAST
variable {p : Program} {l : Launch} {e : Env} {R0 : Room} {s : State} {m : MethodId} {args : Array Value} {below : List Frame} {meth : Method} {c : Code} {cells slots : Nat} {Q : State → Prop}
variable {dC : Nat → ClassId} {dI : Nat → Nat → Nat} {A : Nat → Prop} {a : Nat → Nat} {ca : Nat → ClassId}
variable {fR : Nat → Int32} {fW : Nat → Int64} {fC : Nat → Int32} {kc : Int32}
set_option maxHeartbeats 4000000 in
set_option maxRecDepth 100000 in
theorem xl1 (E : xE p m c s args cX0_least 5 dC dI ca A) {kr : Int32} (N : Nat) (h2 : 0 < N ∧ N ≤ 4096) : ∀ (d i : Nat) (fB : Nat → Int32) (H : Heap) (locs : List Loc) (ls : Array Slot), i + d = N → (∀ j, j < i → fB j = nI 25) → xS dC dI A s a ca fR fB fW fC kc kr H locs → lv_has ls 5 [(0, .ref (a 0)), (1, .int (nI (N - 1))), (2, .int (nI (i)))] → (∀ (fB : Nat → Int32) (H : Heap) (locs : List Loc) (ls : Array Slot), (∀ j, j < N → fB j = nI 25) → xS dC dI A s a ca fR fB fW fC kc kr H locs → lv_has ls 5 [(0, .ref (a 0)), (1, .int (nI (N - 1)))] → W p l e R0 s m args below meth c H locs cells slots Q (F0 m 26 ls [])) → W p l e R0 s m args below meth c H locs cells slots Q (F0 m 7 ls []) := by
  have hx := E.1
  have hb := E.2.1
  intro d
  induction d with
  | zero =>
    intro i fB H locs ls hi hF S hl k
    refine lv_iload_n hx hb dX0_least_7 rfl (lv_at hl 2 rfl) ?_
    refine lv_iload_n hx hb dX0_least_8 rfl (lv_at hl 1 rfl) ?_
    refine tb_gt (tgt := 26) hx hb (by omega) (by omega) dX0_least_9 (by decide) (fun c1 => ?_) (fun c1 => ?_)
    · exact k fB H locs ls (fun j hj => hF j (by omega)) S (lv_sub hl [0, 1] rfl)
    · exact absurd c1 (by omega)
  | succ d ih =>
    intro i fB H locs ls hi hF S hl k
    refine lv_iload_n hx hb dX0_least_7 rfl (lv_at hl 2 rfl) ?_
    refine lv_iload_n hx hb dX0_least_8 rfl (lv_at hl 1 rfl) ?_
    refine tb_gt (tgt := 26) hx hb (by omega) (by omega) dX0_least_9 (by decide) (fun c1 => ?_) (fun c1 => ?_)
    · exact absurd c1 (by omega)
    · refine lv_aload_n hx hb dX0_least_12 rfl (lv_at hl 0 rfl) ?_
      refine xg_best E S dX0_least_13 ?_
      refine lv_iload_n hx hb dX0_least_16 rfl (lv_at hl 2 rfl) ?_
      refine lv_bipush (v := nI 25) hx hb dX0_least_17 (by decide +kernel) ?_
      refine xs_best E S (by omega) dX0_least_19 (fun H locs S => ?_)
      refine lv_iinc (v := (nI (i + 1))) (lv' := [(2, .int (nI (i + 1))), (0, .ref (a 0)), (1, .int (nI (N - 1)))]) hx hb dX0_least_20 hl (k := 2) rfl (td_inc _) (by decide) rfl (fun ls hl => ?_)
      refine lv_goto (tgt := 7) hx hb dX0_least_23 (by decide) ?_
      exact ih (i + 1) _ _ _ _ (by omega) (td_ascI (g := fun _ => nI 25) hF rfl) S (lv_sub hl [1, 2, 0] rfl) k
set_option maxHeartbeats 4000000 in
set_option maxRecDepth 100000 in
theorem xl3 (E : xE p m c s args cX0_least 5 dC dI ca A) {kr : Int32} (N mk q : Nat) (h2 : 0 < N ∧ N ≤ 4096) (hmk : mk < N) (hx2 : ∀ i, i < N → i ^^^ mk < N) (F : Nat → Nat) (hF0 : F 0 = 0) (hF25 : ∀ j, F j ≤ 25) : ∀ (i : Nat) (fB : Nat → Int32) (H : Heap) (locs : List Loc) (ls : Array Slot), i < N → (∀ j, j < N → fB j = if j < i + 1 then nI (F j) else nI (td_u mk F j)) → xS dC dI A s a ca fR fB fW fC kc kr H locs → lv_has ls 5 [(0, .ref (a 0)), (1, .int (nI (N - 1))), (2, .int (nI (q))), (3, .int (nI (mk))), (4, .int (nI (i)))] → (∀ (fB : Nat → Int32) (H : Heap) (locs : List Loc) (ls : Array Slot), (∀ j, j < N → fB j = nI (td_u mk F j)) → xS dC dI A s a ca fR fB fW fC kc kr H locs → lv_has ls 5 [(0, .ref (a 0)), (1, .int (nI (N - 1))), (2, .int (nI (q)))] → W p l e R0 s m args below meth c H locs cells slots Q (F0 m 111 ls [])) → W p l e R0 s m args below meth c H locs cells slots Q (F0 m 53 ls []) := by
  have hx := E.1
  have hb := E.2.1
  intro i
  induction i with
  | zero =>
    intro fB H locs ls hi hF S hl k
    refine lv_iload hx hb dX0_least_53 (lv_at hl 4 rfl) ?_
    refine tb_if_le (tgt := 111) hx hb (by omega) dX0_least_55 (by decide) (fun c1 => ?_) (fun c1 => ?_)
    · refine k fB H locs ls (fun j hj => ?_) S (lv_sub hl [0, 1, 2] rfl)
      rw [hF j hj]
      by_cases z : j < 0 + 1
      · rw [if_pos z, show j = 0 by omega, td_u_zero mk F hF0]
      · rw [if_neg z]
    · exact absurd c1 (Nat.lt_irrefl 0)
  | succ i ih =>
    intro fB H locs ls hi hF S hl k
    refine lv_iload hx hb dX0_least_53 (lv_at hl 4 rfl) ?_
    refine tb_if_le (tgt := 111) hx hb (by omega) dX0_least_55 (by decide) (fun c0 => ?_) (fun c0 => ?_)
    · exact absurd c0 (Nat.succ_ne_zero i)
    · have ha : (i + 1) &&& mk ≤ i + 1 := Nat.and_le_left
      have hv := hF25 (i + 1)
      have hv2 := hF25 ((i + 1) ^^^ mk)
      have hxl := hx2 (i + 1) hi
      have t0 : td_u mk F (i + 1) = F (i + 1) → W p l e R0 s m args below meth c H locs cells slots Q (F0 m 105 ls []) := by
        intro z
        refine lv_iinc (v := (nI (i))) (lv' := [(4, .int (nI (i))), (0, .ref (a 0)), (1, .int (nI (N - 1))), (2, .int (nI (q))), (3, .int (nI (mk)))]) hx hb dX0_least_105 hl (k := 4) rfl (td_dec1 i) (by decide) rfl (fun ls hl => ?_)
        refine lv_goto (tgt := 53) hx hb dX0_least_108 (by decide) ?_
        exact ih _ _ _ _ (by omega) (td_keepI (g := fun j => nI (F j)) (g' := fun j => nI (td_u mk F j)) hF (congrArg nI z.symm)) S (lv_sub hl [1, 2, 3, 4, 0] rfl) k
      refine lv_iload hx hb dX0_least_58 (lv_at hl 4 rfl) ?_
      refine lv_iload_n hx hb dX0_least_60 rfl (lv_at hl 3 rfl) ?_
      refine tr_iand hx hb dX0_least_61 ?_
      refine lv_iload_n hx hb dX0_least_62 rfl (lv_at hl 3 rfl) ?_
      refine tb_ne (tgt := 105) hx hb (by omega) (by omega) dX0_least_63 (by decide) (fun c1 => ?_) (fun c1 => ?_)
      · exact t0 (td_u_out (fun z => c1 z.1))
      · have hle := td_xle c1
        refine lv_aload_n hx hb dX0_least_66 rfl (lv_at hl 0 rfl) ?_
        refine xg_best E S dX0_least_67 ?_
        refine lv_iload hx hb dX0_least_70 (lv_at hl 4 rfl) ?_
        refine lv_iload_n hx hb dX0_least_72 rfl (lv_at hl 3 rfl) ?_
        refine tr_ixor hx hb dX0_least_73 ?_
        refine xl_best E S (by omega) dX0_least_74 ?_
        refine tr_i (y := (nI (F ((i + 1) ^^^ mk)))) (by rw [hF _ hxl, if_pos (by omega)]) ?_
        refine lv_iconst (v := nI 1) hx hb dX0_least_75 (by decide +kernel) ?_
        refine tr_iadd hx hb dX0_least_76 ?_
        refine lv_aload_n hx hb dX0_least_77 rfl (lv_at hl 0 rfl) ?_
        refine xg_best E S dX0_least_78 ?_
        refine lv_iload hx hb dX0_least_81 (lv_at hl 4 rfl) ?_
        refine xl_best E S (by omega) dX0_least_83 ?_
        refine tr_i (y := (nI (F (i + 1)))) (by rw [hF _ hi, if_pos (by omega)]) ?_
        refine tb_ge (tgt := 105) hx hb (by omega) (by omega) dX0_least_84 (by decide) (fun c2 => ?_) (fun c2 => ?_)
        · exact t0 (td_u_out (fun z => absurd z.2 (by omega)))
        · refine lv_aload_n hx hb dX0_least_87 rfl (lv_at hl 0 rfl) ?_
          refine xg_best E S dX0_least_88 ?_
          refine lv_iload hx hb dX0_least_91 (lv_at hl 4 rfl) ?_
          refine lv_aload_n hx hb dX0_least_93 rfl (lv_at hl 0 rfl) ?_
          refine xg_best E S dX0_least_94 ?_
          refine lv_iload hx hb dX0_least_97 (lv_at hl 4 rfl) ?_
          refine lv_iload_n hx hb dX0_least_99 rfl (lv_at hl 3 rfl) ?_
          refine tr_ixor hx hb dX0_least_100 ?_
          refine xl_best E S (by omega) dX0_least_101 ?_
          refine tr_i (y := (nI (F ((i + 1) ^^^ mk)))) (by rw [hF _ hxl, if_pos (by omega)]) ?_
          refine lv_iconst (v := nI 1) hx hb dX0_least_102 (by decide +kernel) ?_
          refine tr_iadd hx hb dX0_least_103 ?_
          refine xs_best E S (by omega) dX0_least_104 (fun H locs S => ?_)
          refine lv_iinc (v := (nI (i))) (lv' := [(4, .int (nI (i))), (0, .ref (a 0)), (1, .int (nI (N - 1))), (2, .int (nI (q))), (3, .int (nI (mk)))]) hx hb dX0_least_105 hl (k := 4) rfl (td_dec1 i) (by decide) rfl (fun ls hl => ?_)
          refine lv_goto (tgt := 53) hx hb dX0_least_108 (by decide) ?_
          exact ih _ _ _ _ (by omega) (td_descI (g := fun j => nI (F j)) (g' := fun j => nI (td_u mk F j)) hF (congrArg nI (td_u_in c1 c2).symm)) S (lv_sub hl [1, 2, 3, 4, 0] rfl) k
set_option maxHeartbeats 4000000 in
set_option maxRecDepth 100000 in
theorem xl2 (E : xE p m c s args cX0_least 5 dC dI ca A) (R : Nat → Nat) (k n N : Nat) (hk : k ≤ 24) (hN : N = 2 ^ n) (h2 : 0 < N ∧ N ≤ 4096) (hR : td_R R k n fR) : ∀ (d q : Nat) (fB : Nat → Int32) (H : Heap) (locs : List Loc) (ls : Array Slot), q + d = k → (∀ j, j < N → fB j = nI (td_l R q j)) → xS dC dI A s a ca fR fB fW fC kc (nI k) H locs → lv_has ls 5 [(0, .ref (a 0)), (1, .int (nI (N - 1))), (2, .int (nI (q)))] → (∀ (fB : Nat → Int32) (H : Heap) (locs : List Loc) (ls : Array Slot), (∀ j, j < N → fB j = nI (td_l R k j)) → xS dC dI A s a ca fR fB fW fC kc (nI k) H locs → lv_has ls 5 [(0, .ref (a 0)), (1, .int (nI (N - 1)))] → W p l e R0 s m args below meth c H locs cells slots Q (F0 m 117 ls [])) → W p l e R0 s m args below meth c H locs cells slots Q (F0 m 35 ls []) := by
  have hx := E.1
  have hb := E.2.1
  intro d
  induction d with
  | zero =>
    intro q fB H locs ls hq hF S hl kk
    refine lv_iload_n hx hb dX0_least_35 rfl (lv_at hl 2 rfl) ?_
    refine lv_aload_n hx hb dX0_least_36 rfl (lv_at hl 0 rfl) ?_
    refine xg_rows E S dX0_least_37 ?_
    refine tb_ge (tgt := 117) hx hb (by omega) (by omega) dX0_least_40 (by decide) (fun c1 => ?_) (fun c1 => ?_)
    · obtain rfl : q = k := by omega
      exact kk fB H locs ls hF S (lv_sub hl [0, 1] rfl)
    · exact absurd c1 (by omega)
  | succ d ih =>
    intro q fB H locs ls hq hF S hl kk
    refine lv_iload_n hx hb dX0_least_35 rfl (lv_at hl 2 rfl) ?_
    refine lv_aload_n hx hb dX0_least_36 rfl (lv_at hl 0 rfl) ?_
    refine xg_rows E S dX0_least_37 ?_
    refine tb_ge (tgt := 117) hx hb (by omega) (by omega) dX0_least_40 (by decide) (fun c1 => ?_) (fun c1 => ?_)
    · exact absurd c1 (by omega)
    · have hRq := hR q (by omega)
      have hmk : R q < N := by rw [hN]; exact hRq.2
      refine lv_aload_n hx hb dX0_least_43 rfl (lv_at hl 0 rfl) ?_
      refine xg_row E S dX0_least_44 ?_
      refine lv_iload_n hx hb dX0_least_47 rfl (lv_at hl 2 rfl) ?_
      refine xl_row E S (by omega) dX0_least_48 ?_
      refine tr_i (y := (nI (R q))) hRq.1 ?_
      refine lv_istore_n (lv' := [(3, .int (nI (R q))), (0, .ref (a 0)), (1, .int (nI (N - 1))), (2, .int (nI (q)))]) hx hb dX0_least_49 rfl hl (by decide) rfl (fun ls hl => ?_)
      refine lv_iload_n hx hb dX0_least_50 rfl (lv_at hl 2 rfl) ?_
      refine lv_istore (lv' := [(4, .int (nI (N - 1))), (3, .int (nI (R q))), (0, .ref (a 0)), (1, .int (nI (N - 1))), (2, .int (nI (q)))]) hx hb dX0_least_51 hl (by decide) rfl (fun ls hl => ?_)
      refine xl3 E N (R q) q h2 hmk (fun i hi => by rw [hN] at hi hmk ⊢; exact Nat.xor_lt_two_pow hi hmk) (td_l R q) (td_l_zero R q) (td_l_le25 R (by omega)) (N - 1) _ _ _ _ (by omega) (fun j hj => by rw [hF j hj, if_pos (by omega)]) S (lv_sub hl [2, 3, 4, 1, 0] rfl) (fun fB H locs ls hF S hl => ?_)
      refine lv_iinc (v := (nI (q + 1))) (lv' := [(2, .int (nI (q + 1))), (0, .ref (a 0)), (1, .int (nI (N - 1)))]) hx hb dX0_least_111 hl (k := 2) rfl (td_inc _) (by decide) rfl (fun ls hl => ?_)
      refine lv_goto (tgt := 35) hx hb dX0_least_114 (by decide) ?_
      exact ih (q + 1) _ _ _ _ (by omega) hF S (lv_sub hl [1, 2, 0] rfl) kk
end XLEAST
set_option maxHeartbeats 4000000 in
set_option maxRecDepth 100000 in
theorem mx_least (l : Launch) (dC : Nat → ClassId) (dI : Nat → Nat → Nat) (a : Nat → Nat) (ca : Nat → ClassId) (sz : Nat) (fR fB : Nat → Int32) (fW : Nat → Int64) (fC : Nat → Int32) (R : Nat → Nat) (n k : Nat) (hn : n ≤ 12) (hk : k ≤ 24) (hR : td_R R k n fR) : xMi l yX0_least cX0_least 5 (some .int) ({ frames := 1, cells := 0, slots := 0, locals := 20 }) [.ref (a 0)] dC dI a ca sz fR fB fW fC ((nI (n))) ((nI (k))) (fun (r : Int32) (u : xU) => r = td_s (td_l R k (2 ^ n - 1)) ∧ ∃ fB' : Nat → Int32, u = (fR, fB', fW, fC, nI n, nI k)) := by
  refine x_enter [.ref (a 0)] (Nat.le_of_ble_eq_true rfl) (by decide) rfl (fun A => va_Qi (fun (r : Int32) (u : xU) => r = td_s (td_l R k (2 ^ n - 1)) ∧ ∃ fB' : Nat → Int32, u = (fR, fB', fW, fC, nI n, nI k)) (xB dC dI A a ca) A) ?_
  intro p e s m below meth c A ls E hr hlocks S hl
  have hx := E.1
  have hb := E.2.1
  have hl : lv_has ls 5 [(0, .ref (a 0))] := hl
  have h2 := td_2n hn
  refine lv_aload_n hx hb dX0_least_0 rfl (lv_at hl 0 rfl) ?_
  refine xc_i E S (fun sz => mx_all l dC dI a ca sz fR fB fW fC n (nI k) hn) q46 q48 qs0 q49 rfl rfl (by decide +kernel) ⟨Nat.le_of_ble_eq_true rfl, Nat.le_of_ble_eq_true rfl⟩ rfl hl.1 rfl (Nat.le_of_ble_eq_true rfl) ⟨Nat.zero_le _, Nat.zero_le _⟩ dX0_least_1 (fun r u H locs hu S => ?_)
  obtain ⟨rfl, rfl⟩ := hu
  have S : xS dC dI A s a ca fR fB fW fC (nI n) (nI k) H locs := S
  refine lv_istore_n (lv' := [(1, .int (nI (2 ^ n - 1))), (0, .ref (a 0))]) hx hb dX0_least_4 rfl hl (by decide) rfl (fun ls hl => ?_)
  refine lv_iconst (v := nI 0) hx hb dX0_least_5 (by decide +kernel) ?_
  refine lv_istore_n (lv' := [(2, .int (nI (0))), (1, .int (nI (2 ^ n - 1))), (0, .ref (a 0))]) hx hb dX0_least_6 rfl hl (by decide) rfl (fun ls hl => ?_)
  refine xl1 E (2 ^ n) h2 (2 ^ n) 0 fB H locs ls (by omega) (fun j hj => absurd hj (Nat.not_lt_zero j)) S (lv_sub hl [2, 1, 0] rfl) (fun fB H locs ls hF S hl => ?_)
  refine lv_aload_n hx hb dX0_least_26 rfl (lv_at hl 0 rfl) ?_
  refine xg_best E S dX0_least_27 ?_
  refine lv_iconst (v := nI 0) hx hb dX0_least_30 (by decide +kernel) ?_
  refine lv_iconst (v := nI 0) hx hb dX0_least_31 (by decide +kernel) ?_
  refine xs_best E S (by omega) dX0_least_32 (fun H locs S => ?_)
  refine lv_iconst (v := nI 0) hx hb dX0_least_33 (by decide +kernel) ?_
  refine lv_istore_n (lv' := [(2, .int (nI (0))), (0, .ref (a 0)), (1, .int (nI (2 ^ n - 1)))]) hx hb dX0_least_34 rfl hl (by decide) rfl (fun ls hl => ?_)
  refine xl2 E R k n (2 ^ n) hk rfl h2 hR k 0 _ H locs ls (by omega) (td_first0 hF R) S (lv_sub hl [1, 2, 0] rfl) (fun fB H locs ls hF S hl => ?_)
  have hv := hF (2 ^ n - 1) (by omega)
  have hv2 := td_l_le R k (2 ^ n - 1)
  refine lv_aload_n hx hb dX0_least_117 rfl (lv_at hl 0 rfl) ?_
  refine xg_best E S dX0_least_118 ?_
  refine lv_iload_n hx hb dX0_least_121 rfl (lv_at hl 1 rfl) ?_
  refine xl_best E S (by omega) dX0_least_122 ?_
  refine tr_i (y := (nI (td_l R k (2 ^ n - 1)))) hv ?_
  refine lv_bipush (v := nI 24) hx hb dX0_least_123 (by decide +kernel) ?_
  refine tb_le (tgt := 132) hx hb (by omega) (by omega) dX0_least_125 (by decide) (fun c1 => ?_) (fun c1 => ?_)
  · refine lv_aload_n hx hb dX0_least_132 rfl (lv_at hl 0 rfl) ?_
    refine xg_best E S dX0_least_133 ?_
    refine lv_iload_n hx hb dX0_least_136 rfl (lv_at hl 1 rfl) ?_
    refine xl_best E S (by omega) dX0_least_137 ?_
    refine tr_i (y := (nI (td_l R k (2 ^ n - 1)))) hv ?_
    exact x_iret E hr hlocks S ⟨by unfold td_s; rw [if_neg (by omega)], fB, rfl⟩ dX0_least_138
  · refine lv_iconst (v := -1) hx hb dX0_least_128 (by decide +kernel) ?_
    refine lv_goto (tgt := 138) hx hb dX0_least_129 (by decide) ?_
    exact x_iret E hr hlocks S ⟨by unfold td_s; rw [if_pos (by omega)], fB, rfl⟩ dX0_least_138
end
section
/-! TileDeskModel.reckon -/
/-- one more place of row r of a table of 4096 a row -/
theorem td_gridL {f g : Nat → Int64} {r i : Nat} {x : Int64} (h : ∀ j, j < i → f (4096 * r + j) = g j) (hx : x = g i) : ∀ j, j < i + 1 → vp_updL f (4096 * r + i) x (4096 * r + j) = g j := by
  intro j hj
  unfold vp_updL
  by_cases q : j = i
  · rw [if_pos (by omega), q]
    exact hx
  · rw [if_neg (by omega)]
    exact h j (by omega)
theorem td_gridL_o {f : Nat → Int64} {g : Nat → Nat → Int64} {r i k N : Nat} {x : Int64} (hN : N ≤ 4096) (hi : i < N) (h : ∀ r', r < r' → r' ≤ k → ∀ j, j < N → f (4096 * r' + j) = g r' j) : ∀ r', r < r' → r' ≤ k → ∀ j, j < N → vp_updL f (4096 * r + i) x (4096 * r' + j) = g r' j := by
  intro r' h1 h2 j hj
  unfold vp_updL
  rw [if_neg (by omega)]
  exact h r' h1 h2 j hj
/-- the reference's tables are those of its rows -/
def td_ok (R : Nat → Nat) (k N : Nat) (gW : Nat → Int64) (gS : Nat → Int32) : Prop := (∀ r, r ≤ k → ∀ j, j < N → gW (4096 * r + j) = lN (td_b R k r j)) ∧ ∀ j, j < N → gS j = td_s (td_l R k j)
theorem td_z0 {t : Nat} (h : t = 0) : lN 1 = lN (td_z t) := by
  unfold td_z
  rw [if_pos h]
theorem td_z1 {t : Nat} (h : ¬ t = 0) : lN 0 = lN (td_z t) := by
  unfold td_z
  rw [if_neg h]
theorem td_s0 (R : Nat → Nat) {t : Nat} (h : t = 0) : nI 0 = td_s (td_l R 0 t) := by
  show _ = td_s (if t = 0 then 0 else 25)
  rw [if_pos h]
  rfl
theorem td_s1 (R : Nat → Nat) {t : Nat} (h : ¬ t = 0) : (-1 : Int32) = td_s (td_l R 0 t) := by
  show _ = td_s (if t = 0 then 0 else 25)
  rw [if_neg h]
  rfl
theorem td_s_25 {v : Nat} (h : v = 25) : td_s v = -1 := by
  unfold td_s
  rw [if_pos h]
theorem td_s_n {v : Nat} (h : ¬ v = 25) : td_s v = nI v := by
  unfold td_s
  rw [if_neg h]
section YRECK
variable {p : Program} {l : Launch} {e : Env} {R0 : Room} {s : State} {m : MethodId} {args : Array Value} {below : List Frame} {meth : Method} {c : Code} {cells slots : Nat} {Q : State → Prop}
variable {dC : Nat → ClassId} {dI : Nat → Nat → Nat} {A : Nat → Prop} {a : Nat → Nat} {ca : Nat → ClassId}
variable {gR : Nat → Int32} {gO : Nat → Int64} {kk : Int32}
set_option maxHeartbeats 4000000 in
set_option maxRecDepth 100000 in
theorem yr1 (E : yE p m c s args cX1_reckon 3 dC dI ca A) (k n : Nat) (hk : k ≤ 24) (hn : n ≤ 12) (R : Nat → Nat) : ∀ (d i : Nat) (gW : Nat → Int64) (gS : Nat → Int32) (H : Heap) (locs : List Loc) (ls : Array Slot), i + d = 2 ^ n → (∀ j, j < i → gW (4096 * k + j) = lN (td_z j)) → (∀ j, j < i → gS j = td_s (td_l R 0 j)) → yS dC dI A s a ca gR gW gO gS (nI k) (nI n) kk H locs → lv_has ls 3 [(0, .ref (a 0)), (1, .int (nI (i)))] → (∀ (gW : Nat → Int64) (gS : Nat → Int32) (H : Heap) (locs : List Loc) (ls : Array Slot), (∀ j, j < 2 ^ n → gW (4096 * k + j) = lN (td_z j)) → (∀ j, j < 2 ^ n → gS j = td_s (td_l R 0 j)) → yS dC dI A s a ca gR gW gO gS (nI k) (nI n) kk H locs → lv_has ls 3 [(0, .ref (a 0))] → W p l e R0 s m args below meth c H locs cells slots Q (F0 m 70 ls [])) → W p l e R0 s m args below meth c H locs cells slots Q (F0 m 15 ls []) := by
  have hx := E.1
  have hb := E.2.1
  have h2 := td_2n hn
  intro d
  induction d with
  | zero =>
    intro i gW gS H locs ls hi hF hG S hl kc
    refine lv_iload_n hx hb dX1_reckon_15 rfl (lv_at hl 1 rfl) ?_
    refine lv_iconst (v := nI 1) hx hb dX1_reckon_16 (by decide +kernel) ?_
    refine lv_aload_n hx hb dX1_reckon_17 rfl (lv_at hl 0 rfl) ?_
    refine yg_n E S dX1_reckon_18 ?_
    refine tr_shl hx hb (by omega) dX1_reckon_21 ?_
    refine tb_ge (tgt := 70) hx hb (by omega) (by omega) dX1_reckon_22 (by decide) (fun c1 => ?_) (fun c1 => ?_)
    · exact kc gW gS H locs ls (fun j hj => hF j (by omega)) (fun j hj => hG j (by omega)) S (lv_sub hl [0] rfl)
    · exact absurd c1 (by omega)
  | succ d ih =>
    intro i gW gS H locs ls hi hF hG S hl kc
    refine lv_iload_n hx hb dX1_reckon_15 rfl (lv_at hl 1 rfl) ?_
    refine lv_iconst (v := nI 1) hx hb dX1_reckon_16 (by decide +kernel) ?_
    refine lv_aload_n hx hb dX1_reckon_17 rfl (lv_at hl 0 rfl) ?_
    refine yg_n E S dX1_reckon_18 ?_
    refine tr_shl hx hb (by omega) dX1_reckon_21 ?_
    refine tb_ge (tgt := 70) hx hb (by omega) (by omega) dX1_reckon_22 (by decide) (fun c1 => ?_) (fun c1 => ?_)
    · exact absurd c1 (by omega)
    · have t2 : ∀ (gW : Nat → Int64) (H : Heap) (locs : List Loc), (∀ j, j < i + 1 → gW (4096 * k + j) = lN (td_z j)) → yS dC dI A s a ca gR gW gO gS (nI k) (nI n) kk H locs → W p l e R0 s m args below meth c H locs cells slots Q (F0 m 49 ls []) := by
        intro gW H locs hF S
        refine lv_aload_n hx hb dX1_reckon_49 rfl (lv_at hl 0 rfl) ?_
        refine yg_size E S dX1_reckon_50 ?_
        refine lv_iload_n hx hb dX1_reckon_53 rfl (lv_at hl 1 rfl) ?_
        refine lv_iload_n hx hb dX1_reckon_54 rfl (lv_at hl 1 rfl) ?_
        refine tb_if_ne (tgt := 62) hx hb (by omega) dX1_reckon_55 (by decide) (fun c3 => ?_) (fun c3 => ?_)
        · refine lv_iconst (v := -1) hx hb dX1_reckon_62 (by decide +kernel) ?_
          refine ys_size E S (by omega) dX1_reckon_63 (fun H locs S => ?_)
          refine lv_iinc (v := (nI (i + 1))) (lv' := [(1, .int (nI (i + 1))), (0, .ref (a 0))]) hx hb dX1_reckon_64 hl (k := 1) rfl (td_inc _) (by decide) rfl (fun ls hl => ?_)
          refine lv_goto (tgt := 15) hx hb dX1_reckon_67 (by decide) ?_
          exact ih (i + 1) _ _ _ _ _ (by omega) hF (td_ascI (g := fun j => td_s (td_l R 0 j)) hG (td_s1 R c3)) S (lv_sub hl [1, 0] rfl) kc
        · refine lv_iconst (v := nI 0) hx hb dX1_reckon_58 (by decide +kernel) ?_
          refine lv_goto (tgt := 63) hx hb dX1_reckon_59 (by decide) ?_
          refine ys_size E S (by omega) dX1_reckon_63 (fun H locs S => ?_)
          refine lv_iinc (v := (nI (i + 1))) (lv' := [(1, .int (nI (i + 1))), (0, .ref (a 0))]) hx hb dX1_reckon_64 hl (k := 1) rfl (td_inc _) (by decide) rfl (fun ls hl => ?_)
          refine lv_goto (tgt := 15) hx hb dX1_reckon_67 (by decide) ?_
          exact ih (i + 1) _ _ _ _ _ (by omega) hF (td_ascI (g := fun j => td_s (td_l R 0 j)) hG (td_s0 R c3)) S (lv_sub hl [1, 0] rfl) kc
      refine lv_aload_n hx hb dX1_reckon_25 rfl (lv_at hl 0 rfl) ?_
      refine yg_ways E S dX1_reckon_26 ?_
      refine lv_sipush (v := nI 4096) hx hb dX1_reckon_29 (by decide +kernel) ?_
      refine lv_aload_n hx hb dX1_reckon_32 rfl (lv_at hl 0 rfl) ?_
      refine yg_rows E S dX1_reckon_33 ?_
      refine tr_imul hx hb dX1_reckon_36 ?_
      refine lv_iload_n hx hb dX1_reckon_37 rfl (lv_at hl 1 rfl) ?_
      refine tr_iadd hx hb dX1_reckon_38 ?_
      refine lv_iload_n hx hb dX1_reckon_39 rfl (lv_at hl 1 rfl) ?_
      refine tb_if_ne (tgt := 47) hx hb (by omega) dX1_reckon_40 (by decide) (fun c2 => ?_) (fun c2 => ?_)
      · refine lv_lconst (v := lN 0) hx hb dX1_reckon_47 rfl ?_
        refine ys_ways E S (by omega) dX1_reckon_48 (fun H locs S => ?_)
        exact t2 _ _ _ (td_gridL (g := fun j => lN (td_z j)) hF (td_z1 c2)) S
      · refine lv_lconst (v := lN 1) hx hb dX1_reckon_43 rfl ?_
        refine lv_goto (tgt := 48) hx hb dX1_reckon_44 (by decide) ?_
        refine ys_ways E S (by omega) dX1_reckon_48 (fun H locs S => ?_)
        exact t2 _ _ _ (td_gridL (g := fun j => lN (td_z j)) hF (td_z0 c2)) S
set_option maxHeartbeats 4000000 in
set_option maxRecDepth 100000 in
theorem yr3 (E : yE p m c s args cX1_reckon 3 dC dI ca A) {gS : Nat → Int32} (k n : Nat) (hk : k ≤ 24) (hn : n ≤ 12) (i : Nat) (hi : i < k) (R : Nat → Nat) (hR : td_R R k n gR) : ∀ (d t : Nat) (gW : Nat → Int64) (H : Heap) (locs : List Loc) (ls : Array Slot), t + d = 2 ^ n → (∀ r, i < r → r ≤ k → ∀ j, j < 2 ^ n → gW (4096 * r + j) = lN (td_b R k r j)) → (∀ j, j < t → gW (4096 * i + j) = lN (td_b R k i j)) → yS dC dI A s a ca gR gW gO gS (nI k) (nI n) kk H locs → lv_has ls 3 [(0, .ref (a 0)), (1, .int (nI (i))), (2, .int (nI (t)))] → (∀ (gW : Nat → Int64) (H : Heap) (locs : List Loc) (ls : Array Slot), (∀ r, i < r → r ≤ k → ∀ j, j < 2 ^ n → gW (4096 * r + j) = lN (td_b R k r j)) → (∀ j, j < 2 ^ n → gW (4096 * i + j) = lN (td_b R k i j)) → yS dC dI A s a ca gR gW gO gS (nI k) (nI n) kk H locs → lv_has ls 3 [(0, .ref (a 0)), (1, .int (nI (i)))] → W p l e R0 s m args below meth c H locs cells slots Q (F0 m 170 ls [])) → W p l e R0 s m args below meth c H locs cells slots Q (F0 m 83 ls []) := by
  have hx := E.1
  have hb := E.2.1
  have h2 := td_2n hn
  have hRi := hR i hi
  have hm := hRi.2
  intro d
  induction d with
  | zero =>
    intro t gW H locs ls ht hG hF S hl kc
    refine lv_iload_n hx hb dX1_reckon_83 rfl (lv_at hl 2 rfl) ?_
    refine lv_iconst (v := nI 1) hx hb dX1_reckon_84 (by decide +kernel) ?_
    refine lv_aload_n hx hb dX1_reckon_85 rfl (lv_at hl 0 rfl) ?_
    refine yg_n E S dX1_reckon_86 ?_
    refine tr_shl hx hb (by omega) dX1_reckon_89 ?_
    refine tb_ge (tgt := 170) hx hb (by omega) (by omega) dX1_reckon_90 (by decide) (fun c1 => ?_) (fun c1 => ?_)
    · exact kc gW H locs ls hG (fun j hj => hF j (by omega)) S (lv_sub hl [0, 1] rfl)
    · exact absurd c1 (by omega)
  | succ d ih =>
    intro t gW H locs ls ht hG hF S hl kc
    refine lv_iload_n hx hb dX1_reckon_83 rfl (lv_at hl 2 rfl) ?_
    refine lv_iconst (v := nI 1) hx hb dX1_reckon_84 (by decide +kernel) ?_
    refine lv_aload_n hx hb dX1_reckon_85 rfl (lv_at hl 0 rfl) ?_
    refine yg_n E S dX1_reckon_86 ?_
    refine tr_shl hx hb (by omega) dX1_reckon_89 ?_
    refine tb_ge (tgt := 170) hx hb (by omega) (by omega) dX1_reckon_90 (by decide) (fun c1 => ?_) (fun c1 => ?_)
    · exact absurd c1 (by omega)
    · have ha : t &&& R i ≤ t := Nat.and_le_left
      have hx2 : t ^^^ R i < 2 ^ n := Nat.xor_lt_two_pow (by omega) hm
      have t1 : ∀ v : Nat, td_b R k (i + 1) t + v = td_b R k i t → W p l e R0 s m args below meth c H locs cells slots Q (F0 m 162 ls [.long (lN v), .long (lN (td_b R k (i + 1) t)), .int (nI (4096 * i + t)), .ref (a 2)]) := by
        intro v z
        refine tr_ladd hx hb dX1_reckon_162 ?_
        refine tr_l (y := lN (td_b R k i t)) (congrArg lN z) ?_
        refine ys_ways E S (by omega) dX1_reckon_163 (fun H locs S => ?_)
        refine lv_iinc (v := (nI (t + 1))) (lv' := [(2, .int (nI (t + 1))), (0, .ref (a 0)), (1, .int (nI (i)))]) hx hb dX1_reckon_164 hl (k := 2) rfl (td_inc _) (by decide) rfl (fun ls hl => ?_)
        refine lv_goto (tgt := 83) hx hb dX1_reckon_167 (by decide) ?_
        exact ih (t + 1) _ _ _ _ (by omega) (td_gridL_o (g := fun r j => lN (td_b R k r j)) h2.2 (by omega) hG) (td_gridL (g := fun j => lN (td_b R k i j)) hF rfl) S (lv_sub hl [1, 2, 0] rfl) kc
      refine lv_aload_n hx hb dX1_reckon_93 rfl (lv_at hl 0 rfl) ?_
      refine yg_ways E S dX1_reckon_94 ?_
      refine lv_sipush (v := nI 4096) hx hb dX1_reckon_97 (by decide +kernel) ?_
      refine lv_iload_n hx hb dX1_reckon_100 rfl (lv_at hl 1 rfl) ?_
      refine tr_imul hx hb dX1_reckon_101 ?_
      refine lv_iload_n hx hb dX1_reckon_102 rfl (lv_at hl 2 rfl) ?_
      refine tr_iadd hx hb dX1_reckon_103 ?_
      refine lv_aload_n hx hb dX1_reckon_104 rfl (lv_at hl 0 rfl) ?_
      refine yg_ways E S dX1_reckon_105 ?_
      refine lv_sipush (v := nI 4096) hx hb dX1_reckon_108 (by decide +kernel) ?_
      refine lv_iload_n hx hb dX1_reckon_111 rfl (lv_at hl 1 rfl) ?_
      refine lv_iconst (v := nI 1) hx hb dX1_reckon_112 (by decide +kernel) ?_
      refine tr_iadd hx hb dX1_reckon_113 ?_
      refine tr_imul hx hb dX1_reckon_114 ?_
      refine lv_iload_n hx hb dX1_reckon_115 rfl (lv_at hl 2 rfl) ?_
      refine tr_iadd hx hb dX1_reckon_116 ?_
      refine yl_ways E S (by omega) dX1_reckon_117 ?_
      refine tr_l (y := (lN (td_b R k (i + 1) t))) (hG (i + 1) (by omega) (by omega) t (by omega)) ?_
      refine lv_iload_n hx hb dX1_reckon_118 rfl (lv_at hl 2 rfl) ?_
      refine lv_aload_n hx hb dX1_reckon_119 rfl (lv_at hl 0 rfl) ?_
      refine yg_row E S dX1_reckon_120 ?_
      refine lv_iload_n hx hb dX1_reckon_123 rfl (lv_at hl 1 rfl) ?_
      refine yl_row E S (by omega) dX1_reckon_124 ?_
      refine tr_i (y := (nI (R i))) hRi.1 ?_
      refine tr_iand hx hb dX1_reckon_125 ?_
      refine lv_aload_n hx hb dX1_reckon_126 rfl (lv_at hl 0 rfl) ?_
      refine yg_row E S dX1_reckon_127 ?_
      refine lv_iload_n hx hb dX1_reckon_130 rfl (lv_at hl 1 rfl) ?_
      refine yl_row E S (by omega) dX1_reckon_131 ?_
      refine tr_i (y := (nI (R i))) hRi.1 ?_
      refine tb_ne (tgt := 161) hx hb (by omega) (by omega) dX1_reckon_132 (by decide) (fun c2 => ?_) (fun c2 => ?_)
      · refine lv_lconst (v := lN 0) hx hb dX1_reckon_161 rfl ?_
        exact t1 0 (by rw [td_b_step R hi]; unfold td_t; rw [if_neg c2])
      · refine lv_aload_n hx hb dX1_reckon_135 rfl (lv_at hl 0 rfl) ?_
        refine yg_ways E S dX1_reckon_136 ?_
        refine lv_sipush (v := nI 4096) hx hb dX1_reckon_139 (by decide +kernel) ?_
        refine lv_iload_n hx hb dX1_reckon_142 rfl (lv_at hl 1 rfl) ?_
        refine lv_iconst (v := nI 1) hx hb dX1_reckon_143 (by decide +kernel) ?_
        refine tr_iadd hx hb dX1_reckon_144 ?_
        refine tr_imul hx hb dX1_reckon_145 ?_
        refine lv_iload_n hx hb dX1_reckon_146 rfl (lv_at hl 2 rfl) ?_
        refine lv_aload_n hx hb dX1_reckon_147 rfl (lv_at hl 0 rfl) ?_
        refine yg_row E S dX1_reckon_148 ?_
        refine lv_iload_n hx hb dX1_reckon_151 rfl (lv_at hl 1 rfl) ?_
        refine yl_row E S (by omega) dX1_reckon_152 ?_
        refine tr_i (y := (nI (R i))) hRi.1 ?_
        refine lv_iconst (v := -1) hx hb dX1_reckon_153 (by decide +kernel) ?_
        refine lv_ixor hx hb dX1_reckon_154 ?_
        refine tr_andn hx hb (by omega) c2 dX1_reckon_155 ?_
        refine tr_iadd hx hb dX1_reckon_156 ?_
        refine yl_ways E S (by omega) dX1_reckon_157 ?_
        refine tr_l (y := (lN (td_b R k (i + 1) (t ^^^ R i)))) (hG (i + 1) (by omega) (by omega) _ hx2) ?_
        refine lv_goto (tgt := 162) hx hb dX1_reckon_158 (by decide) ?_
        exact t1 _ (by rw [td_b_step R hi]; unfold td_t; rw [if_pos c2])
set_option maxHeartbeats 4000000 in
set_option maxRecDepth 100000 in
theorem yr2 (E : yE p m c s args cX1_reckon 3 dC dI ca A) {gS : Nat → Int32} (k n : Nat) (hk : k ≤ 24) (hn : n ≤ 12) (R : Nat → Nat) (hR : td_R R k n gR) : ∀ (i : Nat) (gW : Nat → Int64) (H : Heap) (locs : List Loc) (ls : Array Slot), i ≤ k → (∀ r, i ≤ r → r ≤ k → ∀ j, j < 2 ^ n → gW (4096 * r + j) = lN (td_b R k r j)) → yS dC dI A s a ca gR gW gO gS (nI k) (nI n) kk H locs → lv_has ls 3 [(0, .ref (a 0)), (1, .int (td_dn i))] → (∀ (gW : Nat → Int64) (H : Heap) (locs : List Loc) (ls : Array Slot), (∀ r, r ≤ k → ∀ j, j < 2 ^ n → gW (4096 * r + j) = lN (td_b R k r j)) → yS dC dI A s a ca gR gW gO gS (nI k) (nI n) kk H locs → lv_has ls 3 [(0, .ref (a 0))] → W p l e R0 s m args below meth c H locs cells slots Q (F0 m 176 ls [])) → W p l e R0 s m args below meth c H locs cells slots Q (F0 m 77 ls []) := by
  have hx := E.1
  have hb := E.2.1
  have h2 := td_2n hn
  intro i
  induction i with
  | zero =>
    intro gW H locs ls hi hG S hl kc
    refine lv_iload_n hx hb dX1_reckon_77 rfl (lv_at hl 1 rfl) ?_
    refine tb_lt_yes (tgt := 176) hx hb rfl dX1_reckon_78 (by decide) ?_
    exact kc gW H locs ls (fun r hr => hG r (Nat.zero_le r) hr) S (lv_sub hl [0] rfl)
  | succ i ih =>
    intro gW H locs ls hi hG S hl kc
    have hl : lv_has ls 3 [(0, .ref (a 0)), (1, .int (nI (i)))] := hl
    refine lv_iload_n hx hb dX1_reckon_77 rfl (lv_at hl 1 rfl) ?_
    refine tb_lt_no (tgt := 176) hx hb (by omega) dX1_reckon_78 (by decide) ?_
    refine lv_iconst (v := nI 0) hx hb dX1_reckon_81 (by decide +kernel) ?_
    refine lv_istore_n (lv' := [(2, .int (nI (0))), (0, .ref (a 0)), (1, .int (nI (i)))]) hx hb dX1_reckon_82 rfl hl (by decide) rfl (fun ls hl => ?_)
    refine yr3 E k n hk hn i (by omega) R hR (2 ^ n) 0 _ _ _ _ (by omega) hG (fun j hj => absurd hj (Nat.not_lt_zero j)) S (lv_sub hl [1, 2, 0] rfl) (fun gW H locs ls hG hF S hl => ?_)
    refine lv_iinc (v := (td_dn i)) (lv' := [(1, .int (td_dn i)), (0, .ref (a 0))]) hx hb dX1_reckon_170 hl (k := 1) rfl (td_dec i) (by decide) rfl (fun ls hl => ?_)
    refine lv_goto (tgt := 77) hx hb dX1_reckon_173 (by decide) ?_
    exact ih _ _ _ _ (by omega) (fun r h1 h3 => (Nat.lt_or_ge i r).elim (fun z => hG r z h3) (fun z => by rw [show r = i by omega]; exact hF)) S (lv_sub hl [1, 0] rfl) kc
set_option maxHeartbeats 4000000 in
set_option maxRecDepth 100000 in
theorem yr5 (E : yE p m c s args cX1_reckon 3 dC dI ca A) {gW : Nat → Int64} (k n : Nat) (hk : k ≤ 24) (hn : n ≤ 12) (mk q : Nat) (hq : q < k) (hmq : gR q = nI mk) (hmk : mk < 2 ^ n) (F : Nat → Nat) (hF0 : F 0 = 0) (hF25 : ∀ j, F j ≤ q ∨ F j = 25) : ∀ (i : Nat) (gS : Nat → Int32) (H : Heap) (locs : List Loc) (ls : Array Slot), i < 2 ^ n → (∀ j, j < 2 ^ n → gS j = if j < i + 1 then td_s (F j) else td_s (td_u mk F j)) → yS dC dI A s a ca gR gW gO gS (nI k) (nI n) kk H locs → lv_has ls 3 [(0, .ref (a 0)), (1, .int (nI (q))), (2, .int (nI (i)))] → (∀ (gS : Nat → Int32) (H : Heap) (locs : List Loc) (ls : Array Slot), (∀ j, j < 2 ^ n → gS j = td_s (td_u mk F j)) → yS dC dI A s a ca gR gW gO gS (nI k) (nI n) kk H locs → lv_has ls 3 [(0, .ref (a 0)), (1, .int (nI (q)))] → W p l e R0 s m args below meth c H locs cells slots Q (F0 m 298 ls [])) → W p l e R0 s m args below meth c H locs cells slots Q (F0 m 195 ls []) := by
  have hx := E.1
  have hb := E.2.1
  have h2 := td_2n hn
  intro i
  induction i with
  | zero =>
    intro gS H locs ls hi hF S hl kc
    refine lv_iload_n hx hb dX1_reckon_195 rfl (lv_at hl 2 rfl) ?_
    refine tb_if_le (tgt := 298) hx hb (by omega) dX1_reckon_196 (by decide) (fun c1 => ?_) (fun c1 => ?_)
    · refine kc gS H locs ls (fun j hj => ?_) S (lv_sub hl [0, 1] rfl)
      rw [hF j hj]
      by_cases z : j < 0 + 1
      · rw [if_pos z, show j = 0 by omega, td_u_zero mk F hF0]
      · rw [if_neg z]
    · exact absurd c1 (Nat.lt_irrefl 0)
  | succ i ih =>
    intro gS H locs ls hi hF S hl kc
    refine lv_iload_n hx hb dX1_reckon_195 rfl (lv_at hl 2 rfl) ?_
    refine tb_if_le (tgt := 298) hx hb (by omega) dX1_reckon_196 (by decide) (fun c0 => ?_) (fun c0 => ?_)
    · exact absurd c0 (Nat.succ_ne_zero i)
    · have ha : (i + 1) &&& mk ≤ i + 1 := Nat.and_le_left
      have hv := hF25 (i + 1)
      have hv2 := hF25 ((i + 1) ^^^ mk)
      have hxl : (i + 1) ^^^ mk < 2 ^ n := Nat.xor_lt_two_pow hi hmk
      have t0 : td_u mk F (i + 1) = F (i + 1) → W p l e R0 s m args below meth c H locs cells slots Q (F0 m 292 ls []) := by
        intro z
        refine lv_iinc (v := (nI (i))) (lv' := [(2, .int (nI (i))), (0, .ref (a 0)), (1, .int (nI (q)))]) hx hb dX1_reckon_292 hl (k := 2) rfl (td_dec1 i) (by decide) rfl (fun ls hl => ?_)
        refine lv_goto (tgt := 195) hx hb dX1_reckon_295 (by decide) ?_
        exact ih _ _ _ _ (by omega) (td_keepI (g := fun j => td_s (F j)) (g' := fun j => td_s (td_u mk F j)) hF (congrArg td_s z.symm)) S (lv_sub hl [1, 2, 0] rfl) kc
      refine lv_iload_n hx hb dX1_reckon_199 rfl (lv_at hl 2 rfl) ?_
      refine lv_aload_n hx hb dX1_reckon_200 rfl (lv_at hl 0 rfl) ?_
      refine yg_row E S dX1_reckon_201 ?_
      refine lv_iload_n hx hb dX1_reckon_204 rfl (lv_at hl 1 rfl) ?_
      refine yl_row E S (by omega) dX1_reckon_205 ?_
      refine tr_i (y := (nI (mk))) hmq ?_
      refine tr_iand hx hb dX1_reckon_206 ?_
      refine lv_aload_n hx hb dX1_reckon_207 rfl (lv_at hl 0 rfl) ?_
      refine yg_row E S dX1_reckon_208 ?_
      refine lv_iload_n hx hb dX1_reckon_211 rfl (lv_at hl 1 rfl) ?_
      refine yl_row E S (by omega) dX1_reckon_212 ?_
      refine tr_i (y := (nI (mk))) hmq ?_
      refine tb_ne (tgt := 292) hx hb (by omega) (by omega) dX1_reckon_213 (by decide) (fun c1 => ?_) (fun c1 => ?_)
      · exact t0 (td_u_out (fun z => c1 z.1))
      · have hle := td_xle c1
        have e2 : gS ((i + 1) ^^^ mk) = td_s (F ((i + 1) ^^^ mk)) := by rw [hF _ hxl, if_pos (by omega)]
        have e1 : gS (i + 1) = td_s (F (i + 1)) := by rw [hF _ hi, if_pos (by omega)]
        refine lv_aload_n hx hb dX1_reckon_216 rfl (lv_at hl 0 rfl) ?_
        refine yg_size E S dX1_reckon_217 ?_
        refine lv_iload_n hx hb dX1_reckon_220 rfl (lv_at hl 2 rfl) ?_
        refine lv_aload_n hx hb dX1_reckon_221 rfl (lv_at hl 0 rfl) ?_
        refine yg_row E S dX1_reckon_222 ?_
        refine lv_iload_n hx hb dX1_reckon_225 rfl (lv_at hl 1 rfl) ?_
        refine yl_row E S (by omega) dX1_reckon_226 ?_
        refine tr_i (y := (nI (mk))) hmq ?_
        refine lv_iconst (v := -1) hx hb dX1_reckon_227 (by decide +kernel) ?_
        refine lv_ixor hx hb dX1_reckon_228 ?_
        refine tr_andn hx hb (by omega) c1 dX1_reckon_229 ?_
        by_cases h25 : F ((i + 1) ^^^ mk) = 25
        · refine yl_size E S (by omega) dX1_reckon_230 ?_
          refine tr_i (y := (-1)) (e2.trans (td_s_25 h25)) ?_
          refine tb_lt_yes (tgt := 292) hx hb rfl dX1_reckon_231 (by decide) ?_
          exact t0 (td_u_out (fun z => absurd z.2 (by omega)))
        · refine yl_size E S (by omega) dX1_reckon_230 ?_
          refine tr_i (y := (nI (F ((i + 1) ^^^ mk)))) (e2.trans (td_s_n h25)) ?_
          refine tb_lt_no (tgt := 292) hx hb (by omega) dX1_reckon_231 (by decide) ?_
          have t1 : F ((i + 1) ^^^ mk) + 1 < F (i + 1) → W p l e R0 s m args below meth c H locs cells slots Q (F0 m 269 ls []) := by
            intro z
            refine lv_aload_n hx hb dX1_reckon_269 rfl (lv_at hl 0 rfl) ?_
            refine yg_size E S dX1_reckon_270 ?_
            refine lv_iload_n hx hb dX1_reckon_273 rfl (lv_at hl 2 rfl) ?_
            refine lv_aload_n hx hb dX1_reckon_274 rfl (lv_at hl 0 rfl) ?_
            refine yg_size E S dX1_reckon_275 ?_
            refine lv_iload_n hx hb dX1_reckon_278 rfl (lv_at hl 2 rfl) ?_
            refine lv_aload_n hx hb dX1_reckon_279 rfl (lv_at hl 0 rfl) ?_
            refine yg_row E S dX1_reckon_280 ?_
            refine lv_iload_n hx hb dX1_reckon_283 rfl (lv_at hl 1 rfl) ?_
            refine yl_row E S (by omega) dX1_reckon_284 ?_
            refine tr_i (y := (nI (mk))) hmq ?_
            refine lv_iconst (v := -1) hx hb dX1_reckon_285 (by decide +kernel) ?_
            refine lv_ixor hx hb dX1_reckon_286 ?_
            refine tr_andn hx hb (by omega) c1 dX1_reckon_287 ?_
            refine yl_size E S (by omega) dX1_reckon_288 ?_
            refine tr_i (y := (nI (F ((i + 1) ^^^ mk)))) (e2.trans (td_s_n h25)) ?_
            refine lv_iconst (v := nI 1) hx hb dX1_reckon_289 (by decide +kernel) ?_
            refine tr_iadd hx hb dX1_reckon_290 ?_
            refine ys_size E S (by omega) dX1_reckon_291 (fun H locs S => ?_)
            refine lv_iinc (v := (nI (i))) (lv' := [(2, .int (nI (i))), (0, .ref (a 0)), (1, .int (nI (q)))]) hx hb dX1_reckon_292 hl (k := 2) rfl (td_dec1 i) (by decide) rfl (fun ls hl => ?_)
            refine lv_goto (tgt := 195) hx hb dX1_reckon_295 (by decide) ?_
            exact ih _ _ _ _ (by omega) (td_descI (g := fun j => td_s (F j)) (g' := fun j => td_s (td_u mk F j)) hF (by show _ = td_s (td_u mk F (i + 1)); rw [td_u_in c1 z, td_s_n (by omega)])) S (lv_sub hl [1, 2, 0] rfl) kc
          refine lv_aload_n hx hb dX1_reckon_234 rfl (lv_at hl 0 rfl) ?_
          refine yg_size E S dX1_reckon_235 ?_
          refine lv_iload_n hx hb dX1_reckon_238 rfl (lv_at hl 2 rfl) ?_
          by_cases g25 : F (i + 1) = 25
          · refine yl_size E S (by omega) dX1_reckon_239 ?_
            refine tr_i (y := (-1)) (e1.trans (td_s_25 g25)) ?_
            refine tb_lt_yes (tgt := 269) hx hb rfl dX1_reckon_240 (by decide) ?_
            exact t1 (by omega)
          · refine yl_size E S (by omega) dX1_reckon_239 ?_
            refine tr_i (y := (nI (F (i + 1)))) (e1.trans (td_s_n g25)) ?_
            refine tb_lt_no (tgt := 269) hx hb (by omega) dX1_reckon_240 (by decide) ?_
            refine lv_aload_n hx hb dX1_reckon_243 rfl (lv_at hl 0 rfl) ?_
            refine yg_size E S dX1_reckon_244 ?_
            refine lv_iload_n hx hb dX1_reckon_247 rfl (lv_at hl 2 rfl) ?_
            refine lv_aload_n hx hb dX1_reckon_248 rfl (lv_at hl 0 rfl) ?_
            refine yg_row E S dX1_reckon_249 ?_
            refine lv_iload_n hx hb dX1_reckon_252 rfl (lv_at hl 1 rfl) ?_
            refine yl_row E S (by omega) dX1_reckon_253 ?_
            refine tr_i (y := (nI (mk))) hmq ?_
            refine lv_iconst (v := -1) hx hb dX1_reckon_254 (by decide +kernel) ?_
            refine lv_ixor hx hb dX1_reckon_255 ?_
            refine tr_andn hx hb (by omega) c1 dX1_reckon_256 ?_
            refine yl_size E S (by omega) dX1_reckon_257 ?_
            refine tr_i (y := (nI (F ((i + 1) ^^^ mk)))) (e2.trans (td_s_n h25)) ?_
            refine lv_iconst (v := nI 1) hx hb dX1_reckon_258 (by decide +kernel) ?_
            refine tr_iadd hx hb dX1_reckon_259 ?_
            refine lv_aload_n hx hb dX1_reckon_260 rfl (lv_at hl 0 rfl) ?_
            refine yg_size E S dX1_reckon_261 ?_
            refine lv_iload_n hx hb dX1_reckon_264 rfl (lv_at hl 2 rfl) ?_
            refine yl_size E S (by omega) dX1_reckon_265 ?_
            refine tr_i (y := (nI (F (i + 1)))) (e1.trans (td_s_n g25)) ?_
            refine tb_ge (tgt := 292) hx hb (by omega) (by omega) dX1_reckon_266 (by decide) (fun c3 => ?_) (fun c3 => ?_)
            · exact t0 (td_u_out (fun z => absurd z.2 (by omega)))
            · exact t1 c3
set_option maxHeartbeats 4000000 in
set_option maxRecDepth 100000 in
theorem yr4 (E : yE p m c s args cX1_reckon 3 dC dI ca A) {gW : Nat → Int64} (k n : Nat) (hk : k ≤ 24) (hn : n ≤ 12) (R : Nat → Nat) (hR : td_R R k n gR) : ∀ (d q : Nat) (gS : Nat → Int32) (H : Heap) (locs : List Loc) (ls : Array Slot), q + d = k → (∀ j, j < 2 ^ n → gS j = td_s (td_l R q j)) → yS dC dI A s a ca gR gW gO gS (nI k) (nI n) kk H locs → lv_has ls 3 [(0, .ref (a 0)), (1, .int (nI (q)))] → (∀ (gS : Nat → Int32) (H : Heap) (locs : List Loc) (ls : Array Slot), (∀ j, j < 2 ^ n → gS j = td_s (td_l R k j)) → yS dC dI A s a ca gR gW gO gS (nI k) (nI n) kk H locs → W p l e R0 s m args below meth c H locs cells slots Q (F0 m 304 ls [])) → W p l e R0 s m args below meth c H locs cells slots Q (F0 m 178 ls []) := by
  have hx := E.1
  have hb := E.2.1
  have h2 := td_2n hn
  intro d
  induction d with
  | zero =>
    intro q gS H locs ls hq hF S hl kc
    refine lv_iload_n hx hb dX1_reckon_178 rfl (lv_at hl 1 rfl) ?_
    refine lv_aload_n hx hb dX1_reckon_179 rfl (lv_at hl 0 rfl) ?_
    refine yg_rows E S dX1_reckon_180 ?_
    refine tb_ge (tgt := 304) hx hb (by omega) (by omega) dX1_reckon_183 (by decide) (fun c1 => ?_) (fun c1 => ?_)
    · obtain rfl : q = k := by omega
      exact kc gS H locs ls hF S
    · exact absurd c1 (by omega)
  | succ d ih =>
    intro q gS H locs ls hq hF S hl kc
    refine lv_iload_n hx hb dX1_reckon_178 rfl (lv_at hl 1 rfl) ?_
    refine lv_aload_n hx hb dX1_reckon_179 rfl (lv_at hl 0 rfl) ?_
    refine yg_rows E S dX1_reckon_180 ?_
    refine tb_ge (tgt := 304) hx hb (by omega) (by omega) dX1_reckon_183 (by decide) (fun c1 => ?_) (fun c1 => ?_)
    · exact absurd c1 (by omega)
    · have hRq := hR q (by omega)
      refine lv_iconst (v := nI 1) hx hb dX1_reckon_186 (by decide +kernel) ?_
      refine lv_aload_n hx hb dX1_reckon_187 rfl (lv_at hl 0 rfl) ?_
      refine yg_n E S dX1_reckon_188 ?_
      refine tr_shl hx hb (by omega) dX1_reckon_191 ?_
      refine lv_iconst (v := nI 1) hx hb dX1_reckon_192 (by decide +kernel) ?_
      refine tr_isub hx hb (by omega) dX1_reckon_193 ?_
      refine lv_istore_n (lv' := [(2, .int (nI ((2 ^ (n)) - (1)))), (0, .ref (a 0)), (1, .int (nI (q)))]) hx hb dX1_reckon_194 rfl hl (by decide) rfl (fun ls hl => ?_)
      refine yr5 E k n hk hn (R q) q (by omega) hRq.1 hRq.2 (td_l R q) (td_l_zero R q) (td_l_le R q) (2 ^ n - 1) _ _ _ _ (by omega) (fun j hj => by rw [hF j hj, if_pos (by omega)]) S (lv_sub hl [1, 2, 0] rfl) (fun gS H locs ls hF S hl => ?_)
      refine lv_iinc (v := (nI (q + 1))) (lv' := [(1, .int (nI (q + 1))), (0, .ref (a 0))]) hx hb dX1_reckon_298 hl (k := 1) rfl (td_inc _) (by decide) rfl (fun ls hl => ?_)
      refine lv_goto (tgt := 178) hx hb dX1_reckon_301 (by decide) ?_
      exact ih (q + 1) _ _ _ _ (by omega) hF S (lv_sub hl [1, 0] rfl) kc
end YRECK
set_option maxHeartbeats 4000000 in
set_option maxRecDepth 100000 in
theorem my_reckon (l : Launch) (dC : Nat → ClassId) (dI : Nat → Nat → Nat) (a : Nat → Nat) (ca : Nat → ClassId) (sz : Nat) (gR : Nat → Int32) (gW gO : Nat → Int64) (gS : Nat → Int32) (R : Nat → Nat) (n k kb : Nat) (hn : n ≤ 12) (hk : k ≤ 24) (hR : td_R R k n gR) (hkb : kb < 2) (hv : kb = 1 → td_ok R k (2 ^ n) gW gS) : yMv l yX1_reckon cX1_reckon 3 none ({ frames := 0, cells := 0, slots := 0, locals := 0 }) [.ref (a 0)] dC dI a ca sz gR gW gO gS ((nI (k))) ((nI (n))) ((nI (kb))) (fun (u : yU) => ∃ (gW' : Nat → Int64) (gS' : Nat → Int32), u = (gR, gW', gO, gS', nI k, nI n, nI 1) ∧ td_ok R k (2 ^ n) gW' gS') := by
  refine y_enter [.ref (a 0)] (Nat.le_of_ble_eq_true rfl) (by decide) rfl (fun A => va_Qv (fun (u : yU) => ∃ (gW' : Nat → Int64) (gS' : Nat → Int32), u = (gR, gW', gO, gS', nI k, nI n, nI 1) ∧ td_ok R k (2 ^ n) gW' gS') (yB dC dI A a ca) A) ?_
  intro p e s m below meth c A ls E hr hlocks S hl
  have hx := E.1
  have hb := E.2.1
  have hl : lv_has ls 3 [(0, .ref (a 0))] := hl
  have h2 := td_2n hn
  refine lv_aload_n hx hb dX1_reckon_0 rfl (lv_at hl 0 rfl) ?_
  refine yg_known E S dX1_reckon_1 ?_
  refine tb_if_eq (tgt := 8) hx hb (by omega) dX1_reckon_4 (by decide) (fun c1 => ?_) (fun c1 => ?_)
  · refine lv_aload_n hx hb dX1_reckon_8 rfl (lv_at hl 0 rfl) ?_
    refine lv_iconst (v := nI 1) hx hb dX1_reckon_9 (by decide +kernel) ?_
    refine yp_known E S (by decide +kernel) (by decide +kernel) dX1_reckon_10 (fun H locs S => ?_)
    refine lv_iconst (v := nI 0) hx hb dX1_reckon_13 (by decide +kernel) ?_
    refine lv_istore_n (lv' := [(1, .int (nI (0))), (0, .ref (a 0))]) hx hb dX1_reckon_14 rfl hl (by decide) rfl (fun ls hl => ?_)
    refine yr1 E k n hk hn R (2 ^ n) 0 gW gS H locs ls (by omega) (fun j hj => absurd hj (Nat.not_lt_zero j)) (fun j hj => absurd hj (Nat.not_lt_zero j)) S (lv_sub hl [1, 0] rfl) (fun gW gS H locs ls hF hG S hl => ?_)
    refine lv_aload_n hx hb dX1_reckon_70 rfl (lv_at hl 0 rfl) ?_
    refine yg_rows E S dX1_reckon_71 ?_
    refine lv_iconst (v := nI 1) hx hb dX1_reckon_74 (by decide +kernel) ?_
    refine lv_isub hx hb dX1_reckon_75 ?_
    refine tr_i (y := td_dn k) (td_sub1 k) ?_
    refine lv_istore_n (lv' := [(1, .int (td_dn k)), (0, .ref (a 0))]) hx hb dX1_reckon_76 rfl hl (by decide) rfl (fun ls hl => ?_)
    refine yr2 E k n hk hn R hR k gW H locs ls (Nat.le_refl k) (fun r h1 h3 => by rw [show r = k by omega, td_b_self]; exact hF) S (lv_sub hl [1, 0] rfl) (fun gW H locs ls hW S hl => ?_)
    refine lv_iconst (v := nI 0) hx hb dX1_reckon_176 (by decide +kernel) ?_
    refine lv_istore_n (lv' := [(1, .int (nI (0))), (0, .ref (a 0))]) hx hb dX1_reckon_177 rfl hl (by decide) rfl (fun ls hl => ?_)
    refine yr4 E k n hk hn R hR k 0 gS H locs ls (by omega) hG S (lv_sub hl [1, 0] rfl) (fun gS H locs ls hG S => ?_)
    exact y_vret E hr hlocks S ⟨gW, gS, rfl, hW, hG⟩ dX1_reckon_304
  · obtain rfl : kb = 1 := by omega
    exact y_vret E hr hlocks S ⟨gW, gS, rfl, hv rfl⟩ dX1_reckon_7
end
section
/-! TileDeskModel.count, least, first, with -/
set_option maxHeartbeats 4000000 in
set_option maxRecDepth 100000 in
theorem my_count (l : Launch) (dC : Nat → ClassId) (dI : Nat → Nat → Nat) (a : Nat → Nat) (ca : Nat → ClassId) (sz : Nat) (gR : Nat → Int32) (gW gO : Nat → Int64) (gS : Nat → Int32) (R : Nat → Nat) (n k kb : Nat) (hn : n ≤ 12) (hk : k ≤ 24) (hR : td_R R k n gR) (hkb : kb < 2) (hv : kb = 1 → td_ok R k (2 ^ n) gW gS) : yMl l yX1_count cX1_count 1 (some .long) ({ frames := 1, cells := 0, slots := 0, locals := 22 }) [.ref (a 0)] dC dI a ca sz gR gW gO gS ((nI (k))) ((nI (n))) ((nI (kb))) (fun (r : Int64) (u : yU) => r = lN (td_b R k 0 (2 ^ n - 1)) ∧ ∃ (gW' : Nat → Int64) (gS' : Nat → Int32), u = (gR, gW', gO, gS', nI k, nI n, nI 1) ∧ td_ok R k (2 ^ n) gW' gS') := by
  refine y_enter [.ref (a 0)] (Nat.le_of_ble_eq_true rfl) (by decide) rfl (fun A => va_Ql (fun (r : Int64) (u : yU) => r = lN (td_b R k 0 (2 ^ n - 1)) ∧ ∃ (gW' : Nat → Int64) (gS' : Nat → Int32), u = (gR, gW', gO, gS', nI k, nI n, nI 1) ∧ td_ok R k (2 ^ n) gW' gS') (yB dC dI A a ca) A) ?_
  intro p e s m below meth c A ls E hr hlocks S hl
  have hx := E.1
  have hb := E.2.1
  have hl : lv_has ls 1 [(0, .ref (a 0))] := hl
  have h2 := td_2n hn
  refine lv_aload_n hx hb dX1_count_0 rfl (lv_at hl 0 rfl) ?_
  refine yc_v E S (fun sz => my_reckon l dC dI a ca sz gR gW gO gS R n k kb hn hk hR hkb hv) q120 q122 qs2 q123 rfl rfl (by decide +kernel) ⟨Nat.le_of_ble_eq_true rfl, Nat.le_of_ble_eq_true rfl⟩ rfl hl.1 rfl (Nat.le_of_ble_eq_true rfl) ⟨Nat.zero_le _, Nat.zero_le _⟩ dX1_count_1 (fun u H locs hu S => ?_)
  obtain ⟨gW', gS', rfl, hok⟩ := hu
  have S : yS dC dI A s a ca gR gW' gO gS' (nI k) (nI n) (nI 1) H locs := S
  have hok0 : ∀ j, j < 2 ^ n → gW' j = lN (td_b R k 0 j) := fun j hj => by have z := hok.1 0 (Nat.zero_le k) j hj; rw [Nat.mul_zero, Nat.zero_add] at z; exact z
  refine lv_aload_n hx hb dX1_count_4 rfl (lv_at hl 0 rfl) ?_
  refine yg_ways E S dX1_count_5 ?_
  refine lv_iconst (v := nI 1) hx hb dX1_count_8 (by decide +kernel) ?_
  refine lv_aload_n hx hb dX1_count_9 rfl (lv_at hl 0 rfl) ?_
  refine yg_n E S dX1_count_10 ?_
  refine tr_shl hx hb (by omega) dX1_count_13 ?_
  refine lv_iconst (v := nI 1) hx hb dX1_count_14 (by decide +kernel) ?_
  refine tr_isub hx hb (by omega) dX1_count_15 ?_
  refine yl_ways E S (by omega) dX1_count_16 ?_
  refine tr_l (y := (lN (td_b R k 0 (2 ^ n - 1)))) (hok0 _ (by omega)) ?_
  exact y_lret E hr hlocks S ⟨rfl, gW', gS', rfl, hok⟩ dX1_count_17
set_option maxHeartbeats 4000000 in
set_option maxRecDepth 100000 in
theorem my_least (l : Launch) (dC : Nat → ClassId) (dI : Nat → Nat → Nat) (a : Nat → Nat) (ca : Nat → ClassId) (sz : Nat) (gR : Nat → Int32) (gW gO : Nat → Int64) (gS : Nat → Int32) (R : Nat → Nat) (n k kb : Nat) (hn : n ≤ 12) (hk : k ≤ 24) (hR : td_R R k n gR) (hkb : kb < 2) (hv : kb = 1 → td_ok R k (2 ^ n) gW gS) : yMi l yX1_least cX1_least 1 (some .int) ({ frames := 1, cells := 0, slots := 0, locals := 22 }) [.ref (a 0)] dC dI a ca sz gR gW gO gS ((nI (k))) ((nI (n))) ((nI (kb))) (fun (r : Int32) (u : yU) => r = td_s (td_l R k (2 ^ n - 1)) ∧ ∃ (gW' : Nat → Int64) (gS' : Nat → Int32), u = (gR, gW', gO, gS', nI k, nI n, nI 1) ∧ td_ok R k (2 ^ n) gW' gS') := by
  refine y_enter [.ref (a 0)] (Nat.le_of_ble_eq_true rfl) (by decide) rfl (fun A => va_Qi (fun (r : Int32) (u : yU) => r = td_s (td_l R k (2 ^ n - 1)) ∧ ∃ (gW' : Nat → Int64) (gS' : Nat → Int32), u = (gR, gW', gO, gS', nI k, nI n, nI 1) ∧ td_ok R k (2 ^ n) gW' gS') (yB dC dI A a ca) A) ?_
  intro p e s m below meth c A ls E hr hlocks S hl
  have hx := E.1
  have hb := E.2.1
  have hl : lv_has ls 1 [(0, .ref (a 0))] := hl
  have h2 := td_2n hn
  refine lv_aload_n hx hb dX1_least_0 rfl (lv_at hl 0 rfl) ?_
  refine yc_v E S (fun sz => my_reckon l dC dI a ca sz gR gW gO gS R n k kb hn hk hR hkb hv) q120 q122 qs2 q123 rfl rfl (by decide +kernel) ⟨Nat.le_of_ble_eq_true rfl, Nat.le_of_ble_eq_true rfl⟩ rfl hl.1 rfl (Nat.le_of_ble_eq_true rfl) ⟨Nat.zero_le _, Nat.zero_le _⟩ dX1_least_1 (fun u H locs hu S => ?_)
  obtain ⟨gW', gS', rfl, hok⟩ := hu
  have S : yS dC dI A s a ca gR gW' gO gS' (nI k) (nI n) (nI 1) H locs := S
  have hok0 : ∀ j, j < 2 ^ n → gW' j = lN (td_b R k 0 j) := fun j hj => by have z := hok.1 0 (Nat.zero_le k) j hj; rw [Nat.mul_zero, Nat.zero_add] at z; exact z
  refine lv_aload_n hx hb dX1_least_4 rfl (lv_at hl 0 rfl) ?_
  refine yg_size E S dX1_least_5 ?_
  refine lv_iconst (v := nI 1) hx hb dX1_least_8 (by decide +kernel) ?_
  refine lv_aload_n hx hb dX1_least_9 rfl (lv_at hl 0 rfl) ?_
  refine yg_n E S dX1_least_10 ?_
  refine tr_shl hx hb (by omega) dX1_least_13 ?_
  refine lv_iconst (v := nI 1) hx hb dX1_least_14 (by decide +kernel) ?_
  refine tr_isub hx hb (by omega) dX1_least_15 ?_
  refine yl_size E S (by omega) dX1_least_16 ?_
  refine tr_i (y := (td_s (td_l R k (2 ^ n - 1)))) (hok.2 _ (by omega)) ?_
  exact y_iret E hr hlocks S ⟨rfl, gW', gS', rfl, hok⟩ dX1_least_17
section YFIRST
variable {p : Program} {l : Launch} {e : Env} {R0 : Room} {s : State} {m : MethodId} {args : Array Value} {below : List Frame} {meth : Method} {c : Code} {cells slots : Nat} {Q : State → Prop}
variable {dC : Nat → ClassId} {dI : Nat → Nat → Nat} {A : Nat → Prop} {a : Nat → Nat} {ca : Nat → ClassId}
variable {gR : Nat → Int32} {gO : Nat → Int64} {kk : Int32}
set_option maxHeartbeats 4000000 in
set_option maxRecDepth 100000 in
theorem yf1 (E : yE p m c s args cX1_first 4 dC dI ca A) {gW : Nat → Int64} {gS : Nat → Int32} (k n : Nat) (hk : k ≤ 24) (hn : n ≤ 12) (R : Nat → Nat) (hR : td_R R k n gR) (hok : td_ok R k (2 ^ n) gW gS) {H : Heap} {locs : List Loc} (S : yS dC dI A s a ca gR gW gO gS (nI k) (nI n) kk H locs) (kc : ∀ (ls : Array Slot), W p l e R0 s m args below meth c H locs cells slots Q (F0 m 107 ls [.int (nI (td_g R k (2 ^ n - 1) k).2)])) : ∀ (d q : Nat) (ls : Array Slot), q + d = k → lv_has ls 4 [(0, .ref (a 0)), (1, .int (nI ((td_g R k (2 ^ n - 1) q).1))), (2, .int (nI ((td_g R k (2 ^ n - 1) q).2))), (3, .int (nI (q)))] → W p l e R0 s m args below meth c H locs cells slots Q (F0 m 30 ls []) := by
  have hx := E.1
  have hb := E.2.1
  have h2 := td_2n hn
  intro d
  induction d with
  | zero =>
    intro q ls hq hl
    refine lv_iload_n hx hb dX1_first_30 rfl (lv_at hl 3 rfl) ?_
    refine lv_aload_n hx hb dX1_first_31 rfl (lv_at hl 0 rfl) ?_
    refine yg_rows E S dX1_first_32 ?_
    refine tb_ge (tgt := 106) hx hb (by omega) (by omega) dX1_first_35 (by decide) (fun c1 => ?_) (fun c1 => ?_)
    · obtain rfl : q = k := by omega
      refine lv_iload_n hx hb dX1_first_106 rfl (lv_at hl 2 rfl) ?_
      exact kc ls
    · exact absurd c1 (by omega)
  | succ d ih =>
    intro q ls hq hl
    refine lv_iload_n hx hb dX1_first_30 rfl (lv_at hl 3 rfl) ?_
    refine lv_aload_n hx hb dX1_first_31 rfl (lv_at hl 0 rfl) ?_
    refine yg_rows E S dX1_first_32 ?_
    refine tb_ge (tgt := 106) hx hb (by omega) (by omega) dX1_first_35 (by decide) (fun c1 => ?_) (fun c1 => ?_)
    · exact absurd c1 (by omega)
    · have hRq := hR q (by omega)
      have hm := hRq.2
      have hset : (td_g R k (2 ^ n - 1) q).1 < 2 ^ n := td_g_lt R k n q (fun j hj => (hR j (by omega)).2)
      have hx2 : (td_g R k (2 ^ n - 1) q).1 ^^^ R q < 2 ^ n := Nat.xor_lt_two_pow hset hm
      have ha : (td_g R k (2 ^ n - 1) q).1 &&& R q ≤ (td_g R k (2 ^ n - 1) q).1 := Nat.and_le_left
      have t0 : td_g R k (2 ^ n - 1) (q + 1) = td_g R k (2 ^ n - 1) q → W p l e R0 s m args below meth c H locs cells slots Q (F0 m 100 ls []) := by
        intro z
        rw [← z] at hl
        refine lv_iinc (v := (nI (q + 1))) (lv' := [(3, .int (nI (q + 1))), (0, .ref (a 0)), (1, .int (nI ((td_g R k (2 ^ n - 1) (q + 1)).1))), (2, .int (nI ((td_g R k (2 ^ n - 1) (q + 1)).2)))]) hx hb dX1_first_100 hl (k := 3) rfl (td_inc _) (by decide) rfl (fun ls hl => ?_)
        refine lv_goto (tgt := 30) hx hb dX1_first_103 (by decide) ?_
        exact ih (q + 1) ls (by omega) (lv_sub hl [1, 2, 3, 0] rfl)
      refine lv_iload_n hx hb dX1_first_38 rfl (lv_at hl 1 rfl) ?_
      refine lv_aload_n hx hb dX1_first_39 rfl (lv_at hl 0 rfl) ?_
      refine yg_row E S dX1_first_40 ?_
      refine lv_iload_n hx hb dX1_first_43 rfl (lv_at hl 3 rfl) ?_
      refine yl_row E S (by omega) dX1_first_44 ?_
      refine tr_i (y := (nI (R q))) hRq.1 ?_
      refine tr_iand hx hb dX1_first_45 ?_
      refine lv_aload_n hx hb dX1_first_46 rfl (lv_at hl 0 rfl) ?_
      refine yg_row E S dX1_first_47 ?_
      refine lv_iload_n hx hb dX1_first_50 rfl (lv_at hl 3 rfl) ?_
      refine yl_row E S (by omega) dX1_first_51 ?_
      refine tr_i (y := (nI (R q))) hRq.1 ?_
      refine tb_ne (tgt := 100) hx hb (by omega) (by omega) dX1_first_52 (by decide) (fun c2 => ?_) (fun c2 => ?_)
      · exact t0 (td_g_no (fun z => c2 z.1))
      · refine lv_aload_n hx hb dX1_first_55 rfl (lv_at hl 0 rfl) ?_
        refine yg_ways E S dX1_first_56 ?_
        refine lv_sipush (v := nI 4096) hx hb dX1_first_59 (by decide +kernel) ?_
        refine lv_iload_n hx hb dX1_first_62 rfl (lv_at hl 3 rfl) ?_
        refine lv_iconst (v := nI 1) hx hb dX1_first_63 (by decide +kernel) ?_
        refine tr_iadd hx hb dX1_first_64 ?_
        refine tr_imul hx hb dX1_first_65 ?_
        refine lv_iload_n hx hb dX1_first_66 rfl (lv_at hl 1 rfl) ?_
        refine lv_aload_n hx hb dX1_first_67 rfl (lv_at hl 0 rfl) ?_
        refine yg_row E S dX1_first_68 ?_
        refine lv_iload_n hx hb dX1_first_71 rfl (lv_at hl 3 rfl) ?_
        refine yl_row E S (by omega) dX1_first_72 ?_
        refine tr_i (y := (nI (R q))) hRq.1 ?_
        refine lv_iconst (v := -1) hx hb dX1_first_73 (by decide +kernel) ?_
        refine lv_ixor hx hb dX1_first_74 ?_
        refine tr_andn hx hb (by omega) c2 dX1_first_75 ?_
        refine tr_iadd hx hb dX1_first_76 ?_
        refine yl_ways E S (by omega) dX1_first_77 ?_
        refine tr_l (y := (lN (td_b R k (q + 1) ((td_g R k (2 ^ n - 1) q).1 ^^^ R q)))) (hok.1 (q + 1) (by omega) _ hx2) ?_
        refine lv_lconst (v := lN 0) hx hb dX1_first_78 rfl ?_
        refine tr_lcmp0 hx hb (td_b_lt R hk _ _) dX1_first_79 ?_
        refine tb_if_le (tgt := 100) hx hb (by split <;> decide) dX1_first_80 (by decide) (fun c3 => ?_) (fun c3 => ?_)
        · exact t0 (td_g_no (fun z => by rw [if_neg (by have := z.2; omega)] at c3; exact absurd c3 (by decide)))
        · have hp : 0 < td_b R k (q + 1) ((td_g R k (2 ^ n - 1) q).1 ^^^ R q) := Nat.pos_of_ne_zero (fun z => by rw [if_pos z] at c3; exact absurd c3 (by decide))
          have hyes := td_g_yes c2 hp
          have e1 : (td_g R k (2 ^ n - 1) q).1 ^^^ R q = (td_g R k (2 ^ n - 1) (q + 1)).1 := (congrArg Prod.fst hyes).symm
          have e2 : (td_g R k (2 ^ n - 1) q).2 ||| 2 ^ q = (td_g R k (2 ^ n - 1) (q + 1)).2 := (congrArg Prod.snd hyes).symm
          refine lv_iload_n hx hb dX1_first_83 rfl (lv_at hl 2 rfl) ?_
          refine lv_iconst (v := nI 1) hx hb dX1_first_84 (by decide +kernel) ?_
          refine lv_iload_n hx hb dX1_first_85 rfl (lv_at hl 3 rfl) ?_
          refine tr_shl hx hb (by omega) dX1_first_86 ?_
          refine tr_ior hx hb dX1_first_87 ?_
          refine tr_i (y := (nI ((td_g R k (2 ^ n - 1) (q + 1)).2))) (congrArg nI e2) ?_
          refine lv_istore_n (lv' := [(2, .int (nI ((td_g R k (2 ^ n - 1) (q + 1)).2))), (0, .ref (a 0)), (1, .int (nI ((td_g R k (2 ^ n - 1) q).1))), (3, .int (nI (q)))]) hx hb dX1_first_88 rfl hl (by decide) rfl (fun ls hl => ?_)
          refine lv_iload_n hx hb dX1_first_89 rfl (lv_at hl 2 rfl) ?_
          refine lv_aload_n hx hb dX1_first_90 rfl (lv_at hl 1 rfl) ?_
          refine yg_row E S dX1_first_91 ?_
          refine lv_iload_n hx hb dX1_first_94 rfl (lv_at hl 3 rfl) ?_
          refine yl_row E S (by omega) dX1_first_95 ?_
          refine tr_i (y := (nI (R q))) hRq.1 ?_
          refine lv_iconst (v := -1) hx hb dX1_first_96 (by decide +kernel) ?_
          refine lv_ixor hx hb dX1_first_97 ?_
          refine tr_andn hx hb (by omega) c2 dX1_first_98 ?_
          refine tr_i (y := (nI ((td_g R k (2 ^ n - 1) (q + 1)).1))) (congrArg nI e1) ?_
          refine lv_istore_n (lv' := [(1, .int (nI ((td_g R k (2 ^ n - 1) (q + 1)).1))), (2, .int (nI ((td_g R k (2 ^ n - 1) (q + 1)).2))), (0, .ref (a 0)), (3, .int (nI (q)))]) hx hb dX1_first_99 rfl hl (by decide) rfl (fun ls hl => ?_)
          refine lv_iinc (v := (nI (q + 1))) (lv' := [(3, .int (nI (q + 1))), (1, .int (nI ((td_g R k (2 ^ n - 1) (q + 1)).1))), (2, .int (nI ((td_g R k (2 ^ n - 1) (q + 1)).2))), (0, .ref (a 0))]) hx hb dX1_first_100 hl (k := 3) rfl (td_inc _) (by decide) rfl (fun ls hl => ?_)
          refine lv_goto (tgt := 30) hx hb dX1_first_103 (by decide) ?_
          exact ih (q + 1) ls (by omega) (lv_sub hl [3, 1, 2, 0] rfl)
end YFIRST
set_option maxHeartbeats 4000000 in
set_option maxRecDepth 100000 in
theorem my_first (l : Launch) (dC : Nat → ClassId) (dI : Nat → Nat → Nat) (a : Nat → Nat) (ca : Nat → ClassId) (sz : Nat) (gR : Nat → Int32) (gW gO : Nat → Int64) (gS : Nat → Int32) (R : Nat → Nat) (n k kb : Nat) (hn : n ≤ 12) (hk : k ≤ 24) (hR : td_R R k n gR) (hkb : kb < 2) (hv : kb = 1 → td_ok R k (2 ^ n) gW gS) : yMi l yX1_first cX1_first 4 (some .int) ({ frames := 1, cells := 0, slots := 0, locals := 22 }) [.ref (a 0)] dC dI a ca sz gR gW gO gS ((nI (k))) ((nI (n))) ((nI (kb))) (fun (r : Int32) (u : yU) => r = td_f R k (2 ^ n - 1) ∧ ∃ (gW' : Nat → Int64) (gS' : Nat → Int32), u = (gR, gW', gO, gS', nI k, nI n, nI 1) ∧ td_ok R k (2 ^ n) gW' gS') := by
  refine y_enter [.ref (a 0)] (Nat.le_of_ble_eq_true rfl) (by decide) rfl (fun A => va_Qi (fun (r : Int32) (u : yU) => r = td_f R k (2 ^ n - 1) ∧ ∃ (gW' : Nat → Int64) (gS' : Nat → Int32), u = (gR, gW', gO, gS', nI k, nI n, nI 1) ∧ td_ok R k (2 ^ n) gW' gS') (yB dC dI A a ca) A) ?_
  intro p e s m below meth c A ls E hr hlocks S hl
  have hx := E.1
  have hb := E.2.1
  have hl : lv_has ls 4 [(0, .ref (a 0))] := hl
  have h2 := td_2n hn
  refine lv_aload_n hx hb dX1_first_0 rfl (lv_at hl 0 rfl) ?_
  refine yc_v E S (fun sz => my_reckon l dC dI a ca sz gR gW gO gS R n k kb hn hk hR hkb hv) q120 q122 qs2 q123 rfl rfl (by decide +kernel) ⟨Nat.le_of_ble_eq_true rfl, Nat.le_of_ble_eq_true rfl⟩ rfl hl.1 rfl (Nat.le_of_ble_eq_true rfl) ⟨Nat.zero_le _, Nat.zero_le _⟩ dX1_first_1 (fun u H locs hu S => ?_)
  obtain ⟨gW', gS', rfl, hok⟩ := hu
  have S : yS dC dI A s a ca gR gW' gO gS' (nI k) (nI n) (nI 1) H locs := S
  have hok0 : ∀ j, j < 2 ^ n → gW' j = lN (td_b R k 0 j) := fun j hj => by have z := hok.1 0 (Nat.zero_le k) j hj; rw [Nat.mul_zero, Nat.zero_add] at z; exact z
  refine lv_iconst (v := nI 1) hx hb dX1_first_4 (by decide +kernel) ?_
  refine lv_aload_n hx hb dX1_first_5 rfl (lv_at hl 0 rfl) ?_
  refine yg_n E S dX1_first_6 ?_
  refine tr_shl hx hb (by omega) dX1_first_9 ?_
  refine lv_iconst (v := nI 1) hx hb dX1_first_10 (by decide +kernel) ?_
  refine tr_isub hx hb (by omega) dX1_first_11 ?_
  refine lv_istore_n (lv' := [(1, .int (nI ((2 ^ (n)) - (1)))), (0, .ref (a 0))]) hx hb dX1_first_12 rfl hl (by decide) rfl (fun ls hl => ?_)
  refine lv_iconst (v := nI 0) hx hb dX1_first_13 (by decide +kernel) ?_
  refine lv_istore_n (lv' := [(2, .int (nI (0))), (1, .int (nI ((2 ^ (n)) - (1)))), (0, .ref (a 0))]) hx hb dX1_first_14 rfl hl (by decide) rfl (fun ls hl => ?_)
  refine lv_aload_n hx hb dX1_first_15 rfl (lv_at hl 2 rfl) ?_
  refine yg_ways E S dX1_first_16 ?_
  refine lv_iload_n hx hb dX1_first_19 rfl (lv_at hl 1 rfl) ?_
  refine yl_ways E S (by omega) dX1_first_20 ?_
  refine tr_l (y := (lN (td_b R k 0 (2 ^ n - 1)))) (hok0 _ (by omega)) ?_
  refine lv_lconst (v := lN 0) hx hb dX1_first_21 rfl ?_
  refine tr_lcmp0 hx hb (td_b_lt R hk _ _) dX1_first_22 ?_
  refine tb_if_ne (tgt := 28) hx hb (by split <;> decide) dX1_first_23 (by decide) (fun c1 => ?_) (fun c1 => ?_)
  · have hc : ¬ td_b R k 0 (2 ^ n - 1) = 0 := fun z => by rw [if_pos z] at c1; exact absurd rfl c1
    refine lv_iconst (v := nI 0) hx hb dX1_first_28 (by decide +kernel) ?_
    refine lv_istore_n (lv' := [(3, .int (nI (0))), (2, .int (nI (0))), (1, .int (nI ((2 ^ (n)) - (1)))), (0, .ref (a 0))]) hx hb dX1_first_29 rfl hl (by decide) rfl (fun ls hl => ?_)
    exact yf1 E k n hk hn R hR hok S (fun ls => y_iret E hr hlocks S ⟨by unfold td_f; rw [if_neg hc], gW', gS', rfl, hok⟩ dX1_first_107) k 0 ls (by omega) (lv_sub hl [3, 2, 1, 0] rfl)
  · have hc : td_b R k 0 (2 ^ n - 1) = 0 := (Nat.eq_zero_or_pos _).elim id (fun z => by rw [if_neg (by omega)] at c1; exact absurd c1 (by decide))
    refine lv_iconst (v := -1) hx hb dX1_first_26 (by decide +kernel) ?_
    exact y_iret E hr hlocks S ⟨by unfold td_f; rw [if_pos hc], gW', gS', rfl, hok⟩ dX1_first_27
section YWITH
variable {p : Program} {l : Launch} {e : Env} {R0 : Room} {s : State} {m : MethodId} {args : Array Value} {below : List Frame} {meth : Method} {c : Code} {cells slots : Nat} {Q : State → Prop}
variable {dC : Nat → ClassId} {dI : Nat → Nat → Nat} {A : Nat → Prop} {a : Nat → Nat} {ca : Nat → ClassId}
variable {gR : Nat → Int32} {gW : Nat → Int64} {gS : Nat → Int32} {kk p0 : Int32}
set_option maxHeartbeats 4000000 in
set_option maxRecDepth 100000 in
theorem yw1 (E : yE p m c s args cX1_with 5 dC dI ca A) (k n w : Nat) (hk : k ≤ 24) (hn : n ≤ 12) : ∀ (d i : Nat) (gO : Nat → Int64) (H : Heap) (locs : List Loc) (ls : Array Slot), i + d = 2 ^ n → (∀ j, j < i → gO j = lN (td_z j)) → yS dC dI A s a ca gR gW gO gS (nI k) (nI n) kk H locs → lv_has ls 5 [(0, .ref (a 0)), (2, .int (nI (w))), (3, .int (nI (i)))] → (∀ (gO : Nat → Int64) (H : Heap) (locs : List Loc) (ls : Array Slot), (∀ j, j < 2 ^ n → gO j = lN (td_z j)) → yS dC dI A s a ca gR gW gO gS (nI k) (nI n) kk H locs → lv_has ls 5 [(0, .ref (a 0)), (2, .int (nI (w)))] → W p l e R0 s m args below meth c H locs cells slots Q (F0 m 52 ls [])) → W p l e R0 s m args below meth c H locs cells slots Q (F0 m 21 ls []) := by
  have hx := E.1
  have hb := E.2.1
  have h2 := td_2n hn
  intro d
  induction d with
  | zero =>
    intro i gO H locs ls hi hF S hl kc
    refine lv_iload_n hx hb dX1_with_21 rfl (lv_at hl 2 rfl) ?_
    refine lv_iconst (v := nI 1) hx hb dX1_with_22 (by decide +kernel) ?_
    refine lv_aload_n hx hb dX1_with_23 rfl (lv_at hl 0 rfl) ?_
    refine yg_n E S dX1_with_24 ?_
    refine tr_shl hx hb (by omega) dX1_with_27 ?_
    refine tb_ge (tgt := 52) hx hb (by omega) (by omega) dX1_with_28 (by decide) (fun c1 => ?_) (fun c1 => ?_)
    · exact kc gO H locs ls (fun j hj => hF j (by omega)) S (lv_sub hl [0, 1] rfl)
    · exact absurd c1 (by omega)
  | succ d ih =>
    intro i gO H locs ls hi hF S hl kc
    refine lv_iload_n hx hb dX1_with_21 rfl (lv_at hl 2 rfl) ?_
    refine lv_iconst (v := nI 1) hx hb dX1_with_22 (by decide +kernel) ?_
    refine lv_aload_n hx hb dX1_with_23 rfl (lv_at hl 0 rfl) ?_
    refine yg_n E S dX1_with_24 ?_
    refine tr_shl hx hb (by omega) dX1_with_27 ?_
    refine tb_ge (tgt := 52) hx hb (by omega) (by omega) dX1_with_28 (by decide) (fun c1 => ?_) (fun c1 => ?_)
    · exact absurd c1 (by omega)
    · refine lv_aload_n hx hb dX1_with_31 rfl (lv_at hl 0 rfl) ?_
      refine yg_other E S dX1_with_32 ?_
      refine lv_iload_n hx hb dX1_with_35 rfl (lv_at hl 2 rfl) ?_
      refine lv_iload_n hx hb dX1_with_36 rfl (lv_at hl 2 rfl) ?_
      refine tb_if_ne (tgt := 44) hx hb (by omega) dX1_with_37 (by decide) (fun c2 => ?_) (fun c2 => ?_)
      · refine lv_lconst (v := lN 0) hx hb dX1_with_44 rfl ?_
        refine ys_other E S (by omega) dX1_with_45 (fun H locs S => ?_)
        refine lv_iinc (v := (nI (i + 1))) (lv' := [(3, .int (nI (i + 1))), (0, .ref (a 0)), (2, .int (nI (w)))]) hx hb dX1_with_46 hl (k := 2) rfl (td_inc _) (by decide) rfl (fun ls hl => ?_)
        refine lv_goto (tgt := 21) hx hb dX1_with_49 (by decide) ?_
        exact ih (i + 1) _ _ _ _ (by omega) (td_asc (g := fun j => lN (td_z j)) hF (td_z1 c2)) S (lv_sub hl [1, 2, 0] rfl) kc
      · refine lv_lconst (v := lN 1) hx hb dX1_with_40 rfl ?_
        refine lv_goto (tgt := 45) hx hb dX1_with_41 (by decide) ?_
        refine ys_other E S (by omega) dX1_with_45 (fun H locs S => ?_)
        refine lv_iinc (v := (nI (i + 1))) (lv' := [(3, .int (nI (i + 1))), (0, .ref (a 0)), (2, .int (nI (w)))]) hx hb dX1_with_46 hl (k := 2) rfl (td_inc _) (by decide) rfl (fun ls hl => ?_)
        refine lv_goto (tgt := 21) hx hb dX1_with_49 (by decide) ?_
        exact ih (i + 1) _ _ _ _ (by omega) (td_asc (g := fun j => lN (td_z j)) hF (td_z0 c2)) S (lv_sub hl [1, 2, 0] rfl) kc
set_option maxHeartbeats 4000000 in
set_option maxRecDepth 100000 in
theorem yw3 (E : yE p m c s args cX1_with 5 dC dI ca A) (k n w : Nat) (hk : k ≤ 24) (hn : n ≤ 12) (mk q : Nat) (hq : q < k) (hmq : gR q = nI mk) (hmk : mk < 2 ^ n) (F : Nat → Nat) : ∀ (i : Nat) (gO : Nat → Int64) (H : Heap) (locs : List Loc) (ls : Array Slot), i ≤ 2 ^ n → (∀ j, j < 2 ^ n → gO j = if j < i then lN (F j) else lN (td_t mk F j)) → yS dC dI A s a ca gR gW gO gS (nI k) (nI n) kk H locs → lv_has ls 5 [(0, .ref (a 0)), (2, .int (nI (w))), (3, .int (nI (q))), (4, .int (td_dn i))] → (∀ (gO : Nat → Int64) (H : Heap) (locs : List Loc) (ls : Array Slot), (∀ j, j < 2 ^ n → gO j = lN (td_t mk F j)) → yS dC dI A s a ca gR gW gO gS (nI k) (nI n) kk H locs → lv_has ls 5 [(0, .ref (a 0)), (2, .int (nI (w))), (3, .int (nI (q)))] → W p l e R0 s m args below meth c H locs cells slots Q (F0 m 137 ls [])) → W p l e R0 s m args below meth c H locs cells slots Q (F0 m 77 ls []) := by
  have hx := E.1
  have hb := E.2.1
  have h2 := td_2n hn
  intro i
  induction i with
  | zero =>
    intro gO H locs ls hi hF S hl kc
    refine lv_iload hx hb dX1_with_77 (lv_at hl 3 rfl) ?_
    refine tb_lt_yes (tgt := 137) hx hb rfl dX1_with_79 (by decide) ?_
    exact kc gO H locs ls (fun j hj => by rw [hF j hj, if_neg (Nat.not_lt_zero j)]) S (lv_sub hl [0, 1, 2] rfl)
  | succ i ih =>
    intro gO H locs ls hi hF S hl kc
    have hl : lv_has ls 5 [(0, .ref (a 0)), (2, .int (nI (w))), (3, .int (nI (q))), (4, .int (nI (i)))] := hl
    refine lv_iload hx hb dX1_with_77 (lv_at hl 3 rfl) ?_
    refine tb_lt_no (tgt := 137) hx hb (by omega) dX1_with_79 (by decide) ?_
    have ha : i &&& mk ≤ i := Nat.and_le_left
    refine lv_iload hx hb dX1_with_82 (lv_at hl 3 rfl) ?_
    refine lv_aload_n hx hb dX1_with_84 rfl (lv_at hl 0 rfl) ?_
    refine yg_row E S dX1_with_85 ?_
    refine lv_iload_n hx hb dX1_with_88 rfl (lv_at hl 2 rfl) ?_
    refine yl_row E S (by omega) dX1_with_89 ?_
    refine tr_i (y := (nI (mk))) hmq ?_
    refine tr_iand hx hb dX1_with_90 ?_
    refine lv_aload_n hx hb dX1_with_91 rfl (lv_at hl 0 rfl) ?_
    refine yg_row E S dX1_with_92 ?_
    refine lv_iload_n hx hb dX1_with_95 rfl (lv_at hl 2 rfl) ?_
    refine yl_row E S (by omega) dX1_with_96 ?_
    refine tr_i (y := (nI (mk))) hmq ?_
    refine tb_ne (tgt := 131) hx hb (by omega) (by omega) dX1_with_97 (by decide) (fun c1 => ?_) (fun c1 => ?_)
    · refine lv_iinc (v := (td_dn i)) (lv' := [(4, .int (td_dn i)), (0, .ref (a 0)), (2, .int (nI (w))), (3, .int (nI (q)))]) hx hb dX1_with_131 hl (k := 3) rfl (td_dec i) (by decide) rfl (fun ls hl => ?_)
      refine lv_goto (tgt := 77) hx hb dX1_with_134 (by decide) ?_
      exact ih _ _ _ _ (by omega) (td_keep (g := fun j => lN (F j)) (g' := fun j => lN (td_t mk F j)) hF (td_t_out c1)) S (lv_sub hl [1, 2, 3, 0] rfl) kc
    · have hle := td_xle c1
      have hx2 : i ^^^ mk < 2 ^ n := Nat.xor_lt_two_pow (by omega) hmk
      refine lv_aload_n hx hb dX1_with_100 rfl (lv_at hl 0 rfl) ?_
      refine yg_other E S dX1_with_101 ?_
      refine lv_iload hx hb dX1_with_104 (lv_at hl 3 rfl) ?_
      refine lv_aload_n hx hb dX1_with_106 rfl (lv_at hl 0 rfl) ?_
      refine yg_other E S dX1_with_107 ?_
      refine lv_iload hx hb dX1_with_110 (lv_at hl 3 rfl) ?_
      refine yl_other E S (by omega) dX1_with_112 ?_
      refine tr_l (y := (lN (F i))) (by rw [hF i (by omega), if_pos (by omega)]) ?_
      refine lv_aload_n hx hb dX1_with_113 rfl (lv_at hl 0 rfl) ?_
      refine yg_other E S dX1_with_114 ?_
      refine lv_iload hx hb dX1_with_117 (lv_at hl 3 rfl) ?_
      refine lv_aload_n hx hb dX1_with_119 rfl (lv_at hl 0 rfl) ?_
      refine yg_row E S dX1_with_120 ?_
      refine lv_iload_n hx hb dX1_with_123 rfl (lv_at hl 2 rfl) ?_
      refine yl_row E S (by omega) dX1_with_124 ?_
      refine tr_i (y := (nI (mk))) hmq ?_
      refine lv_iconst (v := -1) hx hb dX1_with_125 (by decide +kernel) ?_
      refine lv_ixor hx hb dX1_with_126 ?_
      refine tr_andn hx hb (by omega) c1 dX1_with_127 ?_
      refine yl_other E S (by omega) dX1_with_128 ?_
      refine tr_l (y := (lN (F (i ^^^ mk)))) (by rw [hF _ hx2, if_pos (by omega)]) ?_
      refine tr_ladd hx hb dX1_with_129 ?_
      refine ys_other E S (by omega) dX1_with_130 (fun H locs S => ?_)
      refine lv_iinc (v := (td_dn i)) (lv' := [(4, .int (td_dn i)), (0, .ref (a 0)), (2, .int (nI (w))), (3, .int (nI (q)))]) hx hb dX1_with_131 hl (k := 3) rfl (td_dec i) (by decide) rfl (fun ls hl => ?_)
      refine lv_goto (tgt := 77) hx hb dX1_with_134 (by decide) ?_
      exact ih _ _ _ _ (by omega) (td_desc (g := fun j => lN (F j)) (g' := fun j => lN (td_t mk F j)) hF (td_t_in c1)) S (lv_sub hl [1, 2, 3, 0] rfl) kc
set_option maxHeartbeats 4000000 in
set_option maxRecDepth 100000 in
theorem yw2 (E : yE p m c s args cX1_with 5 dC dI ca A) (k n w : Nat) (hk : k ≤ 24) (hn : n ≤ 12) (hw : w < k) (R : Nat → Nat) (hR : td_R R k n gR) : ∀ (d q : Nat) (gO : Nat → Int64) (H : Heap) (locs : List Loc) (ls : Array Slot), q + d = k → (∀ j, j < 2 ^ n → gO j = lN (td_fw R w q j)) → yS dC dI A s a ca gR gW gO gS (nI k) (nI n) kk H locs → lv_has ls 5 [(0, .ref (a 0)), (2, .int (nI (w))), (3, .int (nI (q)))] → (∀ (gO : Nat → Int64) (H : Heap) (locs : List Loc) (ls : Array Slot), (∀ j, j < 2 ^ n → gO j = lN (td_fw R w k j)) → yS dC dI A s a ca gR gW gO gS (nI k) (nI n) kk H locs → lv_has ls 5 [(0, .ref (a 0)), (2, .int (nI (w)))] → W p l e R0 s m args below meth c H locs cells slots Q (F0 m 143 ls [])) → W p l e R0 s m args below meth c H locs cells slots Q (F0 m 54 ls []) := by
  have hx := E.1
  have hb := E.2.1
  have h2 := td_2n hn
  intro d
  induction d with
  | zero =>
    intro q gO H locs ls hq hF S hl kc
    refine lv_iload_n hx hb dX1_with_54 rfl (lv_at hl 2 rfl) ?_
    refine lv_aload_n hx hb dX1_with_55 rfl (lv_at hl 0 rfl) ?_
    refine yg_rows E S dX1_with_56 ?_
    refine tb_ge (tgt := 143) hx hb (by omega) (by omega) dX1_with_59 (by decide) (fun c1 => ?_) (fun c1 => ?_)
    · obtain rfl : q = k := by omega
      exact kc gO H locs ls hF S (lv_sub hl [0, 1] rfl)
    · exact absurd c1 (by omega)
  | succ d ih =>
    intro q gO H locs ls hq hF S hl kc
    refine lv_iload_n hx hb dX1_with_54 rfl (lv_at hl 2 rfl) ?_
    refine lv_aload_n hx hb dX1_with_55 rfl (lv_at hl 0 rfl) ?_
    refine yg_rows E S dX1_with_56 ?_
    refine tb_ge (tgt := 143) hx hb (by omega) (by omega) dX1_with_59 (by decide) (fun c1 => ?_) (fun c1 => ?_)
    · exact absurd c1 (by omega)
    · refine lv_iload_n hx hb dX1_with_62 rfl (lv_at hl 2 rfl) ?_
      refine lv_iload_n hx hb dX1_with_63 rfl (lv_at hl 1 rfl) ?_
      refine tb_eq (tgt := 137) hx hb (by omega) (by omega) dX1_with_64 (by decide) (fun c2 => ?_) (fun c2 => ?_)
      · refine lv_iinc (v := (nI (q + 1))) (lv' := [(3, .int (nI (q + 1))), (0, .ref (a 0)), (2, .int (nI (w)))]) hx hb dX1_with_137 hl (k := 2) rfl (td_inc _) (by decide) rfl (fun ls hl => ?_)
        refine lv_goto (tgt := 54) hx hb dX1_with_140 (by decide) ?_
        exact ih (q + 1) _ _ _ _ (by omega) (fun j hj => by rw [hF j hj, td_fw_eq R w q c2]) S (lv_sub hl [1, 2, 0] rfl) kc
      · have hRq := hR q (by omega)
        refine lv_iconst (v := nI 1) hx hb dX1_with_67 (by decide +kernel) ?_
        refine lv_aload_n hx hb dX1_with_68 rfl (lv_at hl 0 rfl) ?_
        refine yg_n E S dX1_with_69 ?_
        refine tr_shl hx hb (by omega) dX1_with_72 ?_
        refine lv_iconst (v := nI 1) hx hb dX1_with_73 (by decide +kernel) ?_
        refine tr_isub hx hb (by omega) dX1_with_74 ?_
        refine tr_i (y := (td_dn (2 ^ n))) (td_dn_of h2.1) ?_
        refine lv_istore (lv' := [(4, .int (td_dn (2 ^ n))), (0, .ref (a 0)), (2, .int (nI (w))), (3, .int (nI (q)))]) hx hb dX1_with_75 hl (by decide) rfl (fun ls hl => ?_)
        refine yw3 E k n w hk hn (R q) q (by omega) hRq.1 hRq.2 (td_fw R w q) (2 ^ n) _ _ _ _ (Nat.le_refl _) (fun j hj => by rw [hF j hj, if_pos hj]) S (lv_sub hl [1, 2, 3, 0] rfl) (fun gO H locs ls hF S hl => ?_)
        refine lv_iinc (v := (nI (q + 1))) (lv' := [(3, .int (nI (q + 1))), (0, .ref (a 0)), (2, .int (nI (w)))]) hx hb dX1_with_137 hl (k := 2) rfl (td_inc _) (by decide) rfl (fun ls hl => ?_)
        refine lv_goto (tgt := 54) hx hb dX1_with_140 (by decide) ?_
        exact ih (q + 1) _ _ _ _ (by omega) (fun j hj => by rw [hF j hj, td_fw_ne R w q c2]) S (lv_sub hl [1, 2, 0] rfl) kc
end YWITH
set_option maxHeartbeats 4000000 in
set_option maxRecDepth 100000 in
theorem my_with (l : Launch) (dC : Nat → ClassId) (dI : Nat → Nat → Nat) (a : Nat → Nat) (ca : Nat → ClassId) (sz : Nat) (gR : Nat → Int32) (gW gO : Nat → Int64) (gS : Nat → Int32) (R : Nat → Nat) (n k kb : Nat) (hn : n ≤ 12) (hk : k ≤ 24) (hR : td_R R k n gR) (hkb : kb < 2) (hv : kb = 1 → td_ok R k (2 ^ n) gW gS) (p0 : Int32) : yMl l yX1_with cX1_with 5 (some .long) ({ frames := 2, cells := 0, slots := 0, locals := 42 }) [.ref (a 0), .int p0] dC dI a ca sz gR gW gO gS ((nI (k))) ((nI (n))) ((nI (kb))) (fun (r : Int64) (u : yU) => r = (if k = 0 then lN 0 else lN (td_fw R (td_p p0 % k) k ((2 ^ n - 1) ^^^ R (td_p p0 % k)))) ∧ ∃ (gW' gO' : Nat → Int64) (gS' : Nat → Int32) (kb' : Nat), u = (gR, gW', gO', gS', nI k, nI n, nI kb') ∧ kb' < 2 ∧ (kb' = 1 → td_ok R k (2 ^ n) gW' gS')) := by
  refine y_enter [.ref (a 0), .int p0] (Nat.le_of_ble_eq_true rfl) (by decide) rfl (fun A => va_Ql (fun (r : Int64) (u : yU) => r = (if k = 0 then lN 0 else lN (td_fw R (td_p p0 % k) k ((2 ^ n - 1) ^^^ R (td_p p0 % k)))) ∧ ∃ (gW' gO' : Nat → Int64) (gS' : Nat → Int32) (kb' : Nat), u = (gR, gW', gO', gS', nI k, nI n, nI kb') ∧ kb' < 2 ∧ (kb' = 1 → td_ok R k (2 ^ n) gW' gS')) (yB dC dI A a ca) A) ?_
  intro p e s m below meth c A ls E hr hlocks S hl
  have hx := E.1
  have hb := E.2.1
  have hl : lv_has ls 5 [(0, .ref (a 0)), (1, .int (p0))] := hl
  have h2 := td_2n hn
  refine lv_aload_n hx hb dX1_with_0 rfl (lv_at hl 0 rfl) ?_
  refine yg_rows E S dX1_with_1 ?_
  refine tb_if_ne (tgt := 9) hx hb (by omega) dX1_with_4 (by decide) (fun c1 => ?_) (fun c1 => ?_)
  · refine lv_iload_n hx hb dX1_with_9 rfl (lv_at hl 1 rfl) ?_
    refine lv_ldc hx hb E.2.2.2.1 (E.2.2.1 _ q107) dX1_with_10 ?_
    refine tr_p31 hx hb dX1_with_12 ?_
    refine lv_aload_n hx hb dX1_with_13 rfl (lv_at hl 0 rfl) ?_
    refine yg_rows E S dX1_with_14 ?_
    refine tr_irem hx hb (td_p_lt p0) (by omega) (by omega) dX1_with_17 ?_
    have hwk : td_p p0 % k < k := Nat.mod_lt _ (by omega)
    obtain ⟨w, ew⟩ : ∃ w, w = td_p p0 % k := ⟨_, rfl⟩
    rw [← ew] at hwk ⊢
    have hRw := hR w hwk
    refine lv_istore_n (lv' := [(2, .int (nI (w))), (0, .ref (a 0)), (1, .int (p0))]) hx hb dX1_with_18 rfl hl (by decide) rfl (fun ls hl => ?_)
    refine lv_iconst (v := nI 0) hx hb dX1_with_19 (by decide +kernel) ?_
    refine lv_istore_n (lv' := [(3, .int (nI (0))), (2, .int (nI (w))), (0, .ref (a 0)), (1, .int (p0))]) hx hb dX1_with_20 rfl hl (by decide) rfl (fun ls hl => ?_)
    refine yw1 E k n w hk hn (2 ^ n) 0 gO _ _ ls (by omega) (fun j hj => absurd hj (Nat.not_lt_zero j)) S (lv_sub hl [2, 1, 0] rfl) (fun gO H locs ls hF S hl => ?_)
    refine lv_iconst (v := nI 0) hx hb dX1_with_52 (by decide +kernel) ?_
    refine lv_istore_n (lv' := [(3, .int (nI (0))), (0, .ref (a 0)), (2, .int (nI (w)))]) hx hb dX1_with_53 rfl hl (by decide) rfl (fun ls hl => ?_)
    refine yw2 E k n w hk hn hwk R hR k 0 gO H locs ls (by omega) hF S (lv_sub hl [1, 2, 0] rfl) (fun gO H locs ls hF S hl => ?_)
    refine lv_aload_n hx hb dX1_with_143 rfl (lv_at hl 0 rfl) ?_
    refine yc_l E S (fun sz => my_count l dC dI a ca sz gR gW gO gS R n k kb hn hk hR hkb hv) q132 q117 q118 q119 rfl rfl (by decide +kernel) ⟨Nat.le_of_ble_eq_true rfl, Nat.le_of_ble_eq_true rfl⟩ rfl hl.1 rfl (Nat.le_of_ble_eq_true rfl) ⟨Nat.zero_le _, Nat.zero_le _⟩ dX1_with_144 (fun r u H locs hu S => ?_)
    obtain ⟨rfl, gW', gS', rfl, hok⟩ := hu
    have S : yS dC dI A s a ca gR gW' gO gS' (nI k) (nI n) (nI 1) H locs := S
    refine lv_aload_n hx hb dX1_with_147 rfl (lv_at hl 0 rfl) ?_
    refine yg_other E S dX1_with_148 ?_
    refine lv_iconst (v := nI 1) hx hb dX1_with_151 (by decide +kernel) ?_
    refine lv_aload_n hx hb dX1_with_152 rfl (lv_at hl 0 rfl) ?_
    refine yg_n E S dX1_with_153 ?_
    refine tr_shl hx hb (by omega) dX1_with_156 ?_
    refine lv_iconst (v := nI 1) hx hb dX1_with_157 (by decide +kernel) ?_
    refine tr_isub hx hb (by omega) dX1_with_158 ?_
    refine yl_other E S (by omega) dX1_with_159 ?_
    refine tr_l (y := (lN (td_fw R w k (2 ^ n - 1)))) (hF _ (by omega)) ?_
    have e2 := td_with R hwk (td_al hRw.2)
    refine lv_lsub hx hb dX1_with_160 ?_
    refine tr_l (y := lN (td_fw R w k ((2 ^ n - 1) ^^^ R w))) (by rw [e2, lN_sub (Nat.le_add_right _ _), Nat.add_sub_cancel_left]) ?_
    exact y_lret E hr hlocks S ⟨by rw [if_neg c1], gW', gO, gS', 1, rfl, by decide, fun _ => hok⟩ dX1_with_161
  · refine lv_lconst (v := lN 0) hx hb dX1_with_7 rfl ?_
    exact y_lret E hr hlocks S ⟨by rw [if_pos c1], gW, gO, gS, kb, rfl, hkb, hv⟩ dX1_with_8
end
section
/-! THE CLAIM OUT OF ONE WALK OF THE LAW'S BODY. Your part is whole_start (and what it stands on); all else here is the same for every law, but numbers. -/
def R_law : String := "TileDeskLaw"
def lw_P (b : Addr) (xs : List Int32) (args : Array Value) (s : State) : Prop := args = #[.ref b] ∧ s.IntsAt b xs ∧ xs.length ≤ 128 ∧ (Jvm.Cond.and given_1 narrow_1).before args s = true
def lw_Q (_ : Array Value) (s : State) (o : Outcome) (t : State) : Prop := o = .returned (some (.int 1)) ∧ Framed s o t [] 600000 7302250
def lw_Z (below : List Frame) (a : Array Value) (s : State) : State → Prop := fun t => ∃ o, t.status = .running ∧ Ended t below o ∧ lw_Q a s o t
/-- the law's own end, with 1 on the stack, nothing written that was there before, its room as the claim has it -/
theorem lw_ret {p : Program} {l : Launch} {e : Env} {s : State} {m : MethodId} {below : List Frame} {meth : Method} {c : Code} {b : Nat} (hx : p.tables.exec = Jvm.exec) (hb : c.code = code) (hr : meth.sig.returnType = ret) (hlocks : meth.locks = false) {pc : Nat} {H : Heap} {ls : Array Slot} (hdg : decode code pc = .ok (.ireturn, 1)) : W p l e room_1 s m #[Value.ref b] below meth c H [] 600000 7302250 (lw_Z below #[Value.ref b] s) (F0 m pc ls [.int 1]) := by
  intro T hT X
  obtain ⟨fs, hret, hrun, hended, hW, hframe⟩ := X.leave (v := some (.int 1)) (hlocks := hlocks) (fun h => by rw [hr] at h; cases h)
  have hmeth' : T.vm.method? m = some meth := X.method'
  refine ⟨T.setFrames fs, ?_, .returned (some (.int 1)), hrun, hended, rfl, ⟨_, rfl⟩, hW, hframe⟩
  jvm_step X.here [X.here.top, hx, hb, hdg, hmeth', hr, ret, narrow_b1]
  (try refine ⟨rfl, ?_⟩); (try refine ⟨rfl, ?_⟩)
  first | (intro acts; rw [hret _ acts rfl rfl rfl]) | rw [hret _ _ rfl rfl rfl]
  exact Steps.refl _
/-- what holds at the law's entry: the machine, the code, the tables' words (any of lw_tbl by 'hts w (by decide +kernel)'), the script of L ints xs at the cell b, what the Statement gives of the start (any of its parts by flat_of_before) -/
def lw_At (p : Program) (s : State) (m : MethodId) (meth : Method) (c : Code) (b L : Nat) (xs : Nat → Int32) : Prop :=
  p.tables.exec = Jvm.exec ∧ c.code = code ∧ meth.sig.returnType = ret ∧ c.maxLocals = 4 ∧ s.vm.findClass R_law = some m.cls ∧ (∀ w ∈ lw_tbl, w.before #[Value.ref b] s = true) ∧ va_X b L xs s s.heap ∧ b < s.heap.size ∧ meth.locks = false ∧ (Jvm.Cond.and given_1 narrow_1).before #[Value.ref b] s = true
/-! the law: both desks side by side -/
def lS (dC : Nat → ClassId) (dI : Nat → Nat → Nat) (A : Nat → Prop) (s : State) (a : Nat → Nat) (ca : Nat → ClassId) (fR : Nat → Int32) (fB : Nat → Int32) (fW : Nat → Int64) (fC : Nat → Int32) (kc : Int32) (kr : Int32) (b : Nat → Nat) (cb : Nat → ClassId) (gR : Nat → Int32) (gW : Nat → Int64) (gO : Nat → Int64) (gS : Nat → Int32) (qr : Int32) (qn : Int32) (qk : Int32) (H : Heap) (locs : List Loc) : Prop := va_P (dC, dI) vwCl (xW a ca fR fB fW fC kc kr ++ yW b cb gR gW gO gS qr qn qk) H ∧ va_D A (xW a ca fR fB fW fC kc kr ++ yW b cb gR gW gO gS qr qn qk) ∧ va_S A s.heap H locs
abbrev lE (p : Program) (m : MethodId) (c : Code) (s : State) (args : Array Value) (dC : Nat → ClassId) (dI : Nat → Nat → Nat) (ca cb : Nat → ClassId) (A : Nat → Prop) : Prop := td_E p m c s args code 4 R_law dC dI (xT ca ++ yT cb) A
section LCALL
variable {p : Program} {l : Launch} {e : Env} {R0 : Room} {s : State} {m : MethodId} {args : Array Value} {below : List Frame} {meth : Method} {c : Code} {H : Heap} {locs : List Loc} {cells slots : Nat} {Q : State → Prop}
variable {pc : Nat} {ls : Array Slot} {rest : List Value} {dC : Nat → ClassId} {dI : Nat → Nat → Nat} {A : Nat → Prop} {a b : Nat → Nat} {ca cb : Nat → ClassId}
variable {fR : Nat → Int32} {fB : Nat → Int32} {fW : Nat → Int64} {fC : Nat → Int32} {kc : Int32} {kr : Int32} {gR : Nat → Int32} {gW : Nat → Int64} {gO : Nat → Int64} {gS : Nat → Int32} {qr : Int32} {qn : Int32} {qk : Int32} {y : MethodName} {bytes : ByteArray} {maxL idx n : Nat} {rt : Option FieldType} {rm : Room} {As st0 : List Value}
theorem lx_i (E : lE p m c s args dC dI ca cb A) (S : lS dC dI A s a ca fR fB fW fC kc kr b cb gR gW gO gS qr qn qk H locs) {post : Int32 → xU → Prop} (hM : ∀ sz, xMi l y bytes maxL rt rm (.ref (a 0) :: As) dC dI a ca sz fR fB fW fC kc kr post) (hq1 : Cond.methodLink R_law idx y ∈ lw_all) (hq2 : Cond.instanceMethod y ∈ lw_all) (hq3 : Cond.selects RX0 y y ∈ lw_all) (hq5 : Cond.code y bytes maxL rt ∈ lw_all) (hrc : rm.cells = 0) (hrs : rm.slots = 0) (hy : y.cls = RX0 ∧ y.cls ≠ "java/lang/invoke/MethodHandle" ∧ y.cls ≠ "java/lang/invoke/VarHandle" ∧ (parseMethodDescriptor y.desc).map (fun d => d.parameters.length) = some n) (hR : rm.frames + 1 ≤ R0.frames ∧ 8 + (maxL + 11) + rm.locals ≤ R0.locals) (hn : As.length = n) (hls : ls.size = 4) (hstk : st0 = As.reverse ++ .ref (a 0) :: rest) (hw : (rest.map fun v => v.category).sum ≤ 8) (hf : cells ≤ R0.cells ∧ slots ≤ R0.slots) (hd : decode code pc = .ok (.invokevirtual idx, 3))
    (k : ∀ (r : Int32) (u : xU) (H : Heap) (locs : List Loc), post r u → lS dC dI A s a ca u.1 u.2.1 u.2.2.1 u.2.2.2.1 u.2.2.2.2.1 u.2.2.2.2.2 b cb gR gW gO gS qr qn qk H locs → W p l e R0 s m args below meth c H locs cells slots Q (F0 m (pc + 3) ls (.int r :: rest))) : W p l e R0 s m args below meth c H locs cells slots Q (F0 m pc ls st0) := by
  have hPc := S.1.sub (ws' := xW a ca fR fB fW fC kc kr) [0, 1, 2, 3, 4] rfl
  have hDc := S.2.1.sub (ws' := xW a ca fR fB fW fC kc kr) [0, 1, 2, 3, 4] (by decide) rfl
  have hKc := E.2.2.2.2.1.sub (tys' := xT ca) [0, 1, 2, 3] rfl
  have hFc := va_free (wc := xW a ca fR fB fW fC kc kr) S.2.1 S.2.2 E.2.2.2.2.2.1 [0, 1, 2, 3, 4] rfl
  refine va_calli (va_runV (As := As) (rest := rest) (b := a 0) ⟨E.1, E.2.1, E.2.2.2.2.2.2, E.2.2.2.1, E.2.2.1⟩ (hM H.size) (cwV n E.2.2.1 (lw_V hq1 hq2 hq3 q4 hq5) rfl hrc hrs hy hR) ⟨fun a U g mk q => by obtain ⟨q0, q1, qP, qK, qD⟩ := q; exact ⟨q0, q1, qP, va_K.moved (u := U) (U := U.calling g mk a) (Vm.Alike.refl U.vm) qK, qD⟩, va_recv hKc hPc (ci := 0) (q0 := 0) rfl rfl, fun U hU hW => ⟨rfl, by rw [hU], by rw [hU]; exact hPc, va_K.moved hW.alike hKc, hDc.weaken (fun _ _ _ _ => trivial)⟩⟩ rfl hn hls hstk (lv_room hw) hd ⟨hf.1, hf.2⟩) S.2.2 (fun q _ h => hFc q h) hFc (fun r u t H1 locs1 ht hvm hw1 hB hz1 hk1 hS => ?_)
  obtain ⟨hP2, hD2⟩ := va_join (wr := yW b cb gR gW gO gS qr qn qk) (w1 := xW a ca u.1 u.2.1 u.2.2.1 u.2.2.2.1 u.2.2.2.2.1 u.2.2.2.2.2) S.1 S.2.1 [0, 1, 2, 3, 4] [5, 6, 7, 8, 9] rfl rfl (by decide) (by decide) hk1 hFc (by rw [← ht]; exact hB.1) hB.2.2
  exact k r u H1 locs1 hw1 ⟨hP2.sub [5, 6, 7, 8, 9, 0, 1, 2, 3, 4] rfl, hD2.sub [5, 6, 7, 8, 9, 0, 1, 2, 3, 4] (by decide) rfl, hS⟩
theorem lx_l (E : lE p m c s args dC dI ca cb A) (S : lS dC dI A s a ca fR fB fW fC kc kr b cb gR gW gO gS qr qn qk H locs) {post : Int64 → xU → Prop} (hM : ∀ sz, xMl l y bytes maxL rt rm (.ref (a 0) :: As) dC dI a ca sz fR fB fW fC kc kr post) (hq1 : Cond.methodLink R_law idx y ∈ lw_all) (hq2 : Cond.instanceMethod y ∈ lw_all) (hq3 : Cond.selects RX0 y y ∈ lw_all) (hq5 : Cond.code y bytes maxL rt ∈ lw_all) (hrc : rm.cells = 0) (hrs : rm.slots = 0) (hy : y.cls = RX0 ∧ y.cls ≠ "java/lang/invoke/MethodHandle" ∧ y.cls ≠ "java/lang/invoke/VarHandle" ∧ (parseMethodDescriptor y.desc).map (fun d => d.parameters.length) = some n) (hR : rm.frames + 1 ≤ R0.frames ∧ 8 + (maxL + 11) + rm.locals ≤ R0.locals) (hn : As.length = n) (hls : ls.size = 4) (hstk : st0 = As.reverse ++ .ref (a 0) :: rest) (hw : (rest.map fun v => v.category).sum ≤ 8) (hf : cells ≤ R0.cells ∧ slots ≤ R0.slots) (hd : decode code pc = .ok (.invokevirtual idx, 3))
    (k : ∀ (r : Int64) (u : xU) (H : Heap) (locs : List Loc), post r u → lS dC dI A s a ca u.1 u.2.1 u.2.2.1 u.2.2.2.1 u.2.2.2.2.1 u.2.2.2.2.2 b cb gR gW gO gS qr qn qk H locs → W p l e R0 s m args below meth c H locs cells slots Q (F0 m (pc + 3) ls (.long r :: rest))) : W p l e R0 s m args below meth c H locs cells slots Q (F0 m pc ls st0) := by
  have hPc := S.1.sub (ws' := xW a ca fR fB fW fC kc kr) [0, 1, 2, 3, 4] rfl
  have hDc := S.2.1.sub (ws' := xW a ca fR fB fW fC kc kr) [0, 1, 2, 3, 4] (by decide) rfl
  have hKc := E.2.2.2.2.1.sub (tys' := xT ca) [0, 1, 2, 3] rfl
  have hFc := va_free (wc := xW a ca fR fB fW fC kc kr) S.2.1 S.2.2 E.2.2.2.2.2.1 [0, 1, 2, 3, 4] rfl
  refine va_calll (va_runV (As := As) (rest := rest) (b := a 0) ⟨E.1, E.2.1, E.2.2.2.2.2.2, E.2.2.2.1, E.2.2.1⟩ (hM H.size) (cwV n E.2.2.1 (lw_V hq1 hq2 hq3 q4 hq5) rfl hrc hrs hy hR) ⟨fun a U g mk q => by obtain ⟨q0, q1, qP, qK, qD⟩ := q; exact ⟨q0, q1, qP, va_K.moved (u := U) (U := U.calling g mk a) (Vm.Alike.refl U.vm) qK, qD⟩, va_recv hKc hPc (ci := 0) (q0 := 0) rfl rfl, fun U hU hW => ⟨rfl, by rw [hU], by rw [hU]; exact hPc, va_K.moved hW.alike hKc, hDc.weaken (fun _ _ _ _ => trivial)⟩⟩ rfl hn hls hstk (lv_room hw) hd ⟨hf.1, hf.2⟩) S.2.2 (fun q _ h => hFc q h) hFc (fun r u t H1 locs1 ht hvm hw1 hB hz1 hk1 hS => ?_)
  obtain ⟨hP2, hD2⟩ := va_join (wr := yW b cb gR gW gO gS qr qn qk) (w1 := xW a ca u.1 u.2.1 u.2.2.1 u.2.2.2.1 u.2.2.2.2.1 u.2.2.2.2.2) S.1 S.2.1 [0, 1, 2, 3, 4] [5, 6, 7, 8, 9] rfl rfl (by decide) (by decide) hk1 hFc (by rw [← ht]; exact hB.1) hB.2.2
  exact k r u H1 locs1 hw1 ⟨hP2.sub [5, 6, 7, 8, 9, 0, 1, 2, 3, 4] rfl, hD2.sub [5, 6, 7, 8, 9, 0, 1, 2, 3, 4] (by decide) rfl, hS⟩
theorem lx_v (E : lE p m c s args dC dI ca cb A) (S : lS dC dI A s a ca fR fB fW fC kc kr b cb gR gW gO gS qr qn qk H locs) {post : xU → Prop} (hM : ∀ sz, xMv l y bytes maxL rt rm (.ref (a 0) :: As) dC dI a ca sz fR fB fW fC kc kr post) (hq1 : Cond.methodLink R_law idx y ∈ lw_all) (hq2 : Cond.instanceMethod y ∈ lw_all) (hq3 : Cond.selects RX0 y y ∈ lw_all) (hq5 : Cond.code y bytes maxL rt ∈ lw_all) (hrc : rm.cells = 0) (hrs : rm.slots = 0) (hy : y.cls = RX0 ∧ y.cls ≠ "java/lang/invoke/MethodHandle" ∧ y.cls ≠ "java/lang/invoke/VarHandle" ∧ (parseMethodDescriptor y.desc).map (fun d => d.parameters.length) = some n) (hR : rm.frames + 1 ≤ R0.frames ∧ 8 + (maxL + 11) + rm.locals ≤ R0.locals) (hn : As.length = n) (hls : ls.size = 4) (hstk : st0 = As.reverse ++ .ref (a 0) :: rest) (hw : (rest.map fun v => v.category).sum ≤ 8) (hf : cells ≤ R0.cells ∧ slots ≤ R0.slots) (hd : decode code pc = .ok (.invokevirtual idx, 3))
    (k : ∀ (u : xU) (H : Heap) (locs : List Loc), post u → lS dC dI A s a ca u.1 u.2.1 u.2.2.1 u.2.2.2.1 u.2.2.2.2.1 u.2.2.2.2.2 b cb gR gW gO gS qr qn qk H locs → W p l e R0 s m args below meth c H locs cells slots Q (F0 m (pc + 3) ls (rest))) : W p l e R0 s m args below meth c H locs cells slots Q (F0 m pc ls st0) := by
  have hPc := S.1.sub (ws' := xW a ca fR fB fW fC kc kr) [0, 1, 2, 3, 4] rfl
  have hDc := S.2.1.sub (ws' := xW a ca fR fB fW fC kc kr) [0, 1, 2, 3, 4] (by decide) rfl
  have hKc := E.2.2.2.2.1.sub (tys' := xT ca) [0, 1, 2, 3] rfl
  have hFc := va_free (wc := xW a ca fR fB fW fC kc kr) S.2.1 S.2.2 E.2.2.2.2.2.1 [0, 1, 2, 3, 4] rfl
  refine va_callv (va_runV (As := As) (rest := rest) (b := a 0) ⟨E.1, E.2.1, E.2.2.2.2.2.2, E.2.2.2.1, E.2.2.1⟩ (hM H.size) (cwV n E.2.2.1 (lw_V hq1 hq2 hq3 q4 hq5) rfl hrc hrs hy hR) ⟨fun a U g mk q => by obtain ⟨q0, q1, qP, qK, qD⟩ := q; exact ⟨q0, q1, qP, va_K.moved (u := U) (U := U.calling g mk a) (Vm.Alike.refl U.vm) qK, qD⟩, va_recv hKc hPc (ci := 0) (q0 := 0) rfl rfl, fun U hU hW => ⟨rfl, by rw [hU], by rw [hU]; exact hPc, va_K.moved hW.alike hKc, hDc.weaken (fun _ _ _ _ => trivial)⟩⟩ rfl hn hls hstk (lv_room hw) hd ⟨hf.1, hf.2⟩) S.2.2 (fun q _ h => hFc q h) hFc (fun u t H1 locs1 ht hvm hw1 hB hz1 hk1 hS => ?_)
  obtain ⟨hP2, hD2⟩ := va_join (wr := yW b cb gR gW gO gS qr qn qk) (w1 := xW a ca u.1 u.2.1 u.2.2.1 u.2.2.2.1 u.2.2.2.2.1 u.2.2.2.2.2) S.1 S.2.1 [0, 1, 2, 3, 4] [5, 6, 7, 8, 9] rfl rfl (by decide) (by decide) hk1 hFc (by rw [← ht]; exact hB.1) hB.2.2
  exact k u H1 locs1 hw1 ⟨hP2.sub [5, 6, 7, 8, 9, 0, 1, 2, 3, 4] rfl, hD2.sub [5, 6, 7, 8, 9, 0, 1, 2, 3, 4] (by decide) rfl, hS⟩
theorem ly_i (E : lE p m c s args dC dI ca cb A) (S : lS dC dI A s a ca fR fB fW fC kc kr b cb gR gW gO gS qr qn qk H locs) {post : Int32 → yU → Prop} (hM : ∀ sz, yMi l y bytes maxL rt rm (.ref (b 0) :: As) dC dI b cb sz gR gW gO gS qr qn qk post) (hq1 : Cond.methodLink R_law idx y ∈ lw_all) (hq2 : Cond.instanceMethod y ∈ lw_all) (hq3 : Cond.selects RX1 y y ∈ lw_all) (hq5 : Cond.code y bytes maxL rt ∈ lw_all) (hrc : rm.cells = 0) (hrs : rm.slots = 0) (hy : y.cls = RX1 ∧ y.cls ≠ "java/lang/invoke/MethodHandle" ∧ y.cls ≠ "java/lang/invoke/VarHandle" ∧ (parseMethodDescriptor y.desc).map (fun d => d.parameters.length) = some n) (hR : rm.frames + 1 ≤ R0.frames ∧ 8 + (maxL + 11) + rm.locals ≤ R0.locals) (hn : As.length = n) (hls : ls.size = 4) (hstk : st0 = As.reverse ++ .ref (b 0) :: rest) (hw : (rest.map fun v => v.category).sum ≤ 8) (hf : cells ≤ R0.cells ∧ slots ≤ R0.slots) (hd : decode code pc = .ok (.invokevirtual idx, 3))
    (k : ∀ (r : Int32) (u : yU) (H : Heap) (locs : List Loc), post r u → lS dC dI A s a ca fR fB fW fC kc kr b cb u.1 u.2.1 u.2.2.1 u.2.2.2.1 u.2.2.2.2.1 u.2.2.2.2.2.1 u.2.2.2.2.2.2 H locs → W p l e R0 s m args below meth c H locs cells slots Q (F0 m (pc + 3) ls (.int r :: rest))) : W p l e R0 s m args below meth c H locs cells slots Q (F0 m pc ls st0) := by
  have hPc := S.1.sub (ws' := yW b cb gR gW gO gS qr qn qk) [5, 6, 7, 8, 9] rfl
  have hDc := S.2.1.sub (ws' := yW b cb gR gW gO gS qr qn qk) [5, 6, 7, 8, 9] (by decide) rfl
  have hKc := E.2.2.2.2.1.sub (tys' := yT cb) [4, 5, 6, 7] rfl
  have hFc := va_free (wc := yW b cb gR gW gO gS qr qn qk) S.2.1 S.2.2 E.2.2.2.2.2.1 [5, 6, 7, 8, 9] rfl
  refine va_calli (va_runV (As := As) (rest := rest) (b := b 0) ⟨E.1, E.2.1, E.2.2.2.2.2.2, E.2.2.2.1, E.2.2.1⟩ (hM H.size) (cwV n E.2.2.1 (lw_V hq1 hq2 hq3 q5 hq5) rfl hrc hrs hy hR) ⟨fun a U g mk q => by obtain ⟨q0, q1, qP, qK, qD⟩ := q; exact ⟨q0, q1, qP, va_K.moved (u := U) (U := U.calling g mk a) (Vm.Alike.refl U.vm) qK, qD⟩, va_recv hKc hPc (ci := 1) (q0 := 0) rfl rfl, fun U hU hW => ⟨rfl, by rw [hU], by rw [hU]; exact hPc, va_K.moved hW.alike hKc, hDc.weaken (fun _ _ _ _ => trivial)⟩⟩ rfl hn hls hstk (lv_room hw) hd ⟨hf.1, hf.2⟩) S.2.2 (fun q _ h => hFc q h) hFc (fun r u t H1 locs1 ht hvm hw1 hB hz1 hk1 hS => ?_)
  obtain ⟨hP2, hD2⟩ := va_join (wr := xW a ca fR fB fW fC kc kr) (w1 := yW b cb u.1 u.2.1 u.2.2.1 u.2.2.2.1 u.2.2.2.2.1 u.2.2.2.2.2.1 u.2.2.2.2.2.2) S.1 S.2.1 [5, 6, 7, 8, 9] [0, 1, 2, 3, 4] rfl rfl (by decide) (by decide) hk1 hFc (by rw [← ht]; exact hB.1) hB.2.2
  exact k r u H1 locs1 hw1 ⟨hP2, hD2, hS⟩
theorem ly_l (E : lE p m c s args dC dI ca cb A) (S : lS dC dI A s a ca fR fB fW fC kc kr b cb gR gW gO gS qr qn qk H locs) {post : Int64 → yU → Prop} (hM : ∀ sz, yMl l y bytes maxL rt rm (.ref (b 0) :: As) dC dI b cb sz gR gW gO gS qr qn qk post) (hq1 : Cond.methodLink R_law idx y ∈ lw_all) (hq2 : Cond.instanceMethod y ∈ lw_all) (hq3 : Cond.selects RX1 y y ∈ lw_all) (hq5 : Cond.code y bytes maxL rt ∈ lw_all) (hrc : rm.cells = 0) (hrs : rm.slots = 0) (hy : y.cls = RX1 ∧ y.cls ≠ "java/lang/invoke/MethodHandle" ∧ y.cls ≠ "java/lang/invoke/VarHandle" ∧ (parseMethodDescriptor y.desc).map (fun d => d.parameters.length) = some n) (hR : rm.frames + 1 ≤ R0.frames ∧ 8 + (maxL + 11) + rm.locals ≤ R0.locals) (hn : As.length = n) (hls : ls.size = 4) (hstk : st0 = As.reverse ++ .ref (b 0) :: rest) (hw : (rest.map fun v => v.category).sum ≤ 8) (hf : cells ≤ R0.cells ∧ slots ≤ R0.slots) (hd : decode code pc = .ok (.invokevirtual idx, 3))
    (k : ∀ (r : Int64) (u : yU) (H : Heap) (locs : List Loc), post r u → lS dC dI A s a ca fR fB fW fC kc kr b cb u.1 u.2.1 u.2.2.1 u.2.2.2.1 u.2.2.2.2.1 u.2.2.2.2.2.1 u.2.2.2.2.2.2 H locs → W p l e R0 s m args below meth c H locs cells slots Q (F0 m (pc + 3) ls (.long r :: rest))) : W p l e R0 s m args below meth c H locs cells slots Q (F0 m pc ls st0) := by
  have hPc := S.1.sub (ws' := yW b cb gR gW gO gS qr qn qk) [5, 6, 7, 8, 9] rfl
  have hDc := S.2.1.sub (ws' := yW b cb gR gW gO gS qr qn qk) [5, 6, 7, 8, 9] (by decide) rfl
  have hKc := E.2.2.2.2.1.sub (tys' := yT cb) [4, 5, 6, 7] rfl
  have hFc := va_free (wc := yW b cb gR gW gO gS qr qn qk) S.2.1 S.2.2 E.2.2.2.2.2.1 [5, 6, 7, 8, 9] rfl
  refine va_calll (va_runV (As := As) (rest := rest) (b := b 0) ⟨E.1, E.2.1, E.2.2.2.2.2.2, E.2.2.2.1, E.2.2.1⟩ (hM H.size) (cwV n E.2.2.1 (lw_V hq1 hq2 hq3 q5 hq5) rfl hrc hrs hy hR) ⟨fun a U g mk q => by obtain ⟨q0, q1, qP, qK, qD⟩ := q; exact ⟨q0, q1, qP, va_K.moved (u := U) (U := U.calling g mk a) (Vm.Alike.refl U.vm) qK, qD⟩, va_recv hKc hPc (ci := 1) (q0 := 0) rfl rfl, fun U hU hW => ⟨rfl, by rw [hU], by rw [hU]; exact hPc, va_K.moved hW.alike hKc, hDc.weaken (fun _ _ _ _ => trivial)⟩⟩ rfl hn hls hstk (lv_room hw) hd ⟨hf.1, hf.2⟩) S.2.2 (fun q _ h => hFc q h) hFc (fun r u t H1 locs1 ht hvm hw1 hB hz1 hk1 hS => ?_)
  obtain ⟨hP2, hD2⟩ := va_join (wr := xW a ca fR fB fW fC kc kr) (w1 := yW b cb u.1 u.2.1 u.2.2.1 u.2.2.2.1 u.2.2.2.2.1 u.2.2.2.2.2.1 u.2.2.2.2.2.2) S.1 S.2.1 [5, 6, 7, 8, 9] [0, 1, 2, 3, 4] rfl rfl (by decide) (by decide) hk1 hFc (by rw [← ht]; exact hB.1) hB.2.2
  exact k r u H1 locs1 hw1 ⟨hP2, hD2, hS⟩
theorem ly_v (E : lE p m c s args dC dI ca cb A) (S : lS dC dI A s a ca fR fB fW fC kc kr b cb gR gW gO gS qr qn qk H locs) {post : yU → Prop} (hM : ∀ sz, yMv l y bytes maxL rt rm (.ref (b 0) :: As) dC dI b cb sz gR gW gO gS qr qn qk post) (hq1 : Cond.methodLink R_law idx y ∈ lw_all) (hq2 : Cond.instanceMethod y ∈ lw_all) (hq3 : Cond.selects RX1 y y ∈ lw_all) (hq5 : Cond.code y bytes maxL rt ∈ lw_all) (hrc : rm.cells = 0) (hrs : rm.slots = 0) (hy : y.cls = RX1 ∧ y.cls ≠ "java/lang/invoke/MethodHandle" ∧ y.cls ≠ "java/lang/invoke/VarHandle" ∧ (parseMethodDescriptor y.desc).map (fun d => d.parameters.length) = some n) (hR : rm.frames + 1 ≤ R0.frames ∧ 8 + (maxL + 11) + rm.locals ≤ R0.locals) (hn : As.length = n) (hls : ls.size = 4) (hstk : st0 = As.reverse ++ .ref (b 0) :: rest) (hw : (rest.map fun v => v.category).sum ≤ 8) (hf : cells ≤ R0.cells ∧ slots ≤ R0.slots) (hd : decode code pc = .ok (.invokevirtual idx, 3))
    (k : ∀ (u : yU) (H : Heap) (locs : List Loc), post u → lS dC dI A s a ca fR fB fW fC kc kr b cb u.1 u.2.1 u.2.2.1 u.2.2.2.1 u.2.2.2.2.1 u.2.2.2.2.2.1 u.2.2.2.2.2.2 H locs → W p l e R0 s m args below meth c H locs cells slots Q (F0 m (pc + 3) ls (rest))) : W p l e R0 s m args below meth c H locs cells slots Q (F0 m pc ls st0) := by
  have hPc := S.1.sub (ws' := yW b cb gR gW gO gS qr qn qk) [5, 6, 7, 8, 9] rfl
  have hDc := S.2.1.sub (ws' := yW b cb gR gW gO gS qr qn qk) [5, 6, 7, 8, 9] (by decide) rfl
  have hKc := E.2.2.2.2.1.sub (tys' := yT cb) [4, 5, 6, 7] rfl
  have hFc := va_free (wc := yW b cb gR gW gO gS qr qn qk) S.2.1 S.2.2 E.2.2.2.2.2.1 [5, 6, 7, 8, 9] rfl
  refine va_callv (va_runV (As := As) (rest := rest) (b := b 0) ⟨E.1, E.2.1, E.2.2.2.2.2.2, E.2.2.2.1, E.2.2.1⟩ (hM H.size) (cwV n E.2.2.1 (lw_V hq1 hq2 hq3 q5 hq5) rfl hrc hrs hy hR) ⟨fun a U g mk q => by obtain ⟨q0, q1, qP, qK, qD⟩ := q; exact ⟨q0, q1, qP, va_K.moved (u := U) (U := U.calling g mk a) (Vm.Alike.refl U.vm) qK, qD⟩, va_recv hKc hPc (ci := 1) (q0 := 0) rfl rfl, fun U hU hW => ⟨rfl, by rw [hU], by rw [hU]; exact hPc, va_K.moved hW.alike hKc, hDc.weaken (fun _ _ _ _ => trivial)⟩⟩ rfl hn hls hstk (lv_room hw) hd ⟨hf.1, hf.2⟩) S.2.2 (fun q _ h => hFc q h) hFc (fun u t H1 locs1 ht hvm hw1 hB hz1 hk1 hS => ?_)
  obtain ⟨hP2, hD2⟩ := va_join (wr := xW a ca fR fB fW fC kc kr) (w1 := yW b cb u.1 u.2.1 u.2.2.1 u.2.2.2.1 u.2.2.2.2.1 u.2.2.2.2.2.1 u.2.2.2.2.2.2) S.1 S.2.1 [5, 6, 7, 8, 9] [0, 1, 2, 3, 4] rfl rfl (by decide) (by decide) hk1 hFc (by rw [← ht]; exact hB.1) hB.2.2
  exact k u H1 locs1 hw1 ⟨hP2, hD2, hS⟩
end LCALL
end
section
/-! the law: its cases and its loop -/
/-- what holds between two calls of the law: both desks hold the same k rows of n columns; what the reference says it knows is so -/
def lJ (dC : Nat → ClassId) (dI : Nat → Nat → Nat) (A : Nat → Prop) (s : State) (a : Nat → Nat) (ca : Nat → ClassId) (b : Nat → Nat) (cb : Nat → ClassId) (H : Heap) (locs : List Loc) : Prop :=
  ∃ (n k kb : Nat) (R : Nat → Nat) (fR fB : Nat → Int32) (fW : Nat → Int64) (fC gR : Nat → Int32) (gW gO : Nat → Int64) (gS : Nat → Int32), n ≤ 12 ∧ k ≤ 24 ∧ td_R R k n fR ∧ td_R R k n gR ∧ kb < 2 ∧ (kb = 1 → td_ok R k (2 ^ n) gW gS) ∧ lS dC dI A s a ca fR fB fW fC (nI n) (nI k) b cb gR gW gO gS (nI k) (nI n) (nI kb) H locs
/-- one more row -/
theorem td_R_add {R : Nat → Nat} {k n v : Nat} {f : Nat → Int32} (h : td_R R k n f) (hv : v < 2 ^ n) : td_R (fun j => if j = k then v else R j) (k + 1) n (upd f k (nI v)) := by
  intro i hi
  show (if i = k then nI v else f i) = nI (if i = k then v else R i) ∧ (if i = k then v else R i) < 2 ^ n
  by_cases q : i = k
  · rw [if_pos q, if_pos q]
    exact ⟨rfl, hv⟩
  · rw [if_neg q, if_neg q]
    exact h i (by omega)
theorem td_R_less {R : Nat → Nat} {k j n : Nat} {f : Nat → Int32} (h : td_R R k n f) (hj : j ≤ k) : td_R R j n f := fun i hi => h i (by omega)
theorem td_R_0 {R : Nat → Nat} {n : Nat} {f : Nat → Int32} : td_R R 0 n f := fun i hi => absurd hi (Nat.not_lt_zero i)
theorem td_head {L i : Nat} (hL : L ≤ 128) (hi : i ≤ 128) : nI L - nI 2 < nI i ↔ L < i + 2 := by
  rw [Int32.lt_iff_toInt_lt, pk_sub_toInt (by omega) (by omega), nI_toInt (by omega)]
  omega
theorem td_op (x : Int32) : ∃ j : Nat, j < 8 ∧ x &&& nI 7 = nI j := pk_andE x 3 (by decide +kernel)
section LCASE
variable {p : Program} {l : Launch} {e : Env} {R0 : Room} {s : State} {m : MethodId} {args : Array Value} {below : List Frame} {meth : Method} {c : Code} {H : Heap} {locs : List Loc} {cells slots : Nat} {Q : State → Prop}
variable {pc : Nat} {ls : Array Slot} {rest : List Value} {dC : Nat → ClassId} {dI : Nat → Nat → Nat} {A : Nat → Prop} {a b : Nat → Nat} {ca cb : Nat → ClassId}
variable {b0 L : Nat} {xs : Nat → Int32}
theorem l_sld (E : lE p m c s args dC dI ca cb A) (hX : va_X b0 L xs s s.heap) (hbl : b0 < s.heap.size) (hbA : ¬ A b0) (hL : L ≤ 128) (hS : va_S A s.heap H locs) {j : Nat} (hj : j < L) (hd : decode code pc = .ok (.iaload, 1)) (k : W p l e R0 s m args below meth c H locs cells slots Q (F0 m (pc + 1) ls (.int (xs j) :: rest))) : W p l e R0 s m args below meth c H locs cells slots Q (F0 m pc ls (.int (nI j) :: .ref b0 :: rest)) := va_sld E.1 E.2.1 hX hbl hbA hS (vp_in_nI hj (by omega)) hd (by rw [nI_clamp (by omega)]; exact k)
set_option maxHeartbeats 4000000 in
set_option maxRecDepth 100000 in
theorem law_c0 (E : lE p m c s args dC dI ca cb A) (hX : va_X b0 L xs s s.heap) (hbl : b0 < s.heap.size) (hbA : ¬ A b0) (hL : L ≤ 128) {i : Nat} (hi : i + 2 ≤ L) (J : lJ dC dI A s a ca b cb H locs) (hl : lv_has ls 4 [(0, .ref b0), (1, .ref (a 0)), (2, .ref (b 0)), (3, .int (nI (i)))]) (kc : ∀ (H : Heap) (locs : List Loc), lJ dC dI A s a ca b cb H locs → W p l e room_1 s m args below meth c H locs 10 221245 Q (F0 m 197 ls [])) : W p l e room_1 s m args below meth c H locs 10 221245 Q (F0 m 76 ls []) := by
  have hx := E.1
  have hb := E.2.1
  obtain ⟨n, k, kb, R, fR, fB, fW, fC, gR, gW, gO, gS, hn, hk, hR, hR2, hkb, hv, S⟩ := J
  have h2 := td_2n hn
  refine lv_aload_n hx hb dL_law_76 rfl (lv_at hl 1 rfl) ?_
  refine lv_aload_n hx hb dL_law_77 rfl (lv_at hl 0 rfl) ?_
  refine lv_iload_n hx hb dL_law_78 rfl (lv_at hl 3 rfl) ?_
  refine lv_iconst (v := nI 1) hx hb dL_law_79 (by decide +kernel) ?_
  refine tr_iadd hx hb dL_law_80 ?_
  refine l_sld E hX hbl hbA hL S.2.2 (show i + 1 < L by omega) dL_law_81 ?_
  refine lx_v (n := 1) E S (fun sz => mx_columns l dC dI a ca sz fR fB fW fC (nI n) (nI k) (xs (i + 1))) q37 q38 q39 q40 rfl rfl (by decide +kernel) ⟨Nat.le_of_ble_eq_true rfl, Nat.le_of_ble_eq_true rfl⟩ rfl hl.1 rfl (Nat.le_of_ble_eq_true rfl) ⟨Nat.le_of_ble_eq_true rfl, Nat.le_of_ble_eq_true rfl⟩ dL_law_82 (fun u H locs hu S => ?_)
  obtain rfl := hu
  have S : lS dC dI A s a ca fR fB fW fC (nI (1 + td_p (xs (i + 1)) % 12)) (nI 0) b cb gR gW gO gS (nI k) (nI n) (nI kb) H locs := S
  refine lv_aload_n hx hb dL_law_85 rfl (lv_at hl 2 rfl) ?_
  refine lv_aload_n hx hb dL_law_86 rfl (lv_at hl 0 rfl) ?_
  refine lv_iload_n hx hb dL_law_87 rfl (lv_at hl 3 rfl) ?_
  refine lv_iconst (v := nI 1) hx hb dL_law_88 (by decide +kernel) ?_
  refine tr_iadd hx hb dL_law_89 ?_
  refine l_sld E hX hbl hbA hL S.2.2 (show i + 1 < L by omega) dL_law_90 ?_
  refine ly_v (n := 1) E S (fun sz => my_columns l dC dI b cb sz gR gW gO gS (nI k) (nI n) (nI kb) (xs (i + 1))) q103 q104 q105 q106 rfl rfl (by decide +kernel) ⟨Nat.le_of_ble_eq_true rfl, Nat.le_of_ble_eq_true rfl⟩ rfl hl.1 rfl (Nat.le_of_ble_eq_true rfl) ⟨Nat.le_of_ble_eq_true rfl, Nat.le_of_ble_eq_true rfl⟩ dL_law_91 (fun u H locs hu S => ?_)
  obtain rfl := hu
  refine lv_goto (tgt := 197) hx hb dL_law_94 (by decide) ?_
  have hm : td_p (xs (i + 1)) % 12 < 12 := Nat.mod_lt _ (by decide)
  exact kc H locs ⟨1 + td_p (xs (i + 1)) % 12, 0, 0, R, fR, fB, fW, fC, gR, gW, gO, gS, by omega, by decide, td_R_0, td_R_0, by decide, fun z => absurd z (by decide), S⟩
set_option maxHeartbeats 4000000 in
set_option maxRecDepth 100000 in
theorem law_c1 (E : lE p m c s args dC dI ca cb A) (hX : va_X b0 L xs s s.heap) (hbl : b0 < s.heap.size) (hbA : ¬ A b0) (hL : L ≤ 128) {i : Nat} (hi : i + 2 ≤ L) (J : lJ dC dI A s a ca b cb H locs) (hl : lv_has ls 4 [(0, .ref b0), (1, .ref (a 0)), (2, .ref (b 0)), (3, .int (nI (i)))]) (kc : ∀ (H : Heap) (locs : List Loc), lJ dC dI A s a ca b cb H locs → W p l e room_1 s m args below meth c H locs 10 221245 Q (F0 m 197 ls [])) : W p l e room_1 s m args below meth c H locs 10 221245 Q (F0 m 97 ls []) := by
  have hx := E.1
  have hb := E.2.1
  obtain ⟨n, k, kb, R, fR, fB, fW, fC, gR, gW, gO, gS, hn, hk, hR, hR2, hkb, hv, S⟩ := J
  have h2 := td_2n hn
  refine lv_aload_n hx hb dL_law_97 rfl (lv_at hl 1 rfl) ?_
  refine lv_aload_n hx hb dL_law_98 rfl (lv_at hl 0 rfl) ?_
  refine lv_iload_n hx hb dL_law_99 rfl (lv_at hl 3 rfl) ?_
  refine lv_iconst (v := nI 1) hx hb dL_law_100 (by decide +kernel) ?_
  refine tr_iadd hx hb dL_law_101 ?_
  refine l_sld E hX hbl hbA hL S.2.2 (show i + 1 < L by omega) dL_law_102 ?_
  refine lx_i (n := 1) E S (fun sz => mx_row l dC dI a ca sz fR fB fW fC n k (xs (i + 1)) hn hk) q42 q43 q44 q45 rfl rfl (by decide +kernel) ⟨Nat.le_of_ble_eq_true rfl, Nat.le_of_ble_eq_true rfl⟩ rfl hl.1 rfl (Nat.le_of_ble_eq_true rfl) ⟨Nat.le_of_ble_eq_true rfl, Nat.le_of_ble_eq_true rfl⟩ dL_law_103 (fun r1 u H locs hu S => ?_)
  refine lv_aload_n hx hb dL_law_106 rfl (lv_at hl 2 rfl) ?_
  refine lv_aload_n hx hb dL_law_107 rfl (lv_at hl 0 rfl) ?_
  refine lv_iload_n hx hb dL_law_108 rfl (lv_at hl 3 rfl) ?_
  refine lv_iconst (v := nI 1) hx hb dL_law_109 (by decide +kernel) ?_
  refine tr_iadd hx hb dL_law_110 ?_
  refine l_sld E hX hbl hbA hL S.2.2 (show i + 1 < L by omega) dL_law_111 ?_
  by_cases hk24 : k = 24
  · obtain ⟨rfl, rfl⟩ := hu.1 hk24
    have S : lS dC dI A s a ca fR fB fW fC (nI n) (nI k) b cb gR gW gO gS (nI k) (nI n) (nI kb) H locs := S
    refine ly_i (n := 1) E S (fun sz => my_row l dC dI b cb sz gR gW gO gS n k (nI kb) (xs (i + 1)) hn hk) q108 q109 q110 q111 rfl rfl (by decide +kernel) ⟨Nat.le_of_ble_eq_true rfl, Nat.le_of_ble_eq_true rfl⟩ rfl hl.1 rfl (Nat.le_of_ble_eq_true rfl) ⟨Nat.le_of_ble_eq_true rfl, Nat.le_of_ble_eq_true rfl⟩ dL_law_112 (fun r2 u H locs hu S => ?_)
    obtain ⟨rfl, rfl⟩ := hu.1 hk24
    refine lv_icmp_eq (tgt := 197) hx hb dL_law_115 (by decide) (fun _ => ?_) (fun z => absurd rfl z)
    exact kc H locs ⟨n, k, kb, R, fR, fB, fW, fC, gR, gW, gO, gS, hn, hk, hR, hR2, hkb, hv, S⟩
  · obtain ⟨rfl, rfl⟩ := hu.2 hk24
    have S : lS dC dI A s a ca (upd fR k (nI (td_m n (xs (i + 1))))) fB fW fC (nI n) (nI (k + 1)) b cb gR gW gO gS (nI k) (nI n) (nI kb) H locs := S
    refine ly_i (n := 1) E S (fun sz => my_row l dC dI b cb sz gR gW gO gS n k (nI kb) (xs (i + 1)) hn hk) q108 q109 q110 q111 rfl rfl (by decide +kernel) ⟨Nat.le_of_ble_eq_true rfl, Nat.le_of_ble_eq_true rfl⟩ rfl hl.1 rfl (Nat.le_of_ble_eq_true rfl) ⟨Nat.le_of_ble_eq_true rfl, Nat.le_of_ble_eq_true rfl⟩ dL_law_112 (fun r2 u H locs hu S => ?_)
    obtain ⟨rfl, rfl⟩ := hu.2 hk24
    refine lv_icmp_eq (tgt := 197) hx hb dL_law_115 (by decide) (fun _ => ?_) (fun z => absurd rfl z)
    exact kc H locs ⟨n, k + 1, 0, fun j => if j = k then td_m n (xs (i + 1)) else R j, _, fB, fW, fC, _, gW, gO, gS, hn, by omega, td_R_add hR (td_m_lt n _), td_R_add hR2 (td_m_lt n _), by decide, fun z => absurd z (by decide), S⟩
set_option maxHeartbeats 4000000 in
set_option maxRecDepth 100000 in
theorem law_c2 (E : lE p m c s args dC dI ca cb A) (hX : va_X b0 L xs s s.heap) (hbl : b0 < s.heap.size) (hbA : ¬ A b0) (hL : L ≤ 128) {i : Nat} (hi : i + 2 ≤ L) (J : lJ dC dI A s a ca b cb H locs) (hl : lv_has ls 4 [(0, .ref b0), (1, .ref (a 0)), (2, .ref (b 0)), (3, .int (nI (i)))]) (kc : ∀ (H : Heap) (locs : List Loc), lJ dC dI A s a ca b cb H locs → W p l e room_1 s m args below meth c H locs 10 221245 Q (F0 m 197 ls [])) : W p l e room_1 s m args below meth c H locs 10 221245 Q (F0 m 120 ls []) := by
  have hx := E.1
  have hb := E.2.1
  obtain ⟨n, k, kb, R, fR, fB, fW, fC, gR, gW, gO, gS, hn, hk, hR, hR2, hkb, hv, S⟩ := J
  have h2 := td_2n hn
  refine lv_aload_n hx hb dL_law_120 rfl (lv_at hl 1 rfl) ?_
  refine lx_i (n := 0) E S (fun sz => mx_drop l dC dI a ca sz fR fB fW fC n k hk) q50 q51 q52 q53 rfl rfl (by decide +kernel) ⟨Nat.le_of_ble_eq_true rfl, Nat.le_of_ble_eq_true rfl⟩ rfl hl.1 rfl (Nat.le_of_ble_eq_true rfl) ⟨Nat.le_of_ble_eq_true rfl, Nat.le_of_ble_eq_true rfl⟩ dL_law_121 (fun r1 u H locs hu S => ?_)
  refine lv_aload_n hx hb dL_law_124 rfl (lv_at hl 2 rfl) ?_
  by_cases hk0 : k = 0
  · obtain ⟨rfl, rfl⟩ := hu.1 hk0
    have S : lS dC dI A s a ca fR fB fW fC (nI n) (nI k) b cb gR gW gO gS (nI k) (nI n) (nI kb) H locs := S
    refine ly_i (n := 0) E S (fun sz => my_drop l dC dI b cb sz gR gW gO gS n k (nI kb) hk) q112 q113 q114 q115 rfl rfl (by decide +kernel) ⟨Nat.le_of_ble_eq_true rfl, Nat.le_of_ble_eq_true rfl⟩ rfl hl.1 rfl (Nat.le_of_ble_eq_true rfl) ⟨Nat.le_of_ble_eq_true rfl, Nat.le_of_ble_eq_true rfl⟩ dL_law_125 (fun r2 u H locs hu S => ?_)
    obtain ⟨rfl, rfl⟩ := hu.1 hk0
    refine lv_icmp_eq (tgt := 197) hx hb dL_law_128 (by decide) (fun _ => ?_) (fun z => absurd rfl z)
    exact kc H locs ⟨n, k, kb, R, fR, fB, fW, fC, gR, gW, gO, gS, hn, hk, hR, hR2, hkb, hv, S⟩
  · obtain ⟨rfl, rfl⟩ := hu.2 hk0
    have S : lS dC dI A s a ca fR fB fW fC (nI n) (nI (k - 1)) b cb gR gW gO gS (nI k) (nI n) (nI kb) H locs := S
    refine ly_i (n := 0) E S (fun sz => my_drop l dC dI b cb sz gR gW gO gS n k (nI kb) hk) q112 q113 q114 q115 rfl rfl (by decide +kernel) ⟨Nat.le_of_ble_eq_true rfl, Nat.le_of_ble_eq_true rfl⟩ rfl hl.1 rfl (Nat.le_of_ble_eq_true rfl) ⟨Nat.le_of_ble_eq_true rfl, Nat.le_of_ble_eq_true rfl⟩ dL_law_125 (fun r2 u H locs hu S => ?_)
    obtain ⟨rfl, rfl⟩ := hu.2 hk0
    refine lv_icmp_eq (tgt := 197) hx hb dL_law_128 (by decide) (fun _ => ?_) (fun z => absurd rfl z)
    exact kc H locs ⟨n, k - 1, 0, R, fR, fB, fW, fC, gR, gW, gO, gS, hn, by omega, td_R_less hR (by omega), td_R_less hR2 (by omega), by decide, fun z => absurd z (by decide), S⟩
set_option maxHeartbeats 4000000 in
set_option maxRecDepth 100000 in
theorem law_c3 (E : lE p m c s args dC dI ca cb A) (hX : va_X b0 L xs s s.heap) (hbl : b0 < s.heap.size) (hbA : ¬ A b0) (hL : L ≤ 128) {i : Nat} (hi : i + 2 ≤ L) (J : lJ dC dI A s a ca b cb H locs) (hl : lv_has ls 4 [(0, .ref b0), (1, .ref (a 0)), (2, .ref (b 0)), (3, .int (nI (i)))]) (kc : ∀ (H : Heap) (locs : List Loc), lJ dC dI A s a ca b cb H locs → W p l e room_1 s m args below meth c H locs 10 221245 Q (F0 m 197 ls [])) : W p l e room_1 s m args below meth c H locs 10 221245 Q (F0 m 133 ls []) := by
  have hx := E.1
  have hb := E.2.1
  obtain ⟨n, k, kb, R, fR, fB, fW, fC, gR, gW, gO, gS, hn, hk, hR, hR2, hkb, hv, S⟩ := J
  have h2 := td_2n hn
  refine lv_aload_n hx hb dL_law_133 rfl (lv_at hl 1 rfl) ?_
  refine lx_l (n := 0) E S (fun sz => mx_count l dC dI a ca sz fR fB fW fC R n k hn hk hR) q54 q55 q56 q57 rfl rfl (by decide +kernel) ⟨Nat.le_of_ble_eq_true rfl, Nat.le_of_ble_eq_true rfl⟩ rfl hl.1 rfl (Nat.le_of_ble_eq_true rfl) ⟨Nat.le_of_ble_eq_true rfl, Nat.le_of_ble_eq_true rfl⟩ dL_law_134 (fun r1 u H locs hu S => ?_)
  obtain ⟨rfl, fW', rfl⟩ := hu
  have S : lS dC dI A s a ca fR fB fW' fC (nI n) (nI k) b cb gR gW gO gS (nI k) (nI n) (nI kb) H locs := S
  refine lv_aload_n hx hb dL_law_137 rfl (lv_at hl 2 rfl) ?_
  refine ly_l (n := 0) E S (fun sz => my_count l dC dI b cb sz gR gW gO gS R n k kb hn hk hR2 hkb hv) q116 q117 q118 q119 rfl rfl (by decide +kernel) ⟨Nat.le_of_ble_eq_true rfl, Nat.le_of_ble_eq_true rfl⟩ rfl hl.1 rfl (Nat.le_of_ble_eq_true rfl) ⟨Nat.le_of_ble_eq_true rfl, Nat.le_of_ble_eq_true rfl⟩ dL_law_138 (fun r2 u H locs hu S => ?_)
  obtain ⟨rfl, gW', gS', rfl, hok⟩ := hu
  refine W.lcmp hx hb dL_law_141 ?_
  refine lv_if_eq (tgt := 197) hx hb dL_law_142 (by decide) (fun _ => ?_) (fun z => absurd ((lg_cmp_eq _ _).mpr rfl) z)
  exact kc H locs ⟨n, k, 1, R, fR, fB, fW', fC, gR, gW', gO, gS', hn, hk, hR, hR2, by decide, fun _ => hok, S⟩
set_option maxHeartbeats 4000000 in
set_option maxRecDepth 100000 in
theorem law_c4 (E : lE p m c s args dC dI ca cb A) (hX : va_X b0 L xs s s.heap) (hbl : b0 < s.heap.size) (hbA : ¬ A b0) (hL : L ≤ 128) {i : Nat} (hi : i + 2 ≤ L) (J : lJ dC dI A s a ca b cb H locs) (hl : lv_has ls 4 [(0, .ref b0), (1, .ref (a 0)), (2, .ref (b 0)), (3, .int (nI (i)))]) (kc : ∀ (H : Heap) (locs : List Loc), lJ dC dI A s a ca b cb H locs → W p l e room_1 s m args below meth c H locs 10 221245 Q (F0 m 197 ls [])) : W p l e room_1 s m args below meth c H locs 10 221245 Q (F0 m 147 ls []) := by
  have hx := E.1
  have hb := E.2.1
  obtain ⟨n, k, kb, R, fR, fB, fW, fC, gR, gW, gO, gS, hn, hk, hR, hR2, hkb, hv, S⟩ := J
  have h2 := td_2n hn
  refine lv_aload_n hx hb dL_law_147 rfl (lv_at hl 1 rfl) ?_
  refine lx_i (n := 0) E S (fun sz => mx_first l dC dI a ca sz fR fB fW fC R n k hn hk hR) q62 q63 q64 q65 rfl rfl (by decide +kernel) ⟨Nat.le_of_ble_eq_true rfl, Nat.le_of_ble_eq_true rfl⟩ rfl hl.1 rfl (Nat.le_of_ble_eq_true rfl) ⟨Nat.le_of_ble_eq_true rfl, Nat.le_of_ble_eq_true rfl⟩ dL_law_148 (fun r1 u H locs hu S => ?_)
  obtain ⟨rfl, fC', rfl⟩ := hu
  have S : lS dC dI A s a ca fR fB fW fC' (nI n) (nI k) b cb gR gW gO gS (nI k) (nI n) (nI kb) H locs := S
  refine lv_aload_n hx hb dL_law_151 rfl (lv_at hl 2 rfl) ?_
  refine ly_i (n := 0) E S (fun sz => my_first l dC dI b cb sz gR gW gO gS R n k kb hn hk hR2 hkb hv) q124 q125 q126 q127 rfl rfl (by decide +kernel) ⟨Nat.le_of_ble_eq_true rfl, Nat.le_of_ble_eq_true rfl⟩ rfl hl.1 rfl (Nat.le_of_ble_eq_true rfl) ⟨Nat.le_of_ble_eq_true rfl, Nat.le_of_ble_eq_true rfl⟩ dL_law_152 (fun r2 u H locs hu S => ?_)
  obtain ⟨rfl, gW', gS', rfl, hok⟩ := hu
  refine lv_icmp_eq (tgt := 197) hx hb dL_law_155 (by decide) (fun _ => ?_) (fun z => absurd rfl z)
  exact kc H locs ⟨n, k, 1, R, fR, fB, fW, fC', gR, gW', gO, gS', hn, hk, hR, hR2, by decide, fun _ => hok, S⟩
set_option maxHeartbeats 4000000 in
set_option maxRecDepth 100000 in
theorem law_c5 (E : lE p m c s args dC dI ca cb A) (hX : va_X b0 L xs s s.heap) (hbl : b0 < s.heap.size) (hbA : ¬ A b0) (hL : L ≤ 128) {i : Nat} (hi : i + 2 ≤ L) (J : lJ dC dI A s a ca b cb H locs) (hl : lv_has ls 4 [(0, .ref b0), (1, .ref (a 0)), (2, .ref (b 0)), (3, .int (nI (i)))]) (kc : ∀ (H : Heap) (locs : List Loc), lJ dC dI A s a ca b cb H locs → W p l e room_1 s m args below meth c H locs 10 221245 Q (F0 m 197 ls [])) : W p l e room_1 s m args below meth c H locs 10 221245 Q (F0 m 160 ls []) := by
  have hx := E.1
  have hb := E.2.1
  obtain ⟨n, k, kb, R, fR, fB, fW, fC, gR, gW, gO, gS, hn, hk, hR, hR2, hkb, hv, S⟩ := J
  have h2 := td_2n hn
  refine lv_aload_n hx hb dL_law_160 rfl (lv_at hl 1 rfl) ?_
  refine lv_aload_n hx hb dL_law_161 rfl (lv_at hl 0 rfl) ?_
  refine lv_iload_n hx hb dL_law_162 rfl (lv_at hl 3 rfl) ?_
  refine lv_iconst (v := nI 1) hx hb dL_law_163 (by decide +kernel) ?_
  refine tr_iadd hx hb dL_law_164 ?_
  refine l_sld E hX hbl hbA hL S.2.2 (show i + 1 < L by omega) dL_law_165 ?_
  refine lx_l (n := 1) E S (fun sz => mx_with l dC dI a ca sz fR fB fW fC R n k (xs (i + 1)) hn hk hR) q66 q67 q68 q69 rfl rfl (by decide +kernel) ⟨Nat.le_of_ble_eq_true rfl, Nat.le_of_ble_eq_true rfl⟩ rfl hl.1 rfl (Nat.le_of_ble_eq_true rfl) ⟨Nat.le_of_ble_eq_true rfl, Nat.le_of_ble_eq_true rfl⟩ dL_law_166 (fun r1 u H locs hu S => ?_)
  obtain ⟨e1, fW', rfl⟩ := hu
  have S : lS dC dI A s a ca fR fB fW' fC (nI n) (nI k) b cb gR gW gO gS (nI k) (nI n) (nI kb) H locs := S
  refine lv_aload_n hx hb dL_law_169 rfl (lv_at hl 2 rfl) ?_
  refine lv_aload_n hx hb dL_law_170 rfl (lv_at hl 0 rfl) ?_
  refine lv_iload_n hx hb dL_law_171 rfl (lv_at hl 3 rfl) ?_
  refine lv_iconst (v := nI 1) hx hb dL_law_172 (by decide +kernel) ?_
  refine tr_iadd hx hb dL_law_173 ?_
  refine l_sld E hX hbl hbA hL S.2.2 (show i + 1 < L by omega) dL_law_174 ?_
  refine ly_l (n := 1) E S (fun sz => my_with l dC dI b cb sz gR gW gO gS R n k kb hn hk hR2 hkb hv (xs (i + 1))) q128 q129 q130 q131 rfl rfl (by decide +kernel) ⟨Nat.le_of_ble_eq_true rfl, Nat.le_of_ble_eq_true rfl⟩ rfl hl.1 rfl (Nat.le_of_ble_eq_true rfl) ⟨Nat.le_of_ble_eq_true rfl, Nat.le_of_ble_eq_true rfl⟩ dL_law_175 (fun r2 u H locs hu S => ?_)
  obtain ⟨e2, gW', gO', gS', kb', rfl, hkb', hv'⟩ := hu
  have e3 : r1 = r2 := e1.trans e2.symm
  refine W.lcmp hx hb dL_law_178 ?_
  refine lv_if_eq (tgt := 197) hx hb dL_law_179 (by decide) (fun _ => ?_) (fun z => absurd ((lg_cmp_eq _ _).mpr e3) z)
  exact kc H locs ⟨n, k, kb', R, fR, fB, fW', fC, gR, gW', gO', gS', hn, hk, hR, hR2, hkb', hv', S⟩
set_option maxHeartbeats 4000000 in
set_option maxRecDepth 100000 in
theorem law_c6 (E : lE p m c s args dC dI ca cb A) (hX : va_X b0 L xs s s.heap) (hbl : b0 < s.heap.size) (hbA : ¬ A b0) (hL : L ≤ 128) {i : Nat} (hi : i + 2 ≤ L) (J : lJ dC dI A s a ca b cb H locs) (hl : lv_has ls 4 [(0, .ref b0), (1, .ref (a 0)), (2, .ref (b 0)), (3, .int (nI (i)))]) (kc : ∀ (H : Heap) (locs : List Loc), lJ dC dI A s a ca b cb H locs → W p l e room_1 s m args below meth c H locs 10 221245 Q (F0 m 197 ls [])) : W p l e room_1 s m args below meth c H locs 10 221245 Q (F0 m 184 ls []) := by
  have hx := E.1
  have hb := E.2.1
  obtain ⟨n, k, kb, R, fR, fB, fW, fC, gR, gW, gO, gS, hn, hk, hR, hR2, hkb, hv, S⟩ := J
  have h2 := td_2n hn
  refine lv_aload_n hx hb dL_law_184 rfl (lv_at hl 1 rfl) ?_
  refine lx_i (n := 0) E S (fun sz => mx_least l dC dI a ca sz fR fB fW fC R n k hn hk hR) q70 q71 q72 q73 rfl rfl (by decide +kernel) ⟨Nat.le_of_ble_eq_true rfl, Nat.le_of_ble_eq_true rfl⟩ rfl hl.1 rfl (Nat.le_of_ble_eq_true rfl) ⟨Nat.le_of_ble_eq_true rfl, Nat.le_of_ble_eq_true rfl⟩ dL_law_185 (fun r1 u H locs hu S => ?_)
  obtain ⟨rfl, fB', rfl⟩ := hu
  have S : lS dC dI A s a ca fR fB' fW fC (nI n) (nI k) b cb gR gW gO gS (nI k) (nI n) (nI kb) H locs := S
  refine lv_aload_n hx hb dL_law_188 rfl (lv_at hl 2 rfl) ?_
  refine ly_i (n := 0) E S (fun sz => my_least l dC dI b cb sz gR gW gO gS R n k kb hn hk hR2 hkb hv) q133 q134 q135 q136 rfl rfl (by decide +kernel) ⟨Nat.le_of_ble_eq_true rfl, Nat.le_of_ble_eq_true rfl⟩ rfl hl.1 rfl (Nat.le_of_ble_eq_true rfl) ⟨Nat.le_of_ble_eq_true rfl, Nat.le_of_ble_eq_true rfl⟩ dL_law_189 (fun r2 u H locs hu S => ?_)
  obtain ⟨rfl, gW', gS', rfl, hok⟩ := hu
  refine lv_icmp_eq (tgt := 197) hx hb dL_law_192 (by decide) (fun _ => ?_) (fun z => absurd rfl z)
  exact kc H locs ⟨n, k, 1, R, fR, fB', fW, fC, gR, gW', gO, gS', hn, hk, hR, hR2, by decide, fun _ => hok, S⟩
end LCASE
set_option maxHeartbeats 4000000 in
set_option maxRecDepth 100000 in
theorem law_loop {p : Program} {l : Launch} {e : Env} {s : State} {m : MethodId} {below : List Frame} {meth : Method} {c : Code} {dC : Nat → ClassId} {dI : Nat → Nat → Nat} {a b : Nat → Nat} {ca cb : Nat → ClassId} {b0 L : Nat} {xs : Nat → Int32} (hL : L ≤ 128) (C0 : lw_At p s m meth c b0 L xs) (hK : va_K (dC, dI) vwCl (xT ca ++ yT cb) s) :
    ∀ (d i : Nat) (H : Heap) (locs : List Loc) (ls : Array Slot), i ≤ L → L + 1 ≤ i + d → lJ dC dI (fun q : Nat => s.heap.size ≤ q) s a ca b cb H locs → lv_has ls 4 [(0, .ref b0), (1, .ref (a 0)), (2, .ref (b 0)), (3, .int (nI (i)))] → W p l e room_1 s m #[Value.ref b0] below meth c H locs 10 221245 (lw_Z below #[Value.ref b0] s) (F0 m 18 ls []) := by
  obtain ⟨hx, hb, hr, hml, hown, hts, hX, hbl, hlocks, hgv⟩ := C0
  have hA : ∀ q : Nat, s.heap.size ≤ q → (fun q : Nat => s.heap.size ≤ q) q := fun _ h => h
  have hbA : ¬ (fun q : Nat => s.heap.size ≤ q) b0 := Nat.not_le.mpr hbl
  have E : lE p m c s #[Value.ref b0] dC dI ca cb (fun q : Nat => s.heap.size ≤ q) := ⟨hx, hb, fun w h => hts w (lw_all_tbl h), hown, hK, hA, hml⟩
  intro d
  induction d with
  | zero =>
    intro i H locs ls h1 h2
    exact absurd h2 (by omega)
  | succ d ih =>
    intro i H locs ls hi hd J hl
    have hS : va_S (fun q : Nat => s.heap.size ≤ q) s.heap H locs := by
      obtain ⟨n, k, kb, R, fR, fB, fW, fC, gR, gW, gO, gS, -, -, -, -, -, -, S⟩ := J
      exact S.2.2
    refine lv_iload_n hx hb dL_law_18 rfl (lv_at hl 3 rfl) ?_
    refine lv_aload_n hx hb dL_law_19 rfl (lv_at hl 0 rfl) ?_
    refine va_slen hx hb hX hbl hbA hS dL_law_20 ?_
    refine tr_i (y := nI L) rfl ?_
    refine lv_iconst (v := nI 2) hx hb dL_law_21 (by decide +kernel) ?_
    refine lv_isub hx hb dL_law_22 ?_
    refine lv_icmp_gt (tgt := 203) hx hb dL_law_23 (by decide) (fun c1 => ?_) (fun c1 => ?_)
    · refine lv_iconst (v := 1) hx hb dL_law_203 (by decide) ?_
      refine va_forget (fun q hq => hS.2.2 q hq) ?_
      refine W.widen (k := 600000) (n := 7302250) (Nat.le_of_ble_eq_true rfl) (Nat.le_of_ble_eq_true rfl) ?_
      exact lw_ret hx hb hr hlocks dL_law_204
    · have hi2 : i + 2 ≤ L := Nat.not_lt.mp (fun z => c1 ((td_head hL (by omega)).mpr z))
      have kc : ∀ (H : Heap) (locs : List Loc), lJ dC dI (fun q : Nat => s.heap.size ≤ q) s a ca b cb H locs → W p l e room_1 s m #[Value.ref b0] below meth c H locs 10 221245 (lw_Z below #[Value.ref b0] s) (F0 m 197 ls []) := by
        intro H locs J
        refine lv_iinc (v := (nI (i + 2))) (lv' := [(3, .int (nI (i + 2))), (0, .ref b0), (1, .ref (a 0)), (2, .ref (b 0))]) hx hb dL_law_197 hl (k := 3) rfl (td_inc2 _) (by decide) rfl (fun ls hl => ?_)
        refine lv_goto (tgt := 18) hx hb dL_law_200 (by decide) ?_
        exact ih (i + 2) _ _ _ hi2 (by omega) J (lv_sub hl [1, 2, 3, 0] rfl)
      refine lv_aload_n hx hb dL_law_26 rfl (lv_at hl 0 rfl) ?_
      refine lv_iload_n hx hb dL_law_27 rfl (lv_at hl 3 rfl) ?_
      refine l_sld E hX hbl hbA hL hS (show i < L by omega) dL_law_28 ?_
      refine lv_bipush (v := nI 7) hx hb dL_law_29 (by decide +kernel) ?_
      refine lv_iand hx hb dL_law_31 ?_
      obtain ⟨j, hj, ej⟩ := td_op (xs i)
      refine tr_i ej ?_
      rcases (show j = 0 ∨ j = 1 ∨ j = 2 ∨ j = 3 ∨ j = 4 ∨ j = 5 ∨ j = 6 ∨ j = 7 by omega) with z | z | z | z | z | z | z | z
      · subst z
        refine lv_tableIn (tgt := 76) (off := 44) hx hb dL_law_32 (by decide +kernel) (by decide +kernel) (by decide +kernel) (by decide) ?_
        exact law_c0 E hX hbl hbA hL hi2 J hl kc
      · subst z
        refine lv_tableIn (tgt := 97) (off := 65) hx hb dL_law_32 (by decide +kernel) (by decide +kernel) (by decide +kernel) (by decide) ?_
        exact law_c1 E hX hbl hbA hL hi2 J hl kc
      · subst z
        refine lv_tableIn (tgt := 120) (off := 88) hx hb dL_law_32 (by decide +kernel) (by decide +kernel) (by decide +kernel) (by decide) ?_
        exact law_c2 E hX hbl hbA hL hi2 J hl kc
      · subst z
        refine lv_tableIn (tgt := 133) (off := 101) hx hb dL_law_32 (by decide +kernel) (by decide +kernel) (by decide +kernel) (by decide) ?_
        exact law_c3 E hX hbl hbA hL hi2 J hl kc
      · subst z
        refine lv_tableIn (tgt := 147) (off := 115) hx hb dL_law_32 (by decide +kernel) (by decide +kernel) (by decide +kernel) (by decide) ?_
        exact law_c4 E hX hbl hbA hL hi2 J hl kc
      · subst z
        refine lv_tableIn (tgt := 160) (off := 128) hx hb dL_law_32 (by decide +kernel) (by decide +kernel) (by decide +kernel) (by decide) ?_
        exact law_c5 E hX hbl hbA hL hi2 J hl kc
      · subst z
        refine lv_tableIn (tgt := 184) (off := 152) hx hb dL_law_32 (by decide +kernel) (by decide +kernel) (by decide +kernel) (by decide) ?_
        exact law_c6 E hX hbl hbA hL hi2 J hl kc
      · subst z
        refine lv_tableOut (tgt := 197) hx hb dL_law_32 (by decide +kernel) (by decide) ?_
        exact kc H locs J
end
section
set_option maxHeartbeats 4000000 in
set_option maxRecDepth 100000 in
/-- YOUR PART: from the entry, for every script of at most 128 ints, the law comes to its end with true -/
theorem whole_start {p : Program} {e : Env} {s : State} {m : MethodId} {below : List Frame} {meth : Method} {c : Code} (l : Launch) {b L : Nat} {xs : Nat → Int32} (hL : L ≤ 128) (C0 : lw_At p s m meth c b L xs) : W p l e room_1 s m #[Value.ref b] below meth c s.heap [] 0 0 (lw_Z below #[Value.ref b] s) (entryFrame m ([Value.ref b] : List Value).toArray 4) := by
  obtain ⟨hx, hb, hr, hml, hown, hts0, hX, hbl, hlocks, hgv⟩ := id C0
  have hts : ∀ w ∈ lw_all, w.before #[Value.ref b] s = true := fun w h => hts0 w (lw_all_tbl h)
  have hA : ∀ q : Nat, s.heap.size ≤ q → (fun q : Nat => s.heap.size ≤ q) q := fun _ h => h
  have hbA : ¬ (fun q : Nat => s.heap.size ≤ q) b := Nat.not_le.mpr hbl
  obtain ⟨c0, iS0, hKn0⟩ := u_known (C := RX0) (T := TX0) (N := 6) (n := 6) hts in_X0 (hts _ q7)
  obtain ⟨c1, iS1, hKn1⟩ := u_known (C := RX1) (T := TX1) (N := 7) (n := 7) hts in_X1 (hts _ q75)
  obtain ⟨dC, dI, hKc⟩ : ∃ (dC : Nat → ClassId) (dI : Nat → Nat → Nat), ∀ (k : Nat) (q : vw_C), vwCl[k]? = some q → u_Kn s q.1 q.2.1 q.2.2 (dC k) (dI k) := by
    refine ⟨fun k => if k = 0 then c0 else c1, fun k => if k = 0 then iS0 else iS1, ?_⟩
    intro k q hq
    match k, hq with
    | 0, hq => cases hq; exact hKn0
    | 1, hq => cases hq; exact hKn1
    | k + 2, hq => simp [vwCl] at hq
  have hS : va_S (fun q : Nat => s.heap.size ≤ q) s.heap s.heap [] := va_S.rf
  have hK : va_K (dC, dI) vwCl [] s := ⟨hKc, fun k q h => by simp at h⟩
  have hP : va_P (dC, dI) vwCl [] s.heap := fun k q h => by simp at h
  have hD : va_D (fun q : Nat => s.heap.size ≤ q) [] := ⟨fun i j p q h => by simp at h, fun k q h => by simp at h⟩
  have hl := lv_entry ([.ref b]) (n := 4) (Nat.le_of_ble_eq_true rfl)
  rw [lg_entry_eq]
  generalize (lg_sl ([.ref b]) ++ List.replicate (4 - (lg_sl ([.ref b])).length) Slot.unset).toArray = ls at hl ⊢
  have hl : lv_has ls 4 [(0, .ref b)] := hl
  refine va_new (ci := 0) (fs := [.null, .null, .null, .null, .int 0, .int 0]) (C := RX0) (T := TX0) (N := 6) hx hb hts in_X0 tyX0 tyX0_ok hown (hts _ q6) (hts _ q7) (hts _ q4) hK hP hD hS hA rfl (fun j hj => by rcases (show j = 0 ∨ j = 1 ∨ j = 2 ∨ j = 3 ∨ j = 4 ∨ j = 5 by omega) with rfl | rfl | rfl | rfl | rfl | rfl <;> rfl) (Nat.le_of_ble_eq_true rfl) (Nat.le_of_ble_eq_true rfl) dL_law_0 (fun q0v H hP hD hS => ?_)
  have hP : va_P (dC, dI) vwCl [(q0v, .inr (0, [.null, .null, .null, .null, .int 0, .int 0]))] H := hP
  have hD : va_D (fun q : Nat => s.heap.size ≤ q) [(q0v, .inr (0, [.null, .null, .null, .null, .int 0, .int 0]))] := hD
  refine W.widen (k := 1) (n := 6) (by omega) (by omega) ?_
  refine lv_dup hx hb dL_law_3 rfl ?_
  have hFc := va_free (wc := [(q0v, .inr (0, [.null, .null, .null, .null, .int 0, .int 0]))]) hD hS hA [0] rfl
  refine va_callv (va_runI (As := []) (rest := [.ref q0v]) ⟨hx, hb, hml, hown, hts⟩ (mx_init l dC dI q0v H.size) (cwI 0 hts (lw_meth q10) rfl rfl rfl (hts _ q4) (hts _ q8) (hts _ q9) rfl (by decide +kernel) ⟨Nat.le_of_ble_eq_true rfl, Nat.le_of_ble_eq_true rfl⟩) ⟨fun a U g mk q => by obtain ⟨q0, q1, qP, qK, qD⟩ := q; exact ⟨q0, q1, qP, va_K.moved (u := U) (U := U.calling g mk a) (Vm.Alike.refl U.vm) qK, qD⟩, fun U hU hW => ⟨rfl, by rw [hU], by rw [hU]; exact hP, va_K.moved hW.alike hK, hD.weaken (fun _ _ _ _ => trivial)⟩⟩ rfl rfl hl.1 rfl (lv_room (Nat.le_of_ble_eq_true rfl)) dL_law_4 ⟨Nat.le_of_ble_eq_true rfl, Nat.le_of_ble_eq_true rfl⟩) hS (fun q _ h => hFc q h) hFc (fun u t H1 locs ht hvm hw1 hB hz1 hk1 hS => ?_)
  obtain ⟨a, ca⟩ := u
  obtain ⟨hP1, hK1, hD1⟩ := hB
  have hw1 : a 0 = q0v := hw1
  subst hw1
  have hP : va_P (dC, dI) vwCl (xW a ca (fun _ => 0) (fun _ => 0) (fun _ => 0) (fun _ => 0) (nI 6) (nI 0)) H1 := by rw [← ht]; exact hP1
  have hD : va_D (fun q : Nat => s.heap.size ≤ q) (xW a ca (fun _ => 0) (fun _ => 0) (fun _ => 0) (fun _ => 0) (nI 6) (nI 0)) := hD1.weaken (fun _ q _ h => hFc q.1 h)
  have hK : va_K (dC, dI) vwCl (xT ca) s := va_K.moved hvm.symm hK1
  generalize H1 = H at hP hS ⊢
  refine W.widen (k := 5) (n := 110622) (by omega) (by omega) ?_
  refine lv_astore_n (lv' := [(1, .ref (a 0)), (0, .ref b)]) hx hb dL_law_7 rfl hl (by decide) rfl (fun ls hl => ?_)
  refine va_new (ci := 1) (fs := [.null, .int 0, .int 0, .int 0, .null, .null, .null]) (C := RX1) (T := TX1) (N := 7) hx hb hts in_X1 tyX1 tyX1_ok hown (hts _ q74) (hts _ q75) (hts _ q5) hK hP hD hS hA rfl (fun j hj => by rcases (show j = 0 ∨ j = 1 ∨ j = 2 ∨ j = 3 ∨ j = 4 ∨ j = 5 ∨ j = 6 by omega) with rfl | rfl | rfl | rfl | rfl | rfl | rfl <;> rfl) (Nat.le_of_ble_eq_true rfl) (Nat.le_of_ble_eq_true rfl) dL_law_8 (fun q1v H hP hD hS => ?_)
  refine W.widen (k := 6) (n := 110629) (by omega) (by omega) ?_
  refine lv_dup hx hb dL_law_11 rfl ?_
  have hPc := hP.sub (ws' := [(q1v, .inr (1, [.null, .int 0, .int 0, .int 0, .null, .null, .null]))]) [5] rfl
  have hDc := hD.sub (ws' := [(q1v, .inr (1, [.null, .int 0, .int 0, .int 0, .null, .null, .null]))]) [5] (by decide) rfl
  have hKc := hK.sub (tys' := []) [] rfl
  have hFc := va_free (wc := [(q1v, .inr (1, [.null, .int 0, .int 0, .int 0, .null, .null, .null]))]) hD hS hA [5] rfl
  refine va_callv (va_runI (As := []) (rest := [.ref q1v]) ⟨hx, hb, hml, hown, hts⟩ (my_init l dC dI q1v H.size) (cwI 0 hts (lw_meth q78) rfl rfl rfl (hts _ q5) (hts _ q76) (hts _ q77) rfl (by decide +kernel) ⟨Nat.le_of_ble_eq_true rfl, Nat.le_of_ble_eq_true rfl⟩) ⟨fun a U g mk q => by obtain ⟨q0, q1, qP, qK, qD⟩ := q; exact ⟨q0, q1, qP, va_K.moved (u := U) (U := U.calling g mk a) (Vm.Alike.refl U.vm) qK, qD⟩, fun U hU hW => ⟨rfl, by rw [hU], by rw [hU]; exact hPc, va_K.moved hW.alike hKc, hDc.weaken (fun _ _ _ _ => trivial)⟩⟩ rfl rfl hl.1 rfl (lv_room (Nat.le_of_ble_eq_true rfl)) dL_law_12 ⟨Nat.le_of_ble_eq_true rfl, Nat.le_of_ble_eq_true rfl⟩) hS (fun q _ h => hFc q h) hFc (fun u t H1 locs ht hvm hw1 hB hz1 hk1 hS => ?_)
  obtain ⟨b1, cb⟩ := u
  obtain ⟨hP1, hK1, hD1⟩ := hB
  have hw1 : b1 0 = q1v := hw1
  subst hw1
  obtain ⟨hP2, hD2⟩ := va_join (wr := xW a ca (fun _ => 0) (fun _ => 0) (fun _ => 0) (fun _ => 0) (nI 6) (nI 0)) (w1 := yW b1 cb (fun _ => 0) (fun _ => 0) (fun _ => 0) (fun _ => 0) (nI 0) (nI 6) (nI 0)) hP hD [5] [0, 1, 2, 3, 4] rfl rfl (by decide) (by decide) hk1 hFc (by rw [← ht]; exact hP1) hD1
  have hK2 : va_K (dC, dI) vwCl (xT ca ++ yT cb) s := hK.app (va_K.moved hvm.symm hK1)
  refine W.widen (k := 10) (n := 221245) (by omega) (by omega) ?_
  refine lv_astore_n (lv' := [(2, .ref (b1 0)), (1, .ref (a 0)), (0, .ref b)]) hx hb dL_law_15 rfl hl (by decide) rfl (fun ls hl => ?_)
  refine lv_iconst (v := nI 0) hx hb dL_law_16 (by decide +kernel) ?_
  refine lv_istore_n (lv' := [(3, .int (nI 0)), (2, .ref (b1 0)), (1, .ref (a 0)), (0, .ref b)]) hx hb dL_law_17 rfl hl (by decide) rfl (fun ls hl => ?_)
  exact law_loop hL C0 hK2 (L + 1) 0 H1 locs ls (Nat.zero_le L) (by omega) ⟨6, 0, 0, fun _ => 0, fun _ => 0, fun _ => 0, fun _ => 0, fun _ => 0, fun _ => 0, fun _ => 0, fun _ => 0, fun _ => 0, by decide, by decide, td_R_0, td_R_0, by decide, fun z => absurd z (by decide), hP2, hD2, hS⟩ (lv_sub hl [3, 2, 1, 0] rfl)
set_option maxHeartbeats 4000000 in
theorem lw_walk (l : Launch) (b : Addr) (xs : List Int32) : MetFree l x (headSpec (Jvm.Cond.code x code maxLocals ret :: tables_1) room_1) (lw_P b xs) (fun _ _ _ _ _ => True) lw_Q := by
  refine MetFree.of_bodyS (code := code) (maxLocals := maxLocals) (ret := ret) (by decide) ?_ ?_
  · intro args s m h hn
    obtain ⟨meth, c, h1, h2, h3, h4, h5, h6, -, -⟩ := Cond.code_spec hn (atoms_spec (ws := Jvm.Cond.code x code maxLocals ret :: tables_1) h _ List.mem_cons_self)
    exact ⟨meth, c, h1, h2, h3, h4, h5, h6⟩
  · intro p e s m args below meth c s₁ B hml0 hP _
    obtain ⟨rfl, hx, hbd, hgv⟩ := hP
    obtain ⟨scr, harrAt, hlist, hof, hsmall⟩ := hx
    obtain ⟨hcb, hkn, -, -⟩ := State.arrayAt?_spec harrAt
    have hown : s.vm.findClass R_law = some m.cls := findClass_of_methodNamed B.named
    have hts0 : ∀ c ∈ (Jvm.Cond.code x code maxLocals ret :: tables_1), c.before #[Value.ref b] s = true := atoms_spec (ws := Jvm.Cond.code x code maxLocals ret :: tables_1) B.pre
    have hts : ∀ w ∈ lw_tbl, w.before #[Value.ref b] s = true := k2_hts_sels lw_privs (fun w hw => hts0 w (List.mem_cons_of_mem _ hw)) lw_privs_ok
    have hml : c.maxLocals = 4 := B.maxLocals_eq (hts0 _ List.mem_cons_self)
    have X₀ : Stand p l e room_1 s m #[Value.ref b] below meth c s₁ [] 0 0 := Stand.of_body B
    have hh0 : s₁.heap = s.heap := by rw [B.state]; rfl
    have hsz : scr.slots.size = xs.length := by rw [← Array.length_toList, hlist, List.length_map]
    have hval : ∀ j : Nat, j < xs.length → scr.slots[j]? = some (.int (xs.getD j 0)) := fun j hj => by
      rw [← Array.getElem?_toList, hlist]
      simp [hj]
    have hbl : b < s.heap.size := (Array.getElem?_eq_some_iff.mp hcb).1
    have hX : va_X b xs.length (fun j => xs.getD j 0) s s.heap := ⟨scr, hcb, hof, hkn, hsz, hval⟩
    have K : W p l e room_1 s m #[Value.ref b] below meth c s₁.heap [] 0 0 (lw_Z below #[Value.ref b] s) (entryFrame m ([Value.ref b] : List Value).toArray 4) := by
      rw [hh0]
      exact whole_start l hbd ⟨B.exec, B.bytes, B.returns, hml, hown, hts, hX, hbl, B.notSynchronized, hgv⟩
    obtain ⟨t, a1, o, b1, b2, b3⟩ := K s₁ rfl X₀
    exact ⟨t, o, a1, b1, b2, b3⟩
theorem lw_pre_spec {args : Array Value} {s : State} (h : (Jvm.Cond.and given_1 narrow_1).before args s = true) (hr : rest_1_c.before args s = true) : ∃ (b : Addr) (xs : List Int32), lw_P b xs args s := by
  have hs := flat_of_before _ h
  have hq := flat_of_before _ hr
  have hc : (Cond.count 1).before args s = true := hs _ (by decide +kernel)
  have harr : (Cond.arrayOf (.arg 0) .int).before args s = true := hs _ (by decide +kernel)
  have hle : (Cond.le (.length (.arg 0)) (.int 128)).before args s = true := hs _ (by decide +kernel)
  have hlen : (Cond.isInt (.length (.arg 0))).before args s = true := hq _ (by decide +kernel)
  have hall : (Cond.all (.arg 0) (.isInt (.elem (.arg 0) (.index 0)))).before args s = true := hq _ (by decide +kernel)
  obtain ⟨b, xs, hb, hx⟩ := State.ints_of_pre rfl harr hlen hall
  have hsm : xs.length < 2 ^ 31 := hx.choose_spec.2.2.2
  have hev : (Term.length (.arg 0)).eval args s none [] s = some (.int xs.length.toInt32) := hx.length_eval hb
  have hv := Cond.le_ints hev (show (Term.int 128).eval args s none [] s = some (.int 128) from rfl)
  have hd : xs.length.toInt32 ≤ 128 := by
    simpa [Cond.before, Cond.holds, hv] using hle
  have hN : xs.length ≤ 128 := (Int32.ofNat_le_ofNat hsm (by decide)).mp (show Int32.ofNat xs.length ≤ Int32.ofNat 128 from hd)
  exact ⟨b, xs, Cond.one_arg hc (show args[0]? = some (.ref b) from hb), hx, hN, h⟩
theorem lw_comes (l : Launch) : Comes l x (Jvm.Cond.code x code maxLocals ret :: tables_1) room_1 (fun tb e args s => Calls_1 tb e args s ∧ rest_1 tb e args s ∧ Pre_1 tb e args s)
    (fun _ _ args s o t => lw_Q args s o t) := by
  intro p e ha hc hk s m args below hf hfit hheap happ hpre
  obtain ⟨b, xs, hP⟩ := lw_pre_spec hpre.2.2 hpre.2.1
  obtain ⟨k, o, h1, h2, h3, hQ⟩ := lw_walk l b xs p e ha hc hk s m args below hf ((Spec.applies_iff_loose hf).mp happ).1 hP trivial
  exact ⟨k, o, h1, h2, h3, hQ⟩
theorem lw_frame {s t : State} {o : Outcome} {args : Array Value} (h : Framed s o t [] 600000 7302250) :
    Framed s o t (fieldLocs frame_1_writes args s ++ arrayLocs frame_1_arrays args s ++ staticLocs frame_1_statics s) 600000 7302250 := h
theorem lw_limb (L : Cond) (hL : ∀ (args : Array Value) (s t : State), L.after args s (.returned (some (.int 1))) t = true) :
    ArmFor flags0 classFile x code maxLocals ret World_1 tables_1 room_1 Calls_1 rest_1 Pre_1
      (fun tb e a s o t => postC L tb e a s o t ∧ Framed s o t (fieldLocs frame_1_writes a s ++ arrayLocs frame_1_arrays a s ++ staticLocs frame_1_statics s) 600000 7302250) := by
  intro l _ _ _ p e ha hc hk s m args below hf hfit hheap happ hpre
  obtain ⟨k, o, h1, h2, h3, rfl, hF⟩ := lw_comes l p e ha hc hk s m args below hf hfit hheap happ hpre
  exact ⟨k, _, h1, h2, h3, hL args s _, lw_frame hF⟩
theorem i_vc : Claimed_1_1 ∧ Claimed_1_2 := ⟨lw_limb limb_1_1 (fun args s t => by simp [limb_1_1, Cond.after, Cond.holds, Cond.value]), lw_limb limb_1_2 (fun args s t => Cond.after_iff.mpr (by
  first | (rw [show limb_1_2 = Cond.eq .result (.int 1) from rfl, Cond.eq_ints (x := 1) (y := 1) rfl rfl]; simp; done) | (simp [limb_1_2, Cond.value, Term.eval]; done)))⟩
end
