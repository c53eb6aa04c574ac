section
-- ===== PART A: goes FIRST, ahead of the names: the tables' words, and 'selects' of the private methods out of them =====
/-- a private method of a class that the tables say can be made, by its rows of tables_1 -/
def lw_okq (q : MethodName × Nat) : Prop := (q.1.cls ≠ "java/lang/invoke/MethodHandle" ∧ q.1.cls ≠ "java/lang/invoke/VarHandle") ∧ Cond.instantiable q.1.cls q.2 ∈ tables_1 ∧ Cond.privateMethod q.1 ∈ tables_1 ∧ Cond.instanceMethod q.1 ∈ tables_1
set_option maxRecDepth 100000
theorem lw_p0 : lw_okq (⟨"GroupRows", "given", "()I"⟩, 5) := ⟨⟨by decide +kernel, by decide +kernel⟩, List.mem_of_getElem? (i := 5) rfl, List.mem_of_getElem? (i := 69) rfl, List.mem_of_getElem? (i := 70) rfl⟩
theorem lw_p1 : lw_okq (⟨"GroupRows$Group", "keep", "([III)V"⟩, 6) := ⟨⟨by decide +kernel, by decide +kernel⟩, List.mem_of_getElem? (i := 13) rfl, List.mem_of_getElem? (i := 77) rfl, List.mem_of_getElem? (i := 78) rfl⟩
theorem lw_p2 : lw_okq (⟨"GroupRows$Group", "fewest", "()I"⟩, 6) := ⟨⟨by decide +kernel, by decide +kernel⟩, List.mem_of_getElem? (i := 13) rfl, List.mem_of_getElem? (i := 81) rfl, List.mem_of_getElem? (i := 82) rfl⟩
theorem lw_p3 : lw_okq (⟨"GroupRows", "changed", "(IZ)I"⟩, 5) := ⟨⟨by decide +kernel, by decide +kernel⟩, List.mem_of_getElem? (i := 5) rfl, List.mem_of_getElem? (i := 89) rfl, List.mem_of_getElem? (i := 90) rfl⟩
theorem lw_p4 : lw_okq (⟨"GroupRows", "partAt", "(II)I"⟩, 5) := ⟨⟨by decide +kernel, by decide +kernel⟩, List.mem_of_getElem? (i := 5) rfl, List.mem_of_getElem? (i := 108) rfl, List.mem_of_getElem? (i := 109) rfl⟩
theorem lw_p5 : lw_okq (⟨"GroupRowsModel", "dealt", "()I"⟩, 10) := ⟨⟨by decide +kernel, by decide +kernel⟩, List.mem_of_getElem? (i := 128) rfl, List.mem_of_getElem? (i := 173) rfl, List.mem_of_getElem? (i := 174) rfl⟩
theorem lw_p6 : lw_okq (⟨"GroupRowsModel", "isShared", "(I)Z"⟩, 10) := ⟨⟨by decide +kernel, by decide +kernel⟩, List.mem_of_getElem? (i := 128) rfl, List.mem_of_getElem? (i := 177) rfl, List.mem_of_getElem? (i := 178) rfl⟩
theorem lw_p7 : lw_okq (⟨"GroupRowsModel", "isPart", "(II)Z"⟩, 10) := ⟨⟨by decide +kernel, by decide +kernel⟩, List.mem_of_getElem? (i := 128) rfl, List.mem_of_getElem? (i := 181) rfl, List.mem_of_getElem? (i := 182) rfl⟩
theorem lw_p8 : lw_okq (⟨"GroupRowsModel", "keeps", "(III)Z"⟩, 10) := ⟨⟨by decide +kernel, by decide +kernel⟩, List.mem_of_getElem? (i := 128) rfl, List.mem_of_getElem? (i := 185) rfl, List.mem_of_getElem? (i := 186) rfl⟩
theorem lw_p9 : lw_okq (⟨"GroupRowsModel", "fewest", "()I"⟩, 10) := ⟨⟨by decide +kernel, by decide +kernel⟩, List.mem_of_getElem? (i := 128) rfl, List.mem_of_getElem? (i := 189) rfl, List.mem_of_getElem? (i := 190) rfl⟩
theorem lw_p10 : lw_okq (⟨"GroupRowsModel", "isMember", "(I)Z"⟩, 10) := ⟨⟨by decide +kernel, by decide +kernel⟩, List.mem_of_getElem? (i := 128) rfl, List.mem_of_getElem? (i := 197) rfl, List.mem_of_getElem? (i := 198) rfl⟩
def lw_privs_1 : List (MethodName × Nat) := [(⟨"GroupRows", "given", "()I"⟩, 5), (⟨"GroupRows$Group", "keep", "([III)V"⟩, 6), (⟨"GroupRows$Group", "fewest", "()I"⟩, 6), (⟨"GroupRows", "changed", "(IZ)I"⟩, 5), (⟨"GroupRows", "partAt", "(II)I"⟩, 5), (⟨"GroupRowsModel", "dealt", "()I"⟩, 10), (⟨"GroupRowsModel", "isShared", "(I)Z"⟩, 10), (⟨"GroupRowsModel", "isPart", "(II)Z"⟩, 10), (⟨"GroupRowsModel", "keeps", "(III)Z"⟩, 10), (⟨"GroupRowsModel", "fewest", "()I"⟩, 10), (⟨"GroupRowsModel", "isMember", "(I)Z"⟩, 10)]
theorem lw_r1 : ∀ q ∈ lw_privs_1, lw_okq q := List.forall_mem_cons.mpr ⟨lw_p0, List.forall_mem_cons.mpr ⟨lw_p1, List.forall_mem_cons.mpr ⟨lw_p2, List.forall_mem_cons.mpr ⟨lw_p3, List.forall_mem_cons.mpr ⟨lw_p4, List.forall_mem_cons.mpr ⟨lw_p5, List.forall_mem_cons.mpr ⟨lw_p6, List.forall_mem_cons.mpr ⟨lw_p7, List.forall_mem_cons.mpr ⟨lw_p8, List.forall_mem_cons.mpr ⟨lw_p9, List.forall_mem_cons.mpr ⟨lw_p10, fun _ h => absurd h List.not_mem_nil⟩⟩⟩⟩⟩⟩⟩⟩⟩⟩⟩
def lw_privs : List (MethodName × Nat) := lw_privs_1
def lw_tbl : List Cond := k2_sels lw_privs ++ tables_1
theorem lw_privs_ok : ∀ q ∈ lw_privs, lw_okq q := lw_r1
-- ===== ONE list of words for every method: the tables' words that hold all through a run =====
def lw_all : List Cond := lw_tbl.filter goodWord
/-- a word of the tables by its place: claim/WORDS.tsv -/
theorem lw_w {w : Cond} (i : Nat) (h : lw_tbl[i]? = some w) (g : goodWord w = true) : w ∈ lw_all := List.mem_filter.mpr ⟨List.mem_of_getElem? h, g⟩
theorem lw_all_tbl {w : Cond} (h : w ∈ lw_all) : w ∈ lw_tbl := (List.mem_filter.mp h).1
theorem lw_self : GoodIn lw_all lw_all := fun w h => ⟨h, good_of_word (List.mem_filter.mp h).2⟩
/-- a class's field words, by their places -/
theorem lw_in (ws : List Cond) (ps : List Nat) (hp : ws = ps.filterMap (fun i => lw_tbl[i]?)) (hg : ws.all goodWord = true) : ∀ w ∈ ws, w ∈ lw_all := by
  intro w h
  have h1 := List.all_eq_true.mp hg w h
  rw [hp] at h
  obtain ⟨i, -, hi⟩ := List.mem_filterMap.mp h
  exact lw_w i hi h1
/-- the words of a contract for the method y with code b, L locals, answer r -/
abbrev ws_ (y : MethodName) (b : ByteArray) (L : Nat) (r : Option FieldType) : List Cond := Cond.code y b L r :: lw_all
theorem lw_meth {y : MethodName} {b : ByteArray} {L : Nat} {r : Option FieldType} (h : Cond.code y b L r ∈ lw_all) : GoodIn lw_all (ws_ y b L r) := by
  intro w hw
  rcases List.mem_cons.mp hw with e | e
  · rw [e]
    exact lw_self _ h
  · exact lw_self _ e
theorem lw_app {a c : List Cond} (ha : ∀ w ∈ a, w ∈ lw_all) (hc : GoodIn lw_all c) : GoodIn lw_all (a ++ c) := by
  intro w hw
  rcases List.mem_append.mp hw with e | e
  · exact lw_self w (ha w e)
  · exact hc w e
/-- what a call through an object asks: cwV n hts (lw_V ..) -/
theorem lw_V {own : String} {idx : Nat} {C : String} {y : MethodName} {b : ByteArray} {L : Nat} {r : Option FieldType} (h1 : Cond.methodLink own idx y ∈ lw_all) (h2 : Cond.instanceMethod y ∈ lw_all) (h3 : Cond.selects C y y ∈ lw_all) (h4 : Cond.initialized C ∈ lw_all) (h5 : Cond.code y b L r ∈ lw_all) : GoodIn lw_all (wsV own idx C y (ws_ y b L r)) := by
  refine lw_app ?_ (lw_meth h5)
  intro w hw
  simp only [List.mem_cons, List.not_mem_nil, or_false] at hw
  rcases hw with e | e | e | e
  · rw [e]; exact h1
  · rw [e]; exact h2
  · rw [e]; exact h3
  · rw [e]; exact h4
/-- what a static call asks: va_cwS n hts (lw_S ..) -/
theorem lw_S {own : String} {idx : Nat} {y : MethodName} {b : ByteArray} {L : Nat} {r : Option FieldType} (h1 : Cond.methodLink own idx y ∈ lw_all) (h2 : Cond.static y ∈ lw_all) (h3 : Cond.initialized y.cls ∈ lw_all) (h4 : Cond.code y b L r ∈ lw_all) : GoodIn lw_all (va_wsS own idx y (ws_ y b L r)) := by
  refine lw_app ?_ (lw_meth h4)
  intro w hw
  simp only [List.mem_cons, List.not_mem_nil, or_false] at hw
  rcases hw with e | e | e
  · rw [e]; exact h1
  · rw [e]; exact h2
  · rw [e]; exact h3
/-- the words of a contract for a method WITH HANDLERS (hh: its table) -/
abbrev wsW_ (y : MethodName) (b : ByteArray) (L : Nat) (r : Option FieldType) (hh : List (Nat × Nat × Nat × Nat)) : List Cond := Cond.codeWith y b L r hh :: lw_all
theorem lw_methW {y : MethodName} {b : ByteArray} {L : Nat} {r : Option FieldType} {hh : List (Nat × Nat × Nat × Nat)} (h : Cond.codeWith y b L r hh ∈ lw_all) : GoodIn lw_all (wsW_ y b L r hh) := by
  intro w hw
  rcases List.mem_cons.mp hw with e | e
  · rw [e]
    exact lw_self _ h
  · exact lw_self _ e
/-- any list of words by their places (lw_in), good -/
theorem lw_good {ws : List Cond} (h : ∀ w ∈ ws, w ∈ lw_all) : GoodIn lw_all ws := fun w hw => lw_self w (h w hw)
/-- what a call of a method with handlers asks: vx_cwVW n hts (lw_VW ..), vx_cwSW n hts (lw_SW ..) -/
theorem lw_VW {own : String} {idx : Nat} {C : String} {y : MethodName} {b : ByteArray} {L : Nat} {r : Option FieldType} {hh : List (Nat × Nat × Nat × Nat)} (h1 : Cond.methodLink own idx y ∈ lw_all) (h2 : Cond.instanceMethod y ∈ lw_all) (h3 : Cond.selects C y y ∈ lw_all) (h4 : Cond.initialized C ∈ lw_all) (h5 : Cond.codeWith y b L r hh ∈ lw_all) : GoodIn lw_all (wsV own idx C y (wsW_ y b L r hh)) := by
  refine lw_app ?_ (lw_methW h5)
  intro w hw
  simp only [List.mem_cons, List.not_mem_nil, or_false] at hw
  rcases hw with e | e | e | e
  · rw [e]; exact h1
  · rw [e]; exact h2
  · rw [e]; exact h3
  · rw [e]; exact h4
theorem lw_SW {own : String} {idx : Nat} {y : MethodName} {b : ByteArray} {L : Nat} {r : Option FieldType} {hh : List (Nat × Nat × Nat × Nat)} (h1 : Cond.methodLink own idx y ∈ lw_all) (h2 : Cond.static y ∈ lw_all) (h3 : Cond.initialized y.cls ∈ lw_all) (h4 : Cond.codeWith y b L r hh ∈ lw_all) : GoodIn lw_all (va_wsS own idx y (wsW_ y b L r hh)) := by
  refine lw_app ?_ (lw_methW h4)
  intro w hw
  simp only [List.mem_cons, List.not_mem_nil, or_false] at hw
  rcases hw with e | e | e
  · rw [e]; exact h1
  · rw [e]; exact h2
  · rw [e]; exact h3
/-- a word by its place in its run of the tables -/
theorem lw_at {r : List Cond} (hr : ∀ w ∈ r, w ∈ lw_tbl) {w : Cond} (i : Nat) (h : r[i]? = some w) : w ∈ lw_tbl := hr w (List.mem_of_getElem? h)
theorem lw_g {w : Cond} (h : w ∈ lw_tbl) (g : goodWord w = true) : w ∈ lw_all := List.mem_filter.mpr ⟨h, g⟩
theorem lw_ms : ∀ w ∈ k2_sels lw_privs, w ∈ lw_tbl := fun w h => show w ∈ k2_sels lw_privs ++ tables_1 from List.mem_append_left _ h
theorem lw_m0 : ∀ w ∈ tables_1, w ∈ lw_tbl := fun w h => show w ∈ k2_sels lw_privs ++ tables_1 from List.mem_append_right (k2_sels lw_privs) h
theorem qs0 : (Cond.selects "GroupRows" ⟨"GroupRows", "given", "()I"⟩ ⟨"GroupRows", "given", "()I"⟩) ∈ lw_all := lw_g (lw_at lw_ms 0 rfl) rfl
theorem qs1 : (Cond.selects "GroupRows$Group" ⟨"GroupRows$Group", "keep", "([III)V"⟩ ⟨"GroupRows$Group", "keep", "([III)V"⟩) ∈ lw_all := lw_g (lw_at lw_ms 1 rfl) rfl
theorem qs2 : (Cond.selects "GroupRows$Group" ⟨"GroupRows$Group", "fewest", "()I"⟩ ⟨"GroupRows$Group", "fewest", "()I"⟩) ∈ lw_all := lw_g (lw_at lw_ms 2 rfl) rfl
theorem qs3 : (Cond.selects "GroupRows" ⟨"GroupRows", "changed", "(IZ)I"⟩ ⟨"GroupRows", "changed", "(IZ)I"⟩) ∈ lw_all := lw_g (lw_at lw_ms 3 rfl) rfl
theorem qs4 : (Cond.selects "GroupRows" ⟨"GroupRows", "partAt", "(II)I"⟩ ⟨"GroupRows", "partAt", "(II)I"⟩) ∈ lw_all := lw_g (lw_at lw_ms 4 rfl) rfl
theorem qs5 : (Cond.selects "GroupRowsModel" ⟨"GroupRowsModel", "dealt", "()I"⟩ ⟨"GroupRowsModel", "dealt", "()I"⟩) ∈ lw_all := lw_g (lw_at lw_ms 5 rfl) rfl
theorem qs6 : (Cond.selects "GroupRowsModel" ⟨"GroupRowsModel", "isShared", "(I)Z"⟩ ⟨"GroupRowsModel", "isShared", "(I)Z"⟩) ∈ lw_all := lw_g (lw_at lw_ms 6 rfl) rfl
theorem qs7 : (Cond.selects "GroupRowsModel" ⟨"GroupRowsModel", "isPart", "(II)Z"⟩ ⟨"GroupRowsModel", "isPart", "(II)Z"⟩) ∈ lw_all := lw_g (lw_at lw_ms 7 rfl) rfl
theorem qs8 : (Cond.selects "GroupRowsModel" ⟨"GroupRowsModel", "keeps", "(III)Z"⟩ ⟨"GroupRowsModel", "keeps", "(III)Z"⟩) ∈ lw_all := lw_g (lw_at lw_ms 8 rfl) rfl
theorem qs9 : (Cond.selects "GroupRowsModel" ⟨"GroupRowsModel", "fewest", "()I"⟩ ⟨"GroupRowsModel", "fewest", "()I"⟩) ∈ lw_all := lw_g (lw_at lw_ms 9 rfl) rfl
theorem qs10 : (Cond.selects "GroupRowsModel" ⟨"GroupRowsModel", "isMember", "(I)Z"⟩ ⟨"GroupRowsModel", "isMember", "(I)Z"⟩) ∈ lw_all := lw_g (lw_at lw_ms 10 rfl) rfl
end
section
/-! GroupRows -/
set_option maxRecDepth 100000
def RX0 : String := "GroupRows"
def TX0 : u_T := fun k => match k with
  | 0 => ("GroupRows", "group", "LGroupRows$Group;", true)
  | 1 => ("GroupRows", "sizes", "[I", true)
  | 2 => ("GroupRows", "before", "[I", true)
  | 3 => ("GroupRows", "topicCount", "I", false)
  | _ => ("GroupRows", "movedCount", "I", false)
def tyX0 : Nat → FieldType := fun k => match k with
  | 0 => .object "GroupRows$Group"
  | 1 => .array .int
  | 2 => .array .int
  | 3 => .int
  | _ => .int
abbrev wsX00 : List Cond := u_ws RX0 TX0 5
theorem nmX0 : ∀ a, a < 5 → ∀ b, b < 5 → a ≠ b → (TX0 a).2.1 ≠ (TX0 b).2.1 := by decide +kernel
theorem tyX0_ok : ∀ k, k < 5 → parseFieldDescriptor (TX0 k).2.2.1 = some (tyX0 k) := by decide +kernel
abbrev cX0_init : ByteArray := prog_1_method_1_code
def yX0_init : MethodName := ⟨RX0, "<init>", "()V"⟩
theorem dX0_init_0 : decode cX0_init 0 = .ok (.aload_n 0, 1) := by decide +kernel
theorem dX0_init_1 : decode cX0_init 1 = .ok (.invokespecial 3, 3) := by decide +kernel
theorem dX0_init_4 : decode cX0_init 4 = .ok (.aload_n 0, 1) := by decide +kernel
theorem dX0_init_5 : decode cX0_init 5 = .ok (.new 9, 3) := by decide +kernel
theorem dX0_init_8 : decode cX0_init 8 = .ok (.dup, 1) := by decide +kernel
theorem dX0_init_9 : decode cX0_init 9 = .ok (.invokespecial 11, 3) := by decide +kernel
theorem dX0_init_12 : decode cX0_init 12 = .ok (.putfield 12, 3) := by decide +kernel
theorem dX0_init_15 : decode cX0_init 15 = .ok (.aload_n 0, 1) := by decide +kernel
theorem dX0_init_16 : decode cX0_init 16 = .ok (.bipush 13, 2) := by decide +kernel
theorem dX0_init_18 : decode cX0_init 18 = .ok (.newarray .int, 2) := by decide +kernel
theorem dX0_init_20 : decode cX0_init 20 = .ok (.putfield 16, 3) := by decide +kernel
theorem dX0_init_23 : decode cX0_init 23 = .ok (.aload_n 0, 1) := by decide +kernel
theorem dX0_init_24 : decode cX0_init 24 = .ok (.bipush 72, 2) := by decide +kernel
theorem dX0_init_26 : decode cX0_init 26 = .ok (.newarray .int, 2) := by decide +kernel
theorem dX0_init_28 : decode cX0_init 28 = .ok (.putfield 20, 3) := by decide +kernel
theorem dX0_init_31 : decode cX0_init 31 = .ok (.aload_n 0, 1) := by decide +kernel
theorem dX0_init_32 : decode cX0_init 32 = .ok (.iconst 0, 1) := by decide +kernel
theorem dX0_init_33 : decode cX0_init 33 = .ok (.putfield 23, 3) := by decide +kernel
theorem dX0_init_36 : decode cX0_init 36 = .ok (.return_, 1) := by decide +kernel
abbrev cX0_topic : ByteArray := prog_1_method_2_code
def yX0_topic : MethodName := ⟨RX0, "topic", "(I)I"⟩
theorem dX0_topic_0 : decode cX0_topic 0 = .ok (.iload_n 1, 1) := by decide +kernel
theorem dX0_topic_1 : decode cX0_topic 1 = .ok (.iconst 1, 1) := by decide +kernel
theorem dX0_topic_2 : decode cX0_topic 2 = .ok (.if_icmp .lt 18, 3) := by decide +kernel
theorem dX0_topic_5 : decode cX0_topic 5 = .ok (.iload_n 1, 1) := by decide +kernel
theorem dX0_topic_6 : decode cX0_topic 6 = .ok (.bipush 6, 2) := by decide +kernel
theorem dX0_topic_8 : decode cX0_topic 8 = .ok (.if_icmp .gt 12, 3) := by decide +kernel
theorem dX0_topic_11 : decode cX0_topic 11 = .ok (.aload_n 0, 1) := by decide +kernel
theorem dX0_topic_12 : decode cX0_topic 12 = .ok (.getfield 27, 3) := by decide +kernel
theorem dX0_topic_15 : decode cX0_topic 15 = .ok (.bipush 12, 2) := by decide +kernel
theorem dX0_topic_17 : decode cX0_topic 17 = .ok (.if_icmp .ne 5, 3) := by decide +kernel
theorem dX0_topic_20 : decode cX0_topic 20 = .ok (.iconst (-1), 1) := by decide +kernel
theorem dX0_topic_21 : decode cX0_topic 21 = .ok (.ireturn, 1) := by decide +kernel
theorem dX0_topic_22 : decode cX0_topic 22 = .ok (.aload_n 0, 1) := by decide +kernel
theorem dX0_topic_23 : decode cX0_topic 23 = .ok (.dup, 1) := by decide +kernel
theorem dX0_topic_24 : decode cX0_topic 24 = .ok (.getfield 27, 3) := by decide +kernel
theorem dX0_topic_27 : decode cX0_topic 27 = .ok (.iconst 1, 1) := by decide +kernel
theorem dX0_topic_28 : decode cX0_topic 28 = .ok (.iadd, 1) := by decide +kernel
theorem dX0_topic_29 : decode cX0_topic 29 = .ok (.putfield 27, 3) := by decide +kernel
theorem dX0_topic_32 : decode cX0_topic 32 = .ok (.aload_n 0, 1) := by decide +kernel
theorem dX0_topic_33 : decode cX0_topic 33 = .ok (.getfield 16, 3) := by decide +kernel
theorem dX0_topic_36 : decode cX0_topic 36 = .ok (.aload_n 0, 1) := by decide +kernel
theorem dX0_topic_37 : decode cX0_topic 37 = .ok (.getfield 27, 3) := by decide +kernel
theorem dX0_topic_40 : decode cX0_topic 40 = .ok (.iload_n 1, 1) := by decide +kernel
theorem dX0_topic_41 : decode cX0_topic 41 = .ok (.iastore, 1) := by decide +kernel
theorem dX0_topic_42 : decode cX0_topic 42 = .ok (.aload_n 0, 1) := by decide +kernel
theorem dX0_topic_43 : decode cX0_topic 43 = .ok (.getfield 27, 3) := by decide +kernel
theorem dX0_topic_46 : decode cX0_topic 46 = .ok (.ireturn, 1) := by decide +kernel
abbrev cX0_subscribe : ByteArray := prog_1_method_4_code
def yX0_subscribe : MethodName := ⟨RX0, "subscribe", "(I)I"⟩
theorem dX0_subscribe_0 : decode cX0_subscribe 0 = .ok (.iload_n 1, 1) := by decide +kernel
theorem dX0_subscribe_1 : decode cX0_subscribe 1 = .ok (.iconst 1, 1) := by decide +kernel
theorem dX0_subscribe_2 : decode cX0_subscribe 2 = .ok (.if_icmp .lt 23, 3) := by decide +kernel
theorem dX0_subscribe_5 : decode cX0_subscribe 5 = .ok (.iload_n 1, 1) := by decide +kernel
theorem dX0_subscribe_6 : decode cX0_subscribe 6 = .ok (.aload_n 0, 1) := by decide +kernel
theorem dX0_subscribe_7 : decode cX0_subscribe 7 = .ok (.getfield 27, 3) := by decide +kernel
theorem dX0_subscribe_10 : decode cX0_subscribe 10 = .ok (.if_icmp .gt 15, 3) := by decide +kernel
theorem dX0_subscribe_13 : decode cX0_subscribe 13 = .ok (.aload_n 0, 1) := by decide +kernel
theorem dX0_subscribe_14 : decode cX0_subscribe 14 = .ok (.getfield 12, 3) := by decide +kernel
theorem dX0_subscribe_17 : decode cX0_subscribe 17 = .ok (.getfield 40, 3) := by decide +kernel
theorem dX0_subscribe_20 : decode cX0_subscribe 20 = .ok (.iload_n 1, 1) := by decide +kernel
theorem dX0_subscribe_21 : decode cX0_subscribe 21 = .ok (.baload, 1) := by decide +kernel
theorem dX0_subscribe_22 : decode cX0_subscribe 22 = .ok (.ifCond .eq 5, 3) := by decide +kernel
theorem dX0_subscribe_25 : decode cX0_subscribe 25 = .ok (.iconst (-1), 1) := by decide +kernel
theorem dX0_subscribe_26 : decode cX0_subscribe 26 = .ok (.ireturn, 1) := by decide +kernel
theorem dX0_subscribe_27 : decode cX0_subscribe 27 = .ok (.aload_n 0, 1) := by decide +kernel
theorem dX0_subscribe_28 : decode cX0_subscribe 28 = .ok (.getfield 12, 3) := by decide +kernel
theorem dX0_subscribe_31 : decode cX0_subscribe 31 = .ok (.getfield 40, 3) := by decide +kernel
theorem dX0_subscribe_34 : decode cX0_subscribe 34 = .ok (.iload_n 1, 1) := by decide +kernel
theorem dX0_subscribe_35 : decode cX0_subscribe 35 = .ok (.iconst 1, 1) := by decide +kernel
theorem dX0_subscribe_36 : decode cX0_subscribe 36 = .ok (.bastore, 1) := by decide +kernel
theorem dX0_subscribe_37 : decode cX0_subscribe 37 = .ok (.aload_n 0, 1) := by decide +kernel
theorem dX0_subscribe_38 : decode cX0_subscribe 38 = .ok (.invokevirtual 44, 3) := by decide +kernel
theorem dX0_subscribe_41 : decode cX0_subscribe 41 = .ok (.ireturn, 1) := by decide +kernel
abbrev cX0_given : ByteArray := prog_1_method_3_code
def yX0_given : MethodName := ⟨RX0, "given", "()I"⟩
theorem dX0_given_0 : decode cX0_given 0 = .ok (.iconst 0, 1) := by decide +kernel
theorem dX0_given_1 : decode cX0_given 1 = .ok (.istore_n 1, 1) := by decide +kernel
theorem dX0_given_2 : decode cX0_given 2 = .ok (.iload_n 1, 1) := by decide +kernel
theorem dX0_given_3 : decode cX0_given 3 = .ok (.bipush 72, 2) := by decide +kernel
theorem dX0_given_5 : decode cX0_given 5 = .ok (.if_icmp .ge 24, 3) := by decide +kernel
theorem dX0_given_8 : decode cX0_given 8 = .ok (.aload_n 0, 1) := by decide +kernel
theorem dX0_given_9 : decode cX0_given 9 = .ok (.getfield 20, 3) := by decide +kernel
theorem dX0_given_12 : decode cX0_given 12 = .ok (.iload_n 1, 1) := by decide +kernel
theorem dX0_given_13 : decode cX0_given 13 = .ok (.aload_n 0, 1) := by decide +kernel
theorem dX0_given_14 : decode cX0_given 14 = .ok (.getfield 12, 3) := by decide +kernel
theorem dX0_given_17 : decode cX0_given 17 = .ok (.getfield 30, 3) := by decide +kernel
theorem dX0_given_20 : decode cX0_given 20 = .ok (.iload_n 1, 1) := by decide +kernel
theorem dX0_given_21 : decode cX0_given 21 = .ok (.iaload, 1) := by decide +kernel
theorem dX0_given_22 : decode cX0_given 22 = .ok (.iastore, 1) := by decide +kernel
theorem dX0_given_23 : decode cX0_given 23 = .ok (.iinc 1 1, 3) := by decide +kernel
theorem dX0_given_26 : decode cX0_given 26 = .ok (.goto (-24), 3) := by decide +kernel
theorem dX0_given_29 : decode cX0_given 29 = .ok (.aload_n 0, 1) := by decide +kernel
theorem dX0_given_30 : decode cX0_given 30 = .ok (.getfield 12, 3) := by decide +kernel
theorem dX0_given_33 : decode cX0_given 33 = .ok (.aload_n 0, 1) := by decide +kernel
theorem dX0_given_34 : decode cX0_given 34 = .ok (.getfield 16, 3) := by decide +kernel
theorem dX0_given_37 : decode cX0_given 37 = .ok (.invokevirtual 33, 3) := by decide +kernel
theorem dX0_given_40 : decode cX0_given 40 = .ok (.aload_n 0, 1) := by decide +kernel
theorem dX0_given_41 : decode cX0_given 41 = .ok (.iconst 0, 1) := by decide +kernel
theorem dX0_given_42 : decode cX0_given 42 = .ok (.putfield 23, 3) := by decide +kernel
theorem dX0_given_45 : decode cX0_given 45 = .ok (.iconst 0, 1) := by decide +kernel
theorem dX0_given_46 : decode cX0_given 46 = .ok (.istore_n 1, 1) := by decide +kernel
theorem dX0_given_47 : decode cX0_given 47 = .ok (.iload_n 1, 1) := by decide +kernel
theorem dX0_given_48 : decode cX0_given 48 = .ok (.bipush 72, 2) := by decide +kernel
theorem dX0_given_50 : decode cX0_given 50 = .ok (.if_icmp .ge 37, 3) := by decide +kernel
theorem dX0_given_53 : decode cX0_given 53 = .ok (.aload_n 0, 1) := by decide +kernel
theorem dX0_given_54 : decode cX0_given 54 = .ok (.getfield 20, 3) := by decide +kernel
theorem dX0_given_57 : decode cX0_given 57 = .ok (.iload_n 1, 1) := by decide +kernel
theorem dX0_given_58 : decode cX0_given 58 = .ok (.iaload, 1) := by decide +kernel
theorem dX0_given_59 : decode cX0_given 59 = .ok (.aload_n 0, 1) := by decide +kernel
theorem dX0_given_60 : decode cX0_given 60 = .ok (.getfield 12, 3) := by decide +kernel
theorem dX0_given_63 : decode cX0_given 63 = .ok (.getfield 30, 3) := by decide +kernel
theorem dX0_given_66 : decode cX0_given 66 = .ok (.iload_n 1, 1) := by decide +kernel
theorem dX0_given_67 : decode cX0_given 67 = .ok (.iaload, 1) := by decide +kernel
theorem dX0_given_68 : decode cX0_given 68 = .ok (.if_icmp .eq 13, 3) := by decide +kernel
theorem dX0_given_71 : decode cX0_given 71 = .ok (.aload_n 0, 1) := by decide +kernel
theorem dX0_given_72 : decode cX0_given 72 = .ok (.dup, 1) := by decide +kernel
theorem dX0_given_73 : decode cX0_given 73 = .ok (.getfield 23, 3) := by decide +kernel
theorem dX0_given_76 : decode cX0_given 76 = .ok (.iconst 1, 1) := by decide +kernel
theorem dX0_given_77 : decode cX0_given 77 = .ok (.iadd, 1) := by decide +kernel
theorem dX0_given_78 : decode cX0_given 78 = .ok (.putfield 23, 3) := by decide +kernel
theorem dX0_given_81 : decode cX0_given 81 = .ok (.iinc 1 1, 3) := by decide +kernel
theorem dX0_given_84 : decode cX0_given 84 = .ok (.goto (-37), 3) := by decide +kernel
theorem dX0_given_87 : decode cX0_given 87 = .ok (.aload_n 0, 1) := by decide +kernel
theorem dX0_given_88 : decode cX0_given 88 = .ok (.getfield 12, 3) := by decide +kernel
theorem dX0_given_91 : decode cX0_given 91 = .ok (.getfield 37, 3) := by decide +kernel
theorem dX0_given_94 : decode cX0_given 94 = .ok (.ireturn, 1) := by decide +kernel
abbrev cX0_enter : ByteArray := prog_1_method_7_code
def yX0_enter : MethodName := ⟨RX0, "enter", "(I)I"⟩
theorem dX0_enter_0 : decode cX0_enter 0 = .ok (.aload_n 0, 1) := by decide +kernel
theorem dX0_enter_1 : decode cX0_enter 1 = .ok (.iload_n 1, 1) := by decide +kernel
theorem dX0_enter_2 : decode cX0_enter 2 = .ok (.iconst 1, 1) := by decide +kernel
theorem dX0_enter_3 : decode cX0_enter 3 = .ok (.invokevirtual 55, 3) := by decide +kernel
theorem dX0_enter_6 : decode cX0_enter 6 = .ok (.ireturn, 1) := by decide +kernel
abbrev cX0_changed : ByteArray := prog_1_method_6_code
def yX0_changed : MethodName := ⟨RX0, "changed", "(IZ)I"⟩
theorem dX0_changed_0 : decode cX0_changed 0 = .ok (.iload_n 1, 1) := by decide +kernel
theorem dX0_changed_1 : decode cX0_changed 1 = .ok (.invokestatic 48, 3) := by decide +kernel
theorem dX0_changed_4 : decode cX0_changed 4 = .ok (.ifCond .eq 16, 3) := by decide +kernel
theorem dX0_changed_7 : decode cX0_changed 7 = .ok (.aload_n 0, 1) := by decide +kernel
theorem dX0_changed_8 : decode cX0_changed 8 = .ok (.getfield 12, 3) := by decide +kernel
theorem dX0_changed_11 : decode cX0_changed 11 = .ok (.getfield 52, 3) := by decide +kernel
theorem dX0_changed_14 : decode cX0_changed 14 = .ok (.iload_n 1, 1) := by decide +kernel
theorem dX0_changed_15 : decode cX0_changed 15 = .ok (.baload, 1) := by decide +kernel
theorem dX0_changed_16 : decode cX0_changed 16 = .ok (.iload_n 2, 1) := by decide +kernel
theorem dX0_changed_17 : decode cX0_changed 17 = .ok (.if_icmp .ne 5, 3) := by decide +kernel
theorem dX0_changed_20 : decode cX0_changed 20 = .ok (.iconst (-1), 1) := by decide +kernel
theorem dX0_changed_21 : decode cX0_changed 21 = .ok (.ireturn, 1) := by decide +kernel
theorem dX0_changed_22 : decode cX0_changed 22 = .ok (.aload_n 0, 1) := by decide +kernel
theorem dX0_changed_23 : decode cX0_changed 23 = .ok (.getfield 12, 3) := by decide +kernel
theorem dX0_changed_26 : decode cX0_changed 26 = .ok (.getfield 52, 3) := by decide +kernel
theorem dX0_changed_29 : decode cX0_changed 29 = .ok (.iload_n 1, 1) := by decide +kernel
theorem dX0_changed_30 : decode cX0_changed 30 = .ok (.iload_n 2, 1) := by decide +kernel
theorem dX0_changed_31 : decode cX0_changed 31 = .ok (.bastore, 1) := by decide +kernel
theorem dX0_changed_32 : decode cX0_changed 32 = .ok (.aload_n 0, 1) := by decide +kernel
theorem dX0_changed_33 : decode cX0_changed 33 = .ok (.invokevirtual 44, 3) := by decide +kernel
theorem dX0_changed_36 : decode cX0_changed 36 = .ok (.ireturn, 1) := by decide +kernel
abbrev cX0_isMember : ByteArray := prog_1_method_5_code
def yX0_isMember : MethodName := ⟨RX0, "isMember", "(I)Z"⟩
theorem dX0_isMember_0 : decode cX0_isMember 0 = .ok (.iload_n 0, 1) := by decide +kernel
theorem dX0_isMember_1 : decode cX0_isMember 1 = .ok (.ifCond .lt 13, 3) := by decide +kernel
theorem dX0_isMember_4 : decode cX0_isMember 4 = .ok (.iload_n 0, 1) := by decide +kernel
theorem dX0_isMember_5 : decode cX0_isMember 5 = .ok (.bipush 8, 2) := by decide +kernel
theorem dX0_isMember_7 : decode cX0_isMember 7 = .ok (.if_icmp .ge 7, 3) := by decide +kernel
theorem dX0_isMember_10 : decode cX0_isMember 10 = .ok (.iconst 1, 1) := by decide +kernel
theorem dX0_isMember_11 : decode cX0_isMember 11 = .ok (.goto 4, 3) := by decide +kernel
theorem dX0_isMember_14 : decode cX0_isMember 14 = .ok (.iconst 0, 1) := by decide +kernel
theorem dX0_isMember_15 : decode cX0_isMember 15 = .ok (.ireturn, 1) := by decide +kernel
abbrev cX0_leave : ByteArray := prog_1_method_8_code
def yX0_leave : MethodName := ⟨RX0, "leave", "(I)I"⟩
theorem dX0_leave_0 : decode cX0_leave 0 = .ok (.aload_n 0, 1) := by decide +kernel
theorem dX0_leave_1 : decode cX0_leave 1 = .ok (.iload_n 1, 1) := by decide +kernel
theorem dX0_leave_2 : decode cX0_leave 2 = .ok (.iconst 0, 1) := by decide +kernel
theorem dX0_leave_3 : decode cX0_leave 3 = .ok (.invokevirtual 55, 3) := by decide +kernel
theorem dX0_leave_6 : decode cX0_leave 6 = .ok (.ireturn, 1) := by decide +kernel
abbrev cX0_generation : ByteArray := prog_1_method_9_code
def yX0_generation : MethodName := ⟨RX0, "generation", "()I"⟩
theorem dX0_generation_0 : decode cX0_generation 0 = .ok (.aload_n 0, 1) := by decide +kernel
theorem dX0_generation_1 : decode cX0_generation 1 = .ok (.getfield 12, 3) := by decide +kernel
theorem dX0_generation_4 : decode cX0_generation 4 = .ok (.getfield 37, 3) := by decide +kernel
theorem dX0_generation_7 : decode cX0_generation 7 = .ok (.ireturn, 1) := by decide +kernel
abbrev cX0_owner : ByteArray := prog_1_method_11_code
def yX0_owner : MethodName := ⟨RX0, "owner", "(II)I"⟩
theorem dX0_owner_0 : decode cX0_owner 0 = .ok (.aload_n 0, 1) := by decide +kernel
theorem dX0_owner_1 : decode cX0_owner 1 = .ok (.iload_n 1, 1) := by decide +kernel
theorem dX0_owner_2 : decode cX0_owner 2 = .ok (.iload_n 2, 1) := by decide +kernel
theorem dX0_owner_3 : decode cX0_owner 3 = .ok (.invokevirtual 59, 3) := by decide +kernel
theorem dX0_owner_6 : decode cX0_owner 6 = .ok (.istore_n 3, 1) := by decide +kernel
theorem dX0_owner_7 : decode cX0_owner 7 = .ok (.iload_n 3, 1) := by decide +kernel
theorem dX0_owner_8 : decode cX0_owner 8 = .ok (.ifCond .ge 8, 3) := by decide +kernel
theorem dX0_owner_11 : decode cX0_owner 11 = .ok (.bipush (-2), 2) := by decide +kernel
theorem dX0_owner_13 : decode cX0_owner 13 = .ok (.goto 12, 3) := by decide +kernel
theorem dX0_owner_16 : decode cX0_owner 16 = .ok (.aload_n 0, 1) := by decide +kernel
theorem dX0_owner_17 : decode cX0_owner 17 = .ok (.getfield 12, 3) := by decide +kernel
theorem dX0_owner_20 : decode cX0_owner 20 = .ok (.getfield 30, 3) := by decide +kernel
theorem dX0_owner_23 : decode cX0_owner 23 = .ok (.iload_n 3, 1) := by decide +kernel
theorem dX0_owner_24 : decode cX0_owner 24 = .ok (.iaload, 1) := by decide +kernel
theorem dX0_owner_25 : decode cX0_owner 25 = .ok (.ireturn, 1) := by decide +kernel
abbrev cX0_partAt : ByteArray := prog_1_method_10_code
def yX0_partAt : MethodName := ⟨RX0, "partAt", "(II)I"⟩
theorem dX0_partAt_0 : decode cX0_partAt 0 = .ok (.iload_n 1, 1) := by decide +kernel
theorem dX0_partAt_1 : decode cX0_partAt 1 = .ok (.iconst 1, 1) := by decide +kernel
theorem dX0_partAt_2 : decode cX0_partAt 2 = .ok (.if_icmp .lt 36, 3) := by decide +kernel
theorem dX0_partAt_5 : decode cX0_partAt 5 = .ok (.iload_n 1, 1) := by decide +kernel
theorem dX0_partAt_6 : decode cX0_partAt 6 = .ok (.aload_n 0, 1) := by decide +kernel
theorem dX0_partAt_7 : decode cX0_partAt 7 = .ok (.getfield 27, 3) := by decide +kernel
theorem dX0_partAt_10 : decode cX0_partAt 10 = .ok (.if_icmp .gt 28, 3) := by decide +kernel
theorem dX0_partAt_13 : decode cX0_partAt 13 = .ok (.iload_n 2, 1) := by decide +kernel
theorem dX0_partAt_14 : decode cX0_partAt 14 = .ok (.ifCond .lt 24, 3) := by decide +kernel
theorem dX0_partAt_17 : decode cX0_partAt 17 = .ok (.iload_n 2, 1) := by decide +kernel
theorem dX0_partAt_18 : decode cX0_partAt 18 = .ok (.aload_n 0, 1) := by decide +kernel
theorem dX0_partAt_19 : decode cX0_partAt 19 = .ok (.getfield 16, 3) := by decide +kernel
theorem dX0_partAt_22 : decode cX0_partAt 22 = .ok (.iload_n 1, 1) := by decide +kernel
theorem dX0_partAt_23 : decode cX0_partAt 23 = .ok (.iaload, 1) := by decide +kernel
theorem dX0_partAt_24 : decode cX0_partAt 24 = .ok (.if_icmp .ge 14, 3) := by decide +kernel
theorem dX0_partAt_27 : decode cX0_partAt 27 = .ok (.iload_n 1, 1) := by decide +kernel
theorem dX0_partAt_28 : decode cX0_partAt 28 = .ok (.iconst 1, 1) := by decide +kernel
theorem dX0_partAt_29 : decode cX0_partAt 29 = .ok (.isub, 1) := by decide +kernel
theorem dX0_partAt_30 : decode cX0_partAt 30 = .ok (.bipush 6, 2) := by decide +kernel
theorem dX0_partAt_32 : decode cX0_partAt 32 = .ok (.imul, 1) := by decide +kernel
theorem dX0_partAt_33 : decode cX0_partAt 33 = .ok (.iload_n 2, 1) := by decide +kernel
theorem dX0_partAt_34 : decode cX0_partAt 34 = .ok (.iadd, 1) := by decide +kernel
theorem dX0_partAt_35 : decode cX0_partAt 35 = .ok (.goto 4, 3) := by decide +kernel
theorem dX0_partAt_38 : decode cX0_partAt 38 = .ok (.iconst (-1), 1) := by decide +kernel
theorem dX0_partAt_39 : decode cX0_partAt 39 = .ok (.ireturn, 1) := by decide +kernel
abbrev cX0_held : ByteArray := prog_1_method_12_code
def yX0_held : MethodName := ⟨RX0, "held", "(I)I"⟩
theorem dX0_held_0 : decode cX0_held 0 = .ok (.iload_n 1, 1) := by decide +kernel
theorem dX0_held_1 : decode cX0_held 1 = .ok (.invokestatic 48, 3) := by decide +kernel
theorem dX0_held_4 : decode cX0_held 4 = .ok (.ifCond .ne 5, 3) := by decide +kernel
theorem dX0_held_7 : decode cX0_held 7 = .ok (.iconst (-1), 1) := by decide +kernel
theorem dX0_held_8 : decode cX0_held 8 = .ok (.ireturn, 1) := by decide +kernel
theorem dX0_held_9 : decode cX0_held 9 = .ok (.iconst 0, 1) := by decide +kernel
theorem dX0_held_10 : decode cX0_held 10 = .ok (.istore_n 2, 1) := by decide +kernel
theorem dX0_held_11 : decode cX0_held 11 = .ok (.iconst 0, 1) := by decide +kernel
theorem dX0_held_12 : decode cX0_held 12 = .ok (.istore_n 3, 1) := by decide +kernel
theorem dX0_held_13 : decode cX0_held 13 = .ok (.iload_n 3, 1) := by decide +kernel
theorem dX0_held_14 : decode cX0_held 14 = .ok (.bipush 72, 2) := by decide +kernel
theorem dX0_held_16 : decode cX0_held 16 = .ok (.if_icmp .ge 25, 3) := by decide +kernel
theorem dX0_held_19 : decode cX0_held 19 = .ok (.aload_n 0, 1) := by decide +kernel
theorem dX0_held_20 : decode cX0_held 20 = .ok (.getfield 12, 3) := by decide +kernel
theorem dX0_held_23 : decode cX0_held 23 = .ok (.getfield 30, 3) := by decide +kernel
theorem dX0_held_26 : decode cX0_held 26 = .ok (.iload_n 3, 1) := by decide +kernel
theorem dX0_held_27 : decode cX0_held 27 = .ok (.iaload, 1) := by decide +kernel
theorem dX0_held_28 : decode cX0_held 28 = .ok (.iload_n 1, 1) := by decide +kernel
theorem dX0_held_29 : decode cX0_held 29 = .ok (.if_icmp .ne 6, 3) := by decide +kernel
theorem dX0_held_32 : decode cX0_held 32 = .ok (.iinc 2 1, 3) := by decide +kernel
theorem dX0_held_35 : decode cX0_held 35 = .ok (.iinc 3 1, 3) := by decide +kernel
theorem dX0_held_38 : decode cX0_held 38 = .ok (.goto (-25), 3) := by decide +kernel
theorem dX0_held_41 : decode cX0_held 41 = .ok (.iload_n 2, 1) := by decide +kernel
theorem dX0_held_42 : decode cX0_held 42 = .ok (.ireturn, 1) := by decide +kernel
abbrev cX0_moved : ByteArray := prog_1_method_13_code
def yX0_moved : MethodName := ⟨RX0, "moved", "()I"⟩
theorem dX0_moved_0 : decode cX0_moved 0 = .ok (.aload_n 0, 1) := by decide +kernel
theorem dX0_moved_1 : decode cX0_moved 1 = .ok (.getfield 23, 3) := by decide +kernel
theorem dX0_moved_4 : decode cX0_moved 4 = .ok (.ireturn, 1) := by decide +kernel
abbrev cX0_place : ByteArray := prog_1_method_14_code
def yX0_place : MethodName := ⟨RX0, "place", "(IIIII)I"⟩
theorem dX0_place_0 : decode cX0_place 0 = .ok (.aload_n 0, 1) := by decide +kernel
theorem dX0_place_1 : decode cX0_place 1 = .ok (.iload_n 3, 1) := by decide +kernel
theorem dX0_place_2 : decode cX0_place 2 = .ok (.iload 4, 2) := by decide +kernel
theorem dX0_place_4 : decode cX0_place 4 = .ok (.invokevirtual 59, 3) := by decide +kernel
theorem dX0_place_7 : decode cX0_place 7 = .ok (.istore 6, 2) := by decide +kernel
theorem dX0_place_9 : decode cX0_place 9 = .ok (.iload 6, 2) := by decide +kernel
theorem dX0_place_11 : decode cX0_place 11 = .ok (.ifCond .lt 15, 3) := by decide +kernel
theorem dX0_place_14 : decode cX0_place 14 = .ok (.iload_n 1, 1) := by decide +kernel
theorem dX0_place_15 : decode cX0_place 15 = .ok (.invokestatic 48, 3) := by decide +kernel
theorem dX0_place_18 : decode cX0_place 18 = .ok (.ifCond .eq 8, 3) := by decide +kernel
theorem dX0_place_21 : decode cX0_place 21 = .ok (.iload 5, 2) := by decide +kernel
theorem dX0_place_23 : decode cX0_place 23 = .ok (.ifCond .ge 5, 3) := by decide +kernel
theorem dX0_place_26 : decode cX0_place 26 = .ok (.iconst (-1), 1) := by decide +kernel
theorem dX0_place_27 : decode cX0_place 27 = .ok (.ireturn, 1) := by decide +kernel
theorem dX0_place_28 : decode cX0_place 28 = .ok (.iload_n 2, 1) := by decide +kernel
theorem dX0_place_29 : decode cX0_place 29 = .ok (.aload_n 0, 1) := by decide +kernel
theorem dX0_place_30 : decode cX0_place 30 = .ok (.getfield 12, 3) := by decide +kernel
theorem dX0_place_33 : decode cX0_place 33 = .ok (.getfield 37, 3) := by decide +kernel
theorem dX0_place_36 : decode cX0_place 36 = .ok (.if_icmp .ne 17, 3) := by decide +kernel
theorem dX0_place_39 : decode cX0_place 39 = .ok (.aload_n 0, 1) := by decide +kernel
theorem dX0_place_40 : decode cX0_place 40 = .ok (.getfield 12, 3) := by decide +kernel
theorem dX0_place_43 : decode cX0_place 43 = .ok (.getfield 30, 3) := by decide +kernel
theorem dX0_place_46 : decode cX0_place 46 = .ok (.iload 6, 2) := by decide +kernel
theorem dX0_place_48 : decode cX0_place 48 = .ok (.iaload, 1) := by decide +kernel
theorem dX0_place_49 : decode cX0_place 49 = .ok (.iload_n 1, 1) := by decide +kernel
theorem dX0_place_50 : decode cX0_place 50 = .ok (.if_icmp .eq 6, 3) := by decide +kernel
theorem dX0_place_53 : decode cX0_place 53 = .ok (.bipush (-2), 2) := by decide +kernel
theorem dX0_place_55 : decode cX0_place 55 = .ok (.ireturn, 1) := by decide +kernel
theorem dX0_place_56 : decode cX0_place 56 = .ok (.aload_n 0, 1) := by decide +kernel
theorem dX0_place_57 : decode cX0_place 57 = .ok (.getfield 12, 3) := by decide +kernel
theorem dX0_place_60 : decode cX0_place 60 = .ok (.getfield 63, 3) := by decide +kernel
theorem dX0_place_63 : decode cX0_place 63 = .ok (.iload 6, 2) := by decide +kernel
theorem dX0_place_65 : decode cX0_place 65 = .ok (.iload 5, 2) := by decide +kernel
theorem dX0_place_67 : decode cX0_place 67 = .ok (.iastore, 1) := by decide +kernel
theorem dX0_place_68 : decode cX0_place 68 = .ok (.iconst 0, 1) := by decide +kernel
theorem dX0_place_69 : decode cX0_place 69 = .ok (.ireturn, 1) := by decide +kernel
abbrev cX0_placed : ByteArray := prog_1_method_15_code
def yX0_placed : MethodName := ⟨RX0, "placed", "(II)I"⟩
theorem dX0_placed_0 : decode cX0_placed 0 = .ok (.aload_n 0, 1) := by decide +kernel
theorem dX0_placed_1 : decode cX0_placed 1 = .ok (.iload_n 1, 1) := by decide +kernel
theorem dX0_placed_2 : decode cX0_placed 2 = .ok (.iload_n 2, 1) := by decide +kernel
theorem dX0_placed_3 : decode cX0_placed 3 = .ok (.invokevirtual 59, 3) := by decide +kernel
theorem dX0_placed_6 : decode cX0_placed 6 = .ok (.istore_n 3, 1) := by decide +kernel
theorem dX0_placed_7 : decode cX0_placed 7 = .ok (.iload_n 3, 1) := by decide +kernel
theorem dX0_placed_8 : decode cX0_placed 8 = .ok (.ifCond .ge 8, 3) := by decide +kernel
theorem dX0_placed_11 : decode cX0_placed 11 = .ok (.bipush (-2), 2) := by decide +kernel
theorem dX0_placed_13 : decode cX0_placed 13 = .ok (.goto 12, 3) := by decide +kernel
theorem dX0_placed_16 : decode cX0_placed 16 = .ok (.aload_n 0, 1) := by decide +kernel
theorem dX0_placed_17 : decode cX0_placed 17 = .ok (.getfield 12, 3) := by decide +kernel
theorem dX0_placed_20 : decode cX0_placed 20 = .ok (.getfield 63, 3) := by decide +kernel
theorem dX0_placed_23 : decode cX0_placed 23 = .ok (.iload_n 3, 1) := by decide +kernel
theorem dX0_placed_24 : decode cX0_placed 24 = .ok (.iaload, 1) := by decide +kernel
theorem dX0_placed_25 : decode cX0_placed 25 = .ok (.ireturn, 1) := by decide +kernel
theorem q12 : (Jvm.Cond.initialized "GroupRows") ∈ lw_all := lw_g (lw_at lw_m0 1 rfl) rfl
theorem q16 : (Jvm.Cond.instantiable "GroupRows" (5 : Nat)) ∈ lw_all := lw_g (lw_at lw_m0 5 rfl) rfl
theorem q18 : (Jvm.Cond.instanceMethod ({ cls := "GroupRows", name := "<init>", desc := "()V" } : Jvm.MethodName)) ∈ lw_all := lw_g (lw_at lw_m0 7 rfl) rfl
theorem q19 : (Jvm.Cond.code ({ cls := "GroupRows", name := "<init>", desc := "()V" } : Jvm.MethodName) prog_1_method_1_code (1 : Nat) (Option.none : Option Jvm.ClassFile.FieldType)) ∈ lw_all := lw_g (lw_at lw_m0 8 rfl) rfl
theorem q20 : (Jvm.Cond.methodLink "GroupRows" (3 : Nat) ({ cls := "java/lang/Object", name := "<init>", desc := "()V" } : Jvm.MethodName)) ∈ lw_all := lw_g (lw_at lw_m0 9 rfl) rfl
theorem q23 : (Jvm.Cond.classLink "GroupRows" (9 : Nat) "GroupRows$Group") ∈ lw_all := lw_g (lw_at lw_m0 12 rfl) rfl
theorem q25 : (Jvm.Cond.methodLink "GroupRows" (11 : Nat) ({ cls := "GroupRows$Group", name := "<init>", desc := "()V" } : Jvm.MethodName)) ∈ lw_all := lw_g (lw_at lw_m0 14 rfl) rfl
theorem q30 : (Jvm.Cond.fieldLink "GroupRows" (52 : Nat) "GroupRows$Group" "members" "[Z") ∈ lw_all := lw_g (lw_at lw_m0 19 rfl) rfl
theorem q32 : (Jvm.Cond.fieldLink "GroupRows" (40 : Nat) "GroupRows$Group" "topics" "[Z") ∈ lw_all := lw_g (lw_at lw_m0 21 rfl) rfl
theorem q34 : (Jvm.Cond.fieldLink "GroupRows" (37 : Nat) "GroupRows$Group" "generation" "I") ∈ lw_all := lw_g (lw_at lw_m0 23 rfl) rfl
theorem q36 : (Jvm.Cond.fieldLink "GroupRows" (30 : Nat) "GroupRows$Group" "owners" "[I") ∈ lw_all := lw_g (lw_at lw_m0 25 rfl) rfl
theorem q38 : (Jvm.Cond.fieldLink "GroupRows" (63 : Nat) "GroupRows$Group" "places" "[I") ∈ lw_all := lw_g (lw_at lw_m0 27 rfl) rfl
theorem q55 : (Jvm.Cond.fieldLink "GroupRows" (12 : Nat) "GroupRows" "group" "LGroupRows$Group;") ∈ lw_all := lw_g (lw_at lw_m0 44 rfl) rfl
theorem q56 : (Jvm.Cond.fieldLink "GroupRows" (16 : Nat) "GroupRows" "sizes" "[I") ∈ lw_all := lw_g (lw_at lw_m0 45 rfl) rfl
theorem q57 : (Jvm.Cond.fieldLink "GroupRows" (20 : Nat) "GroupRows" "before" "[I") ∈ lw_all := lw_g (lw_at lw_m0 46 rfl) rfl
theorem q58 : (Jvm.Cond.fieldLink "GroupRows" (27 : Nat) "GroupRows" "topicCount" "I") ∈ lw_all := lw_g (lw_at lw_m0 47 rfl) rfl
theorem q59 : (Jvm.Cond.fieldLink "GroupRows" (23 : Nat) "GroupRows" "movedCount" "I") ∈ lw_all := lw_g (lw_at lw_m0 48 rfl) rfl
theorem q60 : (Jvm.Cond.laysFinal "GroupRows" "GroupRows" "group" "LGroupRows$Group;") ∈ lw_all := lw_g (lw_at lw_m0 49 rfl) rfl
theorem q61 : (Jvm.Cond.soleField "GroupRows" "group") ∈ lw_all := lw_g (lw_at lw_m0 50 rfl) rfl
theorem q62 : (Jvm.Cond.laysFinal "GroupRows" "GroupRows" "sizes" "[I") ∈ lw_all := lw_g (lw_at lw_m0 51 rfl) rfl
theorem q63 : (Jvm.Cond.soleField "GroupRows" "sizes") ∈ lw_all := lw_g (lw_at lw_m0 52 rfl) rfl
theorem q64 : (Jvm.Cond.laysFinal "GroupRows" "GroupRows" "before" "[I") ∈ lw_all := lw_g (lw_at lw_m0 53 rfl) rfl
theorem q65 : (Jvm.Cond.soleField "GroupRows" "before") ∈ lw_all := lw_g (lw_at lw_m0 54 rfl) rfl
theorem q66 : (Jvm.Cond.lays "GroupRows" "GroupRows" "topicCount" "I") ∈ lw_all := lw_g (lw_at lw_m0 55 rfl) rfl
theorem q67 : (Jvm.Cond.soleField "GroupRows" "topicCount") ∈ lw_all := lw_g (lw_at lw_m0 56 rfl) rfl
theorem q68 : (Jvm.Cond.lays "GroupRows" "GroupRows" "movedCount" "I") ∈ lw_all := lw_g (lw_at lw_m0 57 rfl) rfl
theorem q69 : (Jvm.Cond.soleField "GroupRows" "movedCount") ∈ lw_all := lw_g (lw_at lw_m0 58 rfl) rfl
theorem q70 : (Jvm.Cond.superclass "GroupRows" "java/lang/Object") ∈ lw_all := lw_g (lw_at lw_m0 59 rfl) rfl
theorem q72 : (Jvm.Cond.instanceMethod ({ cls := "GroupRows", name := "topic", desc := "(I)I" } : Jvm.MethodName)) ∈ lw_all := lw_g (lw_at lw_m0 61 rfl) rfl
theorem q73 : (Jvm.Cond.selects "GroupRows" ({ cls := "GroupRows", name := "topic", desc := "(I)I" } : Jvm.MethodName) ({ cls := "GroupRows", name := "topic", desc := "(I)I" } : Jvm.MethodName)) ∈ lw_all := lw_g (lw_at lw_m0 62 rfl) rfl
theorem q74 : (Jvm.Cond.code ({ cls := "GroupRows", name := "topic", desc := "(I)I" } : Jvm.MethodName) prog_1_method_2_code (2 : Nat) (Option.some Jvm.ClassFile.FieldType.int)) ∈ lw_all := lw_g (lw_at lw_m0 63 rfl) rfl
theorem q76 : (Jvm.Cond.instanceMethod ({ cls := "GroupRows", name := "subscribe", desc := "(I)I" } : Jvm.MethodName)) ∈ lw_all := lw_g (lw_at lw_m0 65 rfl) rfl
theorem q77 : (Jvm.Cond.selects "GroupRows" ({ cls := "GroupRows", name := "subscribe", desc := "(I)I" } : Jvm.MethodName) ({ cls := "GroupRows", name := "subscribe", desc := "(I)I" } : Jvm.MethodName)) ∈ lw_all := lw_g (lw_at lw_m0 66 rfl) rfl
theorem q78 : (Jvm.Cond.code ({ cls := "GroupRows", name := "subscribe", desc := "(I)I" } : Jvm.MethodName) prog_1_method_4_code (2 : Nat) (Option.some Jvm.ClassFile.FieldType.int)) ∈ lw_all := lw_g (lw_at lw_m0 67 rfl) rfl
theorem q79 : (Jvm.Cond.methodLink "GroupRows" (44 : Nat) ({ cls := "GroupRows", name := "given", desc := "()I" } : Jvm.MethodName)) ∈ lw_all := lw_g (lw_at lw_m0 68 rfl) rfl
theorem q80 : (Jvm.Cond.privateMethod ({ cls := "GroupRows", name := "given", desc := "()I" } : Jvm.MethodName)) ∈ lw_tbl := lw_at lw_m0 69 rfl
theorem q81 : (Jvm.Cond.instanceMethod ({ cls := "GroupRows", name := "given", desc := "()I" } : Jvm.MethodName)) ∈ lw_all := lw_g (lw_at lw_m0 70 rfl) rfl
theorem q82 : (Jvm.Cond.code ({ cls := "GroupRows", name := "given", desc := "()I" } : Jvm.MethodName) prog_1_method_3_code (2 : Nat) (Option.some Jvm.ClassFile.FieldType.int)) ∈ lw_all := lw_g (lw_at lw_m0 71 rfl) rfl
theorem q83 : (Jvm.Cond.methodLink "GroupRows" (33 : Nat) ({ cls := "GroupRows$Group", name := "give", desc := "([I)V" } : Jvm.MethodName)) ∈ lw_all := lw_g (lw_at lw_m0 72 rfl) rfl
theorem q96 : (Jvm.Cond.instanceMethod ({ cls := "GroupRows", name := "enter", desc := "(I)I" } : Jvm.MethodName)) ∈ lw_all := lw_g (lw_at lw_m0 85 rfl) rfl
theorem q97 : (Jvm.Cond.selects "GroupRows" ({ cls := "GroupRows", name := "enter", desc := "(I)I" } : Jvm.MethodName) ({ cls := "GroupRows", name := "enter", desc := "(I)I" } : Jvm.MethodName)) ∈ lw_all := lw_g (lw_at lw_m0 86 rfl) rfl
theorem q98 : (Jvm.Cond.code ({ cls := "GroupRows", name := "enter", desc := "(I)I" } : Jvm.MethodName) prog_1_method_7_code (2 : Nat) (Option.some Jvm.ClassFile.FieldType.int)) ∈ lw_all := lw_g (lw_at lw_m0 87 rfl) rfl
theorem q99 : (Jvm.Cond.methodLink "GroupRows" (55 : Nat) ({ cls := "GroupRows", name := "changed", desc := "(IZ)I" } : Jvm.MethodName)) ∈ lw_all := lw_g (lw_at lw_m0 88 rfl) rfl
theorem q100 : (Jvm.Cond.privateMethod ({ cls := "GroupRows", name := "changed", desc := "(IZ)I" } : Jvm.MethodName)) ∈ lw_tbl := lw_at lw_m0 89 rfl
theorem q101 : (Jvm.Cond.instanceMethod ({ cls := "GroupRows", name := "changed", desc := "(IZ)I" } : Jvm.MethodName)) ∈ lw_all := lw_g (lw_at lw_m0 90 rfl) rfl
theorem q102 : (Jvm.Cond.code ({ cls := "GroupRows", name := "changed", desc := "(IZ)I" } : Jvm.MethodName) prog_1_method_6_code (3 : Nat) (Option.some Jvm.ClassFile.FieldType.int)) ∈ lw_all := lw_g (lw_at lw_m0 91 rfl) rfl
theorem q103 : (Jvm.Cond.methodLink "GroupRows" (48 : Nat) ({ cls := "GroupRows", name := "isMember", desc := "(I)Z" } : Jvm.MethodName)) ∈ lw_all := lw_g (lw_at lw_m0 92 rfl) rfl
theorem q104 : (Jvm.Cond.static ({ cls := "GroupRows", name := "isMember", desc := "(I)Z" } : Jvm.MethodName)) ∈ lw_all := lw_g (lw_at lw_m0 93 rfl) rfl
theorem q105 : (Jvm.Cond.code ({ cls := "GroupRows", name := "isMember", desc := "(I)Z" } : Jvm.MethodName) prog_1_method_5_code (1 : Nat) (Option.some Jvm.ClassFile.FieldType.boolean)) ∈ lw_all := lw_g (lw_at lw_m0 94 rfl) rfl
theorem q107 : (Jvm.Cond.instanceMethod ({ cls := "GroupRows", name := "leave", desc := "(I)I" } : Jvm.MethodName)) ∈ lw_all := lw_g (lw_at lw_m0 96 rfl) rfl
theorem q108 : (Jvm.Cond.selects "GroupRows" ({ cls := "GroupRows", name := "leave", desc := "(I)I" } : Jvm.MethodName) ({ cls := "GroupRows", name := "leave", desc := "(I)I" } : Jvm.MethodName)) ∈ lw_all := lw_g (lw_at lw_m0 97 rfl) rfl
theorem q109 : (Jvm.Cond.code ({ cls := "GroupRows", name := "leave", desc := "(I)I" } : Jvm.MethodName) prog_1_method_8_code (2 : Nat) (Option.some Jvm.ClassFile.FieldType.int)) ∈ lw_all := lw_g (lw_at lw_m0 98 rfl) rfl
theorem q111 : (Jvm.Cond.instanceMethod ({ cls := "GroupRows", name := "generation", desc := "()I" } : Jvm.MethodName)) ∈ lw_all := lw_g (lw_at lw_m0 100 rfl) rfl
theorem q112 : (Jvm.Cond.selects "GroupRows" ({ cls := "GroupRows", name := "generation", desc := "()I" } : Jvm.MethodName) ({ cls := "GroupRows", name := "generation", desc := "()I" } : Jvm.MethodName)) ∈ lw_all := lw_g (lw_at lw_m0 101 rfl) rfl
theorem q113 : (Jvm.Cond.code ({ cls := "GroupRows", name := "generation", desc := "()I" } : Jvm.MethodName) prog_1_method_9_code (1 : Nat) (Option.some Jvm.ClassFile.FieldType.int)) ∈ lw_all := lw_g (lw_at lw_m0 102 rfl) rfl
theorem q115 : (Jvm.Cond.instanceMethod ({ cls := "GroupRows", name := "owner", desc := "(II)I" } : Jvm.MethodName)) ∈ lw_all := lw_g (lw_at lw_m0 104 rfl) rfl
theorem q116 : (Jvm.Cond.selects "GroupRows" ({ cls := "GroupRows", name := "owner", desc := "(II)I" } : Jvm.MethodName) ({ cls := "GroupRows", name := "owner", desc := "(II)I" } : Jvm.MethodName)) ∈ lw_all := lw_g (lw_at lw_m0 105 rfl) rfl
theorem q117 : (Jvm.Cond.code ({ cls := "GroupRows", name := "owner", desc := "(II)I" } : Jvm.MethodName) prog_1_method_11_code (4 : Nat) (Option.some Jvm.ClassFile.FieldType.int)) ∈ lw_all := lw_g (lw_at lw_m0 106 rfl) rfl
theorem q118 : (Jvm.Cond.methodLink "GroupRows" (59 : Nat) ({ cls := "GroupRows", name := "partAt", desc := "(II)I" } : Jvm.MethodName)) ∈ lw_all := lw_g (lw_at lw_m0 107 rfl) rfl
theorem q119 : (Jvm.Cond.privateMethod ({ cls := "GroupRows", name := "partAt", desc := "(II)I" } : Jvm.MethodName)) ∈ lw_tbl := lw_at lw_m0 108 rfl
theorem q120 : (Jvm.Cond.instanceMethod ({ cls := "GroupRows", name := "partAt", desc := "(II)I" } : Jvm.MethodName)) ∈ lw_all := lw_g (lw_at lw_m0 109 rfl) rfl
theorem q121 : (Jvm.Cond.code ({ cls := "GroupRows", name := "partAt", desc := "(II)I" } : Jvm.MethodName) prog_1_method_10_code (3 : Nat) (Option.some Jvm.ClassFile.FieldType.int)) ∈ lw_all := lw_g (lw_at lw_m0 110 rfl) rfl
theorem q123 : (Jvm.Cond.instanceMethod ({ cls := "GroupRows", name := "held", desc := "(I)I" } : Jvm.MethodName)) ∈ lw_all := lw_g (lw_at lw_m0 112 rfl) rfl
theorem q124 : (Jvm.Cond.selects "GroupRows" ({ cls := "GroupRows", name := "held", desc := "(I)I" } : Jvm.MethodName) ({ cls := "GroupRows", name := "held", desc := "(I)I" } : Jvm.MethodName)) ∈ lw_all := lw_g (lw_at lw_m0 113 rfl) rfl
theorem q125 : (Jvm.Cond.code ({ cls := "GroupRows", name := "held", desc := "(I)I" } : Jvm.MethodName) prog_1_method_12_code (4 : Nat) (Option.some Jvm.ClassFile.FieldType.int)) ∈ lw_all := lw_g (lw_at lw_m0 114 rfl) rfl
theorem q127 : (Jvm.Cond.instanceMethod ({ cls := "GroupRows", name := "moved", desc := "()I" } : Jvm.MethodName)) ∈ lw_all := lw_g (lw_at lw_m0 116 rfl) rfl
theorem q128 : (Jvm.Cond.selects "GroupRows" ({ cls := "GroupRows", name := "moved", desc := "()I" } : Jvm.MethodName) ({ cls := "GroupRows", name := "moved", desc := "()I" } : Jvm.MethodName)) ∈ lw_all := lw_g (lw_at lw_m0 117 rfl) rfl
theorem q129 : (Jvm.Cond.code ({ cls := "GroupRows", name := "moved", desc := "()I" } : Jvm.MethodName) prog_1_method_13_code (1 : Nat) (Option.some Jvm.ClassFile.FieldType.int)) ∈ lw_all := lw_g (lw_at lw_m0 118 rfl) rfl
theorem q131 : (Jvm.Cond.instanceMethod ({ cls := "GroupRows", name := "place", desc := "(IIIII)I" } : Jvm.MethodName)) ∈ lw_all := lw_g (lw_at lw_m0 120 rfl) rfl
theorem q132 : (Jvm.Cond.selects "GroupRows" ({ cls := "GroupRows", name := "place", desc := "(IIIII)I" } : Jvm.MethodName) ({ cls := "GroupRows", name := "place", desc := "(IIIII)I" } : Jvm.MethodName)) ∈ lw_all := lw_g (lw_at lw_m0 121 rfl) rfl
theorem q133 : (Jvm.Cond.code ({ cls := "GroupRows", name := "place", desc := "(IIIII)I" } : Jvm.MethodName) prog_1_method_14_code (7 : Nat) (Option.some Jvm.ClassFile.FieldType.int)) ∈ lw_all := lw_g (lw_at lw_m0 122 rfl) rfl
theorem q135 : (Jvm.Cond.instanceMethod ({ cls := "GroupRows", name := "placed", desc := "(II)I" } : Jvm.MethodName)) ∈ lw_all := lw_g (lw_at lw_m0 124 rfl) rfl
theorem q136 : (Jvm.Cond.selects "GroupRows" ({ cls := "GroupRows", name := "placed", desc := "(II)I" } : Jvm.MethodName) ({ cls := "GroupRows", name := "placed", desc := "(II)I" } : Jvm.MethodName)) ∈ lw_all := lw_g (lw_at lw_m0 125 rfl) rfl
theorem q137 : (Jvm.Cond.code ({ cls := "GroupRows", name := "placed", desc := "(II)I" } : Jvm.MethodName) prog_1_method_15_code (4 : Nat) (Option.some Jvm.ClassFile.FieldType.int)) ∈ lw_all := lw_g (lw_at lw_m0 126 rfl) rfl
theorem in_X0 : ∀ w ∈ wsX00, w ∈ lw_all := lw_in wsX00 [60, 62, 64, 66, 68] (by decide +kernel) (by decide +kernel)
end
section
/-! GroupRows$Group -/
set_option maxRecDepth 100000
def RX1 : String := "GroupRows$Group"
def TX1 : u_T := fun k => match k with
  | 0 => ("GroupRows$Group", "members", "[Z", true)
  | 1 => ("GroupRows$Group", "topics", "[Z", true)
  | 2 => ("GroupRows$Group", "generation", "I", false)
  | 3 => ("GroupRows$Group", "owners", "[I", true)
  | 4 => ("GroupRows$Group", "places", "[I", true)
  | _ => ("GroupRows$Group", "counts", "[I", true)
def tyX1 : Nat → FieldType := fun k => match k with
  | 0 => .array .boolean
  | 1 => .array .boolean
  | 2 => .int
  | 3 => .array .int
  | 4 => .array .int
  | _ => .array .int
abbrev wsX10 : List Cond := u_ws RX1 TX1 6
theorem nmX1 : ∀ a, a < 6 → ∀ b, b < 6 → a ≠ b → (TX1 a).2.1 ≠ (TX1 b).2.1 := by decide +kernel
theorem tyX1_ok : ∀ k, k < 6 → parseFieldDescriptor (TX1 k).2.2.1 = some (tyX1 k) := by decide +kernel
abbrev cX1_init : ByteArray := prog_2_method_1_code
def yX1_init : MethodName := ⟨RX1, "<init>", "()V"⟩
theorem dX1_init_0 : decode cX1_init 0 = .ok (.aload_n 0, 1) := by decide +kernel
theorem dX1_init_1 : decode cX1_init 1 = .ok (.invokespecial 3, 3) := by decide +kernel
theorem dX1_init_4 : decode cX1_init 4 = .ok (.aload_n 0, 1) := by decide +kernel
theorem dX1_init_5 : decode cX1_init 5 = .ok (.bipush 8, 2) := by decide +kernel
theorem dX1_init_7 : decode cX1_init 7 = .ok (.newarray .boolean, 2) := by decide +kernel
theorem dX1_init_9 : decode cX1_init 9 = .ok (.putfield 9, 3) := by decide +kernel
theorem dX1_init_12 : decode cX1_init 12 = .ok (.aload_n 0, 1) := by decide +kernel
theorem dX1_init_13 : decode cX1_init 13 = .ok (.bipush 13, 2) := by decide +kernel
theorem dX1_init_15 : decode cX1_init 15 = .ok (.newarray .boolean, 2) := by decide +kernel
theorem dX1_init_17 : decode cX1_init 17 = .ok (.putfield 15, 3) := by decide +kernel
theorem dX1_init_20 : decode cX1_init 20 = .ok (.aload_n 0, 1) := by decide +kernel
theorem dX1_init_21 : decode cX1_init 21 = .ok (.bipush 72, 2) := by decide +kernel
theorem dX1_init_23 : decode cX1_init 23 = .ok (.newarray .int, 2) := by decide +kernel
theorem dX1_init_25 : decode cX1_init 25 = .ok (.putfield 18, 3) := by decide +kernel
theorem dX1_init_28 : decode cX1_init 28 = .ok (.aload_n 0, 1) := by decide +kernel
theorem dX1_init_29 : decode cX1_init 29 = .ok (.bipush 72, 2) := by decide +kernel
theorem dX1_init_31 : decode cX1_init 31 = .ok (.newarray .int, 2) := by decide +kernel
theorem dX1_init_33 : decode cX1_init 33 = .ok (.putfield 22, 3) := by decide +kernel
theorem dX1_init_36 : decode cX1_init 36 = .ok (.aload_n 0, 1) := by decide +kernel
theorem dX1_init_37 : decode cX1_init 37 = .ok (.bipush 8, 2) := by decide +kernel
theorem dX1_init_39 : decode cX1_init 39 = .ok (.newarray .int, 2) := by decide +kernel
theorem dX1_init_41 : decode cX1_init 41 = .ok (.putfield 25, 3) := by decide +kernel
theorem dX1_init_44 : decode cX1_init 44 = .ok (.iconst 0, 1) := by decide +kernel
theorem dX1_init_45 : decode cX1_init 45 = .ok (.istore_n 1, 1) := by decide +kernel
theorem dX1_init_46 : decode cX1_init 46 = .ok (.iload_n 1, 1) := by decide +kernel
theorem dX1_init_47 : decode cX1_init 47 = .ok (.bipush 72, 2) := by decide +kernel
theorem dX1_init_49 : decode cX1_init 49 = .ok (.if_icmp .ge 23, 3) := by decide +kernel
theorem dX1_init_52 : decode cX1_init 52 = .ok (.aload_n 0, 1) := by decide +kernel
theorem dX1_init_53 : decode cX1_init 53 = .ok (.getfield 18, 3) := by decide +kernel
theorem dX1_init_56 : decode cX1_init 56 = .ok (.iload_n 1, 1) := by decide +kernel
theorem dX1_init_57 : decode cX1_init 57 = .ok (.iconst (-1), 1) := by decide +kernel
theorem dX1_init_58 : decode cX1_init 58 = .ok (.iastore, 1) := by decide +kernel
theorem dX1_init_59 : decode cX1_init 59 = .ok (.aload_n 0, 1) := by decide +kernel
theorem dX1_init_60 : decode cX1_init 60 = .ok (.getfield 22, 3) := by decide +kernel
theorem dX1_init_63 : decode cX1_init 63 = .ok (.iload_n 1, 1) := by decide +kernel
theorem dX1_init_64 : decode cX1_init 64 = .ok (.iconst (-1), 1) := by decide +kernel
theorem dX1_init_65 : decode cX1_init 65 = .ok (.iastore, 1) := by decide +kernel
theorem dX1_init_66 : decode cX1_init 66 = .ok (.iinc 1 1, 3) := by decide +kernel
theorem dX1_init_69 : decode cX1_init 69 = .ok (.goto (-23), 3) := by decide +kernel
theorem dX1_init_72 : decode cX1_init 72 = .ok (.return_, 1) := by decide +kernel
abbrev cX1_give : ByteArray := prog_2_method_2_code
def yX1_give : MethodName := ⟨RX1, "give", "([I)V"⟩
theorem dX1_give_0 : decode cX1_give 0 = .ok (.aload_n 0, 1) := by decide +kernel
theorem dX1_give_1 : decode cX1_give 1 = .ok (.dup, 1) := by decide +kernel
theorem dX1_give_2 : decode cX1_give 2 = .ok (.getfield 28, 3) := by decide +kernel
theorem dX1_give_5 : decode cX1_give 5 = .ok (.iconst 1, 1) := by decide +kernel
theorem dX1_give_6 : decode cX1_give 6 = .ok (.iadd, 1) := by decide +kernel
theorem dX1_give_7 : decode cX1_give 7 = .ok (.putfield 28, 3) := by decide +kernel
theorem dX1_give_10 : decode cX1_give 10 = .ok (.iconst 0, 1) := by decide +kernel
theorem dX1_give_11 : decode cX1_give 11 = .ok (.istore_n 2, 1) := by decide +kernel
theorem dX1_give_12 : decode cX1_give 12 = .ok (.iconst 0, 1) := by decide +kernel
theorem dX1_give_13 : decode cX1_give 13 = .ok (.istore_n 3, 1) := by decide +kernel
theorem dX1_give_14 : decode cX1_give 14 = .ok (.iconst 1, 1) := by decide +kernel
theorem dX1_give_15 : decode cX1_give 15 = .ok (.istore 4, 2) := by decide +kernel
theorem dX1_give_17 : decode cX1_give 17 = .ok (.iload 4, 2) := by decide +kernel
theorem dX1_give_19 : decode cX1_give 19 = .ok (.bipush 12, 2) := by decide +kernel
theorem dX1_give_21 : decode cX1_give 21 = .ok (.if_icmp .gt 26, 3) := by decide +kernel
theorem dX1_give_24 : decode cX1_give 24 = .ok (.aload_n 0, 1) := by decide +kernel
theorem dX1_give_25 : decode cX1_give 25 = .ok (.getfield 15, 3) := by decide +kernel
theorem dX1_give_28 : decode cX1_give 28 = .ok (.iload 4, 2) := by decide +kernel
theorem dX1_give_30 : decode cX1_give 30 = .ok (.baload, 1) := by decide +kernel
theorem dX1_give_31 : decode cX1_give 31 = .ok (.ifCond .eq 10, 3) := by decide +kernel
theorem dX1_give_34 : decode cX1_give 34 = .ok (.iload_n 2, 1) := by decide +kernel
theorem dX1_give_35 : decode cX1_give 35 = .ok (.aload_n 1, 1) := by decide +kernel
theorem dX1_give_36 : decode cX1_give 36 = .ok (.iload 4, 2) := by decide +kernel
theorem dX1_give_38 : decode cX1_give 38 = .ok (.iaload, 1) := by decide +kernel
theorem dX1_give_39 : decode cX1_give 39 = .ok (.iadd, 1) := by decide +kernel
theorem dX1_give_40 : decode cX1_give 40 = .ok (.istore_n 2, 1) := by decide +kernel
theorem dX1_give_41 : decode cX1_give 41 = .ok (.iinc 4 1, 3) := by decide +kernel
theorem dX1_give_44 : decode cX1_give 44 = .ok (.goto (-27), 3) := by decide +kernel
theorem dX1_give_47 : decode cX1_give 47 = .ok (.iconst 0, 1) := by decide +kernel
theorem dX1_give_48 : decode cX1_give 48 = .ok (.istore 4, 2) := by decide +kernel
theorem dX1_give_50 : decode cX1_give 50 = .ok (.iload 4, 2) := by decide +kernel
theorem dX1_give_52 : decode cX1_give 52 = .ok (.bipush 8, 2) := by decide +kernel
theorem dX1_give_54 : decode cX1_give 54 = .ok (.if_icmp .ge 30, 3) := by decide +kernel
theorem dX1_give_57 : decode cX1_give 57 = .ok (.aload_n 0, 1) := by decide +kernel
theorem dX1_give_58 : decode cX1_give 58 = .ok (.getfield 25, 3) := by decide +kernel
theorem dX1_give_61 : decode cX1_give 61 = .ok (.iload 4, 2) := by decide +kernel
theorem dX1_give_63 : decode cX1_give 63 = .ok (.iconst 0, 1) := by decide +kernel
theorem dX1_give_64 : decode cX1_give 64 = .ok (.iastore, 1) := by decide +kernel
theorem dX1_give_65 : decode cX1_give 65 = .ok (.aload_n 0, 1) := by decide +kernel
theorem dX1_give_66 : decode cX1_give 66 = .ok (.getfield 9, 3) := by decide +kernel
theorem dX1_give_69 : decode cX1_give 69 = .ok (.iload 4, 2) := by decide +kernel
theorem dX1_give_71 : decode cX1_give 71 = .ok (.baload, 1) := by decide +kernel
theorem dX1_give_72 : decode cX1_give 72 = .ok (.ifCond .eq 6, 3) := by decide +kernel
theorem dX1_give_75 : decode cX1_give 75 = .ok (.iinc 3 1, 3) := by decide +kernel
theorem dX1_give_78 : decode cX1_give 78 = .ok (.iinc 4 1, 3) := by decide +kernel
theorem dX1_give_81 : decode cX1_give 81 = .ok (.goto (-31), 3) := by decide +kernel
theorem dX1_give_84 : decode cX1_give 84 = .ok (.iload_n 3, 1) := by decide +kernel
theorem dX1_give_85 : decode cX1_give 85 = .ok (.ifCond .ne 28, 3) := by decide +kernel
theorem dX1_give_88 : decode cX1_give 88 = .ok (.iconst 0, 1) := by decide +kernel
theorem dX1_give_89 : decode cX1_give 89 = .ok (.istore 4, 2) := by decide +kernel
theorem dX1_give_91 : decode cX1_give 91 = .ok (.iload 4, 2) := by decide +kernel
theorem dX1_give_93 : decode cX1_give 93 = .ok (.bipush 72, 2) := by decide +kernel
theorem dX1_give_95 : decode cX1_give 95 = .ok (.if_icmp .ge 17, 3) := by decide +kernel
theorem dX1_give_98 : decode cX1_give 98 = .ok (.aload_n 0, 1) := by decide +kernel
theorem dX1_give_99 : decode cX1_give 99 = .ok (.getfield 18, 3) := by decide +kernel
theorem dX1_give_102 : decode cX1_give 102 = .ok (.iload 4, 2) := by decide +kernel
theorem dX1_give_104 : decode cX1_give 104 = .ok (.iconst (-1), 1) := by decide +kernel
theorem dX1_give_105 : decode cX1_give 105 = .ok (.iastore, 1) := by decide +kernel
theorem dX1_give_106 : decode cX1_give 106 = .ok (.iinc 4 1, 3) := by decide +kernel
theorem dX1_give_109 : decode cX1_give 109 = .ok (.goto (-18), 3) := by decide +kernel
theorem dX1_give_112 : decode cX1_give 112 = .ok (.return_, 1) := by decide +kernel
theorem dX1_give_113 : decode cX1_give 113 = .ok (.aload_n 0, 1) := by decide +kernel
theorem dX1_give_114 : decode cX1_give 114 = .ok (.aload_n 1, 1) := by decide +kernel
theorem dX1_give_115 : decode cX1_give 115 = .ok (.iload_n 2, 1) := by decide +kernel
theorem dX1_give_116 : decode cX1_give 116 = .ok (.iload_n 3, 1) := by decide +kernel
theorem dX1_give_117 : decode cX1_give 117 = .ok (.idiv, 1) := by decide +kernel
theorem dX1_give_118 : decode cX1_give 118 = .ok (.iload_n 2, 1) := by decide +kernel
theorem dX1_give_119 : decode cX1_give 119 = .ok (.iload_n 3, 1) := by decide +kernel
theorem dX1_give_120 : decode cX1_give 120 = .ok (.irem, 1) := by decide +kernel
theorem dX1_give_121 : decode cX1_give 121 = .ok (.invokevirtual 32, 3) := by decide +kernel
theorem dX1_give_124 : decode cX1_give 124 = .ok (.iconst 1, 1) := by decide +kernel
theorem dX1_give_125 : decode cX1_give 125 = .ok (.istore 4, 2) := by decide +kernel
theorem dX1_give_127 : decode cX1_give 127 = .ok (.iload 4, 2) := by decide +kernel
theorem dX1_give_129 : decode cX1_give 129 = .ok (.bipush 12, 2) := by decide +kernel
theorem dX1_give_131 : decode cX1_give 131 = .ok (.if_icmp .gt 89, 3) := by decide +kernel
theorem dX1_give_134 : decode cX1_give 134 = .ok (.iconst 0, 1) := by decide +kernel
theorem dX1_give_135 : decode cX1_give 135 = .ok (.istore 5, 2) := by decide +kernel
theorem dX1_give_137 : decode cX1_give 137 = .ok (.iload 5, 2) := by decide +kernel
theorem dX1_give_139 : decode cX1_give 139 = .ok (.aload_n 1, 1) := by decide +kernel
theorem dX1_give_140 : decode cX1_give 140 = .ok (.iload 4, 2) := by decide +kernel
theorem dX1_give_142 : decode cX1_give 142 = .ok (.iaload, 1) := by decide +kernel
theorem dX1_give_143 : decode cX1_give 143 = .ok (.if_icmp .ge 71, 3) := by decide +kernel
theorem dX1_give_146 : decode cX1_give 146 = .ok (.aload_n 0, 1) := by decide +kernel
theorem dX1_give_147 : decode cX1_give 147 = .ok (.getfield 15, 3) := by decide +kernel
theorem dX1_give_150 : decode cX1_give 150 = .ok (.iload 4, 2) := by decide +kernel
theorem dX1_give_152 : decode cX1_give 152 = .ok (.baload, 1) := by decide +kernel
theorem dX1_give_153 : decode cX1_give 153 = .ok (.ifCond .eq 61, 3) := by decide +kernel
theorem dX1_give_156 : decode cX1_give 156 = .ok (.iload 4, 2) := by decide +kernel
theorem dX1_give_158 : decode cX1_give 158 = .ok (.iconst 1, 1) := by decide +kernel
theorem dX1_give_159 : decode cX1_give 159 = .ok (.isub, 1) := by decide +kernel
theorem dX1_give_160 : decode cX1_give 160 = .ok (.bipush 6, 2) := by decide +kernel
theorem dX1_give_162 : decode cX1_give 162 = .ok (.imul, 1) := by decide +kernel
theorem dX1_give_163 : decode cX1_give 163 = .ok (.iload 5, 2) := by decide +kernel
theorem dX1_give_165 : decode cX1_give 165 = .ok (.iadd, 1) := by decide +kernel
theorem dX1_give_166 : decode cX1_give 166 = .ok (.istore 6, 2) := by decide +kernel
theorem dX1_give_168 : decode cX1_give 168 = .ok (.aload_n 0, 1) := by decide +kernel
theorem dX1_give_169 : decode cX1_give 169 = .ok (.getfield 18, 3) := by decide +kernel
theorem dX1_give_172 : decode cX1_give 172 = .ok (.iload 6, 2) := by decide +kernel
theorem dX1_give_174 : decode cX1_give 174 = .ok (.iaload, 1) := by decide +kernel
theorem dX1_give_175 : decode cX1_give 175 = .ok (.ifCond .lt 6, 3) := by decide +kernel
theorem dX1_give_178 : decode cX1_give 178 = .ok (.goto 30, 3) := by decide +kernel
theorem dX1_give_181 : decode cX1_give 181 = .ok (.aload_n 0, 1) := by decide +kernel
theorem dX1_give_182 : decode cX1_give 182 = .ok (.getfield 18, 3) := by decide +kernel
theorem dX1_give_185 : decode cX1_give 185 = .ok (.iload 6, 2) := by decide +kernel
theorem dX1_give_187 : decode cX1_give 187 = .ok (.aload_n 0, 1) := by decide +kernel
theorem dX1_give_188 : decode cX1_give 188 = .ok (.invokevirtual 36, 3) := by decide +kernel
theorem dX1_give_191 : decode cX1_give 191 = .ok (.iastore, 1) := by decide +kernel
theorem dX1_give_192 : decode cX1_give 192 = .ok (.aload_n 0, 1) := by decide +kernel
theorem dX1_give_193 : decode cX1_give 193 = .ok (.getfield 25, 3) := by decide +kernel
theorem dX1_give_196 : decode cX1_give 196 = .ok (.aload_n 0, 1) := by decide +kernel
theorem dX1_give_197 : decode cX1_give 197 = .ok (.getfield 18, 3) := by decide +kernel
theorem dX1_give_200 : decode cX1_give 200 = .ok (.iload 6, 2) := by decide +kernel
theorem dX1_give_202 : decode cX1_give 202 = .ok (.iaload, 1) := by decide +kernel
theorem dX1_give_203 : decode cX1_give 203 = .ok (.dup2, 1) := by decide +kernel
theorem dX1_give_204 : decode cX1_give 204 = .ok (.iaload, 1) := by decide +kernel
theorem dX1_give_205 : decode cX1_give 205 = .ok (.iconst 1, 1) := by decide +kernel
theorem dX1_give_206 : decode cX1_give 206 = .ok (.iadd, 1) := by decide +kernel
theorem dX1_give_207 : decode cX1_give 207 = .ok (.iastore, 1) := by decide +kernel
theorem dX1_give_208 : decode cX1_give 208 = .ok (.iinc 5 1, 3) := by decide +kernel
theorem dX1_give_211 : decode cX1_give 211 = .ok (.goto (-74), 3) := by decide +kernel
theorem dX1_give_214 : decode cX1_give 214 = .ok (.iinc 4 1, 3) := by decide +kernel
theorem dX1_give_217 : decode cX1_give 217 = .ok (.goto (-90), 3) := by decide +kernel
theorem dX1_give_220 : decode cX1_give 220 = .ok (.return_, 1) := by decide +kernel
abbrev cX1_keep : ByteArray := prog_2_method_3_code
def yX1_keep : MethodName := ⟨RX1, "keep", "([III)V"⟩
theorem dX1_keep_0 : decode cX1_keep 0 = .ok (.iconst 0, 1) := by decide +kernel
theorem dX1_keep_1 : decode cX1_keep 1 = .ok (.istore 4, 2) := by decide +kernel
theorem dX1_keep_3 : decode cX1_keep 3 = .ok (.iconst 1, 1) := by decide +kernel
theorem dX1_keep_4 : decode cX1_keep 4 = .ok (.istore 5, 2) := by decide +kernel
theorem dX1_keep_6 : decode cX1_keep 6 = .ok (.iload 5, 2) := by decide +kernel
theorem dX1_keep_8 : decode cX1_keep 8 = .ok (.bipush 12, 2) := by decide +kernel
theorem dX1_keep_10 : decode cX1_keep 10 = .ok (.if_icmp .gt 149, 3) := by decide +kernel
theorem dX1_keep_13 : decode cX1_keep 13 = .ok (.iconst 0, 1) := by decide +kernel
theorem dX1_keep_14 : decode cX1_keep 14 = .ok (.istore 6, 2) := by decide +kernel
theorem dX1_keep_16 : decode cX1_keep 16 = .ok (.iload 6, 2) := by decide +kernel
theorem dX1_keep_18 : decode cX1_keep 18 = .ok (.aload_n 1, 1) := by decide +kernel
theorem dX1_keep_19 : decode cX1_keep 19 = .ok (.iload 5, 2) := by decide +kernel
theorem dX1_keep_21 : decode cX1_keep 21 = .ok (.iaload, 1) := by decide +kernel
theorem dX1_keep_22 : decode cX1_keep 22 = .ok (.if_icmp .ge 131, 3) := by decide +kernel
theorem dX1_keep_25 : decode cX1_keep 25 = .ok (.aload_n 0, 1) := by decide +kernel
theorem dX1_keep_26 : decode cX1_keep 26 = .ok (.getfield 15, 3) := by decide +kernel
theorem dX1_keep_29 : decode cX1_keep 29 = .ok (.iload 5, 2) := by decide +kernel
theorem dX1_keep_31 : decode cX1_keep 31 = .ok (.baload, 1) := by decide +kernel
theorem dX1_keep_32 : decode cX1_keep 32 = .ok (.ifCond .eq 121, 3) := by decide +kernel
theorem dX1_keep_35 : decode cX1_keep 35 = .ok (.iload 5, 2) := by decide +kernel
theorem dX1_keep_37 : decode cX1_keep 37 = .ok (.iconst 1, 1) := by decide +kernel
theorem dX1_keep_38 : decode cX1_keep 38 = .ok (.isub, 1) := by decide +kernel
theorem dX1_keep_39 : decode cX1_keep 39 = .ok (.bipush 6, 2) := by decide +kernel
theorem dX1_keep_41 : decode cX1_keep 41 = .ok (.imul, 1) := by decide +kernel
theorem dX1_keep_42 : decode cX1_keep 42 = .ok (.iload 6, 2) := by decide +kernel
theorem dX1_keep_44 : decode cX1_keep 44 = .ok (.iadd, 1) := by decide +kernel
theorem dX1_keep_45 : decode cX1_keep 45 = .ok (.istore 7, 2) := by decide +kernel
theorem dX1_keep_47 : decode cX1_keep 47 = .ok (.aload_n 0, 1) := by decide +kernel
theorem dX1_keep_48 : decode cX1_keep 48 = .ok (.getfield 18, 3) := by decide +kernel
theorem dX1_keep_51 : decode cX1_keep 51 = .ok (.iload 7, 2) := by decide +kernel
theorem dX1_keep_53 : decode cX1_keep 53 = .ok (.iaload, 1) := by decide +kernel
theorem dX1_keep_54 : decode cX1_keep 54 = .ok (.istore 8, 2) := by decide +kernel
theorem dX1_keep_56 : decode cX1_keep 56 = .ok (.iload 8, 2) := by decide +kernel
theorem dX1_keep_58 : decode cX1_keep 58 = .ok (.ifCond .lt 45, 3) := by decide +kernel
theorem dX1_keep_61 : decode cX1_keep 61 = .ok (.aload_n 0, 1) := by decide +kernel
theorem dX1_keep_62 : decode cX1_keep 62 = .ok (.getfield 9, 3) := by decide +kernel
theorem dX1_keep_65 : decode cX1_keep 65 = .ok (.iload 8, 2) := by decide +kernel
theorem dX1_keep_67 : decode cX1_keep 67 = .ok (.baload, 1) := by decide +kernel
theorem dX1_keep_68 : decode cX1_keep 68 = .ok (.ifCond .eq 35, 3) := by decide +kernel
theorem dX1_keep_71 : decode cX1_keep 71 = .ok (.aload_n 0, 1) := by decide +kernel
theorem dX1_keep_72 : decode cX1_keep 72 = .ok (.getfield 25, 3) := by decide +kernel
theorem dX1_keep_75 : decode cX1_keep 75 = .ok (.iload 8, 2) := by decide +kernel
theorem dX1_keep_77 : decode cX1_keep 77 = .ok (.iaload, 1) := by decide +kernel
theorem dX1_keep_78 : decode cX1_keep 78 = .ok (.iload_n 2, 1) := by decide +kernel
theorem dX1_keep_79 : decode cX1_keep 79 = .ok (.if_icmp .lt 20, 3) := by decide +kernel
theorem dX1_keep_82 : decode cX1_keep 82 = .ok (.aload_n 0, 1) := by decide +kernel
theorem dX1_keep_83 : decode cX1_keep 83 = .ok (.getfield 25, 3) := by decide +kernel
theorem dX1_keep_86 : decode cX1_keep 86 = .ok (.iload 8, 2) := by decide +kernel
theorem dX1_keep_88 : decode cX1_keep 88 = .ok (.iaload, 1) := by decide +kernel
theorem dX1_keep_89 : decode cX1_keep 89 = .ok (.iload_n 2, 1) := by decide +kernel
theorem dX1_keep_90 : decode cX1_keep 90 = .ok (.if_icmp .ne 13, 3) := by decide +kernel
theorem dX1_keep_93 : decode cX1_keep 93 = .ok (.iload 4, 2) := by decide +kernel
theorem dX1_keep_95 : decode cX1_keep 95 = .ok (.iload_n 3, 1) := by decide +kernel
theorem dX1_keep_96 : decode cX1_keep 96 = .ok (.if_icmp .ge 7, 3) := by decide +kernel
theorem dX1_keep_99 : decode cX1_keep 99 = .ok (.iconst 1, 1) := by decide +kernel
theorem dX1_keep_100 : decode cX1_keep 100 = .ok (.goto 4, 3) := by decide +kernel
theorem dX1_keep_103 : decode cX1_keep 103 = .ok (.iconst 0, 1) := by decide +kernel
theorem dX1_keep_104 : decode cX1_keep 104 = .ok (.istore 9, 2) := by decide +kernel
theorem dX1_keep_106 : decode cX1_keep 106 = .ok (.iload 9, 2) := by decide +kernel
theorem dX1_keep_108 : decode cX1_keep 108 = .ok (.ifCond .ne 14, 3) := by decide +kernel
theorem dX1_keep_111 : decode cX1_keep 111 = .ok (.aload_n 0, 1) := by decide +kernel
theorem dX1_keep_112 : decode cX1_keep 112 = .ok (.getfield 18, 3) := by decide +kernel
theorem dX1_keep_115 : decode cX1_keep 115 = .ok (.iload 7, 2) := by decide +kernel
theorem dX1_keep_117 : decode cX1_keep 117 = .ok (.iconst (-1), 1) := by decide +kernel
theorem dX1_keep_118 : decode cX1_keep 118 = .ok (.iastore, 1) := by decide +kernel
theorem dX1_keep_119 : decode cX1_keep 119 = .ok (.goto 28, 3) := by decide +kernel
theorem dX1_keep_122 : decode cX1_keep 122 = .ok (.aload_n 0, 1) := by decide +kernel
theorem dX1_keep_123 : decode cX1_keep 123 = .ok (.getfield 25, 3) := by decide +kernel
theorem dX1_keep_126 : decode cX1_keep 126 = .ok (.iload 8, 2) := by decide +kernel
theorem dX1_keep_128 : decode cX1_keep 128 = .ok (.iaload, 1) := by decide +kernel
theorem dX1_keep_129 : decode cX1_keep 129 = .ok (.iload_n 2, 1) := by decide +kernel
theorem dX1_keep_130 : decode cX1_keep 130 = .ok (.if_icmp .ne 6, 3) := by decide +kernel
theorem dX1_keep_133 : decode cX1_keep 133 = .ok (.iinc 4 1, 3) := by decide +kernel
theorem dX1_keep_136 : decode cX1_keep 136 = .ok (.aload_n 0, 1) := by decide +kernel
theorem dX1_keep_137 : decode cX1_keep 137 = .ok (.getfield 25, 3) := by decide +kernel
theorem dX1_keep_140 : decode cX1_keep 140 = .ok (.iload 8, 2) := by decide +kernel
theorem dX1_keep_142 : decode cX1_keep 142 = .ok (.dup2, 1) := by decide +kernel
theorem dX1_keep_143 : decode cX1_keep 143 = .ok (.iaload, 1) := by decide +kernel
theorem dX1_keep_144 : decode cX1_keep 144 = .ok (.iconst 1, 1) := by decide +kernel
theorem dX1_keep_145 : decode cX1_keep 145 = .ok (.iadd, 1) := by decide +kernel
theorem dX1_keep_146 : decode cX1_keep 146 = .ok (.iastore, 1) := by decide +kernel
theorem dX1_keep_147 : decode cX1_keep 147 = .ok (.iinc 6 1, 3) := by decide +kernel
theorem dX1_keep_150 : decode cX1_keep 150 = .ok (.goto (-134), 3) := by decide +kernel
theorem dX1_keep_153 : decode cX1_keep 153 = .ok (.iinc 5 1, 3) := by decide +kernel
theorem dX1_keep_156 : decode cX1_keep 156 = .ok (.goto (-150), 3) := by decide +kernel
theorem dX1_keep_159 : decode cX1_keep 159 = .ok (.return_, 1) := by decide +kernel
abbrev cX1_fewest : ByteArray := prog_2_method_4_code
def yX1_fewest : MethodName := ⟨RX1, "fewest", "()I"⟩
theorem dX1_fewest_0 : decode cX1_fewest 0 = .ok (.iconst (-1), 1) := by decide +kernel
theorem dX1_fewest_1 : decode cX1_fewest 1 = .ok (.istore_n 1, 1) := by decide +kernel
theorem dX1_fewest_2 : decode cX1_fewest 2 = .ok (.iconst 0, 1) := by decide +kernel
theorem dX1_fewest_3 : decode cX1_fewest 3 = .ok (.istore_n 2, 1) := by decide +kernel
theorem dX1_fewest_4 : decode cX1_fewest 4 = .ok (.iload_n 2, 1) := by decide +kernel
theorem dX1_fewest_5 : decode cX1_fewest 5 = .ok (.bipush 8, 2) := by decide +kernel
theorem dX1_fewest_7 : decode cX1_fewest 7 = .ok (.if_icmp .ge 39, 3) := by decide +kernel
theorem dX1_fewest_10 : decode cX1_fewest 10 = .ok (.aload_n 0, 1) := by decide +kernel
theorem dX1_fewest_11 : decode cX1_fewest 11 = .ok (.getfield 9, 3) := by decide +kernel
theorem dX1_fewest_14 : decode cX1_fewest 14 = .ok (.iload_n 2, 1) := by decide +kernel
theorem dX1_fewest_15 : decode cX1_fewest 15 = .ok (.baload, 1) := by decide +kernel
theorem dX1_fewest_16 : decode cX1_fewest 16 = .ok (.ifCond .eq 24, 3) := by decide +kernel
theorem dX1_fewest_19 : decode cX1_fewest 19 = .ok (.iload_n 1, 1) := by decide +kernel
theorem dX1_fewest_20 : decode cX1_fewest 20 = .ok (.ifCond .lt 18, 3) := by decide +kernel
theorem dX1_fewest_23 : decode cX1_fewest 23 = .ok (.aload_n 0, 1) := by decide +kernel
theorem dX1_fewest_24 : decode cX1_fewest 24 = .ok (.getfield 25, 3) := by decide +kernel
theorem dX1_fewest_27 : decode cX1_fewest 27 = .ok (.iload_n 2, 1) := by decide +kernel
theorem dX1_fewest_28 : decode cX1_fewest 28 = .ok (.iaload, 1) := by decide +kernel
theorem dX1_fewest_29 : decode cX1_fewest 29 = .ok (.aload_n 0, 1) := by decide +kernel
theorem dX1_fewest_30 : decode cX1_fewest 30 = .ok (.getfield 25, 3) := by decide +kernel
theorem dX1_fewest_33 : decode cX1_fewest 33 = .ok (.iload_n 1, 1) := by decide +kernel
theorem dX1_fewest_34 : decode cX1_fewest 34 = .ok (.iaload, 1) := by decide +kernel
theorem dX1_fewest_35 : decode cX1_fewest 35 = .ok (.if_icmp .ge 5, 3) := by decide +kernel
theorem dX1_fewest_38 : decode cX1_fewest 38 = .ok (.iload_n 2, 1) := by decide +kernel
theorem dX1_fewest_39 : decode cX1_fewest 39 = .ok (.istore_n 1, 1) := by decide +kernel
theorem dX1_fewest_40 : decode cX1_fewest 40 = .ok (.iinc 2 1, 3) := by decide +kernel
theorem dX1_fewest_43 : decode cX1_fewest 43 = .ok (.goto (-39), 3) := by decide +kernel
theorem dX1_fewest_46 : decode cX1_fewest 46 = .ok (.iload_n 1, 1) := by decide +kernel
theorem dX1_fewest_47 : decode cX1_fewest 47 = .ok (.ireturn, 1) := by decide +kernel
theorem q13 : (Jvm.Cond.initialized "GroupRows$Group") ∈ lw_all := lw_g (lw_at lw_m0 2 rfl) rfl
theorem q24 : (Jvm.Cond.instantiable "GroupRows$Group" (6 : Nat)) ∈ lw_all := lw_g (lw_at lw_m0 13 rfl) rfl
theorem q26 : (Jvm.Cond.instanceMethod ({ cls := "GroupRows$Group", name := "<init>", desc := "()V" } : Jvm.MethodName)) ∈ lw_all := lw_g (lw_at lw_m0 15 rfl) rfl
theorem q27 : (Jvm.Cond.code ({ cls := "GroupRows$Group", name := "<init>", desc := "()V" } : Jvm.MethodName) prog_2_method_1_code (2 : Nat) (Option.none : Option Jvm.ClassFile.FieldType)) ∈ lw_all := lw_g (lw_at lw_m0 16 rfl) rfl
theorem q28 : (Jvm.Cond.methodLink "GroupRows$Group" (3 : Nat) ({ cls := "java/lang/Object", name := "<init>", desc := "()V" } : Jvm.MethodName)) ∈ lw_all := lw_g (lw_at lw_m0 17 rfl) rfl
theorem q29 : (Jvm.Cond.fieldLink "GroupRows$Group" (9 : Nat) "GroupRows$Group" "members" "[Z") ∈ lw_all := lw_g (lw_at lw_m0 18 rfl) rfl
theorem q31 : (Jvm.Cond.fieldLink "GroupRows$Group" (15 : Nat) "GroupRows$Group" "topics" "[Z") ∈ lw_all := lw_g (lw_at lw_m0 20 rfl) rfl
theorem q33 : (Jvm.Cond.fieldLink "GroupRows$Group" (28 : Nat) "GroupRows$Group" "generation" "I") ∈ lw_all := lw_g (lw_at lw_m0 22 rfl) rfl
theorem q35 : (Jvm.Cond.fieldLink "GroupRows$Group" (18 : Nat) "GroupRows$Group" "owners" "[I") ∈ lw_all := lw_g (lw_at lw_m0 24 rfl) rfl
theorem q37 : (Jvm.Cond.fieldLink "GroupRows$Group" (22 : Nat) "GroupRows$Group" "places" "[I") ∈ lw_all := lw_g (lw_at lw_m0 26 rfl) rfl
theorem q39 : (Jvm.Cond.fieldLink "GroupRows$Group" (25 : Nat) "GroupRows$Group" "counts" "[I") ∈ lw_all := lw_g (lw_at lw_m0 28 rfl) rfl
theorem q40 : (Jvm.Cond.laysFinal "GroupRows$Group" "GroupRows$Group" "members" "[Z") ∈ lw_all := lw_g (lw_at lw_m0 29 rfl) rfl
theorem q41 : (Jvm.Cond.soleField "GroupRows$Group" "members") ∈ lw_all := lw_g (lw_at lw_m0 30 rfl) rfl
theorem q42 : (Jvm.Cond.laysFinal "GroupRows$Group" "GroupRows$Group" "topics" "[Z") ∈ lw_all := lw_g (lw_at lw_m0 31 rfl) rfl
theorem q43 : (Jvm.Cond.soleField "GroupRows$Group" "topics") ∈ lw_all := lw_g (lw_at lw_m0 32 rfl) rfl
theorem q44 : (Jvm.Cond.lays "GroupRows$Group" "GroupRows$Group" "generation" "I") ∈ lw_all := lw_g (lw_at lw_m0 33 rfl) rfl
theorem q45 : (Jvm.Cond.soleField "GroupRows$Group" "generation") ∈ lw_all := lw_g (lw_at lw_m0 34 rfl) rfl
theorem q46 : (Jvm.Cond.laysFinal "GroupRows$Group" "GroupRows$Group" "owners" "[I") ∈ lw_all := lw_g (lw_at lw_m0 35 rfl) rfl
theorem q47 : (Jvm.Cond.soleField "GroupRows$Group" "owners") ∈ lw_all := lw_g (lw_at lw_m0 36 rfl) rfl
theorem q48 : (Jvm.Cond.laysFinal "GroupRows$Group" "GroupRows$Group" "places" "[I") ∈ lw_all := lw_g (lw_at lw_m0 37 rfl) rfl
theorem q49 : (Jvm.Cond.soleField "GroupRows$Group" "places") ∈ lw_all := lw_g (lw_at lw_m0 38 rfl) rfl
theorem q50 : (Jvm.Cond.laysFinal "GroupRows$Group" "GroupRows$Group" "counts" "[I") ∈ lw_all := lw_g (lw_at lw_m0 39 rfl) rfl
theorem q51 : (Jvm.Cond.soleField "GroupRows$Group" "counts") ∈ lw_all := lw_g (lw_at lw_m0 40 rfl) rfl
theorem q52 : (Jvm.Cond.superclass "GroupRows$Group" "java/lang/Object") ∈ lw_all := lw_g (lw_at lw_m0 41 rfl) rfl
theorem q84 : (Jvm.Cond.instanceMethod ({ cls := "GroupRows$Group", name := "give", desc := "([I)V" } : Jvm.MethodName)) ∈ lw_all := lw_g (lw_at lw_m0 73 rfl) rfl
theorem q85 : (Jvm.Cond.selects "GroupRows$Group" ({ cls := "GroupRows$Group", name := "give", desc := "([I)V" } : Jvm.MethodName) ({ cls := "GroupRows$Group", name := "give", desc := "([I)V" } : Jvm.MethodName)) ∈ lw_all := lw_g (lw_at lw_m0 74 rfl) rfl
theorem q86 : (Jvm.Cond.code ({ cls := "GroupRows$Group", name := "give", desc := "([I)V" } : Jvm.MethodName) prog_2_method_2_code (7 : Nat) (Option.none : Option Jvm.ClassFile.FieldType)) ∈ lw_all := lw_g (lw_at lw_m0 75 rfl) rfl
theorem q87 : (Jvm.Cond.methodLink "GroupRows$Group" (32 : Nat) ({ cls := "GroupRows$Group", name := "keep", desc := "([III)V" } : Jvm.MethodName)) ∈ lw_all := lw_g (lw_at lw_m0 76 rfl) rfl
theorem q88 : (Jvm.Cond.privateMethod ({ cls := "GroupRows$Group", name := "keep", desc := "([III)V" } : Jvm.MethodName)) ∈ lw_tbl := lw_at lw_m0 77 rfl
theorem q89 : (Jvm.Cond.instanceMethod ({ cls := "GroupRows$Group", name := "keep", desc := "([III)V" } : Jvm.MethodName)) ∈ lw_all := lw_g (lw_at lw_m0 78 rfl) rfl
theorem q90 : (Jvm.Cond.code ({ cls := "GroupRows$Group", name := "keep", desc := "([III)V" } : Jvm.MethodName) prog_2_method_3_code (10 : Nat) (Option.none : Option Jvm.ClassFile.FieldType)) ∈ lw_all := lw_g (lw_at lw_m0 79 rfl) rfl
theorem q91 : (Jvm.Cond.methodLink "GroupRows$Group" (36 : Nat) ({ cls := "GroupRows$Group", name := "fewest", desc := "()I" } : Jvm.MethodName)) ∈ lw_all := lw_g (lw_at lw_m0 80 rfl) rfl
theorem q92 : (Jvm.Cond.privateMethod ({ cls := "GroupRows$Group", name := "fewest", desc := "()I" } : Jvm.MethodName)) ∈ lw_tbl := lw_at lw_m0 81 rfl
theorem q93 : (Jvm.Cond.instanceMethod ({ cls := "GroupRows$Group", name := "fewest", desc := "()I" } : Jvm.MethodName)) ∈ lw_all := lw_g (lw_at lw_m0 82 rfl) rfl
theorem q94 : (Jvm.Cond.code ({ cls := "GroupRows$Group", name := "fewest", desc := "()I" } : Jvm.MethodName) prog_2_method_4_code (3 : Nat) (Option.some Jvm.ClassFile.FieldType.int)) ∈ lw_all := lw_g (lw_at lw_m0 83 rfl) rfl
theorem in_X1 : ∀ w ∈ wsX10, w ∈ lw_all := lw_in wsX10 [40, 42, 44, 46, 48, 50] (by decide +kernel) (by decide +kernel)
end
section
/-! GroupRowsModel -/
set_option maxRecDepth 100000
def RX2 : String := "GroupRowsModel"
def TX2 : u_T := fun k => match k with
  | 0 => ("GroupRowsModel", "parts", "[I", true)
  | 1 => ("GroupRowsModel", "isSubscribed", "[Z", true)
  | 2 => ("GroupRowsModel", "isIn", "[Z", true)
  | 3 => ("GroupRowsModel", "owner", "[I", true)
  | 4 => ("GroupRowsModel", "before", "[I", true)
  | 5 => ("GroupRowsModel", "place", "[I", true)
  | 6 => ("GroupRowsModel", "has", "[I", true)
  | 7 => ("GroupRowsModel", "topics", "I", false)
  | 8 => ("GroupRowsModel", "generation", "I", false)
  | _ => ("GroupRowsModel", "moved", "I", false)
def tyX2 : Nat → FieldType := fun k => match k with
  | 0 => .array .int
  | 1 => .array .boolean
  | 2 => .array .boolean
  | 3 => .array .int
  | 4 => .array .int
  | 5 => .array .int
  | 6 => .array .int
  | 7 => .int
  | 8 => .int
  | _ => .int
abbrev wsX20 : List Cond := u_ws RX2 TX2 10
theorem nmX2 : ∀ a, a < 10 → ∀ b, b < 10 → a ≠ b → (TX2 a).2.1 ≠ (TX2 b).2.1 := by decide +kernel
theorem tyX2_ok : ∀ k, k < 10 → parseFieldDescriptor (TX2 k).2.2.1 = some (tyX2 k) := by decide +kernel
abbrev cX2_init : ByteArray := prog_4_method_1_code
def yX2_init : MethodName := ⟨RX2, "<init>", "()V"⟩
theorem dX2_init_0 : decode cX2_init 0 = .ok (.aload_n 0, 1) := by decide +kernel
theorem dX2_init_1 : decode cX2_init 1 = .ok (.invokespecial 1, 3) := by decide +kernel
theorem dX2_init_4 : decode cX2_init 4 = .ok (.aload_n 0, 1) := by decide +kernel
theorem dX2_init_5 : decode cX2_init 5 = .ok (.bipush 13, 2) := by decide +kernel
theorem dX2_init_7 : decode cX2_init 7 = .ok (.newarray .int, 2) := by decide +kernel
theorem dX2_init_9 : decode cX2_init 9 = .ok (.putfield 9, 3) := by decide +kernel
theorem dX2_init_12 : decode cX2_init 12 = .ok (.aload_n 0, 1) := by decide +kernel
theorem dX2_init_13 : decode cX2_init 13 = .ok (.bipush 13, 2) := by decide +kernel
theorem dX2_init_15 : decode cX2_init 15 = .ok (.newarray .boolean, 2) := by decide +kernel
theorem dX2_init_17 : decode cX2_init 17 = .ok (.putfield 13, 3) := by decide +kernel
theorem dX2_init_20 : decode cX2_init 20 = .ok (.aload_n 0, 1) := by decide +kernel
theorem dX2_init_21 : decode cX2_init 21 = .ok (.bipush 8, 2) := by decide +kernel
theorem dX2_init_23 : decode cX2_init 23 = .ok (.newarray .boolean, 2) := by decide +kernel
theorem dX2_init_25 : decode cX2_init 25 = .ok (.putfield 17, 3) := by decide +kernel
theorem dX2_init_28 : decode cX2_init 28 = .ok (.aload_n 0, 1) := by decide +kernel
theorem dX2_init_29 : decode cX2_init 29 = .ok (.bipush 72, 2) := by decide +kernel
theorem dX2_init_31 : decode cX2_init 31 = .ok (.newarray .int, 2) := by decide +kernel
theorem dX2_init_33 : decode cX2_init 33 = .ok (.putfield 20, 3) := by decide +kernel
theorem dX2_init_36 : decode cX2_init 36 = .ok (.aload_n 0, 1) := by decide +kernel
theorem dX2_init_37 : decode cX2_init 37 = .ok (.bipush 72, 2) := by decide +kernel
theorem dX2_init_39 : decode cX2_init 39 = .ok (.newarray .int, 2) := by decide +kernel
theorem dX2_init_41 : decode cX2_init 41 = .ok (.putfield 23, 3) := by decide +kernel
theorem dX2_init_44 : decode cX2_init 44 = .ok (.aload_n 0, 1) := by decide +kernel
theorem dX2_init_45 : decode cX2_init 45 = .ok (.bipush 72, 2) := by decide +kernel
theorem dX2_init_47 : decode cX2_init 47 = .ok (.newarray .int, 2) := by decide +kernel
theorem dX2_init_49 : decode cX2_init 49 = .ok (.putfield 26, 3) := by decide +kernel
theorem dX2_init_52 : decode cX2_init 52 = .ok (.aload_n 0, 1) := by decide +kernel
theorem dX2_init_53 : decode cX2_init 53 = .ok (.bipush 8, 2) := by decide +kernel
theorem dX2_init_55 : decode cX2_init 55 = .ok (.newarray .int, 2) := by decide +kernel
theorem dX2_init_57 : decode cX2_init 57 = .ok (.putfield 29, 3) := by decide +kernel
theorem dX2_init_60 : decode cX2_init 60 = .ok (.iconst 0, 1) := by decide +kernel
theorem dX2_init_61 : decode cX2_init 61 = .ok (.istore_n 1, 1) := by decide +kernel
theorem dX2_init_62 : decode cX2_init 62 = .ok (.iload_n 1, 1) := by decide +kernel
theorem dX2_init_63 : decode cX2_init 63 = .ok (.bipush 72, 2) := by decide +kernel
theorem dX2_init_65 : decode cX2_init 65 = .ok (.if_icmp .ge 23, 3) := by decide +kernel
theorem dX2_init_68 : decode cX2_init 68 = .ok (.aload_n 0, 1) := by decide +kernel
theorem dX2_init_69 : decode cX2_init 69 = .ok (.getfield 20, 3) := by decide +kernel
theorem dX2_init_72 : decode cX2_init 72 = .ok (.iload_n 1, 1) := by decide +kernel
theorem dX2_init_73 : decode cX2_init 73 = .ok (.iconst (-1), 1) := by decide +kernel
theorem dX2_init_74 : decode cX2_init 74 = .ok (.iastore, 1) := by decide +kernel
theorem dX2_init_75 : decode cX2_init 75 = .ok (.aload_n 0, 1) := by decide +kernel
theorem dX2_init_76 : decode cX2_init 76 = .ok (.getfield 26, 3) := by decide +kernel
theorem dX2_init_79 : decode cX2_init 79 = .ok (.iload_n 1, 1) := by decide +kernel
theorem dX2_init_80 : decode cX2_init 80 = .ok (.iconst (-1), 1) := by decide +kernel
theorem dX2_init_81 : decode cX2_init 81 = .ok (.iastore, 1) := by decide +kernel
theorem dX2_init_82 : decode cX2_init 82 = .ok (.iinc 1 1, 3) := by decide +kernel
theorem dX2_init_85 : decode cX2_init 85 = .ok (.goto (-23), 3) := by decide +kernel
theorem dX2_init_88 : decode cX2_init 88 = .ok (.return_, 1) := by decide +kernel
abbrev cX2_topic : ByteArray := prog_4_method_3_code
def yX2_topic : MethodName := ⟨RX2, "topic", "(I)I"⟩
theorem dX2_topic_0 : decode cX2_topic 0 = .ok (.iload_n 1, 1) := by decide +kernel
theorem dX2_topic_1 : decode cX2_topic 1 = .ok (.iconst 1, 1) := by decide +kernel
theorem dX2_topic_2 : decode cX2_topic 2 = .ok (.if_icmp .lt 18, 3) := by decide +kernel
theorem dX2_topic_5 : decode cX2_topic 5 = .ok (.iload_n 1, 1) := by decide +kernel
theorem dX2_topic_6 : decode cX2_topic 6 = .ok (.bipush 6, 2) := by decide +kernel
theorem dX2_topic_8 : decode cX2_topic 8 = .ok (.if_icmp .gt 12, 3) := by decide +kernel
theorem dX2_topic_11 : decode cX2_topic 11 = .ok (.aload_n 0, 1) := by decide +kernel
theorem dX2_topic_12 : decode cX2_topic 12 = .ok (.getfield 32, 3) := by decide +kernel
theorem dX2_topic_15 : decode cX2_topic 15 = .ok (.bipush 12, 2) := by decide +kernel
theorem dX2_topic_17 : decode cX2_topic 17 = .ok (.if_icmp .ne 5, 3) := by decide +kernel
theorem dX2_topic_20 : decode cX2_topic 20 = .ok (.iconst (-1), 1) := by decide +kernel
theorem dX2_topic_21 : decode cX2_topic 21 = .ok (.ireturn, 1) := by decide +kernel
theorem dX2_topic_22 : decode cX2_topic 22 = .ok (.aload_n 0, 1) := by decide +kernel
theorem dX2_topic_23 : decode cX2_topic 23 = .ok (.dup, 1) := by decide +kernel
theorem dX2_topic_24 : decode cX2_topic 24 = .ok (.getfield 32, 3) := by decide +kernel
theorem dX2_topic_27 : decode cX2_topic 27 = .ok (.iconst 1, 1) := by decide +kernel
theorem dX2_topic_28 : decode cX2_topic 28 = .ok (.iadd, 1) := by decide +kernel
theorem dX2_topic_29 : decode cX2_topic 29 = .ok (.putfield 32, 3) := by decide +kernel
theorem dX2_topic_32 : decode cX2_topic 32 = .ok (.aload_n 0, 1) := by decide +kernel
theorem dX2_topic_33 : decode cX2_topic 33 = .ok (.getfield 9, 3) := by decide +kernel
theorem dX2_topic_36 : decode cX2_topic 36 = .ok (.aload_n 0, 1) := by decide +kernel
theorem dX2_topic_37 : decode cX2_topic 37 = .ok (.getfield 32, 3) := by decide +kernel
theorem dX2_topic_40 : decode cX2_topic 40 = .ok (.iload_n 1, 1) := by decide +kernel
theorem dX2_topic_41 : decode cX2_topic 41 = .ok (.iastore, 1) := by decide +kernel
theorem dX2_topic_42 : decode cX2_topic 42 = .ok (.aload_n 0, 1) := by decide +kernel
theorem dX2_topic_43 : decode cX2_topic 43 = .ok (.getfield 32, 3) := by decide +kernel
theorem dX2_topic_46 : decode cX2_topic 46 = .ok (.ireturn, 1) := by decide +kernel
abbrev cX2_subscribe : ByteArray := prog_4_method_7_code
def yX2_subscribe : MethodName := ⟨RX2, "subscribe", "(I)I"⟩
theorem dX2_subscribe_0 : decode cX2_subscribe 0 = .ok (.iload_n 1, 1) := by decide +kernel
theorem dX2_subscribe_1 : decode cX2_subscribe 1 = .ok (.iconst 1, 1) := by decide +kernel
theorem dX2_subscribe_2 : decode cX2_subscribe 2 = .ok (.if_icmp .lt 20, 3) := by decide +kernel
theorem dX2_subscribe_5 : decode cX2_subscribe 5 = .ok (.iload_n 1, 1) := by decide +kernel
theorem dX2_subscribe_6 : decode cX2_subscribe 6 = .ok (.aload_n 0, 1) := by decide +kernel
theorem dX2_subscribe_7 : decode cX2_subscribe 7 = .ok (.getfield 32, 3) := by decide +kernel
theorem dX2_subscribe_10 : decode cX2_subscribe 10 = .ok (.if_icmp .gt 12, 3) := by decide +kernel
theorem dX2_subscribe_13 : decode cX2_subscribe 13 = .ok (.aload_n 0, 1) := by decide +kernel
theorem dX2_subscribe_14 : decode cX2_subscribe 14 = .ok (.getfield 13, 3) := by decide +kernel
theorem dX2_subscribe_17 : decode cX2_subscribe 17 = .ok (.iload_n 1, 1) := by decide +kernel
theorem dX2_subscribe_18 : decode cX2_subscribe 18 = .ok (.baload, 1) := by decide +kernel
theorem dX2_subscribe_19 : decode cX2_subscribe 19 = .ok (.ifCond .eq 5, 3) := by decide +kernel
theorem dX2_subscribe_22 : decode cX2_subscribe 22 = .ok (.iconst (-1), 1) := by decide +kernel
theorem dX2_subscribe_23 : decode cX2_subscribe 23 = .ok (.ireturn, 1) := by decide +kernel
theorem dX2_subscribe_24 : decode cX2_subscribe 24 = .ok (.aload_n 0, 1) := by decide +kernel
theorem dX2_subscribe_25 : decode cX2_subscribe 25 = .ok (.getfield 13, 3) := by decide +kernel
theorem dX2_subscribe_28 : decode cX2_subscribe 28 = .ok (.iload_n 1, 1) := by decide +kernel
theorem dX2_subscribe_29 : decode cX2_subscribe 29 = .ok (.iconst 1, 1) := by decide +kernel
theorem dX2_subscribe_30 : decode cX2_subscribe 30 = .ok (.bastore, 1) := by decide +kernel
theorem dX2_subscribe_31 : decode cX2_subscribe 31 = .ok (.aload_n 0, 1) := by decide +kernel
theorem dX2_subscribe_32 : decode cX2_subscribe 32 = .ok (.invokevirtual 36, 3) := by decide +kernel
theorem dX2_subscribe_35 : decode cX2_subscribe 35 = .ok (.ireturn, 1) := by decide +kernel
abbrev cX2_dealt : ByteArray := prog_4_method_11_code
def yX2_dealt : MethodName := ⟨RX2, "dealt", "()I"⟩
theorem dX2_dealt_0 : decode cX2_dealt 0 = .ok (.aload_n 0, 1) := by decide +kernel
theorem dX2_dealt_1 : decode cX2_dealt 1 = .ok (.dup, 1) := by decide +kernel
theorem dX2_dealt_2 : decode cX2_dealt 2 = .ok (.getfield 48, 3) := by decide +kernel
theorem dX2_dealt_5 : decode cX2_dealt 5 = .ok (.iconst 1, 1) := by decide +kernel
theorem dX2_dealt_6 : decode cX2_dealt 6 = .ok (.iadd, 1) := by decide +kernel
theorem dX2_dealt_7 : decode cX2_dealt 7 = .ok (.putfield 48, 3) := by decide +kernel
theorem dX2_dealt_10 : decode cX2_dealt 10 = .ok (.iconst 0, 1) := by decide +kernel
theorem dX2_dealt_11 : decode cX2_dealt 11 = .ok (.istore_n 1, 1) := by decide +kernel
theorem dX2_dealt_12 : decode cX2_dealt 12 = .ok (.iconst 0, 1) := by decide +kernel
theorem dX2_dealt_13 : decode cX2_dealt 13 = .ok (.istore_n 2, 1) := by decide +kernel
theorem dX2_dealt_14 : decode cX2_dealt 14 = .ok (.iconst 0, 1) := by decide +kernel
theorem dX2_dealt_15 : decode cX2_dealt 15 = .ok (.istore_n 3, 1) := by decide +kernel
theorem dX2_dealt_16 : decode cX2_dealt 16 = .ok (.iload_n 3, 1) := by decide +kernel
theorem dX2_dealt_17 : decode cX2_dealt 17 = .ok (.bipush 8, 2) := by decide +kernel
theorem dX2_dealt_19 : decode cX2_dealt 19 = .ok (.if_icmp .ge 28, 3) := by decide +kernel
theorem dX2_dealt_22 : decode cX2_dealt 22 = .ok (.aload_n 0, 1) := by decide +kernel
theorem dX2_dealt_23 : decode cX2_dealt 23 = .ok (.getfield 29, 3) := by decide +kernel
theorem dX2_dealt_26 : decode cX2_dealt 26 = .ok (.iload_n 3, 1) := by decide +kernel
theorem dX2_dealt_27 : decode cX2_dealt 27 = .ok (.iconst 0, 1) := by decide +kernel
theorem dX2_dealt_28 : decode cX2_dealt 28 = .ok (.iastore, 1) := by decide +kernel
theorem dX2_dealt_29 : decode cX2_dealt 29 = .ok (.aload_n 0, 1) := by decide +kernel
theorem dX2_dealt_30 : decode cX2_dealt 30 = .ok (.getfield 17, 3) := by decide +kernel
theorem dX2_dealt_33 : decode cX2_dealt 33 = .ok (.iload_n 3, 1) := by decide +kernel
theorem dX2_dealt_34 : decode cX2_dealt 34 = .ok (.baload, 1) := by decide +kernel
theorem dX2_dealt_35 : decode cX2_dealt 35 = .ok (.ifCond .eq 6, 3) := by decide +kernel
theorem dX2_dealt_38 : decode cX2_dealt 38 = .ok (.iinc 1 1, 3) := by decide +kernel
theorem dX2_dealt_41 : decode cX2_dealt 41 = .ok (.iinc 3 1, 3) := by decide +kernel
theorem dX2_dealt_44 : decode cX2_dealt 44 = .ok (.goto (-28), 3) := by decide +kernel
theorem dX2_dealt_47 : decode cX2_dealt 47 = .ok (.iconst 0, 1) := by decide +kernel
theorem dX2_dealt_48 : decode cX2_dealt 48 = .ok (.istore_n 3, 1) := by decide +kernel
theorem dX2_dealt_49 : decode cX2_dealt 49 = .ok (.iload_n 3, 1) := by decide +kernel
theorem dX2_dealt_50 : decode cX2_dealt 50 = .ok (.bipush 72, 2) := by decide +kernel
theorem dX2_dealt_52 : decode cX2_dealt 52 = .ok (.if_icmp .ge 32, 3) := by decide +kernel
theorem dX2_dealt_55 : decode cX2_dealt 55 = .ok (.aload_n 0, 1) := by decide +kernel
theorem dX2_dealt_56 : decode cX2_dealt 56 = .ok (.getfield 23, 3) := by decide +kernel
theorem dX2_dealt_59 : decode cX2_dealt 59 = .ok (.iload_n 3, 1) := by decide +kernel
theorem dX2_dealt_60 : decode cX2_dealt 60 = .ok (.aload_n 0, 1) := by decide +kernel
theorem dX2_dealt_61 : decode cX2_dealt 61 = .ok (.getfield 20, 3) := by decide +kernel
theorem dX2_dealt_64 : decode cX2_dealt 64 = .ok (.iload_n 3, 1) := by decide +kernel
theorem dX2_dealt_65 : decode cX2_dealt 65 = .ok (.iaload, 1) := by decide +kernel
theorem dX2_dealt_66 : decode cX2_dealt 66 = .ok (.iastore, 1) := by decide +kernel
theorem dX2_dealt_67 : decode cX2_dealt 67 = .ok (.aload_n 0, 1) := by decide +kernel
theorem dX2_dealt_68 : decode cX2_dealt 68 = .ok (.iload_n 3, 1) := by decide +kernel
theorem dX2_dealt_69 : decode cX2_dealt 69 = .ok (.invokevirtual 51, 3) := by decide +kernel
theorem dX2_dealt_72 : decode cX2_dealt 72 = .ok (.ifCond .eq 6, 3) := by decide +kernel
theorem dX2_dealt_75 : decode cX2_dealt 75 = .ok (.iinc 2 1, 3) := by decide +kernel
theorem dX2_dealt_78 : decode cX2_dealt 78 = .ok (.iinc 3 1, 3) := by decide +kernel
theorem dX2_dealt_81 : decode cX2_dealt 81 = .ok (.goto (-32), 3) := by decide +kernel
theorem dX2_dealt_84 : decode cX2_dealt 84 = .ok (.iconst 0, 1) := by decide +kernel
theorem dX2_dealt_85 : decode cX2_dealt 85 = .ok (.istore_n 3, 1) := by decide +kernel
theorem dX2_dealt_86 : decode cX2_dealt 86 = .ok (.iload_n 3, 1) := by decide +kernel
theorem dX2_dealt_87 : decode cX2_dealt 87 = .ok (.bipush 72, 2) := by decide +kernel
theorem dX2_dealt_89 : decode cX2_dealt 89 = .ok (.if_icmp .ge 75, 3) := by decide +kernel
theorem dX2_dealt_92 : decode cX2_dealt 92 = .ok (.aload_n 0, 1) := by decide +kernel
theorem dX2_dealt_93 : decode cX2_dealt 93 = .ok (.iload_n 3, 1) := by decide +kernel
theorem dX2_dealt_94 : decode cX2_dealt 94 = .ok (.invokevirtual 51, 3) := by decide +kernel
theorem dX2_dealt_97 : decode cX2_dealt 97 = .ok (.ifCond .ne 6, 3) := by decide +kernel
theorem dX2_dealt_100 : decode cX2_dealt 100 = .ok (.goto 58, 3) := by decide +kernel
theorem dX2_dealt_103 : decode cX2_dealt 103 = .ok (.aload_n 0, 1) := by decide +kernel
theorem dX2_dealt_104 : decode cX2_dealt 104 = .ok (.getfield 20, 3) := by decide +kernel
theorem dX2_dealt_107 : decode cX2_dealt 107 = .ok (.iload_n 3, 1) := by decide +kernel
theorem dX2_dealt_108 : decode cX2_dealt 108 = .ok (.iaload, 1) := by decide +kernel
theorem dX2_dealt_109 : decode cX2_dealt 109 = .ok (.istore 4, 2) := by decide +kernel
theorem dX2_dealt_111 : decode cX2_dealt 111 = .ok (.iload 4, 2) := by decide +kernel
theorem dX2_dealt_113 : decode cX2_dealt 113 = .ok (.ifCond .lt 38, 3) := by decide +kernel
theorem dX2_dealt_116 : decode cX2_dealt 116 = .ok (.aload_n 0, 1) := by decide +kernel
theorem dX2_dealt_117 : decode cX2_dealt 117 = .ok (.getfield 17, 3) := by decide +kernel
theorem dX2_dealt_120 : decode cX2_dealt 120 = .ok (.iload 4, 2) := by decide +kernel
theorem dX2_dealt_122 : decode cX2_dealt 122 = .ok (.baload, 1) := by decide +kernel
theorem dX2_dealt_123 : decode cX2_dealt 123 = .ok (.ifCond .eq 28, 3) := by decide +kernel
theorem dX2_dealt_126 : decode cX2_dealt 126 = .ok (.aload_n 0, 1) := by decide +kernel
theorem dX2_dealt_127 : decode cX2_dealt 127 = .ok (.iload 4, 2) := by decide +kernel
theorem dX2_dealt_129 : decode cX2_dealt 129 = .ok (.iload_n 2, 1) := by decide +kernel
theorem dX2_dealt_130 : decode cX2_dealt 130 = .ok (.iload_n 1, 1) := by decide +kernel
theorem dX2_dealt_131 : decode cX2_dealt 131 = .ok (.invokevirtual 54, 3) := by decide +kernel
theorem dX2_dealt_134 : decode cX2_dealt 134 = .ok (.ifCond .eq 17, 3) := by decide +kernel
theorem dX2_dealt_137 : decode cX2_dealt 137 = .ok (.aload_n 0, 1) := by decide +kernel
theorem dX2_dealt_138 : decode cX2_dealt 138 = .ok (.getfield 29, 3) := by decide +kernel
theorem dX2_dealt_141 : decode cX2_dealt 141 = .ok (.iload 4, 2) := by decide +kernel
theorem dX2_dealt_143 : decode cX2_dealt 143 = .ok (.dup2, 1) := by decide +kernel
theorem dX2_dealt_144 : decode cX2_dealt 144 = .ok (.iaload, 1) := by decide +kernel
theorem dX2_dealt_145 : decode cX2_dealt 145 = .ok (.iconst 1, 1) := by decide +kernel
theorem dX2_dealt_146 : decode cX2_dealt 146 = .ok (.iadd, 1) := by decide +kernel
theorem dX2_dealt_147 : decode cX2_dealt 147 = .ok (.iastore, 1) := by decide +kernel
theorem dX2_dealt_148 : decode cX2_dealt 148 = .ok (.goto 10, 3) := by decide +kernel
theorem dX2_dealt_151 : decode cX2_dealt 151 = .ok (.aload_n 0, 1) := by decide +kernel
theorem dX2_dealt_152 : decode cX2_dealt 152 = .ok (.getfield 20, 3) := by decide +kernel
theorem dX2_dealt_155 : decode cX2_dealt 155 = .ok (.iload_n 3, 1) := by decide +kernel
theorem dX2_dealt_156 : decode cX2_dealt 156 = .ok (.iconst (-1), 1) := by decide +kernel
theorem dX2_dealt_157 : decode cX2_dealt 157 = .ok (.iastore, 1) := by decide +kernel
theorem dX2_dealt_158 : decode cX2_dealt 158 = .ok (.iinc 3 1, 3) := by decide +kernel
theorem dX2_dealt_161 : decode cX2_dealt 161 = .ok (.goto (-75), 3) := by decide +kernel
theorem dX2_dealt_164 : decode cX2_dealt 164 = .ok (.iconst 0, 1) := by decide +kernel
theorem dX2_dealt_165 : decode cX2_dealt 165 = .ok (.istore_n 3, 1) := by decide +kernel
theorem dX2_dealt_166 : decode cX2_dealt 166 = .ok (.iload_n 3, 1) := by decide +kernel
theorem dX2_dealt_167 : decode cX2_dealt 167 = .ok (.bipush 72, 2) := by decide +kernel
theorem dX2_dealt_169 : decode cX2_dealt 169 = .ok (.if_icmp .ge 58, 3) := by decide +kernel
theorem dX2_dealt_172 : decode cX2_dealt 172 = .ok (.iload_n 1, 1) := by decide +kernel
theorem dX2_dealt_173 : decode cX2_dealt 173 = .ok (.ifCond .le 54, 3) := by decide +kernel
theorem dX2_dealt_176 : decode cX2_dealt 176 = .ok (.aload_n 0, 1) := by decide +kernel
theorem dX2_dealt_177 : decode cX2_dealt 177 = .ok (.iload_n 3, 1) := by decide +kernel
theorem dX2_dealt_178 : decode cX2_dealt 178 = .ok (.invokevirtual 51, 3) := by decide +kernel
theorem dX2_dealt_181 : decode cX2_dealt 181 = .ok (.ifCond .eq 40, 3) := by decide +kernel
theorem dX2_dealt_184 : decode cX2_dealt 184 = .ok (.aload_n 0, 1) := by decide +kernel
theorem dX2_dealt_185 : decode cX2_dealt 185 = .ok (.getfield 20, 3) := by decide +kernel
theorem dX2_dealt_188 : decode cX2_dealt 188 = .ok (.iload_n 3, 1) := by decide +kernel
theorem dX2_dealt_189 : decode cX2_dealt 189 = .ok (.iaload, 1) := by decide +kernel
theorem dX2_dealt_190 : decode cX2_dealt 190 = .ok (.ifCond .lt 6, 3) := by decide +kernel
theorem dX2_dealt_193 : decode cX2_dealt 193 = .ok (.goto 28, 3) := by decide +kernel
theorem dX2_dealt_196 : decode cX2_dealt 196 = .ok (.aload_n 0, 1) := by decide +kernel
theorem dX2_dealt_197 : decode cX2_dealt 197 = .ok (.getfield 20, 3) := by decide +kernel
theorem dX2_dealt_200 : decode cX2_dealt 200 = .ok (.iload_n 3, 1) := by decide +kernel
theorem dX2_dealt_201 : decode cX2_dealt 201 = .ok (.aload_n 0, 1) := by decide +kernel
theorem dX2_dealt_202 : decode cX2_dealt 202 = .ok (.invokevirtual 58, 3) := by decide +kernel
theorem dX2_dealt_205 : decode cX2_dealt 205 = .ok (.iastore, 1) := by decide +kernel
theorem dX2_dealt_206 : decode cX2_dealt 206 = .ok (.aload_n 0, 1) := by decide +kernel
theorem dX2_dealt_207 : decode cX2_dealt 207 = .ok (.getfield 29, 3) := by decide +kernel
theorem dX2_dealt_210 : decode cX2_dealt 210 = .ok (.aload_n 0, 1) := by decide +kernel
theorem dX2_dealt_211 : decode cX2_dealt 211 = .ok (.getfield 20, 3) := by decide +kernel
theorem dX2_dealt_214 : decode cX2_dealt 214 = .ok (.iload_n 3, 1) := by decide +kernel
theorem dX2_dealt_215 : decode cX2_dealt 215 = .ok (.iaload, 1) := by decide +kernel
theorem dX2_dealt_216 : decode cX2_dealt 216 = .ok (.dup2, 1) := by decide +kernel
theorem dX2_dealt_217 : decode cX2_dealt 217 = .ok (.iaload, 1) := by decide +kernel
theorem dX2_dealt_218 : decode cX2_dealt 218 = .ok (.iconst 1, 1) := by decide +kernel
theorem dX2_dealt_219 : decode cX2_dealt 219 = .ok (.iadd, 1) := by decide +kernel
theorem dX2_dealt_220 : decode cX2_dealt 220 = .ok (.iastore, 1) := by decide +kernel
theorem dX2_dealt_221 : decode cX2_dealt 221 = .ok (.iinc 3 1, 3) := by decide +kernel
theorem dX2_dealt_224 : decode cX2_dealt 224 = .ok (.goto (-58), 3) := by decide +kernel
theorem dX2_dealt_227 : decode cX2_dealt 227 = .ok (.aload_n 0, 1) := by decide +kernel
theorem dX2_dealt_228 : decode cX2_dealt 228 = .ok (.iconst 0, 1) := by decide +kernel
theorem dX2_dealt_229 : decode cX2_dealt 229 = .ok (.putfield 61, 3) := by decide +kernel
theorem dX2_dealt_232 : decode cX2_dealt 232 = .ok (.iconst 0, 1) := by decide +kernel
theorem dX2_dealt_233 : decode cX2_dealt 233 = .ok (.istore_n 3, 1) := by decide +kernel
theorem dX2_dealt_234 : decode cX2_dealt 234 = .ok (.iload_n 3, 1) := by decide +kernel
theorem dX2_dealt_235 : decode cX2_dealt 235 = .ok (.bipush 72, 2) := by decide +kernel
theorem dX2_dealt_237 : decode cX2_dealt 237 = .ok (.if_icmp .ge 34, 3) := by decide +kernel
theorem dX2_dealt_240 : decode cX2_dealt 240 = .ok (.aload_n 0, 1) := by decide +kernel
theorem dX2_dealt_241 : decode cX2_dealt 241 = .ok (.getfield 20, 3) := by decide +kernel
theorem dX2_dealt_244 : decode cX2_dealt 244 = .ok (.iload_n 3, 1) := by decide +kernel
theorem dX2_dealt_245 : decode cX2_dealt 245 = .ok (.iaload, 1) := by decide +kernel
theorem dX2_dealt_246 : decode cX2_dealt 246 = .ok (.aload_n 0, 1) := by decide +kernel
theorem dX2_dealt_247 : decode cX2_dealt 247 = .ok (.getfield 23, 3) := by decide +kernel
theorem dX2_dealt_250 : decode cX2_dealt 250 = .ok (.iload_n 3, 1) := by decide +kernel
theorem dX2_dealt_251 : decode cX2_dealt 251 = .ok (.iaload, 1) := by decide +kernel
theorem dX2_dealt_252 : decode cX2_dealt 252 = .ok (.if_icmp .eq 13, 3) := by decide +kernel
theorem dX2_dealt_255 : decode cX2_dealt 255 = .ok (.aload_n 0, 1) := by decide +kernel
theorem dX2_dealt_256 : decode cX2_dealt 256 = .ok (.dup, 1) := by decide +kernel
theorem dX2_dealt_257 : decode cX2_dealt 257 = .ok (.getfield 61, 3) := by decide +kernel
theorem dX2_dealt_260 : decode cX2_dealt 260 = .ok (.iconst 1, 1) := by decide +kernel
theorem dX2_dealt_261 : decode cX2_dealt 261 = .ok (.iadd, 1) := by decide +kernel
theorem dX2_dealt_262 : decode cX2_dealt 262 = .ok (.putfield 61, 3) := by decide +kernel
theorem dX2_dealt_265 : decode cX2_dealt 265 = .ok (.iinc 3 1, 3) := by decide +kernel
theorem dX2_dealt_268 : decode cX2_dealt 268 = .ok (.goto (-34), 3) := by decide +kernel
theorem dX2_dealt_271 : decode cX2_dealt 271 = .ok (.aload_n 0, 1) := by decide +kernel
theorem dX2_dealt_272 : decode cX2_dealt 272 = .ok (.getfield 48, 3) := by decide +kernel
theorem dX2_dealt_275 : decode cX2_dealt 275 = .ok (.ireturn, 1) := by decide +kernel
abbrev cX2_isShared : ByteArray := prog_4_method_10_code
def yX2_isShared : MethodName := ⟨RX2, "isShared", "(I)Z"⟩
theorem dX2_isShared_0 : decode cX2_isShared 0 = .ok (.aload_n 0, 1) := by decide +kernel
theorem dX2_isShared_1 : decode cX2_isShared 1 = .ok (.getfield 13, 3) := by decide +kernel
theorem dX2_isShared_4 : decode cX2_isShared 4 = .ok (.iload_n 1, 1) := by decide +kernel
theorem dX2_isShared_5 : decode cX2_isShared 5 = .ok (.bipush 6, 2) := by decide +kernel
theorem dX2_isShared_7 : decode cX2_isShared 7 = .ok (.idiv, 1) := by decide +kernel
theorem dX2_isShared_8 : decode cX2_isShared 8 = .ok (.iconst 1, 1) := by decide +kernel
theorem dX2_isShared_9 : decode cX2_isShared 9 = .ok (.iadd, 1) := by decide +kernel
theorem dX2_isShared_10 : decode cX2_isShared 10 = .ok (.baload, 1) := by decide +kernel
theorem dX2_isShared_11 : decode cX2_isShared 11 = .ok (.ifCond .eq 24, 3) := by decide +kernel
theorem dX2_isShared_14 : decode cX2_isShared 14 = .ok (.aload_n 0, 1) := by decide +kernel
theorem dX2_isShared_15 : decode cX2_isShared 15 = .ok (.iload_n 1, 1) := by decide +kernel
theorem dX2_isShared_16 : decode cX2_isShared 16 = .ok (.bipush 6, 2) := by decide +kernel
theorem dX2_isShared_18 : decode cX2_isShared 18 = .ok (.idiv, 1) := by decide +kernel
theorem dX2_isShared_19 : decode cX2_isShared 19 = .ok (.iconst 1, 1) := by decide +kernel
theorem dX2_isShared_20 : decode cX2_isShared 20 = .ok (.iadd, 1) := by decide +kernel
theorem dX2_isShared_21 : decode cX2_isShared 21 = .ok (.iload_n 1, 1) := by decide +kernel
theorem dX2_isShared_22 : decode cX2_isShared 22 = .ok (.bipush 6, 2) := by decide +kernel
theorem dX2_isShared_24 : decode cX2_isShared 24 = .ok (.irem, 1) := by decide +kernel
theorem dX2_isShared_25 : decode cX2_isShared 25 = .ok (.invokevirtual 44, 3) := by decide +kernel
theorem dX2_isShared_28 : decode cX2_isShared 28 = .ok (.ifCond .eq 7, 3) := by decide +kernel
theorem dX2_isShared_31 : decode cX2_isShared 31 = .ok (.iconst 1, 1) := by decide +kernel
theorem dX2_isShared_32 : decode cX2_isShared 32 = .ok (.goto 4, 3) := by decide +kernel
theorem dX2_isShared_35 : decode cX2_isShared 35 = .ok (.iconst 0, 1) := by decide +kernel
theorem dX2_isShared_36 : decode cX2_isShared 36 = .ok (.ireturn, 1) := by decide +kernel
abbrev cX2_isPart : ByteArray := prog_4_method_5_code
def yX2_isPart : MethodName := ⟨RX2, "isPart", "(II)Z"⟩
theorem dX2_isPart_0 : decode cX2_isPart 0 = .ok (.iload_n 1, 1) := by decide +kernel
theorem dX2_isPart_1 : decode cX2_isPart 1 = .ok (.iconst 1, 1) := by decide +kernel
theorem dX2_isPart_2 : decode cX2_isPart 2 = .ok (.if_icmp .lt 29, 3) := by decide +kernel
theorem dX2_isPart_5 : decode cX2_isPart 5 = .ok (.iload_n 1, 1) := by decide +kernel
theorem dX2_isPart_6 : decode cX2_isPart 6 = .ok (.aload_n 0, 1) := by decide +kernel
theorem dX2_isPart_7 : decode cX2_isPart 7 = .ok (.getfield 32, 3) := by decide +kernel
theorem dX2_isPart_10 : decode cX2_isPart 10 = .ok (.if_icmp .gt 21, 3) := by decide +kernel
theorem dX2_isPart_13 : decode cX2_isPart 13 = .ok (.iload_n 2, 1) := by decide +kernel
theorem dX2_isPart_14 : decode cX2_isPart 14 = .ok (.ifCond .lt 17, 3) := by decide +kernel
theorem dX2_isPart_17 : decode cX2_isPart 17 = .ok (.iload_n 2, 1) := by decide +kernel
theorem dX2_isPart_18 : decode cX2_isPart 18 = .ok (.aload_n 0, 1) := by decide +kernel
theorem dX2_isPart_19 : decode cX2_isPart 19 = .ok (.getfield 9, 3) := by decide +kernel
theorem dX2_isPart_22 : decode cX2_isPart 22 = .ok (.iload_n 1, 1) := by decide +kernel
theorem dX2_isPart_23 : decode cX2_isPart 23 = .ok (.iaload, 1) := by decide +kernel
theorem dX2_isPart_24 : decode cX2_isPart 24 = .ok (.if_icmp .ge 7, 3) := by decide +kernel
theorem dX2_isPart_27 : decode cX2_isPart 27 = .ok (.iconst 1, 1) := by decide +kernel
theorem dX2_isPart_28 : decode cX2_isPart 28 = .ok (.goto 4, 3) := by decide +kernel
theorem dX2_isPart_31 : decode cX2_isPart 31 = .ok (.iconst 0, 1) := by decide +kernel
theorem dX2_isPart_32 : decode cX2_isPart 32 = .ok (.ireturn, 1) := by decide +kernel
abbrev cX2_keeps : ByteArray := prog_4_method_13_code
def yX2_keeps : MethodName := ⟨RX2, "keeps", "(III)Z"⟩
theorem dX2_keeps_0 : decode cX2_keeps 0 = .ok (.iload_n 2, 1) := by decide +kernel
theorem dX2_keeps_1 : decode cX2_keeps 1 = .ok (.iload_n 3, 1) := by decide +kernel
theorem dX2_keeps_2 : decode cX2_keeps 2 = .ok (.idiv, 1) := by decide +kernel
theorem dX2_keeps_3 : decode cX2_keeps 3 = .ok (.istore 4, 2) := by decide +kernel
theorem dX2_keeps_5 : decode cX2_keeps 5 = .ok (.iconst 0, 1) := by decide +kernel
theorem dX2_keeps_6 : decode cX2_keeps 6 = .ok (.istore 5, 2) := by decide +kernel
theorem dX2_keeps_8 : decode cX2_keeps 8 = .ok (.iconst 0, 1) := by decide +kernel
theorem dX2_keeps_9 : decode cX2_keeps 9 = .ok (.istore 6, 2) := by decide +kernel
theorem dX2_keeps_11 : decode cX2_keeps 11 = .ok (.iload 6, 2) := by decide +kernel
theorem dX2_keeps_13 : decode cX2_keeps 13 = .ok (.bipush 8, 2) := by decide +kernel
theorem dX2_keeps_15 : decode cX2_keeps 15 = .ok (.if_icmp .ge 30, 3) := by decide +kernel
theorem dX2_keeps_18 : decode cX2_keeps 18 = .ok (.iload 6, 2) := by decide +kernel
theorem dX2_keeps_20 : decode cX2_keeps 20 = .ok (.iload_n 1, 1) := by decide +kernel
theorem dX2_keeps_21 : decode cX2_keeps 21 = .ok (.if_icmp .eq 18, 3) := by decide +kernel
theorem dX2_keeps_24 : decode cX2_keeps 24 = .ok (.aload_n 0, 1) := by decide +kernel
theorem dX2_keeps_25 : decode cX2_keeps 25 = .ok (.getfield 29, 3) := by decide +kernel
theorem dX2_keeps_28 : decode cX2_keeps 28 = .ok (.iload 6, 2) := by decide +kernel
theorem dX2_keeps_30 : decode cX2_keeps 30 = .ok (.iaload, 1) := by decide +kernel
theorem dX2_keeps_31 : decode cX2_keeps 31 = .ok (.iload 4, 2) := by decide +kernel
theorem dX2_keeps_33 : decode cX2_keeps 33 = .ok (.if_icmp .le 6, 3) := by decide +kernel
theorem dX2_keeps_36 : decode cX2_keeps 36 = .ok (.iinc 5 1, 3) := by decide +kernel
theorem dX2_keeps_39 : decode cX2_keeps 39 = .ok (.iinc 6 1, 3) := by decide +kernel
theorem dX2_keeps_42 : decode cX2_keeps 42 = .ok (.goto (-31), 3) := by decide +kernel
theorem dX2_keeps_45 : decode cX2_keeps 45 = .ok (.aload_n 0, 1) := by decide +kernel
theorem dX2_keeps_46 : decode cX2_keeps 46 = .ok (.getfield 29, 3) := by decide +kernel
theorem dX2_keeps_49 : decode cX2_keeps 49 = .ok (.iload_n 1, 1) := by decide +kernel
theorem dX2_keeps_50 : decode cX2_keeps 50 = .ok (.iaload, 1) := by decide +kernel
theorem dX2_keeps_51 : decode cX2_keeps 51 = .ok (.iload 4, 2) := by decide +kernel
theorem dX2_keeps_53 : decode cX2_keeps 53 = .ok (.if_icmp .lt 22, 3) := by decide +kernel
theorem dX2_keeps_56 : decode cX2_keeps 56 = .ok (.aload_n 0, 1) := by decide +kernel
theorem dX2_keeps_57 : decode cX2_keeps 57 = .ok (.getfield 29, 3) := by decide +kernel
theorem dX2_keeps_60 : decode cX2_keeps 60 = .ok (.iload_n 1, 1) := by decide +kernel
theorem dX2_keeps_61 : decode cX2_keeps 61 = .ok (.iaload, 1) := by decide +kernel
theorem dX2_keeps_62 : decode cX2_keeps 62 = .ok (.iload 4, 2) := by decide +kernel
theorem dX2_keeps_64 : decode cX2_keeps 64 = .ok (.if_icmp .ne 15, 3) := by decide +kernel
theorem dX2_keeps_67 : decode cX2_keeps 67 = .ok (.iload 5, 2) := by decide +kernel
theorem dX2_keeps_69 : decode cX2_keeps 69 = .ok (.iload_n 2, 1) := by decide +kernel
theorem dX2_keeps_70 : decode cX2_keeps 70 = .ok (.iload_n 3, 1) := by decide +kernel
theorem dX2_keeps_71 : decode cX2_keeps 71 = .ok (.irem, 1) := by decide +kernel
theorem dX2_keeps_72 : decode cX2_keeps 72 = .ok (.if_icmp .ge 7, 3) := by decide +kernel
theorem dX2_keeps_75 : decode cX2_keeps 75 = .ok (.iconst 1, 1) := by decide +kernel
theorem dX2_keeps_76 : decode cX2_keeps 76 = .ok (.goto 4, 3) := by decide +kernel
theorem dX2_keeps_79 : decode cX2_keeps 79 = .ok (.iconst 0, 1) := by decide +kernel
theorem dX2_keeps_80 : decode cX2_keeps 80 = .ok (.ireturn, 1) := by decide +kernel
abbrev cX2_fewest : ByteArray := prog_4_method_12_code
def yX2_fewest : MethodName := ⟨RX2, "fewest", "()I"⟩
theorem dX2_fewest_0 : decode cX2_fewest 0 = .ok (.iconst (-1), 1) := by decide +kernel
theorem dX2_fewest_1 : decode cX2_fewest 1 = .ok (.istore_n 1, 1) := by decide +kernel
theorem dX2_fewest_2 : decode cX2_fewest 2 = .ok (.iconst 0, 1) := by decide +kernel
theorem dX2_fewest_3 : decode cX2_fewest 3 = .ok (.istore_n 2, 1) := by decide +kernel
theorem dX2_fewest_4 : decode cX2_fewest 4 = .ok (.iload_n 2, 1) := by decide +kernel
theorem dX2_fewest_5 : decode cX2_fewest 5 = .ok (.bipush 8, 2) := by decide +kernel
theorem dX2_fewest_7 : decode cX2_fewest 7 = .ok (.if_icmp .ge 39, 3) := by decide +kernel
theorem dX2_fewest_10 : decode cX2_fewest 10 = .ok (.aload_n 0, 1) := by decide +kernel
theorem dX2_fewest_11 : decode cX2_fewest 11 = .ok (.getfield 17, 3) := by decide +kernel
theorem dX2_fewest_14 : decode cX2_fewest 14 = .ok (.iload_n 2, 1) := by decide +kernel
theorem dX2_fewest_15 : decode cX2_fewest 15 = .ok (.baload, 1) := by decide +kernel
theorem dX2_fewest_16 : decode cX2_fewest 16 = .ok (.ifCond .eq 24, 3) := by decide +kernel
theorem dX2_fewest_19 : decode cX2_fewest 19 = .ok (.iload_n 1, 1) := by decide +kernel
theorem dX2_fewest_20 : decode cX2_fewest 20 = .ok (.ifCond .lt 18, 3) := by decide +kernel
theorem dX2_fewest_23 : decode cX2_fewest 23 = .ok (.aload_n 0, 1) := by decide +kernel
theorem dX2_fewest_24 : decode cX2_fewest 24 = .ok (.getfield 29, 3) := by decide +kernel
theorem dX2_fewest_27 : decode cX2_fewest 27 = .ok (.iload_n 2, 1) := by decide +kernel
theorem dX2_fewest_28 : decode cX2_fewest 28 = .ok (.iaload, 1) := by decide +kernel
theorem dX2_fewest_29 : decode cX2_fewest 29 = .ok (.aload_n 0, 1) := by decide +kernel
theorem dX2_fewest_30 : decode cX2_fewest 30 = .ok (.getfield 29, 3) := by decide +kernel
theorem dX2_fewest_33 : decode cX2_fewest 33 = .ok (.iload_n 1, 1) := by decide +kernel
theorem dX2_fewest_34 : decode cX2_fewest 34 = .ok (.iaload, 1) := by decide +kernel
theorem dX2_fewest_35 : decode cX2_fewest 35 = .ok (.if_icmp .ge 5, 3) := by decide +kernel
theorem dX2_fewest_38 : decode cX2_fewest 38 = .ok (.iload_n 2, 1) := by decide +kernel
theorem dX2_fewest_39 : decode cX2_fewest 39 = .ok (.istore_n 1, 1) := by decide +kernel
theorem dX2_fewest_40 : decode cX2_fewest 40 = .ok (.iinc 2 1, 3) := by decide +kernel
theorem dX2_fewest_43 : decode cX2_fewest 43 = .ok (.goto (-39), 3) := by decide +kernel
theorem dX2_fewest_46 : decode cX2_fewest 46 = .ok (.iload_n 1, 1) := by decide +kernel
theorem dX2_fewest_47 : decode cX2_fewest 47 = .ok (.ireturn, 1) := by decide +kernel
abbrev cX2_enter : ByteArray := prog_4_method_8_code
def yX2_enter : MethodName := ⟨RX2, "enter", "(I)I"⟩
theorem dX2_enter_0 : decode cX2_enter 0 = .ok (.aload_n 0, 1) := by decide +kernel
theorem dX2_enter_1 : decode cX2_enter 1 = .ok (.iload_n 1, 1) := by decide +kernel
theorem dX2_enter_2 : decode cX2_enter 2 = .ok (.invokevirtual 40, 3) := by decide +kernel
theorem dX2_enter_5 : decode cX2_enter 5 = .ok (.ifCond .eq 12, 3) := by decide +kernel
theorem dX2_enter_8 : decode cX2_enter 8 = .ok (.aload_n 0, 1) := by decide +kernel
theorem dX2_enter_9 : decode cX2_enter 9 = .ok (.getfield 17, 3) := by decide +kernel
theorem dX2_enter_12 : decode cX2_enter 12 = .ok (.iload_n 1, 1) := by decide +kernel
theorem dX2_enter_13 : decode cX2_enter 13 = .ok (.baload, 1) := by decide +kernel
theorem dX2_enter_14 : decode cX2_enter 14 = .ok (.ifCond .eq 5, 3) := by decide +kernel
theorem dX2_enter_17 : decode cX2_enter 17 = .ok (.iconst (-1), 1) := by decide +kernel
theorem dX2_enter_18 : decode cX2_enter 18 = .ok (.ireturn, 1) := by decide +kernel
theorem dX2_enter_19 : decode cX2_enter 19 = .ok (.aload_n 0, 1) := by decide +kernel
theorem dX2_enter_20 : decode cX2_enter 20 = .ok (.getfield 17, 3) := by decide +kernel
theorem dX2_enter_23 : decode cX2_enter 23 = .ok (.iload_n 1, 1) := by decide +kernel
theorem dX2_enter_24 : decode cX2_enter 24 = .ok (.iconst 1, 1) := by decide +kernel
theorem dX2_enter_25 : decode cX2_enter 25 = .ok (.bastore, 1) := by decide +kernel
theorem dX2_enter_26 : decode cX2_enter 26 = .ok (.aload_n 0, 1) := by decide +kernel
theorem dX2_enter_27 : decode cX2_enter 27 = .ok (.invokevirtual 36, 3) := by decide +kernel
theorem dX2_enter_30 : decode cX2_enter 30 = .ok (.ireturn, 1) := by decide +kernel
abbrev cX2_isMember : ByteArray := prog_4_method_4_code
def yX2_isMember : MethodName := ⟨RX2, "isMember", "(I)Z"⟩
theorem dX2_isMember_0 : decode cX2_isMember 0 = .ok (.iload_n 1, 1) := by decide +kernel
theorem dX2_isMember_1 : decode cX2_isMember 1 = .ok (.ifCond .lt 13, 3) := by decide +kernel
theorem dX2_isMember_4 : decode cX2_isMember 4 = .ok (.iload_n 1, 1) := by decide +kernel
theorem dX2_isMember_5 : decode cX2_isMember 5 = .ok (.bipush 8, 2) := by decide +kernel
theorem dX2_isMember_7 : decode cX2_isMember 7 = .ok (.if_icmp .ge 7, 3) := by decide +kernel
theorem dX2_isMember_10 : decode cX2_isMember 10 = .ok (.iconst 1, 1) := by decide +kernel
theorem dX2_isMember_11 : decode cX2_isMember 11 = .ok (.goto 4, 3) := by decide +kernel
theorem dX2_isMember_14 : decode cX2_isMember 14 = .ok (.iconst 0, 1) := by decide +kernel
theorem dX2_isMember_15 : decode cX2_isMember 15 = .ok (.ireturn, 1) := by decide +kernel
abbrev cX2_leave : ByteArray := prog_4_method_9_code
def yX2_leave : MethodName := ⟨RX2, "leave", "(I)I"⟩
theorem dX2_leave_0 : decode cX2_leave 0 = .ok (.aload_n 0, 1) := by decide +kernel
theorem dX2_leave_1 : decode cX2_leave 1 = .ok (.iload_n 1, 1) := by decide +kernel
theorem dX2_leave_2 : decode cX2_leave 2 = .ok (.invokevirtual 40, 3) := by decide +kernel
theorem dX2_leave_5 : decode cX2_leave 5 = .ok (.ifCond .eq 12, 3) := by decide +kernel
theorem dX2_leave_8 : decode cX2_leave 8 = .ok (.aload_n 0, 1) := by decide +kernel
theorem dX2_leave_9 : decode cX2_leave 9 = .ok (.getfield 17, 3) := by decide +kernel
theorem dX2_leave_12 : decode cX2_leave 12 = .ok (.iload_n 1, 1) := by decide +kernel
theorem dX2_leave_13 : decode cX2_leave 13 = .ok (.baload, 1) := by decide +kernel
theorem dX2_leave_14 : decode cX2_leave 14 = .ok (.ifCond .ne 5, 3) := by decide +kernel
theorem dX2_leave_17 : decode cX2_leave 17 = .ok (.iconst (-1), 1) := by decide +kernel
theorem dX2_leave_18 : decode cX2_leave 18 = .ok (.ireturn, 1) := by decide +kernel
theorem dX2_leave_19 : decode cX2_leave 19 = .ok (.aload_n 0, 1) := by decide +kernel
theorem dX2_leave_20 : decode cX2_leave 20 = .ok (.getfield 17, 3) := by decide +kernel
theorem dX2_leave_23 : decode cX2_leave 23 = .ok (.iload_n 1, 1) := by decide +kernel
theorem dX2_leave_24 : decode cX2_leave 24 = .ok (.iconst 0, 1) := by decide +kernel
theorem dX2_leave_25 : decode cX2_leave 25 = .ok (.bastore, 1) := by decide +kernel
theorem dX2_leave_26 : decode cX2_leave 26 = .ok (.aload_n 0, 1) := by decide +kernel
theorem dX2_leave_27 : decode cX2_leave 27 = .ok (.invokevirtual 36, 3) := by decide +kernel
theorem dX2_leave_30 : decode cX2_leave 30 = .ok (.ireturn, 1) := by decide +kernel
abbrev cX2_generation : ByteArray := prog_4_method_14_code
def yX2_generation : MethodName := ⟨RX2, "generation", "()I"⟩
theorem dX2_generation_0 : decode cX2_generation 0 = .ok (.aload_n 0, 1) := by decide +kernel
theorem dX2_generation_1 : decode cX2_generation 1 = .ok (.getfield 48, 3) := by decide +kernel
theorem dX2_generation_4 : decode cX2_generation 4 = .ok (.ireturn, 1) := by decide +kernel
abbrev cX2_owner : ByteArray := prog_4_method_15_code
def yX2_owner : MethodName := ⟨RX2, "owner", "(II)I"⟩
theorem dX2_owner_0 : decode cX2_owner 0 = .ok (.aload_n 0, 1) := by decide +kernel
theorem dX2_owner_1 : decode cX2_owner 1 = .ok (.iload_n 1, 1) := by decide +kernel
theorem dX2_owner_2 : decode cX2_owner 2 = .ok (.iload_n 2, 1) := by decide +kernel
theorem dX2_owner_3 : decode cX2_owner 3 = .ok (.invokevirtual 44, 3) := by decide +kernel
theorem dX2_owner_6 : decode cX2_owner 6 = .ok (.ifCond .eq 16, 3) := by decide +kernel
theorem dX2_owner_9 : decode cX2_owner 9 = .ok (.aload_n 0, 1) := by decide +kernel
theorem dX2_owner_10 : decode cX2_owner 10 = .ok (.getfield 20, 3) := by decide +kernel
theorem dX2_owner_13 : decode cX2_owner 13 = .ok (.iload_n 1, 1) := by decide +kernel
theorem dX2_owner_14 : decode cX2_owner 14 = .ok (.iload_n 2, 1) := by decide +kernel
theorem dX2_owner_15 : decode cX2_owner 15 = .ok (.invokestatic 64, 3) := by decide +kernel
theorem dX2_owner_18 : decode cX2_owner 18 = .ok (.iaload, 1) := by decide +kernel
theorem dX2_owner_19 : decode cX2_owner 19 = .ok (.goto 5, 3) := by decide +kernel
theorem dX2_owner_22 : decode cX2_owner 22 = .ok (.bipush (-2), 2) := by decide +kernel
theorem dX2_owner_24 : decode cX2_owner 24 = .ok (.ireturn, 1) := by decide +kernel
abbrev cX2_at : ByteArray := prog_4_method_6_code
def yX2_at : MethodName := ⟨RX2, "at", "(II)I"⟩
theorem dX2_at_0 : decode cX2_at 0 = .ok (.iload_n 0, 1) := by decide +kernel
theorem dX2_at_1 : decode cX2_at 1 = .ok (.iconst 1, 1) := by decide +kernel
theorem dX2_at_2 : decode cX2_at 2 = .ok (.isub, 1) := by decide +kernel
theorem dX2_at_3 : decode cX2_at 3 = .ok (.bipush 6, 2) := by decide +kernel
theorem dX2_at_5 : decode cX2_at 5 = .ok (.imul, 1) := by decide +kernel
theorem dX2_at_6 : decode cX2_at 6 = .ok (.iload_n 1, 1) := by decide +kernel
theorem dX2_at_7 : decode cX2_at 7 = .ok (.iadd, 1) := by decide +kernel
theorem dX2_at_8 : decode cX2_at 8 = .ok (.ireturn, 1) := by decide +kernel
abbrev cX2_held : ByteArray := prog_4_method_16_code
def yX2_held : MethodName := ⟨RX2, "held", "(I)I"⟩
theorem dX2_held_0 : decode cX2_held 0 = .ok (.aload_n 0, 1) := by decide +kernel
theorem dX2_held_1 : decode cX2_held 1 = .ok (.iload_n 1, 1) := by decide +kernel
theorem dX2_held_2 : decode cX2_held 2 = .ok (.invokevirtual 40, 3) := by decide +kernel
theorem dX2_held_5 : decode cX2_held 5 = .ok (.ifCond .ne 5, 3) := by decide +kernel
theorem dX2_held_8 : decode cX2_held 8 = .ok (.iconst (-1), 1) := by decide +kernel
theorem dX2_held_9 : decode cX2_held 9 = .ok (.ireturn, 1) := by decide +kernel
theorem dX2_held_10 : decode cX2_held 10 = .ok (.iconst 0, 1) := by decide +kernel
theorem dX2_held_11 : decode cX2_held 11 = .ok (.istore_n 2, 1) := by decide +kernel
theorem dX2_held_12 : decode cX2_held 12 = .ok (.iconst 0, 1) := by decide +kernel
theorem dX2_held_13 : decode cX2_held 13 = .ok (.istore_n 3, 1) := by decide +kernel
theorem dX2_held_14 : decode cX2_held 14 = .ok (.iload_n 3, 1) := by decide +kernel
theorem dX2_held_15 : decode cX2_held 15 = .ok (.bipush 72, 2) := by decide +kernel
theorem dX2_held_17 : decode cX2_held 17 = .ok (.if_icmp .ge 22, 3) := by decide +kernel
theorem dX2_held_20 : decode cX2_held 20 = .ok (.aload_n 0, 1) := by decide +kernel
theorem dX2_held_21 : decode cX2_held 21 = .ok (.getfield 20, 3) := by decide +kernel
theorem dX2_held_24 : decode cX2_held 24 = .ok (.iload_n 3, 1) := by decide +kernel
theorem dX2_held_25 : decode cX2_held 25 = .ok (.iaload, 1) := by decide +kernel
theorem dX2_held_26 : decode cX2_held 26 = .ok (.iload_n 1, 1) := by decide +kernel
theorem dX2_held_27 : decode cX2_held 27 = .ok (.if_icmp .ne 6, 3) := by decide +kernel
theorem dX2_held_30 : decode cX2_held 30 = .ok (.iinc 2 1, 3) := by decide +kernel
theorem dX2_held_33 : decode cX2_held 33 = .ok (.iinc 3 1, 3) := by decide +kernel
theorem dX2_held_36 : decode cX2_held 36 = .ok (.goto (-22), 3) := by decide +kernel
theorem dX2_held_39 : decode cX2_held 39 = .ok (.iload_n 2, 1) := by decide +kernel
theorem dX2_held_40 : decode cX2_held 40 = .ok (.ireturn, 1) := by decide +kernel
abbrev cX2_moved : ByteArray := prog_4_method_17_code
def yX2_moved : MethodName := ⟨RX2, "moved", "()I"⟩
theorem dX2_moved_0 : decode cX2_moved 0 = .ok (.aload_n 0, 1) := by decide +kernel
theorem dX2_moved_1 : decode cX2_moved 1 = .ok (.getfield 61, 3) := by decide +kernel
theorem dX2_moved_4 : decode cX2_moved 4 = .ok (.ireturn, 1) := by decide +kernel
abbrev cX2_place : ByteArray := prog_4_method_18_code
def yX2_place : MethodName := ⟨RX2, "place", "(IIIII)I"⟩
theorem dX2_place_0 : decode cX2_place 0 = .ok (.aload_n 0, 1) := by decide +kernel
theorem dX2_place_1 : decode cX2_place 1 = .ok (.iload_n 1, 1) := by decide +kernel
theorem dX2_place_2 : decode cX2_place 2 = .ok (.invokevirtual 40, 3) := by decide +kernel
theorem dX2_place_5 : decode cX2_place 5 = .ok (.ifCond .eq 18, 3) := by decide +kernel
theorem dX2_place_8 : decode cX2_place 8 = .ok (.aload_n 0, 1) := by decide +kernel
theorem dX2_place_9 : decode cX2_place 9 = .ok (.iload_n 3, 1) := by decide +kernel
theorem dX2_place_10 : decode cX2_place 10 = .ok (.iload 4, 2) := by decide +kernel
theorem dX2_place_12 : decode cX2_place 12 = .ok (.invokevirtual 44, 3) := by decide +kernel
theorem dX2_place_15 : decode cX2_place 15 = .ok (.ifCond .eq 8, 3) := by decide +kernel
theorem dX2_place_18 : decode cX2_place 18 = .ok (.iload 5, 2) := by decide +kernel
theorem dX2_place_20 : decode cX2_place 20 = .ok (.ifCond .ge 5, 3) := by decide +kernel
theorem dX2_place_23 : decode cX2_place 23 = .ok (.iconst (-1), 1) := by decide +kernel
theorem dX2_place_24 : decode cX2_place 24 = .ok (.ireturn, 1) := by decide +kernel
theorem dX2_place_25 : decode cX2_place 25 = .ok (.iload_n 2, 1) := by decide +kernel
theorem dX2_place_26 : decode cX2_place 26 = .ok (.aload_n 0, 1) := by decide +kernel
theorem dX2_place_27 : decode cX2_place 27 = .ok (.getfield 48, 3) := by decide +kernel
theorem dX2_place_30 : decode cX2_place 30 = .ok (.if_icmp .ne 18, 3) := by decide +kernel
theorem dX2_place_33 : decode cX2_place 33 = .ok (.aload_n 0, 1) := by decide +kernel
theorem dX2_place_34 : decode cX2_place 34 = .ok (.getfield 20, 3) := by decide +kernel
theorem dX2_place_37 : decode cX2_place 37 = .ok (.iload_n 3, 1) := by decide +kernel
theorem dX2_place_38 : decode cX2_place 38 = .ok (.iload 4, 2) := by decide +kernel
theorem dX2_place_40 : decode cX2_place 40 = .ok (.invokestatic 64, 3) := by decide +kernel
theorem dX2_place_43 : decode cX2_place 43 = .ok (.iaload, 1) := by decide +kernel
theorem dX2_place_44 : decode cX2_place 44 = .ok (.iload_n 1, 1) := by decide +kernel
theorem dX2_place_45 : decode cX2_place 45 = .ok (.if_icmp .eq 6, 3) := by decide +kernel
theorem dX2_place_48 : decode cX2_place 48 = .ok (.bipush (-2), 2) := by decide +kernel
theorem dX2_place_50 : decode cX2_place 50 = .ok (.ireturn, 1) := by decide +kernel
theorem dX2_place_51 : decode cX2_place 51 = .ok (.aload_n 0, 1) := by decide +kernel
theorem dX2_place_52 : decode cX2_place 52 = .ok (.getfield 26, 3) := by decide +kernel
theorem dX2_place_55 : decode cX2_place 55 = .ok (.iload_n 3, 1) := by decide +kernel
theorem dX2_place_56 : decode cX2_place 56 = .ok (.iload 4, 2) := by decide +kernel
theorem dX2_place_58 : decode cX2_place 58 = .ok (.invokestatic 64, 3) := by decide +kernel
theorem dX2_place_61 : decode cX2_place 61 = .ok (.iload 5, 2) := by decide +kernel
theorem dX2_place_63 : decode cX2_place 63 = .ok (.iastore, 1) := by decide +kernel
theorem dX2_place_64 : decode cX2_place 64 = .ok (.iconst 0, 1) := by decide +kernel
theorem dX2_place_65 : decode cX2_place 65 = .ok (.ireturn, 1) := by decide +kernel
abbrev cX2_placed : ByteArray := prog_4_method_19_code
def yX2_placed : MethodName := ⟨RX2, "placed", "(II)I"⟩
theorem dX2_placed_0 : decode cX2_placed 0 = .ok (.aload_n 0, 1) := by decide +kernel
theorem dX2_placed_1 : decode cX2_placed 1 = .ok (.iload_n 1, 1) := by decide +kernel
theorem dX2_placed_2 : decode cX2_placed 2 = .ok (.iload_n 2, 1) := by decide +kernel
theorem dX2_placed_3 : decode cX2_placed 3 = .ok (.invokevirtual 44, 3) := by decide +kernel
theorem dX2_placed_6 : decode cX2_placed 6 = .ok (.ifCond .eq 16, 3) := by decide +kernel
theorem dX2_placed_9 : decode cX2_placed 9 = .ok (.aload_n 0, 1) := by decide +kernel
theorem dX2_placed_10 : decode cX2_placed 10 = .ok (.getfield 26, 3) := by decide +kernel
theorem dX2_placed_13 : decode cX2_placed 13 = .ok (.iload_n 1, 1) := by decide +kernel
theorem dX2_placed_14 : decode cX2_placed 14 = .ok (.iload_n 2, 1) := by decide +kernel
theorem dX2_placed_15 : decode cX2_placed 15 = .ok (.invokestatic 64, 3) := by decide +kernel
theorem dX2_placed_18 : decode cX2_placed 18 = .ok (.iaload, 1) := by decide +kernel
theorem dX2_placed_19 : decode cX2_placed 19 = .ok (.goto 5, 3) := by decide +kernel
theorem dX2_placed_22 : decode cX2_placed 22 = .ok (.bipush (-2), 2) := by decide +kernel
theorem dX2_placed_24 : decode cX2_placed 24 = .ok (.ireturn, 1) := by decide +kernel
theorem q14 : (Jvm.Cond.initialized "GroupRowsModel") ∈ lw_all := lw_g (lw_at lw_m0 3 rfl) rfl
theorem q139 : (Jvm.Cond.instantiable "GroupRowsModel" (10 : Nat)) ∈ lw_all := lw_g (lw_at lw_m0 128 rfl) rfl
theorem q141 : (Jvm.Cond.instanceMethod ({ cls := "GroupRowsModel", name := "<init>", desc := "()V" } : Jvm.MethodName)) ∈ lw_all := lw_g (lw_at lw_m0 130 rfl) rfl
theorem q142 : (Jvm.Cond.code ({ cls := "GroupRowsModel", name := "<init>", desc := "()V" } : Jvm.MethodName) prog_4_method_1_code (2 : Nat) (Option.none : Option Jvm.ClassFile.FieldType)) ∈ lw_all := lw_g (lw_at lw_m0 131 rfl) rfl
theorem q143 : (Jvm.Cond.methodLink "GroupRowsModel" (1 : Nat) ({ cls := "java/lang/Object", name := "<init>", desc := "()V" } : Jvm.MethodName)) ∈ lw_all := lw_g (lw_at lw_m0 132 rfl) rfl
theorem q144 : (Jvm.Cond.fieldLink "GroupRowsModel" (9 : Nat) "GroupRowsModel" "parts" "[I") ∈ lw_all := lw_g (lw_at lw_m0 133 rfl) rfl
theorem q145 : (Jvm.Cond.fieldLink "GroupRowsModel" (13 : Nat) "GroupRowsModel" "isSubscribed" "[Z") ∈ lw_all := lw_g (lw_at lw_m0 134 rfl) rfl
theorem q146 : (Jvm.Cond.fieldLink "GroupRowsModel" (17 : Nat) "GroupRowsModel" "isIn" "[Z") ∈ lw_all := lw_g (lw_at lw_m0 135 rfl) rfl
theorem q147 : (Jvm.Cond.fieldLink "GroupRowsModel" (20 : Nat) "GroupRowsModel" "owner" "[I") ∈ lw_all := lw_g (lw_at lw_m0 136 rfl) rfl
theorem q148 : (Jvm.Cond.fieldLink "GroupRowsModel" (23 : Nat) "GroupRowsModel" "before" "[I") ∈ lw_all := lw_g (lw_at lw_m0 137 rfl) rfl
theorem q149 : (Jvm.Cond.fieldLink "GroupRowsModel" (26 : Nat) "GroupRowsModel" "place" "[I") ∈ lw_all := lw_g (lw_at lw_m0 138 rfl) rfl
theorem q150 : (Jvm.Cond.fieldLink "GroupRowsModel" (29 : Nat) "GroupRowsModel" "has" "[I") ∈ lw_all := lw_g (lw_at lw_m0 139 rfl) rfl
theorem q151 : (Jvm.Cond.fieldLink "GroupRowsModel" (32 : Nat) "GroupRowsModel" "topics" "I") ∈ lw_all := lw_g (lw_at lw_m0 140 rfl) rfl
theorem q152 : (Jvm.Cond.fieldLink "GroupRowsModel" (48 : Nat) "GroupRowsModel" "generation" "I") ∈ lw_all := lw_g (lw_at lw_m0 141 rfl) rfl
theorem q153 : (Jvm.Cond.fieldLink "GroupRowsModel" (61 : Nat) "GroupRowsModel" "moved" "I") ∈ lw_all := lw_g (lw_at lw_m0 142 rfl) rfl
theorem q154 : (Jvm.Cond.laysFinal "GroupRowsModel" "GroupRowsModel" "parts" "[I") ∈ lw_all := lw_g (lw_at lw_m0 143 rfl) rfl
theorem q155 : (Jvm.Cond.soleField "GroupRowsModel" "parts") ∈ lw_all := lw_g (lw_at lw_m0 144 rfl) rfl
theorem q156 : (Jvm.Cond.laysFinal "GroupRowsModel" "GroupRowsModel" "isSubscribed" "[Z") ∈ lw_all := lw_g (lw_at lw_m0 145 rfl) rfl
theorem q157 : (Jvm.Cond.soleField "GroupRowsModel" "isSubscribed") ∈ lw_all := lw_g (lw_at lw_m0 146 rfl) rfl
theorem q158 : (Jvm.Cond.laysFinal "GroupRowsModel" "GroupRowsModel" "isIn" "[Z") ∈ lw_all := lw_g (lw_at lw_m0 147 rfl) rfl
theorem q159 : (Jvm.Cond.soleField "GroupRowsModel" "isIn") ∈ lw_all := lw_g (lw_at lw_m0 148 rfl) rfl
theorem q160 : (Jvm.Cond.laysFinal "GroupRowsModel" "GroupRowsModel" "owner" "[I") ∈ lw_all := lw_g (lw_at lw_m0 149 rfl) rfl
theorem q161 : (Jvm.Cond.soleField "GroupRowsModel" "owner") ∈ lw_all := lw_g (lw_at lw_m0 150 rfl) rfl
theorem q162 : (Jvm.Cond.laysFinal "GroupRowsModel" "GroupRowsModel" "before" "[I") ∈ lw_all := lw_g (lw_at lw_m0 151 rfl) rfl
theorem q163 : (Jvm.Cond.soleField "GroupRowsModel" "before") ∈ lw_all := lw_g (lw_at lw_m0 152 rfl) rfl
theorem q164 : (Jvm.Cond.laysFinal "GroupRowsModel" "GroupRowsModel" "place" "[I") ∈ lw_all := lw_g (lw_at lw_m0 153 rfl) rfl
theorem q165 : (Jvm.Cond.soleField "GroupRowsModel" "place") ∈ lw_all := lw_g (lw_at lw_m0 154 rfl) rfl
theorem q166 : (Jvm.Cond.laysFinal "GroupRowsModel" "GroupRowsModel" "has" "[I") ∈ lw_all := lw_g (lw_at lw_m0 155 rfl) rfl
theorem q167 : (Jvm.Cond.soleField "GroupRowsModel" "has") ∈ lw_all := lw_g (lw_at lw_m0 156 rfl) rfl
theorem q168 : (Jvm.Cond.lays "GroupRowsModel" "GroupRowsModel" "topics" "I") ∈ lw_all := lw_g (lw_at lw_m0 157 rfl) rfl
theorem q169 : (Jvm.Cond.soleField "GroupRowsModel" "topics") ∈ lw_all := lw_g (lw_at lw_m0 158 rfl) rfl
theorem q170 : (Jvm.Cond.lays "GroupRowsModel" "GroupRowsModel" "generation" "I") ∈ lw_all := lw_g (lw_at lw_m0 159 rfl) rfl
theorem q171 : (Jvm.Cond.soleField "GroupRowsModel" "generation") ∈ lw_all := lw_g (lw_at lw_m0 160 rfl) rfl
theorem q172 : (Jvm.Cond.lays "GroupRowsModel" "GroupRowsModel" "moved" "I") ∈ lw_all := lw_g (lw_at lw_m0 161 rfl) rfl
theorem q173 : (Jvm.Cond.soleField "GroupRowsModel" "moved") ∈ lw_all := lw_g (lw_at lw_m0 162 rfl) rfl
theorem q174 : (Jvm.Cond.superclass "GroupRowsModel" "java/lang/Object") ∈ lw_all := lw_g (lw_at lw_m0 163 rfl) rfl
theorem q176 : (Jvm.Cond.instanceMethod ({ cls := "GroupRowsModel", name := "topic", desc := "(I)I" } : Jvm.MethodName)) ∈ lw_all := lw_g (lw_at lw_m0 165 rfl) rfl
theorem q177 : (Jvm.Cond.selects "GroupRowsModel" ({ cls := "GroupRowsModel", name := "topic", desc := "(I)I" } : Jvm.MethodName) ({ cls := "GroupRowsModel", name := "topic", desc := "(I)I" } : Jvm.MethodName)) ∈ lw_all := lw_g (lw_at lw_m0 166 rfl) rfl
theorem q178 : (Jvm.Cond.code ({ cls := "GroupRowsModel", name := "topic", desc := "(I)I" } : Jvm.MethodName) prog_4_method_3_code (2 : Nat) (Option.some Jvm.ClassFile.FieldType.int)) ∈ lw_all := lw_g (lw_at lw_m0 167 rfl) rfl
theorem q180 : (Jvm.Cond.instanceMethod ({ cls := "GroupRowsModel", name := "subscribe", desc := "(I)I" } : Jvm.MethodName)) ∈ lw_all := lw_g (lw_at lw_m0 169 rfl) rfl
theorem q181 : (Jvm.Cond.selects "GroupRowsModel" ({ cls := "GroupRowsModel", name := "subscribe", desc := "(I)I" } : Jvm.MethodName) ({ cls := "GroupRowsModel", name := "subscribe", desc := "(I)I" } : Jvm.MethodName)) ∈ lw_all := lw_g (lw_at lw_m0 170 rfl) rfl
theorem q182 : (Jvm.Cond.code ({ cls := "GroupRowsModel", name := "subscribe", desc := "(I)I" } : Jvm.MethodName) prog_4_method_7_code (2 : Nat) (Option.some Jvm.ClassFile.FieldType.int)) ∈ lw_all := lw_g (lw_at lw_m0 171 rfl) rfl
theorem q183 : (Jvm.Cond.methodLink "GroupRowsModel" (36 : Nat) ({ cls := "GroupRowsModel", name := "dealt", desc := "()I" } : Jvm.MethodName)) ∈ lw_all := lw_g (lw_at lw_m0 172 rfl) rfl
theorem q184 : (Jvm.Cond.privateMethod ({ cls := "GroupRowsModel", name := "dealt", desc := "()I" } : Jvm.MethodName)) ∈ lw_tbl := lw_at lw_m0 173 rfl
theorem q185 : (Jvm.Cond.instanceMethod ({ cls := "GroupRowsModel", name := "dealt", desc := "()I" } : Jvm.MethodName)) ∈ lw_all := lw_g (lw_at lw_m0 174 rfl) rfl
theorem q186 : (Jvm.Cond.code ({ cls := "GroupRowsModel", name := "dealt", desc := "()I" } : Jvm.MethodName) prog_4_method_11_code (5 : Nat) (Option.some Jvm.ClassFile.FieldType.int)) ∈ lw_all := lw_g (lw_at lw_m0 175 rfl) rfl
theorem q187 : (Jvm.Cond.methodLink "GroupRowsModel" (51 : Nat) ({ cls := "GroupRowsModel", name := "isShared", desc := "(I)Z" } : Jvm.MethodName)) ∈ lw_all := lw_g (lw_at lw_m0 176 rfl) rfl
theorem q188 : (Jvm.Cond.privateMethod ({ cls := "GroupRowsModel", name := "isShared", desc := "(I)Z" } : Jvm.MethodName)) ∈ lw_tbl := lw_at lw_m0 177 rfl
theorem q189 : (Jvm.Cond.instanceMethod ({ cls := "GroupRowsModel", name := "isShared", desc := "(I)Z" } : Jvm.MethodName)) ∈ lw_all := lw_g (lw_at lw_m0 178 rfl) rfl
theorem q190 : (Jvm.Cond.code ({ cls := "GroupRowsModel", name := "isShared", desc := "(I)Z" } : Jvm.MethodName) prog_4_method_10_code (2 : Nat) (Option.some Jvm.ClassFile.FieldType.boolean)) ∈ lw_all := lw_g (lw_at lw_m0 179 rfl) rfl
theorem q191 : (Jvm.Cond.methodLink "GroupRowsModel" (44 : Nat) ({ cls := "GroupRowsModel", name := "isPart", desc := "(II)Z" } : Jvm.MethodName)) ∈ lw_all := lw_g (lw_at lw_m0 180 rfl) rfl
theorem q192 : (Jvm.Cond.privateMethod ({ cls := "GroupRowsModel", name := "isPart", desc := "(II)Z" } : Jvm.MethodName)) ∈ lw_tbl := lw_at lw_m0 181 rfl
theorem q193 : (Jvm.Cond.instanceMethod ({ cls := "GroupRowsModel", name := "isPart", desc := "(II)Z" } : Jvm.MethodName)) ∈ lw_all := lw_g (lw_at lw_m0 182 rfl) rfl
theorem q194 : (Jvm.Cond.code ({ cls := "GroupRowsModel", name := "isPart", desc := "(II)Z" } : Jvm.MethodName) prog_4_method_5_code (3 : Nat) (Option.some Jvm.ClassFile.FieldType.boolean)) ∈ lw_all := lw_g (lw_at lw_m0 183 rfl) rfl
theorem q195 : (Jvm.Cond.methodLink "GroupRowsModel" (54 : Nat) ({ cls := "GroupRowsModel", name := "keeps", desc := "(III)Z" } : Jvm.MethodName)) ∈ lw_all := lw_g (lw_at lw_m0 184 rfl) rfl
theorem q196 : (Jvm.Cond.privateMethod ({ cls := "GroupRowsModel", name := "keeps", desc := "(III)Z" } : Jvm.MethodName)) ∈ lw_tbl := lw_at lw_m0 185 rfl
theorem q197 : (Jvm.Cond.instanceMethod ({ cls := "GroupRowsModel", name := "keeps", desc := "(III)Z" } : Jvm.MethodName)) ∈ lw_all := lw_g (lw_at lw_m0 186 rfl) rfl
theorem q198 : (Jvm.Cond.code ({ cls := "GroupRowsModel", name := "keeps", desc := "(III)Z" } : Jvm.MethodName) prog_4_method_13_code (7 : Nat) (Option.some Jvm.ClassFile.FieldType.boolean)) ∈ lw_all := lw_g (lw_at lw_m0 187 rfl) rfl
theorem q199 : (Jvm.Cond.methodLink "GroupRowsModel" (58 : Nat) ({ cls := "GroupRowsModel", name := "fewest", desc := "()I" } : Jvm.MethodName)) ∈ lw_all := lw_g (lw_at lw_m0 188 rfl) rfl
theorem q200 : (Jvm.Cond.privateMethod ({ cls := "GroupRowsModel", name := "fewest", desc := "()I" } : Jvm.MethodName)) ∈ lw_tbl := lw_at lw_m0 189 rfl
theorem q201 : (Jvm.Cond.instanceMethod ({ cls := "GroupRowsModel", name := "fewest", desc := "()I" } : Jvm.MethodName)) ∈ lw_all := lw_g (lw_at lw_m0 190 rfl) rfl
theorem q202 : (Jvm.Cond.code ({ cls := "GroupRowsModel", name := "fewest", desc := "()I" } : Jvm.MethodName) prog_4_method_12_code (3 : Nat) (Option.some Jvm.ClassFile.FieldType.int)) ∈ lw_all := lw_g (lw_at lw_m0 191 rfl) rfl
theorem q204 : (Jvm.Cond.instanceMethod ({ cls := "GroupRowsModel", name := "enter", desc := "(I)I" } : Jvm.MethodName)) ∈ lw_all := lw_g (lw_at lw_m0 193 rfl) rfl
theorem q205 : (Jvm.Cond.selects "GroupRowsModel" ({ cls := "GroupRowsModel", name := "enter", desc := "(I)I" } : Jvm.MethodName) ({ cls := "GroupRowsModel", name := "enter", desc := "(I)I" } : Jvm.MethodName)) ∈ lw_all := lw_g (lw_at lw_m0 194 rfl) rfl
theorem q206 : (Jvm.Cond.code ({ cls := "GroupRowsModel", name := "enter", desc := "(I)I" } : Jvm.MethodName) prog_4_method_8_code (2 : Nat) (Option.some Jvm.ClassFile.FieldType.int)) ∈ lw_all := lw_g (lw_at lw_m0 195 rfl) rfl
theorem q207 : (Jvm.Cond.methodLink "GroupRowsModel" (40 : Nat) ({ cls := "GroupRowsModel", name := "isMember", desc := "(I)Z" } : Jvm.MethodName)) ∈ lw_all := lw_g (lw_at lw_m0 196 rfl) rfl
theorem q208 : (Jvm.Cond.privateMethod ({ cls := "GroupRowsModel", name := "isMember", desc := "(I)Z" } : Jvm.MethodName)) ∈ lw_tbl := lw_at lw_m0 197 rfl
theorem q209 : (Jvm.Cond.instanceMethod ({ cls := "GroupRowsModel", name := "isMember", desc := "(I)Z" } : Jvm.MethodName)) ∈ lw_all := lw_g (lw_at lw_m0 198 rfl) rfl
theorem q210 : (Jvm.Cond.code ({ cls := "GroupRowsModel", name := "isMember", desc := "(I)Z" } : Jvm.MethodName) prog_4_method_4_code (2 : Nat) (Option.some Jvm.ClassFile.FieldType.boolean)) ∈ lw_all := lw_g (lw_at lw_m0 199 rfl) rfl
theorem q212 : (Jvm.Cond.instanceMethod ({ cls := "GroupRowsModel", name := "leave", desc := "(I)I" } : Jvm.MethodName)) ∈ lw_all := lw_g (lw_at lw_m0 201 rfl) rfl
theorem q213 : (Jvm.Cond.selects "GroupRowsModel" ({ cls := "GroupRowsModel", name := "leave", desc := "(I)I" } : Jvm.MethodName) ({ cls := "GroupRowsModel", name := "leave", desc := "(I)I" } : Jvm.MethodName)) ∈ lw_all := lw_g (lw_at lw_m0 202 rfl) rfl
theorem q214 : (Jvm.Cond.code ({ cls := "GroupRowsModel", name := "leave", desc := "(I)I" } : Jvm.MethodName) prog_4_method_9_code (2 : Nat) (Option.some Jvm.ClassFile.FieldType.int)) ∈ lw_all := lw_g (lw_at lw_m0 203 rfl) rfl
theorem q216 : (Jvm.Cond.instanceMethod ({ cls := "GroupRowsModel", name := "generation", desc := "()I" } : Jvm.MethodName)) ∈ lw_all := lw_g (lw_at lw_m0 205 rfl) rfl
theorem q217 : (Jvm.Cond.selects "GroupRowsModel" ({ cls := "GroupRowsModel", name := "generation", desc := "()I" } : Jvm.MethodName) ({ cls := "GroupRowsModel", name := "generation", desc := "()I" } : Jvm.MethodName)) ∈ lw_all := lw_g (lw_at lw_m0 206 rfl) rfl
theorem q218 : (Jvm.Cond.code ({ cls := "GroupRowsModel", name := "generation", desc := "()I" } : Jvm.MethodName) prog_4_method_14_code (1 : Nat) (Option.some Jvm.ClassFile.FieldType.int)) ∈ lw_all := lw_g (lw_at lw_m0 207 rfl) rfl
theorem q220 : (Jvm.Cond.instanceMethod ({ cls := "GroupRowsModel", name := "owner", desc := "(II)I" } : Jvm.MethodName)) ∈ lw_all := lw_g (lw_at lw_m0 209 rfl) rfl
theorem q221 : (Jvm.Cond.selects "GroupRowsModel" ({ cls := "GroupRowsModel", name := "owner", desc := "(II)I" } : Jvm.MethodName) ({ cls := "GroupRowsModel", name := "owner", desc := "(II)I" } : Jvm.MethodName)) ∈ lw_all := lw_g (lw_at lw_m0 210 rfl) rfl
theorem q222 : (Jvm.Cond.code ({ cls := "GroupRowsModel", name := "owner", desc := "(II)I" } : Jvm.MethodName) prog_4_method_15_code (3 : Nat) (Option.some Jvm.ClassFile.FieldType.int)) ∈ lw_all := lw_g (lw_at lw_m0 211 rfl) rfl
theorem q223 : (Jvm.Cond.methodLink "GroupRowsModel" (64 : Nat) ({ cls := "GroupRowsModel", name := "at", desc := "(II)I" } : Jvm.MethodName)) ∈ lw_all := lw_g (lw_at lw_m0 212 rfl) rfl
theorem q224 : (Jvm.Cond.static ({ cls := "GroupRowsModel", name := "at", desc := "(II)I" } : Jvm.MethodName)) ∈ lw_all := lw_g (lw_at lw_m0 213 rfl) rfl
theorem q225 : (Jvm.Cond.code ({ cls := "GroupRowsModel", name := "at", desc := "(II)I" } : Jvm.MethodName) prog_4_method_6_code (2 : Nat) (Option.some Jvm.ClassFile.FieldType.int)) ∈ lw_all := lw_g (lw_at lw_m0 214 rfl) rfl
theorem q227 : (Jvm.Cond.instanceMethod ({ cls := "GroupRowsModel", name := "held", desc := "(I)I" } : Jvm.MethodName)) ∈ lw_all := lw_g (lw_at lw_m0 216 rfl) rfl
theorem q228 : (Jvm.Cond.selects "GroupRowsModel" ({ cls := "GroupRowsModel", name := "held", desc := "(I)I" } : Jvm.MethodName) ({ cls := "GroupRowsModel", name := "held", desc := "(I)I" } : Jvm.MethodName)) ∈ lw_all := lw_g (lw_at lw_m0 217 rfl) rfl
theorem q229 : (Jvm.Cond.code ({ cls := "GroupRowsModel", name := "held", desc := "(I)I" } : Jvm.MethodName) prog_4_method_16_code (4 : Nat) (Option.some Jvm.ClassFile.FieldType.int)) ∈ lw_all := lw_g (lw_at lw_m0 218 rfl) rfl
theorem q231 : (Jvm.Cond.instanceMethod ({ cls := "GroupRowsModel", name := "moved", desc := "()I" } : Jvm.MethodName)) ∈ lw_all := lw_g (lw_at lw_m0 220 rfl) rfl
theorem q232 : (Jvm.Cond.selects "GroupRowsModel" ({ cls := "GroupRowsModel", name := "moved", desc := "()I" } : Jvm.MethodName) ({ cls := "GroupRowsModel", name := "moved", desc := "()I" } : Jvm.MethodName)) ∈ lw_all := lw_g (lw_at lw_m0 221 rfl) rfl
theorem q233 : (Jvm.Cond.code ({ cls := "GroupRowsModel", name := "moved", desc := "()I" } : Jvm.MethodName) prog_4_method_17_code (1 : Nat) (Option.some Jvm.ClassFile.FieldType.int)) ∈ lw_all := lw_g (lw_at lw_m0 222 rfl) rfl
theorem q235 : (Jvm.Cond.instanceMethod ({ cls := "GroupRowsModel", name := "place", desc := "(IIIII)I" } : Jvm.MethodName)) ∈ lw_all := lw_g (lw_at lw_m0 224 rfl) rfl
theorem q236 : (Jvm.Cond.selects "GroupRowsModel" ({ cls := "GroupRowsModel", name := "place", desc := "(IIIII)I" } : Jvm.MethodName) ({ cls := "GroupRowsModel", name := "place", desc := "(IIIII)I" } : Jvm.MethodName)) ∈ lw_all := lw_g (lw_at lw_m0 225 rfl) rfl
theorem q237 : (Jvm.Cond.code ({ cls := "GroupRowsModel", name := "place", desc := "(IIIII)I" } : Jvm.MethodName) prog_4_method_18_code (6 : Nat) (Option.some Jvm.ClassFile.FieldType.int)) ∈ lw_all := lw_g (lw_at lw_m0 226 rfl) rfl
theorem q239 : (Jvm.Cond.instanceMethod ({ cls := "GroupRowsModel", name := "placed", desc := "(II)I" } : Jvm.MethodName)) ∈ lw_all := lw_g (lw_at lw_m0 228 rfl) rfl
theorem q240 : (Jvm.Cond.selects "GroupRowsModel" ({ cls := "GroupRowsModel", name := "placed", desc := "(II)I" } : Jvm.MethodName) ({ cls := "GroupRowsModel", name := "placed", desc := "(II)I" } : Jvm.MethodName)) ∈ lw_all := lw_g (lw_at lw_m0 229 rfl) rfl
theorem q241 : (Jvm.Cond.code ({ cls := "GroupRowsModel", name := "placed", desc := "(II)I" } : Jvm.MethodName) prog_4_method_19_code (3 : Nat) (Option.some Jvm.ClassFile.FieldType.int)) ∈ lw_all := lw_g (lw_at lw_m0 230 rfl) rfl
theorem in_X2 : ∀ w ∈ wsX20, w ∈ lw_all := lw_in wsX20 [154, 156, 158, 160, 162, 164, 166, 168, 170, 172] (by decide +kernel) (by decide +kernel)
end
section
/-! java/lang/Object -/
set_option maxRecDepth 100000
def RJ0 : String := "java/lang/Object"
abbrev cJ0_init : ByteArray := object_method_1_code
def yJ0_init : MethodName := ⟨RJ0, "<init>", "()V"⟩
theorem dJ0_init_0 : decode cJ0_init 0 = .ok (.return_, 1) := by decide +kernel
theorem q21 : (Jvm.Cond.instanceMethod ({ cls := "java/lang/Object", name := "<init>", desc := "()V" } : Jvm.MethodName)) ∈ lw_all := lw_g (lw_at lw_m0 10 rfl) rfl
theorem q22 : (Jvm.Cond.code ({ cls := "java/lang/Object", name := "<init>", desc := "()V" } : Jvm.MethodName) object_method_1_code (1 : Nat) (Option.none : Option Jvm.ClassFile.FieldType)) ∈ lw_all := lw_g (lw_at lw_m0 11 rfl) rfl
theorem q53 : (Jvm.Cond.arrayClass Jvm.ClassFile.FieldType.boolean) ∈ lw_all := lw_g (lw_at lw_m0 42 rfl) rfl
set_option maxRecDepth 100000
theorem q54 : (Jvm.Cond.arrayClass Jvm.ClassFile.FieldType.int) ∈ lw_all := lw_g (lw_at lw_m0 43 rfl) rfl
theorem q11 : (Jvm.Cond.initialized "GroupRowsLaw") ∈ lw_all := lw_g (lw_at lw_m0 0 rfl) rfl
set_option maxRecDepth 100000
theorem q15 : (Jvm.Cond.classLink "GroupRowsLaw" (7 : Nat) "GroupRows") ∈ lw_all := lw_g (lw_at lw_m0 4 rfl) rfl
theorem q17 : (Jvm.Cond.methodLink "GroupRowsLaw" (9 : Nat) ({ cls := "GroupRows", name := "<init>", desc := "()V" } : Jvm.MethodName)) ∈ lw_all := lw_g (lw_at lw_m0 6 rfl) rfl
theorem q71 : (Jvm.Cond.methodLink "GroupRowsLaw" (13 : Nat) ({ cls := "GroupRows", name := "topic", desc := "(I)I" } : Jvm.MethodName)) ∈ lw_all := lw_g (lw_at lw_m0 60 rfl) rfl
theorem q75 : (Jvm.Cond.methodLink "GroupRowsLaw" (18 : Nat) ({ cls := "GroupRows", name := "subscribe", desc := "(I)I" } : Jvm.MethodName)) ∈ lw_all := lw_g (lw_at lw_m0 64 rfl) rfl
theorem q95 : (Jvm.Cond.methodLink "GroupRowsLaw" (22 : Nat) ({ cls := "GroupRows", name := "enter", desc := "(I)I" } : Jvm.MethodName)) ∈ lw_all := lw_g (lw_at lw_m0 84 rfl) rfl
theorem q106 : (Jvm.Cond.methodLink "GroupRowsLaw" (26 : Nat) ({ cls := "GroupRows", name := "leave", desc := "(I)I" } : Jvm.MethodName)) ∈ lw_all := lw_g (lw_at lw_m0 95 rfl) rfl
theorem q110 : (Jvm.Cond.methodLink "GroupRowsLaw" (30 : Nat) ({ cls := "GroupRows", name := "generation", desc := "()I" } : Jvm.MethodName)) ∈ lw_all := lw_g (lw_at lw_m0 99 rfl) rfl
theorem q114 : (Jvm.Cond.methodLink "GroupRowsLaw" (35 : Nat) ({ cls := "GroupRows", name := "owner", desc := "(II)I" } : Jvm.MethodName)) ∈ lw_all := lw_g (lw_at lw_m0 103 rfl) rfl
theorem q122 : (Jvm.Cond.methodLink "GroupRowsLaw" (40 : Nat) ({ cls := "GroupRows", name := "held", desc := "(I)I" } : Jvm.MethodName)) ∈ lw_all := lw_g (lw_at lw_m0 111 rfl) rfl
theorem q126 : (Jvm.Cond.methodLink "GroupRowsLaw" (44 : Nat) ({ cls := "GroupRows", name := "moved", desc := "()I" } : Jvm.MethodName)) ∈ lw_all := lw_g (lw_at lw_m0 115 rfl) rfl
theorem q130 : (Jvm.Cond.methodLink "GroupRowsLaw" (48 : Nat) ({ cls := "GroupRows", name := "place", desc := "(IIIII)I" } : Jvm.MethodName)) ∈ lw_all := lw_g (lw_at lw_m0 119 rfl) rfl
theorem q134 : (Jvm.Cond.methodLink "GroupRowsLaw" (53 : Nat) ({ cls := "GroupRows", name := "placed", desc := "(II)I" } : Jvm.MethodName)) ∈ lw_all := lw_g (lw_at lw_m0 123 rfl) rfl
theorem q138 : (Jvm.Cond.classLink "GroupRowsLaw" (10 : Nat) "GroupRowsModel") ∈ lw_all := lw_g (lw_at lw_m0 127 rfl) rfl
theorem q140 : (Jvm.Cond.methodLink "GroupRowsLaw" (12 : Nat) ({ cls := "GroupRowsModel", name := "<init>", desc := "()V" } : Jvm.MethodName)) ∈ lw_all := lw_g (lw_at lw_m0 129 rfl) rfl
theorem q175 : (Jvm.Cond.methodLink "GroupRowsLaw" (17 : Nat) ({ cls := "GroupRowsModel", name := "topic", desc := "(I)I" } : Jvm.MethodName)) ∈ lw_all := lw_g (lw_at lw_m0 164 rfl) rfl
theorem q179 : (Jvm.Cond.methodLink "GroupRowsLaw" (21 : Nat) ({ cls := "GroupRowsModel", name := "subscribe", desc := "(I)I" } : Jvm.MethodName)) ∈ lw_all := lw_g (lw_at lw_m0 168 rfl) rfl
theorem q203 : (Jvm.Cond.methodLink "GroupRowsLaw" (25 : Nat) ({ cls := "GroupRowsModel", name := "enter", desc := "(I)I" } : Jvm.MethodName)) ∈ lw_all := lw_g (lw_at lw_m0 192 rfl) rfl
theorem q211 : (Jvm.Cond.methodLink "GroupRowsLaw" (29 : Nat) ({ cls := "GroupRowsModel", name := "leave", desc := "(I)I" } : Jvm.MethodName)) ∈ lw_all := lw_g (lw_at lw_m0 200 rfl) rfl
theorem q215 : (Jvm.Cond.methodLink "GroupRowsLaw" (34 : Nat) ({ cls := "GroupRowsModel", name := "generation", desc := "()I" } : Jvm.MethodName)) ∈ lw_all := lw_g (lw_at lw_m0 204 rfl) rfl
theorem q219 : (Jvm.Cond.methodLink "GroupRowsLaw" (39 : Nat) ({ cls := "GroupRowsModel", name := "owner", desc := "(II)I" } : Jvm.MethodName)) ∈ lw_all := lw_g (lw_at lw_m0 208 rfl) rfl
theorem q226 : (Jvm.Cond.methodLink "GroupRowsLaw" (43 : Nat) ({ cls := "GroupRowsModel", name := "held", desc := "(I)I" } : Jvm.MethodName)) ∈ lw_all := lw_g (lw_at lw_m0 215 rfl) rfl
theorem q230 : (Jvm.Cond.methodLink "GroupRowsLaw" (47 : Nat) ({ cls := "GroupRowsModel", name := "moved", desc := "()I" } : Jvm.MethodName)) ∈ lw_all := lw_g (lw_at lw_m0 219 rfl) rfl
theorem q234 : (Jvm.Cond.methodLink "GroupRowsLaw" (52 : Nat) ({ cls := "GroupRowsModel", name := "place", desc := "(IIIII)I" } : Jvm.MethodName)) ∈ lw_all := lw_g (lw_at lw_m0 223 rfl) rfl
theorem q238 : (Jvm.Cond.methodLink "GroupRowsLaw" (56 : Nat) ({ cls := "GroupRowsModel", name := "placed", desc := "(II)I" } : Jvm.MethodName)) ∈ lw_all := lw_g (lw_at lw_m0 227 rfl) rfl
/-! the law's own entry -/
set_option maxRecDepth 100000
abbrev cL_law : ByteArray := code
theorem dL_law_0 : decode cL_law 0 = .ok (.new 7, 3) := by decide +kernel
theorem dL_law_3 : decode cL_law 3 = .ok (.dup, 1) := by decide +kernel
theorem dL_law_4 : decode cL_law 4 = .ok (.invokespecial 9, 3) := by decide +kernel
theorem dL_law_7 : decode cL_law 7 = .ok (.astore_n 1, 1) := by decide +kernel
theorem dL_law_8 : decode cL_law 8 = .ok (.new 10, 3) := by decide +kernel
theorem dL_law_11 : decode cL_law 11 = .ok (.dup, 1) := by decide +kernel
theorem dL_law_12 : decode cL_law 12 = .ok (.invokespecial 12, 3) := by decide +kernel
theorem dL_law_15 : decode cL_law 15 = .ok (.astore_n 2, 1) := by decide +kernel
theorem dL_law_16 : decode cL_law 16 = .ok (.iconst 0, 1) := by decide +kernel
theorem dL_law_17 : decode cL_law 17 = .ok (.istore_n 3, 1) := by decide +kernel
theorem dL_law_18 : decode cL_law 18 = .ok (.iload_n 3, 1) := by decide +kernel
theorem dL_law_19 : decode cL_law 19 = .ok (.aload_n 0, 1) := by decide +kernel
theorem dL_law_20 : decode cL_law 20 = .ok (.arraylength, 1) := by decide +kernel
theorem dL_law_21 : decode cL_law 21 = .ok (.bipush 6, 2) := by decide +kernel
theorem dL_law_23 : decode cL_law 23 = .ok (.isub, 1) := by decide +kernel
theorem dL_law_24 : decode cL_law 24 = .ok (.if_icmp .gt 340, 3) := by decide +kernel
theorem dL_law_27 : decode cL_law 27 = .ok (.aload_n 0, 1) := by decide +kernel
theorem dL_law_28 : decode cL_law 28 = .ok (.iload_n 3, 1) := by decide +kernel
theorem dL_law_29 : decode cL_law 29 = .ok (.iaload, 1) := by decide +kernel
theorem dL_law_30 : decode cL_law 30 = .ok (.bipush 15, 2) := by decide +kernel
theorem dL_law_32 : decode cL_law 32 = .ok (.iand, 1) := by decide +kernel
theorem dL_law_33 : decode cL_law 33 = .ok (.tableswitch 325 0 9 #[55, 78, 101, 124, 147, 160, 193, 216, 229, 292], 55) := by decide +kernel
theorem dL_law_88 : decode cL_law 88 = .ok (.aload_n 1, 1) := by decide +kernel
theorem dL_law_89 : decode cL_law 89 = .ok (.aload_n 0, 1) := by decide +kernel
theorem dL_law_90 : decode cL_law 90 = .ok (.iload_n 3, 1) := by decide +kernel
theorem dL_law_91 : decode cL_law 91 = .ok (.iconst 1, 1) := by decide +kernel
theorem dL_law_92 : decode cL_law 92 = .ok (.iadd, 1) := by decide +kernel
theorem dL_law_93 : decode cL_law 93 = .ok (.iaload, 1) := by decide +kernel
theorem dL_law_94 : decode cL_law 94 = .ok (.invokevirtual 13, 3) := by decide +kernel
theorem dL_law_97 : decode cL_law 97 = .ok (.aload_n 2, 1) := by decide +kernel
theorem dL_law_98 : decode cL_law 98 = .ok (.aload_n 0, 1) := by decide +kernel
theorem dL_law_99 : decode cL_law 99 = .ok (.iload_n 3, 1) := by decide +kernel
theorem dL_law_100 : decode cL_law 100 = .ok (.iconst 1, 1) := by decide +kernel
theorem dL_law_101 : decode cL_law 101 = .ok (.iadd, 1) := by decide +kernel
theorem dL_law_102 : decode cL_law 102 = .ok (.iaload, 1) := by decide +kernel
theorem dL_law_103 : decode cL_law 103 = .ok (.invokevirtual 17, 3) := by decide +kernel
theorem dL_law_106 : decode cL_law 106 = .ok (.if_icmp .eq 252, 3) := by decide +kernel
theorem dL_law_109 : decode cL_law 109 = .ok (.iconst 0, 1) := by decide +kernel
theorem dL_law_110 : decode cL_law 110 = .ok (.ireturn, 1) := by decide +kernel
theorem dL_law_111 : decode cL_law 111 = .ok (.aload_n 1, 1) := by decide +kernel
theorem dL_law_112 : decode cL_law 112 = .ok (.aload_n 0, 1) := by decide +kernel
theorem dL_law_113 : decode cL_law 113 = .ok (.iload_n 3, 1) := by decide +kernel
theorem dL_law_114 : decode cL_law 114 = .ok (.iconst 1, 1) := by decide +kernel
theorem dL_law_115 : decode cL_law 115 = .ok (.iadd, 1) := by decide +kernel
theorem dL_law_116 : decode cL_law 116 = .ok (.iaload, 1) := by decide +kernel
theorem dL_law_117 : decode cL_law 117 = .ok (.invokevirtual 18, 3) := by decide +kernel
theorem dL_law_120 : decode cL_law 120 = .ok (.aload_n 2, 1) := by decide +kernel
theorem dL_law_121 : decode cL_law 121 = .ok (.aload_n 0, 1) := by decide +kernel
theorem dL_law_122 : decode cL_law 122 = .ok (.iload_n 3, 1) := by decide +kernel
theorem dL_law_123 : decode cL_law 123 = .ok (.iconst 1, 1) := by decide +kernel
theorem dL_law_124 : decode cL_law 124 = .ok (.iadd, 1) := by decide +kernel
theorem dL_law_125 : decode cL_law 125 = .ok (.iaload, 1) := by decide +kernel
theorem dL_law_126 : decode cL_law 126 = .ok (.invokevirtual 21, 3) := by decide +kernel
theorem dL_law_129 : decode cL_law 129 = .ok (.if_icmp .eq 229, 3) := by decide +kernel
theorem dL_law_132 : decode cL_law 132 = .ok (.iconst 0, 1) := by decide +kernel
theorem dL_law_133 : decode cL_law 133 = .ok (.ireturn, 1) := by decide +kernel
theorem dL_law_134 : decode cL_law 134 = .ok (.aload_n 1, 1) := by decide +kernel
theorem dL_law_135 : decode cL_law 135 = .ok (.aload_n 0, 1) := by decide +kernel
theorem dL_law_136 : decode cL_law 136 = .ok (.iload_n 3, 1) := by decide +kernel
theorem dL_law_137 : decode cL_law 137 = .ok (.iconst 1, 1) := by decide +kernel
theorem dL_law_138 : decode cL_law 138 = .ok (.iadd, 1) := by decide +kernel
theorem dL_law_139 : decode cL_law 139 = .ok (.iaload, 1) := by decide +kernel
theorem dL_law_140 : decode cL_law 140 = .ok (.invokevirtual 22, 3) := by decide +kernel
theorem dL_law_143 : decode cL_law 143 = .ok (.aload_n 2, 1) := by decide +kernel
theorem dL_law_144 : decode cL_law 144 = .ok (.aload_n 0, 1) := by decide +kernel
theorem dL_law_145 : decode cL_law 145 = .ok (.iload_n 3, 1) := by decide +kernel
theorem dL_law_146 : decode cL_law 146 = .ok (.iconst 1, 1) := by decide +kernel
theorem dL_law_147 : decode cL_law 147 = .ok (.iadd, 1) := by decide +kernel
theorem dL_law_148 : decode cL_law 148 = .ok (.iaload, 1) := by decide +kernel
theorem dL_law_149 : decode cL_law 149 = .ok (.invokevirtual 25, 3) := by decide +kernel
theorem dL_law_152 : decode cL_law 152 = .ok (.if_icmp .eq 206, 3) := by decide +kernel
theorem dL_law_155 : decode cL_law 155 = .ok (.iconst 0, 1) := by decide +kernel
theorem dL_law_156 : decode cL_law 156 = .ok (.ireturn, 1) := by decide +kernel
theorem dL_law_157 : decode cL_law 157 = .ok (.aload_n 1, 1) := by decide +kernel
theorem dL_law_158 : decode cL_law 158 = .ok (.aload_n 0, 1) := by decide +kernel
theorem dL_law_159 : decode cL_law 159 = .ok (.iload_n 3, 1) := by decide +kernel
theorem dL_law_160 : decode cL_law 160 = .ok (.iconst 1, 1) := by decide +kernel
theorem dL_law_161 : decode cL_law 161 = .ok (.iadd, 1) := by decide +kernel
theorem dL_law_162 : decode cL_law 162 = .ok (.iaload, 1) := by decide +kernel
theorem dL_law_163 : decode cL_law 163 = .ok (.invokevirtual 26, 3) := by decide +kernel
theorem dL_law_166 : decode cL_law 166 = .ok (.aload_n 2, 1) := by decide +kernel
theorem dL_law_167 : decode cL_law 167 = .ok (.aload_n 0, 1) := by decide +kernel
theorem dL_law_168 : decode cL_law 168 = .ok (.iload_n 3, 1) := by decide +kernel
theorem dL_law_169 : decode cL_law 169 = .ok (.iconst 1, 1) := by decide +kernel
theorem dL_law_170 : decode cL_law 170 = .ok (.iadd, 1) := by decide +kernel
theorem dL_law_171 : decode cL_law 171 = .ok (.iaload, 1) := by decide +kernel
theorem dL_law_172 : decode cL_law 172 = .ok (.invokevirtual 29, 3) := by decide +kernel
theorem dL_law_175 : decode cL_law 175 = .ok (.if_icmp .eq 183, 3) := by decide +kernel
theorem dL_law_178 : decode cL_law 178 = .ok (.iconst 0, 1) := by decide +kernel
theorem dL_law_179 : decode cL_law 179 = .ok (.ireturn, 1) := by decide +kernel
theorem dL_law_180 : decode cL_law 180 = .ok (.aload_n 1, 1) := by decide +kernel
theorem dL_law_181 : decode cL_law 181 = .ok (.invokevirtual 30, 3) := by decide +kernel
theorem dL_law_184 : decode cL_law 184 = .ok (.aload_n 2, 1) := by decide +kernel
theorem dL_law_185 : decode cL_law 185 = .ok (.invokevirtual 34, 3) := by decide +kernel
theorem dL_law_188 : decode cL_law 188 = .ok (.if_icmp .eq 170, 3) := by decide +kernel
theorem dL_law_191 : decode cL_law 191 = .ok (.iconst 0, 1) := by decide +kernel
theorem dL_law_192 : decode cL_law 192 = .ok (.ireturn, 1) := by decide +kernel
theorem dL_law_193 : decode cL_law 193 = .ok (.aload_n 1, 1) := by decide +kernel
theorem dL_law_194 : decode cL_law 194 = .ok (.aload_n 0, 1) := by decide +kernel
theorem dL_law_195 : decode cL_law 195 = .ok (.iload_n 3, 1) := by decide +kernel
theorem dL_law_196 : decode cL_law 196 = .ok (.iconst 1, 1) := by decide +kernel
theorem dL_law_197 : decode cL_law 197 = .ok (.iadd, 1) := by decide +kernel
theorem dL_law_198 : decode cL_law 198 = .ok (.iaload, 1) := by decide +kernel
theorem dL_law_199 : decode cL_law 199 = .ok (.aload_n 0, 1) := by decide +kernel
theorem dL_law_200 : decode cL_law 200 = .ok (.iload_n 3, 1) := by decide +kernel
theorem dL_law_201 : decode cL_law 201 = .ok (.iconst 2, 1) := by decide +kernel
theorem dL_law_202 : decode cL_law 202 = .ok (.iadd, 1) := by decide +kernel
theorem dL_law_203 : decode cL_law 203 = .ok (.iaload, 1) := by decide +kernel
theorem dL_law_204 : decode cL_law 204 = .ok (.invokevirtual 35, 3) := by decide +kernel
theorem dL_law_207 : decode cL_law 207 = .ok (.aload_n 2, 1) := by decide +kernel
theorem dL_law_208 : decode cL_law 208 = .ok (.aload_n 0, 1) := by decide +kernel
theorem dL_law_209 : decode cL_law 209 = .ok (.iload_n 3, 1) := by decide +kernel
theorem dL_law_210 : decode cL_law 210 = .ok (.iconst 1, 1) := by decide +kernel
theorem dL_law_211 : decode cL_law 211 = .ok (.iadd, 1) := by decide +kernel
theorem dL_law_212 : decode cL_law 212 = .ok (.iaload, 1) := by decide +kernel
theorem dL_law_213 : decode cL_law 213 = .ok (.aload_n 0, 1) := by decide +kernel
theorem dL_law_214 : decode cL_law 214 = .ok (.iload_n 3, 1) := by decide +kernel
theorem dL_law_215 : decode cL_law 215 = .ok (.iconst 2, 1) := by decide +kernel
theorem dL_law_216 : decode cL_law 216 = .ok (.iadd, 1) := by decide +kernel
theorem dL_law_217 : decode cL_law 217 = .ok (.iaload, 1) := by decide +kernel
theorem dL_law_218 : decode cL_law 218 = .ok (.invokevirtual 39, 3) := by decide +kernel
theorem dL_law_221 : decode cL_law 221 = .ok (.if_icmp .eq 137, 3) := by decide +kernel
theorem dL_law_224 : decode cL_law 224 = .ok (.iconst 0, 1) := by decide +kernel
theorem dL_law_225 : decode cL_law 225 = .ok (.ireturn, 1) := by decide +kernel
theorem dL_law_226 : decode cL_law 226 = .ok (.aload_n 1, 1) := by decide +kernel
theorem dL_law_227 : decode cL_law 227 = .ok (.aload_n 0, 1) := by decide +kernel
theorem dL_law_228 : decode cL_law 228 = .ok (.iload_n 3, 1) := by decide +kernel
theorem dL_law_229 : decode cL_law 229 = .ok (.iconst 1, 1) := by decide +kernel
theorem dL_law_230 : decode cL_law 230 = .ok (.iadd, 1) := by decide +kernel
theorem dL_law_231 : decode cL_law 231 = .ok (.iaload, 1) := by decide +kernel
theorem dL_law_232 : decode cL_law 232 = .ok (.invokevirtual 40, 3) := by decide +kernel
theorem dL_law_235 : decode cL_law 235 = .ok (.aload_n 2, 1) := by decide +kernel
theorem dL_law_236 : decode cL_law 236 = .ok (.aload_n 0, 1) := by decide +kernel
theorem dL_law_237 : decode cL_law 237 = .ok (.iload_n 3, 1) := by decide +kernel
theorem dL_law_238 : decode cL_law 238 = .ok (.iconst 1, 1) := by decide +kernel
theorem dL_law_239 : decode cL_law 239 = .ok (.iadd, 1) := by decide +kernel
theorem dL_law_240 : decode cL_law 240 = .ok (.iaload, 1) := by decide +kernel
theorem dL_law_241 : decode cL_law 241 = .ok (.invokevirtual 43, 3) := by decide +kernel
theorem dL_law_244 : decode cL_law 244 = .ok (.if_icmp .eq 114, 3) := by decide +kernel
theorem dL_law_247 : decode cL_law 247 = .ok (.iconst 0, 1) := by decide +kernel
theorem dL_law_248 : decode cL_law 248 = .ok (.ireturn, 1) := by decide +kernel
theorem dL_law_249 : decode cL_law 249 = .ok (.aload_n 1, 1) := by decide +kernel
theorem dL_law_250 : decode cL_law 250 = .ok (.invokevirtual 44, 3) := by decide +kernel
theorem dL_law_253 : decode cL_law 253 = .ok (.aload_n 2, 1) := by decide +kernel
theorem dL_law_254 : decode cL_law 254 = .ok (.invokevirtual 47, 3) := by decide +kernel
theorem dL_law_257 : decode cL_law 257 = .ok (.if_icmp .eq 101, 3) := by decide +kernel
theorem dL_law_260 : decode cL_law 260 = .ok (.iconst 0, 1) := by decide +kernel
theorem dL_law_261 : decode cL_law 261 = .ok (.ireturn, 1) := by decide +kernel
theorem dL_law_262 : decode cL_law 262 = .ok (.aload_n 1, 1) := by decide +kernel
theorem dL_law_263 : decode cL_law 263 = .ok (.aload_n 0, 1) := by decide +kernel
theorem dL_law_264 : decode cL_law 264 = .ok (.iload_n 3, 1) := by decide +kernel
theorem dL_law_265 : decode cL_law 265 = .ok (.iconst 1, 1) := by decide +kernel
theorem dL_law_266 : decode cL_law 266 = .ok (.iadd, 1) := by decide +kernel
theorem dL_law_267 : decode cL_law 267 = .ok (.iaload, 1) := by decide +kernel
theorem dL_law_268 : decode cL_law 268 = .ok (.aload_n 0, 1) := by decide +kernel
theorem dL_law_269 : decode cL_law 269 = .ok (.iload_n 3, 1) := by decide +kernel
theorem dL_law_270 : decode cL_law 270 = .ok (.iconst 2, 1) := by decide +kernel
theorem dL_law_271 : decode cL_law 271 = .ok (.iadd, 1) := by decide +kernel
theorem dL_law_272 : decode cL_law 272 = .ok (.iaload, 1) := by decide +kernel
theorem dL_law_273 : decode cL_law 273 = .ok (.aload_n 0, 1) := by decide +kernel
theorem dL_law_274 : decode cL_law 274 = .ok (.iload_n 3, 1) := by decide +kernel
theorem dL_law_275 : decode cL_law 275 = .ok (.iconst 3, 1) := by decide +kernel
theorem dL_law_276 : decode cL_law 276 = .ok (.iadd, 1) := by decide +kernel
theorem dL_law_277 : decode cL_law 277 = .ok (.iaload, 1) := by decide +kernel
theorem dL_law_278 : decode cL_law 278 = .ok (.aload_n 0, 1) := by decide +kernel
theorem dL_law_279 : decode cL_law 279 = .ok (.iload_n 3, 1) := by decide +kernel
theorem dL_law_280 : decode cL_law 280 = .ok (.iconst 4, 1) := by decide +kernel
theorem dL_law_281 : decode cL_law 281 = .ok (.iadd, 1) := by decide +kernel
theorem dL_law_282 : decode cL_law 282 = .ok (.iaload, 1) := by decide +kernel
theorem dL_law_283 : decode cL_law 283 = .ok (.aload_n 0, 1) := by decide +kernel
theorem dL_law_284 : decode cL_law 284 = .ok (.iload_n 3, 1) := by decide +kernel
theorem dL_law_285 : decode cL_law 285 = .ok (.iconst 5, 1) := by decide +kernel
theorem dL_law_286 : decode cL_law 286 = .ok (.iadd, 1) := by decide +kernel
theorem dL_law_287 : decode cL_law 287 = .ok (.iaload, 1) := by decide +kernel
theorem dL_law_288 : decode cL_law 288 = .ok (.invokevirtual 48, 3) := by decide +kernel
theorem dL_law_291 : decode cL_law 291 = .ok (.aload_n 2, 1) := by decide +kernel
theorem dL_law_292 : decode cL_law 292 = .ok (.aload_n 0, 1) := by decide +kernel
theorem dL_law_293 : decode cL_law 293 = .ok (.iload_n 3, 1) := by decide +kernel
theorem dL_law_294 : decode cL_law 294 = .ok (.iconst 1, 1) := by decide +kernel
theorem dL_law_295 : decode cL_law 295 = .ok (.iadd, 1) := by decide +kernel
theorem dL_law_296 : decode cL_law 296 = .ok (.iaload, 1) := by decide +kernel
theorem dL_law_297 : decode cL_law 297 = .ok (.aload_n 0, 1) := by decide +kernel
theorem dL_law_298 : decode cL_law 298 = .ok (.iload_n 3, 1) := by decide +kernel
theorem dL_law_299 : decode cL_law 299 = .ok (.iconst 2, 1) := by decide +kernel
theorem dL_law_300 : decode cL_law 300 = .ok (.iadd, 1) := by decide +kernel
theorem dL_law_301 : decode cL_law 301 = .ok (.iaload, 1) := by decide +kernel
theorem dL_law_302 : decode cL_law 302 = .ok (.aload_n 0, 1) := by decide +kernel
theorem dL_law_303 : decode cL_law 303 = .ok (.iload_n 3, 1) := by decide +kernel
theorem dL_law_304 : decode cL_law 304 = .ok (.iconst 3, 1) := by decide +kernel
theorem dL_law_305 : decode cL_law 305 = .ok (.iadd, 1) := by decide +kernel
theorem dL_law_306 : decode cL_law 306 = .ok (.iaload, 1) := by decide +kernel
theorem dL_law_307 : decode cL_law 307 = .ok (.aload_n 0, 1) := by decide +kernel
theorem dL_law_308 : decode cL_law 308 = .ok (.iload_n 3, 1) := by decide +kernel
theorem dL_law_309 : decode cL_law 309 = .ok (.iconst 4, 1) := by decide +kernel
theorem dL_law_310 : decode cL_law 310 = .ok (.iadd, 1) := by decide +kernel
theorem dL_law_311 : decode cL_law 311 = .ok (.iaload, 1) := by decide +kernel
theorem dL_law_312 : decode cL_law 312 = .ok (.aload_n 0, 1) := by decide +kernel
theorem dL_law_313 : decode cL_law 313 = .ok (.iload_n 3, 1) := by decide +kernel
theorem dL_law_314 : decode cL_law 314 = .ok (.iconst 5, 1) := by decide +kernel
theorem dL_law_315 : decode cL_law 315 = .ok (.iadd, 1) := by decide +kernel
theorem dL_law_316 : decode cL_law 316 = .ok (.iaload, 1) := by decide +kernel
theorem dL_law_317 : decode cL_law 317 = .ok (.invokevirtual 52, 3) := by decide +kernel
theorem dL_law_320 : decode cL_law 320 = .ok (.if_icmp .eq 38, 3) := by decide +kernel
theorem dL_law_323 : decode cL_law 323 = .ok (.iconst 0, 1) := by decide +kernel
theorem dL_law_324 : decode cL_law 324 = .ok (.ireturn, 1) := by decide +kernel
theorem dL_law_325 : decode cL_law 325 = .ok (.aload_n 1, 1) := by decide +kernel
theorem dL_law_326 : decode cL_law 326 = .ok (.aload_n 0, 1) := by decide +kernel
theorem dL_law_327 : decode cL_law 327 = .ok (.iload_n 3, 1) := by decide +kernel
theorem dL_law_328 : decode cL_law 328 = .ok (.iconst 1, 1) := by decide +kernel
theorem dL_law_329 : decode cL_law 329 = .ok (.iadd, 1) := by decide +kernel
theorem dL_law_330 : decode cL_law 330 = .ok (.iaload, 1) := by decide +kernel
theorem dL_law_331 : decode cL_law 331 = .ok (.aload_n 0, 1) := by decide +kernel
theorem dL_law_332 : decode cL_law 332 = .ok (.iload_n 3, 1) := by decide +kernel
theorem dL_law_333 : decode cL_law 333 = .ok (.iconst 2, 1) := by decide +kernel
theorem dL_law_334 : decode cL_law 334 = .ok (.iadd, 1) := by decide +kernel
theorem dL_law_335 : decode cL_law 335 = .ok (.iaload, 1) := by decide +kernel
theorem dL_law_336 : decode cL_law 336 = .ok (.invokevirtual 53, 3) := by decide +kernel
theorem dL_law_339 : decode cL_law 339 = .ok (.aload_n 2, 1) := by decide +kernel
theorem dL_law_340 : decode cL_law 340 = .ok (.aload_n 0, 1) := by decide +kernel
theorem dL_law_341 : decode cL_law 341 = .ok (.iload_n 3, 1) := by decide +kernel
theorem dL_law_342 : decode cL_law 342 = .ok (.iconst 1, 1) := by decide +kernel
theorem dL_law_343 : decode cL_law 343 = .ok (.iadd, 1) := by decide +kernel
theorem dL_law_344 : decode cL_law 344 = .ok (.iaload, 1) := by decide +kernel
theorem dL_law_345 : decode cL_law 345 = .ok (.aload_n 0, 1) := by decide +kernel
theorem dL_law_346 : decode cL_law 346 = .ok (.iload_n 3, 1) := by decide +kernel
theorem dL_law_347 : decode cL_law 347 = .ok (.iconst 2, 1) := by decide +kernel
theorem dL_law_348 : decode cL_law 348 = .ok (.iadd, 1) := by decide +kernel
theorem dL_law_349 : decode cL_law 349 = .ok (.iaload, 1) := by decide +kernel
theorem dL_law_350 : decode cL_law 350 = .ok (.invokevirtual 56, 3) := by decide +kernel
theorem dL_law_353 : decode cL_law 353 = .ok (.if_icmp .eq 5, 3) := by decide +kernel
theorem dL_law_356 : decode cL_law 356 = .ok (.iconst 0, 1) := by decide +kernel
theorem dL_law_357 : decode cL_law 357 = .ok (.ireturn, 1) := by decide +kernel
theorem dL_law_358 : decode cL_law 358 = .ok (.iinc 3 6, 3) := by decide +kernel
theorem dL_law_361 : decode cL_law 361 = .ok (.goto (-343), 3) := by decide +kernel
theorem dL_law_364 : decode cL_law 364 = .ok (.iconst 1, 1) := by decide +kernel
theorem dL_law_365 : decode cL_law 365 = .ok (.ireturn, 1) := by decide +kernel
end
section
/-! BASE: the classes of the worlds, the two worlds, rows of our own over the kit's -/
set_option maxRecDepth 100000
abbrev vwCl : List vw_C := [(RX0, TX0, 5), (RX1, TX1, 6), (RX2, TX2, 10)]
abbrev tyIZ (cI cZ : ClassId) : List (ClassId × FieldType) := [(cI, .int), (cZ, .boolean)]
/-- GroupRows: 0 the object, 1 its group, 2 members, 3 topics, 4 owners, 5 places, 6 counts, 7 sizes, 8 before -/
abbrev wX (ad : Nat → Nat) (cI cZ : ClassId) (tc mv gn : Int32) (mb tp ow pl cn sz bf : Nat → Int32) : va_W :=
  [(ad 0, .inr (0, [.ref (ad 1), .ref (ad 7), .ref (ad 8), .int tc, .int mv])), (ad 1, .inr (1, [.ref (ad 2), .ref (ad 3), .int gn, .ref (ad 4), .ref (ad 5), .ref (ad 6)])), (ad 2, .inl (cZ, 8, .inl mb)), (ad 3, .inl (cZ, 13, .inl tp)), (ad 4, .inl (cI, 72, .inl ow)), (ad 5, .inl (cI, 72, .inl pl)), (ad 6, .inl (cI, 8, .inl cn)), (ad 7, .inl (cI, 13, .inl sz)), (ad 8, .inl (cI, 72, .inl bf))]
/-- GroupRowsModel: 0 the object, 1 parts, 2 isSubscribed, 3 isIn, 4 owner, 5 before, 6 place, 7 has -/
abbrev wM (ad : Nat → Nat) (cI cZ : ClassId) (tc mv gn : Int32) (mb tp ow pl cn sz bf : Nat → Int32) : va_W :=
  [(ad 0, .inr (2, [.ref (ad 1), .ref (ad 2), .ref (ad 3), .ref (ad 4), .ref (ad 5), .ref (ad 6), .ref (ad 7), .int tc, .int gn, .int mv])), (ad 1, .inl (cI, 13, .inl sz)), (ad 2, .inl (cZ, 13, .inl tp)), (ad 3, .inl (cZ, 8, .inl mb)), (ad 4, .inl (cI, 72, .inl ow)), (ad 5, .inl (cI, 72, .inl bf)), (ad 6, .inl (cI, 72, .inl pl)), (ad 7, .inl (cI, 8, .inl cn))]
/-- a world at a point of a walk -/
abbrev Wl (D : va_G) (A : Nat → Prop) (ws : va_W) (s : State) (H : Heap) (locs : List Loc) : Prop := va_P D vwCl ws H ∧ va_D A ws ∧ va_S A s.heap H locs
/-- the start of a method that only reads, and of one that writes -/
abbrev PcR (D : va_G) (tys : List (ClassId × FieldType)) (ws : va_W) (av : List Value) : Array Value → State → Prop := va_Pc av (fun U => va_P D vwCl ws U.heap ∧ va_K D vwCl tys U)
abbrev PcM (D : va_G) (tys : List (ClassId × FieldType)) (ws : va_W) (sz0 : Nat) (av : List Value) : Array Value → State → Prop := va_Pc av (fun U => U.heap.size = sz0 ∧ va_P D vwCl ws U.heap ∧ va_K D vwCl tys U ∧ va_D (fun _ => True) ws)
theorem blR {D : va_G} {tys : List (ClassId × FieldType)} {ws : va_W} {av : List Value} : FrameBlind (PcR D tys ws av) := fun a U g mk q => by
  obtain ⟨q0, qP, qK⟩ := q
  exact ⟨q0, qP, va_K.moved (u := U) (U := U.calling g mk a) (Vm.Alike.refl U.vm) qK⟩
theorem blM {D : va_G} {tys : List (ClassId × FieldType)} {ws : va_W} {sz0 : Nat} {av : List Value} : FrameBlind (PcM D tys ws sz0 av) := fun a U g mk q => by
  obtain ⟨q0, q1, qP, qK, qD⟩ := q
  exact ⟨q0, q1, qP, va_K.moved (u := U) (U := U.calling g mk a) (Vm.Alike.refl U.vm) qK, qD⟩
theorem prR {D : va_G} {tys : List (ClassId × FieldType)} {ws : va_W} {av : List Value} {s : State} {H : Heap} (hP : va_P D vwCl ws H) (hK : va_K D vwCl tys s) : ∀ U : State, U.heap = H → s.WarmedH U.vm → PcR D tys ws av av.toArray U := fun U hU hW => ⟨rfl, by rw [hU]; exact hP, va_K.moved hW.alike hK⟩
theorem prM {D : va_G} {tys : List (ClassId × FieldType)} {ws : va_W} {av : List Value} {s : State} {H : Heap} {A : Nat → Prop} (hP : va_P D vwCl ws H) (hD : va_D A ws) (hK : va_K D vwCl tys s) : ∀ U : State, U.heap = H → s.WarmedH U.vm → PcM D tys ws H.size av av.toArray U := fun U hU hW => ⟨rfl, by rw [hU], by rw [hU]; exact hP, va_K.moved hW.alike hK, hD.weaken (fun _ _ _ _ => trivial)⟩
theorem arrV_ext (cA : ClassId) {n : Nat} {f g : Nat → Value} (h : ∀ j, j < n → f j = g j) : arrV cA n f = arrV cA n g := by
  unfold arrV
  have e : (fun j : Fin n => f j.val) = fun j : Fin n => g j.val := funext fun j => h j.1 j.2
  rw [e]
/-- contents that agree on the range may be swapped -/
theorem g_ext {D : va_G} {cl : List vw_C} {ws : va_W} {H : Heap} {a : Nat} {cA : ClassId} {n : Nat} {f g : Nat → Int32} (hP : va_P D cl ws H) (q0 : Nat) (he : ws[q0]? = some (a, .inl (cA, n, .inl f))) (h : ∀ j, j < n → f j = g j) : va_P D cl (ws.set q0 (a, .inl (cA, n, .inl g))) H := by
  have hl := (List.getElem?_eq_some_iff.mp he).1
  intro k q hk
  by_cases hkp : k = q0
  · subst hkp
    rw [List.getElem?_set_self hl] at hk
    cases hk
    have h1 : H[a]? = some (vp_cell cA (n, .inl f)) := hP k _ he
    show H[a]? = some (vp_cell cA (n, .inl g))
    rw [h1, vp_cell_i, vp_cell_i, arrV_ext cA (fun j hj => by rw [h j hj])]
  · rw [List.getElem?_set_ne (Ne.symm hkp)] at hk
    exact hP k q hk
theorem nI_inc (i : Nat) : nI i + Int32.ofInt 1 = nI (i + 1) := nI_1 i
section GR
variable {p : Program} {l : Launch} {e : Env} {R : Room} {s : State} {m : MethodId} {args : Array Value} {below : List Frame} {meth : Method} {c : Code} {H : Heap} {locs : List Loc} {cells slots : Nat} {Q : State → Prop}
variable {cc : ByteArray} {pc : Nat} {ls : Array Slot} {rest : List Value} {D : va_G} {cl : List vw_C} {A : Nat → Prop} {a : Nat} {tys : List (ClassId × FieldType)} {ws : va_W} {H0 : Heap}
theorem g_top {x : Int32} (y : Int32) (h : x = y) (k : W p l e R s m args below meth c H locs cells slots Q (F0 m pc ls (.int y :: rest))) : W p l e R s m args below meth c H locs cells slots Q (F0 m pc ls (.int x :: rest)) := by
  rw [h]; exact k
theorem g_iald (hexec : p.tables.exec = Jvm.exec) (hb : c.code = cc) (hK : va_K D cl tys s) (hP : va_P D cl ws H) (q0 t0 : Nat) {cA : ClassId} {n : Nat} {f : Nat → Int32} (ha : ws[q0]? = some (a, .inl (cA, n, .inl f))) (ht : tys[t0]? = some (cA, .int)) {i : Int32} (j : Nat) (hi : i = nI j) (hj : j < n) (hn : n < 2 ^ 31) (hdg : decode cc pc = .ok (.iaload, 1))
    (kk : W p l e R s m args below meth c H locs cells slots Q (F0 m (pc + 1) ls (.int (f j) :: rest))) : W p l e R s m args below meth c H locs cells slots Q (F0 m pc ls (.int i :: .ref a :: rest)) := by
  subst hi
  refine va_iald hexec hb hK hP q0 t0 ha ht (vp_in_nI hj hn) hdg ?_
  rw [nI_clamp (Nat.lt_trans hj hn)]
  exact kk
theorem g_zald (hexec : p.tables.exec = Jvm.exec) (hb : c.code = cc) (hK : va_K D cl tys s) (hP : va_P D cl ws H) (q0 t0 : Nat) {cA : ClassId} {n : Nat} {f : Nat → Int32} (ha : ws[q0]? = some (a, .inl (cA, n, .inl f))) (ht : tys[t0]? = some (cA, .boolean)) {i : Int32} (j : Nat) (hi : i = nI j) (hj : j < n) (hn : n < 2 ^ 31) (hdg : decode cc pc = .ok (.baload, 1))
    (kk : W p l e R s m args below meth c H locs cells slots Q (F0 m (pc + 1) ls (.int (f j) :: rest))) : W p l e R s m args below meth c H locs cells slots Q (F0 m pc ls (.int i :: .ref a :: rest)) := by
  subst hi
  refine va_zald hexec hb hK hP q0 t0 ha ht (vp_in_nI hj hn) hdg ?_
  rw [nI_clamp (Nat.lt_trans hj hn)]
  exact kk
theorem g_iast (hexec : p.tables.exec = Jvm.exec) (hb : c.code = cc) (hK : va_K D cl tys s) (hP : va_P D cl ws H) (hD : va_D A ws) (hS : va_S A H0 H locs) (q0 t0 : Nat) {cA : ClassId} {n : Nat} {f : Nat → Int32} (ha : ws[q0]? = some (a, .inl (cA, n, .inl f))) (ht : tys[t0]? = some (cA, .int)) {i x : Int32} (j : Nat) (hi : i = nI j) (hj : j < n) (hn : n < 2 ^ 31) (hdg : decode cc pc = .ok (.iastore, 1))
    (kk : ∀ (H1 : Heap) (locs1 : List Loc), va_P D cl (ws.set q0 (a, .inl (cA, n, .inl (upd f j x)))) H1 → va_D A (ws.set q0 (a, .inl (cA, n, .inl (upd f j x)))) → va_S A H0 H1 locs1 → W p l e R s m args below meth c H1 locs1 cells slots Q (F0 m (pc + 1) ls rest)) : W p l e R s m args below meth c H locs cells slots Q (F0 m pc ls (.int x :: .int i :: .ref a :: rest)) := by
  subst hi
  refine va_iast hexec hb hK hP hD hS q0 t0 ha ht (vp_in_nI hj hn) hdg fun H1 l1 h1 h2 h3 => ?_
  rw [nI_clamp (Nat.lt_trans hj hn)] at h1 h2
  exact kk H1 l1 h1 h2 h3
theorem g_zastr (hexec : p.tables.exec = Jvm.exec) (hb : c.code = cc) (hK : va_K D cl tys s) (hP : va_P D cl ws H) (hD : va_D A ws) (hS : va_S A H0 H locs) (q0 t0 : Nat) {cA : ClassId} {n : Nat} {f : Nat → Int32} (ha : ws[q0]? = some (a, .inl (cA, n, .inl f))) (ht : tys[t0]? = some (cA, .boolean)) {i x : Int32} (hin : vp_in i n) (hx : vp_nar .boolean x = x) (hdg : decode cc pc = .ok (.bastore, 1))
    (kk : ∀ (H1 : Heap) (locs1 : List Loc), va_P D cl (ws.set q0 (a, .inl (cA, n, .inl (upd f i.toNatClampNeg x)))) H1 → va_D A (ws.set q0 (a, .inl (cA, n, .inl (upd f i.toNatClampNeg x)))) → va_S A H0 H1 locs1 → W p l e R s m args below meth c H1 locs1 cells slots Q (F0 m (pc + 1) ls rest)) : W p l e R s m args below meth c H locs cells slots Q (F0 m pc ls (.int x :: .int i :: .ref a :: rest)) := by
  refine va_zast hexec hb hK hP hD hS q0 t0 ha ht hin hdg fun H1 l1 h1 h2 h3 => ?_
  rw [hx] at h1 h2
  exact kk H1 l1 h1 h2 h3
theorem g_newaI (hexec : p.tables.exec = Jvm.exec) (hb : c.code = cc) (harr : (Cond.arrayClass .int).before args s = true) {cI : ClassId} (t0 : Nat) (ht : tys[t0]? = some (cI, .int)) (hK : va_K D cl tys s) (hP : va_P D cl ws H) (hD : va_D A ws) (hS : va_S A H0 H locs) (hA : ∀ q, H0.size ≤ q → A q)
    {n : Int32} (N : Nat) (hn : ¬ n < 0) (hN : n.toNatClampNeg = N) (hbytes : N * componentBytes .int ≤ 536870912) (hcells : cells + 1 ≤ R.cells) (hslots : slots + N ≤ R.slots) (hdg : decode cc pc = .ok (.newarray .int, 2))
    (kk : ∀ (q : Nat) (H1 : Heap), va_P D cl (ws ++ [(q, .inl (cI, N, .inl (fun _ => 0)))]) H1 → va_D A (ws ++ [(q, .inl (cI, N, .inl (fun _ => 0)))]) → va_S A H0 H1 locs → W p l e R s m args below meth c H1 locs (cells + 1) (slots + N) Q (F0 m (pc + 2) ls (.ref q :: rest))) : W p l e R s m args below meth c H locs cells slots Q (F0 m pc ls (.int n :: rest)) := by
  refine va_newa (atype := .int) (ty := .int) (a0 := (N, .inl (fun _ => 0))) hexec hb harr rfl hK hP hD hS hA (fun cA => rfl) hn hN hbytes hcells hslots hdg fun q cA H1 hK1 hP1 hD1 hS1 => ?_
  have e1 : s.vm.findClass ("[" ++ FieldType.int.toString) = some cI := (hK.2 t0 _ ht).2
  have e2 : s.vm.findClass ("[" ++ FieldType.int.toString) = some cA := (hK1.2 tys.length (cA, .int) (by simp)).2
  obtain rfl : cI = cA := Option.some.inj (e1.symm.trans e2)
  exact kk q H1 hP1 hD1 hS1
theorem g_newaZ (hexec : p.tables.exec = Jvm.exec) (hb : c.code = cc) (harr : (Cond.arrayClass .boolean).before args s = true) {cI : ClassId} (t0 : Nat) (ht : tys[t0]? = some (cI, .boolean)) (hK : va_K D cl tys s) (hP : va_P D cl ws H) (hD : va_D A ws) (hS : va_S A H0 H locs) (hA : ∀ q, H0.size ≤ q → A q)
    {n : Int32} (N : Nat) (hn : ¬ n < 0) (hN : n.toNatClampNeg = N) (hbytes : N * componentBytes .boolean ≤ 536870912) (hcells : cells + 1 ≤ R.cells) (hslots : slots + N ≤ R.slots) (hdg : decode cc pc = .ok (.newarray .boolean, 2))
    (kk : ∀ (q : Nat) (H1 : Heap), va_P D cl (ws ++ [(q, .inl (cI, N, .inl (fun _ => 0)))]) H1 → va_D A (ws ++ [(q, .inl (cI, N, .inl (fun _ => 0)))]) → va_S A H0 H1 locs → W p l e R s m args below meth c H1 locs (cells + 1) (slots + N) Q (F0 m (pc + 2) ls (.ref q :: rest))) : W p l e R s m args below meth c H locs cells slots Q (F0 m pc ls (.int n :: rest)) := by
  refine va_newa (atype := .boolean) (ty := .boolean) (a0 := (N, .inl (fun _ => 0))) hexec hb harr rfl hK hP hD hS hA (fun cA => rfl) hn hN hbytes hcells hslots hdg fun q cA H1 hK1 hP1 hD1 hS1 => ?_
  have e1 : s.vm.findClass ("[" ++ FieldType.boolean.toString) = some cI := (hK.2 t0 _ ht).2
  have e2 : s.vm.findClass ("[" ++ FieldType.boolean.toString) = some cA := (hK1.2 tys.length (cA, .boolean) (by simp)).2
  obtain rfl : cI = cA := Option.some.inj (e1.symm.trans e2)
  exact kk q H1 hP1 hD1 hS1
end GR
end
section
/-! PURE: what the methods compute, and the plain laws (no program in sight) -/
abbrev sh (tp sz : Nat → Int32) (k : Nat) : Prop := tp (k / 6 + 1) ≠ 0 ∧ nI (k % 6) < sz (k / 6 + 1)
def isMb (m : Int32) : Int32 := if m < 0 ∨ 8 ≤ m then 0 else 1
def fewI (mb cn : Nat → Int32) : Nat → Int32
  | 0 => -1
  | n + 1 => if mb n ≠ 0 ∧ (fewI mb cn n < 0 ∨ cn n < cn (fewI mb cn n).toNatClampNeg) then nI n else fewI mb cn n
def memI (mb : Nat → Int32) : Nat → Int32
  | 0 => 0
  | n + 1 => if mb n ≠ 0 then memI mb n + 1 else memI mb n
def sumT (tp sz : Nat → Int32) : Nat → Int32
  | 0 => 0
  | n + 1 => if tp (n + 1) ≠ 0 then sumT tp sz n + sz (n + 1) else sumT tp sz n
def cntS (tp sz : Nat → Int32) : Nat → Int32
  | 0 => 0
  | k + 1 => if sh tp sz k then cntS tp sz k + 1 else cntS tp sz k
def cntE (ow : Nat → Int32) (m : Int32) : Nat → Int32
  | 0 => 0
  | n + 1 => if ow n = m then cntE ow m n + 1 else cntE ow m n
def mvI (a b : Nat → Int32) : Nat → Int32
  | 0 => 0
  | n + 1 => if a n = b n then mvI a b n else mvI a b n + 1
def oth (cn : Nat → Int32) (m each : Int32) : Nat → Int32
  | 0 => 0
  | n + 1 => if ¬ nI n = m ∧ each < cn n then oth cn m each n + 1 else oth cn m each n
def gtN (cn : Nat → Int32) (each : Int32) : Nat → Int32
  | 0 => 0
  | n + 1 => if each < cn n then gtN cn each n + 1 else gtN cn each n
abbrev may (mb cn : Nat → Int32) (each more ab o : Int32) : Prop := ¬ o < 0 ∧ mb o.toNatClampNeg ≠ 0 ∧ (cn o.toNatClampNeg < each ∨ (cn o.toNatClampNeg = each ∧ ab < more))
abbrev mayM (mb cn : Nat → Int32) (each more o : Int32) : Prop := ¬ o < 0 ∧ mb o.toNatClampNeg ≠ 0 ∧ (cn o.toNatClampNeg < each ∨ (cn o.toNatClampNeg = each ∧ oth cn o each 8 < more))
abbrev FF : Type := Nat → Int32
def kpS (tp sz mb : FF) (each more : Int32) (k : Nat) (q : FF × FF × Int32) : FF × FF × Int32 :=
  if sh tp sz k then
    if may mb q.2.1 each more q.2.2 (q.1 k) then (q.1, upd q.2.1 (q.1 k).toNatClampNeg (q.2.1 (q.1 k).toNatClampNeg + 1), if q.2.1 (q.1 k).toNatClampNeg = each then q.2.2 + 1 else q.2.2)
    else (upd q.1 k (-1), q.2.1, q.2.2)
  else q
def kpC (tp sz mb : FF) (each more : Int32) (ow cn : FF) : Nat → FF × FF × Int32
  | 0 => (ow, cn, 0)
  | k + 1 => kpS tp sz mb each more k (kpC tp sz mb each more ow cn k)
def kmS (tp sz mb : FF) (each more : Int32) (k : Nat) (q : FF × FF) : FF × FF :=
  if sh tp sz k then
    if mayM mb q.2 each more (q.1 k) then (q.1, upd q.2 (q.1 k).toNatClampNeg (q.2 (q.1 k).toNatClampNeg + 1))
    else (upd q.1 k (-1), q.2)
  else q
def kmC (tp sz mb : FF) (each more : Int32) (ow cn : FF) : Nat → FF × FF
  | 0 => (ow, cn)
  | k + 1 => kmS tp sz mb each more k (kmC tp sz mb each more ow cn k)
def flS (tp sz mb : FF) (k : Nat) (q : FF × FF) : FF × FF :=
  if sh tp sz k ∧ q.1 k < 0 then (upd q.1 k (fewI mb q.2 8), upd q.2 (fewI mb q.2 8).toNatClampNeg (q.2 (fewI mb q.2 8).toNatClampNeg + 1)) else q
def flC (tp sz mb : FF) (q0 : FF × FF) : Nat → FF × FF
  | 0 => q0
  | k + 1 => flS tp sz mb k (flC tp sz mb q0 k)
abbrev eachC (tp sz mb : FF) : Int32 := sumT tp sz 12 / memI mb 8
abbrev moreC (tp sz mb : FF) : Int32 := sumT tp sz 12 - sumT tp sz 12 / memI mb 8 * memI mb 8
abbrev keptC (tp sz mb ow : FF) : FF × FF × Int32 := kpC tp sz mb (eachC tp sz mb) (moreC tp sz mb) ow (fun _ => 0) 72
def dealO (tp sz mb ow : FF) : FF := if memI mb 8 = 0 then (fun _ => -1) else (flC tp sz mb ((keptC tp sz mb ow).1, (keptC tp sz mb ow).2.1) 72).1
abbrev eachM (tp sz mb : FF) : Int32 := cntS tp sz 72 / memI mb 8
abbrev moreM (tp sz mb : FF) : Int32 := cntS tp sz 72 - cntS tp sz 72 / memI mb 8 * memI mb 8
abbrev keptM (tp sz mb ow : FF) : FF × FF := kmC tp sz mb (eachM tp sz mb) (moreM tp sz mb) ow (fun _ => 0) 72
def dealM (tp sz mb ow : FF) : FF := if memI mb 8 ≤ 0 then (keptM tp sz mb ow).1 else (flC tp sz mb (keptM tp sz mb ow) 72).1
def WFo (ow : FF) : Prop := ∀ k, k < 72 → ow k = -1 ∨ ∃ j, j < 8 ∧ ow k = nI j
def WFt (tc : Int32) (tp : FF) : Prop := ∃ n, n ≤ 12 ∧ tc = nI n ∧ ∀ t, t < 13 → n < t → tp t = 0
def WFs (sz : FF) : Prop := ∀ t, t < 13 → ∃ z, z ≤ 6 ∧ sz t = nI z
def WFb (f : FF) (n : Nat) : Prop := ∀ j, j < n → f j = 0 ∨ f j = 1
def WFu (tp sz ow : FF) : Prop := ∀ k, k < 72 → ¬ sh tp sz k → ow k = -1
def WF (tc : Int32) (mb tp ow sz : FF) : Prop := WFt tc tp ∧ WFs sz ∧ WFb tp 13 ∧ WFb mb 8 ∧ WFo ow ∧ WFu tp sz ow
abbrev US : Type := Int32 × Int32 × Int32 × FF × FF × FF × FF × FF
def dealU (tc gn : Int32) (mb tp ow pl sz : FF) : US := (tc, mvI ow (dealO tp sz mb ow) 72, gn + 1, mb, tp, dealO tp sz mb ow, pl, sz)
abbrev pcd (tc : Int32) (sz : FF) (t p : Int32) : Prop := t < 1 ∨ tc < t ∨ p < 0 ∨ sz t.toNatClampNeg ≤ p
def partI (tc : Int32) (sz : FF) (t p : Int32) : Int32 := if pcd tc sz t p then -1 else (t - 1) * 6 + p
def isPt (tc : Int32) (sz : FF) (t p : Int32) : Int32 := if pcd tc sz t p then 0 else 1
def cellV (tc : Int32) (sz f : FF) (t p : Int32) : Int32 := if pcd tc sz t p then -2 else f ((t - 1) * 6 + p).toNatClampNeg
def heldV (ow : FF) (m : Int32) : Int32 := if m < 0 ∨ 8 ≤ m then -1 else cntE ow m 72
def topP (n tc mv gn : Int32) (mb tp ow pl sz : FF) (r : Int32) (u : US) : Prop :=
  ((n < 1 ∨ 6 < n ∨ tc = 12) ∧ r = -1 ∧ u = (tc, mv, gn, mb, tp, ow, pl, sz)) ∨ (¬ (n < 1 ∨ 6 < n ∨ tc = 12) ∧ r = tc + 1 ∧ u = (tc + 1, mv, gn, mb, tp, ow, pl, upd sz (tc + 1).toNatClampNeg n))
def subP (t tc mv gn : Int32) (mb tp ow pl sz : FF) (r : Int32) (u : US) : Prop :=
  ((t < 1 ∨ tc < t ∨ ¬ tp t.toNatClampNeg = 0) ∧ r = -1 ∧ u = (tc, mv, gn, mb, tp, ow, pl, sz)) ∨ (¬ (t < 1 ∨ tc < t ∨ ¬ tp t.toNatClampNeg = 0) ∧ r = gn + 1 ∧ u = dealU tc gn mb (upd tp t.toNatClampNeg 1) ow pl sz)
def chP (v m tc mv gn : Int32) (mb tp ow pl sz : FF) (r : Int32) (u : US) : Prop :=
  ((m < 0 ∨ 8 ≤ m ∨ mb m.toNatClampNeg = v) ∧ r = -1 ∧ u = (tc, mv, gn, mb, tp, ow, pl, sz)) ∨ (¬ (m < 0 ∨ 8 ≤ m ∨ mb m.toNatClampNeg = v) ∧ r = gn + 1 ∧ u = dealU tc gn (upd mb m.toNatClampNeg v) tp ow pl sz)
def plP (m g t p v tc mv gn : Int32) (mb tp ow pl sz : FF) (r : Int32) (u : US) : Prop :=
  ((pcd tc sz t p ∨ m < 0 ∨ 8 ≤ m ∨ v < 0) ∧ r = -1 ∧ u = (tc, mv, gn, mb, tp, ow, pl, sz)) ∨
  (¬ (pcd tc sz t p ∨ m < 0 ∨ 8 ≤ m ∨ v < 0) ∧ ¬ (g = gn ∧ ow ((t - 1) * 6 + p).toNatClampNeg = m) ∧ r = -2 ∧ u = (tc, mv, gn, mb, tp, ow, pl, sz)) ∨
  (¬ (pcd tc sz t p ∨ m < 0 ∨ 8 ≤ m ∨ v < 0) ∧ (g = gn ∧ ow ((t - 1) * 6 + p).toNatClampNeg = m) ∧ r = 0 ∧ u = (tc, mv, gn, mb, tp, ow, upd pl ((t - 1) * 6 + p).toNatClampNeg v, sz))
-- numbers
theorem nIr (j : Nat) (h : j < 2 ^ 31) : ¬ nI j < 0 := nI_pos h
theorem nI_m1 {j : Nat} (h : j < 2 ^ 31) : ¬ nI j = -1 := by
  intro q
  have h1 := nI_pos h
  rw [q] at h1
  exact h1 (by decide)
theorem i_lt_succ {x y : Int32} (h : x < y) : ¬ y < x + 1 := by
  rw [Int32.lt_iff_toInt_lt] at h ⊢
  have h1 := Int32.toInt_lt y
  have h2 := Int32.le_toInt x
  rw [Int32.toInt_add, Int32.toInt_one, Int.bmod_eq_of_le (by omega) (by omega)]
  omega
theorem nI_lt_succ {n : Nat} (h : n + 1 < 2 ^ 31) : nI n < nI n + 1 := by
  rw [nI_1]
  exact nI_lt (Nat.lt_succ_self n) h
theorem upd_s (f : FF) (k : Nat) (x : Int32) : upd f k x k = x := pk_us
theorem upd_n (f : FF) {k j : Nat} (x : Int32) (h : j ≠ k) : upd f k x j = f j := pk_un h
-- fewest
theorem fewI_rng (mb cn : FF) : ∀ n, n < 2 ^ 31 → fewI mb cn n = -1 ∨ ∃ j, j < n ∧ fewI mb cn n = nI j := by
  intro n
  induction n with
  | zero => intro _; exact Or.inl rfl
  | succ n ih =>
    intro hn
    by_cases h : mb n ≠ 0 ∧ (fewI mb cn n < 0 ∨ cn n < cn (fewI mb cn n).toNatClampNeg)
    · exact Or.inr ⟨n, Nat.lt_succ_self n, by rw [fewI, if_pos h]⟩
    · rw [fewI, if_neg h]
      rcases ih (by omega) with q | ⟨j, q1, q2⟩
      · exact Or.inl q
      · exact Or.inr ⟨j, by omega, q2⟩
theorem fewI_pos (mb cn : FF) : ∀ n, n < 2 ^ 31 → (∃ j, j < n ∧ ¬ mb j = 0) → ∃ j, j < n ∧ fewI mb cn n = nI j := by
  intro n
  induction n with
  | zero => intro _ h; obtain ⟨j, h1, -⟩ := h; exact absurd h1 (by omega)
  | succ n ih =>
    intro hn h
    by_cases hc : mb n ≠ 0 ∧ (fewI mb cn n < 0 ∨ cn n < cn (fewI mb cn n).toNatClampNeg)
    · exact ⟨n, Nat.lt_succ_self n, by rw [fewI, if_pos hc]⟩
    · rw [fewI, if_neg hc]
      by_cases hm : mb n = 0
      · obtain ⟨j, h1, h2⟩ := h
        have hj : j < n := by
          rcases Nat.lt_or_ge j n with q | q
          · exact q
          · exact absurd hm (by rw [show n = j by omega]; exact h2)
        obtain ⟨i, q1, q2⟩ := ih (by omega) ⟨j, hj, h2⟩
        exact ⟨i, by omega, q2⟩
      · rcases fewI_rng mb cn n (by omega) with q | ⟨i, q1, q2⟩
        · exact absurd ⟨hm, Or.inl (by rw [q]; decide)⟩ hc
        · exact ⟨i, by omega, q2⟩
-- members
theorem memI_nI (mb : FF) : ∀ n, ∃ c, c ≤ n ∧ memI mb n = nI c ∧ (c = 0 ↔ ∀ j, j < n → mb j = 0) := by
  intro n
  induction n with
  | zero => exact ⟨0, Nat.le_refl 0, rfl, ⟨fun _ j h => absurd h (by omega), fun _ => rfl⟩⟩
  | succ n ih =>
    obtain ⟨c, h1, h2, h3⟩ := ih
    by_cases h : mb n ≠ 0
    · refine ⟨c + 1, by omega, by rw [memI, if_pos h, h2, nI_1], ⟨fun q => absurd q (by omega), fun q => absurd (q n (Nat.lt_succ_self n)) h⟩⟩
    · refine ⟨c, by omega, by rw [memI, if_neg h, h2], ⟨fun q j hj => ?_, fun q => h3.mpr fun j hj => q j (by omega)⟩⟩
      rcases Nat.lt_or_ge j n with r | r
      · exact h3.mp q j r
      · rw [show j = n by omega]; exact Decidable.not_not.mp h
theorem memI_ne {mb : FF} {j : Nat} (hj : j < 8) (h : ¬ mb j = 0) : ¬ memI mb 8 = 0 := by
  obtain ⟨c, h1, h2, h3⟩ := memI_nI mb 8
  intro q
  rw [h2] at q
  have hc : c = 0 := (nI_eq (b := 0) (by omega) (by omega)).mp q
  exact h (h3.mp hc j hj)
theorem memI_ex {mb : FF} (h : ¬ memI mb 8 = 0) : ∃ j, j < 8 ∧ ¬ mb j = 0 := by
  obtain ⟨c, h1, h2, h3⟩ := memI_nI mb 8
  refine Classical.byContradiction fun q => h ?_
  have hc : c = 0 := h3.mpr fun j hj => Classical.byContradiction fun r => q ⟨j, hj, r⟩
  rw [h2, hc]; rfl
theorem memI_le {mb : FF} : memI mb 8 ≤ 0 ↔ memI mb 8 = 0 := by
  obtain ⟨c, h1, h2, h3⟩ := memI_nI mb 8
  constructor
  · intro q
    rw [h2] at q ⊢
    have hc : c ≤ 0 := (nI_leI (b := 0) (by omega) (by omega)).mp q
    rw [show c = 0 by omega]; rfl
  · intro q
    rw [q]; decide
-- shared parts
theorem sh_at (tp sz : FF) {i p : Nat} (hp : p < 6) : sh tp sz (6 * i + p) ↔ (tp (i + 1) ≠ 0 ∧ nI p < sz (i + 1)) := by
  have h1 : (6 * i + p) / 6 = i := by omega
  have h2 : (6 * i + p) % 6 = p := by omega
  unfold sh
  rw [h1, h2]
theorem cntS_nI (tp sz : FF) : ∀ n, ∃ c, c ≤ n ∧ cntS tp sz n = nI c := by
  intro n
  induction n with
  | zero => exact ⟨0, Nat.le_refl 0, rfl⟩
  | succ n ih =>
    obtain ⟨c, h1, h2⟩ := ih
    by_cases h : sh tp sz n
    · exact ⟨c + 1, by omega, by rw [cntS, if_pos h, h2, nI_1]⟩
    · exact ⟨c, by omega, by rw [cntS, if_neg h, h2]⟩
theorem cntS_part (tp sz : FF) (i : Nat) (z : Nat) (hz : z ≤ 6) (hs : sz (i + 1) = nI z) (ht : tp (i + 1) ≠ 0) : ∀ p, p ≤ 6 → cntS tp sz (6 * i + p) = cntS tp sz (6 * i) + nI (if p ≤ z then p else z) := by
  intro p
  induction p with
  | zero => intro _; rw [if_pos (Nat.zero_le z)]; show _ = _ + 0; rw [Int32.add_zero]; rfl
  | succ p ih =>
    intro hp
    have h1 := ih (by omega)
    have h2 := sh_at tp sz (i := i) (p := p) (by omega)
    show cntS tp sz (6 * i + p + 1) = _
    rw [cntS]
    by_cases hc : p < z
    · rw [if_pos (h2.mpr ⟨ht, by rw [hs]; exact nI_lt hc (by omega)⟩), h1, if_pos (by omega), if_pos (by omega), Int32.add_assoc, nI_1]
    · have hn : ¬ sh tp sz (6 * i + p) := fun q => by
        have q2 := (h2.mp q).2
        rw [hs] at q2
        exact hc ((nI_ltI (by omega) (by omega)).mp q2)
      rw [if_neg hn, h1, if_neg (show ¬ p + 1 ≤ z by omega)]
      by_cases hp2 : p ≤ z
      · rw [if_pos hp2, show p = z by omega]
      · rw [if_neg hp2]
theorem cntS_none (tp sz : FF) (i : Nat) (ht : tp (i + 1) = 0) : ∀ p, p ≤ 6 → cntS tp sz (6 * i + p) = cntS tp sz (6 * i) := by
  intro p
  induction p with
  | zero => intro _; rfl
  | succ p ih =>
    intro hp
    have hn : ¬ sh tp sz (6 * i + p) := fun q => ((sh_at tp sz (i := i) (p := p) (by omega)).mp q).1 ht
    show cntS tp sz (6 * i + p + 1) = _
    rw [cntS, if_neg hn, ih (by omega)]
theorem sum_cnt {tp sz : FF} (hs : WFs sz) : ∀ i, i ≤ 12 → sumT tp sz i = cntS tp sz (6 * i) := by
  intro i
  induction i with
  | zero => intro _; rfl
  | succ i ih =>
    intro hi
    have h1 := ih (by omega)
    obtain ⟨z, hz, ez⟩ := hs (i + 1) (by omega)
    rw [show 6 * (i + 1) = 6 * i + 6 by omega]
    by_cases ht : tp (i + 1) ≠ 0
    · rw [sumT, if_pos ht, cntS_part tp sz i z hz ez ht 6 (Nat.le_refl 6), h1, ez]
      by_cases h6 : 6 ≤ z
      · rw [if_pos h6, show z = 6 by omega]
      · rw [if_neg h6]
    · rw [sumT, if_neg ht, cntS_none tp sz i (Decidable.not_not.mp ht) 6 (Nat.le_refl 6), h1]
theorem sum_cnt12 {tp sz : FF} (hs : WFs sz) : sumT tp sz 12 = cntS tp sz 72 := sum_cnt hs 12 (Nat.le_refl 12)
theorem each_ok {tp sz mb : FF} (hs : WFs sz) (hm : ¬ memI mb 8 = 0) : eachC tp sz mb < eachC tp sz mb + 1 := by
  obtain ⟨c, h1, h2⟩ := cntS_nI tp sz 72
  obtain ⟨d, h3, h4, h5⟩ := memI_nI mb 8
  have hd : 0 < d := by
    rcases Nat.eq_zero_or_pos d with q | q
    · exact absurd (by rw [h4, q]; rfl) hm
    · exact q
  have hq : c / d ≤ c := Nat.div_le_self c d
  unfold eachC
  rw [sum_cnt12 hs, h2, h4, pk_div (by omega) hd (by omega)]
  exact nI_lt_succ (by omega)
-- counting
theorem oth_gtN (cn : FF) {j : Nat} (hj : j < 2 ^ 31) {each : Int32} (h : ¬ each < cn j) : ∀ n, n < 2 ^ 31 → oth cn (nI j) each n = gtN cn each n := by
  intro n
  induction n with
  | zero => intro _; rfl
  | succ n ih =>
    intro hn
    rw [oth, gtN, ih (by omega)]
    by_cases hc : each < cn n
    · have hnj : ¬ nI n = nI j := fun q => h (by rw [← (nI_eq (by omega) hj).mp q]; exact hc)
      rw [if_pos ⟨hnj, hc⟩, if_pos hc]
    · rw [if_neg (fun q => hc q.2), if_neg hc]
theorem gtN_same (cn : FF) {j : Nat} {x each : Int32} (h1 : ¬ each < cn j) (h2 : ¬ each < x) : ∀ n, gtN (upd cn j x) each n = gtN cn each n := by
  intro n
  induction n with
  | zero => rfl
  | succ n ih =>
    rw [gtN, gtN, ih]
    by_cases hn : n = j
    · subst hn
      rw [upd_s, if_neg h2, if_neg h1]
    · rw [upd_n _ _ hn]
theorem gtN_more (cn : FF) {j : Nat} {x each : Int32} (h1 : ¬ each < cn j) (h2 : each < x) : ∀ n, gtN (upd cn j x) each n = if j < n then gtN cn each n + 1 else gtN cn each n := by
  intro n
  induction n with
  | zero => rfl
  | succ n ih =>
    rw [gtN, gtN, ih]
    by_cases hn : n = j
    · subst hn
      rw [upd_s, if_pos h2, if_neg (Nat.lt_irrefl n), if_pos (Nat.lt_succ_self n), if_neg h1]
    · rw [upd_n _ _ hn]
      by_cases hj : j < n
      · rw [if_pos hj, if_pos (show j < n + 1 by omega)]
        by_cases hc : each < cn n
        · rw [if_pos hc, if_pos hc]
        · rw [if_neg hc, if_neg hc]
      · rw [if_neg hj, if_neg (show ¬ j < n + 1 by omega)]
theorem WFo.upd {ow : FF} (h : WFo ow) (k : Nat) {x : Int32} (hx : x = -1 ∨ ∃ j, j < 8 ∧ x = nI j) : WFo (upd ow k x) := by
  intro i hi
  by_cases hk : i = k
  · subst hk; rw [upd_s]; exact hx
  · rw [upd_n _ _ hk]; exact h i hi
-- keeping
theorem kpC_wf {tp sz mb : FF} {each more : Int32} {ow cn : FF} (h : WFo ow) : ∀ k, WFo (kpC tp sz mb each more ow cn k).1 := by
  intro k
  induction k with
  | zero => exact h
  | succ k ih =>
    rw [kpC]
    unfold kpS
    split
    · split
      · exact ih
      · exact ih.upd k (Or.inl rfl)
    · exact ih
theorem kpC_un {tp sz mb : FF} {each more : Int32} {ow cn : FF} {i : Nat} (hi : ¬ sh tp sz i) : ∀ k, (kpC tp sz mb each more ow cn k).1 i = ow i := by
  intro k
  induction k with
  | zero => rfl
  | succ k ih =>
    rw [kpC]
    unfold kpS
    split
    · rename_i hs
      split
      · exact ih
      · show upd _ k (-1) i = _
        rw [upd_n _ _ (fun e => hi (by rw [e]; exact hs))]
        exact ih
    · exact ih
theorem kmC_wf {tp sz mb : FF} {each more : Int32} {ow cn : FF} (h : WFo ow) : ∀ k, WFo (kmC tp sz mb each more ow cn k).1 := by
  intro k
  induction k with
  | zero => exact h
  | succ k ih =>
    rw [kmC]
    unfold kmS
    split
    · split
      · exact ih
      · exact ih.upd k (Or.inl rfl)
    · exact ih
theorem kpC_skip {tp sz mb : FF} {each more : Int32} {ow cn : FF} (a : Nat) : ∀ d, (∀ k, a ≤ k → k < a + d → ¬ sh tp sz k) → kpC tp sz mb each more ow cn (a + d) = kpC tp sz mb each more ow cn a := by
  intro d
  induction d with
  | zero => intro _; rfl
  | succ d ih =>
    intro h
    show kpC tp sz mb each more ow cn (a + d + 1) = _
    rw [kpC]
    unfold kpS
    rw [if_neg (h (a + d) (by omega) (by omega)), ih (fun k h1 h2 => h k h1 (by omega))]
theorem flC_skip {tp sz mb : FF} {q0 : FF × FF} (a : Nat) : ∀ d, (∀ k, a ≤ k → k < a + d → ¬ sh tp sz k) → flC tp sz mb q0 (a + d) = flC tp sz mb q0 a := by
  intro d
  induction d with
  | zero => intro _; rfl
  | succ d ih =>
    intro h
    show flC tp sz mb q0 (a + d + 1) = _
    rw [flC]
    unfold flS
    rw [if_neg (fun q => h (a + d) (by omega) (by omega) q.1), ih (fun k h1 h2 => h k h1 (by omega))]
/-- the rest of a topic's row has no shared part -/
theorem no_sh {tp sz : FF} {i p : Nat} (h : tp (i + 1) = 0 ∨ sz (i + 1) ≤ nI p) : ∀ k, 6 * i + p ≤ k → k < 6 * i + p + (6 - p) → ¬ sh tp sz k := by
  intro k h1 h2 q
  have e : k = 6 * i + (k - 6 * i) := by omega
  have hk : k - 6 * i < 6 := by omega
  rw [e] at q
  obtain ⟨q1, q2⟩ := (sh_at tp sz hk).mp q
  rcases h with h | h
  · exact q1 h
  · have h3 : nI p ≤ nI (k - 6 * i) := nI_le (by omega) (by omega)
    rw [Int32.le_iff_toInt_le] at h h3
    rw [Int32.lt_iff_toInt_lt] at q2
    omega
theorem kpC_row {tp sz mb : FF} {each more : Int32} {ow cn : FF} {i p : Nat} (hp : p ≤ 6) (h : tp (i + 1) = 0 ∨ sz (i + 1) ≤ nI p) : kpC tp sz mb each more ow cn (6 * (i + 1)) = kpC tp sz mb each more ow cn (6 * i + p) := by
  rw [show 6 * (i + 1) = 6 * i + p + (6 - p) by omega]
  exact kpC_skip _ _ (no_sh h)
theorem flC_row {tp sz mb : FF} {q0 : FF × FF} {i p : Nat} (hp : p ≤ 6) (h : tp (i + 1) = 0 ∨ sz (i + 1) ≤ nI p) : flC tp sz mb q0 (6 * (i + 1)) = flC tp sz mb q0 (6 * i + p) := by
  rw [show 6 * (i + 1) = 6 * i + p + (6 - p) by omega]
  exact flC_skip _ _ (no_sh h)
theorem flC_wf {tp sz mb : FF} {q0 : FF × FF} (hm : ∃ j, j < 8 ∧ ¬ mb j = 0) (h : WFo q0.1) : ∀ k, WFo (flC tp sz mb q0 k).1 := by
  intro k
  induction k with
  | zero => exact h
  | succ k ih =>
    rw [flC]
    unfold flS
    split
    · obtain ⟨j, h1, h2⟩ := fewI_pos mb (flC tp sz mb q0 k).2 8 (by decide) hm
      exact ih.upd k (Or.inr ⟨j, h1, h2⟩)
    · exact ih
theorem flC_un {tp sz mb : FF} {q0 : FF × FF} {i : Nat} (hi : ¬ sh tp sz i) : ∀ k, (flC tp sz mb q0 k).1 i = q0.1 i := by
  intro k
  induction k with
  | zero => rfl
  | succ k ih =>
    rw [flC]
    unfold flS
    split
    · rename_i hs
      show upd _ k _ i = _
      rw [upd_n _ _ (fun e => hi (by rw [e]; exact hs.1))]
      exact ih
    · exact ih
/-- the model keeps just what the system keeps -/
theorem km_kp {tp sz mb : FF} {each more : Int32} {ow cn : FF} (he : each < each + 1) (hw : WFo ow) (h0 : gtN cn each 8 = 0) : ∀ k, k ≤ 72 → kmC tp sz mb each more ow cn k = ((kpC tp sz mb each more ow cn k).1, (kpC tp sz mb each more ow cn k).2.1) ∧ (kpC tp sz mb each more ow cn k).2.2 = gtN (kpC tp sz mb each more ow cn k).2.1 each 8 := by
  intro k
  induction k with
  | zero => intro _; exact ⟨rfl, h0.symm⟩
  | succ k ih =>
    intro hk
    obtain ⟨h1, h2⟩ := ih (by omega)
    have hwk := kpC_wf (tp := tp) (sz := sz) (mb := mb) (each := each) (more := more) (cn := cn) hw k
    rw [kmC, kpC, h1]
    generalize kpC tp sz mb each more ow cn k = q at h2 hwk ⊢
    obtain ⟨o, n, ab⟩ := q
    have h2 : ab = gtN n each 8 := h2
    have hwk : WFo o := hwk
    unfold kmS kpS
    dsimp only
    by_cases hs : sh tp sz k
    · rw [if_pos hs, if_pos hs]
      have key : mayM mb n each more (o k) ↔ may mb n each more ab (o k) := by
        rcases hwk k (by omega) with e | ⟨j, hj, e⟩
        · rw [e]
          constructor
          · intro q; exact absurd (by decide) q.1
          · intro q; exact absurd (by decide) q.1
        · have ec : (o k).toNatClampNeg = j := by rw [e]; exact nI_clamp (by omega)
          unfold mayM may
          rw [ec]
          constructor
          · rintro ⟨a1, a2, a3 | ⟨a3, a4⟩⟩
            · exact ⟨a1, a2, Or.inl a3⟩
            · refine ⟨a1, a2, Or.inr ⟨a3, ?_⟩⟩
              rw [h2, ← oth_gtN n (j := j) (by omega) (by rw [a3]; exact Int32.lt_irrefl) 8 (by decide), ← e]
              exact a4
          · rintro ⟨a1, a2, a3 | ⟨a3, a4⟩⟩
            · exact ⟨a1, a2, Or.inl a3⟩
            · refine ⟨a1, a2, Or.inr ⟨a3, ?_⟩⟩
              rw [e, oth_gtN n (j := j) (by omega) (by rw [a3]; exact Int32.lt_irrefl) 8 (by decide), ← h2]
              exact a4
      by_cases hm : may mb n each more ab (o k)
      · rw [if_pos (key.mpr hm), if_pos hm]
        refine ⟨rfl, ?_⟩
        show (if n (o k).toNatClampNeg = each then ab + 1 else ab) = gtN (upd n (o k).toNatClampNeg (n (o k).toNatClampNeg + 1)) each 8
        rcases hwk k (by omega) with e | ⟨j, hj, e⟩
        · exact absurd (by rw [e]; decide) hm.1
        · have ec : (o k).toNatClampNeg = j := by rw [e]; exact nI_clamp (by omega)
          have hm3 := hm.2.2
          rw [ec] at hm3 ⊢
          by_cases hx : n j = each
          · rw [if_pos hx, gtN_more n (by rw [hx]; exact Int32.lt_irrefl) (by rw [hx]; exact he) 8, if_pos hj, h2]
          · rw [if_neg hx]
            have hl : n j < each := by
              rcases hm3 with q | q
              · exact q
              · exact absurd q.1 hx
            rw [gtN_same n (fun q => Int32.lt_irrefl (Int32.lt_trans hl q)) (i_lt_succ hl) 8, h2]
      · rw [if_neg (fun q => hm (key.mp q)), if_neg hm]
        exact ⟨rfl, h2⟩
    · rw [if_neg hs, if_neg hs]
      exact ⟨rfl, h2⟩
theorem km_none {tp sz mb : FF} {each more : Int32} {ow cn : FF} (hw : WFo ow) (hm : ∀ j, j < 8 → mb j = 0) : ∀ k, k ≤ 72 → ∀ i, i < k → sh tp sz i → (kmC tp sz mb each more ow cn k).1 i = -1 := by
  intro k
  induction k with
  | zero => intro _ i h; exact absurd h (by omega)
  | succ k ih =>
    intro hk i hi hs
    have hwk := kmC_wf (tp := tp) (sz := sz) (mb := mb) (each := each) (more := more) (cn := cn) hw k
    have hno : ¬ mayM mb (kmC tp sz mb each more ow cn k).2 each more ((kmC tp sz mb each more ow cn k).1 k) := by
      rintro ⟨a1, a2, -⟩
      rcases hwk k (by omega) with e | ⟨j, hj, e⟩
      · exact a1 (by rw [e]; decide)
      · exact a2 (by rw [e, nI_clamp (by omega)]; exact hm j hj)
    rw [kmC]
    unfold kmS
    by_cases hsk : sh tp sz k
    · rw [if_pos hsk, if_neg hno]
      show upd _ k (-1) i = -1
      by_cases e : i = k
      · rw [e, upd_s]
      · rw [upd_n _ _ e]
        exact ih (by omega) i (by omega) hs
    · rw [if_neg hsk]
      exact ih (by omega) i (Nat.lt_of_le_of_ne (by omega) (fun e => hsk (by rw [← e]; exact hs))) hs
theorem kmC_un {tp sz mb : FF} {each more : Int32} {ow cn : FF} {i : Nat} (hi : ¬ sh tp sz i) : ∀ k, (kmC tp sz mb each more ow cn k).1 i = ow i := by
  intro k
  induction k with
  | zero => rfl
  | succ k ih =>
    rw [kmC]
    unfold kmS
    split
    · rename_i hs
      split
      · exact ih
      · show upd _ k (-1) i = _
        rw [upd_n _ _ (fun e => hi (by rw [e]; exact hs))]
        exact ih
    · exact ih
theorem gtN_0 {each : Int32} (he : ¬ each < 0) : ∀ n, gtN (fun _ => 0) each n = 0 := by
  intro n
  induction n with
  | zero => rfl
  | succ n ih => rw [gtN, if_neg he, ih]
theorem each_pos {tp sz mb : FF} (hs : WFs sz) (hm : ¬ memI mb 8 = 0) : ¬ eachC tp sz mb < 0 := by
  obtain ⟨c, h1, h2⟩ := cntS_nI tp sz 72
  obtain ⟨d, h3, h4, h5⟩ := memI_nI mb 8
  have hd : 0 < d := by
    rcases Nat.eq_zero_or_pos d with q | q
    · exact absurd (by rw [h4, q]; rfl) hm
    · exact q
  have hq : c / d ≤ c := Nat.div_le_self c d
  unfold eachC
  rw [sum_cnt12 hs, h2, h4, pk_div (by omega) hd (by omega)]
  exact nI_pos (by omega)
/-- THE PLAIN LAW: the model deals out as the system does -/
theorem deal_eq {tp sz mb ow : FF} (hs : WFs sz) (hw : WFo ow) (hu : WFu tp sz ow) : ∀ k, k < 72 → dealM tp sz mb ow k = dealO tp sz mb ow k := by
  intro k hk
  unfold dealM dealO
  by_cases hm : memI mb 8 = 0
  · rw [if_pos (memI_le.mpr hm), if_pos hm]
    have hz : ∀ j, j < 8 → mb j = 0 := fun j hj => Classical.byContradiction fun q => memI_ne hj q hm
    by_cases h : sh tp sz k
    · exact km_none hw hz 72 (Nat.le_refl 72) k hk h
    · show (keptM tp sz mb ow).1 k = -1
      rw [kmC_un h 72]
      exact hu k hk h
  · rw [if_neg (fun q => hm (memI_le.mp q)), if_neg hm]
    have h1 := (km_kp (tp := tp) (sz := sz) (mb := mb) (more := moreC tp sz mb) (each_ok (tp := tp) hs hm) hw (gtN_0 (each_pos (tp := tp) hs hm) 8) 72 (Nat.le_refl 72)).1
    have h2 : keptM tp sz mb ow = ((keptC tp sz mb ow).1, (keptC tp sz mb ow).2.1) := by
      show kmC tp sz mb (eachM tp sz mb) (moreM tp sz mb) ow (fun _ => 0) 72 = _
      rw [show eachM tp sz mb = eachC tp sz mb by unfold eachM eachC; rw [sum_cnt12 hs], show moreM tp sz mb = moreC tp sz mb by unfold moreM moreC; rw [sum_cnt12 hs]]
      exact h1
    rw [h2]
theorem deal_wf {tp sz mb ow : FF} (hw : WFo ow) : WFo (dealO tp sz mb ow) := by
  unfold dealO
  by_cases hm : memI mb 8 = 0
  · rw [if_pos hm]
    exact fun k _ => Or.inl rfl
  · rw [if_neg hm]
    exact flC_wf (memI_ex hm) (kpC_wf hw 72) 72
theorem deal_un {tp sz mb ow : FF} (hu : WFu tp sz ow) : WFu tp sz (dealO tp sz mb ow) := by
  intro k hk h
  unfold dealO
  by_cases hm : memI mb 8 = 0
  · rw [if_pos hm]
  · rw [if_neg hm, flC_un h 72]
    show (keptC tp sz mb ow).1 k = -1
    rw [kpC_un h 72]
    exact hu k hk h
theorem mvI_congr {a b d : FF} : ∀ n, (∀ k, k < n → b k = d k) → mvI a b n = mvI a d n := by
  intro n
  induction n with
  | zero => intro _; rfl
  | succ n ih =>
    intro h
    rw [mvI, mvI, ih (fun k hk => h k (by omega)), h n (Nat.lt_succ_self n)]
-- places in range
theorem ix_t {t tc : Int32} {n : Nat} (hn : n ≤ 12) (htc : tc = nI n) (h1 : ¬ t < 1) (h2 : ¬ tc < t) : ∃ j, 1 ≤ j ∧ j ≤ n ∧ t = nI j := by
  have h0 : ¬ t < 0 := fun q => h1 (Int32.lt_trans q (by decide))
  obtain ⟨j, hj, ej⟩ := nI_of h0
  refine ⟨j, ?_, ?_, ej⟩
  · rcases Nat.eq_zero_or_pos j with q | q
    · exact absurd (by rw [ej, q]; decide) h1
    · exact q
  · rcases Nat.lt_or_ge n j with q | q
    · exact absurd (by rw [ej, htc]; exact nI_lt q hj) h2
    · exact q
theorem ix_m {m : Int32} (h1 : ¬ m < 0) (h2 : ¬ 8 ≤ m) : ∃ j, j < 8 ∧ m = nI j := by
  obtain ⟨j, hj, ej⟩ := nI_of h1
  refine ⟨j, ?_, ej⟩
  rcases Nat.lt_or_ge j 8 with q | q
  · exact q
  · exact absurd (by rw [ej]; exact nI_le q hj) h2
theorem part_ix {tc : Int32} {tp sz : FF} (ht : WFt tc tp) (hs : WFs sz) {t p : Int32} (h : ¬ pcd tc sz t p) : ∃ k, k < 72 ∧ (t - 1) * 6 + p = nI k := by
  obtain ⟨n, hn, en, -⟩ := ht
  obtain ⟨j, j1, j2, ej⟩ := ix_t hn en (fun q => h (Or.inl q)) (fun q => h (Or.inr (Or.inl q)))
  obtain ⟨i, hi, ei⟩ := nI_of (x := p) (fun q => h (Or.inr (Or.inr (Or.inl q))))
  obtain ⟨z, hz, ez⟩ := hs j (by omega)
  have hiz : i < z := by
    rcases Nat.lt_or_ge i z with q | q
    · exact q
    · refine absurd (Or.inr (Or.inr (Or.inr ?_))) h
      rw [ej, nI_clamp (by omega), ez, ei]
      exact nI_le q hi
  refine ⟨(j - 1) * 6 + i, by omega, ?_⟩
  have e1 : nI j - 1 = nI (j - 1) := pk_sub (b := 1) j1
  have e2 : nI (j - 1) * 6 = nI ((j - 1) * 6) := pk_mul (j - 1) 6
  rw [ej, ei, e1, e2, nI_add]
-- the state stays well formed
theorem WF.deal {tc : Int32} {mb tp ow sz : FF} (h : WF tc mb tp ow sz) : WF tc mb tp (dealO tp sz mb ow) sz := ⟨h.1, h.2.1, h.2.2.1, h.2.2.2.1, deal_wf h.2.2.2.2.1, deal_un h.2.2.2.2.2⟩
theorem WF.sub {tc t : Int32} {mb tp ow sz : FF} (h : WF tc mb tp ow sz) (h1 : ¬ t < 1) (h2 : ¬ tc < t) : WF tc mb (upd tp t.toNatClampNeg 1) ow sz := by
  obtain ⟨⟨n, hn, en, hz⟩, a2, a3, a4, a5, a6⟩ := h
  obtain ⟨j, j1, j2, ej⟩ := ix_t hn en h1 h2
  have ec : t.toNatClampNeg = j := by rw [ej]; exact nI_clamp (by omega)
  rw [ec]
  refine ⟨⟨n, hn, en, fun i hi hni => ?_⟩, a2, fun i hi => ?_, a4, a5, fun k hk hs => a6 k hk fun q => hs ?_⟩
  · rw [upd_n _ _ (by omega)]; exact hz i hi hni
  · by_cases e : i = j
    · rw [e, upd_s]; exact Or.inr rfl
    · rw [upd_n _ _ e]; exact a3 i hi
  · refine ⟨?_, q.2⟩
    by_cases e : k / 6 + 1 = j
    · rw [e, upd_s]; decide
    · rw [upd_n _ _ e]; exact q.1
theorem WF.mem {tc m v : Int32} {mb tp ow sz : FF} (h : WF tc mb tp ow sz) (hv : v = 0 ∨ v = 1) : WF tc (upd mb m.toNatClampNeg v) tp ow sz := by
  obtain ⟨a1, a2, a3, a4, a5, a6⟩ := h
  refine ⟨a1, a2, a3, fun i hi => ?_, a5, a6⟩
  by_cases e : i = m.toNatClampNeg
  · rw [e, upd_s]; exact hv
  · rw [upd_n _ _ e]; exact a4 i hi
theorem WF.top {tc x : Int32} {mb tp ow sz : FF} (h : WF tc mb tp ow sz) (h1 : ¬ x < 1) (h2 : ¬ 6 < x) (h3 : ¬ tc = 12) : WF (tc + 1) mb tp ow (upd sz (tc + 1).toNatClampNeg x) := by
  obtain ⟨⟨n, hn, en, hz⟩, a2, a3, a4, a5, a6⟩ := h
  have hn2 : n < 12 := by
    rcases Nat.lt_or_ge n 12 with q | q
    · exact q
    · exact absurd (by rw [en, show n = 12 by omega]; rfl) h3
  have et : tc + 1 = nI (n + 1) := by rw [en, nI_1]
  have ec : (tc + 1).toNatClampNeg = n + 1 := by rw [et]; exact nI_clamp (by omega)
  have h0 : ¬ x < 0 := fun q => h1 (Int32.lt_trans q (by decide))
  obtain ⟨z, hz0, ez⟩ := nI_of h0
  have hz6 : z ≤ 6 := by
    rcases Nat.lt_or_ge 6 z with q | q
    · exact absurd (by rw [ez]; exact nI_lt q hz0) h2
    · exact q
  rw [ec]
  refine ⟨⟨n + 1, by omega, et, fun i hi hni => hz i hi (by omega)⟩, fun i hi => ?_, a3, a4, a5, fun k hk hs => a6 k hk fun q => hs ?_⟩
  · by_cases e : i = n + 1
    · rw [e, upd_s]; exact ⟨z, hz6, ez⟩
    · rw [upd_n _ _ e]; exact a2 i hi
  · refine ⟨q.1, ?_⟩
    have e : k / 6 + 1 ≠ n + 1 := fun e => q.1 (by rw [e]; exact hz (n + 1) (by omega) (by omega))
    rw [upd_n _ _ e]
    exact q.2
def WFU (u : US) : Prop := WF u.1 u.2.2.2.1 u.2.2.2.2.1 u.2.2.2.2.2.1 u.2.2.2.2.2.2.2
theorem topP.wf {n tc mv gn r : Int32} {mb tp ow pl sz : FF} {u : US} (h : WF tc mb tp ow sz) (q : topP n tc mv gn mb tp ow pl sz r u) : WFU u := by
  rcases q with ⟨-, -, e⟩ | ⟨c, -, e⟩
  · rw [e]; exact h
  · rw [e]; exact h.top (fun z => c (Or.inl z)) (fun z => c (Or.inr (Or.inl z))) (fun z => c (Or.inr (Or.inr z)))
theorem subP.wf {t tc mv gn r : Int32} {mb tp ow pl sz : FF} {u : US} (h : WF tc mb tp ow sz) (q : subP t tc mv gn mb tp ow pl sz r u) : WFU u := by
  rcases q with ⟨-, -, e⟩ | ⟨c, -, e⟩
  · rw [e]; exact h
  · rw [e]; exact (h.sub (fun z => c (Or.inl z)) (fun z => c (Or.inr (Or.inl z)))).deal
theorem chP.wf {v m tc mv gn r : Int32} {mb tp ow pl sz : FF} {u : US} (h : WF tc mb tp ow sz) (hv : v = 0 ∨ v = 1) (q : chP v m tc mv gn mb tp ow pl sz r u) : WFU u := by
  rcases q with ⟨-, -, e⟩ | ⟨c, -, e⟩
  · rw [e]; exact h
  · rw [e]; exact (h.mem hv).deal
theorem plP.wf {m g t p v tc mv gn r : Int32} {mb tp ow pl sz : FF} {u : US} (h : WF tc mb tp ow sz) (q : plP m g t p v tc mv gn mb tp ow pl sz r u) : WFU u := by
  rcases q with ⟨-, -, e⟩ | ⟨-, -, -, e⟩ | ⟨-, -, -, e⟩
  · rw [e]; exact h
  · rw [e]; exact h
  · rw [e]; exact h
-- the answers are determined
theorem topP.det {n tc mv gn r r2 : Int32} {mb tp ow pl sz : FF} {u u2 : US} (q : topP n tc mv gn mb tp ow pl sz r u) (q2 : topP n tc mv gn mb tp ow pl sz r2 u2) : r = r2 ∧ u = u2 := by
  rcases q with ⟨c, a, b⟩ | ⟨c, a, b⟩ <;> rcases q2 with ⟨c2, a2, b2⟩ | ⟨c2, a2, b2⟩
  · exact ⟨a.trans a2.symm, b.trans b2.symm⟩
  · exact absurd c c2
  · exact absurd c2 c
  · exact ⟨a.trans a2.symm, b.trans b2.symm⟩
theorem subP.det {t tc mv gn r r2 : Int32} {mb tp ow pl sz : FF} {u u2 : US} (q : subP t tc mv gn mb tp ow pl sz r u) (q2 : subP t tc mv gn mb tp ow pl sz r2 u2) : r = r2 ∧ u = u2 := by
  rcases q with ⟨c, a, b⟩ | ⟨c, a, b⟩ <;> rcases q2 with ⟨c2, a2, b2⟩ | ⟨c2, a2, b2⟩
  · exact ⟨a.trans a2.symm, b.trans b2.symm⟩
  · exact absurd c c2
  · exact absurd c2 c
  · exact ⟨a.trans a2.symm, b.trans b2.symm⟩
theorem chP.det {v m tc mv gn r r2 : Int32} {mb tp ow pl sz : FF} {u u2 : US} (q : chP v m tc mv gn mb tp ow pl sz r u) (q2 : chP v m tc mv gn mb tp ow pl sz r2 u2) : r = r2 ∧ u = u2 := by
  rcases q with ⟨c, a, b⟩ | ⟨c, a, b⟩ <;> rcases q2 with ⟨c2, a2, b2⟩ | ⟨c2, a2, b2⟩
  · exact ⟨a.trans a2.symm, b.trans b2.symm⟩
  · exact absurd c c2
  · exact absurd c2 c
  · exact ⟨a.trans a2.symm, b.trans b2.symm⟩
theorem plP.det {m g t p v tc mv gn r r2 : Int32} {mb tp ow pl sz : FF} {u u2 : US} (q : plP m g t p v tc mv gn mb tp ow pl sz r u) (q2 : plP m g t p v tc mv gn mb tp ow pl sz r2 u2) : r = r2 ∧ u = u2 := by
  rcases q with ⟨c, a, b⟩ | ⟨c, d, a, b⟩ | ⟨c, d, a, b⟩ <;> rcases q2 with ⟨c2, a2, b2⟩ | ⟨c2, d2, a2, b2⟩ | ⟨c2, d2, a2, b2⟩
  · exact ⟨a.trans a2.symm, b.trans b2.symm⟩
  · exact absurd c c2
  · exact absurd c c2
  · exact absurd c2 c
  · exact ⟨a.trans a2.symm, b.trans b2.symm⟩
  · exact absurd d2 d
  · exact absurd c2 c
  · exact absurd d d2
  · exact ⟨a.trans a2.symm, b.trans b2.symm⟩
end
section
/-! PATHS: pure rows for the walks, one for each way through a loop's body -/
theorem lp_lt {n i : Nat} (hi : i < 2 ^ 31) (h : ¬ nI n ≤ nI i) : i < n := by
  rcases Nat.lt_or_ge i n with q | q
  · exact q
  · exact absurd (nI_le q hi) h
theorem lp_ge {n i : Nat} (hn : n < 2 ^ 31) (hi : i < 2 ^ 31) (h : nI n ≤ nI i) : n ≤ i := (nI_leI hn hi).mp h
theorem lp_gt {n i : Nat} (hn : n < 2 ^ 31) (hi : i < 2 ^ 31) (h : nI n < nI i) : n < i := (nI_ltI hn hi).mp h
theorem lp_le {n i : Nat} (hi : i < 2 ^ 31) (h : ¬ nI n < nI i) : i ≤ n := by
  rcases Nat.lt_or_ge n i with q | q
  · exact absurd (nI_lt q hi) h
  · exact q
theorem lp_row {sz : FF} (hs : WFs sz) {i y : Nat} (hi : i < 12) (hy : y ≤ 6) (h : ¬ sz (i + 1) ≤ nI y) : y < 6 := by
  obtain ⟨z, hz, ez⟩ := hs (i + 1) (by omega)
  rw [ez] at h
  have h1 := lp_lt (by omega) h
  omega
theorem at_nI (i y : Nat) : (nI (i + 1) - 1) * 6 + nI y = nI (6 * i + y) := by
  have e1 : nI (i + 1) - 1 = nI i := nI_pred i
  have e2 : nI i * 6 = nI (i * 6) := pk_mul i 6
  rw [e1, e2, nI_add, Nat.mul_comm]
theorem isMb_1 {m : Int32} (h : ¬ isMb m = 0) : ¬ m < 0 ∧ ¬ 8 ≤ m := by
  unfold isMb at h
  constructor
  · exact fun q => h (if_pos (Or.inl q))
  · exact fun q => h (if_pos (Or.inr q))
theorem isMb_0 {m : Int32} (h : isMb m = 0) : m < 0 ∨ 8 ≤ m := by
  unfold isMb at h
  refine Classical.byContradiction fun q => ?_
  rw [if_neg q] at h
  exact absurd h (by decide)
theorem isPt_1 {tc : Int32} {sz : FF} {t p : Int32} (h : ¬ isPt tc sz t p = 0) : ¬ pcd tc sz t p := by
  unfold isPt at h
  exact fun q => h (if_pos q)
theorem isPt_0 {tc : Int32} {sz : FF} {t p : Int32} (h : isPt tc sz t p = 0) : pcd tc sz t p := by
  unfold isPt at h
  refine Classical.byContradiction fun q => ?_
  rw [if_neg q] at h
  exact absurd h (by decide)
theorem in_m {m : Int32} (h1 : ¬ m < 0) (h2 : ¬ 8 ≤ m) : vp_in m 8 := by
  obtain ⟨j, hj, ej⟩ := ix_m h1 h2
  rw [ej]; exact vp_in_nI hj (by decide)
theorem in_t {t tc : Int32} {tp : FF} (hw : WFt tc tp) (h1 : ¬ t < 1) (h2 : ¬ tc < t) : vp_in t 13 := by
  obtain ⟨n, hn, en, -⟩ := hw
  obtain ⟨j, j1, j2, ej⟩ := ix_t hn en h1 h2
  rw [ej]; exact vp_in_nI (by omega) (by decide)
theorem in_p {tc : Int32} {tp sz : FF} (ht : WFt tc tp) (hs : WFs sz) {t p : Int32} (h : ¬ pcd tc sz t p) : vp_in ((t - 1) * 6 + p) 72 := by
  obtain ⟨k, hk, ek⟩ := part_ix ht hs h
  rw [ek]; exact vp_in_nI hk (by decide)
theorem in_tc {tc : Int32} {tp : FF} (hw : WFt tc tp) (h : ¬ tc = 12) : vp_in (tc + 1) 13 := by
  obtain ⟨n, hn, en, -⟩ := hw
  have hn2 : n < 12 := by
    rcases Nat.lt_or_ge n 12 with q | q
    · exact q
    · exact absurd (by rw [en, show n = 12 by omega]; rfl) h
  rw [en, nI_1]; exact vp_in_nI (by omega) (by decide)
theorem partI_neg {tc : Int32} {tp sz : FF} (ht : WFt tc tp) (hs : WFs sz) {t p : Int32} (h : partI tc sz t p < 0) : pcd tc sz t p := by
  refine Classical.byContradiction fun q => ?_
  unfold partI at h
  obtain ⟨k, hk, ek⟩ := part_ix ht hs q
  rw [if_neg q, ek] at h
  exact nI_pos (by omega) h
theorem partI_pos {tc : Int32} {sz : FF} {t p : Int32} (h : ¬ partI tc sz t p < 0) : ¬ pcd tc sz t p := by
  intro q
  unfold partI at h
  rw [if_pos q] at h
  exact h (by decide)
theorem partI_eq {tc : Int32} {sz : FF} {t p : Int32} (h : ¬ pcd tc sz t p) : partI tc sz t p = (t - 1) * 6 + p := if_neg h
-- fewest
theorem few_skip {mb cn : FF} {i : Nat} {x : Int32} (e : x = fewI mb cn i) (h : mb i = 0) : x = fewI mb cn (i + 1) := by
  rw [fewI, if_neg (fun q => q.1 h), e]
theorem few_neg {mb cn : FF} {i : Nat} {x : Int32} (e : x = fewI mb cn i) (h : ¬ mb i = 0) (c : x < 0) : nI i = fewI mb cn (i + 1) := by
  rw [fewI, if_pos ⟨h, Or.inl (by rw [← e]; exact c)⟩]
theorem few_ix {mb cn : FF} {i : Nat} {x : Int32} (hi : i < 8) (e : x = fewI mb cn i) (c : ¬ x < 0) : ∃ j, j < 8 ∧ x = nI j := by
  rcases fewI_rng mb cn i (by omega) with q | ⟨j, h1, h2⟩
  · exact absurd (by rw [e, q]; decide) c
  · exact ⟨j, by omega, e.trans h2⟩
theorem few_keep {mb cn : FF} {i j : Nat} {x : Int32} (e : x = fewI mb cn i) (hj : j < 8) (ej : x = nI j) (c : ¬ x < 0) (d : cn j ≤ cn i) : x = fewI mb cn (i + 1) := by
  have ec : (fewI mb cn i).toNatClampNeg = j := by rw [← e, ej]; exact nI_clamp (by omega)
  rw [fewI, if_neg, e]
  rintro ⟨-, q | q⟩
  · rw [← e] at q; exact c q
  · rw [ec] at q; exact Int32.not_lt.mpr d q
theorem few_take {mb cn : FF} {i j : Nat} {x : Int32} (e : x = fewI mb cn i) (hj : j < 8) (ej : x = nI j) (h : ¬ mb i = 0) (d : ¬ cn j ≤ cn i) : nI i = fewI mb cn (i + 1) := by
  have ec : (fewI mb cn i).toNatClampNeg = j := by rw [← e, ej]; exact nI_clamp (by omega)
  rw [fewI, if_pos ⟨h, Or.inr (by rw [ec]; exact Int32.not_le.mp d)⟩]
-- counts
theorem mem_1 {mb : FF} {i : Nat} {x : Int32} (e : x = memI mb i) (h : ¬ mb i = 0) : x + 1 = memI mb (i + 1) := by rw [memI, if_pos h, e]
theorem mem_0 {mb : FF} {i : Nat} {x : Int32} (e : x = memI mb i) (h : mb i = 0) : x = memI mb (i + 1) := by rw [memI, if_neg (fun q => q h), e]
theorem sum_1 {tp sz : FF} {i : Nat} {x : Int32} (e : x = sumT tp sz i) (h : ¬ tp (i + 1) = 0) : x + sz (i + 1) = sumT tp sz (i + 1) := by rw [sumT, if_pos h, e]
theorem sum_0 {tp sz : FF} {i : Nat} {x : Int32} (e : x = sumT tp sz i) (h : tp (i + 1) = 0) : x = sumT tp sz (i + 1) := by rw [sumT, if_neg (fun q => q h), e]
theorem cnt_1 {tp sz : FF} {i : Nat} {x : Int32} (e : x = cntS tp sz i) (h : sh tp sz i) : x + 1 = cntS tp sz (i + 1) := by rw [cntS, if_pos h, e]
theorem cnt_0 {tp sz : FF} {i : Nat} {x : Int32} (e : x = cntS tp sz i) (h : ¬ sh tp sz i) : x = cntS tp sz (i + 1) := by rw [cntS, if_neg h, e]
theorem cntE_1 {ow : FF} {m : Int32} {i : Nat} {x : Int32} (e : x = cntE ow m i) (h : ow i = m) : x + 1 = cntE ow m (i + 1) := by rw [cntE, if_pos h, e]
theorem cntE_0 {ow : FF} {m : Int32} {i : Nat} {x : Int32} (e : x = cntE ow m i) (h : ¬ ow i = m) : x = cntE ow m (i + 1) := by rw [cntE, if_neg h, e]
theorem mv_1 {a b : FF} {i : Nat} {x : Int32} (e : x = mvI a b i) (h : ¬ a i = b i) : x + 1 = mvI a b (i + 1) := by rw [mvI, if_neg h, e]
theorem mv_0 {a b : FF} {i : Nat} {x : Int32} (e : x = mvI a b i) (h : a i = b i) : x = mvI a b (i + 1) := by rw [mvI, if_pos h, e]
theorem oth_1 {cn : FF} {m each : Int32} {i : Nat} {x : Int32} (e : x = oth cn m each i) (h1 : ¬ nI i = m) (h2 : each < cn i) : x + 1 = oth cn m each (i + 1) := by rw [oth, if_pos ⟨h1, h2⟩, e]
theorem oth_0 {cn : FF} {m each : Int32} {i : Nat} {x : Int32} (e : x = oth cn m each i) (h : ¬ (¬ nI i = m ∧ each < cn i)) : x = oth cn m each (i + 1) := by rw [oth, if_neg h, e]
theorem up_all {f : FF} {i : Nat} {v : Int32} (h : ∀ j, j < i → f j = v) : ∀ j, j < i + 1 → upd f i v j = v := by
  intro j hj
  by_cases e : j = i
  · rw [e, upd_s]
  · rw [upd_n _ _ e]; exact h j (by omega)
theorem up_cpy {f g : FF} {i : Nat} (h : ∀ j, j < i → f j = g j) : ∀ j, j < i + 1 → upd f i (g i) j = g j := by
  intro j hj
  by_cases e : j = i
  · rw [e, upd_s]
  · rw [upd_n _ _ e]; exact h j (by omega)
-- keeping and filling
theorem may_iff {mb cn : FF} {each more ab o : Int32} {j : Nat} (hj : j < 8) (ej : o = nI j) : may mb cn each more ab o ↔ (¬ mb j = 0 ∧ (cn j < each ∨ (cn j = each ∧ ab < more))) := by
  have ec : o.toNatClampNeg = j := by rw [ej]; exact nI_clamp (by omega)
  unfold may
  rw [ec]
  exact ⟨fun q => q.2, fun q => ⟨by rw [ej]; exact nI_pos (by omega), q⟩⟩
theorem mayM_iff {mb cn : FF} {each more o : Int32} {j : Nat} (hj : j < 8) (ej : o = nI j) : mayM mb cn each more o ↔ (¬ mb j = 0 ∧ (cn j < each ∨ (cn j = each ∧ oth cn o each 8 < more))) := by
  have ec : o.toNatClampNeg = j := by rw [ej]; exact nI_clamp (by omega)
  unfold mayM
  rw [ec]
  exact ⟨fun q => q.2, fun q => ⟨by rw [ej]; exact nI_pos (by omega), q⟩⟩
theorem wf_ix {ow : FF} (h : WFo ow) {k : Nat} (hk : k < 72) (c : ¬ ow k < 0) : ∃ j, j < 8 ∧ ow k = nI j := by
  rcases h k hk with e | e
  · exact absurd (by rw [e]; decide) c
  · exact e
section KP
variable {tp sz mb ow cn : FF} {each more : Int32} {k : Nat}
theorem kp_no {q : FF × FF × Int32} (hq : q = kpC tp sz mb each more ow cn k) (hs : sh tp sz k) (hn : ¬ may mb q.2.1 each more q.2.2 (q.1 k)) : (upd q.1 k (-1), q.2.1, q.2.2) = kpC tp sz mb each more ow cn (k + 1) := by
  rw [kpC, ← hq]
  unfold kpS
  rw [if_pos hs, if_neg hn]
theorem kp_lt {q : FF × FF × Int32} {j : Nat} (hq : q = kpC tp sz mb each more ow cn k) (hs : sh tp sz k) (hj : j < 8) (ej : q.1 k = nI j) (hm : ¬ mb j = 0) (hc : q.2.1 j < each) : (q.1, upd q.2.1 j (q.2.1 j + 1), q.2.2) = kpC tp sz mb each more ow cn (k + 1) := by
  have ec : (q.1 k).toNatClampNeg = j := by rw [ej]; exact nI_clamp (by omega)
  rw [kpC, ← hq]
  unfold kpS
  rw [if_pos hs, if_pos ((may_iff hj ej).mpr ⟨hm, Or.inl hc⟩), ec, if_neg (fun e => Int32.lt_irrefl (by rw [e] at hc; exact hc))]
theorem kp_eq {q : FF × FF × Int32} {j : Nat} (hq : q = kpC tp sz mb each more ow cn k) (hs : sh tp sz k) (hj : j < 8) (ej : q.1 k = nI j) (hm : ¬ mb j = 0) (hc : q.2.1 j = each) (ha : q.2.2 < more) : (q.1, upd q.2.1 j (q.2.1 j + 1), q.2.2 + 1) = kpC tp sz mb each more ow cn (k + 1) := by
  have ec : (q.1 k).toNatClampNeg = j := by rw [ej]; exact nI_clamp (by omega)
  rw [kpC, ← hq]
  unfold kpS
  rw [if_pos hs, if_pos ((may_iff hj ej).mpr ⟨hm, Or.inr ⟨hc, ha⟩⟩), ec, if_pos hc]
theorem km_un {q : FF × FF} (hq : q = kmC tp sz mb each more ow cn k) (hs : ¬ sh tp sz k) : q = kmC tp sz mb each more ow cn (k + 1) := by
  rw [kmC, ← hq]
  unfold kmS
  rw [if_neg hs]
theorem km_no {q : FF × FF} (hq : q = kmC tp sz mb each more ow cn k) (hs : sh tp sz k) (hn : ¬ mayM mb q.2 each more (q.1 k)) : (upd q.1 k (-1), q.2) = kmC tp sz mb each more ow cn (k + 1) := by
  rw [kmC, ← hq]
  unfold kmS
  rw [if_pos hs, if_neg hn]
theorem km_yes {q : FF × FF} {j : Nat} (hq : q = kmC tp sz mb each more ow cn k) (hs : sh tp sz k) (hj : j < 8) (ej : q.1 k = nI j) (hn : mayM mb q.2 each more (q.1 k)) : (q.1, upd q.2 j (q.2 j + 1)) = kmC tp sz mb each more ow cn (k + 1) := by
  have ec : (q.1 k).toNatClampNeg = j := by rw [ej]; exact nI_clamp (by omega)
  rw [kmC, ← hq]
  unfold kmS
  rw [if_pos hs, if_pos hn, ec]
theorem fl_no {q0 q : FF × FF} (hq : q = flC tp sz mb q0 k) (h : ¬ (sh tp sz k ∧ q.1 k < 0)) : q = flC tp sz mb q0 (k + 1) := by
  rw [flC, ← hq]
  unfold flS
  rw [if_neg h]
theorem fl_yes {q0 q : FF × FF} {j : Nat} {r : Int32} (hq : q = flC tp sz mb q0 k) (hs : sh tp sz k) (hc : q.1 k < 0) (er : r = fewI mb q.2 8) (hj : j < 8) (ej : r = nI j) : (upd q.1 k r, upd q.2 j (q.2 j + 1)) = flC tp sz mb q0 (k + 1) := by
  have ec : (fewI mb q.2 8).toNatClampNeg = j := by rw [← er, ej]; exact nI_clamp (by omega)
  rw [flC, ← hq]
  unfold flS
  rw [if_pos ⟨hs, hc⟩, ec, ← er]
end KP
end
section
/-! READ: the methods that only read, of both systems -/
set_option maxRecDepth 100000
theorem pcd_no {tc : Int32} {sz : FF} {t p : Int32} (h1 : ¬ t < 1) (h2 : ¬ tc < t) (h3 : ¬ p < 0) (h4 : ¬ sz t.toNatClampNeg ≤ p) : ¬ pcd tc sz t p := by
  rintro (q | q | q | q)
  · exact h1 q
  · exact h2 q
  · exact h3 q
  · exact h4 q
def shI (tp sz : FF) (k : Nat) : Int32 := if sh tp sz k then 1 else 0
theorem sh_pt {tc : Int32} {tp sz : FF} (hw : WFt tc tp) {k : Nat} (hk : k < 72) (ht : ¬ tp (k / 6 + 1) = 0) : isPt tc sz (nI (k / 6 + 1)) (nI (k % 6)) = 0 ↔ ¬ sh tp sz k := by
  obtain ⟨n, hn, en, hz⟩ := hw
  have h1 : ¬ nI (k / 6 + 1) < 1 := nI_nlt (b := 1) (by omega) (by omega)
  have h2 : ¬ tc < nI (k / 6 + 1) := by
    rw [en]
    refine nI_nlt ?_ (by omega)
    rcases Nat.lt_or_ge n (k / 6 + 1) with q | q
    · exact absurd (hz _ (by omega) q) ht
    · exact q
  have h3 : ¬ nI (k % 6) < 0 := nI_pos (by omega)
  have ec : (nI (k / 6 + 1)).toNatClampNeg = k / 6 + 1 := nI_clamp (by omega)
  constructor
  · intro q s
    rcases isPt_0 q with a | a | a | a
    · exact h1 a
    · exact h2 a
    · exact h3 a
    · rw [ec] at a
      exact Int32.not_lt.mpr a s.2
  · intro q
    refine Classical.byContradiction fun a => q ⟨ht, ?_⟩
    have b := isPt_1 a
    refine Int32.not_le.mp fun d => b (Or.inr (Or.inr (Or.inr ?_)))
    rw [ec]
    exact d
theorem shI_1 {tp sz : FF} {k : Nat} (h : ¬ shI tp sz k = 0) : sh tp sz k := Classical.byContradiction fun q => h (if_neg q)
theorem shI_0 {tp sz : FF} {k : Nat} (h : shI tp sz k = 0) : ¬ sh tp sz k := fun q => by
  rw [shI, if_pos q] at h
  exact absurd h (by decide)
theorem six_div {k : Nat} (hk : k < 72) : nI k / 6 = nI (k / 6) := pk_div (d := 6) (by omega) (by decide) (by decide)
theorem six_rem {k : Nat} (hk : k < 72) : nI k - nI k / 6 * 6 = nI (k % 6) := pk_rem (d := 6) (by omega) (by decide) (by decide)
section RD
variable {p : Program} {l : Launch} {e : Env} {R : Room} {s : State} {m : MethodId} {args : Array Value} {below : List Frame} {meth : Method} {c : Code} {cells slots : Nat} {Q : State → Prop} {D : va_G} {A : Nat → Prop} {ad : Nat → Nat} {cI cZ : ClassId} {tc mv gn : Int32} {mb tp ow pl cn sz bf : FF}
set_option maxHeartbeats 4000000 in
set_option maxRecDepth 100000 in
theorem metX0_isMember (l : Launch) (xm : Int32) : Met l yX0_isMember (ws_ yX0_isMember cX0_isMember 1 (some .boolean)) ({ frames := 0, cells := 0, slots := 0, locals := 0 }) (va_Pc [.int xm] (fun _ => True)) (vp_Si (fun r => r = isMb xm)) 0 0 (fun _ => False) := by
  refine Met.ofW (cc := cX0_isMember) (maxL := 1) (ret := (some .boolean)) (by decide) rfl ?_
  intro p e s m args below meth c s₁ B hml hv
  obtain ⟨rfl, -⟩ := hv
  have hx := B.exec
  have hb := B.bytes
  have hr := B.returns
  have hts := atoms_spec (ws := (ws_ yX0_isMember cX0_isMember 1 (some .boolean))) B.pre
  have hts : ∀ w ∈ lw_all, w.before _ s = true := fun w h => hts w (List.mem_cons_of_mem _ h)
  have hown : s.vm.findClass RX0 = some m.cls := findClass_of_methodNamed B.named
  have hlocks := B.notSynchronized
  have hl := lv_entry ([.int xm]) (n := 1) (Nat.le_of_ble_eq_true rfl)
  rw [lg_entry_eq]
  generalize (lg_sl ([.int xm]) ++ List.replicate (1 - (lg_sl ([.int xm])).length) Slot.unset).toArray = ls at hl ⊢
  have hl : lv_has ls 1 [(0, .int xm)] := hl
  refine lv_iload_n hx hb dX0_isMember_0 rfl (lv_at hl 0 rfl) ?_
  refine lv_if_lt (tgt := 14) hx hb dX0_isMember_1 (by decide) (fun c1 => ?_) (fun c1 => ?_)
  · refine lv_iconst (v := 0) hx hb dX0_isMember_14 (by decide) ?_
    exact W.zret (v := 0) hx hb hr rfl (fun t0 h0t hW => ⟨_, rfl, by first | rw [isMb, if_pos (Or.inl c1)] | rw [isMb, if_pos (Or.inr c7)], h0t⟩) (fun q h => absurd h List.not_mem_nil) dX0_isMember_15
  · refine lv_iload_n hx hb dX0_isMember_4 rfl (lv_at hl 0 rfl) ?_
    refine lv_bipush (v := 8) hx hb dX0_isMember_5 (by decide) ?_
    refine lv_icmp_ge (tgt := 14) hx hb dX0_isMember_7 (by decide) (fun c7 => ?_) (fun c7 => ?_)
    · refine lv_iconst (v := 0) hx hb dX0_isMember_14 (by decide) ?_
      exact W.zret (v := 0) hx hb hr rfl (fun t0 h0t hW => ⟨_, rfl, by first | rw [isMb, if_pos (Or.inl c1)] | rw [isMb, if_pos (Or.inr c7)], h0t⟩) (fun q h => absurd h List.not_mem_nil) dX0_isMember_15
    · refine lv_iconst (v := 1) hx hb dX0_isMember_10 (by decide) ?_
      refine lv_goto (tgt := 15) hx hb dX0_isMember_11 (by decide) ?_
      exact W.zret (v := 1) hx hb hr rfl (fun t0 h0t hW => ⟨_, rfl, by first | rw [isMb, if_neg (fun q => q.elim c1 c7)], h0t⟩) (fun q h => absurd h List.not_mem_nil) dX0_isMember_15
set_option maxHeartbeats 4000000 in
set_option maxRecDepth 100000 in
theorem metX2_isMember (l : Launch) (h0 : Nat) (xm : Int32) : Met l yX2_isMember (ws_ yX2_isMember cX2_isMember 2 (some .boolean)) ({ frames := 0, cells := 0, slots := 0, locals := 0 }) (va_Pc [.ref h0, .int xm] (fun _ => True)) (vp_Si (fun r => r = isMb xm)) 0 0 (fun _ => False) := by
  refine Met.ofW (cc := cX2_isMember) (maxL := 2) (ret := (some .boolean)) (by decide) rfl ?_
  intro p e s m args below meth c s₁ B hml hv
  obtain ⟨rfl, -⟩ := hv
  have hx := B.exec
  have hb := B.bytes
  have hr := B.returns
  have hts := atoms_spec (ws := (ws_ yX2_isMember cX2_isMember 2 (some .boolean))) B.pre
  have hts : ∀ w ∈ lw_all, w.before _ s = true := fun w h => hts w (List.mem_cons_of_mem _ h)
  have hown : s.vm.findClass RX2 = some m.cls := findClass_of_methodNamed B.named
  have hlocks := B.notSynchronized
  have hl := lv_entry ([.ref h0, .int xm]) (n := 2) (Nat.le_of_ble_eq_true rfl)
  rw [lg_entry_eq]
  generalize (lg_sl ([.ref h0, .int xm]) ++ List.replicate (2 - (lg_sl ([.ref h0, .int xm])).length) Slot.unset).toArray = ls at hl ⊢
  have hl : lv_has ls 2 [(0, .ref h0), (1, .int xm)] := hl
  refine lv_iload_n hx hb dX2_isMember_0 rfl (lv_at hl 1 rfl) ?_
  refine lv_if_lt (tgt := 14) hx hb dX2_isMember_1 (by decide) (fun c1 => ?_) (fun c1 => ?_)
  · refine lv_iconst (v := 0) hx hb dX2_isMember_14 (by decide) ?_
    exact W.zret (v := 0) hx hb hr rfl (fun t0 h0t hW => ⟨_, rfl, by first | rw [isMb, if_pos (Or.inl c1)] | rw [isMb, if_pos (Or.inr c7)], h0t⟩) (fun q h => absurd h List.not_mem_nil) dX2_isMember_15
  · refine lv_iload_n hx hb dX2_isMember_4 rfl (lv_at hl 1 rfl) ?_
    refine lv_bipush (v := 8) hx hb dX2_isMember_5 (by decide) ?_
    refine lv_icmp_ge (tgt := 14) hx hb dX2_isMember_7 (by decide) (fun c7 => ?_) (fun c7 => ?_)
    · refine lv_iconst (v := 0) hx hb dX2_isMember_14 (by decide) ?_
      exact W.zret (v := 0) hx hb hr rfl (fun t0 h0t hW => ⟨_, rfl, by first | rw [isMb, if_pos (Or.inl c1)] | rw [isMb, if_pos (Or.inr c7)], h0t⟩) (fun q h => absurd h List.not_mem_nil) dX2_isMember_15
    · refine lv_iconst (v := 1) hx hb dX2_isMember_10 (by decide) ?_
      refine lv_goto (tgt := 15) hx hb dX2_isMember_11 (by decide) ?_
      exact W.zret (v := 1) hx hb hr rfl (fun t0 h0t hW => ⟨_, rfl, by first | rw [isMb, if_neg (fun q => q.elim c1 c7)], h0t⟩) (fun q h => absurd h List.not_mem_nil) dX2_isMember_15
set_option maxHeartbeats 4000000 in
set_option maxRecDepth 100000 in
theorem metX2_at (l : Launch) (xt xp : Int32) : Met l yX2_at (ws_ yX2_at cX2_at 2 (some .int)) ({ frames := 0, cells := 0, slots := 0, locals := 0 }) (va_Pc [.int xt, .int xp] (fun _ => True)) (vp_Si (fun r => r = (xt - 1) * 6 + xp)) 0 0 (fun _ => False) := by
  refine Met.ofW (cc := cX2_at) (maxL := 2) (ret := (some .int)) (by decide) rfl ?_
  intro p e s m args below meth c s₁ B hml hv
  obtain ⟨rfl, -⟩ := hv
  have hx := B.exec
  have hb := B.bytes
  have hr := B.returns
  have hts := atoms_spec (ws := (ws_ yX2_at cX2_at 2 (some .int))) B.pre
  have hts : ∀ w ∈ lw_all, w.before _ s = true := fun w h => hts w (List.mem_cons_of_mem _ h)
  have hown : s.vm.findClass RX2 = some m.cls := findClass_of_methodNamed B.named
  have hlocks := B.notSynchronized
  have hl := lv_entry ([.int xt, .int xp]) (n := 2) (Nat.le_of_ble_eq_true rfl)
  rw [lg_entry_eq]
  generalize (lg_sl ([.int xt, .int xp]) ++ List.replicate (2 - (lg_sl ([.int xt, .int xp])).length) Slot.unset).toArray = ls at hl ⊢
  have hl : lv_has ls 2 [(0, .int xt), (1, .int xp)] := hl
  refine lv_iload_n hx hb dX2_at_0 rfl (lv_at hl 0 rfl) ?_
  refine lv_iconst (v := 1) hx hb dX2_at_1 (by decide) ?_
  refine lv_isub hx hb dX2_at_2 ?_
  refine lv_bipush (v := 6) hx hb dX2_at_3 (by decide) ?_
  refine lv_imul hx hb dX2_at_5 ?_
  refine lv_iload_n hx hb dX2_at_6 rfl (lv_at hl 1 rfl) ?_
  refine lv_iadd hx hb dX2_at_7 ?_
  exact W.iret (v := ((xt - 1) * 6) + xp) hx hb hr (fun t0 h0t hW => ⟨_, rfl, rfl, h0t⟩) (fun q h => absurd h List.not_mem_nil) dX2_at_8
set_option maxHeartbeats 4000000 in
set_option maxRecDepth 100000 in
theorem metX0_partAt (l : Launch) (D : va_G) (ad : Nat → Nat) (cI cZ : ClassId) (tc mv gn : Int32) (mb tp ow pl cn sz bf : FF) (xt xp : Int32) (ht : WFt tc tp) : Met l yX0_partAt (ws_ yX0_partAt cX0_partAt 3 (some .int)) ({ frames := 0, cells := 0, slots := 0, locals := 0 }) (PcR D (tyIZ cI cZ) (wX ad cI cZ tc mv gn mb tp ow pl cn sz bf) [.ref (ad 0), .int xt, .int xp]) (vp_Si (fun r => r = partI tc sz xt xp)) 0 0 (fun _ => False) := by
  refine Met.ofW (cc := cX0_partAt) (maxL := 3) (ret := (some .int)) (by decide) rfl ?_
  intro p e s m args below meth c s₁ B hml hv
  obtain ⟨rfl, hP, hK⟩ := hv
  have hx := B.exec
  have hb := B.bytes
  have hr := B.returns
  have hts := atoms_spec (ws := (ws_ yX0_partAt cX0_partAt 3 (some .int))) B.pre
  have hts : ∀ w ∈ lw_all, w.before _ s = true := fun w h => hts w (List.mem_cons_of_mem _ h)
  have hown : s.vm.findClass RX0 = some m.cls := findClass_of_methodNamed B.named
  have hlocks := B.notSynchronized
  have hl := lv_entry ([.ref (ad 0), .int xt, .int xp]) (n := 3) (Nat.le_of_ble_eq_true rfl)
  rw [lg_entry_eq]
  generalize (lg_sl ([.ref (ad 0), .int xt, .int xp]) ++ List.replicate (3 - (lg_sl ([.ref (ad 0), .int xt, .int xp])).length) Slot.unset).toArray = ls at hl ⊢
  have hl : lv_has ls 3 [(0, .ref (ad 0)), (1, .int xt), (2, .int xp)] := hl
  refine lv_iload_n hx hb dX0_partAt_0 rfl (lv_at hl 1 rfl) ?_
  refine lv_iconst (v := 1) hx hb dX0_partAt_1 (by decide) ?_
  refine lv_icmp_lt (tgt := 38) hx hb dX0_partAt_2 (by decide) (fun c2 => ?_) (fun c2 => ?_)
  · refine lv_iconst (v := (-1)) hx hb dX0_partAt_38 (by decide) ?_
    exact W.iret (v := (-1)) hx hb hr (fun t0 h0t hW => ⟨_, rfl, by first | rw [partI, if_pos (Or.inl c2)] | rw [partI, if_pos (Or.inr (Or.inl c10))] | rw [partI, if_pos (Or.inr (Or.inr (Or.inl c14)))] | rw [partI, if_pos (Or.inr (Or.inr (Or.inr c24)))], h0t⟩) (fun q h => absurd h List.not_mem_nil) dX0_partAt_39
  · refine lv_iload_n hx hb dX0_partAt_5 rfl (lv_at hl 1 rfl) ?_
    refine lv_aload_n hx hb dX0_partAt_6 rfl (lv_at hl 0 rfl) ?_
    refine va_get (D := D) (ci := 0) (v := .int tc) (C := RX0) (T := TX0) (N := 5) hx hb hts in_X0 hown hK hP 0 rfl rfl 3 (by decide) (hts _ q58) (fun _ h9 => h9) rfl dX0_partAt_7 ?_
    refine lv_icmp_gt (tgt := 38) hx hb dX0_partAt_10 (by decide) (fun c10 => ?_) (fun c10 => ?_)
    · refine lv_iconst (v := (-1)) hx hb dX0_partAt_38 (by decide) ?_
      exact W.iret (v := (-1)) hx hb hr (fun t0 h0t hW => ⟨_, rfl, by first | rw [partI, if_pos (Or.inl c2)] | rw [partI, if_pos (Or.inr (Or.inl c10))] | rw [partI, if_pos (Or.inr (Or.inr (Or.inl c14)))] | rw [partI, if_pos (Or.inr (Or.inr (Or.inr c24)))], h0t⟩) (fun q h => absurd h List.not_mem_nil) dX0_partAt_39
    · refine lv_iload_n hx hb dX0_partAt_13 rfl (lv_at hl 2 rfl) ?_
      refine lv_if_lt (tgt := 38) hx hb dX0_partAt_14 (by decide) (fun c14 => ?_) (fun c14 => ?_)
      · refine lv_iconst (v := (-1)) hx hb dX0_partAt_38 (by decide) ?_
        exact W.iret (v := (-1)) hx hb hr (fun t0 h0t hW => ⟨_, rfl, by first | rw [partI, if_pos (Or.inl c2)] | rw [partI, if_pos (Or.inr (Or.inl c10))] | rw [partI, if_pos (Or.inr (Or.inr (Or.inl c14)))] | rw [partI, if_pos (Or.inr (Or.inr (Or.inr c24)))], h0t⟩) (fun q h => absurd h List.not_mem_nil) dX0_partAt_39
      · refine lv_iload_n hx hb dX0_partAt_17 rfl (lv_at hl 2 rfl) ?_
        refine lv_aload_n hx hb dX0_partAt_18 rfl (lv_at hl 0 rfl) ?_
        refine va_get (D := D) (ci := 0) (v := .ref (ad 7)) (C := RX0) (T := TX0) (N := 5) hx hb hts in_X0 hown hK hP 0 rfl rfl 1 (by decide) (hts _ q56) (fun _ h9 => h9) rfl dX0_partAt_19 ?_
        refine lv_iload_n hx hb dX0_partAt_22 rfl (lv_at hl 1 rfl) ?_
        refine va_iald hx hb hK hP 7 0 rfl rfl (in_t ht c2 c10) dX0_partAt_23 ?_
        refine lv_icmp_ge (tgt := 38) hx hb dX0_partAt_24 (by decide) (fun c24 => ?_) (fun c24 => ?_)
        · refine lv_iconst (v := (-1)) hx hb dX0_partAt_38 (by decide) ?_
          exact W.iret (v := (-1)) hx hb hr (fun t0 h0t hW => ⟨_, rfl, by first | rw [partI, if_pos (Or.inl c2)] | rw [partI, if_pos (Or.inr (Or.inl c10))] | rw [partI, if_pos (Or.inr (Or.inr (Or.inl c14)))] | rw [partI, if_pos (Or.inr (Or.inr (Or.inr c24)))], h0t⟩) (fun q h => absurd h List.not_mem_nil) dX0_partAt_39
        · refine lv_iload_n hx hb dX0_partAt_27 rfl (lv_at hl 1 rfl) ?_
          refine lv_iconst (v := 1) hx hb dX0_partAt_28 (by decide) ?_
          refine lv_isub hx hb dX0_partAt_29 ?_
          refine lv_bipush (v := 6) hx hb dX0_partAt_30 (by decide) ?_
          refine lv_imul hx hb dX0_partAt_32 ?_
          refine lv_iload_n hx hb dX0_partAt_33 rfl (lv_at hl 2 rfl) ?_
          refine lv_iadd hx hb dX0_partAt_34 ?_
          refine lv_goto (tgt := 39) hx hb dX0_partAt_35 (by decide) ?_
          exact W.iret (v := ((xt - 1) * 6) + xp) hx hb hr (fun t0 h0t hW => ⟨_, rfl, by rw [partI, if_neg (pcd_no c2 c10 c14 c24)], h0t⟩) (fun q h => absurd h List.not_mem_nil) dX0_partAt_39
set_option maxHeartbeats 4000000 in
set_option maxRecDepth 100000 in
theorem metX2_isPart (l : Launch) (D : va_G) (ad : Nat → Nat) (cI cZ : ClassId) (tc mv gn : Int32) (mb tp ow pl cn sz bf : FF) (xt xp : Int32) (ht : WFt tc tp) : Met l yX2_isPart (ws_ yX2_isPart cX2_isPart 3 (some .boolean)) ({ frames := 0, cells := 0, slots := 0, locals := 0 }) (PcR D (tyIZ cI cZ) (wM ad cI cZ tc mv gn mb tp ow pl cn sz bf) [.ref (ad 0), .int xt, .int xp]) (vp_Si (fun r => r = isPt tc sz xt xp)) 0 0 (fun _ => False) := by
  refine Met.ofW (cc := cX2_isPart) (maxL := 3) (ret := (some .boolean)) (by decide) rfl ?_
  intro p e s m args below meth c s₁ B hml hv
  obtain ⟨rfl, hP, hK⟩ := hv
  have hx := B.exec
  have hb := B.bytes
  have hr := B.returns
  have hts := atoms_spec (ws := (ws_ yX2_isPart cX2_isPart 3 (some .boolean))) B.pre
  have hts : ∀ w ∈ lw_all, w.before _ s = true := fun w h => hts w (List.mem_cons_of_mem _ h)
  have hown : s.vm.findClass RX2 = some m.cls := findClass_of_methodNamed B.named
  have hlocks := B.notSynchronized
  have hl := lv_entry ([.ref (ad 0), .int xt, .int xp]) (n := 3) (Nat.le_of_ble_eq_true rfl)
  rw [lg_entry_eq]
  generalize (lg_sl ([.ref (ad 0), .int xt, .int xp]) ++ List.replicate (3 - (lg_sl ([.ref (ad 0), .int xt, .int xp])).length) Slot.unset).toArray = ls at hl ⊢
  have hl : lv_has ls 3 [(0, .ref (ad 0)), (1, .int xt), (2, .int xp)] := hl
  refine lv_iload_n hx hb dX2_isPart_0 rfl (lv_at hl 1 rfl) ?_
  refine lv_iconst (v := 1) hx hb dX2_isPart_1 (by decide) ?_
  refine lv_icmp_lt (tgt := 31) hx hb dX2_isPart_2 (by decide) (fun c2 => ?_) (fun c2 => ?_)
  · refine lv_iconst (v := 0) hx hb dX2_isPart_31 (by decide) ?_
    exact W.zret (v := 0) hx hb hr rfl (fun t0 h0t hW => ⟨_, rfl, by first | rw [isPt, if_pos (Or.inl c2)] | rw [isPt, if_pos (Or.inr (Or.inl c10))] | rw [isPt, if_pos (Or.inr (Or.inr (Or.inl c14)))] | rw [isPt, if_pos (Or.inr (Or.inr (Or.inr c24)))], h0t⟩) (fun q h => absurd h List.not_mem_nil) dX2_isPart_32
  · refine lv_iload_n hx hb dX2_isPart_5 rfl (lv_at hl 1 rfl) ?_
    refine lv_aload_n hx hb dX2_isPart_6 rfl (lv_at hl 0 rfl) ?_
    refine va_get (D := D) (ci := 2) (v := .int tc) (C := RX2) (T := TX2) (N := 10) hx hb hts in_X2 hown hK hP 0 rfl rfl 7 (by decide) (hts _ q151) (fun _ h9 => h9) rfl dX2_isPart_7 ?_
    refine lv_icmp_gt (tgt := 31) hx hb dX2_isPart_10 (by decide) (fun c10 => ?_) (fun c10 => ?_)
    · refine lv_iconst (v := 0) hx hb dX2_isPart_31 (by decide) ?_
      exact W.zret (v := 0) hx hb hr rfl (fun t0 h0t hW => ⟨_, rfl, by first | rw [isPt, if_pos (Or.inl c2)] | rw [isPt, if_pos (Or.inr (Or.inl c10))] | rw [isPt, if_pos (Or.inr (Or.inr (Or.inl c14)))] | rw [isPt, if_pos (Or.inr (Or.inr (Or.inr c24)))], h0t⟩) (fun q h => absurd h List.not_mem_nil) dX2_isPart_32
    · refine lv_iload_n hx hb dX2_isPart_13 rfl (lv_at hl 2 rfl) ?_
      refine lv_if_lt (tgt := 31) hx hb dX2_isPart_14 (by decide) (fun c14 => ?_) (fun c14 => ?_)
      · refine lv_iconst (v := 0) hx hb dX2_isPart_31 (by decide) ?_
        exact W.zret (v := 0) hx hb hr rfl (fun t0 h0t hW => ⟨_, rfl, by first | rw [isPt, if_pos (Or.inl c2)] | rw [isPt, if_pos (Or.inr (Or.inl c10))] | rw [isPt, if_pos (Or.inr (Or.inr (Or.inl c14)))] | rw [isPt, if_pos (Or.inr (Or.inr (Or.inr c24)))], h0t⟩) (fun q h => absurd h List.not_mem_nil) dX2_isPart_32
      · refine lv_iload_n hx hb dX2_isPart_17 rfl (lv_at hl 2 rfl) ?_
        refine lv_aload_n hx hb dX2_isPart_18 rfl (lv_at hl 0 rfl) ?_
        refine va_get (D := D) (ci := 2) (v := .ref (ad 1)) (C := RX2) (T := TX2) (N := 10) hx hb hts in_X2 hown hK hP 0 rfl rfl 0 (by decide) (hts _ q144) (fun _ h9 => h9) rfl dX2_isPart_19 ?_
        refine lv_iload_n hx hb dX2_isPart_22 rfl (lv_at hl 1 rfl) ?_
        refine va_iald hx hb hK hP 1 0 rfl rfl (in_t ht c2 c10) dX2_isPart_23 ?_
        refine lv_icmp_ge (tgt := 31) hx hb dX2_isPart_24 (by decide) (fun c24 => ?_) (fun c24 => ?_)
        · refine lv_iconst (v := 0) hx hb dX2_isPart_31 (by decide) ?_
          exact W.zret (v := 0) hx hb hr rfl (fun t0 h0t hW => ⟨_, rfl, by first | rw [isPt, if_pos (Or.inl c2)] | rw [isPt, if_pos (Or.inr (Or.inl c10))] | rw [isPt, if_pos (Or.inr (Or.inr (Or.inl c14)))] | rw [isPt, if_pos (Or.inr (Or.inr (Or.inr c24)))], h0t⟩) (fun q h => absurd h List.not_mem_nil) dX2_isPart_32
        · refine lv_iconst (v := 1) hx hb dX2_isPart_27 (by decide) ?_
          refine lv_goto (tgt := 32) hx hb dX2_isPart_28 (by decide) ?_
          exact W.zret (v := 1) hx hb hr rfl (fun t0 h0t hW => ⟨_, rfl, by rw [isPt, if_neg (pcd_no c2 c10 c14 c24)], h0t⟩) (fun q h => absurd h List.not_mem_nil) dX2_isPart_32
set_option maxHeartbeats 4000000 in
set_option maxRecDepth 100000 in
theorem metX2_isShared (l : Launch) (D : va_G) (ad : Nat → Nat) (cI cZ : ClassId) (tc mv gn : Int32) (mb tp ow pl cn sz bf : FF) (k : Nat) (hk : k < 72) (ht : WFt tc tp) : Met l yX2_isShared (ws_ yX2_isShared cX2_isShared 2 (some .boolean)) ({ frames := 1, cells := 0, slots := 0, locals := 22 }) (PcR D (tyIZ cI cZ) (wM ad cI cZ tc mv gn mb tp ow pl cn sz bf) [.ref (ad 0), .int (nI k)]) (vp_Si (fun r => r = shI tp sz k)) 0 0 (fun _ => False) := by
  refine Met.ofW (cc := cX2_isShared) (maxL := 2) (ret := (some .boolean)) (by decide) rfl ?_
  intro p e s m args below meth c s₁ B hml hv
  obtain ⟨rfl, hP, hK⟩ := hv
  have hx := B.exec
  have hb := B.bytes
  have hr := B.returns
  have hts := atoms_spec (ws := (ws_ yX2_isShared cX2_isShared 2 (some .boolean))) B.pre
  have hts : ∀ w ∈ lw_all, w.before _ s = true := fun w h => hts w (List.mem_cons_of_mem _ h)
  have hown : s.vm.findClass RX2 = some m.cls := findClass_of_methodNamed B.named
  have hlocks := B.notSynchronized
  have hl := lv_entry ([.ref (ad 0), .int (nI k)]) (n := 2) (Nat.le_of_ble_eq_true rfl)
  rw [lg_entry_eq]
  generalize (lg_sl ([.ref (ad 0), .int (nI k)]) ++ List.replicate (2 - (lg_sl ([.ref (ad 0), .int (nI k)])).length) Slot.unset).toArray = ls at hl ⊢
  have hl : lv_has ls 2 [(0, .ref (ad 0)), (1, .int (nI k))] := hl
  refine lv_aload_n hx hb dX2_isShared_0 rfl (lv_at hl 0 rfl) ?_
  refine va_get (D := D) (ci := 2) (v := .ref (ad 2)) (C := RX2) (T := TX2) (N := 10) hx hb hts in_X2 hown hK hP 0 rfl rfl 1 (by decide) (hts _ q145) (fun _ h9 => h9) rfl dX2_isShared_1 ?_
  refine lv_iload_n hx hb dX2_isShared_4 rfl (lv_at hl 1 rfl) ?_
  refine lv_bipush (v := 6) hx hb dX2_isShared_5 (by decide) ?_
  refine lv_idiv hx hb dX2_isShared_7 (by decide) ?_
  refine g_top (y := nI (k / 6)) (six_div hk) ?_
  refine lv_iconst (v := 1) hx hb dX2_isShared_8 (by decide) ?_
  refine lv_iadd hx hb dX2_isShared_9 ?_
  refine g_top (y := nI (k / 6 + 1)) (nI_1 _) ?_
  refine g_zald hx hb hK hP 2 1 rfl rfl (k / 6 + 1) (rfl) (by omega) (by decide) dX2_isShared_10 ?_
  refine lv_if_eq (tgt := 35) hx hb dX2_isShared_11 (by decide) (fun c11 => ?_) (fun c11 => ?_)
  · refine lv_iconst (v := 0) hx hb dX2_isShared_35 (by decide) ?_
    exact W.zret (v := 0) hx hb hr rfl (fun t0 h0t hW => ⟨_, rfl, by first | exact (if_neg (fun q : sh tp sz k => q.1 c11)).symm | exact (if_neg ((sh_pt ht hk c11).mp (by rw [← hr2]; exact c28))).symm, h0t⟩) (fun q h => absurd h List.not_mem_nil) dX2_isShared_36
  · refine lv_aload_n hx hb dX2_isShared_14 rfl (lv_at hl 0 rfl) ?_
    refine lv_iload_n hx hb dX2_isShared_15 rfl (lv_at hl 1 rfl) ?_
    refine lv_bipush (v := 6) hx hb dX2_isShared_16 (by decide) ?_
    refine lv_idiv hx hb dX2_isShared_18 (by decide) ?_
    refine g_top (y := nI (k / 6)) (six_div hk) ?_
    refine lv_iconst (v := 1) hx hb dX2_isShared_19 (by decide) ?_
    refine lv_iadd hx hb dX2_isShared_20 ?_
    refine g_top (y := nI (k / 6 + 1)) (nI_1 _) ?_
    refine lv_iload_n hx hb dX2_isShared_21 rfl (lv_at hl 1 rfl) ?_
    refine lv_bipush (v := 6) hx hb dX2_isShared_22 (by decide) ?_
    refine lv_irem hx hb dX2_isShared_24 (by decide) ?_
    refine g_top (y := nI (k % 6)) (six_rem hk) ?_
    refine vp_callSi (W.runV (As := [.int (nI (k / 6 + 1)), .int (nI (k % 6))]) (rest := []) ⟨hx, hb, hml, hown, hts⟩ (metX2_isPart l D ad cI cZ tc mv gn mb tp ow pl cn sz bf (nI (k / 6 + 1)) (nI (k % 6)) ht) (cwV 2 hts (lw_V q191 q193 qs7 q14 q194) rfl rfl rfl (by decide +kernel) ⟨Nat.le_of_ble_eq_true rfl, Nat.le_of_ble_eq_true rfl⟩) ⟨blR, va_recv hK hP (ci := 2) (q0 := 0) rfl rfl, prR hP hK⟩ rfl rfl hl.1 rfl (lv_room (Nat.le_of_ble_eq_true rfl)) dX2_isShared_25 ⟨Nat.zero_le _, Nat.zero_le _⟩) (fun r2 hr2 => ?_)
    refine lv_if_eq (tgt := 35) hx hb dX2_isShared_28 (by decide) (fun c28 => ?_) (fun c28 => ?_)
    · refine lv_iconst (v := 0) hx hb dX2_isShared_35 (by decide) ?_
      exact W.zret (v := 0) hx hb hr rfl (fun t0 h0t hW => ⟨_, rfl, by first | exact (if_neg (fun q : sh tp sz k => q.1 c11)).symm | exact (if_neg ((sh_pt ht hk c11).mp (by rw [← hr2]; exact c28))).symm, h0t⟩) (fun q h => absurd h List.not_mem_nil) dX2_isShared_36
    · refine lv_iconst (v := 1) hx hb dX2_isShared_31 (by decide) ?_
      refine lv_goto (tgt := 36) hx hb dX2_isShared_32 (by decide) ?_
      exact W.zret (v := 1) hx hb hr rfl (fun t0 h0t hW => ⟨_, rfl, by rw [shI, if_pos (Decidable.not_not.mp (fun q => c28 (by rw [hr2]; exact (sh_pt ht hk c11).mpr q)))], h0t⟩) (fun q h => absurd h List.not_mem_nil) dX2_isShared_36
set_option maxHeartbeats 4000000 in
set_option maxRecDepth 100000 in
theorem L_X1_few (C0 : CallFix p m c cX1_fewest 3 s args lw_all RX1) (hK : va_K D vwCl (tyIZ cI cZ) s) {H : Heap} {locs : List Loc} (hP : va_P D vwCl (wX ad cI cZ tc mv gn mb tp ow pl cn sz bf) H)  (hk : ∀ (ls : Array Slot) (x1 : Int32), (x1 = fewI mb cn 8) → lv_has ls 3 [(0, .ref (ad 1)), (1, .int x1), (2, .int (nI 8))] → W p l e R s m args below meth c H locs cells slots Q (F0 m 46 ls [])) : ∀ (n i : Nat), i ≤ 8 → 8 < i + n → ∀ (ls : Array Slot) (x1 : Int32), (x1 = fewI mb cn i) → lv_has ls 3 [(0, .ref (ad 1)), (1, .int x1), (2, .int (nI i))] → W p l e R s m args below meth c H locs cells slots Q (F0 m 4 ls []) := by
  obtain ⟨hx, hb, hml, hown, hts⟩ := id C0
  intro n
  induction n with
  | zero => intro i h1 h2; exact absurd h2 (by omega)
  | succ n ih =>
    intro i hi hin ls x1 e1 hl
    refine lv_iload_n hx hb dX1_fewest_4 rfl (lv_at hl 2 rfl) ?_
    refine lv_bipush (v := nI 8) hx hb dX1_fewest_5 (by decide) ?_
    refine lv_icmp_ge (tgt := 46) hx hb dX1_fewest_7 (by decide) (fun c7 => ?_) (fun c7 => ?_)
    · obtain rfl : i = 8 := by have h9 := lp_ge (by decide) (by omega) c7; omega
      exact hk ls x1 (e1) (lv_sub hl [0, 1, 2] rfl)
    · have hlt : i < 8 := lp_lt (by omega) c7
      refine lv_aload_n hx hb dX1_fewest_10 rfl (lv_at hl 0 rfl) ?_
      refine va_get (D := D) (ci := 1) (v := .ref (ad 2)) (C := RX1) (T := TX1) (N := 6) hx hb hts in_X1 hown hK hP 1 rfl rfl 0 (by decide) (hts _ q29) (fun _ h9 => h9) rfl dX1_fewest_11 ?_
      refine lv_iload_n hx hb dX1_fewest_14 rfl (lv_at hl 2 rfl) ?_
      refine g_zald hx hb hK hP 2 1 rfl rfl i (rfl) (by omega) (by decide) dX1_fewest_15 ?_
      refine lv_if_eq (tgt := 40) hx hb dX1_fewest_16 (by decide) (fun c16 => ?_) (fun c16 => ?_)
      · refine lv_iinc (v := nI (i + 1)) (lv' := [(2, .int (nI (i + 1))), (0, .ref (ad 1)), (1, .int x1)]) hx hb dX1_fewest_40 hl (k := 2) rfl (nI_inc _) (by decide) rfl (fun ls hl => ?_)
        refine lv_goto (tgt := 4) hx hb dX1_fewest_43 (by decide) ?_
        exact ih (i + 1) (by omega) (by omega) ls x1 (by first | exact few_skip e1 c16 | exact few_keep e1 hj ej c20 c35) (lv_sub hl [1, 2, 0] rfl)
      · refine lv_iload_n hx hb dX1_fewest_19 rfl (lv_at hl 1 rfl) ?_
        refine lv_if_lt (tgt := 38) hx hb dX1_fewest_20 (by decide) (fun c20 => ?_) (fun c20 => ?_)
        · refine lv_iload_n hx hb dX1_fewest_38 rfl (lv_at hl 2 rfl) ?_
          refine lv_istore_n (lv' := [(1, .int (nI i)), (0, .ref (ad 1)), (2, .int (nI i))]) hx hb dX1_fewest_39 rfl hl (by decide) rfl (fun ls hl => ?_)
          refine lv_iinc (v := nI (i + 1)) (lv' := [(2, .int (nI (i + 1))), (1, .int (nI i)), (0, .ref (ad 1))]) hx hb dX1_fewest_40 hl (k := 2) rfl (nI_inc _) (by decide) rfl (fun ls hl => ?_)
          refine lv_goto (tgt := 4) hx hb dX1_fewest_43 (by decide) ?_
          exact ih (i + 1) (by omega) (by omega) ls (nI i) (by first | exact few_neg e1 c16 c20 | exact few_take e1 hj ej c16 c35) (lv_sub hl [2, 1, 0] rfl)
        · obtain ⟨j, hj, ej⟩ := few_ix hlt e1 c20
          refine lv_aload_n hx hb dX1_fewest_23 rfl (lv_at hl 0 rfl) ?_
          refine va_get (D := D) (ci := 1) (v := .ref (ad 6)) (C := RX1) (T := TX1) (N := 6) hx hb hts in_X1 hown hK hP 1 rfl rfl 5 (by decide) (hts _ q39) (fun _ h9 => h9) rfl dX1_fewest_24 ?_
          refine lv_iload_n hx hb dX1_fewest_27 rfl (lv_at hl 2 rfl) ?_
          refine g_iald hx hb hK hP 6 0 rfl rfl i (rfl) (by omega) (by decide) dX1_fewest_28 ?_
          refine lv_aload_n hx hb dX1_fewest_29 rfl (lv_at hl 0 rfl) ?_
          refine va_get (D := D) (ci := 1) (v := .ref (ad 6)) (C := RX1) (T := TX1) (N := 6) hx hb hts in_X1 hown hK hP 1 rfl rfl 5 (by decide) (hts _ q39) (fun _ h9 => h9) rfl dX1_fewest_30 ?_
          refine lv_iload_n hx hb dX1_fewest_33 rfl (lv_at hl 1 rfl) ?_
          refine g_iald hx hb hK hP 6 0 rfl rfl j (ej) (hj) (by decide) dX1_fewest_34 ?_
          refine lv_icmp_ge (tgt := 40) hx hb dX1_fewest_35 (by decide) (fun c35 => ?_) (fun c35 => ?_)
          · refine lv_iinc (v := nI (i + 1)) (lv' := [(2, .int (nI (i + 1))), (0, .ref (ad 1)), (1, .int x1)]) hx hb dX1_fewest_40 hl (k := 2) rfl (nI_inc _) (by decide) rfl (fun ls hl => ?_)
            refine lv_goto (tgt := 4) hx hb dX1_fewest_43 (by decide) ?_
            exact ih (i + 1) (by omega) (by omega) ls x1 (by first | exact few_skip e1 c16 | exact few_keep e1 hj ej c20 c35) (lv_sub hl [1, 2, 0] rfl)
          · refine lv_iload_n hx hb dX1_fewest_38 rfl (lv_at hl 2 rfl) ?_
            refine lv_istore_n (lv' := [(1, .int (nI i)), (0, .ref (ad 1)), (2, .int (nI i))]) hx hb dX1_fewest_39 rfl hl (by decide) rfl (fun ls hl => ?_)
            refine lv_iinc (v := nI (i + 1)) (lv' := [(2, .int (nI (i + 1))), (1, .int (nI i)), (0, .ref (ad 1))]) hx hb dX1_fewest_40 hl (k := 2) rfl (nI_inc _) (by decide) rfl (fun ls hl => ?_)
            refine lv_goto (tgt := 4) hx hb dX1_fewest_43 (by decide) ?_
            exact ih (i + 1) (by omega) (by omega) ls (nI i) (by first | exact few_neg e1 c16 c20 | exact few_take e1 hj ej c16 c35) (lv_sub hl [2, 1, 0] rfl)
set_option maxHeartbeats 4000000 in
set_option maxRecDepth 100000 in
theorem metX1_fewest (l : Launch) (D : va_G) (ad : Nat → Nat) (cI cZ : ClassId) (tc mv gn : Int32) (mb tp ow pl cn sz bf : FF)  : Met l yX1_fewest (ws_ yX1_fewest cX1_fewest 3 (some .int)) ({ frames := 0, cells := 0, slots := 0, locals := 0 }) (PcR D (tyIZ cI cZ) (wX ad cI cZ tc mv gn mb tp ow pl cn sz bf) [.ref (ad 1)]) (vp_Si (fun r => r = fewI mb cn 8)) 0 0 (fun _ => False) := by
  refine Met.ofW (cc := cX1_fewest) (maxL := 3) (ret := (some .int)) (by decide) rfl ?_
  intro p e s m args below meth c s₁ B hml hv
  obtain ⟨rfl, hP, hK⟩ := hv
  have hx := B.exec
  have hb := B.bytes
  have hr := B.returns
  have hts := atoms_spec (ws := (ws_ yX1_fewest cX1_fewest 3 (some .int))) B.pre
  have hts : ∀ w ∈ lw_all, w.before _ s = true := fun w h => hts w (List.mem_cons_of_mem _ h)
  have hown : s.vm.findClass RX1 = some m.cls := findClass_of_methodNamed B.named
  have hlocks := B.notSynchronized
  have hl := lv_entry ([.ref (ad 1)]) (n := 3) (Nat.le_of_ble_eq_true rfl)
  rw [lg_entry_eq]
  generalize (lg_sl ([.ref (ad 1)]) ++ List.replicate (3 - (lg_sl ([.ref (ad 1)])).length) Slot.unset).toArray = ls at hl ⊢
  have hl : lv_has ls 3 [(0, .ref (ad 1))] := hl
  refine lv_iconst (v := (-1)) hx hb dX1_fewest_0 (by decide) ?_
  refine lv_istore_n (lv' := [(1, .int (-1)), (0, .ref (ad 1))]) hx hb dX1_fewest_1 rfl hl (by decide) rfl (fun ls hl => ?_)
  refine lv_iconst (v := nI 0) hx hb dX1_fewest_2 (by decide) ?_
  refine lv_istore_n (lv' := [(2, .int (nI 0)), (1, .int (-1)), (0, .ref (ad 1))]) hx hb dX1_fewest_3 rfl hl (by decide) rfl (fun ls hl => ?_)
  refine L_X1_few ⟨hx, hb, hml, hown, hts⟩ hK hP (fun ls x1 e1 hl => ?_) 9 0 (by decide) (by decide) ls _ rfl (lv_sub hl [2, 1, 0] rfl)
  refine lv_iload_n hx hb dX1_fewest_46 rfl (lv_at hl 1 rfl) ?_
  exact W.iret (v := x1) hx hb hr (fun t0 h0t hW => ⟨_, rfl, e1, h0t⟩) (fun q h => absurd h List.not_mem_nil) dX1_fewest_47
set_option maxHeartbeats 4000000 in
set_option maxRecDepth 100000 in
theorem L_X2_few (C0 : CallFix p m c cX2_fewest 3 s args lw_all RX2) (hK : va_K D vwCl (tyIZ cI cZ) s) {H : Heap} {locs : List Loc} (hP : va_P D vwCl (wM ad cI cZ tc mv gn mb tp ow pl cn sz bf) H)  (hk : ∀ (ls : Array Slot) (x1 : Int32), (x1 = fewI mb cn 8) → lv_has ls 3 [(0, .ref (ad 0)), (1, .int x1), (2, .int (nI 8))] → W p l e R s m args below meth c H locs cells slots Q (F0 m 46 ls [])) : ∀ (n i : Nat), i ≤ 8 → 8 < i + n → ∀ (ls : Array Slot) (x1 : Int32), (x1 = fewI mb cn i) → lv_has ls 3 [(0, .ref (ad 0)), (1, .int x1), (2, .int (nI i))] → W p l e R s m args below meth c H locs cells slots Q (F0 m 4 ls []) := by
  obtain ⟨hx, hb, hml, hown, hts⟩ := id C0
  intro n
  induction n with
  | zero => intro i h1 h2; exact absurd h2 (by omega)
  | succ n ih =>
    intro i hi hin ls x1 e1 hl
    refine lv_iload_n hx hb dX2_fewest_4 rfl (lv_at hl 2 rfl) ?_
    refine lv_bipush (v := nI 8) hx hb dX2_fewest_5 (by decide) ?_
    refine lv_icmp_ge (tgt := 46) hx hb dX2_fewest_7 (by decide) (fun c7 => ?_) (fun c7 => ?_)
    · obtain rfl : i = 8 := by have h9 := lp_ge (by decide) (by omega) c7; omega
      exact hk ls x1 (e1) (lv_sub hl [0, 1, 2] rfl)
    · have hlt : i < 8 := lp_lt (by omega) c7
      refine lv_aload_n hx hb dX2_fewest_10 rfl (lv_at hl 0 rfl) ?_
      refine va_get (D := D) (ci := 2) (v := .ref (ad 3)) (C := RX2) (T := TX2) (N := 10) hx hb hts in_X2 hown hK hP 0 rfl rfl 2 (by decide) (hts _ q146) (fun _ h9 => h9) rfl dX2_fewest_11 ?_
      refine lv_iload_n hx hb dX2_fewest_14 rfl (lv_at hl 2 rfl) ?_
      refine g_zald hx hb hK hP 3 1 rfl rfl i (rfl) (by omega) (by decide) dX2_fewest_15 ?_
      refine lv_if_eq (tgt := 40) hx hb dX2_fewest_16 (by decide) (fun c16 => ?_) (fun c16 => ?_)
      · refine lv_iinc (v := nI (i + 1)) (lv' := [(2, .int (nI (i + 1))), (0, .ref (ad 0)), (1, .int x1)]) hx hb dX2_fewest_40 hl (k := 2) rfl (nI_inc _) (by decide) rfl (fun ls hl => ?_)
        refine lv_goto (tgt := 4) hx hb dX2_fewest_43 (by decide) ?_
        exact ih (i + 1) (by omega) (by omega) ls x1 (by first | exact few_skip e1 c16 | exact few_keep e1 hj ej c20 c35) (lv_sub hl [1, 2, 0] rfl)
      · refine lv_iload_n hx hb dX2_fewest_19 rfl (lv_at hl 1 rfl) ?_
        refine lv_if_lt (tgt := 38) hx hb dX2_fewest_20 (by decide) (fun c20 => ?_) (fun c20 => ?_)
        · refine lv_iload_n hx hb dX2_fewest_38 rfl (lv_at hl 2 rfl) ?_
          refine lv_istore_n (lv' := [(1, .int (nI i)), (0, .ref (ad 0)), (2, .int (nI i))]) hx hb dX2_fewest_39 rfl hl (by decide) rfl (fun ls hl => ?_)
          refine lv_iinc (v := nI (i + 1)) (lv' := [(2, .int (nI (i + 1))), (1, .int (nI i)), (0, .ref (ad 0))]) hx hb dX2_fewest_40 hl (k := 2) rfl (nI_inc _) (by decide) rfl (fun ls hl => ?_)
          refine lv_goto (tgt := 4) hx hb dX2_fewest_43 (by decide) ?_
          exact ih (i + 1) (by omega) (by omega) ls (nI i) (by first | exact few_neg e1 c16 c20 | exact few_take e1 hj ej c16 c35) (lv_sub hl [2, 1, 0] rfl)
        · obtain ⟨j, hj, ej⟩ := few_ix hlt e1 c20
          refine lv_aload_n hx hb dX2_fewest_23 rfl (lv_at hl 0 rfl) ?_
          refine va_get (D := D) (ci := 2) (v := .ref (ad 7)) (C := RX2) (T := TX2) (N := 10) hx hb hts in_X2 hown hK hP 0 rfl rfl 6 (by decide) (hts _ q150) (fun _ h9 => h9) rfl dX2_fewest_24 ?_
          refine lv_iload_n hx hb dX2_fewest_27 rfl (lv_at hl 2 rfl) ?_
          refine g_iald hx hb hK hP 7 0 rfl rfl i (rfl) (by omega) (by decide) dX2_fewest_28 ?_
          refine lv_aload_n hx hb dX2_fewest_29 rfl (lv_at hl 0 rfl) ?_
          refine va_get (D := D) (ci := 2) (v := .ref (ad 7)) (C := RX2) (T := TX2) (N := 10) hx hb hts in_X2 hown hK hP 0 rfl rfl 6 (by decide) (hts _ q150) (fun _ h9 => h9) rfl dX2_fewest_30 ?_
          refine lv_iload_n hx hb dX2_fewest_33 rfl (lv_at hl 1 rfl) ?_
          refine g_iald hx hb hK hP 7 0 rfl rfl j (ej) (hj) (by decide) dX2_fewest_34 ?_
          refine lv_icmp_ge (tgt := 40) hx hb dX2_fewest_35 (by decide) (fun c35 => ?_) (fun c35 => ?_)
          · refine lv_iinc (v := nI (i + 1)) (lv' := [(2, .int (nI (i + 1))), (0, .ref (ad 0)), (1, .int x1)]) hx hb dX2_fewest_40 hl (k := 2) rfl (nI_inc _) (by decide) rfl (fun ls hl => ?_)
            refine lv_goto (tgt := 4) hx hb dX2_fewest_43 (by decide) ?_
            exact ih (i + 1) (by omega) (by omega) ls x1 (by first | exact few_skip e1 c16 | exact few_keep e1 hj ej c20 c35) (lv_sub hl [1, 2, 0] rfl)
          · refine lv_iload_n hx hb dX2_fewest_38 rfl (lv_at hl 2 rfl) ?_
            refine lv_istore_n (lv' := [(1, .int (nI i)), (0, .ref (ad 0)), (2, .int (nI i))]) hx hb dX2_fewest_39 rfl hl (by decide) rfl (fun ls hl => ?_)
            refine lv_iinc (v := nI (i + 1)) (lv' := [(2, .int (nI (i + 1))), (1, .int (nI i)), (0, .ref (ad 0))]) hx hb dX2_fewest_40 hl (k := 2) rfl (nI_inc _) (by decide) rfl (fun ls hl => ?_)
            refine lv_goto (tgt := 4) hx hb dX2_fewest_43 (by decide) ?_
            exact ih (i + 1) (by omega) (by omega) ls (nI i) (by first | exact few_neg e1 c16 c20 | exact few_take e1 hj ej c16 c35) (lv_sub hl [2, 1, 0] rfl)
set_option maxHeartbeats 4000000 in
set_option maxRecDepth 100000 in
theorem metX2_fewest (l : Launch) (D : va_G) (ad : Nat → Nat) (cI cZ : ClassId) (tc mv gn : Int32) (mb tp ow pl cn sz bf : FF)  : Met l yX2_fewest (ws_ yX2_fewest cX2_fewest 3 (some .int)) ({ frames := 0, cells := 0, slots := 0, locals := 0 }) (PcR D (tyIZ cI cZ) (wM ad cI cZ tc mv gn mb tp ow pl cn sz bf) [.ref (ad 0)]) (vp_Si (fun r => r = fewI mb cn 8)) 0 0 (fun _ => False) := by
  refine Met.ofW (cc := cX2_fewest) (maxL := 3) (ret := (some .int)) (by decide) rfl ?_
  intro p e s m args below meth c s₁ B hml hv
  obtain ⟨rfl, hP, hK⟩ := hv
  have hx := B.exec
  have hb := B.bytes
  have hr := B.returns
  have hts := atoms_spec (ws := (ws_ yX2_fewest cX2_fewest 3 (some .int))) B.pre
  have hts : ∀ w ∈ lw_all, w.before _ s = true := fun w h => hts w (List.mem_cons_of_mem _ h)
  have hown : s.vm.findClass RX2 = some m.cls := findClass_of_methodNamed B.named
  have hlocks := B.notSynchronized
  have hl := lv_entry ([.ref (ad 0)]) (n := 3) (Nat.le_of_ble_eq_true rfl)
  rw [lg_entry_eq]
  generalize (lg_sl ([.ref (ad 0)]) ++ List.replicate (3 - (lg_sl ([.ref (ad 0)])).length) Slot.unset).toArray = ls at hl ⊢
  have hl : lv_has ls 3 [(0, .ref (ad 0))] := hl
  refine lv_iconst (v := (-1)) hx hb dX2_fewest_0 (by decide) ?_
  refine lv_istore_n (lv' := [(1, .int (-1)), (0, .ref (ad 0))]) hx hb dX2_fewest_1 rfl hl (by decide) rfl (fun ls hl => ?_)
  refine lv_iconst (v := nI 0) hx hb dX2_fewest_2 (by decide) ?_
  refine lv_istore_n (lv' := [(2, .int (nI 0)), (1, .int (-1)), (0, .ref (ad 0))]) hx hb dX2_fewest_3 rfl hl (by decide) rfl (fun ls hl => ?_)
  refine L_X2_few ⟨hx, hb, hml, hown, hts⟩ hK hP (fun ls x1 e1 hl => ?_) 9 0 (by decide) (by decide) ls _ rfl (lv_sub hl [2, 1, 0] rfl)
  refine lv_iload_n hx hb dX2_fewest_46 rfl (lv_at hl 1 rfl) ?_
  exact W.iret (v := x1) hx hb hr (fun t0 h0t hW => ⟨_, rfl, e1, h0t⟩) (fun q h => absurd h List.not_mem_nil) dX2_fewest_47
set_option maxHeartbeats 4000000 in
set_option maxRecDepth 100000 in
theorem L_X2_keeps (C0 : CallFix p m c cX2_keeps 7 s args lw_all RX2) (hK : va_K D vwCl (tyIZ cI cZ) s) {H : Heap} {locs : List Loc} (hP : va_P D vwCl (wM ad cI cZ tc mv gn mb tp ow pl cn sz bf) H) (xm xa xb ea : Int32) (hk : ∀ (ls : Array Slot) (x5 : Int32), (x5 = oth cn xm ea 8) → lv_has ls 7 [(0, .ref (ad 0)), (1, .int xm), (2, .int xa), (3, .int xb), (4, .int ea), (5, .int x5), (6, .int (nI 8))] → W p l e R s m args below meth c H locs cells slots Q (F0 m 45 ls [])) : ∀ (n i : Nat), i ≤ 8 → 8 < i + n → ∀ (ls : Array Slot) (x5 : Int32), (x5 = oth cn xm ea i) → lv_has ls 7 [(0, .ref (ad 0)), (1, .int xm), (2, .int xa), (3, .int xb), (4, .int ea), (5, .int x5), (6, .int (nI i))] → W p l e R s m args below meth c H locs cells slots Q (F0 m 11 ls []) := by
  obtain ⟨hx, hb, hml, hown, hts⟩ := id C0
  intro n
  induction n with
  | zero => intro i h1 h2; exact absurd h2 (by omega)
  | succ n ih =>
    intro i hi hin ls x5 e5 hl
    refine lv_iload hx hb dX2_keeps_11 (lv_at hl 6 rfl) ?_
    refine lv_bipush (v := nI 8) hx hb dX2_keeps_13 (by decide) ?_
    refine lv_icmp_ge (tgt := 45) hx hb dX2_keeps_15 (by decide) (fun c15 => ?_) (fun c15 => ?_)
    · obtain rfl : i = 8 := by have h9 := lp_ge (by decide) (by omega) c15; omega
      exact hk ls x5 (e5) (lv_sub hl [0, 1, 2, 3, 4, 5, 6] rfl)
    · have hlt : i < 8 := lp_lt (by omega) c15
      refine lv_iload hx hb dX2_keeps_18 (lv_at hl 6 rfl) ?_
      refine lv_iload_n hx hb dX2_keeps_20 rfl (lv_at hl 1 rfl) ?_
      refine lv_icmp_eq (tgt := 39) hx hb dX2_keeps_21 (by decide) (fun c21 => ?_) (fun c21 => ?_)
      · refine lv_iinc (v := nI (i + 1)) (lv' := [(6, .int (nI (i + 1))), (0, .ref (ad 0)), (1, .int xm), (2, .int xa), (3, .int xb), (4, .int ea), (5, .int x5)]) hx hb dX2_keeps_39 hl (k := 6) rfl (nI_inc _) (by decide) rfl (fun ls hl => ?_)
        refine lv_goto (tgt := 11) hx hb dX2_keeps_42 (by decide) ?_
        exact ih (i + 1) (by omega) (by omega) ls x5 (by first | exact oth_1 e5 c21 (Int32.not_le.mp c33) | exact oth_0 e5 (fun q => q.1 c21) | exact oth_0 e5 (fun q => Int32.not_lt.mpr c33 q.2)) (lv_sub hl [1, 2, 3, 4, 5, 6, 0] rfl)
      · refine lv_aload_n hx hb dX2_keeps_24 rfl (lv_at hl 0 rfl) ?_
        refine va_get (D := D) (ci := 2) (v := .ref (ad 7)) (C := RX2) (T := TX2) (N := 10) hx hb hts in_X2 hown hK hP 0 rfl rfl 6 (by decide) (hts _ q150) (fun _ h9 => h9) rfl dX2_keeps_25 ?_
        refine lv_iload hx hb dX2_keeps_28 (lv_at hl 6 rfl) ?_
        refine g_iald hx hb hK hP 7 0 rfl rfl i (rfl) (by omega) (by decide) dX2_keeps_30 ?_
        refine lv_iload hx hb dX2_keeps_31 (lv_at hl 4 rfl) ?_
        refine lv_icmp_le (tgt := 39) hx hb dX2_keeps_33 (by decide) (fun c33 => ?_) (fun c33 => ?_)
        · refine lv_iinc (v := nI (i + 1)) (lv' := [(6, .int (nI (i + 1))), (0, .ref (ad 0)), (1, .int xm), (2, .int xa), (3, .int xb), (4, .int ea), (5, .int x5)]) hx hb dX2_keeps_39 hl (k := 6) rfl (nI_inc _) (by decide) rfl (fun ls hl => ?_)
          refine lv_goto (tgt := 11) hx hb dX2_keeps_42 (by decide) ?_
          exact ih (i + 1) (by omega) (by omega) ls x5 (by first | exact oth_1 e5 c21 (Int32.not_le.mp c33) | exact oth_0 e5 (fun q => q.1 c21) | exact oth_0 e5 (fun q => Int32.not_lt.mpr c33 q.2)) (lv_sub hl [1, 2, 3, 4, 5, 6, 0] rfl)
        · refine lv_iinc (v := x5 + 1) (lv' := [(5, .int (x5 + 1)), (0, .ref (ad 0)), (1, .int xm), (2, .int xa), (3, .int xb), (4, .int ea), (6, .int (nI i))]) hx hb dX2_keeps_36 hl (k := 5) rfl (rfl) (by decide) rfl (fun ls hl => ?_)
          refine lv_iinc (v := nI (i + 1)) (lv' := [(6, .int (nI (i + 1))), (5, .int (x5 + 1)), (0, .ref (ad 0)), (1, .int xm), (2, .int xa), (3, .int xb), (4, .int ea)]) hx hb dX2_keeps_39 hl (k := 6) rfl (nI_inc _) (by decide) rfl (fun ls hl => ?_)
          refine lv_goto (tgt := 11) hx hb dX2_keeps_42 (by decide) ?_
          exact ih (i + 1) (by omega) (by omega) ls (x5 + 1) (by first | exact oth_1 e5 c21 (Int32.not_le.mp c33) | exact oth_0 e5 (fun q => q.1 c21) | exact oth_0 e5 (fun q => Int32.not_lt.mpr c33 q.2)) (lv_sub hl [2, 3, 4, 5, 6, 1, 0] rfl)
set_option maxHeartbeats 4000000 in
set_option maxRecDepth 100000 in
theorem metX2_keeps (l : Launch) (D : va_G) (ad : Nat → Nat) (cI cZ : ClassId) (tc mv gn : Int32) (mb tp ow pl cn sz bf : FF) (xm xa xb : Int32) (j : Nat) (hj : j < 8) (ej : xm = nI j) (hb0 : ¬ xb = 0) : Met l yX2_keeps (ws_ yX2_keeps cX2_keeps 7 (some .boolean)) ({ frames := 0, cells := 0, slots := 0, locals := 0 }) (PcR D (tyIZ cI cZ) (wM ad cI cZ tc mv gn mb tp ow pl cn sz bf) [.ref (ad 0), .int xm, .int xa, .int xb]) (vp_Si (fun r => r = if cn j < xa / xb ∨ (cn j = xa / xb ∧ oth cn xm (xa / xb) 8 < xa - xa / xb * xb) then 1 else 0)) 0 0 (fun _ => False) := by
  refine Met.ofW (cc := cX2_keeps) (maxL := 7) (ret := (some .boolean)) (by decide) rfl ?_
  intro p e s m args below meth c s₁ B hml hv
  obtain ⟨rfl, hP, hK⟩ := hv
  have hx := B.exec
  have hb := B.bytes
  have hr := B.returns
  have hts := atoms_spec (ws := (ws_ yX2_keeps cX2_keeps 7 (some .boolean))) B.pre
  have hts : ∀ w ∈ lw_all, w.before _ s = true := fun w h => hts w (List.mem_cons_of_mem _ h)
  have hown : s.vm.findClass RX2 = some m.cls := findClass_of_methodNamed B.named
  have hlocks := B.notSynchronized
  have hl := lv_entry ([.ref (ad 0), .int xm, .int xa, .int xb]) (n := 7) (Nat.le_of_ble_eq_true rfl)
  rw [lg_entry_eq]
  generalize (lg_sl ([.ref (ad 0), .int xm, .int xa, .int xb]) ++ List.replicate (7 - (lg_sl ([.ref (ad 0), .int xm, .int xa, .int xb])).length) Slot.unset).toArray = ls at hl ⊢
  have hl : lv_has ls 7 [(0, .ref (ad 0)), (1, .int xm), (2, .int xa), (3, .int xb)] := hl
  refine lv_iload_n hx hb dX2_keeps_0 rfl (lv_at hl 2 rfl) ?_
  refine lv_iload_n hx hb dX2_keeps_1 rfl (lv_at hl 3 rfl) ?_
  refine lv_idiv hx hb dX2_keeps_2 (hb0) ?_
  refine lv_istore (lv' := [(4, .int (xa / xb)), (0, .ref (ad 0)), (1, .int xm), (2, .int xa), (3, .int xb)]) hx hb dX2_keeps_3 hl (by decide) rfl (fun ls hl => ?_)
  refine lv_iconst (v := 0) hx hb dX2_keeps_5 (by decide) ?_
  refine lv_istore (lv' := [(5, .int 0), (4, .int (xa / xb)), (0, .ref (ad 0)), (1, .int xm), (2, .int xa), (3, .int xb)]) hx hb dX2_keeps_6 hl (by decide) rfl (fun ls hl => ?_)
  refine lv_iconst (v := nI 0) hx hb dX2_keeps_8 (by decide) ?_
  refine lv_istore (lv' := [(6, .int (nI 0)), (5, .int 0), (4, .int (xa / xb)), (0, .ref (ad 0)), (1, .int xm), (2, .int xa), (3, .int xb)]) hx hb dX2_keeps_9 hl (by decide) rfl (fun ls hl => ?_)
  refine L_X2_keeps ⟨hx, hb, hml, hown, hts⟩ hK hP xm xa xb (xa / xb) (fun ls x5 e5 hl => ?_) 9 0 (by decide) (by decide) ls _ rfl (lv_sub hl [3, 4, 5, 6, 2, 1, 0] rfl)
  refine lv_aload_n hx hb dX2_keeps_45 rfl (lv_at hl 0 rfl) ?_
  refine va_get (D := D) (ci := 2) (v := .ref (ad 7)) (C := RX2) (T := TX2) (N := 10) hx hb hts in_X2 hown hK hP 0 rfl rfl 6 (by decide) (hts _ q150) (fun _ h9 => h9) rfl dX2_keeps_46 ?_
  refine lv_iload_n hx hb dX2_keeps_49 rfl (lv_at hl 1 rfl) ?_
  refine g_iald hx hb hK hP 7 0 rfl rfl j (ej) (hj) (by decide) dX2_keeps_50 ?_
  refine lv_iload hx hb dX2_keeps_51 (lv_at hl 4 rfl) ?_
  refine lv_icmp_lt (tgt := 75) hx hb dX2_keeps_53 (by decide) (fun c53 => ?_) (fun c53 => ?_)
  · refine lv_iconst (v := 1) hx hb dX2_keeps_75 (by decide) ?_
    refine lv_goto (tgt := 80) hx hb dX2_keeps_76 (by decide) ?_
    exact W.zret (v := 1) hx hb hr rfl (fun t0 h0t hW => ⟨_, rfl, by first | rw [if_pos (Or.inl c53)] | rw [if_pos (Or.inr ⟨c64, by rw [← e5]; exact Int32.not_le.mp c72⟩)], h0t⟩) (fun q h => absurd h List.not_mem_nil) dX2_keeps_80
  · refine lv_aload_n hx hb dX2_keeps_56 rfl (lv_at hl 0 rfl) ?_
    refine va_get (D := D) (ci := 2) (v := .ref (ad 7)) (C := RX2) (T := TX2) (N := 10) hx hb hts in_X2 hown hK hP 0 rfl rfl 6 (by decide) (hts _ q150) (fun _ h9 => h9) rfl dX2_keeps_57 ?_
    refine lv_iload_n hx hb dX2_keeps_60 rfl (lv_at hl 1 rfl) ?_
    refine g_iald hx hb hK hP 7 0 rfl rfl j (ej) (hj) (by decide) dX2_keeps_61 ?_
    refine lv_iload hx hb dX2_keeps_62 (lv_at hl 4 rfl) ?_
    refine lv_icmp_ne (tgt := 79) hx hb dX2_keeps_64 (by decide) (fun c64 => ?_) (fun c64 => ?_)
    · refine lv_iconst (v := 0) hx hb dX2_keeps_79 (by decide) ?_
      exact W.zret (v := 0) hx hb hr rfl (fun t0 h0t hW => ⟨_, rfl, (if_neg (fun q => q.elim c53 (fun z => c64 z.1))).symm, h0t⟩) (fun q h => absurd h List.not_mem_nil) dX2_keeps_80
    · refine lv_iload hx hb dX2_keeps_67 (lv_at hl 5 rfl) ?_
      refine lv_iload_n hx hb dX2_keeps_69 rfl (lv_at hl 2 rfl) ?_
      refine lv_iload_n hx hb dX2_keeps_70 rfl (lv_at hl 3 rfl) ?_
      refine lv_irem hx hb dX2_keeps_71 (hb0) ?_
      refine lv_icmp_ge (tgt := 79) hx hb dX2_keeps_72 (by decide) (fun c72 => ?_) (fun c72 => ?_)
      · refine lv_iconst (v := 0) hx hb dX2_keeps_79 (by decide) ?_
        exact W.zret (v := 0) hx hb hr rfl (fun t0 h0t hW => ⟨_, rfl, (if_neg (fun q => q.elim c53 (fun z => Int32.not_lt.mpr c72 (by rw [e5]; exact z.2)))).symm, h0t⟩) (fun q h => absurd h List.not_mem_nil) dX2_keeps_80
      · refine lv_iconst (v := 1) hx hb dX2_keeps_75 (by decide) ?_
        refine lv_goto (tgt := 80) hx hb dX2_keeps_76 (by decide) ?_
        exact W.zret (v := 1) hx hb hr rfl (fun t0 h0t hW => ⟨_, rfl, by first | rw [if_pos (Or.inl c53)] | rw [if_pos (Or.inr ⟨c64, by rw [← e5]; exact Int32.not_le.mp c72⟩)], h0t⟩) (fun q h => absurd h List.not_mem_nil) dX2_keeps_80
set_option maxHeartbeats 4000000 in
set_option maxRecDepth 100000 in
theorem metX0_generation (l : Launch) (D : va_G) (ad : Nat → Nat) (cI cZ : ClassId) (tc mv gn : Int32) (mb tp ow pl cn sz bf : FF)  : Met l yX0_generation (ws_ yX0_generation cX0_generation 1 (some .int)) ({ frames := 0, cells := 0, slots := 0, locals := 0 }) (PcR D (tyIZ cI cZ) (wX ad cI cZ tc mv gn mb tp ow pl cn sz bf) [.ref (ad 0)]) (vp_Si (fun r => r = gn)) 0 0 (fun _ => False) := by
  refine Met.ofW (cc := cX0_generation) (maxL := 1) (ret := (some .int)) (by decide) rfl ?_
  intro p e s m args below meth c s₁ B hml hv
  obtain ⟨rfl, hP, hK⟩ := hv
  have hx := B.exec
  have hb := B.bytes
  have hr := B.returns
  have hts := atoms_spec (ws := (ws_ yX0_generation cX0_generation 1 (some .int))) B.pre
  have hts : ∀ w ∈ lw_all, w.before _ s = true := fun w h => hts w (List.mem_cons_of_mem _ h)
  have hown : s.vm.findClass RX0 = some m.cls := findClass_of_methodNamed B.named
  have hlocks := B.notSynchronized
  have hl := lv_entry ([.ref (ad 0)]) (n := 1) (Nat.le_of_ble_eq_true rfl)
  rw [lg_entry_eq]
  generalize (lg_sl ([.ref (ad 0)]) ++ List.replicate (1 - (lg_sl ([.ref (ad 0)])).length) Slot.unset).toArray = ls at hl ⊢
  have hl : lv_has ls 1 [(0, .ref (ad 0))] := hl
  refine lv_aload_n hx hb dX0_generation_0 rfl (lv_at hl 0 rfl) ?_
  refine va_get (D := D) (ci := 0) (v := .ref (ad 1)) (C := RX0) (T := TX0) (N := 5) hx hb hts in_X0 hown hK hP 0 rfl rfl 0 (by decide) (hts _ q55) (fun _ h9 => h9) rfl dX0_generation_1 ?_
  refine va_get (D := D) (ci := 1) (v := .int gn) (C := RX1) (T := TX1) (N := 6) hx hb hts in_X1 hown hK hP 1 rfl rfl 2 (by decide) (hts _ q34) (fun _ h9 => h9) rfl dX0_generation_4 ?_
  exact W.iret (v := gn) hx hb hr (fun t0 h0t hW => ⟨_, rfl, rfl, h0t⟩) (fun q h => absurd h List.not_mem_nil) dX0_generation_7
set_option maxHeartbeats 4000000 in
set_option maxRecDepth 100000 in
theorem metX2_generation (l : Launch) (D : va_G) (ad : Nat → Nat) (cI cZ : ClassId) (tc mv gn : Int32) (mb tp ow pl cn sz bf : FF)  : Met l yX2_generation (ws_ yX2_generation cX2_generation 1 (some .int)) ({ frames := 0, cells := 0, slots := 0, locals := 0 }) (PcR D (tyIZ cI cZ) (wM ad cI cZ tc mv gn mb tp ow pl cn sz bf) [.ref (ad 0)]) (vp_Si (fun r => r = gn)) 0 0 (fun _ => False) := by
  refine Met.ofW (cc := cX2_generation) (maxL := 1) (ret := (some .int)) (by decide) rfl ?_
  intro p e s m args below meth c s₁ B hml hv
  obtain ⟨rfl, hP, hK⟩ := hv
  have hx := B.exec
  have hb := B.bytes
  have hr := B.returns
  have hts := atoms_spec (ws := (ws_ yX2_generation cX2_generation 1 (some .int))) B.pre
  have hts : ∀ w ∈ lw_all, w.before _ s = true := fun w h => hts w (List.mem_cons_of_mem _ h)
  have hown : s.vm.findClass RX2 = some m.cls := findClass_of_methodNamed B.named
  have hlocks := B.notSynchronized
  have hl := lv_entry ([.ref (ad 0)]) (n := 1) (Nat.le_of_ble_eq_true rfl)
  rw [lg_entry_eq]
  generalize (lg_sl ([.ref (ad 0)]) ++ List.replicate (1 - (lg_sl ([.ref (ad 0)])).length) Slot.unset).toArray = ls at hl ⊢
  have hl : lv_has ls 1 [(0, .ref (ad 0))] := hl
  refine lv_aload_n hx hb dX2_generation_0 rfl (lv_at hl 0 rfl) ?_
  refine va_get (D := D) (ci := 2) (v := .int gn) (C := RX2) (T := TX2) (N := 10) hx hb hts in_X2 hown hK hP 0 rfl rfl 8 (by decide) (hts _ q152) (fun _ h9 => h9) rfl dX2_generation_1 ?_
  exact W.iret (v := gn) hx hb hr (fun t0 h0t hW => ⟨_, rfl, rfl, h0t⟩) (fun q h => absurd h List.not_mem_nil) dX2_generation_4
set_option maxHeartbeats 4000000 in
set_option maxRecDepth 100000 in
theorem metX0_moved (l : Launch) (D : va_G) (ad : Nat → Nat) (cI cZ : ClassId) (tc mv gn : Int32) (mb tp ow pl cn sz bf : FF)  : Met l yX0_moved (ws_ yX0_moved cX0_moved 1 (some .int)) ({ frames := 0, cells := 0, slots := 0, locals := 0 }) (PcR D (tyIZ cI cZ) (wX ad cI cZ tc mv gn mb tp ow pl cn sz bf) [.ref (ad 0)]) (vp_Si (fun r => r = mv)) 0 0 (fun _ => False) := by
  refine Met.ofW (cc := cX0_moved) (maxL := 1) (ret := (some .int)) (by decide) rfl ?_
  intro p e s m args below meth c s₁ B hml hv
  obtain ⟨rfl, hP, hK⟩ := hv
  have hx := B.exec
  have hb := B.bytes
  have hr := B.returns
  have hts := atoms_spec (ws := (ws_ yX0_moved cX0_moved 1 (some .int))) B.pre
  have hts : ∀ w ∈ lw_all, w.before _ s = true := fun w h => hts w (List.mem_cons_of_mem _ h)
  have hown : s.vm.findClass RX0 = some m.cls := findClass_of_methodNamed B.named
  have hlocks := B.notSynchronized
  have hl := lv_entry ([.ref (ad 0)]) (n := 1) (Nat.le_of_ble_eq_true rfl)
  rw [lg_entry_eq]
  generalize (lg_sl ([.ref (ad 0)]) ++ List.replicate (1 - (lg_sl ([.ref (ad 0)])).length) Slot.unset).toArray = ls at hl ⊢
  have hl : lv_has ls 1 [(0, .ref (ad 0))] := hl
  refine lv_aload_n hx hb dX0_moved_0 rfl (lv_at hl 0 rfl) ?_
  refine va_get (D := D) (ci := 0) (v := .int mv) (C := RX0) (T := TX0) (N := 5) hx hb hts in_X0 hown hK hP 0 rfl rfl 4 (by decide) (hts _ q59) (fun _ h9 => h9) rfl dX0_moved_1 ?_
  exact W.iret (v := mv) hx hb hr (fun t0 h0t hW => ⟨_, rfl, rfl, h0t⟩) (fun q h => absurd h List.not_mem_nil) dX0_moved_4
set_option maxHeartbeats 4000000 in
set_option maxRecDepth 100000 in
theorem metX2_moved (l : Launch) (D : va_G) (ad : Nat → Nat) (cI cZ : ClassId) (tc mv gn : Int32) (mb tp ow pl cn sz bf : FF)  : Met l yX2_moved (ws_ yX2_moved cX2_moved 1 (some .int)) ({ frames := 0, cells := 0, slots := 0, locals := 0 }) (PcR D (tyIZ cI cZ) (wM ad cI cZ tc mv gn mb tp ow pl cn sz bf) [.ref (ad 0)]) (vp_Si (fun r => r = mv)) 0 0 (fun _ => False) := by
  refine Met.ofW (cc := cX2_moved) (maxL := 1) (ret := (some .int)) (by decide) rfl ?_
  intro p e s m args below meth c s₁ B hml hv
  obtain ⟨rfl, hP, hK⟩ := hv
  have hx := B.exec
  have hb := B.bytes
  have hr := B.returns
  have hts := atoms_spec (ws := (ws_ yX2_moved cX2_moved 1 (some .int))) B.pre
  have hts : ∀ w ∈ lw_all, w.before _ s = true := fun w h => hts w (List.mem_cons_of_mem _ h)
  have hown : s.vm.findClass RX2 = some m.cls := findClass_of_methodNamed B.named
  have hlocks := B.notSynchronized
  have hl := lv_entry ([.ref (ad 0)]) (n := 1) (Nat.le_of_ble_eq_true rfl)
  rw [lg_entry_eq]
  generalize (lg_sl ([.ref (ad 0)]) ++ List.replicate (1 - (lg_sl ([.ref (ad 0)])).length) Slot.unset).toArray = ls at hl ⊢
  have hl : lv_has ls 1 [(0, .ref (ad 0))] := hl
  refine lv_aload_n hx hb dX2_moved_0 rfl (lv_at hl 0 rfl) ?_
  refine va_get (D := D) (ci := 2) (v := .int mv) (C := RX2) (T := TX2) (N := 10) hx hb hts in_X2 hown hK hP 0 rfl rfl 9 (by decide) (hts _ q153) (fun _ h9 => h9) rfl dX2_moved_1 ?_
  exact W.iret (v := mv) hx hb hr (fun t0 h0t hW => ⟨_, rfl, rfl, h0t⟩) (fun q h => absurd h List.not_mem_nil) dX2_moved_4
set_option maxHeartbeats 4000000 in
set_option maxRecDepth 100000 in
theorem metX0_owner (l : Launch) (D : va_G) (ad : Nat → Nat) (cI cZ : ClassId) (tc mv gn : Int32) (mb tp ow pl cn sz bf : FF) (xt xp : Int32) (ht : WFt tc tp) (hs : WFs sz) : Met l yX0_owner (ws_ yX0_owner cX0_owner 4 (some .int)) ({ frames := 1, cells := 0, slots := 0, locals := 22 }) (PcR D (tyIZ cI cZ) (wX ad cI cZ tc mv gn mb tp ow pl cn sz bf) [.ref (ad 0), .int xt, .int xp]) (vp_Si (fun r => r = cellV tc sz ow xt xp)) 0 0 (fun _ => False) := by
  refine Met.ofW (cc := cX0_owner) (maxL := 4) (ret := (some .int)) (by decide) rfl ?_
  intro p e s m args below meth c s₁ B hml hv
  obtain ⟨rfl, hP, hK⟩ := hv
  have hx := B.exec
  have hb := B.bytes
  have hr := B.returns
  have hts := atoms_spec (ws := (ws_ yX0_owner cX0_owner 4 (some .int))) B.pre
  have hts : ∀ w ∈ lw_all, w.before _ s = true := fun w h => hts w (List.mem_cons_of_mem _ h)
  have hown : s.vm.findClass RX0 = some m.cls := findClass_of_methodNamed B.named
  have hlocks := B.notSynchronized
  have hl := lv_entry ([.ref (ad 0), .int xt, .int xp]) (n := 4) (Nat.le_of_ble_eq_true rfl)
  rw [lg_entry_eq]
  generalize (lg_sl ([.ref (ad 0), .int xt, .int xp]) ++ List.replicate (4 - (lg_sl ([.ref (ad 0), .int xt, .int xp])).length) Slot.unset).toArray = ls at hl ⊢
  have hl : lv_has ls 4 [(0, .ref (ad 0)), (1, .int xt), (2, .int xp)] := hl
  refine lv_aload_n hx hb dX0_owner_0 rfl (lv_at hl 0 rfl) ?_
  refine lv_iload_n hx hb dX0_owner_1 rfl (lv_at hl 1 rfl) ?_
  refine lv_iload_n hx hb dX0_owner_2 rfl (lv_at hl 2 rfl) ?_
  refine vp_callSi (W.runV (As := [.int xt, .int xp]) (rest := []) ⟨hx, hb, hml, hown, hts⟩ (metX0_partAt l D ad cI cZ tc mv gn mb tp ow pl cn sz bf xt xp ht) (cwV 2 hts (lw_V q118 q120 qs4 q12 q121) rfl rfl rfl (by decide +kernel) ⟨Nat.le_of_ble_eq_true rfl, Nat.le_of_ble_eq_true rfl⟩) ⟨blR, va_recv hK hP (ci := 0) (q0 := 0) rfl rfl, prR hP hK⟩ rfl rfl hl.1 rfl (lv_room (Nat.le_of_ble_eq_true rfl)) dX0_owner_3 ⟨Nat.zero_le _, Nat.zero_le _⟩) (fun r hr1 => ?_)
  refine lv_istore_n (lv' := [(3, .int r), (0, .ref (ad 0)), (1, .int xt), (2, .int xp)]) hx hb dX0_owner_6 rfl hl (by decide) rfl (fun ls hl => ?_)
  refine lv_iload_n hx hb dX0_owner_7 rfl (lv_at hl 0 rfl) ?_
  refine lv_if_ge (tgt := 16) hx hb dX0_owner_8 (by decide) (fun c8 => ?_) (fun c8 => ?_)
  · have hnp : ¬ pcd tc sz xt xp := partI_pos (by rw [← hr1]; exact Int32.not_lt.mpr c8)
    refine lv_aload_n hx hb dX0_owner_16 rfl (lv_at hl 1 rfl) ?_
    refine va_get (D := D) (ci := 0) (v := .ref (ad 1)) (C := RX0) (T := TX0) (N := 5) hx hb hts in_X0 hown hK hP 0 rfl rfl 0 (by decide) (hts _ q55) (fun _ h9 => h9) rfl dX0_owner_17 ?_
    refine va_get (D := D) (ci := 1) (v := .ref (ad 4)) (C := RX1) (T := TX1) (N := 6) hx hb hts in_X1 hown hK hP 1 rfl rfl 3 (by decide) (hts _ q36) (fun _ h9 => h9) rfl dX0_owner_20 ?_
    refine lv_iload_n hx hb dX0_owner_23 rfl (lv_at hl 0 rfl) ?_
    refine va_iald hx hb hK hP 4 0 rfl rfl (by rw [hr1, partI_eq hnp]; exact in_p ht hs hnp) dX0_owner_24 ?_
    exact W.iret (v := ow r.toNatClampNeg) hx hb hr (fun t0 h0t hW => ⟨_, rfl, by rw [cellV, if_neg hnp, hr1, partI_eq hnp], h0t⟩) (fun q h => absurd h List.not_mem_nil) dX0_owner_25
  · refine lv_bipush (v := (-2)) hx hb dX0_owner_11 (by decide) ?_
    refine lv_goto (tgt := 25) hx hb dX0_owner_13 (by decide) ?_
    exact W.iret (v := (-2)) hx hb hr (fun t0 h0t hW => ⟨_, rfl, by rw [cellV, if_pos (partI_neg ht hs (by rw [← hr1]; exact Int32.not_le.mp c8))], h0t⟩) (fun q h => absurd h List.not_mem_nil) dX0_owner_25
set_option maxHeartbeats 4000000 in
set_option maxRecDepth 100000 in
theorem metX2_owner (l : Launch) (D : va_G) (ad : Nat → Nat) (cI cZ : ClassId) (tc mv gn : Int32) (mb tp ow pl cn sz bf : FF) (xt xp : Int32) (ht : WFt tc tp) (hs : WFs sz) : Met l yX2_owner (ws_ yX2_owner cX2_owner 3 (some .int)) ({ frames := 1, cells := 0, slots := 0, locals := 22 }) (PcR D (tyIZ cI cZ) (wM ad cI cZ tc mv gn mb tp ow pl cn sz bf) [.ref (ad 0), .int xt, .int xp]) (vp_Si (fun r => r = cellV tc sz ow xt xp)) 0 0 (fun _ => False) := by
  refine Met.ofW (cc := cX2_owner) (maxL := 3) (ret := (some .int)) (by decide) rfl ?_
  intro p e s m args below meth c s₁ B hml hv
  obtain ⟨rfl, hP, hK⟩ := hv
  have hx := B.exec
  have hb := B.bytes
  have hr := B.returns
  have hts := atoms_spec (ws := (ws_ yX2_owner cX2_owner 3 (some .int))) B.pre
  have hts : ∀ w ∈ lw_all, w.before _ s = true := fun w h => hts w (List.mem_cons_of_mem _ h)
  have hown : s.vm.findClass RX2 = some m.cls := findClass_of_methodNamed B.named
  have hlocks := B.notSynchronized
  have hl := lv_entry ([.ref (ad 0), .int xt, .int xp]) (n := 3) (Nat.le_of_ble_eq_true rfl)
  rw [lg_entry_eq]
  generalize (lg_sl ([.ref (ad 0), .int xt, .int xp]) ++ List.replicate (3 - (lg_sl ([.ref (ad 0), .int xt, .int xp])).length) Slot.unset).toArray = ls at hl ⊢
  have hl : lv_has ls 3 [(0, .ref (ad 0)), (1, .int xt), (2, .int xp)] := hl
  refine lv_aload_n hx hb dX2_owner_0 rfl (lv_at hl 0 rfl) ?_
  refine lv_iload_n hx hb dX2_owner_1 rfl (lv_at hl 1 rfl) ?_
  refine lv_iload_n hx hb dX2_owner_2 rfl (lv_at hl 2 rfl) ?_
  refine vp_callSi (W.runV (As := [.int xt, .int xp]) (rest := []) ⟨hx, hb, hml, hown, hts⟩ (metX2_isPart l D ad cI cZ tc mv gn mb tp ow pl cn sz bf xt xp ht) (cwV 2 hts (lw_V q191 q193 qs7 q14 q194) rfl rfl rfl (by decide +kernel) ⟨Nat.le_of_ble_eq_true rfl, Nat.le_of_ble_eq_true rfl⟩) ⟨blR, va_recv hK hP (ci := 2) (q0 := 0) rfl rfl, prR hP hK⟩ rfl rfl hl.1 rfl (lv_room (Nat.le_of_ble_eq_true rfl)) dX2_owner_3 ⟨Nat.zero_le _, Nat.zero_le _⟩) (fun r hr1 => ?_)
  refine lv_if_eq (tgt := 22) hx hb dX2_owner_6 (by decide) (fun c6 => ?_) (fun c6 => ?_)
  · refine lv_bipush (v := (-2)) hx hb dX2_owner_22 (by decide) ?_
    exact W.iret (v := (-2)) hx hb hr (fun t0 h0t hW => ⟨_, rfl, by rw [cellV, if_pos (isPt_0 (by rw [← hr1]; exact c6))], h0t⟩) (fun q h => absurd h List.not_mem_nil) dX2_owner_24
  · have hnp : ¬ pcd tc sz xt xp := isPt_1 (by rw [← hr1]; exact c6)
    refine lv_aload_n hx hb dX2_owner_9 rfl (lv_at hl 0 rfl) ?_
    refine va_get (D := D) (ci := 2) (v := .ref (ad 4)) (C := RX2) (T := TX2) (N := 10) hx hb hts in_X2 hown hK hP 0 rfl rfl 3 (by decide) (hts _ q147) (fun _ h9 => h9) rfl dX2_owner_10 ?_
    refine lv_iload_n hx hb dX2_owner_13 rfl (lv_at hl 1 rfl) ?_
    refine lv_iload_n hx hb dX2_owner_14 rfl (lv_at hl 2 rfl) ?_
    refine vp_callSi (W.runS (As := [.int xt, .int xp]) (rest := [.ref (ad 4)]) ⟨hx, hb, hml, hown, hts⟩ (metX2_at l xt xp) (va_cwS 2 hts (lw_S q223 q224 q14 q225) rfl rfl rfl (by decide +kernel) ⟨Nat.le_of_ble_eq_true rfl, Nat.le_of_ble_eq_true rfl⟩) ⟨fun _ _ _ _ q => q, fun U _ _ => ⟨rfl, trivial⟩⟩ rfl rfl hl.1 rfl (lv_room (Nat.le_of_ble_eq_true rfl)) dX2_owner_15 ⟨Nat.zero_le _, Nat.zero_le _⟩) (fun r2 hr2 => ?_)
    refine va_iald hx hb hK hP 4 0 rfl rfl (by rw [hr2]; exact in_p ht hs hnp) dX2_owner_18 ?_
    refine lv_goto (tgt := 24) hx hb dX2_owner_19 (by decide) ?_
    exact W.iret (v := ow r2.toNatClampNeg) hx hb hr (fun t0 h0t hW => ⟨_, rfl, by rw [cellV, if_neg hnp, hr2], h0t⟩) (fun q h => absurd h List.not_mem_nil) dX2_owner_24
set_option maxHeartbeats 4000000 in
set_option maxRecDepth 100000 in
theorem metX0_placed (l : Launch) (D : va_G) (ad : Nat → Nat) (cI cZ : ClassId) (tc mv gn : Int32) (mb tp ow pl cn sz bf : FF) (xt xp : Int32) (ht : WFt tc tp) (hs : WFs sz) : Met l yX0_placed (ws_ yX0_placed cX0_placed 4 (some .int)) ({ frames := 1, cells := 0, slots := 0, locals := 22 }) (PcR D (tyIZ cI cZ) (wX ad cI cZ tc mv gn mb tp ow pl cn sz bf) [.ref (ad 0), .int xt, .int xp]) (vp_Si (fun r => r = cellV tc sz pl xt xp)) 0 0 (fun _ => False) := by
  refine Met.ofW (cc := cX0_placed) (maxL := 4) (ret := (some .int)) (by decide) rfl ?_
  intro p e s m args below meth c s₁ B hml hv
  obtain ⟨rfl, hP, hK⟩ := hv
  have hx := B.exec
  have hb := B.bytes
  have hr := B.returns
  have hts := atoms_spec (ws := (ws_ yX0_placed cX0_placed 4 (some .int))) B.pre
  have hts : ∀ w ∈ lw_all, w.before _ s = true := fun w h => hts w (List.mem_cons_of_mem _ h)
  have hown : s.vm.findClass RX0 = some m.cls := findClass_of_methodNamed B.named
  have hlocks := B.notSynchronized
  have hl := lv_entry ([.ref (ad 0), .int xt, .int xp]) (n := 4) (Nat.le_of_ble_eq_true rfl)
  rw [lg_entry_eq]
  generalize (lg_sl ([.ref (ad 0), .int xt, .int xp]) ++ List.replicate (4 - (lg_sl ([.ref (ad 0), .int xt, .int xp])).length) Slot.unset).toArray = ls at hl ⊢
  have hl : lv_has ls 4 [(0, .ref (ad 0)), (1, .int xt), (2, .int xp)] := hl
  refine lv_aload_n hx hb dX0_placed_0 rfl (lv_at hl 0 rfl) ?_
  refine lv_iload_n hx hb dX0_placed_1 rfl (lv_at hl 1 rfl) ?_
  refine lv_iload_n hx hb dX0_placed_2 rfl (lv_at hl 2 rfl) ?_
  refine vp_callSi (W.runV (As := [.int xt, .int xp]) (rest := []) ⟨hx, hb, hml, hown, hts⟩ (metX0_partAt l D ad cI cZ tc mv gn mb tp ow pl cn sz bf xt xp ht) (cwV 2 hts (lw_V q118 q120 qs4 q12 q121) rfl rfl rfl (by decide +kernel) ⟨Nat.le_of_ble_eq_true rfl, Nat.le_of_ble_eq_true rfl⟩) ⟨blR, va_recv hK hP (ci := 0) (q0 := 0) rfl rfl, prR hP hK⟩ rfl rfl hl.1 rfl (lv_room (Nat.le_of_ble_eq_true rfl)) dX0_placed_3 ⟨Nat.zero_le _, Nat.zero_le _⟩) (fun r hr1 => ?_)
  refine lv_istore_n (lv' := [(3, .int r), (0, .ref (ad 0)), (1, .int xt), (2, .int xp)]) hx hb dX0_placed_6 rfl hl (by decide) rfl (fun ls hl => ?_)
  refine lv_iload_n hx hb dX0_placed_7 rfl (lv_at hl 0 rfl) ?_
  refine lv_if_ge (tgt := 16) hx hb dX0_placed_8 (by decide) (fun c8 => ?_) (fun c8 => ?_)
  · have hnp : ¬ pcd tc sz xt xp := partI_pos (by rw [← hr1]; exact Int32.not_lt.mpr c8)
    refine lv_aload_n hx hb dX0_placed_16 rfl (lv_at hl 1 rfl) ?_
    refine va_get (D := D) (ci := 0) (v := .ref (ad 1)) (C := RX0) (T := TX0) (N := 5) hx hb hts in_X0 hown hK hP 0 rfl rfl 0 (by decide) (hts _ q55) (fun _ h9 => h9) rfl dX0_placed_17 ?_
    refine va_get (D := D) (ci := 1) (v := .ref (ad 5)) (C := RX1) (T := TX1) (N := 6) hx hb hts in_X1 hown hK hP 1 rfl rfl 4 (by decide) (hts _ q38) (fun _ h9 => h9) rfl dX0_placed_20 ?_
    refine lv_iload_n hx hb dX0_placed_23 rfl (lv_at hl 0 rfl) ?_
    refine va_iald hx hb hK hP 5 0 rfl rfl (by rw [hr1, partI_eq hnp]; exact in_p ht hs hnp) dX0_placed_24 ?_
    exact W.iret (v := pl r.toNatClampNeg) hx hb hr (fun t0 h0t hW => ⟨_, rfl, by rw [cellV, if_neg hnp, hr1, partI_eq hnp], h0t⟩) (fun q h => absurd h List.not_mem_nil) dX0_placed_25
  · refine lv_bipush (v := (-2)) hx hb dX0_placed_11 (by decide) ?_
    refine lv_goto (tgt := 25) hx hb dX0_placed_13 (by decide) ?_
    exact W.iret (v := (-2)) hx hb hr (fun t0 h0t hW => ⟨_, rfl, by rw [cellV, if_pos (partI_neg ht hs (by rw [← hr1]; exact Int32.not_le.mp c8))], h0t⟩) (fun q h => absurd h List.not_mem_nil) dX0_placed_25
set_option maxHeartbeats 4000000 in
set_option maxRecDepth 100000 in
theorem metX2_placed (l : Launch) (D : va_G) (ad : Nat → Nat) (cI cZ : ClassId) (tc mv gn : Int32) (mb tp ow pl cn sz bf : FF) (xt xp : Int32) (ht : WFt tc tp) (hs : WFs sz) : Met l yX2_placed (ws_ yX2_placed cX2_placed 3 (some .int)) ({ frames := 1, cells := 0, slots := 0, locals := 22 }) (PcR D (tyIZ cI cZ) (wM ad cI cZ tc mv gn mb tp ow pl cn sz bf) [.ref (ad 0), .int xt, .int xp]) (vp_Si (fun r => r = cellV tc sz pl xt xp)) 0 0 (fun _ => False) := by
  refine Met.ofW (cc := cX2_placed) (maxL := 3) (ret := (some .int)) (by decide) rfl ?_
  intro p e s m args below meth c s₁ B hml hv
  obtain ⟨rfl, hP, hK⟩ := hv
  have hx := B.exec
  have hb := B.bytes
  have hr := B.returns
  have hts := atoms_spec (ws := (ws_ yX2_placed cX2_placed 3 (some .int))) B.pre
  have hts : ∀ w ∈ lw_all, w.before _ s = true := fun w h => hts w (List.mem_cons_of_mem _ h)
  have hown : s.vm.findClass RX2 = some m.cls := findClass_of_methodNamed B.named
  have hlocks := B.notSynchronized
  have hl := lv_entry ([.ref (ad 0), .int xt, .int xp]) (n := 3) (Nat.le_of_ble_eq_true rfl)
  rw [lg_entry_eq]
  generalize (lg_sl ([.ref (ad 0), .int xt, .int xp]) ++ List.replicate (3 - (lg_sl ([.ref (ad 0), .int xt, .int xp])).length) Slot.unset).toArray = ls at hl ⊢
  have hl : lv_has ls 3 [(0, .ref (ad 0)), (1, .int xt), (2, .int xp)] := hl
  refine lv_aload_n hx hb dX2_placed_0 rfl (lv_at hl 0 rfl) ?_
  refine lv_iload_n hx hb dX2_placed_1 rfl (lv_at hl 1 rfl) ?_
  refine lv_iload_n hx hb dX2_placed_2 rfl (lv_at hl 2 rfl) ?_
  refine vp_callSi (W.runV (As := [.int xt, .int xp]) (rest := []) ⟨hx, hb, hml, hown, hts⟩ (metX2_isPart l D ad cI cZ tc mv gn mb tp ow pl cn sz bf xt xp ht) (cwV 2 hts (lw_V q191 q193 qs7 q14 q194) rfl rfl rfl (by decide +kernel) ⟨Nat.le_of_ble_eq_true rfl, Nat.le_of_ble_eq_true rfl⟩) ⟨blR, va_recv hK hP (ci := 2) (q0 := 0) rfl rfl, prR hP hK⟩ rfl rfl hl.1 rfl (lv_room (Nat.le_of_ble_eq_true rfl)) dX2_placed_3 ⟨Nat.zero_le _, Nat.zero_le _⟩) (fun r hr1 => ?_)
  refine lv_if_eq (tgt := 22) hx hb dX2_placed_6 (by decide) (fun c6 => ?_) (fun c6 => ?_)
  · refine lv_bipush (v := (-2)) hx hb dX2_placed_22 (by decide) ?_
    exact W.iret (v := (-2)) hx hb hr (fun t0 h0t hW => ⟨_, rfl, by rw [cellV, if_pos (isPt_0 (by rw [← hr1]; exact c6))], h0t⟩) (fun q h => absurd h List.not_mem_nil) dX2_placed_24
  · have hnp : ¬ pcd tc sz xt xp := isPt_1 (by rw [← hr1]; exact c6)
    refine lv_aload_n hx hb dX2_placed_9 rfl (lv_at hl 0 rfl) ?_
    refine va_get (D := D) (ci := 2) (v := .ref (ad 6)) (C := RX2) (T := TX2) (N := 10) hx hb hts in_X2 hown hK hP 0 rfl rfl 5 (by decide) (hts _ q149) (fun _ h9 => h9) rfl dX2_placed_10 ?_
    refine lv_iload_n hx hb dX2_placed_13 rfl (lv_at hl 1 rfl) ?_
    refine lv_iload_n hx hb dX2_placed_14 rfl (lv_at hl 2 rfl) ?_
    refine vp_callSi (W.runS (As := [.int xt, .int xp]) (rest := [.ref (ad 6)]) ⟨hx, hb, hml, hown, hts⟩ (metX2_at l xt xp) (va_cwS 2 hts (lw_S q223 q224 q14 q225) rfl rfl rfl (by decide +kernel) ⟨Nat.le_of_ble_eq_true rfl, Nat.le_of_ble_eq_true rfl⟩) ⟨fun _ _ _ _ q => q, fun U _ _ => ⟨rfl, trivial⟩⟩ rfl rfl hl.1 rfl (lv_room (Nat.le_of_ble_eq_true rfl)) dX2_placed_15 ⟨Nat.zero_le _, Nat.zero_le _⟩) (fun r2 hr2 => ?_)
    refine va_iald hx hb hK hP 6 0 rfl rfl (by rw [hr2]; exact in_p ht hs hnp) dX2_placed_18 ?_
    refine lv_goto (tgt := 24) hx hb dX2_placed_19 (by decide) ?_
    exact W.iret (v := pl r2.toNatClampNeg) hx hb hr (fun t0 h0t hW => ⟨_, rfl, by rw [cellV, if_neg hnp, hr2], h0t⟩) (fun q h => absurd h List.not_mem_nil) dX2_placed_24
set_option maxHeartbeats 4000000 in
set_option maxRecDepth 100000 in
theorem L_X0_held (C0 : CallFix p m c cX0_held 4 s args lw_all RX0) (hK : va_K D vwCl (tyIZ cI cZ) s) {H : Heap} {locs : List Loc} (hP : va_P D vwCl (wX ad cI cZ tc mv gn mb tp ow pl cn sz bf) H) (xm : Int32) (hk : ∀ (ls : Array Slot) (x2 : Int32), (x2 = cntE ow xm 72) → lv_has ls 4 [(0, .ref (ad 0)), (1, .int xm), (2, .int x2), (3, .int (nI 72))] → W p l e R s m args below meth c H locs cells slots Q (F0 m 41 ls [])) : ∀ (n i : Nat), i ≤ 72 → 72 < i + n → ∀ (ls : Array Slot) (x2 : Int32), (x2 = cntE ow xm i) → lv_has ls 4 [(0, .ref (ad 0)), (1, .int xm), (2, .int x2), (3, .int (nI i))] → W p l e R s m args below meth c H locs cells slots Q (F0 m 13 ls []) := by
  obtain ⟨hx, hb, hml, hown, hts⟩ := id C0
  intro n
  induction n with
  | zero => intro i h1 h2; exact absurd h2 (by omega)
  | succ n ih =>
    intro i hi hin ls x2 e2 hl
    refine lv_iload_n hx hb dX0_held_13 rfl (lv_at hl 3 rfl) ?_
    refine lv_bipush (v := nI 72) hx hb dX0_held_14 (by decide) ?_
    refine lv_icmp_ge (tgt := 41) hx hb dX0_held_16 (by decide) (fun c16 => ?_) (fun c16 => ?_)
    · obtain rfl : i = 72 := by have h9 := lp_ge (by decide) (by omega) c16; omega
      exact hk ls x2 (e2) (lv_sub hl [0, 1, 2, 3] rfl)
    · have hlt : i < 72 := lp_lt (by omega) c16
      refine lv_aload_n hx hb dX0_held_19 rfl (lv_at hl 0 rfl) ?_
      refine va_get (D := D) (ci := 0) (v := .ref (ad 1)) (C := RX0) (T := TX0) (N := 5) hx hb hts in_X0 hown hK hP 0 rfl rfl 0 (by decide) (hts _ q55) (fun _ h9 => h9) rfl dX0_held_20 ?_
      refine va_get (D := D) (ci := 1) (v := .ref (ad 4)) (C := RX1) (T := TX1) (N := 6) hx hb hts in_X1 hown hK hP 1 rfl rfl 3 (by decide) (hts _ q36) (fun _ h9 => h9) rfl dX0_held_23 ?_
      refine lv_iload_n hx hb dX0_held_26 rfl (lv_at hl 3 rfl) ?_
      refine g_iald hx hb hK hP 4 0 rfl rfl i (rfl) (by omega) (by decide) dX0_held_27 ?_
      refine lv_iload_n hx hb dX0_held_28 rfl (lv_at hl 1 rfl) ?_
      refine lv_icmp_ne (tgt := 35) hx hb dX0_held_29 (by decide) (fun c29 => ?_) (fun c29 => ?_)
      · refine lv_iinc (v := nI (i + 1)) (lv' := [(3, .int (nI (i + 1))), (0, .ref (ad 0)), (1, .int xm), (2, .int x2)]) hx hb dX0_held_35 hl (k := 3) rfl (nI_inc _) (by decide) rfl (fun ls hl => ?_)
        refine lv_goto (tgt := 13) hx hb dX0_held_38 (by decide) ?_
        exact ih (i + 1) (by omega) (by omega) ls x2 (by first | exact cntE_1 e2 c29 | exact cntE_0 e2 c29) (lv_sub hl [1, 2, 3, 0] rfl)
      · refine lv_iinc (v := x2 + 1) (lv' := [(2, .int (x2 + 1)), (0, .ref (ad 0)), (1, .int xm), (3, .int (nI i))]) hx hb dX0_held_32 hl (k := 2) rfl (rfl) (by decide) rfl (fun ls hl => ?_)
        refine lv_iinc (v := nI (i + 1)) (lv' := [(3, .int (nI (i + 1))), (2, .int (x2 + 1)), (0, .ref (ad 0)), (1, .int xm)]) hx hb dX0_held_35 hl (k := 3) rfl (nI_inc _) (by decide) rfl (fun ls hl => ?_)
        refine lv_goto (tgt := 13) hx hb dX0_held_38 (by decide) ?_
        exact ih (i + 1) (by omega) (by omega) ls (x2 + 1) (by first | exact cntE_1 e2 c29 | exact cntE_0 e2 c29) (lv_sub hl [2, 3, 1, 0] rfl)
set_option maxHeartbeats 4000000 in
set_option maxRecDepth 100000 in
theorem metX0_held (l : Launch) (D : va_G) (ad : Nat → Nat) (cI cZ : ClassId) (tc mv gn : Int32) (mb tp ow pl cn sz bf : FF) (xm : Int32) : Met l yX0_held (ws_ yX0_held cX0_held 4 (some .int)) ({ frames := 1, cells := 0, slots := 0, locals := 20 }) (PcR D (tyIZ cI cZ) (wX ad cI cZ tc mv gn mb tp ow pl cn sz bf) [.ref (ad 0), .int xm]) (vp_Si (fun r => r = heldV ow xm)) 0 0 (fun _ => False) := by
  refine Met.ofW (cc := cX0_held) (maxL := 4) (ret := (some .int)) (by decide) rfl ?_
  intro p e s m args below meth c s₁ B hml hv
  obtain ⟨rfl, hP, hK⟩ := hv
  have hx := B.exec
  have hb := B.bytes
  have hr := B.returns
  have hts := atoms_spec (ws := (ws_ yX0_held cX0_held 4 (some .int))) B.pre
  have hts : ∀ w ∈ lw_all, w.before _ s = true := fun w h => hts w (List.mem_cons_of_mem _ h)
  have hown : s.vm.findClass RX0 = some m.cls := findClass_of_methodNamed B.named
  have hlocks := B.notSynchronized
  have hl := lv_entry ([.ref (ad 0), .int xm]) (n := 4) (Nat.le_of_ble_eq_true rfl)
  rw [lg_entry_eq]
  generalize (lg_sl ([.ref (ad 0), .int xm]) ++ List.replicate (4 - (lg_sl ([.ref (ad 0), .int xm])).length) Slot.unset).toArray = ls at hl ⊢
  have hl : lv_has ls 4 [(0, .ref (ad 0)), (1, .int xm)] := hl
  refine lv_iload_n hx hb dX0_held_0 rfl (lv_at hl 1 rfl) ?_
  refine vp_callSi (W.runS (As := [.int xm]) (rest := []) ⟨hx, hb, hml, hown, hts⟩ (metX0_isMember l xm) (va_cwS 1 hts (lw_S q103 q104 q12 q105) rfl rfl rfl (by decide +kernel) ⟨Nat.le_of_ble_eq_true rfl, Nat.le_of_ble_eq_true rfl⟩) ⟨fun _ _ _ _ q => q, fun U _ _ => ⟨rfl, trivial⟩⟩ rfl rfl hl.1 rfl (lv_room (Nat.le_of_ble_eq_true rfl)) dX0_held_1 ⟨Nat.zero_le _, Nat.zero_le _⟩) (fun r hr1 => ?_)
  refine lv_if_ne (tgt := 9) hx hb dX0_held_4 (by decide) (fun c4 => ?_) (fun c4 => ?_)
  · refine lv_iconst (v := 0) hx hb dX0_held_9 (by decide) ?_
    refine lv_istore_n (lv' := [(2, .int 0), (0, .ref (ad 0)), (1, .int xm)]) hx hb dX0_held_10 rfl hl (by decide) rfl (fun ls hl => ?_)
    refine lv_iconst (v := nI 0) hx hb dX0_held_11 (by decide) ?_
    refine lv_istore_n (lv' := [(3, .int (nI 0)), (2, .int 0), (0, .ref (ad 0)), (1, .int xm)]) hx hb dX0_held_12 rfl hl (by decide) rfl (fun ls hl => ?_)
    refine L_X0_held ⟨hx, hb, hml, hown, hts⟩ hK hP xm (fun ls x2 e2 hl => ?_) 73 0 (by decide) (by decide) ls _ rfl (lv_sub hl [2, 3, 1, 0] rfl)
    refine lv_iload_n hx hb dX0_held_41 rfl (lv_at hl 2 rfl) ?_
    exact W.iret (v := x2) hx hb hr (fun t0 h0t hW => ⟨_, rfl, by rw [heldV, if_neg (fun q => q.elim (isMb_1 (by rw [← hr1]; exact c4)).1 (isMb_1 (by rw [← hr1]; exact c4)).2), e2], h0t⟩) (fun q h => absurd h List.not_mem_nil) dX0_held_42
  · refine lv_iconst (v := (-1)) hx hb dX0_held_7 (by decide) ?_
    exact W.iret (v := (-1)) hx hb hr (fun t0 h0t hW => ⟨_, rfl, by rw [heldV, if_pos (isMb_0 (by rw [← hr1]; exact c4))], h0t⟩) (fun q h => absurd h List.not_mem_nil) dX0_held_8
set_option maxHeartbeats 4000000 in
set_option maxRecDepth 100000 in
theorem L_X2_held (C0 : CallFix p m c cX2_held 4 s args lw_all RX2) (hK : va_K D vwCl (tyIZ cI cZ) s) {H : Heap} {locs : List Loc} (hP : va_P D vwCl (wM ad cI cZ tc mv gn mb tp ow pl cn sz bf) H) (xm : Int32) (hk : ∀ (ls : Array Slot) (x2 : Int32), (x2 = cntE ow xm 72) → lv_has ls 4 [(0, .ref (ad 0)), (1, .int xm), (2, .int x2), (3, .int (nI 72))] → W p l e R s m args below meth c H locs cells slots Q (F0 m 39 ls [])) : ∀ (n i : Nat), i ≤ 72 → 72 < i + n → ∀ (ls : Array Slot) (x2 : Int32), (x2 = cntE ow xm i) → lv_has ls 4 [(0, .ref (ad 0)), (1, .int xm), (2, .int x2), (3, .int (nI i))] → W p l e R s m args below meth c H locs cells slots Q (F0 m 14 ls []) := by
  obtain ⟨hx, hb, hml, hown, hts⟩ := id C0
  intro n
  induction n with
  | zero => intro i h1 h2; exact absurd h2 (by omega)
  | succ n ih =>
    intro i hi hin ls x2 e2 hl
    refine lv_iload_n hx hb dX2_held_14 rfl (lv_at hl 3 rfl) ?_
    refine lv_bipush (v := nI 72) hx hb dX2_held_15 (by decide) ?_
    refine lv_icmp_ge (tgt := 39) hx hb dX2_held_17 (by decide) (fun c17 => ?_) (fun c17 => ?_)
    · obtain rfl : i = 72 := by have h9 := lp_ge (by decide) (by omega) c17; omega
      exact hk ls x2 (e2) (lv_sub hl [0, 1, 2, 3] rfl)
    · have hlt : i < 72 := lp_lt (by omega) c17
      refine lv_aload_n hx hb dX2_held_20 rfl (lv_at hl 0 rfl) ?_
      refine va_get (D := D) (ci := 2) (v := .ref (ad 4)) (C := RX2) (T := TX2) (N := 10) hx hb hts in_X2 hown hK hP 0 rfl rfl 3 (by decide) (hts _ q147) (fun _ h9 => h9) rfl dX2_held_21 ?_
      refine lv_iload_n hx hb dX2_held_24 rfl (lv_at hl 3 rfl) ?_
      refine g_iald hx hb hK hP 4 0 rfl rfl i (rfl) (by omega) (by decide) dX2_held_25 ?_
      refine lv_iload_n hx hb dX2_held_26 rfl (lv_at hl 1 rfl) ?_
      refine lv_icmp_ne (tgt := 33) hx hb dX2_held_27 (by decide) (fun c27 => ?_) (fun c27 => ?_)
      · refine lv_iinc (v := nI (i + 1)) (lv' := [(3, .int (nI (i + 1))), (0, .ref (ad 0)), (1, .int xm), (2, .int x2)]) hx hb dX2_held_33 hl (k := 3) rfl (nI_inc _) (by decide) rfl (fun ls hl => ?_)
        refine lv_goto (tgt := 14) hx hb dX2_held_36 (by decide) ?_
        exact ih (i + 1) (by omega) (by omega) ls x2 (by first | exact cntE_1 e2 c27 | exact cntE_0 e2 c27) (lv_sub hl [1, 2, 3, 0] rfl)
      · refine lv_iinc (v := x2 + 1) (lv' := [(2, .int (x2 + 1)), (0, .ref (ad 0)), (1, .int xm), (3, .int (nI i))]) hx hb dX2_held_30 hl (k := 2) rfl (rfl) (by decide) rfl (fun ls hl => ?_)
        refine lv_iinc (v := nI (i + 1)) (lv' := [(3, .int (nI (i + 1))), (2, .int (x2 + 1)), (0, .ref (ad 0)), (1, .int xm)]) hx hb dX2_held_33 hl (k := 3) rfl (nI_inc _) (by decide) rfl (fun ls hl => ?_)
        refine lv_goto (tgt := 14) hx hb dX2_held_36 (by decide) ?_
        exact ih (i + 1) (by omega) (by omega) ls (x2 + 1) (by first | exact cntE_1 e2 c27 | exact cntE_0 e2 c27) (lv_sub hl [2, 3, 1, 0] rfl)
set_option maxHeartbeats 4000000 in
set_option maxRecDepth 100000 in
theorem metX2_held (l : Launch) (D : va_G) (ad : Nat → Nat) (cI cZ : ClassId) (tc mv gn : Int32) (mb tp ow pl cn sz bf : FF) (xm : Int32) : Met l yX2_held (ws_ yX2_held cX2_held 4 (some .int)) ({ frames := 1, cells := 0, slots := 0, locals := 21 }) (PcR D (tyIZ cI cZ) (wM ad cI cZ tc mv gn mb tp ow pl cn sz bf) [.ref (ad 0), .int xm]) (vp_Si (fun r => r = heldV ow xm)) 0 0 (fun _ => False) := by
  refine Met.ofW (cc := cX2_held) (maxL := 4) (ret := (some .int)) (by decide) rfl ?_
  intro p e s m args below meth c s₁ B hml hv
  obtain ⟨rfl, hP, hK⟩ := hv
  have hx := B.exec
  have hb := B.bytes
  have hr := B.returns
  have hts := atoms_spec (ws := (ws_ yX2_held cX2_held 4 (some .int))) B.pre
  have hts : ∀ w ∈ lw_all, w.before _ s = true := fun w h => hts w (List.mem_cons_of_mem _ h)
  have hown : s.vm.findClass RX2 = some m.cls := findClass_of_methodNamed B.named
  have hlocks := B.notSynchronized
  have hl := lv_entry ([.ref (ad 0), .int xm]) (n := 4) (Nat.le_of_ble_eq_true rfl)
  rw [lg_entry_eq]
  generalize (lg_sl ([.ref (ad 0), .int xm]) ++ List.replicate (4 - (lg_sl ([.ref (ad 0), .int xm])).length) Slot.unset).toArray = ls at hl ⊢
  have hl : lv_has ls 4 [(0, .ref (ad 0)), (1, .int xm)] := hl
  refine lv_aload_n hx hb dX2_held_0 rfl (lv_at hl 0 rfl) ?_
  refine lv_iload_n hx hb dX2_held_1 rfl (lv_at hl 1 rfl) ?_
  refine vp_callSi (W.runV (As := [.int xm]) (rest := []) ⟨hx, hb, hml, hown, hts⟩ (metX2_isMember l (ad 0) xm) (cwV 1 hts (lw_V q207 q209 qs10 q14 q210) rfl rfl rfl (by decide +kernel) ⟨Nat.le_of_ble_eq_true rfl, Nat.le_of_ble_eq_true rfl⟩) ⟨fun _ _ _ _ q => q, va_recv hK hP (ci := 2) (q0 := 0) rfl rfl, fun U _ _ => ⟨rfl, trivial⟩⟩ rfl rfl hl.1 rfl (lv_room (Nat.le_of_ble_eq_true rfl)) dX2_held_2 ⟨Nat.zero_le _, Nat.zero_le _⟩) (fun r hr1 => ?_)
  refine lv_if_ne (tgt := 10) hx hb dX2_held_5 (by decide) (fun c5 => ?_) (fun c5 => ?_)
  · refine lv_iconst (v := 0) hx hb dX2_held_10 (by decide) ?_
    refine lv_istore_n (lv' := [(2, .int 0), (0, .ref (ad 0)), (1, .int xm)]) hx hb dX2_held_11 rfl hl (by decide) rfl (fun ls hl => ?_)
    refine lv_iconst (v := nI 0) hx hb dX2_held_12 (by decide) ?_
    refine lv_istore_n (lv' := [(3, .int (nI 0)), (2, .int 0), (0, .ref (ad 0)), (1, .int xm)]) hx hb dX2_held_13 rfl hl (by decide) rfl (fun ls hl => ?_)
    refine L_X2_held ⟨hx, hb, hml, hown, hts⟩ hK hP xm (fun ls x2 e2 hl => ?_) 73 0 (by decide) (by decide) ls _ rfl (lv_sub hl [2, 3, 1, 0] rfl)
    refine lv_iload_n hx hb dX2_held_39 rfl (lv_at hl 2 rfl) ?_
    exact W.iret (v := x2) hx hb hr (fun t0 h0t hW => ⟨_, rfl, by rw [heldV, if_neg (fun q => q.elim (isMb_1 (by rw [← hr1]; exact c5)).1 (isMb_1 (by rw [← hr1]; exact c5)).2), e2], h0t⟩) (fun q h => absurd h List.not_mem_nil) dX2_held_40
  · refine lv_iconst (v := (-1)) hx hb dX2_held_8 (by decide) ?_
    exact W.iret (v := (-1)) hx hb hr (fun t0 h0t hW => ⟨_, rfl, by rw [heldV, if_pos (isMb_0 (by rw [← hr1]; exact c5))], h0t⟩) (fun q h => absurd h List.not_mem_nil) dX2_held_9
end RD
end
section
/-! STATE: the two systems at one state -/
abbrev BX (D : va_G) (ad : Nat → Nat) (cI cZ : ClassId) (A : Nat → Prop) (u : US) (t : State) : Prop := ∃ cn bf : FF, va_P D vwCl (wX ad cI cZ u.1 u.2.1 u.2.2.1 u.2.2.2.1 u.2.2.2.2.1 u.2.2.2.2.2.1 u.2.2.2.2.2.2.1 cn u.2.2.2.2.2.2.2 bf) t.heap ∧ va_K D vwCl (tyIZ cI cZ) t ∧ va_D A (wX ad cI cZ u.1 u.2.1 u.2.2.1 u.2.2.2.1 u.2.2.2.2.1 u.2.2.2.2.2.1 u.2.2.2.2.2.2.1 cn u.2.2.2.2.2.2.2 bf)
abbrev BM (D : va_G) (ad : Nat → Nat) (cI cZ : ClassId) (A : Nat → Prop) (u : US) (t : State) : Prop := ∃ cn bf : FF, va_P D vwCl (wM ad cI cZ u.1 u.2.1 u.2.2.1 u.2.2.2.1 u.2.2.2.2.1 u.2.2.2.2.2.1 u.2.2.2.2.2.2.1 cn u.2.2.2.2.2.2.2 bf) t.heap ∧ va_K D vwCl (tyIZ cI cZ) t ∧ va_D A (wM ad cI cZ u.1 u.2.1 u.2.2.1 u.2.2.2.1 u.2.2.2.2.1 u.2.2.2.2.2.1 u.2.2.2.2.2.2.1 cn u.2.2.2.2.2.2.2 bf)
theorem or3_no {a b d : Prop} (h1 : ¬ a) (h2 : ¬ b) (h3 : ¬ d) : ¬ (a ∨ b ∨ d) := by
  rintro (q | q | q)
  · exact h1 q
  · exact h2 q
  · exact h3 q
theorem or4_no {a b d f : Prop} (h1 : ¬ a) (h2 : ¬ b) (h3 : ¬ d) (h4 : ¬ f) : ¬ (a ∨ b ∨ d ∨ f) := by
  rintro (q | q | q | q)
  · exact h1 q
  · exact h2 q
  · exact h3 q
  · exact h4 q
theorem nar01 {v : Int32} (h : v = 0 ∨ v = 1) : vp_nar .boolean v = v := by
  rcases h with h | h
  · rw [h]; rfl
  · rw [h]; rfl
theorem ite_1 {C : Prop} [Decidable C] {r : Int32} (e : r = if C then 1 else 0) (h : ¬ r = 0) : C := Classical.byContradiction fun q => h (by rw [e, if_neg q])
theorem ite_0 {C : Prop} [Decidable C] {r : Int32} (e : r = if C then 1 else 0) (h : r = 0) : ¬ C := fun q => by
  rw [e, if_pos q] at h
  exact absurd h (by decide)
end
section
/-! GROUP: keep and give -/
set_option maxRecDepth 100000
section GP
variable {p : Program} {l : Launch} {e : Env} {R : Room} {s : State} {m : MethodId} {args : Array Value} {below : List Frame} {meth : Method} {c : Code} {cells slots : Nat} {Q : State → Prop} {D : va_G} {A : Nat → Prop} {ad : Nat → Nat} {cI cZ : ClassId} {tc mv gn : Int32} {mb tp ow pl cn sz bf : FF}
set_option maxHeartbeats 4000000 in
set_option maxRecDepth 100000 in
theorem L_keep_16 (C0 : CallFix p m c cX1_keep 10 s args lw_all RX1) (hK : va_K D vwCl (tyIZ cI cZ) s) (ea mo : Int32) (hws : WFs sz) (hwo : WFo ow) (i : Nat) (hi : i < 12) (hk : ∀ (H : Heap) (locs : List Loc) (ls : Array Slot) (q : FF × FF × Int32), (q = kpC tp sz mb ea mo ow cn (6 * (i + 1))) → Wl D A (wX ad cI cZ tc mv gn mb tp q.1 pl q.2.1 sz bf) s H locs → lv_has ls 10 [(0, .ref (ad 1)), (1, .ref (ad 7)), (2, .int ea), (3, .int mo), (4, .int q.2.2), (5, .int (nI (i + 1)))] → W p l e R s m args below meth c H locs cells slots Q (F0 m 153 ls [])) : ∀ (n y : Nat), y ≤ 6 → 6 < y + n → ∀ (H : Heap) (locs : List Loc) (ls : Array Slot) (q : FF × FF × Int32), (q = kpC tp sz mb ea mo ow cn (6 * i + y)) → Wl D A (wX ad cI cZ tc mv gn mb tp q.1 pl q.2.1 sz bf) s H locs → lv_has ls 10 [(0, .ref (ad 1)), (1, .ref (ad 7)), (2, .int ea), (3, .int mo), (4, .int q.2.2), (5, .int (nI (i + 1))), (6, .int (nI y))] → W p l e R s m args below meth c H locs cells slots Q (F0 m 16 ls []) := by
  obtain ⟨hx, hb, hml, hown, hts⟩ := id C0
  intro n
  induction n with
  | zero => intro y h1 h2; exact absurd h2 (by omega)
  | succ n ih =>
    intro y hy hin H locs ls q hq hw hl
    obtain ⟨hP, hD, hS⟩ := hw
    refine lv_iload hx hb dX1_keep_16 (lv_at hl 6 rfl) ?_
    refine lv_aload_n hx hb dX1_keep_18 rfl (lv_at hl 1 rfl) ?_
    refine lv_iload hx hb dX1_keep_19 (lv_at hl 5 rfl) ?_
    refine g_iald hx hb hK hP 7 0 rfl rfl (i + 1) (rfl) (by omega) (by decide) dX1_keep_21 ?_
    refine lv_icmp_ge (tgt := 153) hx hb dX1_keep_22 (by decide) (fun c22 => ?_) (fun c22 => ?_)
    · exact hk H locs ls q (by rw [hq, kpC_row hy (by first | exact Or.inl c32 | exact Or.inr c22)]) ⟨hP, hD, hS⟩ (lv_sub hl [0, 1, 2, 3, 4, 5] rfl)
    · have hy6 : y < 6 := lp_row hws hi hy c22
      refine lv_aload_n hx hb dX1_keep_25 rfl (lv_at hl 0 rfl) ?_
      refine va_get (D := D) (ci := 1) (v := .ref (ad 3)) (C := RX1) (T := TX1) (N := 6) hx hb hts in_X1 hown hK hP 1 rfl rfl 1 (by decide) (hts _ q31) (fun _ h9 => h9) rfl dX1_keep_26 ?_
      refine lv_iload hx hb dX1_keep_29 (lv_at hl 5 rfl) ?_
      refine g_zald hx hb hK hP 3 1 rfl rfl (i + 1) (rfl) (by omega) (by decide) dX1_keep_31 ?_
      refine lv_if_eq (tgt := 153) hx hb dX1_keep_32 (by decide) (fun c32 => ?_) (fun c32 => ?_)
      · exact hk H locs ls q (by rw [hq, kpC_row hy (by first | exact Or.inl c32 | exact Or.inr c22)]) ⟨hP, hD, hS⟩ (lv_sub hl [0, 1, 2, 3, 4, 5] rfl)
      · have hsh : sh tp sz (6 * i + y) := (sh_at tp sz hy6).mpr ⟨c32, Int32.not_le.mp c22⟩
        have hwq : WFo q.1 := by rw [hq]; exact kpC_wf hwo _
        refine lv_iload hx hb dX1_keep_35 (lv_at hl 5 rfl) ?_
        refine lv_iconst (v := 1) hx hb dX1_keep_37 (by decide) ?_
        refine lv_isub hx hb dX1_keep_38 ?_
        refine lv_bipush (v := 6) hx hb dX1_keep_39 (by decide) ?_
        refine lv_imul hx hb dX1_keep_41 ?_
        refine lv_iload hx hb dX1_keep_42 (lv_at hl 6 rfl) ?_
        refine lv_iadd hx hb dX1_keep_44 ?_
        refine g_top (y := nI (6 * i + y)) (at_nI i y) ?_
        refine lv_istore (lv' := [(7, .int (nI (6 * i + y))), (0, .ref (ad 1)), (1, .ref (ad 7)), (2, .int ea), (3, .int mo), (4, .int q.2.2), (5, .int (nI (i + 1))), (6, .int (nI y))]) hx hb dX1_keep_45 hl (by decide) rfl (fun ls hl => ?_)
        refine lv_aload_n hx hb dX1_keep_47 rfl (lv_at hl 1 rfl) ?_
        refine va_get (D := D) (ci := 1) (v := .ref (ad 4)) (C := RX1) (T := TX1) (N := 6) hx hb hts in_X1 hown hK hP 1 rfl rfl 3 (by decide) (hts _ q35) (fun _ h9 => h9) rfl dX1_keep_48 ?_
        refine lv_iload hx hb dX1_keep_51 (lv_at hl 0 rfl) ?_
        refine g_iald hx hb hK hP 4 0 rfl rfl (6 * i + y) (rfl) (by omega) (by decide) dX1_keep_53 ?_
        refine lv_istore (lv' := [(8, .int (q.1 (6 * i + y))), (7, .int (nI (6 * i + y))), (0, .ref (ad 1)), (1, .ref (ad 7)), (2, .int ea), (3, .int mo), (4, .int q.2.2), (5, .int (nI (i + 1))), (6, .int (nI y))]) hx hb dX1_keep_54 hl (by decide) rfl (fun ls hl => ?_)
        refine lv_iload hx hb dX1_keep_56 (lv_at hl 0 rfl) ?_
        refine lv_if_lt (tgt := 103) hx hb dX1_keep_58 (by decide) (fun c58 => ?_) (fun c58 => ?_)
        · have hno : ¬ may mb q.2.1 ea mo q.2.2 (q.1 (6 * i + y)) := fun z => z.1 c58
          refine lv_iconst (v := 0) hx hb dX1_keep_103 (by decide) ?_
          refine lv_istore (lv' := [(9, .int 0), (8, .int (q.1 (6 * i + y))), (7, .int (nI (6 * i + y))), (0, .ref (ad 1)), (1, .ref (ad 7)), (2, .int ea), (3, .int mo), (4, .int q.2.2), (5, .int (nI (i + 1))), (6, .int (nI y))]) hx hb dX1_keep_104 hl (by decide) rfl (fun ls hl => ?_)
          refine lv_iload hx hb dX1_keep_106 (lv_at hl 0 rfl) ?_
          refine lv_if_ne (tgt := 122) hx hb dX1_keep_108 (by decide) (fun c108 => ?_) (fun c108 => ?_)
          · exact absurd rfl c108
          · refine lv_aload_n hx hb dX1_keep_111 rfl (lv_at hl 3 rfl) ?_
            refine va_get (D := D) (ci := 1) (v := .ref (ad 4)) (C := RX1) (T := TX1) (N := 6) hx hb hts in_X1 hown hK hP 1 rfl rfl 3 (by decide) (hts _ q35) (fun _ h9 => h9) rfl dX1_keep_112 ?_
            refine lv_iload hx hb dX1_keep_115 (lv_at hl 2 rfl) ?_
            refine lv_iconst (v := (-1)) hx hb dX1_keep_117 (by decide) ?_
            refine g_iast hx hb hK hP hD hS 4 0 rfl rfl (6 * i + y) (rfl) (by omega) (by decide) dX1_keep_118 (fun H locs hP hD hS => ?_)
            have hP : va_P D vwCl (wX ad cI cZ tc mv gn mb tp (upd q.1 (6 * i + y) (-1)) pl q.2.1 sz bf) H := hP
            have hD : va_D A (wX ad cI cZ tc mv gn mb tp (upd q.1 (6 * i + y) (-1)) pl q.2.1 sz bf) := hD
            refine lv_goto (tgt := 147) hx hb dX1_keep_119 (by decide) ?_
            refine lv_iinc (v := nI (y + 1)) (lv' := [(6, .int (nI (y + 1))), (9, .int 0), (8, .int (q.1 (6 * i + y))), (7, .int (nI (6 * i + y))), (0, .ref (ad 1)), (1, .ref (ad 7)), (2, .int ea), (3, .int mo), (4, .int q.2.2), (5, .int (nI (i + 1)))]) hx hb dX1_keep_147 hl (k := 9) rfl (nI_inc _) (by decide) rfl (fun ls hl => ?_)
            refine lv_goto (tgt := 16) hx hb dX1_keep_150 (by decide) ?_
            exact ih (y + 1) (by omega) (by omega) H locs ls (upd q.1 (6 * i + y) (-1), q.2.1, q.2.2) (kp_no hq hsh hno) ⟨hP, hD, hS⟩ (lv_sub hl [4, 5, 6, 7, 8, 9, 0] rfl)
        · obtain ⟨j, hj, ej⟩ := wf_ix hwq (by omega) c58
          refine lv_aload_n hx hb dX1_keep_61 rfl (lv_at hl 2 rfl) ?_
          refine va_get (D := D) (ci := 1) (v := .ref (ad 2)) (C := RX1) (T := TX1) (N := 6) hx hb hts in_X1 hown hK hP 1 rfl rfl 0 (by decide) (hts _ q29) (fun _ h9 => h9) rfl dX1_keep_62 ?_
          refine lv_iload hx hb dX1_keep_65 (lv_at hl 0 rfl) ?_
          refine g_zald hx hb hK hP 2 1 rfl rfl j (ej) (hj) (by decide) dX1_keep_67 ?_
          refine lv_if_eq (tgt := 103) hx hb dX1_keep_68 (by decide) (fun c68 => ?_) (fun c68 => ?_)
          · have hno : ¬ may mb q.2.1 ea mo q.2.2 (q.1 (6 * i + y)) := fun z => ((may_iff hj ej).mp z).1 c68
            refine lv_iconst (v := 0) hx hb dX1_keep_103 (by decide) ?_
            refine lv_istore (lv' := [(9, .int 0), (8, .int (q.1 (6 * i + y))), (7, .int (nI (6 * i + y))), (0, .ref (ad 1)), (1, .ref (ad 7)), (2, .int ea), (3, .int mo), (4, .int q.2.2), (5, .int (nI (i + 1))), (6, .int (nI y))]) hx hb dX1_keep_104 hl (by decide) rfl (fun ls hl => ?_)
            refine lv_iload hx hb dX1_keep_106 (lv_at hl 0 rfl) ?_
            refine lv_if_ne (tgt := 122) hx hb dX1_keep_108 (by decide) (fun c108 => ?_) (fun c108 => ?_)
            · exact absurd rfl c108
            · refine lv_aload_n hx hb dX1_keep_111 rfl (lv_at hl 3 rfl) ?_
              refine va_get (D := D) (ci := 1) (v := .ref (ad 4)) (C := RX1) (T := TX1) (N := 6) hx hb hts in_X1 hown hK hP 1 rfl rfl 3 (by decide) (hts _ q35) (fun _ h9 => h9) rfl dX1_keep_112 ?_
              refine lv_iload hx hb dX1_keep_115 (lv_at hl 2 rfl) ?_
              refine lv_iconst (v := (-1)) hx hb dX1_keep_117 (by decide) ?_
              refine g_iast hx hb hK hP hD hS 4 0 rfl rfl (6 * i + y) (rfl) (by omega) (by decide) dX1_keep_118 (fun H locs hP hD hS => ?_)
              have hP : va_P D vwCl (wX ad cI cZ tc mv gn mb tp (upd q.1 (6 * i + y) (-1)) pl q.2.1 sz bf) H := hP
              have hD : va_D A (wX ad cI cZ tc mv gn mb tp (upd q.1 (6 * i + y) (-1)) pl q.2.1 sz bf) := hD
              refine lv_goto (tgt := 147) hx hb dX1_keep_119 (by decide) ?_
              refine lv_iinc (v := nI (y + 1)) (lv' := [(6, .int (nI (y + 1))), (9, .int 0), (8, .int (q.1 (6 * i + y))), (7, .int (nI (6 * i + y))), (0, .ref (ad 1)), (1, .ref (ad 7)), (2, .int ea), (3, .int mo), (4, .int q.2.2), (5, .int (nI (i + 1)))]) hx hb dX1_keep_147 hl (k := 9) rfl (nI_inc _) (by decide) rfl (fun ls hl => ?_)
              refine lv_goto (tgt := 16) hx hb dX1_keep_150 (by decide) ?_
              exact ih (y + 1) (by omega) (by omega) H locs ls (upd q.1 (6 * i + y) (-1), q.2.1, q.2.2) (kp_no hq hsh hno) ⟨hP, hD, hS⟩ (lv_sub hl [4, 5, 6, 7, 8, 9, 0] rfl)
          · refine lv_aload_n hx hb dX1_keep_71 rfl (lv_at hl 2 rfl) ?_
            refine va_get (D := D) (ci := 1) (v := .ref (ad 6)) (C := RX1) (T := TX1) (N := 6) hx hb hts in_X1 hown hK hP 1 rfl rfl 5 (by decide) (hts _ q39) (fun _ h9 => h9) rfl dX1_keep_72 ?_
            refine lv_iload hx hb dX1_keep_75 (lv_at hl 0 rfl) ?_
            refine g_iald hx hb hK hP 6 0 rfl rfl j (ej) (hj) (by decide) dX1_keep_77 ?_
            refine lv_iload_n hx hb dX1_keep_78 rfl (lv_at hl 4 rfl) ?_
            refine lv_icmp_lt (tgt := 99) hx hb dX1_keep_79 (by decide) (fun c79 => ?_) (fun c79 => ?_)
            · refine lv_iconst (v := 1) hx hb dX1_keep_99 (by decide) ?_
              refine lv_goto (tgt := 104) hx hb dX1_keep_100 (by decide) ?_
              refine lv_istore (lv' := [(9, .int 1), (8, .int (q.1 (6 * i + y))), (7, .int (nI (6 * i + y))), (0, .ref (ad 1)), (1, .ref (ad 7)), (2, .int ea), (3, .int mo), (4, .int q.2.2), (5, .int (nI (i + 1))), (6, .int (nI y))]) hx hb dX1_keep_104 hl (by decide) rfl (fun ls hl => ?_)
              refine lv_iload hx hb dX1_keep_106 (lv_at hl 0 rfl) ?_
              refine lv_if_ne (tgt := 122) hx hb dX1_keep_108 (by decide) (fun c108 => ?_) (fun c108 => ?_)
              · refine lv_aload_n hx hb dX1_keep_122 rfl (lv_at hl 3 rfl) ?_
                refine va_get (D := D) (ci := 1) (v := .ref (ad 6)) (C := RX1) (T := TX1) (N := 6) hx hb hts in_X1 hown hK hP 1 rfl rfl 5 (by decide) (hts _ q39) (fun _ h9 => h9) rfl dX1_keep_123 ?_
                refine lv_iload hx hb dX1_keep_126 (lv_at hl 1 rfl) ?_
                refine g_iald hx hb hK hP 6 0 rfl rfl j (ej) (hj) (by decide) dX1_keep_128 ?_
                refine lv_iload_n hx hb dX1_keep_129 rfl (lv_at hl 5 rfl) ?_
                refine lv_icmp_ne (tgt := 136) hx hb dX1_keep_130 (by decide) (fun c130 => ?_) (fun c130 => ?_)
                · refine lv_aload_n hx hb dX1_keep_136 rfl (lv_at hl 3 rfl) ?_
                  refine va_get (D := D) (ci := 1) (v := .ref (ad 6)) (C := RX1) (T := TX1) (N := 6) hx hb hts in_X1 hown hK hP 1 rfl rfl 5 (by decide) (hts _ q39) (fun _ h9 => h9) rfl dX1_keep_137 ?_
                  refine lv_iload hx hb dX1_keep_140 (lv_at hl 1 rfl) ?_
                  refine lv_dup2_11 hx hb dX1_keep_142 rfl rfl ?_
                  refine g_iald hx hb hK hP 6 0 rfl rfl j (ej) (hj) (by decide) dX1_keep_143 ?_
                  refine lv_iconst (v := 1) hx hb dX1_keep_144 (by decide) ?_
                  refine lv_iadd hx hb dX1_keep_145 ?_
                  refine g_iast hx hb hK hP hD hS 6 0 rfl rfl j (ej) (hj) (by decide) dX1_keep_146 (fun H locs hP hD hS => ?_)
                  have hP : va_P D vwCl (wX ad cI cZ tc mv gn mb tp q.1 pl (upd q.2.1 j ((q.2.1 j) + 1)) sz bf) H := hP
                  have hD : va_D A (wX ad cI cZ tc mv gn mb tp q.1 pl (upd q.2.1 j ((q.2.1 j) + 1)) sz bf) := hD
                  refine lv_iinc (v := nI (y + 1)) (lv' := [(6, .int (nI (y + 1))), (9, .int 1), (8, .int (q.1 (6 * i + y))), (7, .int (nI (6 * i + y))), (0, .ref (ad 1)), (1, .ref (ad 7)), (2, .int ea), (3, .int mo), (4, .int q.2.2), (5, .int (nI (i + 1)))]) hx hb dX1_keep_147 hl (k := 9) rfl (nI_inc _) (by decide) rfl (fun ls hl => ?_)
                  refine lv_goto (tgt := 16) hx hb dX1_keep_150 (by decide) ?_
                  exact ih (y + 1) (by omega) (by omega) H locs ls (q.1, upd q.2.1 j (q.2.1 j + 1), q.2.2) (kp_lt hq hsh hj ej c68 c79) ⟨hP, hD, hS⟩ (lv_sub hl [4, 5, 6, 7, 8, 9, 0] rfl)
                · exact absurd c79 (by rw [c130]; exact Int32.lt_irrefl)
              · exact absurd c108 (by decide)
            · refine lv_aload_n hx hb dX1_keep_82 rfl (lv_at hl 2 rfl) ?_
              refine va_get (D := D) (ci := 1) (v := .ref (ad 6)) (C := RX1) (T := TX1) (N := 6) hx hb hts in_X1 hown hK hP 1 rfl rfl 5 (by decide) (hts _ q39) (fun _ h9 => h9) rfl dX1_keep_83 ?_
              refine lv_iload hx hb dX1_keep_86 (lv_at hl 0 rfl) ?_
              refine g_iald hx hb hK hP 6 0 rfl rfl j (ej) (hj) (by decide) dX1_keep_88 ?_
              refine lv_iload_n hx hb dX1_keep_89 rfl (lv_at hl 4 rfl) ?_
              refine lv_icmp_ne (tgt := 103) hx hb dX1_keep_90 (by decide) (fun c90 => ?_) (fun c90 => ?_)
              · have hno : ¬ may mb q.2.1 ea mo q.2.2 (q.1 (6 * i + y)) := fun z => ((may_iff hj ej).mp z).2.elim c79 (fun w => c90 w.1)
                refine lv_iconst (v := 0) hx hb dX1_keep_103 (by decide) ?_
                refine lv_istore (lv' := [(9, .int 0), (8, .int (q.1 (6 * i + y))), (7, .int (nI (6 * i + y))), (0, .ref (ad 1)), (1, .ref (ad 7)), (2, .int ea), (3, .int mo), (4, .int q.2.2), (5, .int (nI (i + 1))), (6, .int (nI y))]) hx hb dX1_keep_104 hl (by decide) rfl (fun ls hl => ?_)
                refine lv_iload hx hb dX1_keep_106 (lv_at hl 0 rfl) ?_
                refine lv_if_ne (tgt := 122) hx hb dX1_keep_108 (by decide) (fun c108 => ?_) (fun c108 => ?_)
                · exact absurd rfl c108
                · refine lv_aload_n hx hb dX1_keep_111 rfl (lv_at hl 3 rfl) ?_
                  refine va_get (D := D) (ci := 1) (v := .ref (ad 4)) (C := RX1) (T := TX1) (N := 6) hx hb hts in_X1 hown hK hP 1 rfl rfl 3 (by decide) (hts _ q35) (fun _ h9 => h9) rfl dX1_keep_112 ?_
                  refine lv_iload hx hb dX1_keep_115 (lv_at hl 2 rfl) ?_
                  refine lv_iconst (v := (-1)) hx hb dX1_keep_117 (by decide) ?_
                  refine g_iast hx hb hK hP hD hS 4 0 rfl rfl (6 * i + y) (rfl) (by omega) (by decide) dX1_keep_118 (fun H locs hP hD hS => ?_)
                  have hP : va_P D vwCl (wX ad cI cZ tc mv gn mb tp (upd q.1 (6 * i + y) (-1)) pl q.2.1 sz bf) H := hP
                  have hD : va_D A (wX ad cI cZ tc mv gn mb tp (upd q.1 (6 * i + y) (-1)) pl q.2.1 sz bf) := hD
                  refine lv_goto (tgt := 147) hx hb dX1_keep_119 (by decide) ?_
                  refine lv_iinc (v := nI (y + 1)) (lv' := [(6, .int (nI (y + 1))), (9, .int 0), (8, .int (q.1 (6 * i + y))), (7, .int (nI (6 * i + y))), (0, .ref (ad 1)), (1, .ref (ad 7)), (2, .int ea), (3, .int mo), (4, .int q.2.2), (5, .int (nI (i + 1)))]) hx hb dX1_keep_147 hl (k := 9) rfl (nI_inc _) (by decide) rfl (fun ls hl => ?_)
                  refine lv_goto (tgt := 16) hx hb dX1_keep_150 (by decide) ?_
                  exact ih (y + 1) (by omega) (by omega) H locs ls (upd q.1 (6 * i + y) (-1), q.2.1, q.2.2) (kp_no hq hsh hno) ⟨hP, hD, hS⟩ (lv_sub hl [4, 5, 6, 7, 8, 9, 0] rfl)
              · refine lv_iload hx hb dX1_keep_93 (lv_at hl 6 rfl) ?_
                refine lv_iload_n hx hb dX1_keep_95 rfl (lv_at hl 5 rfl) ?_
                refine lv_icmp_ge (tgt := 103) hx hb dX1_keep_96 (by decide) (fun c96 => ?_) (fun c96 => ?_)
                · have hno : ¬ may mb q.2.1 ea mo q.2.2 (q.1 (6 * i + y)) := fun z => ((may_iff hj ej).mp z).2.elim c79 (fun w => Int32.not_lt.mpr c96 w.2)
                  refine lv_iconst (v := 0) hx hb dX1_keep_103 (by decide) ?_
                  refine lv_istore (lv' := [(9, .int 0), (8, .int (q.1 (6 * i + y))), (7, .int (nI (6 * i + y))), (0, .ref (ad 1)), (1, .ref (ad 7)), (2, .int ea), (3, .int mo), (4, .int q.2.2), (5, .int (nI (i + 1))), (6, .int (nI y))]) hx hb dX1_keep_104 hl (by decide) rfl (fun ls hl => ?_)
                  refine lv_iload hx hb dX1_keep_106 (lv_at hl 0 rfl) ?_
                  refine lv_if_ne (tgt := 122) hx hb dX1_keep_108 (by decide) (fun c108 => ?_) (fun c108 => ?_)
                  · exact absurd rfl c108
                  · refine lv_aload_n hx hb dX1_keep_111 rfl (lv_at hl 3 rfl) ?_
                    refine va_get (D := D) (ci := 1) (v := .ref (ad 4)) (C := RX1) (T := TX1) (N := 6) hx hb hts in_X1 hown hK hP 1 rfl rfl 3 (by decide) (hts _ q35) (fun _ h9 => h9) rfl dX1_keep_112 ?_
                    refine lv_iload hx hb dX1_keep_115 (lv_at hl 2 rfl) ?_
                    refine lv_iconst (v := (-1)) hx hb dX1_keep_117 (by decide) ?_
                    refine g_iast hx hb hK hP hD hS 4 0 rfl rfl (6 * i + y) (rfl) (by omega) (by decide) dX1_keep_118 (fun H locs hP hD hS => ?_)
                    have hP : va_P D vwCl (wX ad cI cZ tc mv gn mb tp (upd q.1 (6 * i + y) (-1)) pl q.2.1 sz bf) H := hP
                    have hD : va_D A (wX ad cI cZ tc mv gn mb tp (upd q.1 (6 * i + y) (-1)) pl q.2.1 sz bf) := hD
                    refine lv_goto (tgt := 147) hx hb dX1_keep_119 (by decide) ?_
                    refine lv_iinc (v := nI (y + 1)) (lv' := [(6, .int (nI (y + 1))), (9, .int 0), (8, .int (q.1 (6 * i + y))), (7, .int (nI (6 * i + y))), (0, .ref (ad 1)), (1, .ref (ad 7)), (2, .int ea), (3, .int mo), (4, .int q.2.2), (5, .int (nI (i + 1)))]) hx hb dX1_keep_147 hl (k := 9) rfl (nI_inc _) (by decide) rfl (fun ls hl => ?_)
                    refine lv_goto (tgt := 16) hx hb dX1_keep_150 (by decide) ?_
                    exact ih (y + 1) (by omega) (by omega) H locs ls (upd q.1 (6 * i + y) (-1), q.2.1, q.2.2) (kp_no hq hsh hno) ⟨hP, hD, hS⟩ (lv_sub hl [4, 5, 6, 7, 8, 9, 0] rfl)
                · refine lv_iconst (v := 1) hx hb dX1_keep_99 (by decide) ?_
                  refine lv_goto (tgt := 104) hx hb dX1_keep_100 (by decide) ?_
                  refine lv_istore (lv' := [(9, .int 1), (8, .int (q.1 (6 * i + y))), (7, .int (nI (6 * i + y))), (0, .ref (ad 1)), (1, .ref (ad 7)), (2, .int ea), (3, .int mo), (4, .int q.2.2), (5, .int (nI (i + 1))), (6, .int (nI y))]) hx hb dX1_keep_104 hl (by decide) rfl (fun ls hl => ?_)
                  refine lv_iload hx hb dX1_keep_106 (lv_at hl 0 rfl) ?_
                  refine lv_if_ne (tgt := 122) hx hb dX1_keep_108 (by decide) (fun c108 => ?_) (fun c108 => ?_)
                  · refine lv_aload_n hx hb dX1_keep_122 rfl (lv_at hl 3 rfl) ?_
                    refine va_get (D := D) (ci := 1) (v := .ref (ad 6)) (C := RX1) (T := TX1) (N := 6) hx hb hts in_X1 hown hK hP 1 rfl rfl 5 (by decide) (hts _ q39) (fun _ h9 => h9) rfl dX1_keep_123 ?_
                    refine lv_iload hx hb dX1_keep_126 (lv_at hl 1 rfl) ?_
                    refine g_iald hx hb hK hP 6 0 rfl rfl j (ej) (hj) (by decide) dX1_keep_128 ?_
                    refine lv_iload_n hx hb dX1_keep_129 rfl (lv_at hl 5 rfl) ?_
                    refine lv_icmp_ne (tgt := 136) hx hb dX1_keep_130 (by decide) (fun c130 => ?_) (fun c130 => ?_)
                    · exact absurd c90 c130
                    · refine lv_iinc (v := q.2.2 + 1) (lv' := [(4, .int (q.2.2 + 1)), (9, .int 1), (8, .int (q.1 (6 * i + y))), (7, .int (nI (6 * i + y))), (0, .ref (ad 1)), (1, .ref (ad 7)), (2, .int ea), (3, .int mo), (5, .int (nI (i + 1))), (6, .int (nI y))]) hx hb dX1_keep_133 hl (k := 7) rfl (rfl) (by decide) rfl (fun ls hl => ?_)
                      refine lv_aload_n hx hb dX1_keep_136 rfl (lv_at hl 4 rfl) ?_
                      refine va_get (D := D) (ci := 1) (v := .ref (ad 6)) (C := RX1) (T := TX1) (N := 6) hx hb hts in_X1 hown hK hP 1 rfl rfl 5 (by decide) (hts _ q39) (fun _ h9 => h9) rfl dX1_keep_137 ?_
                      refine lv_iload hx hb dX1_keep_140 (lv_at hl 2 rfl) ?_
                      refine lv_dup2_11 hx hb dX1_keep_142 rfl rfl ?_
                      refine g_iald hx hb hK hP 6 0 rfl rfl j (ej) (hj) (by decide) dX1_keep_143 ?_
                      refine lv_iconst (v := 1) hx hb dX1_keep_144 (by decide) ?_
                      refine lv_iadd hx hb dX1_keep_145 ?_
                      refine g_iast hx hb hK hP hD hS 6 0 rfl rfl j (ej) (hj) (by decide) dX1_keep_146 (fun H locs hP hD hS => ?_)
                      have hP : va_P D vwCl (wX ad cI cZ tc mv gn mb tp q.1 pl (upd q.2.1 j ((q.2.1 j) + 1)) sz bf) H := hP
                      have hD : va_D A (wX ad cI cZ tc mv gn mb tp q.1 pl (upd q.2.1 j ((q.2.1 j) + 1)) sz bf) := hD
                      refine lv_iinc (v := nI (y + 1)) (lv' := [(6, .int (nI (y + 1))), (4, .int (q.2.2 + 1)), (9, .int 1), (8, .int (q.1 (6 * i + y))), (7, .int (nI (6 * i + y))), (0, .ref (ad 1)), (1, .ref (ad 7)), (2, .int ea), (3, .int mo), (5, .int (nI (i + 1)))]) hx hb dX1_keep_147 hl (k := 9) rfl (nI_inc _) (by decide) rfl (fun ls hl => ?_)
                      refine lv_goto (tgt := 16) hx hb dX1_keep_150 (by decide) ?_
                      exact ih (y + 1) (by omega) (by omega) H locs ls (q.1, upd q.2.1 j (q.2.1 j + 1), q.2.2 + 1) (kp_eq hq hsh hj ej c68 c90 (Int32.not_le.mp c96)) ⟨hP, hD, hS⟩ (lv_sub hl [5, 6, 7, 8, 1, 9, 0] rfl)
                  · exact absurd c108 (by decide)
set_option maxHeartbeats 4000000 in
set_option maxRecDepth 100000 in
theorem L_keep_6 (C0 : CallFix p m c cX1_keep 10 s args lw_all RX1) (hK : va_K D vwCl (tyIZ cI cZ) s) (ea mo : Int32) (hws : WFs sz) (hwo : WFo ow) (hk : ∀ (H : Heap) (locs : List Loc) (ls : Array Slot) (q : FF × FF × Int32), (q = kpC tp sz mb ea mo ow cn (6 * 12)) → Wl D A (wX ad cI cZ tc mv gn mb tp q.1 pl q.2.1 sz bf) s H locs → lv_has ls 10 [(0, .ref (ad 1)), (1, .ref (ad 7)), (2, .int ea), (3, .int mo), (4, .int q.2.2), (5, .int (nI (12 + 1)))] → W p l e R s m args below meth c H locs cells slots Q (F0 m 159 ls [])) : ∀ (n i : Nat), i ≤ 12 → 12 < i + n → ∀ (H : Heap) (locs : List Loc) (ls : Array Slot) (q : FF × FF × Int32), (q = kpC tp sz mb ea mo ow cn (6 * i)) → Wl D A (wX ad cI cZ tc mv gn mb tp q.1 pl q.2.1 sz bf) s H locs → lv_has ls 10 [(0, .ref (ad 1)), (1, .ref (ad 7)), (2, .int ea), (3, .int mo), (4, .int q.2.2), (5, .int (nI (i + 1)))] → W p l e R s m args below meth c H locs cells slots Q (F0 m 6 ls []) := by
  obtain ⟨hx, hb, hml, hown, hts⟩ := id C0
  intro n
  induction n with
  | zero => intro i h1 h2; exact absurd h2 (by omega)
  | succ n ih =>
    intro i hi hin H locs ls q hq hw hl
    obtain ⟨hP, hD, hS⟩ := hw
    refine lv_iload hx hb dX1_keep_6 (lv_at hl 5 rfl) ?_
    refine lv_bipush (v := nI 12) hx hb dX1_keep_8 (by decide) ?_
    refine lv_icmp_gt (tgt := 159) hx hb dX1_keep_10 (by decide) (fun c10 => ?_) (fun c10 => ?_)
    · obtain rfl : i = 12 := by have h9 := lp_gt (by decide) (by omega) c10; omega
      exact hk H locs ls q (hq) ⟨hP, hD, hS⟩ (lv_sub hl [0, 1, 2, 3, 4, 5] rfl)
    · have hlt : i < 12 := by have h9 := lp_le (by omega) c10; omega
      refine lv_iconst (v := nI 0) hx hb dX1_keep_13 (by decide) ?_
      refine lv_istore (lv' := [(6, .int (nI 0)), (0, .ref (ad 1)), (1, .ref (ad 7)), (2, .int ea), (3, .int mo), (4, .int q.2.2), (5, .int (nI (i + 1)))]) hx hb dX1_keep_14 hl (by decide) rfl (fun ls hl => ?_)
      refine L_keep_16 C0 hK ea mo hws hwo i hlt (fun H locs ls q hq hw hl => ?_) 7 0 (by decide) (by decide) H locs ls q hq ⟨hP, hD, hS⟩ (lv_sub hl [1, 2, 3, 4, 5, 6, 0] rfl)
      obtain ⟨hP, hD, hS⟩ := hw
      refine lv_iinc (v := nI ((i + 1) + 1)) (lv' := [(5, .int (nI ((i + 1) + 1))), (0, .ref (ad 1)), (1, .ref (ad 7)), (2, .int ea), (3, .int mo), (4, .int q.2.2)]) hx hb dX1_keep_153 hl (k := 5) rfl (nI_inc _) (by decide) rfl (fun ls hl => ?_)
      refine lv_goto (tgt := 6) hx hb dX1_keep_156 (by decide) ?_
      exact ih (i + 1) (by omega) (by omega) H locs ls q hq ⟨hP, hD, hS⟩ (lv_sub hl [1, 2, 3, 4, 5, 0] rfl)
abbrev BK (D : va_G) (ad : Nat → Nat) (cI cZ : ClassId) (tc mv gn : Int32) (mb tp pl sz bf : FF) (A : Nat → Prop) (u : FF × FF) (t : State) : Prop := va_P D vwCl (wX ad cI cZ tc mv gn mb tp u.1 pl u.2 sz bf) t.heap ∧ va_K D vwCl (tyIZ cI cZ) t ∧ va_D A (wX ad cI cZ tc mv gn mb tp u.1 pl u.2 sz bf)
set_option maxHeartbeats 4000000 in
set_option maxRecDepth 100000 in
theorem metX1_keep (l : Launch) (D : va_G) (ad : Nat → Nat) (cI cZ : ClassId) (tc mv gn : Int32) (mb tp ow pl cn sz bf : FF) (sz0 : Nat) (ea mo : Int32) (hws : WFs sz) (hwo : WFo ow) : Met l yX1_keep (ws_ yX1_keep cX1_keep 10 none) ({ frames := 0, cells := 0, slots := 0, locals := 0 }) (PcM D (tyIZ cI cZ) (wX ad cI cZ tc mv gn mb tp ow pl cn sz bf) sz0 [.ref (ad 1), .ref (ad 7), .int ea, .int mo]) (va_Qv (fun u : FF × FF => u = ((kpC tp sz mb ea mo ow cn 72).1, (kpC tp sz mb ea mo ow cn 72).2.1)) (BK D ad cI cZ tc mv gn mb tp pl sz bf (va_A (wX ad cI cZ tc mv gn mb tp ow pl cn sz bf) sz0)) (va_A (wX ad cI cZ tc mv gn mb tp ow pl cn sz bf) sz0)) 0 0 (va_A (wX ad cI cZ tc mv gn mb tp ow pl cn sz bf) sz0) := by
  refine Met.ofW (cc := cX1_keep) (maxL := 10) (ret := none) (by decide) rfl ?_
  intro p e s m args below meth c s₁ B hml hv
  obtain ⟨rfl, hsz, hP, hK, hD0⟩ := hv
  have hx := B.exec
  have hb := B.bytes
  have hr := B.returns
  have hts := atoms_spec (ws := (ws_ yX1_keep cX1_keep 10 none)) B.pre
  have hts : ∀ w ∈ lw_all, w.before _ s = true := fun w h => hts w (List.mem_cons_of_mem _ h)
  have hown : s.vm.findClass RX1 = some m.cls := findClass_of_methodNamed B.named
  have hlocks := B.notSynchronized
  subst hsz
  have hD := hD0.self (sz := s.heap.size)
  generalize hAe : va_A (wX ad cI cZ tc mv gn mb tp ow pl cn sz bf) s.heap.size = A at hD ⊢
  have hA : ∀ q : Nat, s.heap.size ≤ q → A q := fun q h => by rw [← hAe]; exact Or.inr h
  have hS : va_S A s.heap s.heap [] := va_S.rf
  have hP : va_P D vwCl (wX ad cI cZ tc mv gn mb tp ow pl cn sz bf) s.heap := hP
  have hl := lv_entry ([.ref (ad 1), .ref (ad 7), .int ea, .int mo]) (n := 10) (Nat.le_of_ble_eq_true rfl)
  rw [lg_entry_eq]
  generalize (lg_sl ([.ref (ad 1), .ref (ad 7), .int ea, .int mo]) ++ List.replicate (10 - (lg_sl ([.ref (ad 1), .ref (ad 7), .int ea, .int mo])).length) Slot.unset).toArray = ls at hl ⊢
  have hl : lv_has ls 10 [(0, .ref (ad 1)), (1, .ref (ad 7)), (2, .int ea), (3, .int mo)] := hl
  refine lv_iconst (v := 0) hx hb dX1_keep_0 (by decide) ?_
  refine lv_istore (lv' := [(4, .int 0), (0, .ref (ad 1)), (1, .ref (ad 7)), (2, .int ea), (3, .int mo)]) hx hb dX1_keep_1 hl (by decide) rfl (fun ls hl => ?_)
  refine lv_iconst (v := nI (0 + 1)) hx hb dX1_keep_3 (by decide) ?_
  refine lv_istore (lv' := [(5, .int (nI (0 + 1))), (4, .int 0), (0, .ref (ad 1)), (1, .ref (ad 7)), (2, .int ea), (3, .int mo)]) hx hb dX1_keep_4 hl (by decide) rfl (fun ls hl => ?_)
  refine L_keep_6 ⟨hx, hb, hml, hown, hts⟩ hK ea mo hws hwo (fun H locs ls q hq hw hl => ?_) 13 0 (by decide) (by decide) s.heap [] ls (ow, cn, 0) rfl ⟨hP, hD, hS⟩ (lv_sub hl [2, 3, 4, 5, 1, 0] rfl)
  obtain ⟨hP, hD, hS⟩ := hw
  exact W.vret hx hb hr (fun t0 h0t hW => ⟨⟨(q.1, q.2.1), rfl, by rw [hq], by rw [h0t]; exact hP, va_K.moved hW.alike hK, hD⟩, hS.F h0t⟩) hS.2.2 dX1_keep_159
set_option maxHeartbeats 4000000 in
set_option maxRecDepth 100000 in
theorem L_give_17 (C0 : CallFix p m c cX1_give 7 s args lw_all RX1) (hK : va_K D vwCl (tyIZ cI cZ) s) {H : Heap} {locs : List Loc} (hP : va_P D vwCl (wX ad cI cZ tc mv gn mb tp ow pl cn sz bf) H)  (hk : ∀ (ls : Array Slot) (x2 : Int32), (x2 = sumT tp sz 12) → lv_has ls 7 [(0, .ref (ad 1)), (1, .ref (ad 7)), (2, .int x2), (3, .int 0), (4, .int (nI (12 + 1)))] → W p l e R s m args below meth c H locs cells slots Q (F0 m 47 ls [])) : ∀ (n i : Nat), i ≤ 12 → 12 < i + n → ∀ (ls : Array Slot) (x2 : Int32), (x2 = sumT tp sz i) → lv_has ls 7 [(0, .ref (ad 1)), (1, .ref (ad 7)), (2, .int x2), (3, .int 0), (4, .int (nI (i + 1)))] → W p l e R s m args below meth c H locs cells slots Q (F0 m 17 ls []) := by
  obtain ⟨hx, hb, hml, hown, hts⟩ := id C0
  intro n
  induction n with
  | zero => intro i h1 h2; exact absurd h2 (by omega)
  | succ n ih =>
    intro i hi hin ls x2 e2 hl
    refine lv_iload hx hb dX1_give_17 (lv_at hl 4 rfl) ?_
    refine lv_bipush (v := nI 12) hx hb dX1_give_19 (by decide) ?_
    refine lv_icmp_gt (tgt := 47) hx hb dX1_give_21 (by decide) (fun c21 => ?_) (fun c21 => ?_)
    · obtain rfl : i = 12 := by have h9 := lp_gt (by decide) (by omega) c21; omega
      exact hk ls x2 (e2) (lv_sub hl [0, 1, 2, 3, 4] rfl)
    · have hlt : i < 12 := by have h9 := lp_le (by omega) c21; omega
      refine lv_aload_n hx hb dX1_give_24 rfl (lv_at hl 0 rfl) ?_
      refine va_get (D := D) (ci := 1) (v := .ref (ad 3)) (C := RX1) (T := TX1) (N := 6) hx hb hts in_X1 hown hK hP 1 rfl rfl 1 (by decide) (hts _ q31) (fun _ h9 => h9) rfl dX1_give_25 ?_
      refine lv_iload hx hb dX1_give_28 (lv_at hl 4 rfl) ?_
      refine g_zald hx hb hK hP 3 1 rfl rfl (i + 1) (rfl) (by omega) (by decide) dX1_give_30 ?_
      refine lv_if_eq (tgt := 41) hx hb dX1_give_31 (by decide) (fun c31 => ?_) (fun c31 => ?_)
      · refine lv_iinc (v := nI ((i + 1) + 1)) (lv' := [(4, .int (nI ((i + 1) + 1))), (0, .ref (ad 1)), (1, .ref (ad 7)), (2, .int x2), (3, .int 0)]) hx hb dX1_give_41 hl (k := 4) rfl (nI_inc _) (by decide) rfl (fun ls hl => ?_)
        refine lv_goto (tgt := 17) hx hb dX1_give_44 (by decide) ?_
        exact ih (i + 1) (by omega) (by omega) ls x2 (by first | exact sum_1 e2 c31 | exact sum_0 e2 c31) (lv_sub hl [1, 2, 3, 4, 0] rfl)
      · refine lv_iload_n hx hb dX1_give_34 rfl (lv_at hl 2 rfl) ?_
        refine lv_aload_n hx hb dX1_give_35 rfl (lv_at hl 1 rfl) ?_
        refine lv_iload hx hb dX1_give_36 (lv_at hl 4 rfl) ?_
        refine g_iald hx hb hK hP 7 0 rfl rfl (i + 1) (rfl) (by omega) (by decide) dX1_give_38 ?_
        refine lv_iadd hx hb dX1_give_39 ?_
        refine lv_istore_n (lv' := [(2, .int (x2 + (sz (i + 1)))), (0, .ref (ad 1)), (1, .ref (ad 7)), (3, .int 0), (4, .int (nI (i + 1)))]) hx hb dX1_give_40 rfl hl (by decide) rfl (fun ls hl => ?_)
        refine lv_iinc (v := nI ((i + 1) + 1)) (lv' := [(4, .int (nI ((i + 1) + 1))), (2, .int (x2 + (sz (i + 1)))), (0, .ref (ad 1)), (1, .ref (ad 7)), (3, .int 0)]) hx hb dX1_give_41 hl (k := 4) rfl (nI_inc _) (by decide) rfl (fun ls hl => ?_)
        refine lv_goto (tgt := 17) hx hb dX1_give_44 (by decide) ?_
        exact ih (i + 1) (by omega) (by omega) ls (x2 + (sz (i + 1))) (by first | exact sum_1 e2 c31 | exact sum_0 e2 c31) (lv_sub hl [2, 3, 1, 4, 0] rfl)
set_option maxHeartbeats 4000000 in
set_option maxRecDepth 100000 in
theorem L_give_50 (C0 : CallFix p m c cX1_give 7 s args lw_all RX1) (hK : va_K D vwCl (tyIZ cI cZ) s) (x2 : Int32) (hk : ∀ (H : Heap) (locs : List Loc) (ls : Array Slot) (x3 : Int32) (cn : FF), (x3 = memI mb 8) → (∀ j, j < 8 → cn j = 0) → Wl D A (wX ad cI cZ tc mv gn mb tp ow pl cn sz bf) s H locs → lv_has ls 7 [(0, .ref (ad 1)), (1, .ref (ad 7)), (2, .int x2), (3, .int x3), (4, .int (nI 8))] → W p l e R s m args below meth c H locs cells slots Q (F0 m 84 ls [])) : ∀ (n i : Nat), i ≤ 8 → 8 < i + n → ∀ (H : Heap) (locs : List Loc) (ls : Array Slot) (x3 : Int32) (cn : FF), (x3 = memI mb i) → (∀ j, j < i → cn j = 0) → Wl D A (wX ad cI cZ tc mv gn mb tp ow pl cn sz bf) s H locs → lv_has ls 7 [(0, .ref (ad 1)), (1, .ref (ad 7)), (2, .int x2), (3, .int x3), (4, .int (nI i))] → W p l e R s m args below meth c H locs cells slots Q (F0 m 50 ls []) := by
  obtain ⟨hx, hb, hml, hown, hts⟩ := id C0
  intro n
  induction n with
  | zero => intro i h1 h2; exact absurd h2 (by omega)
  | succ n ih =>
    intro i hi hin H locs ls x3 cn e3 hz hw hl
    obtain ⟨hP, hD, hS⟩ := hw
    refine lv_iload hx hb dX1_give_50 (lv_at hl 4 rfl) ?_
    refine lv_bipush (v := nI 8) hx hb dX1_give_52 (by decide) ?_
    refine lv_icmp_ge (tgt := 84) hx hb dX1_give_54 (by decide) (fun c54 => ?_) (fun c54 => ?_)
    · obtain rfl : i = 8 := by have h9 := lp_ge (by decide) (by omega) c54; omega
      exact hk H locs ls x3 cn (e3) (hz) ⟨hP, hD, hS⟩ (lv_sub hl [0, 1, 2, 3, 4] rfl)
    · have hlt : i < 8 := lp_lt (by omega) c54
      refine lv_aload_n hx hb dX1_give_57 rfl (lv_at hl 0 rfl) ?_
      refine va_get (D := D) (ci := 1) (v := .ref (ad 6)) (C := RX1) (T := TX1) (N := 6) hx hb hts in_X1 hown hK hP 1 rfl rfl 5 (by decide) (hts _ q39) (fun _ h9 => h9) rfl dX1_give_58 ?_
      refine lv_iload hx hb dX1_give_61 (lv_at hl 4 rfl) ?_
      refine lv_iconst (v := 0) hx hb dX1_give_63 (by decide) ?_
      refine g_iast hx hb hK hP hD hS 6 0 rfl rfl i (rfl) (by omega) (by decide) dX1_give_64 (fun H locs hP hD hS => ?_)
      have hP : va_P D vwCl (wX ad cI cZ tc mv gn mb tp ow pl (upd cn i 0) sz bf) H := hP
      have hD : va_D A (wX ad cI cZ tc mv gn mb tp ow pl (upd cn i 0) sz bf) := hD
      refine lv_aload_n hx hb dX1_give_65 rfl (lv_at hl 0 rfl) ?_
      refine va_get (D := D) (ci := 1) (v := .ref (ad 2)) (C := RX1) (T := TX1) (N := 6) hx hb hts in_X1 hown hK hP 1 rfl rfl 0 (by decide) (hts _ q29) (fun _ h9 => h9) rfl dX1_give_66 ?_
      refine lv_iload hx hb dX1_give_69 (lv_at hl 4 rfl) ?_
      refine g_zald hx hb hK hP 2 1 rfl rfl i (rfl) (by omega) (by decide) dX1_give_71 ?_
      refine lv_if_eq (tgt := 78) hx hb dX1_give_72 (by decide) (fun c72 => ?_) (fun c72 => ?_)
      · refine lv_iinc (v := nI (i + 1)) (lv' := [(4, .int (nI (i + 1))), (0, .ref (ad 1)), (1, .ref (ad 7)), (2, .int x2), (3, .int x3)]) hx hb dX1_give_78 hl (k := 4) rfl (nI_inc _) (by decide) rfl (fun ls hl => ?_)
        refine lv_goto (tgt := 50) hx hb dX1_give_81 (by decide) ?_
        exact ih (i + 1) (by omega) (by omega) H locs ls x3 (upd cn i 0) (by first | exact mem_1 e3 c72 | exact mem_0 e3 c72) (up_all hz) ⟨hP, hD, hS⟩ (lv_sub hl [1, 2, 3, 4, 0] rfl)
      · refine lv_iinc (v := x3 + 1) (lv' := [(3, .int (x3 + 1)), (0, .ref (ad 1)), (1, .ref (ad 7)), (2, .int x2), (4, .int (nI i))]) hx hb dX1_give_75 hl (k := 3) rfl (rfl) (by decide) rfl (fun ls hl => ?_)
        refine lv_iinc (v := nI (i + 1)) (lv' := [(4, .int (nI (i + 1))), (3, .int (x3 + 1)), (0, .ref (ad 1)), (1, .ref (ad 7)), (2, .int x2)]) hx hb dX1_give_78 hl (k := 4) rfl (nI_inc _) (by decide) rfl (fun ls hl => ?_)
        refine lv_goto (tgt := 50) hx hb dX1_give_81 (by decide) ?_
        exact ih (i + 1) (by omega) (by omega) H locs ls (x3 + 1) (upd cn i 0) (by first | exact mem_1 e3 c72 | exact mem_0 e3 c72) (up_all hz) ⟨hP, hD, hS⟩ (lv_sub hl [2, 3, 4, 1, 0] rfl)
set_option maxHeartbeats 4000000 in
set_option maxRecDepth 100000 in
theorem L_give_91 (C0 : CallFix p m c cX1_give 7 s args lw_all RX1) (hK : va_K D vwCl (tyIZ cI cZ) s) (x2 x3 : Int32) (hk : ∀ (H : Heap) (locs : List Loc) (ls : Array Slot) (ow : FF), (∀ j, j < 72 → ow j = -1) → Wl D A (wX ad cI cZ tc mv gn mb tp ow pl cn sz bf) s H locs → lv_has ls 7 [(0, .ref (ad 1)), (1, .ref (ad 7)), (2, .int x2), (3, .int x3), (4, .int (nI 72))] → W p l e R s m args below meth c H locs cells slots Q (F0 m 112 ls [])) : ∀ (n i : Nat), i ≤ 72 → 72 < i + n → ∀ (H : Heap) (locs : List Loc) (ls : Array Slot) (ow : FF), (∀ j, j < i → ow j = -1) → Wl D A (wX ad cI cZ tc mv gn mb tp ow pl cn sz bf) s H locs → lv_has ls 7 [(0, .ref (ad 1)), (1, .ref (ad 7)), (2, .int x2), (3, .int x3), (4, .int (nI i))] → W p l e R s m args below meth c H locs cells slots Q (F0 m 91 ls []) := by
  obtain ⟨hx, hb, hml, hown, hts⟩ := id C0
  intro n
  induction n with
  | zero => intro i h1 h2; exact absurd h2 (by omega)
  | succ n ih =>
    intro i hi hin H locs ls ow hz hw hl
    obtain ⟨hP, hD, hS⟩ := hw
    refine lv_iload hx hb dX1_give_91 (lv_at hl 4 rfl) ?_
    refine lv_bipush (v := nI 72) hx hb dX1_give_93 (by decide) ?_
    refine lv_icmp_ge (tgt := 112) hx hb dX1_give_95 (by decide) (fun c95 => ?_) (fun c95 => ?_)
    · obtain rfl : i = 72 := by have h9 := lp_ge (by decide) (by omega) c95; omega
      exact hk H locs ls ow (hz) ⟨hP, hD, hS⟩ (lv_sub hl [0, 1, 2, 3, 4] rfl)
    · have hlt : i < 72 := lp_lt (by omega) c95
      refine lv_aload_n hx hb dX1_give_98 rfl (lv_at hl 0 rfl) ?_
      refine va_get (D := D) (ci := 1) (v := .ref (ad 4)) (C := RX1) (T := TX1) (N := 6) hx hb hts in_X1 hown hK hP 1 rfl rfl 3 (by decide) (hts _ q35) (fun _ h9 => h9) rfl dX1_give_99 ?_
      refine lv_iload hx hb dX1_give_102 (lv_at hl 4 rfl) ?_
      refine lv_iconst (v := (-1)) hx hb dX1_give_104 (by decide) ?_
      refine g_iast hx hb hK hP hD hS 4 0 rfl rfl i (rfl) (by omega) (by decide) dX1_give_105 (fun H locs hP hD hS => ?_)
      have hP : va_P D vwCl (wX ad cI cZ tc mv gn mb tp (upd ow i (-1)) pl cn sz bf) H := hP
      have hD : va_D A (wX ad cI cZ tc mv gn mb tp (upd ow i (-1)) pl cn sz bf) := hD
      refine lv_iinc (v := nI (i + 1)) (lv' := [(4, .int (nI (i + 1))), (0, .ref (ad 1)), (1, .ref (ad 7)), (2, .int x2), (3, .int x3)]) hx hb dX1_give_106 hl (k := 4) rfl (nI_inc _) (by decide) rfl (fun ls hl => ?_)
      refine lv_goto (tgt := 91) hx hb dX1_give_109 (by decide) ?_
      exact ih (i + 1) (by omega) (by omega) H locs ls (upd ow i (-1)) (up_all hz) ⟨hP, hD, hS⟩ (lv_sub hl [1, 2, 3, 4, 0] rfl)
set_option maxHeartbeats 4000000 in
set_option maxRecDepth 100000 in
theorem L_give_137 (C0 : CallFix p m c cX1_give 7 s args lw_all RX1) (hK : va_K D vwCl (tyIZ cI cZ) s) (hR : 1 ≤ R.frames ∧ 22 ≤ R.locals) (hC : cells ≤ R.cells ∧ slots ≤ R.slots) (x2 x3 : Int32) (q0 : FF × FF) (hws : WFs sz) (hmb : ∃ j, j < 8 ∧ ¬ mb j = 0) (i : Nat) (hi : i < 12) (hk : ∀ (H : Heap) (locs : List Loc) (ls : Array Slot) (q : FF × FF), (q = flC tp sz mb q0 (6 * (i + 1))) → Wl D A (wX ad cI cZ tc mv gn mb tp q.1 pl q.2 sz bf) s H locs → lv_has ls 7 [(0, .ref (ad 1)), (1, .ref (ad 7)), (2, .int x2), (3, .int x3), (4, .int (nI (i + 1)))] → W p l e R s m args below meth c H locs cells slots Q (F0 m 214 ls [])) : ∀ (n y : Nat), y ≤ 6 → 6 < y + n → ∀ (H : Heap) (locs : List Loc) (ls : Array Slot) (q : FF × FF), (q = flC tp sz mb q0 (6 * i + y)) → Wl D A (wX ad cI cZ tc mv gn mb tp q.1 pl q.2 sz bf) s H locs → lv_has ls 7 [(0, .ref (ad 1)), (1, .ref (ad 7)), (2, .int x2), (3, .int x3), (4, .int (nI (i + 1))), (5, .int (nI y))] → W p l e R s m args below meth c H locs cells slots Q (F0 m 137 ls []) := by
  obtain ⟨hx, hb, hml, hown, hts⟩ := id C0
  intro n
  induction n with
  | zero => intro y h1 h2; exact absurd h2 (by omega)
  | succ n ih =>
    intro y hy hin H locs ls q hq hw hl
    obtain ⟨hP, hD, hS⟩ := hw
    refine lv_iload hx hb dX1_give_137 (lv_at hl 5 rfl) ?_
    refine lv_aload_n hx hb dX1_give_139 rfl (lv_at hl 1 rfl) ?_
    refine lv_iload hx hb dX1_give_140 (lv_at hl 4 rfl) ?_
    refine g_iald hx hb hK hP 7 0 rfl rfl (i + 1) (rfl) (by omega) (by decide) dX1_give_142 ?_
    refine lv_icmp_ge (tgt := 214) hx hb dX1_give_143 (by decide) (fun c143 => ?_) (fun c143 => ?_)
    · exact hk H locs ls q (by rw [hq, flC_row hy (by first | exact Or.inl c153 | exact Or.inr c143)]) ⟨hP, hD, hS⟩ (lv_sub hl [0, 1, 2, 3, 4] rfl)
    · have hy6 : y < 6 := lp_row hws hi hy c143
      refine lv_aload_n hx hb dX1_give_146 rfl (lv_at hl 0 rfl) ?_
      refine va_get (D := D) (ci := 1) (v := .ref (ad 3)) (C := RX1) (T := TX1) (N := 6) hx hb hts in_X1 hown hK hP 1 rfl rfl 1 (by decide) (hts _ q31) (fun _ h9 => h9) rfl dX1_give_147 ?_
      refine lv_iload hx hb dX1_give_150 (lv_at hl 4 rfl) ?_
      refine g_zald hx hb hK hP 3 1 rfl rfl (i + 1) (rfl) (by omega) (by decide) dX1_give_152 ?_
      refine lv_if_eq (tgt := 214) hx hb dX1_give_153 (by decide) (fun c153 => ?_) (fun c153 => ?_)
      · exact hk H locs ls q (by rw [hq, flC_row hy (by first | exact Or.inl c153 | exact Or.inr c143)]) ⟨hP, hD, hS⟩ (lv_sub hl [0, 1, 2, 3, 4] rfl)
      · have hsh : sh tp sz (6 * i + y) := (sh_at tp sz hy6).mpr ⟨c153, Int32.not_le.mp c143⟩
        refine lv_iload hx hb dX1_give_156 (lv_at hl 4 rfl) ?_
        refine lv_iconst (v := 1) hx hb dX1_give_158 (by decide) ?_
        refine lv_isub hx hb dX1_give_159 ?_
        refine lv_bipush (v := 6) hx hb dX1_give_160 (by decide) ?_
        refine lv_imul hx hb dX1_give_162 ?_
        refine lv_iload hx hb dX1_give_163 (lv_at hl 5 rfl) ?_
        refine lv_iadd hx hb dX1_give_165 ?_
        refine g_top (y := nI (6 * i + y)) (at_nI i y) ?_
        refine lv_istore (lv' := [(6, .int (nI (6 * i + y))), (0, .ref (ad 1)), (1, .ref (ad 7)), (2, .int x2), (3, .int x3), (4, .int (nI (i + 1))), (5, .int (nI y))]) hx hb dX1_give_166 hl (by decide) rfl (fun ls hl => ?_)
        refine lv_aload_n hx hb dX1_give_168 rfl (lv_at hl 1 rfl) ?_
        refine va_get (D := D) (ci := 1) (v := .ref (ad 4)) (C := RX1) (T := TX1) (N := 6) hx hb hts in_X1 hown hK hP 1 rfl rfl 3 (by decide) (hts _ q35) (fun _ h9 => h9) rfl dX1_give_169 ?_
        refine lv_iload hx hb dX1_give_172 (lv_at hl 0 rfl) ?_
        refine g_iald hx hb hK hP 4 0 rfl rfl (6 * i + y) (rfl) (by omega) (by decide) dX1_give_174 ?_
        refine lv_if_lt (tgt := 181) hx hb dX1_give_175 (by decide) (fun c175 => ?_) (fun c175 => ?_)
        · refine lv_aload_n hx hb dX1_give_181 rfl (lv_at hl 1 rfl) ?_
          refine va_get (D := D) (ci := 1) (v := .ref (ad 4)) (C := RX1) (T := TX1) (N := 6) hx hb hts in_X1 hown hK hP 1 rfl rfl 3 (by decide) (hts _ q35) (fun _ h9 => h9) rfl dX1_give_182 ?_
          refine lv_iload hx hb dX1_give_185 (lv_at hl 0 rfl) ?_
          refine lv_aload_n hx hb dX1_give_187 rfl (lv_at hl 1 rfl) ?_
          refine vp_callSi (W.runV (As := []) (rest := [.int (nI (6 * i + y)), .ref (ad 4)]) ⟨hx, hb, hml, hown, hts⟩ (metX1_fewest l D ad cI cZ tc mv gn mb tp q.1 pl q.2 sz bf) (cwV 0 hts (lw_V q91 q93 qs2 q13 q94) rfl rfl rfl (by decide +kernel) ⟨Nat.le_trans (m := 1) (Nat.le_of_ble_eq_true rfl) hR.1, Nat.le_trans (m := 22) (Nat.le_of_ble_eq_true rfl) hR.2⟩) ⟨blR, va_recv hK hP (ci := 1) (q0 := 1) rfl rfl, prR hP hK⟩ rfl rfl hl.1 rfl (lv_room (Nat.le_of_ble_eq_true rfl)) dX1_give_188 hC) (fun r hr1 => ?_)
          obtain ⟨j, hj, ej⟩ : ∃ j, j < 8 ∧ r = nI j := by rw [hr1]; exact fewI_pos mb q.2 8 (by decide) hmb
          refine g_iast hx hb hK hP hD hS 4 0 rfl rfl (6 * i + y) (rfl) (by omega) (by decide) dX1_give_191 (fun H locs hP hD hS => ?_)
          have hP : va_P D vwCl (wX ad cI cZ tc mv gn mb tp (upd q.1 (6 * i + y) r) pl q.2 sz bf) H := hP
          have hD : va_D A (wX ad cI cZ tc mv gn mb tp (upd q.1 (6 * i + y) r) pl q.2 sz bf) := hD
          refine lv_aload_n hx hb dX1_give_192 rfl (lv_at hl 1 rfl) ?_
          refine va_get (D := D) (ci := 1) (v := .ref (ad 6)) (C := RX1) (T := TX1) (N := 6) hx hb hts in_X1 hown hK hP 1 rfl rfl 5 (by decide) (hts _ q39) (fun _ h9 => h9) rfl dX1_give_193 ?_
          refine lv_aload_n hx hb dX1_give_196 rfl (lv_at hl 1 rfl) ?_
          refine va_get (D := D) (ci := 1) (v := .ref (ad 4)) (C := RX1) (T := TX1) (N := 6) hx hb hts in_X1 hown hK hP 1 rfl rfl 3 (by decide) (hts _ q35) (fun _ h9 => h9) rfl dX1_give_197 ?_
          refine lv_iload hx hb dX1_give_200 (lv_at hl 0 rfl) ?_
          refine g_iald hx hb hK hP 4 0 rfl rfl (6 * i + y) (rfl) (by omega) (by decide) dX1_give_202 ?_
          refine g_top (y := r) (upd_s _ _ _) ?_
          refine lv_dup2_11 hx hb dX1_give_203 rfl rfl ?_
          refine g_iald hx hb hK hP 6 0 rfl rfl j (ej) (hj) (by decide) dX1_give_204 ?_
          refine lv_iconst (v := 1) hx hb dX1_give_205 (by decide) ?_
          refine lv_iadd hx hb dX1_give_206 ?_
          refine g_iast hx hb hK hP hD hS 6 0 rfl rfl j (ej) (hj) (by decide) dX1_give_207 (fun H locs hP hD hS => ?_)
          have hP : va_P D vwCl (wX ad cI cZ tc mv gn mb tp (upd q.1 (6 * i + y) r) pl (upd q.2 j ((q.2 j) + 1)) sz bf) H := hP
          have hD : va_D A (wX ad cI cZ tc mv gn mb tp (upd q.1 (6 * i + y) r) pl (upd q.2 j ((q.2 j) + 1)) sz bf) := hD
          refine lv_iinc (v := nI (y + 1)) (lv' := [(5, .int (nI (y + 1))), (6, .int (nI (6 * i + y))), (0, .ref (ad 1)), (1, .ref (ad 7)), (2, .int x2), (3, .int x3), (4, .int (nI (i + 1)))]) hx hb dX1_give_208 hl (k := 6) rfl (nI_inc _) (by decide) rfl (fun ls hl => ?_)
          refine lv_goto (tgt := 137) hx hb dX1_give_211 (by decide) ?_
          exact ih (y + 1) (by omega) (by omega) H locs ls (upd q.1 (6 * i + y) r, upd q.2 j (q.2 j + 1)) (fl_yes hq hsh c175 hr1 hj ej) ⟨hP, hD, hS⟩ (lv_sub hl [2, 3, 4, 5, 6, 0] rfl)
        · refine lv_goto (tgt := 208) hx hb dX1_give_178 (by decide) ?_
          refine lv_iinc (v := nI (y + 1)) (lv' := [(5, .int (nI (y + 1))), (6, .int (nI (6 * i + y))), (0, .ref (ad 1)), (1, .ref (ad 7)), (2, .int x2), (3, .int x3), (4, .int (nI (i + 1)))]) hx hb dX1_give_208 hl (k := 6) rfl (nI_inc _) (by decide) rfl (fun ls hl => ?_)
          refine lv_goto (tgt := 137) hx hb dX1_give_211 (by decide) ?_
          exact ih (y + 1) (by omega) (by omega) H locs ls q (fl_no hq (fun z => c175 z.2)) ⟨hP, hD, hS⟩ (lv_sub hl [2, 3, 4, 5, 6, 0] rfl)
set_option maxHeartbeats 4000000 in
set_option maxRecDepth 100000 in
theorem L_give_127 (C0 : CallFix p m c cX1_give 7 s args lw_all RX1) (hK : va_K D vwCl (tyIZ cI cZ) s) (hR : 1 ≤ R.frames ∧ 22 ≤ R.locals) (hC : cells ≤ R.cells ∧ slots ≤ R.slots) (x2 x3 : Int32) (q0 : FF × FF) (hws : WFs sz) (hmb : ∃ j, j < 8 ∧ ¬ mb j = 0) (hk : ∀ (H : Heap) (locs : List Loc) (ls : Array Slot) (q : FF × FF), (q = flC tp sz mb q0 (6 * 12)) → Wl D A (wX ad cI cZ tc mv gn mb tp q.1 pl q.2 sz bf) s H locs → lv_has ls 7 [(0, .ref (ad 1)), (1, .ref (ad 7)), (2, .int x2), (3, .int x3), (4, .int (nI (12 + 1)))] → W p l e R s m args below meth c H locs cells slots Q (F0 m 220 ls [])) : ∀ (n i : Nat), i ≤ 12 → 12 < i + n → ∀ (H : Heap) (locs : List Loc) (ls : Array Slot) (q : FF × FF), (q = flC tp sz mb q0 (6 * i)) → Wl D A (wX ad cI cZ tc mv gn mb tp q.1 pl q.2 sz bf) s H locs → lv_has ls 7 [(0, .ref (ad 1)), (1, .ref (ad 7)), (2, .int x2), (3, .int x3), (4, .int (nI (i + 1)))] → W p l e R s m args below meth c H locs cells slots Q (F0 m 127 ls []) := by
  obtain ⟨hx, hb, hml, hown, hts⟩ := id C0
  intro n
  induction n with
  | zero => intro i h1 h2; exact absurd h2 (by omega)
  | succ n ih =>
    intro i hi hin H locs ls q hq hw hl
    obtain ⟨hP, hD, hS⟩ := hw
    refine lv_iload hx hb dX1_give_127 (lv_at hl 4 rfl) ?_
    refine lv_bipush (v := nI 12) hx hb dX1_give_129 (by decide) ?_
    refine lv_icmp_gt (tgt := 220) hx hb dX1_give_131 (by decide) (fun c131 => ?_) (fun c131 => ?_)
    · obtain rfl : i = 12 := by have h9 := lp_gt (by decide) (by omega) c131; omega
      exact hk H locs ls q (hq) ⟨hP, hD, hS⟩ (lv_sub hl [0, 1, 2, 3, 4] rfl)
    · have hlt : i < 12 := by have h9 := lp_le (by omega) c131; omega
      refine lv_iconst (v := nI 0) hx hb dX1_give_134 (by decide) ?_
      refine lv_istore (lv' := [(5, .int (nI 0)), (0, .ref (ad 1)), (1, .ref (ad 7)), (2, .int x2), (3, .int x3), (4, .int (nI (i + 1)))]) hx hb dX1_give_135 hl (by decide) rfl (fun ls hl => ?_)
      refine L_give_137 C0 hK hR hC x2 x3 q0 hws hmb i hlt (fun H locs ls q hq hw hl => ?_) 7 0 (by decide) (by decide) H locs ls q hq ⟨hP, hD, hS⟩ (lv_sub hl [1, 2, 3, 4, 5, 0] rfl)
      obtain ⟨hP, hD, hS⟩ := hw
      refine lv_iinc (v := nI ((i + 1) + 1)) (lv' := [(4, .int (nI ((i + 1) + 1))), (0, .ref (ad 1)), (1, .ref (ad 7)), (2, .int x2), (3, .int x3)]) hx hb dX1_give_214 hl (k := 4) rfl (nI_inc _) (by decide) rfl (fun ls hl => ?_)
      refine lv_goto (tgt := 127) hx hb dX1_give_217 (by decide) ?_
      exact ih (i + 1) (by omega) (by omega) H locs ls q hq ⟨hP, hD, hS⟩ (lv_sub hl [1, 2, 3, 4, 0] rfl)
abbrev BG (D : va_G) (ad : Nat → Nat) (cI cZ : ClassId) (tc mv gn : Int32) (mb tp ow pl sz bf : FF) (A : Nat → Prop) (u : FF) (t : State) : Prop := va_P D vwCl (wX ad cI cZ tc mv (gn + 1) mb tp (dealO tp sz mb ow) pl u sz bf) t.heap ∧ va_K D vwCl (tyIZ cI cZ) t ∧ va_D A (wX ad cI cZ tc mv (gn + 1) mb tp (dealO tp sz mb ow) pl u sz bf)
set_option maxHeartbeats 4000000 in
set_option maxRecDepth 100000 in
theorem metX1_give (l : Launch) (D : va_G) (ad : Nat → Nat) (cI cZ : ClassId) (tc mv gn : Int32) (mb tp ow pl cn sz bf : FF) (sz0 : Nat) (hwf : WF tc mb tp ow sz) : Met l yX1_give (ws_ yX1_give cX1_give 7 none) ({ frames := 1, cells := 0, slots := 0, locals := 29 }) (PcM D (tyIZ cI cZ) (wX ad cI cZ tc mv gn mb tp ow pl cn sz bf) sz0 [.ref (ad 1), .ref (ad 7)]) (va_Qv (fun _ : FF => True) (BG D ad cI cZ tc mv gn mb tp ow pl sz bf (va_A (wX ad cI cZ tc mv gn mb tp ow pl cn sz bf) sz0)) (va_A (wX ad cI cZ tc mv gn mb tp ow pl cn sz bf) sz0)) 0 0 (va_A (wX ad cI cZ tc mv gn mb tp ow pl cn sz bf) sz0) := by
  refine Met.ofW (cc := cX1_give) (maxL := 7) (ret := none) (by decide) rfl ?_
  intro p e s m args below meth c s₁ B hml hv
  obtain ⟨rfl, hsz, hP, hK, hD0⟩ := hv
  have hx := B.exec
  have hb := B.bytes
  have hr := B.returns
  have hts := atoms_spec (ws := (ws_ yX1_give cX1_give 7 none)) B.pre
  have hts : ∀ w ∈ lw_all, w.before _ s = true := fun w h => hts w (List.mem_cons_of_mem _ h)
  have hown : s.vm.findClass RX1 = some m.cls := findClass_of_methodNamed B.named
  have hlocks := B.notSynchronized
  subst hsz
  have hD := hD0.self (sz := s.heap.size)
  generalize hAe : va_A (wX ad cI cZ tc mv gn mb tp ow pl cn sz bf) s.heap.size = A at hD ⊢
  have hA : ∀ q : Nat, s.heap.size ≤ q → A q := fun q h => by rw [← hAe]; exact Or.inr h
  have hS : va_S A s.heap s.heap [] := va_S.rf
  have hP : va_P D vwCl (wX ad cI cZ tc mv gn mb tp ow pl cn sz bf) s.heap := hP
  have hl := lv_entry ([.ref (ad 1), .ref (ad 7)]) (n := 7) (Nat.le_of_ble_eq_true rfl)
  rw [lg_entry_eq]
  generalize (lg_sl ([.ref (ad 1), .ref (ad 7)]) ++ List.replicate (7 - (lg_sl ([.ref (ad 1), .ref (ad 7)])).length) Slot.unset).toArray = ls at hl ⊢
  have hl : lv_has ls 7 [(0, .ref (ad 1)), (1, .ref (ad 7))] := hl
  refine lv_aload_n hx hb dX1_give_0 rfl (lv_at hl 0 rfl) ?_
  refine lv_dup hx hb dX1_give_1 rfl ?_
  refine va_get (D := D) (ci := 1) (v := .int gn) (C := RX1) (T := TX1) (N := 6) hx hb hts in_X1 hown hK hP 1 rfl rfl 2 (by decide) (hts _ q33) (fun _ h9 => h9) rfl dX1_give_2 ?_
  refine lv_iconst (v := 1) hx hb dX1_give_5 (by decide) ?_
  refine lv_iadd hx hb dX1_give_6 ?_
  refine va_put (D := D) (ci := 1) (v := .int (gn + 1)) (ty := .int) (C := RX1) (T := TX1) (N := 6) hx hb hts in_X1 tyX1 tyX1_ok nmX1 hown hK hP hD hS 1 rfl rfl 2 (by decide) (hts _ q33) (fun _ h9 => h9) rfl (by decide +kernel) rfl rfl (Nat.le_of_ble_eq_true rfl) dX1_give_7 (fun H locs hP hD hS => ?_)
  have hP : va_P D vwCl (wX ad cI cZ tc mv (gn + 1) mb tp ow pl cn sz bf) H := hP
  have hD : va_D A (wX ad cI cZ tc mv (gn + 1) mb tp ow pl cn sz bf) := hD
  refine lv_iconst (v := 0) hx hb dX1_give_10 (by decide) ?_
  refine lv_istore_n (lv' := [(2, .int 0), (0, .ref (ad 1)), (1, .ref (ad 7))]) hx hb dX1_give_11 rfl hl (by decide) rfl (fun ls hl => ?_)
  refine lv_iconst (v := 0) hx hb dX1_give_12 (by decide) ?_
  refine lv_istore_n (lv' := [(3, .int 0), (2, .int 0), (0, .ref (ad 1)), (1, .ref (ad 7))]) hx hb dX1_give_13 rfl hl (by decide) rfl (fun ls hl => ?_)
  refine lv_iconst (v := nI (0 + 1)) hx hb dX1_give_14 (by decide) ?_
  refine lv_istore (lv' := [(4, .int (nI (0 + 1))), (3, .int 0), (2, .int 0), (0, .ref (ad 1)), (1, .ref (ad 7))]) hx hb dX1_give_15 hl (by decide) rfl (fun ls hl => ?_)
  refine L_give_17 ⟨hx, hb, hml, hown, hts⟩ hK hP (fun ls x2 e2 hl => ?_) 13 0 (by decide) (by decide) ls _ rfl (lv_sub hl [3, 4, 2, 1, 0] rfl)
  refine lv_iconst (v := nI 0) hx hb dX1_give_47 (by decide) ?_
  refine lv_istore (lv' := [(4, .int (nI 0)), (0, .ref (ad 1)), (1, .ref (ad 7)), (2, .int x2), (3, .int 0)]) hx hb dX1_give_48 hl (by decide) rfl (fun ls hl => ?_)
  refine L_give_50 ⟨hx, hb, hml, hown, hts⟩ hK x2 (fun H locs ls x3 cn e3 hz hw hl => ?_) 9 0 (by decide) (by decide) _ _ ls _ _ rfl (fun j h => absurd h (by omega)) ⟨hP, hD, hS⟩ (lv_sub hl [1, 2, 3, 4, 0] rfl)
  obtain ⟨hP, hD, hS⟩ := hw
  have hP := g_ext (g := fun _ => 0) hP 6 rfl (hz)
  have hD := hD.set (p := 6) (e := .inl (cI, 8, .inl (fun _ => 0))) rfl
  have hP : va_P D vwCl (wX ad cI cZ tc mv (gn + 1) mb tp ow pl (fun _ => 0) sz bf) _ := hP
  have hD : va_D A (wX ad cI cZ tc mv (gn + 1) mb tp ow pl (fun _ => 0) sz bf) := hD
  refine lv_iload_n hx hb dX1_give_84 rfl (lv_at hl 3 rfl) ?_
  refine lv_if_ne (tgt := 113) hx hb dX1_give_85 (by decide) (fun c85 => ?_) (fun c85 => ?_)
  · have hm0 : ¬ memI mb 8 = 0 := by rw [← e3]; exact c85
    refine lv_aload_n hx hb dX1_give_113 rfl (lv_at hl 0 rfl) ?_
    refine lv_aload_n hx hb dX1_give_114 rfl (lv_at hl 1 rfl) ?_
    refine lv_iload_n hx hb dX1_give_115 rfl (lv_at hl 2 rfl) ?_
    refine lv_iload_n hx hb dX1_give_116 rfl (lv_at hl 3 rfl) ?_
    refine lv_idiv hx hb dX1_give_117 (c85) ?_
    refine lv_iload_n hx hb dX1_give_118 rfl (lv_at hl 2 rfl) ?_
    refine lv_iload_n hx hb dX1_give_119 rfl (lv_at hl 3 rfl) ?_
    refine lv_irem hx hb dX1_give_120 (c85) ?_
    have hFc := va_free (wc := wX ad cI cZ tc mv (gn + 1) mb tp ow pl (fun _ => 0) sz bf) hD hS hA [0, 1, 2, 3, 4, 5, 6, 7, 8] rfl
    refine va_callv (va_runV (As := [.ref (ad 7), .int (x2 / x3), .int (x2 - x2 / x3 * x3)]) (rest := []) ⟨hx, hb, hml, hown, hts⟩ (metX1_keep l D ad cI cZ tc mv (gn + 1) mb tp ow pl (fun _ => 0) sz bf H.size (x2 / x3) (x2 - x2 / x3 * x3) hwf.2.1 hwf.2.2.2.2.1) (cwV 3 hts (lw_V q87 q89 qs1 q13 q90) rfl rfl rfl (by decide +kernel) ⟨Nat.le_of_ble_eq_true rfl, Nat.le_of_ble_eq_true rfl⟩) ⟨blM, va_recv hK hP (ci := 1) (q0 := 1) rfl rfl, prM hP hD hK⟩ rfl rfl hl.1 rfl (lv_room (Nat.le_of_ble_eq_true rfl)) dX1_give_121 ⟨Nat.zero_le _, Nat.zero_le _⟩) hS (fun q _ h => hFc q h) hFc (fun u t1 H1 locs h1t hvm hu hB hz1 hk1 hS => ?_)
    obtain ⟨hP1, hK1, hD1⟩ := hB
    rw [h1t] at hP1
    have hD1 := hD1.weaken (fun k q _ h => hFc q.1 h)
    generalize H1 = H at hP1 hS ⊢
    have hP : va_P D vwCl (wX ad cI cZ tc mv (gn + 1) mb tp u.1 pl u.2 sz bf) H := hP1
    have hD : va_D A (wX ad cI cZ tc mv (gn + 1) mb tp u.1 pl u.2 sz bf) := hD1
    refine lv_iconst (v := nI (0 + 1)) hx hb dX1_give_124 (by decide) ?_
    refine lv_istore (lv' := [(4, .int (nI (0 + 1))), (0, .ref (ad 1)), (1, .ref (ad 7)), (2, .int x2), (3, .int x3)]) hx hb dX1_give_125 hl (by decide) rfl (fun ls hl => ?_)
    refine L_give_127 ⟨hx, hb, hml, hown, hts⟩ hK ⟨Nat.le_of_ble_eq_true rfl, Nat.le_of_ble_eq_true rfl⟩ ⟨Nat.zero_le _, Nat.zero_le _⟩ x2 x3 u hwf.2.1 (memI_ex hm0) (fun H locs ls q hq hw hl => ?_) 13 0 (by decide) (by decide) _ _ ls u rfl ⟨hP, hD, hS⟩ (lv_sub hl [1, 2, 3, 4, 0] rfl)
    obtain ⟨hP, hD, hS⟩ := hw
    have eq1 : q.1 = dealO tp sz mb ow := by rw [hq, dealO, if_neg hm0, hu, e2, e3]
    rw [eq1] at hP hD
    exact W.vret hx hb hr (fun t0 h0t hW => ⟨⟨_, rfl, trivial, by rw [h0t]; exact hP, va_K.moved hW.alike hK, hD⟩, hS.F h0t⟩) hS.2.2 dX1_give_220
  · have hm0 : memI mb 8 = 0 := by rw [← e3]; exact c85
    refine lv_iconst (v := nI 0) hx hb dX1_give_88 (by decide) ?_
    refine lv_istore (lv' := [(4, .int (nI 0)), (0, .ref (ad 1)), (1, .ref (ad 7)), (2, .int x2), (3, .int x3)]) hx hb dX1_give_89 hl (by decide) rfl (fun ls hl => ?_)
    refine L_give_91 ⟨hx, hb, hml, hown, hts⟩ hK x2 x3 (fun H locs ls ow1 hz hw hl => ?_) 73 0 (by decide) (by decide) _ _ ls _ (fun j h => absurd h (by omega)) ⟨hP, hD, hS⟩ (lv_sub hl [1, 2, 3, 4, 0] rfl)
    obtain ⟨hP, hD, hS⟩ := hw
    have hP := g_ext (g := dealO tp sz mb ow) hP 4 rfl (fun j hj => by rw [hz j hj, dealO, if_pos hm0])
    have hD := hD.set (p := 4) (e := .inl (cI, 72, .inl (dealO tp sz mb ow))) rfl
    have hP : va_P D vwCl (wX ad cI cZ tc mv (gn + 1) mb tp (dealO tp sz mb ow) pl (fun _ => 0) sz bf) _ := hP
    have hD : va_D A (wX ad cI cZ tc mv (gn + 1) mb tp (dealO tp sz mb ow) pl (fun _ => 0) sz bf) := hD
    exact W.vret hx hb hr (fun t0 h0t hW => ⟨⟨_, rfl, trivial, by rw [h0t]; exact hP, va_K.moved hW.alike hK, hD⟩, hS.F h0t⟩) hS.2.2 dX1_give_112
end GP
end
section
/-! ROWS: GroupRows, the methods that write -/
set_option maxRecDepth 100000
section GW
variable {p : Program} {l : Launch} {e : Env} {R : Room} {s : State} {m : MethodId} {args : Array Value} {below : List Frame} {meth : Method} {c : Code} {cells slots : Nat} {Q : State → Prop} {D : va_G} {A : Nat → Prop} {ad : Nat → Nat} {cI cZ : ClassId} {tc mv gn : Int32} {mb tp ow pl cn sz bf : FF}
set_option maxHeartbeats 4000000 in
set_option maxRecDepth 100000 in
theorem metX0_topic (l : Launch) (D : va_G) (ad : Nat → Nat) (cI cZ : ClassId) (tc mv gn : Int32) (mb tp ow pl cn sz bf : FF) (sz0 : Nat) (xn : Int32) (hwf : WF tc mb tp ow sz) : Met l yX0_topic (ws_ yX0_topic cX0_topic 2 (some .int)) ({ frames := 0, cells := 0, slots := 0, locals := 0 }) (PcM D (tyIZ cI cZ) (wX ad cI cZ tc mv gn mb tp ow pl cn sz bf) sz0 [.ref (ad 0), .int xn]) (va_Qi (fun (r : Int32) (u : US) => topP xn tc mv gn mb tp ow pl sz r u) (BX D ad cI cZ (va_A (wX ad cI cZ tc mv gn mb tp ow pl cn sz bf) sz0)) (va_A (wX ad cI cZ tc mv gn mb tp ow pl cn sz bf) sz0)) 0 0 (va_A (wX ad cI cZ tc mv gn mb tp ow pl cn sz bf) sz0) := by
  refine Met.ofW (cc := cX0_topic) (maxL := 2) (ret := (some .int)) (by decide) rfl ?_
  intro p e s m args below meth c s₁ B hml hv
  obtain ⟨rfl, hsz, hP, hK, hD0⟩ := hv
  have hx := B.exec
  have hb := B.bytes
  have hr := B.returns
  have hts := atoms_spec (ws := (ws_ yX0_topic cX0_topic 2 (some .int))) B.pre
  have hts : ∀ w ∈ lw_all, w.before _ s = true := fun w h => hts w (List.mem_cons_of_mem _ h)
  have hown : s.vm.findClass RX0 = some m.cls := findClass_of_methodNamed B.named
  have hlocks := B.notSynchronized
  subst hsz
  have hD := hD0.self (sz := s.heap.size)
  generalize hAe : va_A (wX ad cI cZ tc mv gn mb tp ow pl cn sz bf) s.heap.size = A at hD ⊢
  have hA : ∀ q : Nat, s.heap.size ≤ q → A q := fun q h => by rw [← hAe]; exact Or.inr h
  have hS : va_S A s.heap s.heap [] := va_S.rf
  have hP : va_P D vwCl (wX ad cI cZ tc mv gn mb tp ow pl cn sz bf) s.heap := hP
  have hl := lv_entry ([.ref (ad 0), .int xn]) (n := 2) (Nat.le_of_ble_eq_true rfl)
  rw [lg_entry_eq]
  generalize (lg_sl ([.ref (ad 0), .int xn]) ++ List.replicate (2 - (lg_sl ([.ref (ad 0), .int xn])).length) Slot.unset).toArray = ls at hl ⊢
  have hl : lv_has ls 2 [(0, .ref (ad 0)), (1, .int xn)] := hl
  refine lv_iload_n hx hb dX0_topic_0 rfl (lv_at hl 1 rfl) ?_
  refine lv_iconst (v := 1) hx hb dX0_topic_1 (by decide) ?_
  refine lv_icmp_lt (tgt := 20) hx hb dX0_topic_2 (by decide) (fun c2 => ?_) (fun c2 => ?_)
  · refine lv_iconst (v := (-1)) hx hb dX0_topic_20 (by decide) ?_
    exact W.iret (v := (-1)) hx hb hr (fun t0 h0t hW => ⟨⟨(-1), (tc, mv, gn, mb, tp, ow, pl, sz), rfl, Or.inl ⟨by first | exact Or.inl c2 | exact Or.inr (Or.inl c8) | exact Or.inr (Or.inr c17), rfl, rfl⟩, cn, bf, by rw [h0t]; exact hP, va_K.moved hW.alike hK, hD⟩, hS.F h0t⟩) hS.2.2 dX0_topic_21
  · refine lv_iload_n hx hb dX0_topic_5 rfl (lv_at hl 1 rfl) ?_
    refine lv_bipush (v := 6) hx hb dX0_topic_6 (by decide) ?_
    refine lv_icmp_gt (tgt := 20) hx hb dX0_topic_8 (by decide) (fun c8 => ?_) (fun c8 => ?_)
    · refine lv_iconst (v := (-1)) hx hb dX0_topic_20 (by decide) ?_
      exact W.iret (v := (-1)) hx hb hr (fun t0 h0t hW => ⟨⟨(-1), (tc, mv, gn, mb, tp, ow, pl, sz), rfl, Or.inl ⟨by first | exact Or.inl c2 | exact Or.inr (Or.inl c8) | exact Or.inr (Or.inr c17), rfl, rfl⟩, cn, bf, by rw [h0t]; exact hP, va_K.moved hW.alike hK, hD⟩, hS.F h0t⟩) hS.2.2 dX0_topic_21
    · refine lv_aload_n hx hb dX0_topic_11 rfl (lv_at hl 0 rfl) ?_
      refine va_get (D := D) (ci := 0) (v := .int tc) (C := RX0) (T := TX0) (N := 5) hx hb hts in_X0 hown hK hP 0 rfl rfl 3 (by decide) (hts _ q58) (fun _ h9 => h9) rfl dX0_topic_12 ?_
      refine lv_bipush (v := 12) hx hb dX0_topic_15 (by decide) ?_
      refine lv_icmp_ne (tgt := 22) hx hb dX0_topic_17 (by decide) (fun c17 => ?_) (fun c17 => ?_)
      · refine lv_aload_n hx hb dX0_topic_22 rfl (lv_at hl 0 rfl) ?_
        refine lv_dup hx hb dX0_topic_23 rfl ?_
        refine va_get (D := D) (ci := 0) (v := .int tc) (C := RX0) (T := TX0) (N := 5) hx hb hts in_X0 hown hK hP 0 rfl rfl 3 (by decide) (hts _ q58) (fun _ h9 => h9) rfl dX0_topic_24 ?_
        refine lv_iconst (v := 1) hx hb dX0_topic_27 (by decide) ?_
        refine lv_iadd hx hb dX0_topic_28 ?_
        refine va_put (D := D) (ci := 0) (v := .int (tc + 1)) (ty := .int) (C := RX0) (T := TX0) (N := 5) hx hb hts in_X0 tyX0 tyX0_ok nmX0 hown hK hP hD hS 0 rfl rfl 3 (by decide) (hts _ q58) (fun _ h9 => h9) rfl (by decide +kernel) rfl rfl (Nat.le_of_ble_eq_true rfl) dX0_topic_29 (fun H locs hP hD hS => ?_)
        have hP : va_P D vwCl (wX ad cI cZ (tc + 1) mv gn mb tp ow pl cn sz bf) H := hP
        have hD : va_D A (wX ad cI cZ (tc + 1) mv gn mb tp ow pl cn sz bf) := hD
        refine lv_aload_n hx hb dX0_topic_32 rfl (lv_at hl 0 rfl) ?_
        refine va_get (D := D) (ci := 0) (v := .ref (ad 7)) (C := RX0) (T := TX0) (N := 5) hx hb hts in_X0 hown hK hP 0 rfl rfl 1 (by decide) (hts _ q56) (fun _ h9 => h9) rfl dX0_topic_33 ?_
        refine lv_aload_n hx hb dX0_topic_36 rfl (lv_at hl 0 rfl) ?_
        refine va_get (D := D) (ci := 0) (v := .int (tc + 1)) (C := RX0) (T := TX0) (N := 5) hx hb hts in_X0 hown hK hP 0 rfl rfl 3 (by decide) (hts _ q58) (fun _ h9 => h9) rfl dX0_topic_37 ?_
        refine lv_iload_n hx hb dX0_topic_40 rfl (lv_at hl 1 rfl) ?_
        refine va_iast hx hb hK hP hD hS 7 0 rfl rfl (in_tc hwf.1 c17) dX0_topic_41 (fun H locs hP hD hS => ?_)
        have hP : va_P D vwCl (wX ad cI cZ (tc + 1) mv gn mb tp ow pl cn (upd sz (tc + 1).toNatClampNeg xn) bf) H := hP
        have hD : va_D A (wX ad cI cZ (tc + 1) mv gn mb tp ow pl cn (upd sz (tc + 1).toNatClampNeg xn) bf) := hD
        refine lv_aload_n hx hb dX0_topic_42 rfl (lv_at hl 0 rfl) ?_
        refine va_get (D := D) (ci := 0) (v := .int (tc + 1)) (C := RX0) (T := TX0) (N := 5) hx hb hts in_X0 hown hK hP 0 rfl rfl 3 (by decide) (hts _ q58) (fun _ h9 => h9) rfl dX0_topic_43 ?_
        exact W.iret (v := tc + 1) hx hb hr (fun t0 h0t hW => ⟨⟨tc + 1, (tc + 1, mv, gn, mb, tp, ow, pl, upd sz (tc + 1).toNatClampNeg xn), rfl, Or.inr ⟨or3_no c2 c8 c17, rfl, rfl⟩, cn, bf, by rw [h0t]; exact hP, va_K.moved hW.alike hK, hD⟩, hS.F h0t⟩) hS.2.2 dX0_topic_46
      · refine lv_iconst (v := (-1)) hx hb dX0_topic_20 (by decide) ?_
        exact W.iret (v := (-1)) hx hb hr (fun t0 h0t hW => ⟨⟨(-1), (tc, mv, gn, mb, tp, ow, pl, sz), rfl, Or.inl ⟨by first | exact Or.inl c2 | exact Or.inr (Or.inl c8) | exact Or.inr (Or.inr c17), rfl, rfl⟩, cn, bf, by rw [h0t]; exact hP, va_K.moved hW.alike hK, hD⟩, hS.F h0t⟩) hS.2.2 dX0_topic_21
set_option maxHeartbeats 4000000 in
set_option maxRecDepth 100000 in
theorem L_given_2 (C0 : CallFix p m c cX0_given 2 s args lw_all RX0) (hK : va_K D vwCl (tyIZ cI cZ) s)  (hk : ∀ (H : Heap) (locs : List Loc) (ls : Array Slot) (bf : FF), (∀ j, j < 72 → bf j = ow j) → Wl D A (wX ad cI cZ tc mv gn mb tp ow pl cn sz bf) s H locs → lv_has ls 2 [(0, .ref (ad 0)), (1, .int (nI 72))] → W p l e R s m args below meth c H locs cells slots Q (F0 m 29 ls [])) : ∀ (n i : Nat), i ≤ 72 → 72 < i + n → ∀ (H : Heap) (locs : List Loc) (ls : Array Slot) (bf : FF), (∀ j, j < i → bf j = ow j) → Wl D A (wX ad cI cZ tc mv gn mb tp ow pl cn sz bf) s H locs → lv_has ls 2 [(0, .ref (ad 0)), (1, .int (nI i))] → W p l e R s m args below meth c H locs cells slots Q (F0 m 2 ls []) := by
  obtain ⟨hx, hb, hml, hown, hts⟩ := id C0
  intro n
  induction n with
  | zero => intro i h1 h2; exact absurd h2 (by omega)
  | succ n ih =>
    intro i hi hin H locs ls bf hz hw hl
    obtain ⟨hP, hD, hS⟩ := hw
    refine lv_iload_n hx hb dX0_given_2 rfl (lv_at hl 1 rfl) ?_
    refine lv_bipush (v := nI 72) hx hb dX0_given_3 (by decide) ?_
    refine lv_icmp_ge (tgt := 29) hx hb dX0_given_5 (by decide) (fun c5 => ?_) (fun c5 => ?_)
    · obtain rfl : i = 72 := by have h9 := lp_ge (by decide) (by omega) c5; omega
      exact hk H locs ls bf (hz) ⟨hP, hD, hS⟩ (lv_sub hl [0, 1] rfl)
    · have hlt : i < 72 := lp_lt (by omega) c5
      refine lv_aload_n hx hb dX0_given_8 rfl (lv_at hl 0 rfl) ?_
      refine va_get (D := D) (ci := 0) (v := .ref (ad 8)) (C := RX0) (T := TX0) (N := 5) hx hb hts in_X0 hown hK hP 0 rfl rfl 2 (by decide) (hts _ q57) (fun _ h9 => h9) rfl dX0_given_9 ?_
      refine lv_iload_n hx hb dX0_given_12 rfl (lv_at hl 1 rfl) ?_
      refine lv_aload_n hx hb dX0_given_13 rfl (lv_at hl 0 rfl) ?_
      refine va_get (D := D) (ci := 0) (v := .ref (ad 1)) (C := RX0) (T := TX0) (N := 5) hx hb hts in_X0 hown hK hP 0 rfl rfl 0 (by decide) (hts _ q55) (fun _ h9 => h9) rfl dX0_given_14 ?_
      refine va_get (D := D) (ci := 1) (v := .ref (ad 4)) (C := RX1) (T := TX1) (N := 6) hx hb hts in_X1 hown hK hP 1 rfl rfl 3 (by decide) (hts _ q36) (fun _ h9 => h9) rfl dX0_given_17 ?_
      refine lv_iload_n hx hb dX0_given_20 rfl (lv_at hl 1 rfl) ?_
      refine g_iald hx hb hK hP 4 0 rfl rfl i (rfl) (by omega) (by decide) dX0_given_21 ?_
      refine g_iast hx hb hK hP hD hS 8 0 rfl rfl i (rfl) (by omega) (by decide) dX0_given_22 (fun H locs hP hD hS => ?_)
      have hP : va_P D vwCl (wX ad cI cZ tc mv gn mb tp ow pl cn sz (upd bf i (ow i))) H := hP
      have hD : va_D A (wX ad cI cZ tc mv gn mb tp ow pl cn sz (upd bf i (ow i))) := hD
      refine lv_iinc (v := nI (i + 1)) (lv' := [(1, .int (nI (i + 1))), (0, .ref (ad 0))]) hx hb dX0_given_23 hl (k := 1) rfl (nI_inc _) (by decide) rfl (fun ls hl => ?_)
      refine lv_goto (tgt := 2) hx hb dX0_given_26 (by decide) ?_
      exact ih (i + 1) (by omega) (by omega) H locs ls (upd bf i (ow i)) (up_cpy hz) ⟨hP, hD, hS⟩ (lv_sub hl [1, 0] rfl)
set_option maxHeartbeats 4000000 in
set_option maxRecDepth 100000 in
theorem L_given_47 (C0 : CallFix p m c cX0_given 2 s args lw_all RX0) (hK : va_K D vwCl (tyIZ cI cZ) s)  (hk : ∀ (H : Heap) (locs : List Loc) (ls : Array Slot) (mv : Int32), (mv = mvI bf ow 72) → Wl D A (wX ad cI cZ tc mv gn mb tp ow pl cn sz bf) s H locs → lv_has ls 2 [(0, .ref (ad 0)), (1, .int (nI 72))] → W p l e R s m args below meth c H locs cells slots Q (F0 m 87 ls [])) : ∀ (n i : Nat), i ≤ 72 → 72 < i + n → ∀ (H : Heap) (locs : List Loc) (ls : Array Slot) (mv : Int32), (mv = mvI bf ow i) → Wl D A (wX ad cI cZ tc mv gn mb tp ow pl cn sz bf) s H locs → lv_has ls 2 [(0, .ref (ad 0)), (1, .int (nI i))] → W p l e R s m args below meth c H locs cells slots Q (F0 m 47 ls []) := by
  obtain ⟨hx, hb, hml, hown, hts⟩ := id C0
  intro n
  induction n with
  | zero => intro i h1 h2; exact absurd h2 (by omega)
  | succ n ih =>
    intro i hi hin H locs ls mv ev hw hl
    obtain ⟨hP, hD, hS⟩ := hw
    refine lv_iload_n hx hb dX0_given_47 rfl (lv_at hl 1 rfl) ?_
    refine lv_bipush (v := nI 72) hx hb dX0_given_48 (by decide) ?_
    refine lv_icmp_ge (tgt := 87) hx hb dX0_given_50 (by decide) (fun c50 => ?_) (fun c50 => ?_)
    · obtain rfl : i = 72 := by have h9 := lp_ge (by decide) (by omega) c50; omega
      exact hk H locs ls mv (ev) ⟨hP, hD, hS⟩ (lv_sub hl [0, 1] rfl)
    · have hlt : i < 72 := lp_lt (by omega) c50
      refine lv_aload_n hx hb dX0_given_53 rfl (lv_at hl 0 rfl) ?_
      refine va_get (D := D) (ci := 0) (v := .ref (ad 8)) (C := RX0) (T := TX0) (N := 5) hx hb hts in_X0 hown hK hP 0 rfl rfl 2 (by decide) (hts _ q57) (fun _ h9 => h9) rfl dX0_given_54 ?_
      refine lv_iload_n hx hb dX0_given_57 rfl (lv_at hl 1 rfl) ?_
      refine g_iald hx hb hK hP 8 0 rfl rfl i (rfl) (by omega) (by decide) dX0_given_58 ?_
      refine lv_aload_n hx hb dX0_given_59 rfl (lv_at hl 0 rfl) ?_
      refine va_get (D := D) (ci := 0) (v := .ref (ad 1)) (C := RX0) (T := TX0) (N := 5) hx hb hts in_X0 hown hK hP 0 rfl rfl 0 (by decide) (hts _ q55) (fun _ h9 => h9) rfl dX0_given_60 ?_
      refine va_get (D := D) (ci := 1) (v := .ref (ad 4)) (C := RX1) (T := TX1) (N := 6) hx hb hts in_X1 hown hK hP 1 rfl rfl 3 (by decide) (hts _ q36) (fun _ h9 => h9) rfl dX0_given_63 ?_
      refine lv_iload_n hx hb dX0_given_66 rfl (lv_at hl 1 rfl) ?_
      refine g_iald hx hb hK hP 4 0 rfl rfl i (rfl) (by omega) (by decide) dX0_given_67 ?_
      refine lv_icmp_eq (tgt := 81) hx hb dX0_given_68 (by decide) (fun c68 => ?_) (fun c68 => ?_)
      · refine lv_iinc (v := nI (i + 1)) (lv' := [(1, .int (nI (i + 1))), (0, .ref (ad 0))]) hx hb dX0_given_81 hl (k := 1) rfl (nI_inc _) (by decide) rfl (fun ls hl => ?_)
        refine lv_goto (tgt := 47) hx hb dX0_given_84 (by decide) ?_
        exact ih (i + 1) (by omega) (by omega) H locs ls mv (by first | exact mv_0 ev c68 | exact mv_1 ev c68) ⟨hP, hD, hS⟩ (lv_sub hl [1, 0] rfl)
      · refine lv_aload_n hx hb dX0_given_71 rfl (lv_at hl 0 rfl) ?_
        refine lv_dup hx hb dX0_given_72 rfl ?_
        refine va_get (D := D) (ci := 0) (v := .int mv) (C := RX0) (T := TX0) (N := 5) hx hb hts in_X0 hown hK hP 0 rfl rfl 4 (by decide) (hts _ q59) (fun _ h9 => h9) rfl dX0_given_73 ?_
        refine lv_iconst (v := 1) hx hb dX0_given_76 (by decide) ?_
        refine lv_iadd hx hb dX0_given_77 ?_
        refine va_put (D := D) (ci := 0) (v := .int (mv + 1)) (ty := .int) (C := RX0) (T := TX0) (N := 5) hx hb hts in_X0 tyX0 tyX0_ok nmX0 hown hK hP hD hS 0 rfl rfl 4 (by decide) (hts _ q59) (fun _ h9 => h9) rfl (by decide +kernel) rfl rfl (Nat.le_of_ble_eq_true rfl) dX0_given_78 (fun H locs hP hD hS => ?_)
        have hP : va_P D vwCl (wX ad cI cZ tc (mv + 1) gn mb tp ow pl cn sz bf) H := hP
        have hD : va_D A (wX ad cI cZ tc (mv + 1) gn mb tp ow pl cn sz bf) := hD
        refine lv_iinc (v := nI (i + 1)) (lv' := [(1, .int (nI (i + 1))), (0, .ref (ad 0))]) hx hb dX0_given_81 hl (k := 1) rfl (nI_inc _) (by decide) rfl (fun ls hl => ?_)
        refine lv_goto (tgt := 47) hx hb dX0_given_84 (by decide) ?_
        exact ih (i + 1) (by omega) (by omega) H locs ls (mv + 1) (by first | exact mv_0 ev c68 | exact mv_1 ev c68) ⟨hP, hD, hS⟩ (lv_sub hl [1, 0] rfl)
set_option maxHeartbeats 4000000 in
set_option maxRecDepth 100000 in
theorem metX0_given (l : Launch) (D : va_G) (ad : Nat → Nat) (cI cZ : ClassId) (tc mv gn : Int32) (mb tp ow pl cn sz bf : FF) (sz0 : Nat) (hwf : WF tc mb tp ow sz) : Met l yX0_given (ws_ yX0_given cX0_given 2 (some .int)) ({ frames := 2, cells := 0, slots := 0, locals := 55 }) (PcM D (tyIZ cI cZ) (wX ad cI cZ tc mv gn mb tp ow pl cn sz bf) sz0 [.ref (ad 0)]) (va_Qi (fun (r : Int32) (u : US) => r = gn + 1 ∧ u = dealU tc gn mb tp ow pl sz) (BX D ad cI cZ (va_A (wX ad cI cZ tc mv gn mb tp ow pl cn sz bf) sz0)) (va_A (wX ad cI cZ tc mv gn mb tp ow pl cn sz bf) sz0)) 0 0 (va_A (wX ad cI cZ tc mv gn mb tp ow pl cn sz bf) sz0) := by
  refine Met.ofW (cc := cX0_given) (maxL := 2) (ret := (some .int)) (by decide) rfl ?_
  intro p e s m args below meth c s₁ B hml hv
  obtain ⟨rfl, hsz, hP, hK, hD0⟩ := hv
  have hx := B.exec
  have hb := B.bytes
  have hr := B.returns
  have hts := atoms_spec (ws := (ws_ yX0_given cX0_given 2 (some .int))) B.pre
  have hts : ∀ w ∈ lw_all, w.before _ s = true := fun w h => hts w (List.mem_cons_of_mem _ h)
  have hown : s.vm.findClass RX0 = some m.cls := findClass_of_methodNamed B.named
  have hlocks := B.notSynchronized
  subst hsz
  have hD := hD0.self (sz := s.heap.size)
  generalize hAe : va_A (wX ad cI cZ tc mv gn mb tp ow pl cn sz bf) s.heap.size = A at hD ⊢
  have hA : ∀ q : Nat, s.heap.size ≤ q → A q := fun q h => by rw [← hAe]; exact Or.inr h
  have hS : va_S A s.heap s.heap [] := va_S.rf
  have hP : va_P D vwCl (wX ad cI cZ tc mv gn mb tp ow pl cn sz bf) s.heap := hP
  have hl := lv_entry ([.ref (ad 0)]) (n := 2) (Nat.le_of_ble_eq_true rfl)
  rw [lg_entry_eq]
  generalize (lg_sl ([.ref (ad 0)]) ++ List.replicate (2 - (lg_sl ([.ref (ad 0)])).length) Slot.unset).toArray = ls at hl ⊢
  have hl : lv_has ls 2 [(0, .ref (ad 0))] := hl
  refine lv_iconst (v := nI 0) hx hb dX0_given_0 (by decide) ?_
  refine lv_istore_n (lv' := [(1, .int (nI 0)), (0, .ref (ad 0))]) hx hb dX0_given_1 rfl hl (by decide) rfl (fun ls hl => ?_)
  refine L_given_2 ⟨hx, hb, hml, hown, hts⟩ hK (fun H locs ls bf1 hz hw hl => ?_) 73 0 (by decide) (by decide) _ _ ls _ (fun j h => absurd h (by omega)) ⟨hP, hD, hS⟩ (lv_sub hl [1, 0] rfl)
  obtain ⟨hP, hD, hS⟩ := hw
  have hP := g_ext (g := ow) hP 8 rfl (hz)
  have hD := hD.set (p := 8) (e := .inl (cI, 72, .inl ow)) rfl
  have hP : va_P D vwCl (wX ad cI cZ tc mv gn mb tp ow pl cn sz ow) _ := hP
  have hD : va_D A (wX ad cI cZ tc mv gn mb tp ow pl cn sz ow) := hD
  refine lv_aload_n hx hb dX0_given_29 rfl (lv_at hl 0 rfl) ?_
  refine va_get (D := D) (ci := 0) (v := .ref (ad 1)) (C := RX0) (T := TX0) (N := 5) hx hb hts in_X0 hown hK hP 0 rfl rfl 0 (by decide) (hts _ q55) (fun _ h9 => h9) rfl dX0_given_30 ?_
  refine lv_aload_n hx hb dX0_given_33 rfl (lv_at hl 0 rfl) ?_
  refine va_get (D := D) (ci := 0) (v := .ref (ad 7)) (C := RX0) (T := TX0) (N := 5) hx hb hts in_X0 hown hK hP 0 rfl rfl 1 (by decide) (hts _ q56) (fun _ h9 => h9) rfl dX0_given_34 ?_
  have hFc := va_free (wc := wX ad cI cZ tc mv gn mb tp ow pl cn sz ow) hD hS hA [0, 1, 2, 3, 4, 5, 6, 7, 8] rfl
  refine va_callv (va_runV (As := [.ref (ad 7)]) (rest := []) ⟨hx, hb, hml, hown, hts⟩ (metX1_give l D ad cI cZ tc mv gn mb tp ow pl cn sz ow H.size hwf) (cwV 1 hts (lw_V q83 q84 q85 q13 q86) rfl rfl rfl (by decide +kernel) ⟨Nat.le_of_ble_eq_true rfl, Nat.le_of_ble_eq_true rfl⟩) ⟨blM, va_recv hK hP (ci := 1) (q0 := 1) rfl rfl, prM hP hD hK⟩ rfl rfl hl.1 rfl (lv_room (Nat.le_of_ble_eq_true rfl)) dX0_given_37 ⟨Nat.zero_le _, Nat.zero_le _⟩) hS (fun q _ h => hFc q h) hFc (fun u t1 H1 locs h1t hvm hu hB hz1 hk1 hS => ?_)
  obtain ⟨hP1, hK1, hD1⟩ := hB
  rw [h1t] at hP1
  have hD1 := hD1.weaken (fun k q _ h => hFc q.1 h)
  generalize H1 = H at hP1 hS ⊢
  have hP : va_P D vwCl (wX ad cI cZ tc mv (gn + 1) mb tp (dealO tp sz mb ow) pl u sz ow) H := hP1
  have hD : va_D A (wX ad cI cZ tc mv (gn + 1) mb tp (dealO tp sz mb ow) pl u sz ow) := hD1
  refine lv_aload_n hx hb dX0_given_40 rfl (lv_at hl 0 rfl) ?_
  refine lv_iconst (v := 0) hx hb dX0_given_41 (by decide) ?_
  refine va_put (D := D) (ci := 0) (v := .int 0) (ty := .int) (C := RX0) (T := TX0) (N := 5) hx hb hts in_X0 tyX0 tyX0_ok nmX0 hown hK hP hD hS 0 rfl rfl 4 (by decide) (hts _ q59) (fun _ h9 => h9) rfl (by decide +kernel) rfl rfl (Nat.le_of_ble_eq_true rfl) dX0_given_42 (fun H locs hP hD hS => ?_)
  have hP : va_P D vwCl (wX ad cI cZ tc 0 (gn + 1) mb tp (dealO tp sz mb ow) pl u sz ow) H := hP
  have hD : va_D A (wX ad cI cZ tc 0 (gn + 1) mb tp (dealO tp sz mb ow) pl u sz ow) := hD
  refine lv_iconst (v := nI 0) hx hb dX0_given_45 (by decide) ?_
  refine lv_istore_n (lv' := [(1, .int (nI 0)), (0, .ref (ad 0))]) hx hb dX0_given_46 rfl hl (by decide) rfl (fun ls hl => ?_)
  refine L_given_47 ⟨hx, hb, hml, hown, hts⟩ hK (fun H locs ls mv1 ev hw hl => ?_) 73 0 (by decide) (by decide) _ _ ls _ rfl ⟨hP, hD, hS⟩ (lv_sub hl [1, 0] rfl)
  obtain ⟨hP, hD, hS⟩ := hw
  subst ev
  refine lv_aload_n hx hb dX0_given_87 rfl (lv_at hl 0 rfl) ?_
  refine va_get (D := D) (ci := 0) (v := .ref (ad 1)) (C := RX0) (T := TX0) (N := 5) hx hb hts in_X0 hown hK hP 0 rfl rfl 0 (by decide) (hts _ q55) (fun _ h9 => h9) rfl dX0_given_88 ?_
  refine va_get (D := D) (ci := 1) (v := .int (gn + 1)) (C := RX1) (T := TX1) (N := 6) hx hb hts in_X1 hown hK hP 1 rfl rfl 2 (by decide) (hts _ q34) (fun _ h9 => h9) rfl dX0_given_91 ?_
  exact W.iret (v := gn + 1) hx hb hr (fun t0 h0t hW => ⟨⟨gn + 1, dealU tc gn mb tp ow pl sz, rfl, ⟨rfl, rfl⟩, u, ow, by rw [h0t]; exact hP, va_K.moved hW.alike hK, hD⟩, hS.F h0t⟩) hS.2.2 dX0_given_94
set_option maxHeartbeats 4000000 in
set_option maxRecDepth 100000 in
theorem metX0_subscribe (l : Launch) (D : va_G) (ad : Nat → Nat) (cI cZ : ClassId) (tc mv gn : Int32) (mb tp ow pl cn sz bf : FF) (sz0 : Nat) (xt : Int32) (hwf : WF tc mb tp ow sz) : Met l yX0_subscribe (ws_ yX0_subscribe cX0_subscribe 2 (some .int)) ({ frames := 3, cells := 0, slots := 0, locals := 76 }) (PcM D (tyIZ cI cZ) (wX ad cI cZ tc mv gn mb tp ow pl cn sz bf) sz0 [.ref (ad 0), .int xt]) (va_Qi (fun (r : Int32) (u : US) => subP xt tc mv gn mb tp ow pl sz r u) (BX D ad cI cZ (va_A (wX ad cI cZ tc mv gn mb tp ow pl cn sz bf) sz0)) (va_A (wX ad cI cZ tc mv gn mb tp ow pl cn sz bf) sz0)) 0 0 (va_A (wX ad cI cZ tc mv gn mb tp ow pl cn sz bf) sz0) := by
  refine Met.ofW (cc := cX0_subscribe) (maxL := 2) (ret := (some .int)) (by decide) rfl ?_
  intro p e s m args below meth c s₁ B hml hv
  obtain ⟨rfl, hsz, hP, hK, hD0⟩ := hv
  have hx := B.exec
  have hb := B.bytes
  have hr := B.returns
  have hts := atoms_spec (ws := (ws_ yX0_subscribe cX0_subscribe 2 (some .int))) B.pre
  have hts : ∀ w ∈ lw_all, w.before _ s = true := fun w h => hts w (List.mem_cons_of_mem _ h)
  have hown : s.vm.findClass RX0 = some m.cls := findClass_of_methodNamed B.named
  have hlocks := B.notSynchronized
  subst hsz
  have hD := hD0.self (sz := s.heap.size)
  generalize hAe : va_A (wX ad cI cZ tc mv gn mb tp ow pl cn sz bf) s.heap.size = A at hD ⊢
  have hA : ∀ q : Nat, s.heap.size ≤ q → A q := fun q h => by rw [← hAe]; exact Or.inr h
  have hS : va_S A s.heap s.heap [] := va_S.rf
  have hP : va_P D vwCl (wX ad cI cZ tc mv gn mb tp ow pl cn sz bf) s.heap := hP
  have hl := lv_entry ([.ref (ad 0), .int xt]) (n := 2) (Nat.le_of_ble_eq_true rfl)
  rw [lg_entry_eq]
  generalize (lg_sl ([.ref (ad 0), .int xt]) ++ List.replicate (2 - (lg_sl ([.ref (ad 0), .int xt])).length) Slot.unset).toArray = ls at hl ⊢
  have hl : lv_has ls 2 [(0, .ref (ad 0)), (1, .int xt)] := hl
  refine lv_iload_n hx hb dX0_subscribe_0 rfl (lv_at hl 1 rfl) ?_
  refine lv_iconst (v := 1) hx hb dX0_subscribe_1 (by decide) ?_
  refine lv_icmp_lt (tgt := 25) hx hb dX0_subscribe_2 (by decide) (fun c2 => ?_) (fun c2 => ?_)
  · refine lv_iconst (v := (-1)) hx hb dX0_subscribe_25 (by decide) ?_
    exact W.iret (v := (-1)) hx hb hr (fun t0 h0t hW => ⟨⟨(-1), (tc, mv, gn, mb, tp, ow, pl, sz), rfl, Or.inl ⟨by first | exact Or.inl c2 | exact Or.inr (Or.inl c10) | exact Or.inr (Or.inr c22), rfl, rfl⟩, cn, bf, by rw [h0t]; exact hP, va_K.moved hW.alike hK, hD⟩, hS.F h0t⟩) hS.2.2 dX0_subscribe_26
  · refine lv_iload_n hx hb dX0_subscribe_5 rfl (lv_at hl 1 rfl) ?_
    refine lv_aload_n hx hb dX0_subscribe_6 rfl (lv_at hl 0 rfl) ?_
    refine va_get (D := D) (ci := 0) (v := .int tc) (C := RX0) (T := TX0) (N := 5) hx hb hts in_X0 hown hK hP 0 rfl rfl 3 (by decide) (hts _ q58) (fun _ h9 => h9) rfl dX0_subscribe_7 ?_
    refine lv_icmp_gt (tgt := 25) hx hb dX0_subscribe_10 (by decide) (fun c10 => ?_) (fun c10 => ?_)
    · refine lv_iconst (v := (-1)) hx hb dX0_subscribe_25 (by decide) ?_
      exact W.iret (v := (-1)) hx hb hr (fun t0 h0t hW => ⟨⟨(-1), (tc, mv, gn, mb, tp, ow, pl, sz), rfl, Or.inl ⟨by first | exact Or.inl c2 | exact Or.inr (Or.inl c10) | exact Or.inr (Or.inr c22), rfl, rfl⟩, cn, bf, by rw [h0t]; exact hP, va_K.moved hW.alike hK, hD⟩, hS.F h0t⟩) hS.2.2 dX0_subscribe_26
    · refine lv_aload_n hx hb dX0_subscribe_13 rfl (lv_at hl 0 rfl) ?_
      refine va_get (D := D) (ci := 0) (v := .ref (ad 1)) (C := RX0) (T := TX0) (N := 5) hx hb hts in_X0 hown hK hP 0 rfl rfl 0 (by decide) (hts _ q55) (fun _ h9 => h9) rfl dX0_subscribe_14 ?_
      refine va_get (D := D) (ci := 1) (v := .ref (ad 3)) (C := RX1) (T := TX1) (N := 6) hx hb hts in_X1 hown hK hP 1 rfl rfl 1 (by decide) (hts _ q32) (fun _ h9 => h9) rfl dX0_subscribe_17 ?_
      refine lv_iload_n hx hb dX0_subscribe_20 rfl (lv_at hl 1 rfl) ?_
      refine va_zald hx hb hK hP 3 1 rfl rfl (in_t hwf.1 c2 c10) dX0_subscribe_21 ?_
      refine lv_if_eq (tgt := 27) hx hb dX0_subscribe_22 (by decide) (fun c22 => ?_) (fun c22 => ?_)
      · refine lv_aload_n hx hb dX0_subscribe_27 rfl (lv_at hl 0 rfl) ?_
        refine va_get (D := D) (ci := 0) (v := .ref (ad 1)) (C := RX0) (T := TX0) (N := 5) hx hb hts in_X0 hown hK hP 0 rfl rfl 0 (by decide) (hts _ q55) (fun _ h9 => h9) rfl dX0_subscribe_28 ?_
        refine va_get (D := D) (ci := 1) (v := .ref (ad 3)) (C := RX1) (T := TX1) (N := 6) hx hb hts in_X1 hown hK hP 1 rfl rfl 1 (by decide) (hts _ q32) (fun _ h9 => h9) rfl dX0_subscribe_31 ?_
        refine lv_iload_n hx hb dX0_subscribe_34 rfl (lv_at hl 1 rfl) ?_
        refine lv_iconst (v := 1) hx hb dX0_subscribe_35 (by decide) ?_
        refine g_zastr hx hb hK hP hD hS 3 1 rfl rfl (in_t hwf.1 c2 c10) (rfl) dX0_subscribe_36 (fun H locs hP hD hS => ?_)
        have hP : va_P D vwCl (wX ad cI cZ tc mv gn mb (upd tp xt.toNatClampNeg 1) ow pl cn sz bf) H := hP
        have hD : va_D A (wX ad cI cZ tc mv gn mb (upd tp xt.toNatClampNeg 1) ow pl cn sz bf) := hD
        refine lv_aload_n hx hb dX0_subscribe_37 rfl (lv_at hl 0 rfl) ?_
        have hFc := va_free (wc := wX ad cI cZ tc mv gn mb (upd tp xt.toNatClampNeg 1) ow pl cn sz bf) hD hS hA [0, 1, 2, 3, 4, 5, 6, 7, 8] rfl
        refine va_calli (va_runV (As := []) (rest := []) ⟨hx, hb, hml, hown, hts⟩ (metX0_given l D ad cI cZ tc mv gn mb (upd tp xt.toNatClampNeg 1) ow pl cn sz bf H.size (hwf.sub c2 c10)) (cwV 0 hts (lw_V q79 q81 qs0 q12 q82) rfl rfl rfl (by decide +kernel) ⟨Nat.le_of_ble_eq_true rfl, Nat.le_of_ble_eq_true rfl⟩) ⟨blM, va_recv hK hP (ci := 0) (q0 := 0) rfl rfl, prM hP hD hK⟩ rfl rfl hl.1 rfl (lv_room (Nat.le_of_ble_eq_true rfl)) dX0_subscribe_38 ⟨Nat.zero_le _, Nat.zero_le _⟩) hS (fun q _ h => hFc q h) hFc (fun r u t1 H1 locs h1t hvm hw hB hz1 hk1 hS => ?_)
        obtain ⟨cn1, bf1, hP1, hK1, hD1⟩ := hB
        rw [h1t] at hP1
        have hD1 := hD1.weaken (fun k q _ h => hFc q.1 h)
        generalize H1 = H at hP1 hS ⊢
        have hP : va_P D vwCl (wX ad cI cZ u.1 u.2.1 u.2.2.1 u.2.2.2.1 u.2.2.2.2.1 u.2.2.2.2.2.1 u.2.2.2.2.2.2.1 cn1 u.2.2.2.2.2.2.2 bf1) H := hP1
        have hD : va_D A (wX ad cI cZ u.1 u.2.1 u.2.2.1 u.2.2.2.1 u.2.2.2.2.1 u.2.2.2.2.2.1 u.2.2.2.2.2.2.1 cn1 u.2.2.2.2.2.2.2 bf1) := hD1
        exact W.iret (v := r) hx hb hr (fun t0 h0t hW => ⟨⟨r, u, rfl, Or.inr ⟨or3_no c2 c10 (fun z => z c22), hw.1, hw.2⟩, cn1, bf1, by rw [h0t]; exact hP, va_K.moved hW.alike hK, hD⟩, hS.F h0t⟩) hS.2.2 dX0_subscribe_41
      · refine lv_iconst (v := (-1)) hx hb dX0_subscribe_25 (by decide) ?_
        exact W.iret (v := (-1)) hx hb hr (fun t0 h0t hW => ⟨⟨(-1), (tc, mv, gn, mb, tp, ow, pl, sz), rfl, Or.inl ⟨by first | exact Or.inl c2 | exact Or.inr (Or.inl c10) | exact Or.inr (Or.inr c22), rfl, rfl⟩, cn, bf, by rw [h0t]; exact hP, va_K.moved hW.alike hK, hD⟩, hS.F h0t⟩) hS.2.2 dX0_subscribe_26
set_option maxHeartbeats 4000000 in
set_option maxRecDepth 100000 in
theorem metX0_changed (l : Launch) (D : va_G) (ad : Nat → Nat) (cI cZ : ClassId) (tc mv gn : Int32) (mb tp ow pl cn sz bf : FF) (sz0 : Nat) (xm xv : Int32) (hwf : WF tc mb tp ow sz) (hv : xv = 0 ∨ xv = 1) : Met l yX0_changed (ws_ yX0_changed cX0_changed 3 (some .int)) ({ frames := 3, cells := 0, slots := 0, locals := 76 }) (PcM D (tyIZ cI cZ) (wX ad cI cZ tc mv gn mb tp ow pl cn sz bf) sz0 [.ref (ad 0), .int xm, .int xv]) (va_Qi (fun (r : Int32) (u : US) => chP xv xm tc mv gn mb tp ow pl sz r u) (BX D ad cI cZ (va_A (wX ad cI cZ tc mv gn mb tp ow pl cn sz bf) sz0)) (va_A (wX ad cI cZ tc mv gn mb tp ow pl cn sz bf) sz0)) 0 0 (va_A (wX ad cI cZ tc mv gn mb tp ow pl cn sz bf) sz0) := by
  refine Met.ofW (cc := cX0_changed) (maxL := 3) (ret := (some .int)) (by decide) rfl ?_
  intro p e s m args below meth c s₁ B hml hv
  obtain ⟨rfl, hsz, hP, hK, hD0⟩ := hv
  have hx := B.exec
  have hb := B.bytes
  have hr := B.returns
  have hts := atoms_spec (ws := (ws_ yX0_changed cX0_changed 3 (some .int))) B.pre
  have hts : ∀ w ∈ lw_all, w.before _ s = true := fun w h => hts w (List.mem_cons_of_mem _ h)
  have hown : s.vm.findClass RX0 = some m.cls := findClass_of_methodNamed B.named
  have hlocks := B.notSynchronized
  subst hsz
  have hD := hD0.self (sz := s.heap.size)
  generalize hAe : va_A (wX ad cI cZ tc mv gn mb tp ow pl cn sz bf) s.heap.size = A at hD ⊢
  have hA : ∀ q : Nat, s.heap.size ≤ q → A q := fun q h => by rw [← hAe]; exact Or.inr h
  have hS : va_S A s.heap s.heap [] := va_S.rf
  have hP : va_P D vwCl (wX ad cI cZ tc mv gn mb tp ow pl cn sz bf) s.heap := hP
  have hl := lv_entry ([.ref (ad 0), .int xm, .int xv]) (n := 3) (Nat.le_of_ble_eq_true rfl)
  rw [lg_entry_eq]
  generalize (lg_sl ([.ref (ad 0), .int xm, .int xv]) ++ List.replicate (3 - (lg_sl ([.ref (ad 0), .int xm, .int xv])).length) Slot.unset).toArray = ls at hl ⊢
  have hl : lv_has ls 3 [(0, .ref (ad 0)), (1, .int xm), (2, .int xv)] := hl
  refine lv_iload_n hx hb dX0_changed_0 rfl (lv_at hl 1 rfl) ?_
  refine vp_callSi (W.runS (As := [.int xm]) (rest := []) ⟨hx, hb, hml, hown, hts⟩ (metX0_isMember l xm) (va_cwS 1 hts (lw_S q103 q104 q12 q105) rfl rfl rfl (by decide +kernel) ⟨Nat.le_of_ble_eq_true rfl, Nat.le_of_ble_eq_true rfl⟩) ⟨fun _ _ _ _ q => q, fun U _ _ => ⟨rfl, trivial⟩⟩ rfl rfl hl.1 rfl (lv_room (Nat.le_of_ble_eq_true rfl)) dX0_changed_1 ⟨Nat.zero_le _, Nat.zero_le _⟩) (fun r1 hr1 => ?_)
  refine lv_if_eq (tgt := 20) hx hb dX0_changed_4 (by decide) (fun c4 => ?_) (fun c4 => ?_)
  · refine lv_iconst (v := (-1)) hx hb dX0_changed_20 (by decide) ?_
    exact W.iret (v := (-1)) hx hb hr (fun t0 h0t hW => ⟨⟨(-1), (tc, mv, gn, mb, tp, ow, pl, sz), rfl, Or.inl ⟨by first | exact (isMb_0 (m := xm) (by rw [← hr1]; exact c4)).elim Or.inl (fun z => Or.inr (Or.inl z)) | exact Or.inr (Or.inr c17), rfl, rfl⟩, cn, bf, by rw [h0t]; exact hP, va_K.moved hW.alike hK, hD⟩, hS.F h0t⟩) hS.2.2 dX0_changed_21
  · have hm9 := isMb_1 (m := xm) (by rw [← hr1]; exact c4)
    refine lv_aload_n hx hb dX0_changed_7 rfl (lv_at hl 0 rfl) ?_
    refine va_get (D := D) (ci := 0) (v := .ref (ad 1)) (C := RX0) (T := TX0) (N := 5) hx hb hts in_X0 hown hK hP 0 rfl rfl 0 (by decide) (hts _ q55) (fun _ h9 => h9) rfl dX0_changed_8 ?_
    refine va_get (D := D) (ci := 1) (v := .ref (ad 2)) (C := RX1) (T := TX1) (N := 6) hx hb hts in_X1 hown hK hP 1 rfl rfl 0 (by decide) (hts _ q30) (fun _ h9 => h9) rfl dX0_changed_11 ?_
    refine lv_iload_n hx hb dX0_changed_14 rfl (lv_at hl 1 rfl) ?_
    refine va_zald hx hb hK hP 2 1 rfl rfl (in_m hm9.1 hm9.2) dX0_changed_15 ?_
    refine lv_iload_n hx hb dX0_changed_16 rfl (lv_at hl 2 rfl) ?_
    refine lv_icmp_ne (tgt := 22) hx hb dX0_changed_17 (by decide) (fun c17 => ?_) (fun c17 => ?_)
    · refine lv_aload_n hx hb dX0_changed_22 rfl (lv_at hl 0 rfl) ?_
      refine va_get (D := D) (ci := 0) (v := .ref (ad 1)) (C := RX0) (T := TX0) (N := 5) hx hb hts in_X0 hown hK hP 0 rfl rfl 0 (by decide) (hts _ q55) (fun _ h9 => h9) rfl dX0_changed_23 ?_
      refine va_get (D := D) (ci := 1) (v := .ref (ad 2)) (C := RX1) (T := TX1) (N := 6) hx hb hts in_X1 hown hK hP 1 rfl rfl 0 (by decide) (hts _ q30) (fun _ h9 => h9) rfl dX0_changed_26 ?_
      refine lv_iload_n hx hb dX0_changed_29 rfl (lv_at hl 1 rfl) ?_
      refine lv_iload_n hx hb dX0_changed_30 rfl (lv_at hl 2 rfl) ?_
      refine g_zastr hx hb hK hP hD hS 2 1 rfl rfl (in_m hm9.1 hm9.2) (nar01 hv) dX0_changed_31 (fun H locs hP hD hS => ?_)
      have hP : va_P D vwCl (wX ad cI cZ tc mv gn (upd mb xm.toNatClampNeg xv) tp ow pl cn sz bf) H := hP
      have hD : va_D A (wX ad cI cZ tc mv gn (upd mb xm.toNatClampNeg xv) tp ow pl cn sz bf) := hD
      refine lv_aload_n hx hb dX0_changed_32 rfl (lv_at hl 0 rfl) ?_
      have hFc := va_free (wc := wX ad cI cZ tc mv gn (upd mb xm.toNatClampNeg xv) tp ow pl cn sz bf) hD hS hA [0, 1, 2, 3, 4, 5, 6, 7, 8] rfl
      refine va_calli (va_runV (As := []) (rest := []) ⟨hx, hb, hml, hown, hts⟩ (metX0_given l D ad cI cZ tc mv gn (upd mb xm.toNatClampNeg xv) tp ow pl cn sz bf H.size (hwf.mem hv)) (cwV 0 hts (lw_V q79 q81 qs0 q12 q82) rfl rfl rfl (by decide +kernel) ⟨Nat.le_of_ble_eq_true rfl, Nat.le_of_ble_eq_true rfl⟩) ⟨blM, va_recv hK hP (ci := 0) (q0 := 0) rfl rfl, prM hP hD hK⟩ rfl rfl hl.1 rfl (lv_room (Nat.le_of_ble_eq_true rfl)) dX0_changed_33 ⟨Nat.zero_le _, Nat.zero_le _⟩) hS (fun q _ h => hFc q h) hFc (fun r u t1 H1 locs h1t hvm hw hB hz1 hk1 hS => ?_)
      obtain ⟨cn1, bf1, hP1, hK1, hD1⟩ := hB
      rw [h1t] at hP1
      have hD1 := hD1.weaken (fun k q _ h => hFc q.1 h)
      generalize H1 = H at hP1 hS ⊢
      have hP : va_P D vwCl (wX ad cI cZ u.1 u.2.1 u.2.2.1 u.2.2.2.1 u.2.2.2.2.1 u.2.2.2.2.2.1 u.2.2.2.2.2.2.1 cn1 u.2.2.2.2.2.2.2 bf1) H := hP1
      have hD : va_D A (wX ad cI cZ u.1 u.2.1 u.2.2.1 u.2.2.2.1 u.2.2.2.2.1 u.2.2.2.2.2.1 u.2.2.2.2.2.2.1 cn1 u.2.2.2.2.2.2.2 bf1) := hD1
      exact W.iret (v := r) hx hb hr (fun t0 h0t hW => ⟨⟨r, u, rfl, Or.inr ⟨or3_no hm9.1 hm9.2 c17, hw.1, hw.2⟩, cn1, bf1, by rw [h0t]; exact hP, va_K.moved hW.alike hK, hD⟩, hS.F h0t⟩) hS.2.2 dX0_changed_36
    · refine lv_iconst (v := (-1)) hx hb dX0_changed_20 (by decide) ?_
      exact W.iret (v := (-1)) hx hb hr (fun t0 h0t hW => ⟨⟨(-1), (tc, mv, gn, mb, tp, ow, pl, sz), rfl, Or.inl ⟨by first | exact (isMb_0 (m := xm) (by rw [← hr1]; exact c4)).elim Or.inl (fun z => Or.inr (Or.inl z)) | exact Or.inr (Or.inr c17), rfl, rfl⟩, cn, bf, by rw [h0t]; exact hP, va_K.moved hW.alike hK, hD⟩, hS.F h0t⟩) hS.2.2 dX0_changed_21
set_option maxHeartbeats 4000000 in
set_option maxRecDepth 100000 in
theorem metX0_enter (l : Launch) (D : va_G) (ad : Nat → Nat) (cI cZ : ClassId) (tc mv gn : Int32) (mb tp ow pl cn sz bf : FF) (sz0 : Nat) (xm : Int32) (hwf : WF tc mb tp ow sz) : Met l yX0_enter (ws_ yX0_enter cX0_enter 2 (some .int)) ({ frames := 4, cells := 0, slots := 0, locals := 98 }) (PcM D (tyIZ cI cZ) (wX ad cI cZ tc mv gn mb tp ow pl cn sz bf) sz0 [.ref (ad 0), .int xm]) (va_Qi (fun (r : Int32) (u : US) => chP 1 xm tc mv gn mb tp ow pl sz r u) (BX D ad cI cZ (va_A (wX ad cI cZ tc mv gn mb tp ow pl cn sz bf) sz0)) (va_A (wX ad cI cZ tc mv gn mb tp ow pl cn sz bf) sz0)) 0 0 (va_A (wX ad cI cZ tc mv gn mb tp ow pl cn sz bf) sz0) := by
  refine Met.ofW (cc := cX0_enter) (maxL := 2) (ret := (some .int)) (by decide) rfl ?_
  intro p e s m args below meth c s₁ B hml hv
  obtain ⟨rfl, hsz, hP, hK, hD0⟩ := hv
  have hx := B.exec
  have hb := B.bytes
  have hr := B.returns
  have hts := atoms_spec (ws := (ws_ yX0_enter cX0_enter 2 (some .int))) B.pre
  have hts : ∀ w ∈ lw_all, w.before _ s = true := fun w h => hts w (List.mem_cons_of_mem _ h)
  have hown : s.vm.findClass RX0 = some m.cls := findClass_of_methodNamed B.named
  have hlocks := B.notSynchronized
  subst hsz
  have hD := hD0.self (sz := s.heap.size)
  generalize hAe : va_A (wX ad cI cZ tc mv gn mb tp ow pl cn sz bf) s.heap.size = A at hD ⊢
  have hA : ∀ q : Nat, s.heap.size ≤ q → A q := fun q h => by rw [← hAe]; exact Or.inr h
  have hS : va_S A s.heap s.heap [] := va_S.rf
  have hP : va_P D vwCl (wX ad cI cZ tc mv gn mb tp ow pl cn sz bf) s.heap := hP
  have hl := lv_entry ([.ref (ad 0), .int xm]) (n := 2) (Nat.le_of_ble_eq_true rfl)
  rw [lg_entry_eq]
  generalize (lg_sl ([.ref (ad 0), .int xm]) ++ List.replicate (2 - (lg_sl ([.ref (ad 0), .int xm])).length) Slot.unset).toArray = ls at hl ⊢
  have hl : lv_has ls 2 [(0, .ref (ad 0)), (1, .int xm)] := hl
  refine lv_aload_n hx hb dX0_enter_0 rfl (lv_at hl 0 rfl) ?_
  refine lv_iload_n hx hb dX0_enter_1 rfl (lv_at hl 1 rfl) ?_
  refine lv_iconst (v := 1) hx hb dX0_enter_2 (by decide) ?_
  have hFc := va_free (wc := wX ad cI cZ tc mv gn mb tp ow pl cn sz bf) hD hS hA [0, 1, 2, 3, 4, 5, 6, 7, 8] rfl
  refine va_calli (va_runV (As := [.int xm, .int 1]) (rest := []) ⟨hx, hb, hml, hown, hts⟩ (metX0_changed l D ad cI cZ tc mv gn mb tp ow pl cn sz bf s.heap.size xm 1 hwf (by decide)) (cwV 2 hts (lw_V q99 q101 qs3 q12 q102) rfl rfl rfl (by decide +kernel) ⟨Nat.le_of_ble_eq_true rfl, Nat.le_of_ble_eq_true rfl⟩) ⟨blM, va_recv hK hP (ci := 0) (q0 := 0) rfl rfl, prM hP hD hK⟩ rfl rfl hl.1 rfl (lv_room (Nat.le_of_ble_eq_true rfl)) dX0_enter_3 ⟨Nat.zero_le _, Nat.zero_le _⟩) hS (fun q _ h => hFc q h) hFc (fun r u t1 H1 locs h1t hvm hw hB hz1 hk1 hS => ?_)
  obtain ⟨cn1, bf1, hP1, hK1, hD1⟩ := hB
  rw [h1t] at hP1
  have hD1 := hD1.weaken (fun k q _ h => hFc q.1 h)
  generalize H1 = H at hP1 hS ⊢
  have hP : va_P D vwCl (wX ad cI cZ u.1 u.2.1 u.2.2.1 u.2.2.2.1 u.2.2.2.2.1 u.2.2.2.2.2.1 u.2.2.2.2.2.2.1 cn1 u.2.2.2.2.2.2.2 bf1) H := hP1
  have hD : va_D A (wX ad cI cZ u.1 u.2.1 u.2.2.1 u.2.2.2.1 u.2.2.2.2.1 u.2.2.2.2.2.1 u.2.2.2.2.2.2.1 cn1 u.2.2.2.2.2.2.2 bf1) := hD1
  exact W.iret (v := r) hx hb hr (fun t0 h0t hW => ⟨⟨r, u, rfl, hw, cn1, bf1, by rw [h0t]; exact hP, va_K.moved hW.alike hK, hD⟩, hS.F h0t⟩) hS.2.2 dX0_enter_6
set_option maxHeartbeats 4000000 in
set_option maxRecDepth 100000 in
theorem metX0_leave (l : Launch) (D : va_G) (ad : Nat → Nat) (cI cZ : ClassId) (tc mv gn : Int32) (mb tp ow pl cn sz bf : FF) (sz0 : Nat) (xm : Int32) (hwf : WF tc mb tp ow sz) : Met l yX0_leave (ws_ yX0_leave cX0_leave 2 (some .int)) ({ frames := 4, cells := 0, slots := 0, locals := 98 }) (PcM D (tyIZ cI cZ) (wX ad cI cZ tc mv gn mb tp ow pl cn sz bf) sz0 [.ref (ad 0), .int xm]) (va_Qi (fun (r : Int32) (u : US) => chP 0 xm tc mv gn mb tp ow pl sz r u) (BX D ad cI cZ (va_A (wX ad cI cZ tc mv gn mb tp ow pl cn sz bf) sz0)) (va_A (wX ad cI cZ tc mv gn mb tp ow pl cn sz bf) sz0)) 0 0 (va_A (wX ad cI cZ tc mv gn mb tp ow pl cn sz bf) sz0) := by
  refine Met.ofW (cc := cX0_leave) (maxL := 2) (ret := (some .int)) (by decide) rfl ?_
  intro p e s m args below meth c s₁ B hml hv
  obtain ⟨rfl, hsz, hP, hK, hD0⟩ := hv
  have hx := B.exec
  have hb := B.bytes
  have hr := B.returns
  have hts := atoms_spec (ws := (ws_ yX0_leave cX0_leave 2 (some .int))) B.pre
  have hts : ∀ w ∈ lw_all, w.before _ s = true := fun w h => hts w (List.mem_cons_of_mem _ h)
  have hown : s.vm.findClass RX0 = some m.cls := findClass_of_methodNamed B.named
  have hlocks := B.notSynchronized
  subst hsz
  have hD := hD0.self (sz := s.heap.size)
  generalize hAe : va_A (wX ad cI cZ tc mv gn mb tp ow pl cn sz bf) s.heap.size = A at hD ⊢
  have hA : ∀ q : Nat, s.heap.size ≤ q → A q := fun q h => by rw [← hAe]; exact Or.inr h
  have hS : va_S A s.heap s.heap [] := va_S.rf
  have hP : va_P D vwCl (wX ad cI cZ tc mv gn mb tp ow pl cn sz bf) s.heap := hP
  have hl := lv_entry ([.ref (ad 0), .int xm]) (n := 2) (Nat.le_of_ble_eq_true rfl)
  rw [lg_entry_eq]
  generalize (lg_sl ([.ref (ad 0), .int xm]) ++ List.replicate (2 - (lg_sl ([.ref (ad 0), .int xm])).length) Slot.unset).toArray = ls at hl ⊢
  have hl : lv_has ls 2 [(0, .ref (ad 0)), (1, .int xm)] := hl
  refine lv_aload_n hx hb dX0_leave_0 rfl (lv_at hl 0 rfl) ?_
  refine lv_iload_n hx hb dX0_leave_1 rfl (lv_at hl 1 rfl) ?_
  refine lv_iconst (v := 0) hx hb dX0_leave_2 (by decide) ?_
  have hFc := va_free (wc := wX ad cI cZ tc mv gn mb tp ow pl cn sz bf) hD hS hA [0, 1, 2, 3, 4, 5, 6, 7, 8] rfl
  refine va_calli (va_runV (As := [.int xm, .int 0]) (rest := []) ⟨hx, hb, hml, hown, hts⟩ (metX0_changed l D ad cI cZ tc mv gn mb tp ow pl cn sz bf s.heap.size xm 0 hwf (by decide)) (cwV 2 hts (lw_V q99 q101 qs3 q12 q102) rfl rfl rfl (by decide +kernel) ⟨Nat.le_of_ble_eq_true rfl, Nat.le_of_ble_eq_true rfl⟩) ⟨blM, va_recv hK hP (ci := 0) (q0 := 0) rfl rfl, prM hP hD hK⟩ rfl rfl hl.1 rfl (lv_room (Nat.le_of_ble_eq_true rfl)) dX0_leave_3 ⟨Nat.zero_le _, Nat.zero_le _⟩) hS (fun q _ h => hFc q h) hFc (fun r u t1 H1 locs h1t hvm hw hB hz1 hk1 hS => ?_)
  obtain ⟨cn1, bf1, hP1, hK1, hD1⟩ := hB
  rw [h1t] at hP1
  have hD1 := hD1.weaken (fun k q _ h => hFc q.1 h)
  generalize H1 = H at hP1 hS ⊢
  have hP : va_P D vwCl (wX ad cI cZ u.1 u.2.1 u.2.2.1 u.2.2.2.1 u.2.2.2.2.1 u.2.2.2.2.2.1 u.2.2.2.2.2.2.1 cn1 u.2.2.2.2.2.2.2 bf1) H := hP1
  have hD : va_D A (wX ad cI cZ u.1 u.2.1 u.2.2.1 u.2.2.2.1 u.2.2.2.2.1 u.2.2.2.2.2.1 u.2.2.2.2.2.2.1 cn1 u.2.2.2.2.2.2.2 bf1) := hD1
  exact W.iret (v := r) hx hb hr (fun t0 h0t hW => ⟨⟨r, u, rfl, hw, cn1, bf1, by rw [h0t]; exact hP, va_K.moved hW.alike hK, hD⟩, hS.F h0t⟩) hS.2.2 dX0_leave_6
set_option maxHeartbeats 4000000 in
set_option maxRecDepth 100000 in
theorem metX0_place (l : Launch) (D : va_G) (ad : Nat → Nat) (cI cZ : ClassId) (tc mv gn : Int32) (mb tp ow pl cn sz bf : FF) (sz0 : Nat) (xm xg xt xp xv : Int32) (hwf : WF tc mb tp ow sz) : Met l yX0_place (ws_ yX0_place cX0_place 7 (some .int)) ({ frames := 1, cells := 0, slots := 0, locals := 22 }) (PcM D (tyIZ cI cZ) (wX ad cI cZ tc mv gn mb tp ow pl cn sz bf) sz0 [.ref (ad 0), .int xm, .int xg, .int xt, .int xp, .int xv]) (va_Qi (fun (r : Int32) (u : US) => plP xm xg xt xp xv tc mv gn mb tp ow pl sz r u) (BX D ad cI cZ (va_A (wX ad cI cZ tc mv gn mb tp ow pl cn sz bf) sz0)) (va_A (wX ad cI cZ tc mv gn mb tp ow pl cn sz bf) sz0)) 0 0 (va_A (wX ad cI cZ tc mv gn mb tp ow pl cn sz bf) sz0) := by
  refine Met.ofW (cc := cX0_place) (maxL := 7) (ret := (some .int)) (by decide) rfl ?_
  intro p e s m args below meth c s₁ B hml hv
  obtain ⟨rfl, hsz, hP, hK, hD0⟩ := hv
  have hx := B.exec
  have hb := B.bytes
  have hr := B.returns
  have hts := atoms_spec (ws := (ws_ yX0_place cX0_place 7 (some .int))) B.pre
  have hts : ∀ w ∈ lw_all, w.before _ s = true := fun w h => hts w (List.mem_cons_of_mem _ h)
  have hown : s.vm.findClass RX0 = some m.cls := findClass_of_methodNamed B.named
  have hlocks := B.notSynchronized
  subst hsz
  have hD := hD0.self (sz := s.heap.size)
  generalize hAe : va_A (wX ad cI cZ tc mv gn mb tp ow pl cn sz bf) s.heap.size = A at hD ⊢
  have hA : ∀ q : Nat, s.heap.size ≤ q → A q := fun q h => by rw [← hAe]; exact Or.inr h
  have hS : va_S A s.heap s.heap [] := va_S.rf
  have hP : va_P D vwCl (wX ad cI cZ tc mv gn mb tp ow pl cn sz bf) s.heap := hP
  have hl := lv_entry ([.ref (ad 0), .int xm, .int xg, .int xt, .int xp, .int xv]) (n := 7) (Nat.le_of_ble_eq_true rfl)
  rw [lg_entry_eq]
  generalize (lg_sl ([.ref (ad 0), .int xm, .int xg, .int xt, .int xp, .int xv]) ++ List.replicate (7 - (lg_sl ([.ref (ad 0), .int xm, .int xg, .int xt, .int xp, .int xv])).length) Slot.unset).toArray = ls at hl ⊢
  have hl : lv_has ls 7 [(0, .ref (ad 0)), (1, .int xm), (2, .int xg), (3, .int xt), (4, .int xp), (5, .int xv)] := hl
  refine lv_aload_n hx hb dX0_place_0 rfl (lv_at hl 0 rfl) ?_
  refine lv_iload_n hx hb dX0_place_1 rfl (lv_at hl 3 rfl) ?_
  refine lv_iload hx hb dX0_place_2 (lv_at hl 4 rfl) ?_
  refine vp_callSi (W.runV (As := [.int xt, .int xp]) (rest := []) ⟨hx, hb, hml, hown, hts⟩ (metX0_partAt l D ad cI cZ tc mv gn mb tp ow pl cn sz bf xt xp hwf.1) (cwV 2 hts (lw_V q118 q120 qs4 q12 q121) rfl rfl rfl (by decide +kernel) ⟨Nat.le_of_ble_eq_true rfl, Nat.le_of_ble_eq_true rfl⟩) ⟨blR, va_recv hK hP (ci := 0) (q0 := 0) rfl rfl, prR hP hK⟩ rfl rfl hl.1 rfl (lv_room (Nat.le_of_ble_eq_true rfl)) dX0_place_4 ⟨Nat.zero_le _, Nat.zero_le _⟩) (fun r1 hr1 => ?_)
  refine lv_istore (lv' := [(6, .int r1), (0, .ref (ad 0)), (1, .int xm), (2, .int xg), (3, .int xt), (4, .int xp), (5, .int xv)]) hx hb dX0_place_7 hl (by decide) rfl (fun ls hl => ?_)
  refine lv_iload hx hb dX0_place_9 (lv_at hl 0 rfl) ?_
  refine lv_if_lt (tgt := 26) hx hb dX0_place_11 (by decide) (fun c11 => ?_) (fun c11 => ?_)
  · refine lv_iconst (v := (-1)) hx hb dX0_place_26 (by decide) ?_
    exact W.iret (v := (-1)) hx hb hr (fun t0 h0t hW => ⟨⟨(-1), (tc, mv, gn, mb, tp, ow, pl, sz), rfl, Or.inl ⟨by first | exact Or.inr (Or.inr (Or.inr (Int32.not_le.mp c23))) | exact Or.inr ((isMb_0 (m := xm) (by rw [← hr2]; exact c18)).elim Or.inl (fun z => Or.inr (Or.inl z))) | exact Or.inl (partI_neg hwf.1 hwf.2.1 (by rw [← hr1]; exact c11)), rfl, rfl⟩, cn, bf, by rw [h0t]; exact hP, va_K.moved hW.alike hK, hD⟩, hS.F h0t⟩) hS.2.2 dX0_place_27
  · have hnp : ¬ pcd tc sz xt xp := partI_pos (by rw [← hr1]; exact c11)
    have er : r1 = (xt - 1) * 6 + xp := by rw [hr1, partI_eq hnp]
    rw [er] at hl
    refine lv_iload_n hx hb dX0_place_14 rfl (lv_at hl 2 rfl) ?_
    refine vp_callSi (W.runS (As := [.int xm]) (rest := []) ⟨hx, hb, hml, hown, hts⟩ (metX0_isMember l xm) (va_cwS 1 hts (lw_S q103 q104 q12 q105) rfl rfl rfl (by decide +kernel) ⟨Nat.le_of_ble_eq_true rfl, Nat.le_of_ble_eq_true rfl⟩) ⟨fun _ _ _ _ q => q, fun U _ _ => ⟨rfl, trivial⟩⟩ rfl rfl hl.1 rfl (lv_room (Nat.le_of_ble_eq_true rfl)) dX0_place_15 ⟨Nat.zero_le _, Nat.zero_le _⟩) (fun r2 hr2 => ?_)
    refine lv_if_eq (tgt := 26) hx hb dX0_place_18 (by decide) (fun c18 => ?_) (fun c18 => ?_)
    · refine lv_iconst (v := (-1)) hx hb dX0_place_26 (by decide) ?_
      exact W.iret (v := (-1)) hx hb hr (fun t0 h0t hW => ⟨⟨(-1), (tc, mv, gn, mb, tp, ow, pl, sz), rfl, Or.inl ⟨by first | exact Or.inr (Or.inr (Or.inr (Int32.not_le.mp c23))) | exact Or.inr ((isMb_0 (m := xm) (by rw [← hr2]; exact c18)).elim Or.inl (fun z => Or.inr (Or.inl z))) | exact Or.inl (partI_neg hwf.1 hwf.2.1 (by rw [← hr1]; exact c11)), rfl, rfl⟩, cn, bf, by rw [h0t]; exact hP, va_K.moved hW.alike hK, hD⟩, hS.F h0t⟩) hS.2.2 dX0_place_27
    · have hm9 := isMb_1 (m := xm) (by rw [← hr2]; exact c18)
      refine lv_iload hx hb dX0_place_21 (lv_at hl 6 rfl) ?_
      refine lv_if_ge (tgt := 28) hx hb dX0_place_23 (by decide) (fun c23 => ?_) (fun c23 => ?_)
      · have hc1 : ¬ (pcd tc sz xt xp ∨ xm < 0 ∨ 8 ≤ xm ∨ xv < 0) := or4_no hnp hm9.1 hm9.2 (Int32.not_lt.mpr c23)
        refine lv_iload_n hx hb dX0_place_28 rfl (lv_at hl 3 rfl) ?_
        refine lv_aload_n hx hb dX0_place_29 rfl (lv_at hl 1 rfl) ?_
        refine va_get (D := D) (ci := 0) (v := .ref (ad 1)) (C := RX0) (T := TX0) (N := 5) hx hb hts in_X0 hown hK hP 0 rfl rfl 0 (by decide) (hts _ q55) (fun _ h9 => h9) rfl dX0_place_30 ?_
        refine va_get (D := D) (ci := 1) (v := .int gn) (C := RX1) (T := TX1) (N := 6) hx hb hts in_X1 hown hK hP 1 rfl rfl 2 (by decide) (hts _ q34) (fun _ h9 => h9) rfl dX0_place_33 ?_
        refine lv_icmp_ne (tgt := 53) hx hb dX0_place_36 (by decide) (fun c36 => ?_) (fun c36 => ?_)
        · refine lv_bipush (v := (-2)) hx hb dX0_place_53 (by decide) ?_
          exact W.iret (v := (-2)) hx hb hr (fun t0 h0t hW => ⟨⟨(-2), (tc, mv, gn, mb, tp, ow, pl, sz), rfl, Or.inr (Or.inl ⟨hc1, by first | exact fun z => c36 z.1 | exact fun z => c50 z.2, rfl, rfl⟩), cn, bf, by rw [h0t]; exact hP, va_K.moved hW.alike hK, hD⟩, hS.F h0t⟩) hS.2.2 dX0_place_55
        · refine lv_aload_n hx hb dX0_place_39 rfl (lv_at hl 1 rfl) ?_
          refine va_get (D := D) (ci := 0) (v := .ref (ad 1)) (C := RX0) (T := TX0) (N := 5) hx hb hts in_X0 hown hK hP 0 rfl rfl 0 (by decide) (hts _ q55) (fun _ h9 => h9) rfl dX0_place_40 ?_
          refine va_get (D := D) (ci := 1) (v := .ref (ad 4)) (C := RX1) (T := TX1) (N := 6) hx hb hts in_X1 hown hK hP 1 rfl rfl 3 (by decide) (hts _ q36) (fun _ h9 => h9) rfl dX0_place_43 ?_
          refine lv_iload hx hb dX0_place_46 (lv_at hl 0 rfl) ?_
          refine va_iald hx hb hK hP 4 0 rfl rfl (in_p hwf.1 hwf.2.1 hnp) dX0_place_48 ?_
          refine lv_iload_n hx hb dX0_place_49 rfl (lv_at hl 2 rfl) ?_
          refine lv_icmp_eq (tgt := 56) hx hb dX0_place_50 (by decide) (fun c50 => ?_) (fun c50 => ?_)
          · refine lv_aload_n hx hb dX0_place_56 rfl (lv_at hl 1 rfl) ?_
            refine va_get (D := D) (ci := 0) (v := .ref (ad 1)) (C := RX0) (T := TX0) (N := 5) hx hb hts in_X0 hown hK hP 0 rfl rfl 0 (by decide) (hts _ q55) (fun _ h9 => h9) rfl dX0_place_57 ?_
            refine va_get (D := D) (ci := 1) (v := .ref (ad 5)) (C := RX1) (T := TX1) (N := 6) hx hb hts in_X1 hown hK hP 1 rfl rfl 4 (by decide) (hts _ q38) (fun _ h9 => h9) rfl dX0_place_60 ?_
            refine lv_iload hx hb dX0_place_63 (lv_at hl 0 rfl) ?_
            refine lv_iload hx hb dX0_place_65 (lv_at hl 6 rfl) ?_
            refine va_iast hx hb hK hP hD hS 5 0 rfl rfl (in_p hwf.1 hwf.2.1 hnp) dX0_place_67 (fun H locs hP hD hS => ?_)
            have hP : va_P D vwCl (wX ad cI cZ tc mv gn mb tp ow (upd pl ((xt - 1) * 6 + xp).toNatClampNeg xv) cn sz bf) H := hP
            have hD : va_D A (wX ad cI cZ tc mv gn mb tp ow (upd pl ((xt - 1) * 6 + xp).toNatClampNeg xv) cn sz bf) := hD
            refine lv_iconst (v := 0) hx hb dX0_place_68 (by decide) ?_
            exact W.iret (v := 0) hx hb hr (fun t0 h0t hW => ⟨⟨0, (tc, mv, gn, mb, tp, ow, upd pl ((xt - 1) * 6 + xp).toNatClampNeg xv, sz), rfl, Or.inr (Or.inr ⟨hc1, ⟨c36, c50⟩, rfl, rfl⟩), cn, bf, by rw [h0t]; exact hP, va_K.moved hW.alike hK, hD⟩, hS.F h0t⟩) hS.2.2 dX0_place_69
          · refine lv_bipush (v := (-2)) hx hb dX0_place_53 (by decide) ?_
            exact W.iret (v := (-2)) hx hb hr (fun t0 h0t hW => ⟨⟨(-2), (tc, mv, gn, mb, tp, ow, pl, sz), rfl, Or.inr (Or.inl ⟨hc1, by first | exact fun z => c36 z.1 | exact fun z => c50 z.2, rfl, rfl⟩), cn, bf, by rw [h0t]; exact hP, va_K.moved hW.alike hK, hD⟩, hS.F h0t⟩) hS.2.2 dX0_place_55
      · refine lv_iconst (v := (-1)) hx hb dX0_place_26 (by decide) ?_
        exact W.iret (v := (-1)) hx hb hr (fun t0 h0t hW => ⟨⟨(-1), (tc, mv, gn, mb, tp, ow, pl, sz), rfl, Or.inl ⟨by first | exact Or.inr (Or.inr (Or.inr (Int32.not_le.mp c23))) | exact Or.inr ((isMb_0 (m := xm) (by rw [← hr2]; exact c18)).elim Or.inl (fun z => Or.inr (Or.inl z))) | exact Or.inl (partI_neg hwf.1 hwf.2.1 (by rw [← hr1]; exact c11)), rfl, rfl⟩, cn, bf, by rw [h0t]; exact hP, va_K.moved hW.alike hK, hD⟩, hS.F h0t⟩) hS.2.2 dX0_place_27
end GW
end
section
/-! MODEL: GroupRowsModel, the methods that write -/
set_option maxRecDepth 100000
section GM
variable {p : Program} {l : Launch} {e : Env} {R : Room} {s : State} {m : MethodId} {args : Array Value} {below : List Frame} {meth : Method} {c : Code} {cells slots : Nat} {Q : State → Prop} {D : va_G} {A : Nat → Prop} {ad : Nat → Nat} {cI cZ : ClassId} {tc mv gn : Int32} {mb tp ow pl cn sz bf : FF}
set_option maxHeartbeats 4000000 in
set_option maxRecDepth 100000 in
theorem metX2_topic (l : Launch) (D : va_G) (ad : Nat → Nat) (cI cZ : ClassId) (tc mv gn : Int32) (mb tp ow pl cn sz bf : FF) (sz0 : Nat) (xn : Int32) (hwf : WF tc mb tp ow sz) : Met l yX2_topic (ws_ yX2_topic cX2_topic 2 (some .int)) ({ frames := 0, cells := 0, slots := 0, locals := 0 }) (PcM D (tyIZ cI cZ) (wM ad cI cZ tc mv gn mb tp ow pl cn sz bf) sz0 [.ref (ad 0), .int xn]) (va_Qi (fun (r : Int32) (u : US) => topP xn tc mv gn mb tp ow pl sz r u) (BM D ad cI cZ (va_A (wM ad cI cZ tc mv gn mb tp ow pl cn sz bf) sz0)) (va_A (wM ad cI cZ tc mv gn mb tp ow pl cn sz bf) sz0)) 0 0 (va_A (wM ad cI cZ tc mv gn mb tp ow pl cn sz bf) sz0) := by
  refine Met.ofW (cc := cX2_topic) (maxL := 2) (ret := (some .int)) (by decide) rfl ?_
  intro p e s m args below meth c s₁ B hml hv
  obtain ⟨rfl, hsz, hP, hK, hD0⟩ := hv
  have hx := B.exec
  have hb := B.bytes
  have hr := B.returns
  have hts := atoms_spec (ws := (ws_ yX2_topic cX2_topic 2 (some .int))) B.pre
  have hts : ∀ w ∈ lw_all, w.before _ s = true := fun w h => hts w (List.mem_cons_of_mem _ h)
  have hown : s.vm.findClass RX2 = some m.cls := findClass_of_methodNamed B.named
  have hlocks := B.notSynchronized
  subst hsz
  have hD := hD0.self (sz := s.heap.size)
  generalize hAe : va_A (wM ad cI cZ tc mv gn mb tp ow pl cn sz bf) s.heap.size = A at hD ⊢
  have hA : ∀ q : Nat, s.heap.size ≤ q → A q := fun q h => by rw [← hAe]; exact Or.inr h
  have hS : va_S A s.heap s.heap [] := va_S.rf
  have hP : va_P D vwCl (wM ad cI cZ tc mv gn mb tp ow pl cn sz bf) s.heap := hP
  have hl := lv_entry ([.ref (ad 0), .int xn]) (n := 2) (Nat.le_of_ble_eq_true rfl)
  rw [lg_entry_eq]
  generalize (lg_sl ([.ref (ad 0), .int xn]) ++ List.replicate (2 - (lg_sl ([.ref (ad 0), .int xn])).length) Slot.unset).toArray = ls at hl ⊢
  have hl : lv_has ls 2 [(0, .ref (ad 0)), (1, .int xn)] := hl
  refine lv_iload_n hx hb dX2_topic_0 rfl (lv_at hl 1 rfl) ?_
  refine lv_iconst (v := 1) hx hb dX2_topic_1 (by decide) ?_
  refine lv_icmp_lt (tgt := 20) hx hb dX2_topic_2 (by decide) (fun c2 => ?_) (fun c2 => ?_)
  · refine lv_iconst (v := (-1)) hx hb dX2_topic_20 (by decide) ?_
    exact W.iret (v := (-1)) hx hb hr (fun t0 h0t hW => ⟨⟨(-1), (tc, mv, gn, mb, tp, ow, pl, sz), rfl, Or.inl ⟨by first | exact Or.inl c2 | exact Or.inr (Or.inl c8) | exact Or.inr (Or.inr c17), rfl, rfl⟩, cn, bf, by rw [h0t]; exact hP, va_K.moved hW.alike hK, hD⟩, hS.F h0t⟩) hS.2.2 dX2_topic_21
  · refine lv_iload_n hx hb dX2_topic_5 rfl (lv_at hl 1 rfl) ?_
    refine lv_bipush (v := 6) hx hb dX2_topic_6 (by decide) ?_
    refine lv_icmp_gt (tgt := 20) hx hb dX2_topic_8 (by decide) (fun c8 => ?_) (fun c8 => ?_)
    · refine lv_iconst (v := (-1)) hx hb dX2_topic_20 (by decide) ?_
      exact W.iret (v := (-1)) hx hb hr (fun t0 h0t hW => ⟨⟨(-1), (tc, mv, gn, mb, tp, ow, pl, sz), rfl, Or.inl ⟨by first | exact Or.inl c2 | exact Or.inr (Or.inl c8) | exact Or.inr (Or.inr c17), rfl, rfl⟩, cn, bf, by rw [h0t]; exact hP, va_K.moved hW.alike hK, hD⟩, hS.F h0t⟩) hS.2.2 dX2_topic_21
    · refine lv_aload_n hx hb dX2_topic_11 rfl (lv_at hl 0 rfl) ?_
      refine va_get (D := D) (ci := 2) (v := .int tc) (C := RX2) (T := TX2) (N := 10) hx hb hts in_X2 hown hK hP 0 rfl rfl 7 (by decide) (hts _ q151) (fun _ h9 => h9) rfl dX2_topic_12 ?_
      refine lv_bipush (v := 12) hx hb dX2_topic_15 (by decide) ?_
      refine lv_icmp_ne (tgt := 22) hx hb dX2_topic_17 (by decide) (fun c17 => ?_) (fun c17 => ?_)
      · refine lv_aload_n hx hb dX2_topic_22 rfl (lv_at hl 0 rfl) ?_
        refine lv_dup hx hb dX2_topic_23 rfl ?_
        refine va_get (D := D) (ci := 2) (v := .int tc) (C := RX2) (T := TX2) (N := 10) hx hb hts in_X2 hown hK hP 0 rfl rfl 7 (by decide) (hts _ q151) (fun _ h9 => h9) rfl dX2_topic_24 ?_
        refine lv_iconst (v := 1) hx hb dX2_topic_27 (by decide) ?_
        refine lv_iadd hx hb dX2_topic_28 ?_
        refine va_put (D := D) (ci := 2) (v := .int (tc + 1)) (ty := .int) (C := RX2) (T := TX2) (N := 10) hx hb hts in_X2 tyX2 tyX2_ok nmX2 hown hK hP hD hS 0 rfl rfl 7 (by decide) (hts _ q151) (fun _ h9 => h9) rfl (by decide +kernel) rfl rfl (Nat.le_of_ble_eq_true rfl) dX2_topic_29 (fun H locs hP hD hS => ?_)
        have hP : va_P D vwCl (wM ad cI cZ (tc + 1) mv gn mb tp ow pl cn sz bf) H := hP
        have hD : va_D A (wM ad cI cZ (tc + 1) mv gn mb tp ow pl cn sz bf) := hD
        refine lv_aload_n hx hb dX2_topic_32 rfl (lv_at hl 0 rfl) ?_
        refine va_get (D := D) (ci := 2) (v := .ref (ad 1)) (C := RX2) (T := TX2) (N := 10) hx hb hts in_X2 hown hK hP 0 rfl rfl 0 (by decide) (hts _ q144) (fun _ h9 => h9) rfl dX2_topic_33 ?_
        refine lv_aload_n hx hb dX2_topic_36 rfl (lv_at hl 0 rfl) ?_
        refine va_get (D := D) (ci := 2) (v := .int (tc + 1)) (C := RX2) (T := TX2) (N := 10) hx hb hts in_X2 hown hK hP 0 rfl rfl 7 (by decide) (hts _ q151) (fun _ h9 => h9) rfl dX2_topic_37 ?_
        refine lv_iload_n hx hb dX2_topic_40 rfl (lv_at hl 1 rfl) ?_
        refine va_iast hx hb hK hP hD hS 1 0 rfl rfl (in_tc hwf.1 c17) dX2_topic_41 (fun H locs hP hD hS => ?_)
        have hP : va_P D vwCl (wM ad cI cZ (tc + 1) mv gn mb tp ow pl cn (upd sz (tc + 1).toNatClampNeg xn) bf) H := hP
        have hD : va_D A (wM ad cI cZ (tc + 1) mv gn mb tp ow pl cn (upd sz (tc + 1).toNatClampNeg xn) bf) := hD
        refine lv_aload_n hx hb dX2_topic_42 rfl (lv_at hl 0 rfl) ?_
        refine va_get (D := D) (ci := 2) (v := .int (tc + 1)) (C := RX2) (T := TX2) (N := 10) hx hb hts in_X2 hown hK hP 0 rfl rfl 7 (by decide) (hts _ q151) (fun _ h9 => h9) rfl dX2_topic_43 ?_
        exact W.iret (v := tc + 1) hx hb hr (fun t0 h0t hW => ⟨⟨tc + 1, (tc + 1, mv, gn, mb, tp, ow, pl, upd sz (tc + 1).toNatClampNeg xn), rfl, Or.inr ⟨or3_no c2 c8 c17, rfl, rfl⟩, cn, bf, by rw [h0t]; exact hP, va_K.moved hW.alike hK, hD⟩, hS.F h0t⟩) hS.2.2 dX2_topic_46
      · refine lv_iconst (v := (-1)) hx hb dX2_topic_20 (by decide) ?_
        exact W.iret (v := (-1)) hx hb hr (fun t0 h0t hW => ⟨⟨(-1), (tc, mv, gn, mb, tp, ow, pl, sz), rfl, Or.inl ⟨by first | exact Or.inl c2 | exact Or.inr (Or.inl c8) | exact Or.inr (Or.inr c17), rfl, rfl⟩, cn, bf, by rw [h0t]; exact hP, va_K.moved hW.alike hK, hD⟩, hS.F h0t⟩) hS.2.2 dX2_topic_21
set_option maxHeartbeats 4000000 in
set_option maxRecDepth 100000 in
theorem L_dealt_16 (C0 : CallFix p m c cX2_dealt 5 s args lw_all RX2) (hK : va_K D vwCl (tyIZ cI cZ) s)  (hk : ∀ (H : Heap) (locs : List Loc) (ls : Array Slot) (x1 : Int32) (cn : FF), (x1 = memI mb 8) → (∀ j, j < 8 → cn j = 0) → Wl D A (wM ad cI cZ tc mv gn mb tp ow pl cn sz bf) s H locs → lv_has ls 5 [(0, .ref (ad 0)), (1, .int x1), (2, .int 0), (3, .int (nI 8))] → W p l e R s m args below meth c H locs cells slots Q (F0 m 47 ls [])) : ∀ (n i : Nat), i ≤ 8 → 8 < i + n → ∀ (H : Heap) (locs : List Loc) (ls : Array Slot) (x1 : Int32) (cn : FF), (x1 = memI mb i) → (∀ j, j < i → cn j = 0) → Wl D A (wM ad cI cZ tc mv gn mb tp ow pl cn sz bf) s H locs → lv_has ls 5 [(0, .ref (ad 0)), (1, .int x1), (2, .int 0), (3, .int (nI i))] → W p l e R s m args below meth c H locs cells slots Q (F0 m 16 ls []) := by
  obtain ⟨hx, hb, hml, hown, hts⟩ := id C0
  intro n
  induction n with
  | zero => intro i h1 h2; exact absurd h2 (by omega)
  | succ n ih =>
    intro i hi hin H locs ls x1 cn e1 hz hw hl
    obtain ⟨hP, hD, hS⟩ := hw
    refine lv_iload_n hx hb dX2_dealt_16 rfl (lv_at hl 3 rfl) ?_
    refine lv_bipush (v := nI 8) hx hb dX2_dealt_17 (by decide) ?_
    refine lv_icmp_ge (tgt := 47) hx hb dX2_dealt_19 (by decide) (fun c19 => ?_) (fun c19 => ?_)
    · obtain rfl : i = 8 := by have h9 := lp_ge (by decide) (by omega) c19; omega
      exact hk H locs ls x1 cn (e1) (hz) ⟨hP, hD, hS⟩ (lv_sub hl [0, 1, 2, 3] rfl)
    · have hlt : i < 8 := lp_lt (by omega) c19
      refine lv_aload_n hx hb dX2_dealt_22 rfl (lv_at hl 0 rfl) ?_
      refine va_get (D := D) (ci := 2) (v := .ref (ad 7)) (C := RX2) (T := TX2) (N := 10) hx hb hts in_X2 hown hK hP 0 rfl rfl 6 (by decide) (hts _ q150) (fun _ h9 => h9) rfl dX2_dealt_23 ?_
      refine lv_iload_n hx hb dX2_dealt_26 rfl (lv_at hl 3 rfl) ?_
      refine lv_iconst (v := 0) hx hb dX2_dealt_27 (by decide) ?_
      refine g_iast hx hb hK hP hD hS 7 0 rfl rfl i (rfl) (by omega) (by decide) dX2_dealt_28 (fun H locs hP hD hS => ?_)
      have hP : va_P D vwCl (wM ad cI cZ tc mv gn mb tp ow pl (upd cn i 0) sz bf) H := hP
      have hD : va_D A (wM ad cI cZ tc mv gn mb tp ow pl (upd cn i 0) sz bf) := hD
      refine lv_aload_n hx hb dX2_dealt_29 rfl (lv_at hl 0 rfl) ?_
      refine va_get (D := D) (ci := 2) (v := .ref (ad 3)) (C := RX2) (T := TX2) (N := 10) hx hb hts in_X2 hown hK hP 0 rfl rfl 2 (by decide) (hts _ q146) (fun _ h9 => h9) rfl dX2_dealt_30 ?_
      refine lv_iload_n hx hb dX2_dealt_33 rfl (lv_at hl 3 rfl) ?_
      refine g_zald hx hb hK hP 3 1 rfl rfl i (rfl) (by omega) (by decide) dX2_dealt_34 ?_
      refine lv_if_eq (tgt := 41) hx hb dX2_dealt_35 (by decide) (fun c35 => ?_) (fun c35 => ?_)
      · refine lv_iinc (v := nI (i + 1)) (lv' := [(3, .int (nI (i + 1))), (0, .ref (ad 0)), (1, .int x1), (2, .int 0)]) hx hb dX2_dealt_41 hl (k := 3) rfl (nI_inc _) (by decide) rfl (fun ls hl => ?_)
        refine lv_goto (tgt := 16) hx hb dX2_dealt_44 (by decide) ?_
        exact ih (i + 1) (by omega) (by omega) H locs ls x1 (upd cn i 0) (by first | exact mem_1 e1 c35 | exact mem_0 e1 c35) (up_all hz) ⟨hP, hD, hS⟩ (lv_sub hl [1, 2, 3, 0] rfl)
      · refine lv_iinc (v := x1 + 1) (lv' := [(1, .int (x1 + 1)), (0, .ref (ad 0)), (2, .int 0), (3, .int (nI i))]) hx hb dX2_dealt_38 hl (k := 1) rfl (rfl) (by decide) rfl (fun ls hl => ?_)
        refine lv_iinc (v := nI (i + 1)) (lv' := [(3, .int (nI (i + 1))), (1, .int (x1 + 1)), (0, .ref (ad 0)), (2, .int 0)]) hx hb dX2_dealt_41 hl (k := 3) rfl (nI_inc _) (by decide) rfl (fun ls hl => ?_)
        refine lv_goto (tgt := 16) hx hb dX2_dealt_44 (by decide) ?_
        exact ih (i + 1) (by omega) (by omega) H locs ls (x1 + 1) (upd cn i 0) (by first | exact mem_1 e1 c35 | exact mem_0 e1 c35) (up_all hz) ⟨hP, hD, hS⟩ (lv_sub hl [2, 1, 3, 0] rfl)
set_option maxHeartbeats 4000000 in
set_option maxRecDepth 100000 in
theorem L_dealt_49 (C0 : CallFix p m c cX2_dealt 5 s args lw_all RX2) (hK : va_K D vwCl (tyIZ cI cZ) s) (hR : 2 ≤ R.frames ∧ 43 ≤ R.locals) (hC : cells ≤ R.cells ∧ slots ≤ R.slots) (x1 : Int32) (ht : WFt tc tp) (hk : ∀ (H : Heap) (locs : List Loc) (ls : Array Slot) (x2 : Int32) (bf : FF), (x2 = cntS tp sz 72) → (∀ j, j < 72 → bf j = ow j) → Wl D A (wM ad cI cZ tc mv gn mb tp ow pl cn sz bf) s H locs → lv_has ls 5 [(0, .ref (ad 0)), (1, .int x1), (2, .int x2), (3, .int (nI 72))] → W p l e R s m args below meth c H locs cells slots Q (F0 m 84 ls [])) : ∀ (n i : Nat), i ≤ 72 → 72 < i + n → ∀ (H : Heap) (locs : List Loc) (ls : Array Slot) (x2 : Int32) (bf : FF), (x2 = cntS tp sz i) → (∀ j, j < i → bf j = ow j) → Wl D A (wM ad cI cZ tc mv gn mb tp ow pl cn sz bf) s H locs → lv_has ls 5 [(0, .ref (ad 0)), (1, .int x1), (2, .int x2), (3, .int (nI i))] → W p l e R s m args below meth c H locs cells slots Q (F0 m 49 ls []) := by
  obtain ⟨hx, hb, hml, hown, hts⟩ := id C0
  intro n
  induction n with
  | zero => intro i h1 h2; exact absurd h2 (by omega)
  | succ n ih =>
    intro i hi hin H locs ls x2 bf e2 hz hw hl
    obtain ⟨hP, hD, hS⟩ := hw
    refine lv_iload_n hx hb dX2_dealt_49 rfl (lv_at hl 3 rfl) ?_
    refine lv_bipush (v := nI 72) hx hb dX2_dealt_50 (by decide) ?_
    refine lv_icmp_ge (tgt := 84) hx hb dX2_dealt_52 (by decide) (fun c52 => ?_) (fun c52 => ?_)
    · obtain rfl : i = 72 := by have h9 := lp_ge (by decide) (by omega) c52; omega
      exact hk H locs ls x2 bf (e2) (hz) ⟨hP, hD, hS⟩ (lv_sub hl [0, 1, 2, 3] rfl)
    · have hlt : i < 72 := lp_lt (by omega) c52
      refine lv_aload_n hx hb dX2_dealt_55 rfl (lv_at hl 0 rfl) ?_
      refine va_get (D := D) (ci := 2) (v := .ref (ad 5)) (C := RX2) (T := TX2) (N := 10) hx hb hts in_X2 hown hK hP 0 rfl rfl 4 (by decide) (hts _ q148) (fun _ h9 => h9) rfl dX2_dealt_56 ?_
      refine lv_iload_n hx hb dX2_dealt_59 rfl (lv_at hl 3 rfl) ?_
      refine lv_aload_n hx hb dX2_dealt_60 rfl (lv_at hl 0 rfl) ?_
      refine va_get (D := D) (ci := 2) (v := .ref (ad 4)) (C := RX2) (T := TX2) (N := 10) hx hb hts in_X2 hown hK hP 0 rfl rfl 3 (by decide) (hts _ q147) (fun _ h9 => h9) rfl dX2_dealt_61 ?_
      refine lv_iload_n hx hb dX2_dealt_64 rfl (lv_at hl 3 rfl) ?_
      refine g_iald hx hb hK hP 4 0 rfl rfl i (rfl) (by omega) (by decide) dX2_dealt_65 ?_
      refine g_iast hx hb hK hP hD hS 5 0 rfl rfl i (rfl) (by omega) (by decide) dX2_dealt_66 (fun H locs hP hD hS => ?_)
      have hP : va_P D vwCl (wM ad cI cZ tc mv gn mb tp ow pl cn sz (upd bf i (ow i))) H := hP
      have hD : va_D A (wM ad cI cZ tc mv gn mb tp ow pl cn sz (upd bf i (ow i))) := hD
      refine lv_aload_n hx hb dX2_dealt_67 rfl (lv_at hl 0 rfl) ?_
      refine lv_iload_n hx hb dX2_dealt_68 rfl (lv_at hl 3 rfl) ?_
      refine vp_callSi (W.runV (As := [.int (nI i)]) (rest := []) ⟨hx, hb, hml, hown, hts⟩ (metX2_isShared l D ad cI cZ tc mv gn mb tp ow pl cn sz (upd bf i (ow i)) i hlt ht) (cwV 1 hts (lw_V q187 q189 qs6 q14 q190) rfl rfl rfl (by decide +kernel) ⟨Nat.le_trans (m := 2) (Nat.le_of_ble_eq_true rfl) hR.1, Nat.le_trans (m := 43) (Nat.le_of_ble_eq_true rfl) hR.2⟩) ⟨blR, va_recv hK hP (ci := 2) (q0 := 0) rfl rfl, prR hP hK⟩ rfl rfl hl.1 rfl (lv_room (Nat.le_of_ble_eq_true rfl)) dX2_dealt_69 hC) (fun r hr1 => ?_)
      refine lv_if_eq (tgt := 78) hx hb dX2_dealt_72 (by decide) (fun c72 => ?_) (fun c72 => ?_)
      · refine lv_iinc (v := nI (i + 1)) (lv' := [(3, .int (nI (i + 1))), (0, .ref (ad 0)), (1, .int x1), (2, .int x2)]) hx hb dX2_dealt_78 hl (k := 3) rfl (nI_inc _) (by decide) rfl (fun ls hl => ?_)
        refine lv_goto (tgt := 49) hx hb dX2_dealt_81 (by decide) ?_
        exact ih (i + 1) (by omega) (by omega) H locs ls x2 (upd bf i (ow i)) (by first | exact cnt_1 e2 (shI_1 (by rw [← hr1]; exact c72)) | exact cnt_0 e2 (shI_0 (by rw [← hr1]; exact c72))) (up_cpy hz) ⟨hP, hD, hS⟩ (lv_sub hl [1, 2, 3, 0] rfl)
      · refine lv_iinc (v := x2 + 1) (lv' := [(2, .int (x2 + 1)), (0, .ref (ad 0)), (1, .int x1), (3, .int (nI i))]) hx hb dX2_dealt_75 hl (k := 2) rfl (rfl) (by decide) rfl (fun ls hl => ?_)
        refine lv_iinc (v := nI (i + 1)) (lv' := [(3, .int (nI (i + 1))), (2, .int (x2 + 1)), (0, .ref (ad 0)), (1, .int x1)]) hx hb dX2_dealt_78 hl (k := 3) rfl (nI_inc _) (by decide) rfl (fun ls hl => ?_)
        refine lv_goto (tgt := 49) hx hb dX2_dealt_81 (by decide) ?_
        exact ih (i + 1) (by omega) (by omega) H locs ls (x2 + 1) (upd bf i (ow i)) (by first | exact cnt_1 e2 (shI_1 (by rw [← hr1]; exact c72)) | exact cnt_0 e2 (shI_0 (by rw [← hr1]; exact c72))) (up_cpy hz) ⟨hP, hD, hS⟩ (lv_sub hl [2, 3, 1, 0] rfl)
set_option maxHeartbeats 4000000 in
set_option maxRecDepth 100000 in
theorem L_dealt_86 (C0 : CallFix p m c cX2_dealt 5 s args lw_all RX2) (hK : va_K D vwCl (tyIZ cI cZ) s) (hR : 2 ≤ R.frames ∧ 43 ≤ R.locals) (hC : cells ≤ R.cells ∧ slots ≤ R.slots) (x1 x2 : Int32) (ht : WFt tc tp) (hwo : WFo ow) (hx1 : x1 = memI mb 8) (hk : ∀ (H : Heap) (locs : List Loc) (ls : Array Slot) (q : FF × FF), (q = kmC tp sz mb (x2 / x1) (x2 - x2 / x1 * x1) ow cn 72) → Wl D A (wM ad cI cZ tc mv gn mb tp q.1 pl q.2 sz bf) s H locs → lv_has ls 5 [(0, .ref (ad 0)), (1, .int x1), (2, .int x2), (3, .int (nI 72))] → W p l e R s m args below meth c H locs cells slots Q (F0 m 164 ls [])) : ∀ (n i : Nat), i ≤ 72 → 72 < i + n → ∀ (H : Heap) (locs : List Loc) (ls : Array Slot) (q : FF × FF), (q = kmC tp sz mb (x2 / x1) (x2 - x2 / x1 * x1) ow cn i) → Wl D A (wM ad cI cZ tc mv gn mb tp q.1 pl q.2 sz bf) s H locs → lv_has ls 5 [(0, .ref (ad 0)), (1, .int x1), (2, .int x2), (3, .int (nI i))] → W p l e R s m args below meth c H locs cells slots Q (F0 m 86 ls []) := by
  obtain ⟨hx, hb, hml, hown, hts⟩ := id C0
  intro n
  induction n with
  | zero => intro i h1 h2; exact absurd h2 (by omega)
  | succ n ih =>
    intro i hi hin H locs ls q hq hw hl
    obtain ⟨hP, hD, hS⟩ := hw
    refine lv_iload_n hx hb dX2_dealt_86 rfl (lv_at hl 3 rfl) ?_
    refine lv_bipush (v := nI 72) hx hb dX2_dealt_87 (by decide) ?_
    refine lv_icmp_ge (tgt := 164) hx hb dX2_dealt_89 (by decide) (fun c89 => ?_) (fun c89 => ?_)
    · obtain rfl : i = 72 := by have h9 := lp_ge (by decide) (by omega) c89; omega
      exact hk H locs ls q (hq) ⟨hP, hD, hS⟩ (lv_sub hl [0, 1, 2, 3] rfl)
    · have hlt : i < 72 := lp_lt (by omega) c89
      refine lv_aload_n hx hb dX2_dealt_92 rfl (lv_at hl 0 rfl) ?_
      refine lv_iload_n hx hb dX2_dealt_93 rfl (lv_at hl 3 rfl) ?_
      refine vp_callSi (W.runV (As := [.int (nI i)]) (rest := []) ⟨hx, hb, hml, hown, hts⟩ (metX2_isShared l D ad cI cZ tc mv gn mb tp q.1 pl q.2 sz bf i hlt ht) (cwV 1 hts (lw_V q187 q189 qs6 q14 q190) rfl rfl rfl (by decide +kernel) ⟨Nat.le_trans (m := 2) (Nat.le_of_ble_eq_true rfl) hR.1, Nat.le_trans (m := 43) (Nat.le_of_ble_eq_true rfl) hR.2⟩) ⟨blR, va_recv hK hP (ci := 2) (q0 := 0) rfl rfl, prR hP hK⟩ rfl rfl hl.1 rfl (lv_room (Nat.le_of_ble_eq_true rfl)) dX2_dealt_94 hC) (fun r hr1 => ?_)
      refine lv_if_ne (tgt := 103) hx hb dX2_dealt_97 (by decide) (fun c97 => ?_) (fun c97 => ?_)
      · have hsh : sh tp sz i := shI_1 (by rw [← hr1]; exact c97)
        have hwq : WFo q.1 := by rw [hq]; exact kmC_wf hwo _
        refine lv_aload_n hx hb dX2_dealt_103 rfl (lv_at hl 0 rfl) ?_
        refine va_get (D := D) (ci := 2) (v := .ref (ad 4)) (C := RX2) (T := TX2) (N := 10) hx hb hts in_X2 hown hK hP 0 rfl rfl 3 (by decide) (hts _ q147) (fun _ h9 => h9) rfl dX2_dealt_104 ?_
        refine lv_iload_n hx hb dX2_dealt_107 rfl (lv_at hl 3 rfl) ?_
        refine g_iald hx hb hK hP 4 0 rfl rfl i (rfl) (by omega) (by decide) dX2_dealt_108 ?_
        refine lv_istore (lv' := [(4, .int (q.1 i)), (0, .ref (ad 0)), (1, .int x1), (2, .int x2), (3, .int (nI i))]) hx hb dX2_dealt_109 hl (by decide) rfl (fun ls hl => ?_)
        refine lv_iload hx hb dX2_dealt_111 (lv_at hl 0 rfl) ?_
        refine lv_if_lt (tgt := 151) hx hb dX2_dealt_113 (by decide) (fun c113 => ?_) (fun c113 => ?_)
        · have hno : ¬ mayM mb q.2 (x2 / x1) (x2 - x2 / x1 * x1) (q.1 i) := fun z => z.1 c113
          refine lv_aload_n hx hb dX2_dealt_151 rfl (lv_at hl 1 rfl) ?_
          refine va_get (D := D) (ci := 2) (v := .ref (ad 4)) (C := RX2) (T := TX2) (N := 10) hx hb hts in_X2 hown hK hP 0 rfl rfl 3 (by decide) (hts _ q147) (fun _ h9 => h9) rfl dX2_dealt_152 ?_
          refine lv_iload_n hx hb dX2_dealt_155 rfl (lv_at hl 4 rfl) ?_
          refine lv_iconst (v := (-1)) hx hb dX2_dealt_156 (by decide) ?_
          refine g_iast hx hb hK hP hD hS 4 0 rfl rfl i (rfl) (by omega) (by decide) dX2_dealt_157 (fun H locs hP hD hS => ?_)
          have hP : va_P D vwCl (wM ad cI cZ tc mv gn mb tp (upd q.1 i (-1)) pl q.2 sz bf) H := hP
          have hD : va_D A (wM ad cI cZ tc mv gn mb tp (upd q.1 i (-1)) pl q.2 sz bf) := hD
          refine lv_iinc (v := nI (i + 1)) (lv' := [(3, .int (nI (i + 1))), (4, .int (q.1 i)), (0, .ref (ad 0)), (1, .int x1), (2, .int x2)]) hx hb dX2_dealt_158 hl (k := 4) rfl (nI_inc _) (by decide) rfl (fun ls hl => ?_)
          refine lv_goto (tgt := 86) hx hb dX2_dealt_161 (by decide) ?_
          exact ih (i + 1) (by omega) (by omega) H locs ls (upd q.1 i (-1), q.2) (km_no hq hsh hno) ⟨hP, hD, hS⟩ (lv_sub hl [2, 3, 4, 0] rfl)
        · obtain ⟨j, hj, ej⟩ := wf_ix hwq hlt c113
          refine lv_aload_n hx hb dX2_dealt_116 rfl (lv_at hl 1 rfl) ?_
          refine va_get (D := D) (ci := 2) (v := .ref (ad 3)) (C := RX2) (T := TX2) (N := 10) hx hb hts in_X2 hown hK hP 0 rfl rfl 2 (by decide) (hts _ q146) (fun _ h9 => h9) rfl dX2_dealt_117 ?_
          refine lv_iload hx hb dX2_dealt_120 (lv_at hl 0 rfl) ?_
          refine g_zald hx hb hK hP 3 1 rfl rfl j (ej) (hj) (by decide) dX2_dealt_122 ?_
          refine lv_if_eq (tgt := 151) hx hb dX2_dealt_123 (by decide) (fun c123 => ?_) (fun c123 => ?_)
          · have hno : ¬ mayM mb q.2 (x2 / x1) (x2 - x2 / x1 * x1) (q.1 i) := fun z => ((mayM_iff hj ej).mp z).1 c123
            refine lv_aload_n hx hb dX2_dealt_151 rfl (lv_at hl 1 rfl) ?_
            refine va_get (D := D) (ci := 2) (v := .ref (ad 4)) (C := RX2) (T := TX2) (N := 10) hx hb hts in_X2 hown hK hP 0 rfl rfl 3 (by decide) (hts _ q147) (fun _ h9 => h9) rfl dX2_dealt_152 ?_
            refine lv_iload_n hx hb dX2_dealt_155 rfl (lv_at hl 4 rfl) ?_
            refine lv_iconst (v := (-1)) hx hb dX2_dealt_156 (by decide) ?_
            refine g_iast hx hb hK hP hD hS 4 0 rfl rfl i (rfl) (by omega) (by decide) dX2_dealt_157 (fun H locs hP hD hS => ?_)
            have hP : va_P D vwCl (wM ad cI cZ tc mv gn mb tp (upd q.1 i (-1)) pl q.2 sz bf) H := hP
            have hD : va_D A (wM ad cI cZ tc mv gn mb tp (upd q.1 i (-1)) pl q.2 sz bf) := hD
            refine lv_iinc (v := nI (i + 1)) (lv' := [(3, .int (nI (i + 1))), (4, .int (q.1 i)), (0, .ref (ad 0)), (1, .int x1), (2, .int x2)]) hx hb dX2_dealt_158 hl (k := 4) rfl (nI_inc _) (by decide) rfl (fun ls hl => ?_)
            refine lv_goto (tgt := 86) hx hb dX2_dealt_161 (by decide) ?_
            exact ih (i + 1) (by omega) (by omega) H locs ls (upd q.1 i (-1), q.2) (km_no hq hsh hno) ⟨hP, hD, hS⟩ (lv_sub hl [2, 3, 4, 0] rfl)
          · refine lv_aload_n hx hb dX2_dealt_126 rfl (lv_at hl 1 rfl) ?_
            refine lv_iload hx hb dX2_dealt_127 (lv_at hl 0 rfl) ?_
            refine lv_iload_n hx hb dX2_dealt_129 rfl (lv_at hl 3 rfl) ?_
            refine lv_iload_n hx hb dX2_dealt_130 rfl (lv_at hl 2 rfl) ?_
            have hb0 : ¬ x1 = 0 := by rw [hx1]; exact memI_ne hj c123
            refine vp_callSi (W.runV (As := [.int (q.1 i), .int x2, .int x1]) (rest := []) ⟨hx, hb, hml, hown, hts⟩ (metX2_keeps l D ad cI cZ tc mv gn mb tp q.1 pl q.2 sz bf (q.1 i) x2 x1 j hj ej hb0) (cwV 3 hts (lw_V q195 q197 qs8 q14 q198) rfl rfl rfl (by decide +kernel) ⟨Nat.le_trans (m := 2) (Nat.le_of_ble_eq_true rfl) hR.1, Nat.le_trans (m := 43) (Nat.le_of_ble_eq_true rfl) hR.2⟩) ⟨blR, va_recv hK hP (ci := 2) (q0 := 0) rfl rfl, prR hP hK⟩ rfl rfl hl.1 rfl (lv_room (Nat.le_of_ble_eq_true rfl)) dX2_dealt_131 hC) (fun r2 hr2 => ?_)
            refine lv_if_eq (tgt := 151) hx hb dX2_dealt_134 (by decide) (fun c134 => ?_) (fun c134 => ?_)
            · have hno : ¬ mayM mb q.2 (x2 / x1) (x2 - x2 / x1 * x1) (q.1 i) := fun z => ite_0 hr2 c134 ((mayM_iff hj ej).mp z).2
              refine lv_aload_n hx hb dX2_dealt_151 rfl (lv_at hl 1 rfl) ?_
              refine va_get (D := D) (ci := 2) (v := .ref (ad 4)) (C := RX2) (T := TX2) (N := 10) hx hb hts in_X2 hown hK hP 0 rfl rfl 3 (by decide) (hts _ q147) (fun _ h9 => h9) rfl dX2_dealt_152 ?_
              refine lv_iload_n hx hb dX2_dealt_155 rfl (lv_at hl 4 rfl) ?_
              refine lv_iconst (v := (-1)) hx hb dX2_dealt_156 (by decide) ?_
              refine g_iast hx hb hK hP hD hS 4 0 rfl rfl i (rfl) (by omega) (by decide) dX2_dealt_157 (fun H locs hP hD hS => ?_)
              have hP : va_P D vwCl (wM ad cI cZ tc mv gn mb tp (upd q.1 i (-1)) pl q.2 sz bf) H := hP
              have hD : va_D A (wM ad cI cZ tc mv gn mb tp (upd q.1 i (-1)) pl q.2 sz bf) := hD
              refine lv_iinc (v := nI (i + 1)) (lv' := [(3, .int (nI (i + 1))), (4, .int (q.1 i)), (0, .ref (ad 0)), (1, .int x1), (2, .int x2)]) hx hb dX2_dealt_158 hl (k := 4) rfl (nI_inc _) (by decide) rfl (fun ls hl => ?_)
              refine lv_goto (tgt := 86) hx hb dX2_dealt_161 (by decide) ?_
              exact ih (i + 1) (by omega) (by omega) H locs ls (upd q.1 i (-1), q.2) (km_no hq hsh hno) ⟨hP, hD, hS⟩ (lv_sub hl [2, 3, 4, 0] rfl)
            · have hmy : mayM mb q.2 (x2 / x1) (x2 - x2 / x1 * x1) (q.1 i) := (mayM_iff hj ej).mpr ⟨c123, ite_1 hr2 c134⟩
              refine lv_aload_n hx hb dX2_dealt_137 rfl (lv_at hl 1 rfl) ?_
              refine va_get (D := D) (ci := 2) (v := .ref (ad 7)) (C := RX2) (T := TX2) (N := 10) hx hb hts in_X2 hown hK hP 0 rfl rfl 6 (by decide) (hts _ q150) (fun _ h9 => h9) rfl dX2_dealt_138 ?_
              refine lv_iload hx hb dX2_dealt_141 (lv_at hl 0 rfl) ?_
              refine lv_dup2_11 hx hb dX2_dealt_143 rfl rfl ?_
              refine g_iald hx hb hK hP 7 0 rfl rfl j (ej) (hj) (by decide) dX2_dealt_144 ?_
              refine lv_iconst (v := 1) hx hb dX2_dealt_145 (by decide) ?_
              refine lv_iadd hx hb dX2_dealt_146 ?_
              refine g_iast hx hb hK hP hD hS 7 0 rfl rfl j (ej) (hj) (by decide) dX2_dealt_147 (fun H locs hP hD hS => ?_)
              have hP : va_P D vwCl (wM ad cI cZ tc mv gn mb tp q.1 pl (upd q.2 j ((q.2 j) + 1)) sz bf) H := hP
              have hD : va_D A (wM ad cI cZ tc mv gn mb tp q.1 pl (upd q.2 j ((q.2 j) + 1)) sz bf) := hD
              refine lv_goto (tgt := 158) hx hb dX2_dealt_148 (by decide) ?_
              refine lv_iinc (v := nI (i + 1)) (lv' := [(3, .int (nI (i + 1))), (4, .int (q.1 i)), (0, .ref (ad 0)), (1, .int x1), (2, .int x2)]) hx hb dX2_dealt_158 hl (k := 4) rfl (nI_inc _) (by decide) rfl (fun ls hl => ?_)
              refine lv_goto (tgt := 86) hx hb dX2_dealt_161 (by decide) ?_
              exact ih (i + 1) (by omega) (by omega) H locs ls (q.1, upd q.2 j (q.2 j + 1)) (km_yes hq hsh hj ej hmy) ⟨hP, hD, hS⟩ (lv_sub hl [2, 3, 4, 0] rfl)
      · refine lv_goto (tgt := 158) hx hb dX2_dealt_100 (by decide) ?_
        refine lv_iinc (v := nI (i + 1)) (lv' := [(3, .int (nI (i + 1))), (0, .ref (ad 0)), (1, .int x1), (2, .int x2)]) hx hb dX2_dealt_158 hl (k := 3) rfl (nI_inc _) (by decide) rfl (fun ls hl => ?_)
        refine lv_goto (tgt := 86) hx hb dX2_dealt_161 (by decide) ?_
        exact ih (i + 1) (by omega) (by omega) H locs ls q (km_un hq (shI_0 (by rw [← hr1]; exact c97))) ⟨hP, hD, hS⟩ (lv_sub hl [1, 2, 3, 0] rfl)
set_option maxHeartbeats 4000000 in
set_option maxRecDepth 100000 in
theorem L_dealt_166 (C0 : CallFix p m c cX2_dealt 5 s args lw_all RX2) (hK : va_K D vwCl (tyIZ cI cZ) s) (hR : 2 ≤ R.frames ∧ 43 ≤ R.locals) (hC : cells ≤ R.cells ∧ slots ≤ R.slots) (x1 x2 : Int32) (q0 : FF × FF) (ht : WFt tc tp) (hpos : ¬ x1 ≤ 0) (hmb : ∃ j, j < 8 ∧ ¬ mb j = 0) (hk : ∀ (H : Heap) (locs : List Loc) (ls : Array Slot) (q : FF × FF), (q = flC tp sz mb q0 72) → Wl D A (wM ad cI cZ tc mv gn mb tp q.1 pl q.2 sz bf) s H locs → lv_has ls 5 [(0, .ref (ad 0)), (1, .int x1), (2, .int x2), (3, .int (nI 72))] → W p l e R s m args below meth c H locs cells slots Q (F0 m 227 ls [])) : ∀ (n i : Nat), i ≤ 72 → 72 < i + n → ∀ (H : Heap) (locs : List Loc) (ls : Array Slot) (q : FF × FF), (q = flC tp sz mb q0 i) → Wl D A (wM ad cI cZ tc mv gn mb tp q.1 pl q.2 sz bf) s H locs → lv_has ls 5 [(0, .ref (ad 0)), (1, .int x1), (2, .int x2), (3, .int (nI i))] → W p l e R s m args below meth c H locs cells slots Q (F0 m 166 ls []) := by
  obtain ⟨hx, hb, hml, hown, hts⟩ := id C0
  intro n
  induction n with
  | zero => intro i h1 h2; exact absurd h2 (by omega)
  | succ n ih =>
    intro i hi hin H locs ls q hq hw hl
    obtain ⟨hP, hD, hS⟩ := hw
    refine lv_iload_n hx hb dX2_dealt_166 rfl (lv_at hl 3 rfl) ?_
    refine lv_bipush (v := nI 72) hx hb dX2_dealt_167 (by decide) ?_
    refine lv_icmp_ge (tgt := 227) hx hb dX2_dealt_169 (by decide) (fun c169 => ?_) (fun c169 => ?_)
    · obtain rfl : i = 72 := by have h9 := lp_ge (by decide) (by omega) c169; omega
      exact hk H locs ls q (hq) ⟨hP, hD, hS⟩ (lv_sub hl [0, 1, 2, 3] rfl)
    · have hlt : i < 72 := lp_lt (by omega) c169
      refine lv_iload_n hx hb dX2_dealt_172 rfl (lv_at hl 1 rfl) ?_
      refine lv_if_le (tgt := 227) hx hb dX2_dealt_173 (by decide) (fun c173 => ?_) (fun c173 => ?_)
      · exact absurd c173 hpos
      · refine lv_aload_n hx hb dX2_dealt_176 rfl (lv_at hl 0 rfl) ?_
        refine lv_iload_n hx hb dX2_dealt_177 rfl (lv_at hl 3 rfl) ?_
        refine vp_callSi (W.runV (As := [.int (nI i)]) (rest := []) ⟨hx, hb, hml, hown, hts⟩ (metX2_isShared l D ad cI cZ tc mv gn mb tp q.1 pl q.2 sz bf i hlt ht) (cwV 1 hts (lw_V q187 q189 qs6 q14 q190) rfl rfl rfl (by decide +kernel) ⟨Nat.le_trans (m := 2) (Nat.le_of_ble_eq_true rfl) hR.1, Nat.le_trans (m := 43) (Nat.le_of_ble_eq_true rfl) hR.2⟩) ⟨blR, va_recv hK hP (ci := 2) (q0 := 0) rfl rfl, prR hP hK⟩ rfl rfl hl.1 rfl (lv_room (Nat.le_of_ble_eq_true rfl)) dX2_dealt_178 hC) (fun r hr1 => ?_)
        refine lv_if_eq (tgt := 221) hx hb dX2_dealt_181 (by decide) (fun c181 => ?_) (fun c181 => ?_)
        · refine lv_iinc (v := nI (i + 1)) (lv' := [(3, .int (nI (i + 1))), (0, .ref (ad 0)), (1, .int x1), (2, .int x2)]) hx hb dX2_dealt_221 hl (k := 3) rfl (nI_inc _) (by decide) rfl (fun ls hl => ?_)
          refine lv_goto (tgt := 166) hx hb dX2_dealt_224 (by decide) ?_
          exact ih (i + 1) (by omega) (by omega) H locs ls q (by first | exact fl_no hq (fun z => shI_0 (by rw [← hr1]; exact c181) z.1) | exact fl_no hq (fun z => c190 z.2)) ⟨hP, hD, hS⟩ (lv_sub hl [1, 2, 3, 0] rfl)
        · have hsh : sh tp sz i := shI_1 (by rw [← hr1]; exact c181)
          refine lv_aload_n hx hb dX2_dealt_184 rfl (lv_at hl 0 rfl) ?_
          refine va_get (D := D) (ci := 2) (v := .ref (ad 4)) (C := RX2) (T := TX2) (N := 10) hx hb hts in_X2 hown hK hP 0 rfl rfl 3 (by decide) (hts _ q147) (fun _ h9 => h9) rfl dX2_dealt_185 ?_
          refine lv_iload_n hx hb dX2_dealt_188 rfl (lv_at hl 3 rfl) ?_
          refine g_iald hx hb hK hP 4 0 rfl rfl i (rfl) (by omega) (by decide) dX2_dealt_189 ?_
          refine lv_if_lt (tgt := 196) hx hb dX2_dealt_190 (by decide) (fun c190 => ?_) (fun c190 => ?_)
          · refine lv_aload_n hx hb dX2_dealt_196 rfl (lv_at hl 0 rfl) ?_
            refine va_get (D := D) (ci := 2) (v := .ref (ad 4)) (C := RX2) (T := TX2) (N := 10) hx hb hts in_X2 hown hK hP 0 rfl rfl 3 (by decide) (hts _ q147) (fun _ h9 => h9) rfl dX2_dealt_197 ?_
            refine lv_iload_n hx hb dX2_dealt_200 rfl (lv_at hl 3 rfl) ?_
            refine lv_aload_n hx hb dX2_dealt_201 rfl (lv_at hl 0 rfl) ?_
            refine vp_callSi (W.runV (As := []) (rest := [.int (nI i), .ref (ad 4)]) ⟨hx, hb, hml, hown, hts⟩ (metX2_fewest l D ad cI cZ tc mv gn mb tp q.1 pl q.2 sz bf) (cwV 0 hts (lw_V q199 q201 qs9 q14 q202) rfl rfl rfl (by decide +kernel) ⟨Nat.le_trans (m := 2) (Nat.le_of_ble_eq_true rfl) hR.1, Nat.le_trans (m := 43) (Nat.le_of_ble_eq_true rfl) hR.2⟩) ⟨blR, va_recv hK hP (ci := 2) (q0 := 0) rfl rfl, prR hP hK⟩ rfl rfl hl.1 rfl (lv_room (Nat.le_of_ble_eq_true rfl)) dX2_dealt_202 hC) (fun r2 hr2 => ?_)
            obtain ⟨j, hj, ej⟩ : ∃ j, j < 8 ∧ r2 = nI j := by rw [hr2]; exact fewI_pos mb q.2 8 (by decide) hmb
            refine g_iast hx hb hK hP hD hS 4 0 rfl rfl i (rfl) (by omega) (by decide) dX2_dealt_205 (fun H locs hP hD hS => ?_)
            have hP : va_P D vwCl (wM ad cI cZ tc mv gn mb tp (upd q.1 i r2) pl q.2 sz bf) H := hP
            have hD : va_D A (wM ad cI cZ tc mv gn mb tp (upd q.1 i r2) pl q.2 sz bf) := hD
            refine lv_aload_n hx hb dX2_dealt_206 rfl (lv_at hl 0 rfl) ?_
            refine va_get (D := D) (ci := 2) (v := .ref (ad 7)) (C := RX2) (T := TX2) (N := 10) hx hb hts in_X2 hown hK hP 0 rfl rfl 6 (by decide) (hts _ q150) (fun _ h9 => h9) rfl dX2_dealt_207 ?_
            refine lv_aload_n hx hb dX2_dealt_210 rfl (lv_at hl 0 rfl) ?_
            refine va_get (D := D) (ci := 2) (v := .ref (ad 4)) (C := RX2) (T := TX2) (N := 10) hx hb hts in_X2 hown hK hP 0 rfl rfl 3 (by decide) (hts _ q147) (fun _ h9 => h9) rfl dX2_dealt_211 ?_
            refine lv_iload_n hx hb dX2_dealt_214 rfl (lv_at hl 3 rfl) ?_
            refine g_iald hx hb hK hP 4 0 rfl rfl i (rfl) (by omega) (by decide) dX2_dealt_215 ?_
            refine g_top (y := r2) (upd_s _ _ _) ?_
            refine lv_dup2_11 hx hb dX2_dealt_216 rfl rfl ?_
            refine g_iald hx hb hK hP 7 0 rfl rfl j (ej) (hj) (by decide) dX2_dealt_217 ?_
            refine lv_iconst (v := 1) hx hb dX2_dealt_218 (by decide) ?_
            refine lv_iadd hx hb dX2_dealt_219 ?_
            refine g_iast hx hb hK hP hD hS 7 0 rfl rfl j (ej) (hj) (by decide) dX2_dealt_220 (fun H locs hP hD hS => ?_)
            have hP : va_P D vwCl (wM ad cI cZ tc mv gn mb tp (upd q.1 i r2) pl (upd q.2 j ((q.2 j) + 1)) sz bf) H := hP
            have hD : va_D A (wM ad cI cZ tc mv gn mb tp (upd q.1 i r2) pl (upd q.2 j ((q.2 j) + 1)) sz bf) := hD
            refine lv_iinc (v := nI (i + 1)) (lv' := [(3, .int (nI (i + 1))), (0, .ref (ad 0)), (1, .int x1), (2, .int x2)]) hx hb dX2_dealt_221 hl (k := 3) rfl (nI_inc _) (by decide) rfl (fun ls hl => ?_)
            refine lv_goto (tgt := 166) hx hb dX2_dealt_224 (by decide) ?_
            exact ih (i + 1) (by omega) (by omega) H locs ls (upd q.1 i r2, upd q.2 j (q.2 j + 1)) (fl_yes hq hsh c190 hr2 hj ej) ⟨hP, hD, hS⟩ (lv_sub hl [1, 2, 3, 0] rfl)
          · refine lv_goto (tgt := 221) hx hb dX2_dealt_193 (by decide) ?_
            refine lv_iinc (v := nI (i + 1)) (lv' := [(3, .int (nI (i + 1))), (0, .ref (ad 0)), (1, .int x1), (2, .int x2)]) hx hb dX2_dealt_221 hl (k := 3) rfl (nI_inc _) (by decide) rfl (fun ls hl => ?_)
            refine lv_goto (tgt := 166) hx hb dX2_dealt_224 (by decide) ?_
            exact ih (i + 1) (by omega) (by omega) H locs ls q (by first | exact fl_no hq (fun z => shI_0 (by rw [← hr1]; exact c181) z.1) | exact fl_no hq (fun z => c190 z.2)) ⟨hP, hD, hS⟩ (lv_sub hl [1, 2, 3, 0] rfl)
set_option maxHeartbeats 4000000 in
set_option maxRecDepth 100000 in
theorem L_dealt_234 (C0 : CallFix p m c cX2_dealt 5 s args lw_all RX2) (hK : va_K D vwCl (tyIZ cI cZ) s) (x1 x2 : Int32) (hk : ∀ (H : Heap) (locs : List Loc) (ls : Array Slot) (mv : Int32), (mv = mvI bf ow 72) → Wl D A (wM ad cI cZ tc mv gn mb tp ow pl cn sz bf) s H locs → lv_has ls 5 [(0, .ref (ad 0)), (1, .int x1), (2, .int x2), (3, .int (nI 72))] → W p l e R s m args below meth c H locs cells slots Q (F0 m 271 ls [])) : ∀ (n i : Nat), i ≤ 72 → 72 < i + n → ∀ (H : Heap) (locs : List Loc) (ls : Array Slot) (mv : Int32), (mv = mvI bf ow i) → Wl D A (wM ad cI cZ tc mv gn mb tp ow pl cn sz bf) s H locs → lv_has ls 5 [(0, .ref (ad 0)), (1, .int x1), (2, .int x2), (3, .int (nI i))] → W p l e R s m args below meth c H locs cells slots Q (F0 m 234 ls []) := by
  obtain ⟨hx, hb, hml, hown, hts⟩ := id C0
  intro n
  induction n with
  | zero => intro i h1 h2; exact absurd h2 (by omega)
  | succ n ih =>
    intro i hi hin H locs ls mv ev hw hl
    obtain ⟨hP, hD, hS⟩ := hw
    refine lv_iload_n hx hb dX2_dealt_234 rfl (lv_at hl 3 rfl) ?_
    refine lv_bipush (v := nI 72) hx hb dX2_dealt_235 (by decide) ?_
    refine lv_icmp_ge (tgt := 271) hx hb dX2_dealt_237 (by decide) (fun c237 => ?_) (fun c237 => ?_)
    · obtain rfl : i = 72 := by have h9 := lp_ge (by decide) (by omega) c237; omega
      exact hk H locs ls mv (ev) ⟨hP, hD, hS⟩ (lv_sub hl [0, 1, 2, 3] rfl)
    · have hlt : i < 72 := lp_lt (by omega) c237
      refine lv_aload_n hx hb dX2_dealt_240 rfl (lv_at hl 0 rfl) ?_
      refine va_get (D := D) (ci := 2) (v := .ref (ad 4)) (C := RX2) (T := TX2) (N := 10) hx hb hts in_X2 hown hK hP 0 rfl rfl 3 (by decide) (hts _ q147) (fun _ h9 => h9) rfl dX2_dealt_241 ?_
      refine lv_iload_n hx hb dX2_dealt_244 rfl (lv_at hl 3 rfl) ?_
      refine g_iald hx hb hK hP 4 0 rfl rfl i (rfl) (by omega) (by decide) dX2_dealt_245 ?_
      refine lv_aload_n hx hb dX2_dealt_246 rfl (lv_at hl 0 rfl) ?_
      refine va_get (D := D) (ci := 2) (v := .ref (ad 5)) (C := RX2) (T := TX2) (N := 10) hx hb hts in_X2 hown hK hP 0 rfl rfl 4 (by decide) (hts _ q148) (fun _ h9 => h9) rfl dX2_dealt_247 ?_
      refine lv_iload_n hx hb dX2_dealt_250 rfl (lv_at hl 3 rfl) ?_
      refine g_iald hx hb hK hP 5 0 rfl rfl i (rfl) (by omega) (by decide) dX2_dealt_251 ?_
      refine lv_icmp_eq (tgt := 265) hx hb dX2_dealt_252 (by decide) (fun c252 => ?_) (fun c252 => ?_)
      · refine lv_iinc (v := nI (i + 1)) (lv' := [(3, .int (nI (i + 1))), (0, .ref (ad 0)), (1, .int x1), (2, .int x2)]) hx hb dX2_dealt_265 hl (k := 3) rfl (nI_inc _) (by decide) rfl (fun ls hl => ?_)
        refine lv_goto (tgt := 234) hx hb dX2_dealt_268 (by decide) ?_
        exact ih (i + 1) (by omega) (by omega) H locs ls mv (by first | exact mv_0 ev c252.symm | exact mv_1 ev (fun z => c252 z.symm)) ⟨hP, hD, hS⟩ (lv_sub hl [1, 2, 3, 0] rfl)
      · refine lv_aload_n hx hb dX2_dealt_255 rfl (lv_at hl 0 rfl) ?_
        refine lv_dup hx hb dX2_dealt_256 rfl ?_
        refine va_get (D := D) (ci := 2) (v := .int mv) (C := RX2) (T := TX2) (N := 10) hx hb hts in_X2 hown hK hP 0 rfl rfl 9 (by decide) (hts _ q153) (fun _ h9 => h9) rfl dX2_dealt_257 ?_
        refine lv_iconst (v := 1) hx hb dX2_dealt_260 (by decide) ?_
        refine lv_iadd hx hb dX2_dealt_261 ?_
        refine va_put (D := D) (ci := 2) (v := .int (mv + 1)) (ty := .int) (C := RX2) (T := TX2) (N := 10) hx hb hts in_X2 tyX2 tyX2_ok nmX2 hown hK hP hD hS 0 rfl rfl 9 (by decide) (hts _ q153) (fun _ h9 => h9) rfl (by decide +kernel) rfl rfl (Nat.le_of_ble_eq_true rfl) dX2_dealt_262 (fun H locs hP hD hS => ?_)
        have hP : va_P D vwCl (wM ad cI cZ tc (mv + 1) gn mb tp ow pl cn sz bf) H := hP
        have hD : va_D A (wM ad cI cZ tc (mv + 1) gn mb tp ow pl cn sz bf) := hD
        refine lv_iinc (v := nI (i + 1)) (lv' := [(3, .int (nI (i + 1))), (0, .ref (ad 0)), (1, .int x1), (2, .int x2)]) hx hb dX2_dealt_265 hl (k := 3) rfl (nI_inc _) (by decide) rfl (fun ls hl => ?_)
        refine lv_goto (tgt := 234) hx hb dX2_dealt_268 (by decide) ?_
        exact ih (i + 1) (by omega) (by omega) H locs ls (mv + 1) (by first | exact mv_0 ev c252.symm | exact mv_1 ev (fun z => c252 z.symm)) ⟨hP, hD, hS⟩ (lv_sub hl [1, 2, 3, 0] rfl)
set_option maxHeartbeats 4000000 in
set_option maxRecDepth 100000 in
theorem metX2_dealt (l : Launch) (D : va_G) (ad : Nat → Nat) (cI cZ : ClassId) (tc mv gn : Int32) (mb tp ow pl cn sz bf : FF) (sz0 : Nat) (hwf : WF tc mb tp ow sz) : Met l yX2_dealt (ws_ yX2_dealt cX2_dealt 5 (some .int)) ({ frames := 2, cells := 0, slots := 0, locals := 43 }) (PcM D (tyIZ cI cZ) (wM ad cI cZ tc mv gn mb tp ow pl cn sz bf) sz0 [.ref (ad 0)]) (va_Qi (fun (r : Int32) (u : US) => r = gn + 1 ∧ u = dealU tc gn mb tp ow pl sz) (BM D ad cI cZ (va_A (wM ad cI cZ tc mv gn mb tp ow pl cn sz bf) sz0)) (va_A (wM ad cI cZ tc mv gn mb tp ow pl cn sz bf) sz0)) 0 0 (va_A (wM ad cI cZ tc mv gn mb tp ow pl cn sz bf) sz0) := by
  refine Met.ofW (cc := cX2_dealt) (maxL := 5) (ret := (some .int)) (by decide) rfl ?_
  intro p e s m args below meth c s₁ B hml hv
  obtain ⟨rfl, hsz, hP, hK, hD0⟩ := hv
  have hx := B.exec
  have hb := B.bytes
  have hr := B.returns
  have hts := atoms_spec (ws := (ws_ yX2_dealt cX2_dealt 5 (some .int))) B.pre
  have hts : ∀ w ∈ lw_all, w.before _ s = true := fun w h => hts w (List.mem_cons_of_mem _ h)
  have hown : s.vm.findClass RX2 = some m.cls := findClass_of_methodNamed B.named
  have hlocks := B.notSynchronized
  subst hsz
  have hD := hD0.self (sz := s.heap.size)
  generalize hAe : va_A (wM ad cI cZ tc mv gn mb tp ow pl cn sz bf) s.heap.size = A at hD ⊢
  have hA : ∀ q : Nat, s.heap.size ≤ q → A q := fun q h => by rw [← hAe]; exact Or.inr h
  have hS : va_S A s.heap s.heap [] := va_S.rf
  have hP : va_P D vwCl (wM ad cI cZ tc mv gn mb tp ow pl cn sz bf) s.heap := hP
  have hl := lv_entry ([.ref (ad 0)]) (n := 5) (Nat.le_of_ble_eq_true rfl)
  rw [lg_entry_eq]
  generalize (lg_sl ([.ref (ad 0)]) ++ List.replicate (5 - (lg_sl ([.ref (ad 0)])).length) Slot.unset).toArray = ls at hl ⊢
  have hl : lv_has ls 5 [(0, .ref (ad 0))] := hl
  refine lv_aload_n hx hb dX2_dealt_0 rfl (lv_at hl 0 rfl) ?_
  refine lv_dup hx hb dX2_dealt_1 rfl ?_
  refine va_get (D := D) (ci := 2) (v := .int gn) (C := RX2) (T := TX2) (N := 10) hx hb hts in_X2 hown hK hP 0 rfl rfl 8 (by decide) (hts _ q152) (fun _ h9 => h9) rfl dX2_dealt_2 ?_
  refine lv_iconst (v := 1) hx hb dX2_dealt_5 (by decide) ?_
  refine lv_iadd hx hb dX2_dealt_6 ?_
  refine va_put (D := D) (ci := 2) (v := .int (gn + 1)) (ty := .int) (C := RX2) (T := TX2) (N := 10) hx hb hts in_X2 tyX2 tyX2_ok nmX2 hown hK hP hD hS 0 rfl rfl 8 (by decide) (hts _ q152) (fun _ h9 => h9) rfl (by decide +kernel) rfl rfl (Nat.le_of_ble_eq_true rfl) dX2_dealt_7 (fun H locs hP hD hS => ?_)
  have hP : va_P D vwCl (wM ad cI cZ tc mv (gn + 1) mb tp ow pl cn sz bf) H := hP
  have hD : va_D A (wM ad cI cZ tc mv (gn + 1) mb tp ow pl cn sz bf) := hD
  refine lv_iconst (v := 0) hx hb dX2_dealt_10 (by decide) ?_
  refine lv_istore_n (lv' := [(1, .int 0), (0, .ref (ad 0))]) hx hb dX2_dealt_11 rfl hl (by decide) rfl (fun ls hl => ?_)
  refine lv_iconst (v := 0) hx hb dX2_dealt_12 (by decide) ?_
  refine lv_istore_n (lv' := [(2, .int 0), (1, .int 0), (0, .ref (ad 0))]) hx hb dX2_dealt_13 rfl hl (by decide) rfl (fun ls hl => ?_)
  refine lv_iconst (v := nI 0) hx hb dX2_dealt_14 (by decide) ?_
  refine lv_istore_n (lv' := [(3, .int (nI 0)), (2, .int 0), (1, .int 0), (0, .ref (ad 0))]) hx hb dX2_dealt_15 rfl hl (by decide) rfl (fun ls hl => ?_)
  refine L_dealt_16 ⟨hx, hb, hml, hown, hts⟩ hK (fun H locs ls x1 cn1 e1 hz hw hl => ?_) 9 0 (by decide) (by decide) _ _ ls _ _ rfl (fun j h => absurd h (by omega)) ⟨hP, hD, hS⟩ (lv_sub hl [3, 2, 1, 0] rfl)
  obtain ⟨hP, hD, hS⟩ := hw
  have hP := g_ext (g := fun _ => 0) hP 7 rfl (hz)
  have hD := hD.set (p := 7) (e := .inl (cI, 8, .inl (fun _ => 0))) rfl
  have hP : va_P D vwCl (wM ad cI cZ tc mv (gn + 1) mb tp ow pl (fun _ => 0) sz bf) _ := hP
  have hD : va_D A (wM ad cI cZ tc mv (gn + 1) mb tp ow pl (fun _ => 0) sz bf) := hD
  refine lv_iconst (v := nI 0) hx hb dX2_dealt_47 (by decide) ?_
  refine lv_istore_n (lv' := [(3, .int (nI 0)), (0, .ref (ad 0)), (1, .int x1), (2, .int 0)]) hx hb dX2_dealt_48 rfl hl (by decide) rfl (fun ls hl => ?_)
  refine L_dealt_49 ⟨hx, hb, hml, hown, hts⟩ hK ⟨Nat.le_of_ble_eq_true rfl, Nat.le_of_ble_eq_true rfl⟩ ⟨Nat.zero_le _, Nat.zero_le _⟩ x1 hwf.1 (fun H locs ls x2 bf1 e2 hz hw hl => ?_) 73 0 (by decide) (by decide) _ _ ls _ _ rfl (fun j h => absurd h (by omega)) ⟨hP, hD, hS⟩ (lv_sub hl [1, 2, 3, 0] rfl)
  obtain ⟨hP, hD, hS⟩ := hw
  have hP := g_ext (g := ow) hP 5 rfl (hz)
  have hD := hD.set (p := 5) (e := .inl (cI, 72, .inl ow)) rfl
  have hP : va_P D vwCl (wM ad cI cZ tc mv (gn + 1) mb tp ow pl (fun _ => 0) sz ow) _ := hP
  have hD : va_D A (wM ad cI cZ tc mv (gn + 1) mb tp ow pl (fun _ => 0) sz ow) := hD
  refine lv_iconst (v := nI 0) hx hb dX2_dealt_84 (by decide) ?_
  refine lv_istore_n (lv' := [(3, .int (nI 0)), (0, .ref (ad 0)), (1, .int x1), (2, .int x2)]) hx hb dX2_dealt_85 rfl hl (by decide) rfl (fun ls hl => ?_)
  refine L_dealt_86 ⟨hx, hb, hml, hown, hts⟩ hK ⟨Nat.le_of_ble_eq_true rfl, Nat.le_of_ble_eq_true rfl⟩ ⟨Nat.zero_le _, Nat.zero_le _⟩ x1 x2 hwf.1 hwf.2.2.2.2.1 e1 (fun H locs ls q hq hw hl => ?_) 73 0 (by decide) (by decide) _ _ ls (ow, fun _ => 0) rfl ⟨hP, hD, hS⟩ (lv_sub hl [1, 2, 3, 0] rfl)
  obtain ⟨hP, hD, hS⟩ := hw
  have eq1 : q = keptM tp sz mb ow := by rw [hq, e1, e2]
  refine lv_iconst (v := nI 0) hx hb dX2_dealt_164 (by decide) ?_
  refine lv_istore_n (lv' := [(3, .int (nI 0)), (0, .ref (ad 0)), (1, .int x1), (2, .int x2)]) hx hb dX2_dealt_165 rfl hl (by decide) rfl (fun ls hl => ?_)
  by_cases hpos : x1 ≤ 0
  · have efo : q.1 = dealM tp sz mb ow := by rw [dealM, if_pos (by rw [← e1]; exact hpos), eq1]
    refine lv_iload_n hx hb dX2_dealt_166 rfl (lv_at hl 0 rfl) ?_
    refine lv_bipush (v := nI 72) hx hb dX2_dealt_167 (by decide) ?_
    refine lv_icmp_ge (tgt := 227) hx hb dX2_dealt_169 (by decide) (fun c169 => ?_) (fun c169 => ?_)
    · exact absurd c169 (by decide)
    · refine lv_iload_n hx hb dX2_dealt_172 rfl (lv_at hl 2 rfl) ?_
      refine lv_if_le (tgt := 227) hx hb dX2_dealt_173 (by decide) (fun c173 => ?_) (fun c173 => ?_)
      · have hP := g_ext (g := dealO tp sz mb ow) hP 4 rfl (fun k hk => by rw [efo]; exact deal_eq hwf.2.1 hwf.2.2.2.2.1 hwf.2.2.2.2.2 k hk)
        have hD := hD.set (p := 4) (e := .inl (cI, 72, .inl (dealO tp sz mb ow))) rfl
        have hP : va_P D vwCl (wM ad cI cZ tc mv (gn + 1) mb tp (dealO tp sz mb ow) pl q.2 sz ow) _ := hP
        have hD : va_D A (wM ad cI cZ tc mv (gn + 1) mb tp (dealO tp sz mb ow) pl q.2 sz ow) := hD
        refine lv_aload_n hx hb dX2_dealt_227 rfl (lv_at hl 1 rfl) ?_
        refine lv_iconst (v := 0) hx hb dX2_dealt_228 (by decide) ?_
        refine va_put (D := D) (ci := 2) (v := .int 0) (ty := .int) (C := RX2) (T := TX2) (N := 10) hx hb hts in_X2 tyX2 tyX2_ok nmX2 hown hK hP hD hS 0 rfl rfl 9 (by decide) (hts _ q153) (fun _ h9 => h9) rfl (by decide +kernel) rfl rfl (Nat.le_of_ble_eq_true rfl) dX2_dealt_229 (fun H locs hP hD hS => ?_)
        have hP : va_P D vwCl (wM ad cI cZ tc 0 (gn + 1) mb tp (dealO tp sz mb ow) pl q.2 sz ow) H := hP
        have hD : va_D A (wM ad cI cZ tc 0 (gn + 1) mb tp (dealO tp sz mb ow) pl q.2 sz ow) := hD
        refine lv_iconst (v := nI 0) hx hb dX2_dealt_232 (by decide) ?_
        refine lv_istore_n (lv' := [(3, .int (nI 0)), (0, .ref (ad 0)), (1, .int x1), (2, .int x2)]) hx hb dX2_dealt_233 rfl hl (by decide) rfl (fun ls hl => ?_)
        refine L_dealt_234 ⟨hx, hb, hml, hown, hts⟩ hK x1 x2 (fun H locs ls mv1 ev hw hl => ?_) 73 0 (by decide) (by decide) _ _ ls _ rfl ⟨hP, hD, hS⟩ (lv_sub hl [1, 2, 3, 0] rfl)
        obtain ⟨hP, hD, hS⟩ := hw
        subst ev
        refine lv_aload_n hx hb dX2_dealt_271 rfl (lv_at hl 0 rfl) ?_
        refine va_get (D := D) (ci := 2) (v := .int (gn + 1)) (C := RX2) (T := TX2) (N := 10) hx hb hts in_X2 hown hK hP 0 rfl rfl 8 (by decide) (hts _ q152) (fun _ h9 => h9) rfl dX2_dealt_272 ?_
        exact W.iret (v := gn + 1) hx hb hr (fun t0 h0t hW => ⟨⟨gn + 1, dealU tc gn mb tp ow pl sz, rfl, ⟨rfl, rfl⟩, q.2, ow, by rw [h0t]; exact hP, va_K.moved hW.alike hK, hD⟩, hS.F h0t⟩) hS.2.2 dX2_dealt_275
      · exact absurd hpos c173
  · have hm0 : ¬ memI mb 8 = 0 := fun z => hpos (by rw [e1, z]; decide)
    refine L_dealt_166 ⟨hx, hb, hml, hown, hts⟩ hK ⟨Nat.le_of_ble_eq_true rfl, Nat.le_of_ble_eq_true rfl⟩ ⟨Nat.zero_le _, Nat.zero_le _⟩ x1 x2 q hwf.1 hpos (memI_ex hm0) (fun H locs ls q1 hq1 hw hl => ?_) 73 0 (by decide) (by decide) _ _ ls q rfl ⟨hP, hD, hS⟩ (lv_sub hl [1, 2, 3, 0] rfl)
    obtain ⟨hP, hD, hS⟩ := hw
    have efo : q1.1 = dealM tp sz mb ow := by rw [dealM, if_neg (by rw [← e1]; exact hpos), hq1, eq1]
    have hP := g_ext (g := dealO tp sz mb ow) hP 4 rfl (fun k hk => by rw [efo]; exact deal_eq hwf.2.1 hwf.2.2.2.2.1 hwf.2.2.2.2.2 k hk)
    have hD := hD.set (p := 4) (e := .inl (cI, 72, .inl (dealO tp sz mb ow))) rfl
    have hP : va_P D vwCl (wM ad cI cZ tc mv (gn + 1) mb tp (dealO tp sz mb ow) pl q1.2 sz ow) _ := hP
    have hD : va_D A (wM ad cI cZ tc mv (gn + 1) mb tp (dealO tp sz mb ow) pl q1.2 sz ow) := hD
    refine lv_aload_n hx hb dX2_dealt_227 rfl (lv_at hl 0 rfl) ?_
    refine lv_iconst (v := 0) hx hb dX2_dealt_228 (by decide) ?_
    refine va_put (D := D) (ci := 2) (v := .int 0) (ty := .int) (C := RX2) (T := TX2) (N := 10) hx hb hts in_X2 tyX2 tyX2_ok nmX2 hown hK hP hD hS 0 rfl rfl 9 (by decide) (hts _ q153) (fun _ h9 => h9) rfl (by decide +kernel) rfl rfl (Nat.le_of_ble_eq_true rfl) dX2_dealt_229 (fun H locs hP hD hS => ?_)
    have hP : va_P D vwCl (wM ad cI cZ tc 0 (gn + 1) mb tp (dealO tp sz mb ow) pl q1.2 sz ow) H := hP
    have hD : va_D A (wM ad cI cZ tc 0 (gn + 1) mb tp (dealO tp sz mb ow) pl q1.2 sz ow) := hD
    refine lv_iconst (v := nI 0) hx hb dX2_dealt_232 (by decide) ?_
    refine lv_istore_n (lv' := [(3, .int (nI 0)), (0, .ref (ad 0)), (1, .int x1), (2, .int x2)]) hx hb dX2_dealt_233 rfl hl (by decide) rfl (fun ls hl => ?_)
    refine L_dealt_234 ⟨hx, hb, hml, hown, hts⟩ hK x1 x2 (fun H locs ls mv1 ev hw hl => ?_) 73 0 (by decide) (by decide) _ _ ls _ rfl ⟨hP, hD, hS⟩ (lv_sub hl [1, 2, 3, 0] rfl)
    obtain ⟨hP, hD, hS⟩ := hw
    subst ev
    refine lv_aload_n hx hb dX2_dealt_271 rfl (lv_at hl 0 rfl) ?_
    refine va_get (D := D) (ci := 2) (v := .int (gn + 1)) (C := RX2) (T := TX2) (N := 10) hx hb hts in_X2 hown hK hP 0 rfl rfl 8 (by decide) (hts _ q152) (fun _ h9 => h9) rfl dX2_dealt_272 ?_
    exact W.iret (v := gn + 1) hx hb hr (fun t0 h0t hW => ⟨⟨gn + 1, dealU tc gn mb tp ow pl sz, rfl, ⟨rfl, rfl⟩, q1.2, ow, by rw [h0t]; exact hP, va_K.moved hW.alike hK, hD⟩, hS.F h0t⟩) hS.2.2 dX2_dealt_275
set_option maxHeartbeats 4000000 in
set_option maxRecDepth 100000 in
theorem metX2_subscribe (l : Launch) (D : va_G) (ad : Nat → Nat) (cI cZ : ClassId) (tc mv gn : Int32) (mb tp ow pl cn sz bf : FF) (sz0 : Nat) (xt : Int32) (hwf : WF tc mb tp ow sz) : Met l yX2_subscribe (ws_ yX2_subscribe cX2_subscribe 2 (some .int)) ({ frames := 3, cells := 0, slots := 0, locals := 67 }) (PcM D (tyIZ cI cZ) (wM ad cI cZ tc mv gn mb tp ow pl cn sz bf) sz0 [.ref (ad 0), .int xt]) (va_Qi (fun (r : Int32) (u : US) => subP xt tc mv gn mb tp ow pl sz r u) (BM D ad cI cZ (va_A (wM ad cI cZ tc mv gn mb tp ow pl cn sz bf) sz0)) (va_A (wM ad cI cZ tc mv gn mb tp ow pl cn sz bf) sz0)) 0 0 (va_A (wM ad cI cZ tc mv gn mb tp ow pl cn sz bf) sz0) := by
  refine Met.ofW (cc := cX2_subscribe) (maxL := 2) (ret := (some .int)) (by decide) rfl ?_
  intro p e s m args below meth c s₁ B hml hv
  obtain ⟨rfl, hsz, hP, hK, hD0⟩ := hv
  have hx := B.exec
  have hb := B.bytes
  have hr := B.returns
  have hts := atoms_spec (ws := (ws_ yX2_subscribe cX2_subscribe 2 (some .int))) B.pre
  have hts : ∀ w ∈ lw_all, w.before _ s = true := fun w h => hts w (List.mem_cons_of_mem _ h)
  have hown : s.vm.findClass RX2 = some m.cls := findClass_of_methodNamed B.named
  have hlocks := B.notSynchronized
  subst hsz
  have hD := hD0.self (sz := s.heap.size)
  generalize hAe : va_A (wM ad cI cZ tc mv gn mb tp ow pl cn sz bf) s.heap.size = A at hD ⊢
  have hA : ∀ q : Nat, s.heap.size ≤ q → A q := fun q h => by rw [← hAe]; exact Or.inr h
  have hS : va_S A s.heap s.heap [] := va_S.rf
  have hP : va_P D vwCl (wM ad cI cZ tc mv gn mb tp ow pl cn sz bf) s.heap := hP
  have hl := lv_entry ([.ref (ad 0), .int xt]) (n := 2) (Nat.le_of_ble_eq_true rfl)
  rw [lg_entry_eq]
  generalize (lg_sl ([.ref (ad 0), .int xt]) ++ List.replicate (2 - (lg_sl ([.ref (ad 0), .int xt])).length) Slot.unset).toArray = ls at hl ⊢
  have hl : lv_has ls 2 [(0, .ref (ad 0)), (1, .int xt)] := hl
  refine lv_iload_n hx hb dX2_subscribe_0 rfl (lv_at hl 1 rfl) ?_
  refine lv_iconst (v := 1) hx hb dX2_subscribe_1 (by decide) ?_
  refine lv_icmp_lt (tgt := 22) hx hb dX2_subscribe_2 (by decide) (fun c2 => ?_) (fun c2 => ?_)
  · refine lv_iconst (v := (-1)) hx hb dX2_subscribe_22 (by decide) ?_
    exact W.iret (v := (-1)) hx hb hr (fun t0 h0t hW => ⟨⟨(-1), (tc, mv, gn, mb, tp, ow, pl, sz), rfl, Or.inl ⟨by first | exact Or.inl c2 | exact Or.inr (Or.inl c10) | exact Or.inr (Or.inr c19), rfl, rfl⟩, cn, bf, by rw [h0t]; exact hP, va_K.moved hW.alike hK, hD⟩, hS.F h0t⟩) hS.2.2 dX2_subscribe_23
  · refine lv_iload_n hx hb dX2_subscribe_5 rfl (lv_at hl 1 rfl) ?_
    refine lv_aload_n hx hb dX2_subscribe_6 rfl (lv_at hl 0 rfl) ?_
    refine va_get (D := D) (ci := 2) (v := .int tc) (C := RX2) (T := TX2) (N := 10) hx hb hts in_X2 hown hK hP 0 rfl rfl 7 (by decide) (hts _ q151) (fun _ h9 => h9) rfl dX2_subscribe_7 ?_
    refine lv_icmp_gt (tgt := 22) hx hb dX2_subscribe_10 (by decide) (fun c10 => ?_) (fun c10 => ?_)
    · refine lv_iconst (v := (-1)) hx hb dX2_subscribe_22 (by decide) ?_
      exact W.iret (v := (-1)) hx hb hr (fun t0 h0t hW => ⟨⟨(-1), (tc, mv, gn, mb, tp, ow, pl, sz), rfl, Or.inl ⟨by first | exact Or.inl c2 | exact Or.inr (Or.inl c10) | exact Or.inr (Or.inr c19), rfl, rfl⟩, cn, bf, by rw [h0t]; exact hP, va_K.moved hW.alike hK, hD⟩, hS.F h0t⟩) hS.2.2 dX2_subscribe_23
    · refine lv_aload_n hx hb dX2_subscribe_13 rfl (lv_at hl 0 rfl) ?_
      refine va_get (D := D) (ci := 2) (v := .ref (ad 2)) (C := RX2) (T := TX2) (N := 10) hx hb hts in_X2 hown hK hP 0 rfl rfl 1 (by decide) (hts _ q145) (fun _ h9 => h9) rfl dX2_subscribe_14 ?_
      refine lv_iload_n hx hb dX2_subscribe_17 rfl (lv_at hl 1 rfl) ?_
      refine va_zald hx hb hK hP 2 1 rfl rfl (in_t hwf.1 c2 c10) dX2_subscribe_18 ?_
      refine lv_if_eq (tgt := 24) hx hb dX2_subscribe_19 (by decide) (fun c19 => ?_) (fun c19 => ?_)
      · refine lv_aload_n hx hb dX2_subscribe_24 rfl (lv_at hl 0 rfl) ?_
        refine va_get (D := D) (ci := 2) (v := .ref (ad 2)) (C := RX2) (T := TX2) (N := 10) hx hb hts in_X2 hown hK hP 0 rfl rfl 1 (by decide) (hts _ q145) (fun _ h9 => h9) rfl dX2_subscribe_25 ?_
        refine lv_iload_n hx hb dX2_subscribe_28 rfl (lv_at hl 1 rfl) ?_
        refine lv_iconst (v := 1) hx hb dX2_subscribe_29 (by decide) ?_
        refine g_zastr hx hb hK hP hD hS 2 1 rfl rfl (in_t hwf.1 c2 c10) (rfl) dX2_subscribe_30 (fun H locs hP hD hS => ?_)
        have hP : va_P D vwCl (wM ad cI cZ tc mv gn mb (upd tp xt.toNatClampNeg 1) ow pl cn sz bf) H := hP
        have hD : va_D A (wM ad cI cZ tc mv gn mb (upd tp xt.toNatClampNeg 1) ow pl cn sz bf) := hD
        refine lv_aload_n hx hb dX2_subscribe_31 rfl (lv_at hl 0 rfl) ?_
        have hFc := va_free (wc := wM ad cI cZ tc mv gn mb (upd tp xt.toNatClampNeg 1) ow pl cn sz bf) hD hS hA [0, 1, 2, 3, 4, 5, 6, 7] rfl
        refine va_calli (va_runV (As := []) (rest := []) ⟨hx, hb, hml, hown, hts⟩ (metX2_dealt l D ad cI cZ tc mv gn mb (upd tp xt.toNatClampNeg 1) ow pl cn sz bf H.size (hwf.sub c2 c10)) (cwV 0 hts (lw_V q183 q185 qs5 q14 q186) rfl rfl rfl (by decide +kernel) ⟨Nat.le_of_ble_eq_true rfl, Nat.le_of_ble_eq_true rfl⟩) ⟨blM, va_recv hK hP (ci := 2) (q0 := 0) rfl rfl, prM hP hD hK⟩ rfl rfl hl.1 rfl (lv_room (Nat.le_of_ble_eq_true rfl)) dX2_subscribe_32 ⟨Nat.zero_le _, Nat.zero_le _⟩) hS (fun q _ h => hFc q h) hFc (fun r u t1 H1 locs h1t hvm hw hB hz1 hk1 hS => ?_)
        obtain ⟨cn1, bf1, hP1, hK1, hD1⟩ := hB
        rw [h1t] at hP1
        have hD1 := hD1.weaken (fun k q _ h => hFc q.1 h)
        generalize H1 = H at hP1 hS ⊢
        have hP : va_P D vwCl (wM ad cI cZ u.1 u.2.1 u.2.2.1 u.2.2.2.1 u.2.2.2.2.1 u.2.2.2.2.2.1 u.2.2.2.2.2.2.1 cn1 u.2.2.2.2.2.2.2 bf1) H := hP1
        have hD : va_D A (wM ad cI cZ u.1 u.2.1 u.2.2.1 u.2.2.2.1 u.2.2.2.2.1 u.2.2.2.2.2.1 u.2.2.2.2.2.2.1 cn1 u.2.2.2.2.2.2.2 bf1) := hD1
        exact W.iret (v := r) hx hb hr (fun t0 h0t hW => ⟨⟨r, u, rfl, Or.inr ⟨or3_no c2 c10 (fun z => z c19), hw.1, hw.2⟩, cn1, bf1, by rw [h0t]; exact hP, va_K.moved hW.alike hK, hD⟩, hS.F h0t⟩) hS.2.2 dX2_subscribe_35
      · refine lv_iconst (v := (-1)) hx hb dX2_subscribe_22 (by decide) ?_
        exact W.iret (v := (-1)) hx hb hr (fun t0 h0t hW => ⟨⟨(-1), (tc, mv, gn, mb, tp, ow, pl, sz), rfl, Or.inl ⟨by first | exact Or.inl c2 | exact Or.inr (Or.inl c10) | exact Or.inr (Or.inr c19), rfl, rfl⟩, cn, bf, by rw [h0t]; exact hP, va_K.moved hW.alike hK, hD⟩, hS.F h0t⟩) hS.2.2 dX2_subscribe_23
set_option maxHeartbeats 4000000 in
set_option maxRecDepth 100000 in
theorem metX2_enter (l : Launch) (D : va_G) (ad : Nat → Nat) (cI cZ : ClassId) (tc mv gn : Int32) (mb tp ow pl cn sz bf : FF) (sz0 : Nat) (xm : Int32) (hwf : WF tc mb tp ow sz) : Met l yX2_enter (ws_ yX2_enter cX2_enter 2 (some .int)) ({ frames := 3, cells := 0, slots := 0, locals := 67 }) (PcM D (tyIZ cI cZ) (wM ad cI cZ tc mv gn mb tp ow pl cn sz bf) sz0 [.ref (ad 0), .int xm]) (va_Qi (fun (r : Int32) (u : US) => chP 1 xm tc mv gn mb tp ow pl sz r u) (BM D ad cI cZ (va_A (wM ad cI cZ tc mv gn mb tp ow pl cn sz bf) sz0)) (va_A (wM ad cI cZ tc mv gn mb tp ow pl cn sz bf) sz0)) 0 0 (va_A (wM ad cI cZ tc mv gn mb tp ow pl cn sz bf) sz0) := by
  refine Met.ofW (cc := cX2_enter) (maxL := 2) (ret := (some .int)) (by decide) rfl ?_
  intro p e s m args below meth c s₁ B hml hv
  obtain ⟨rfl, hsz, hP, hK, hD0⟩ := hv
  have hx := B.exec
  have hb := B.bytes
  have hr := B.returns
  have hts := atoms_spec (ws := (ws_ yX2_enter cX2_enter 2 (some .int))) B.pre
  have hts : ∀ w ∈ lw_all, w.before _ s = true := fun w h => hts w (List.mem_cons_of_mem _ h)
  have hown : s.vm.findClass RX2 = some m.cls := findClass_of_methodNamed B.named
  have hlocks := B.notSynchronized
  subst hsz
  have hD := hD0.self (sz := s.heap.size)
  generalize hAe : va_A (wM ad cI cZ tc mv gn mb tp ow pl cn sz bf) s.heap.size = A at hD ⊢
  have hA : ∀ q : Nat, s.heap.size ≤ q → A q := fun q h => by rw [← hAe]; exact Or.inr h
  have hS : va_S A s.heap s.heap [] := va_S.rf
  have hP : va_P D vwCl (wM ad cI cZ tc mv gn mb tp ow pl cn sz bf) s.heap := hP
  have hl := lv_entry ([.ref (ad 0), .int xm]) (n := 2) (Nat.le_of_ble_eq_true rfl)
  rw [lg_entry_eq]
  generalize (lg_sl ([.ref (ad 0), .int xm]) ++ List.replicate (2 - (lg_sl ([.ref (ad 0), .int xm])).length) Slot.unset).toArray = ls at hl ⊢
  have hl : lv_has ls 2 [(0, .ref (ad 0)), (1, .int xm)] := hl
  refine lv_aload_n hx hb dX2_enter_0 rfl (lv_at hl 0 rfl) ?_
  refine lv_iload_n hx hb dX2_enter_1 rfl (lv_at hl 1 rfl) ?_
  refine vp_callSi (W.runV (As := [.int xm]) (rest := []) ⟨hx, hb, hml, hown, hts⟩ (metX2_isMember l (ad 0) xm) (cwV 1 hts (lw_V q207 q209 qs10 q14 q210) rfl rfl rfl (by decide +kernel) ⟨Nat.le_of_ble_eq_true rfl, Nat.le_of_ble_eq_true rfl⟩) ⟨fun _ _ _ _ q => q, va_recv hK hP (ci := 2) (q0 := 0) rfl rfl, fun U _ _ => ⟨rfl, trivial⟩⟩ rfl rfl hl.1 rfl (lv_room (Nat.le_of_ble_eq_true rfl)) dX2_enter_2 ⟨Nat.zero_le _, Nat.zero_le _⟩) (fun r1 hr1 => ?_)
  refine lv_if_eq (tgt := 17) hx hb dX2_enter_5 (by decide) (fun c5 => ?_) (fun c5 => ?_)
  · refine lv_iconst (v := (-1)) hx hb dX2_enter_17 (by decide) ?_
    exact W.iret (v := (-1)) hx hb hr (fun t0 h0t hW => ⟨⟨(-1), (tc, mv, gn, mb, tp, ow, pl, sz), rfl, Or.inl ⟨by first | exact (isMb_0 (m := xm) (by rw [← hr1]; exact c5)).elim Or.inl (fun z => Or.inr (Or.inl z)) | exact Or.inr (Or.inr (hb9.elim (fun z => absurd z c14) id)) | exact Or.inr (Or.inr c14), rfl, rfl⟩, cn, bf, by rw [h0t]; exact hP, va_K.moved hW.alike hK, hD⟩, hS.F h0t⟩) hS.2.2 dX2_enter_18
  · have hm9 := isMb_1 (m := xm) (by rw [← hr1]; exact c5)
    have hb9 : mb xm.toNatClampNeg = 0 ∨ mb xm.toNatClampNeg = 1 := by obtain ⟨j, hj, ej⟩ := ix_m hm9.1 hm9.2; rw [ej, nI_clamp (by omega)]; exact hwf.2.2.2.1 j hj
    refine lv_aload_n hx hb dX2_enter_8 rfl (lv_at hl 0 rfl) ?_
    refine va_get (D := D) (ci := 2) (v := .ref (ad 3)) (C := RX2) (T := TX2) (N := 10) hx hb hts in_X2 hown hK hP 0 rfl rfl 2 (by decide) (hts _ q146) (fun _ h9 => h9) rfl dX2_enter_9 ?_
    refine lv_iload_n hx hb dX2_enter_12 rfl (lv_at hl 1 rfl) ?_
    refine va_zald hx hb hK hP 3 1 rfl rfl (in_m hm9.1 hm9.2) dX2_enter_13 ?_
    refine lv_if_eq (tgt := 19) hx hb dX2_enter_14 (by decide) (fun c14 => ?_) (fun c14 => ?_)
    · refine lv_aload_n hx hb dX2_enter_19 rfl (lv_at hl 0 rfl) ?_
      refine va_get (D := D) (ci := 2) (v := .ref (ad 3)) (C := RX2) (T := TX2) (N := 10) hx hb hts in_X2 hown hK hP 0 rfl rfl 2 (by decide) (hts _ q146) (fun _ h9 => h9) rfl dX2_enter_20 ?_
      refine lv_iload_n hx hb dX2_enter_23 rfl (lv_at hl 1 rfl) ?_
      refine lv_iconst (v := 1) hx hb dX2_enter_24 (by decide) ?_
      refine g_zastr hx hb hK hP hD hS 3 1 rfl rfl (in_m hm9.1 hm9.2) (rfl) dX2_enter_25 (fun H locs hP hD hS => ?_)
      have hP : va_P D vwCl (wM ad cI cZ tc mv gn (upd mb xm.toNatClampNeg 1) tp ow pl cn sz bf) H := hP
      have hD : va_D A (wM ad cI cZ tc mv gn (upd mb xm.toNatClampNeg 1) tp ow pl cn sz bf) := hD
      refine lv_aload_n hx hb dX2_enter_26 rfl (lv_at hl 0 rfl) ?_
      have hFc := va_free (wc := wM ad cI cZ tc mv gn (upd mb xm.toNatClampNeg 1) tp ow pl cn sz bf) hD hS hA [0, 1, 2, 3, 4, 5, 6, 7] rfl
      refine va_calli (va_runV (As := []) (rest := []) ⟨hx, hb, hml, hown, hts⟩ (metX2_dealt l D ad cI cZ tc mv gn (upd mb xm.toNatClampNeg 1) tp ow pl cn sz bf H.size (hwf.mem (m := xm) (v := 1) (by decide))) (cwV 0 hts (lw_V q183 q185 qs5 q14 q186) rfl rfl rfl (by decide +kernel) ⟨Nat.le_of_ble_eq_true rfl, Nat.le_of_ble_eq_true rfl⟩) ⟨blM, va_recv hK hP (ci := 2) (q0 := 0) rfl rfl, prM hP hD hK⟩ rfl rfl hl.1 rfl (lv_room (Nat.le_of_ble_eq_true rfl)) dX2_enter_27 ⟨Nat.zero_le _, Nat.zero_le _⟩) hS (fun q _ h => hFc q h) hFc (fun r u t1 H1 locs h1t hvm hw hB hz1 hk1 hS => ?_)
      obtain ⟨cn1, bf1, hP1, hK1, hD1⟩ := hB
      rw [h1t] at hP1
      have hD1 := hD1.weaken (fun k q _ h => hFc q.1 h)
      generalize H1 = H at hP1 hS ⊢
      have hP : va_P D vwCl (wM ad cI cZ u.1 u.2.1 u.2.2.1 u.2.2.2.1 u.2.2.2.2.1 u.2.2.2.2.2.1 u.2.2.2.2.2.2.1 cn1 u.2.2.2.2.2.2.2 bf1) H := hP1
      have hD : va_D A (wM ad cI cZ u.1 u.2.1 u.2.2.1 u.2.2.2.1 u.2.2.2.2.1 u.2.2.2.2.2.1 u.2.2.2.2.2.2.1 cn1 u.2.2.2.2.2.2.2 bf1) := hD1
      exact W.iret (v := r) hx hb hr (fun t0 h0t hW => ⟨⟨r, u, rfl, Or.inr ⟨or3_no hm9.1 hm9.2 (by first | exact c14 | exact fun z => absurd (c14.symm.trans z) (by decide)), hw.1, hw.2⟩, cn1, bf1, by rw [h0t]; exact hP, va_K.moved hW.alike hK, hD⟩, hS.F h0t⟩) hS.2.2 dX2_enter_30
    · refine lv_iconst (v := (-1)) hx hb dX2_enter_17 (by decide) ?_
      exact W.iret (v := (-1)) hx hb hr (fun t0 h0t hW => ⟨⟨(-1), (tc, mv, gn, mb, tp, ow, pl, sz), rfl, Or.inl ⟨by first | exact (isMb_0 (m := xm) (by rw [← hr1]; exact c5)).elim Or.inl (fun z => Or.inr (Or.inl z)) | exact Or.inr (Or.inr (hb9.elim (fun z => absurd z c14) id)) | exact Or.inr (Or.inr c14), rfl, rfl⟩, cn, bf, by rw [h0t]; exact hP, va_K.moved hW.alike hK, hD⟩, hS.F h0t⟩) hS.2.2 dX2_enter_18
set_option maxHeartbeats 4000000 in
set_option maxRecDepth 100000 in
theorem metX2_leave (l : Launch) (D : va_G) (ad : Nat → Nat) (cI cZ : ClassId) (tc mv gn : Int32) (mb tp ow pl cn sz bf : FF) (sz0 : Nat) (xm : Int32) (hwf : WF tc mb tp ow sz) : Met l yX2_leave (ws_ yX2_leave cX2_leave 2 (some .int)) ({ frames := 3, cells := 0, slots := 0, locals := 67 }) (PcM D (tyIZ cI cZ) (wM ad cI cZ tc mv gn mb tp ow pl cn sz bf) sz0 [.ref (ad 0), .int xm]) (va_Qi (fun (r : Int32) (u : US) => chP 0 xm tc mv gn mb tp ow pl sz r u) (BM D ad cI cZ (va_A (wM ad cI cZ tc mv gn mb tp ow pl cn sz bf) sz0)) (va_A (wM ad cI cZ tc mv gn mb tp ow pl cn sz bf) sz0)) 0 0 (va_A (wM ad cI cZ tc mv gn mb tp ow pl cn sz bf) sz0) := by
  refine Met.ofW (cc := cX2_leave) (maxL := 2) (ret := (some .int)) (by decide) rfl ?_
  intro p e s m args below meth c s₁ B hml hv
  obtain ⟨rfl, hsz, hP, hK, hD0⟩ := hv
  have hx := B.exec
  have hb := B.bytes
  have hr := B.returns
  have hts := atoms_spec (ws := (ws_ yX2_leave cX2_leave 2 (some .int))) B.pre
  have hts : ∀ w ∈ lw_all, w.before _ s = true := fun w h => hts w (List.mem_cons_of_mem _ h)
  have hown : s.vm.findClass RX2 = some m.cls := findClass_of_methodNamed B.named
  have hlocks := B.notSynchronized
  subst hsz
  have hD := hD0.self (sz := s.heap.size)
  generalize hAe : va_A (wM ad cI cZ tc mv gn mb tp ow pl cn sz bf) s.heap.size = A at hD ⊢
  have hA : ∀ q : Nat, s.heap.size ≤ q → A q := fun q h => by rw [← hAe]; exact Or.inr h
  have hS : va_S A s.heap s.heap [] := va_S.rf
  have hP : va_P D vwCl (wM ad cI cZ tc mv gn mb tp ow pl cn sz bf) s.heap := hP
  have hl := lv_entry ([.ref (ad 0), .int xm]) (n := 2) (Nat.le_of_ble_eq_true rfl)
  rw [lg_entry_eq]
  generalize (lg_sl ([.ref (ad 0), .int xm]) ++ List.replicate (2 - (lg_sl ([.ref (ad 0), .int xm])).length) Slot.unset).toArray = ls at hl ⊢
  have hl : lv_has ls 2 [(0, .ref (ad 0)), (1, .int xm)] := hl
  refine lv_aload_n hx hb dX2_leave_0 rfl (lv_at hl 0 rfl) ?_
  refine lv_iload_n hx hb dX2_leave_1 rfl (lv_at hl 1 rfl) ?_
  refine vp_callSi (W.runV (As := [.int xm]) (rest := []) ⟨hx, hb, hml, hown, hts⟩ (metX2_isMember l (ad 0) xm) (cwV 1 hts (lw_V q207 q209 qs10 q14 q210) rfl rfl rfl (by decide +kernel) ⟨Nat.le_of_ble_eq_true rfl, Nat.le_of_ble_eq_true rfl⟩) ⟨fun _ _ _ _ q => q, va_recv hK hP (ci := 2) (q0 := 0) rfl rfl, fun U _ _ => ⟨rfl, trivial⟩⟩ rfl rfl hl.1 rfl (lv_room (Nat.le_of_ble_eq_true rfl)) dX2_leave_2 ⟨Nat.zero_le _, Nat.zero_le _⟩) (fun r1 hr1 => ?_)
  refine lv_if_eq (tgt := 17) hx hb dX2_leave_5 (by decide) (fun c5 => ?_) (fun c5 => ?_)
  · refine lv_iconst (v := (-1)) hx hb dX2_leave_17 (by decide) ?_
    exact W.iret (v := (-1)) hx hb hr (fun t0 h0t hW => ⟨⟨(-1), (tc, mv, gn, mb, tp, ow, pl, sz), rfl, Or.inl ⟨by first | exact (isMb_0 (m := xm) (by rw [← hr1]; exact c5)).elim Or.inl (fun z => Or.inr (Or.inl z)) | exact Or.inr (Or.inr (hb9.elim (fun z => absurd z c14) id)) | exact Or.inr (Or.inr c14), rfl, rfl⟩, cn, bf, by rw [h0t]; exact hP, va_K.moved hW.alike hK, hD⟩, hS.F h0t⟩) hS.2.2 dX2_leave_18
  · have hm9 := isMb_1 (m := xm) (by rw [← hr1]; exact c5)
    have hb9 : mb xm.toNatClampNeg = 0 ∨ mb xm.toNatClampNeg = 1 := by obtain ⟨j, hj, ej⟩ := ix_m hm9.1 hm9.2; rw [ej, nI_clamp (by omega)]; exact hwf.2.2.2.1 j hj
    refine lv_aload_n hx hb dX2_leave_8 rfl (lv_at hl 0 rfl) ?_
    refine va_get (D := D) (ci := 2) (v := .ref (ad 3)) (C := RX2) (T := TX2) (N := 10) hx hb hts in_X2 hown hK hP 0 rfl rfl 2 (by decide) (hts _ q146) (fun _ h9 => h9) rfl dX2_leave_9 ?_
    refine lv_iload_n hx hb dX2_leave_12 rfl (lv_at hl 1 rfl) ?_
    refine va_zald hx hb hK hP 3 1 rfl rfl (in_m hm9.1 hm9.2) dX2_leave_13 ?_
    refine lv_if_ne (tgt := 19) hx hb dX2_leave_14 (by decide) (fun c14 => ?_) (fun c14 => ?_)
    · refine lv_aload_n hx hb dX2_leave_19 rfl (lv_at hl 0 rfl) ?_
      refine va_get (D := D) (ci := 2) (v := .ref (ad 3)) (C := RX2) (T := TX2) (N := 10) hx hb hts in_X2 hown hK hP 0 rfl rfl 2 (by decide) (hts _ q146) (fun _ h9 => h9) rfl dX2_leave_20 ?_
      refine lv_iload_n hx hb dX2_leave_23 rfl (lv_at hl 1 rfl) ?_
      refine lv_iconst (v := 0) hx hb dX2_leave_24 (by decide) ?_
      refine g_zastr hx hb hK hP hD hS 3 1 rfl rfl (in_m hm9.1 hm9.2) (rfl) dX2_leave_25 (fun H locs hP hD hS => ?_)
      have hP : va_P D vwCl (wM ad cI cZ tc mv gn (upd mb xm.toNatClampNeg 0) tp ow pl cn sz bf) H := hP
      have hD : va_D A (wM ad cI cZ tc mv gn (upd mb xm.toNatClampNeg 0) tp ow pl cn sz bf) := hD
      refine lv_aload_n hx hb dX2_leave_26 rfl (lv_at hl 0 rfl) ?_
      have hFc := va_free (wc := wM ad cI cZ tc mv gn (upd mb xm.toNatClampNeg 0) tp ow pl cn sz bf) hD hS hA [0, 1, 2, 3, 4, 5, 6, 7] rfl
      refine va_calli (va_runV (As := []) (rest := []) ⟨hx, hb, hml, hown, hts⟩ (metX2_dealt l D ad cI cZ tc mv gn (upd mb xm.toNatClampNeg 0) tp ow pl cn sz bf H.size (hwf.mem (m := xm) (v := 0) (by decide))) (cwV 0 hts (lw_V q183 q185 qs5 q14 q186) rfl rfl rfl (by decide +kernel) ⟨Nat.le_of_ble_eq_true rfl, Nat.le_of_ble_eq_true rfl⟩) ⟨blM, va_recv hK hP (ci := 2) (q0 := 0) rfl rfl, prM hP hD hK⟩ rfl rfl hl.1 rfl (lv_room (Nat.le_of_ble_eq_true rfl)) dX2_leave_27 ⟨Nat.zero_le _, Nat.zero_le _⟩) hS (fun q _ h => hFc q h) hFc (fun r u t1 H1 locs h1t hvm hw hB hz1 hk1 hS => ?_)
      obtain ⟨cn1, bf1, hP1, hK1, hD1⟩ := hB
      rw [h1t] at hP1
      have hD1 := hD1.weaken (fun k q _ h => hFc q.1 h)
      generalize H1 = H at hP1 hS ⊢
      have hP : va_P D vwCl (wM ad cI cZ u.1 u.2.1 u.2.2.1 u.2.2.2.1 u.2.2.2.2.1 u.2.2.2.2.2.1 u.2.2.2.2.2.2.1 cn1 u.2.2.2.2.2.2.2 bf1) H := hP1
      have hD : va_D A (wM ad cI cZ u.1 u.2.1 u.2.2.1 u.2.2.2.1 u.2.2.2.2.1 u.2.2.2.2.2.1 u.2.2.2.2.2.2.1 cn1 u.2.2.2.2.2.2.2 bf1) := hD1
      exact W.iret (v := r) hx hb hr (fun t0 h0t hW => ⟨⟨r, u, rfl, Or.inr ⟨or3_no hm9.1 hm9.2 (by first | exact c14 | exact fun z => absurd (c14.symm.trans z) (by decide)), hw.1, hw.2⟩, cn1, bf1, by rw [h0t]; exact hP, va_K.moved hW.alike hK, hD⟩, hS.F h0t⟩) hS.2.2 dX2_leave_30
    · refine lv_iconst (v := (-1)) hx hb dX2_leave_17 (by decide) ?_
      exact W.iret (v := (-1)) hx hb hr (fun t0 h0t hW => ⟨⟨(-1), (tc, mv, gn, mb, tp, ow, pl, sz), rfl, Or.inl ⟨by first | exact (isMb_0 (m := xm) (by rw [← hr1]; exact c5)).elim Or.inl (fun z => Or.inr (Or.inl z)) | exact Or.inr (Or.inr (hb9.elim (fun z => absurd z c14) id)) | exact Or.inr (Or.inr c14), rfl, rfl⟩, cn, bf, by rw [h0t]; exact hP, va_K.moved hW.alike hK, hD⟩, hS.F h0t⟩) hS.2.2 dX2_leave_18
set_option maxHeartbeats 4000000 in
set_option maxRecDepth 100000 in
theorem metX2_place (l : Launch) (D : va_G) (ad : Nat → Nat) (cI cZ : ClassId) (tc mv gn : Int32) (mb tp ow pl cn sz bf : FF) (sz0 : Nat) (xm xg xt xp xv : Int32) (hwf : WF tc mb tp ow sz) : Met l yX2_place (ws_ yX2_place cX2_place 6 (some .int)) ({ frames := 1, cells := 0, slots := 0, locals := 22 }) (PcM D (tyIZ cI cZ) (wM ad cI cZ tc mv gn mb tp ow pl cn sz bf) sz0 [.ref (ad 0), .int xm, .int xg, .int xt, .int xp, .int xv]) (va_Qi (fun (r : Int32) (u : US) => plP xm xg xt xp xv tc mv gn mb tp ow pl sz r u) (BM D ad cI cZ (va_A (wM ad cI cZ tc mv gn mb tp ow pl cn sz bf) sz0)) (va_A (wM ad cI cZ tc mv gn mb tp ow pl cn sz bf) sz0)) 0 0 (va_A (wM ad cI cZ tc mv gn mb tp ow pl cn sz bf) sz0) := by
  refine Met.ofW (cc := cX2_place) (maxL := 6) (ret := (some .int)) (by decide) rfl ?_
  intro p e s m args below meth c s₁ B hml hv
  obtain ⟨rfl, hsz, hP, hK, hD0⟩ := hv
  have hx := B.exec
  have hb := B.bytes
  have hr := B.returns
  have hts := atoms_spec (ws := (ws_ yX2_place cX2_place 6 (some .int))) B.pre
  have hts : ∀ w ∈ lw_all, w.before _ s = true := fun w h => hts w (List.mem_cons_of_mem _ h)
  have hown : s.vm.findClass RX2 = some m.cls := findClass_of_methodNamed B.named
  have hlocks := B.notSynchronized
  subst hsz
  have hD := hD0.self (sz := s.heap.size)
  generalize hAe : va_A (wM ad cI cZ tc mv gn mb tp ow pl cn sz bf) s.heap.size = A at hD ⊢
  have hA : ∀ q : Nat, s.heap.size ≤ q → A q := fun q h => by rw [← hAe]; exact Or.inr h
  have hS : va_S A s.heap s.heap [] := va_S.rf
  have hP : va_P D vwCl (wM ad cI cZ tc mv gn mb tp ow pl cn sz bf) s.heap := hP
  have hl := lv_entry ([.ref (ad 0), .int xm, .int xg, .int xt, .int xp, .int xv]) (n := 6) (Nat.le_of_ble_eq_true rfl)
  rw [lg_entry_eq]
  generalize (lg_sl ([.ref (ad 0), .int xm, .int xg, .int xt, .int xp, .int xv]) ++ List.replicate (6 - (lg_sl ([.ref (ad 0), .int xm, .int xg, .int xt, .int xp, .int xv])).length) Slot.unset).toArray = ls at hl ⊢
  have hl : lv_has ls 6 [(0, .ref (ad 0)), (1, .int xm), (2, .int xg), (3, .int xt), (4, .int xp), (5, .int xv)] := hl
  refine lv_aload_n hx hb dX2_place_0 rfl (lv_at hl 0 rfl) ?_
  refine lv_iload_n hx hb dX2_place_1 rfl (lv_at hl 1 rfl) ?_
  refine vp_callSi (W.runV (As := [.int xm]) (rest := []) ⟨hx, hb, hml, hown, hts⟩ (metX2_isMember l (ad 0) xm) (cwV 1 hts (lw_V q207 q209 qs10 q14 q210) rfl rfl rfl (by decide +kernel) ⟨Nat.le_of_ble_eq_true rfl, Nat.le_of_ble_eq_true rfl⟩) ⟨fun _ _ _ _ q => q, va_recv hK hP (ci := 2) (q0 := 0) rfl rfl, fun U _ _ => ⟨rfl, trivial⟩⟩ rfl rfl hl.1 rfl (lv_room (Nat.le_of_ble_eq_true rfl)) dX2_place_2 ⟨Nat.zero_le _, Nat.zero_le _⟩) (fun r1 hr1 => ?_)
  refine lv_if_eq (tgt := 23) hx hb dX2_place_5 (by decide) (fun c5 => ?_) (fun c5 => ?_)
  · refine lv_iconst (v := (-1)) hx hb dX2_place_23 (by decide) ?_
    exact W.iret (v := (-1)) hx hb hr (fun t0 h0t hW => ⟨⟨(-1), (tc, mv, gn, mb, tp, ow, pl, sz), rfl, Or.inl ⟨by first | exact Or.inr (Or.inr (Or.inr (Int32.not_le.mp c20))) | exact Or.inl (isPt_0 (by rw [← hr2]; exact c15)) | exact Or.inr ((isMb_0 (m := xm) (by rw [← hr1]; exact c5)).elim Or.inl (fun z => Or.inr (Or.inl z))), rfl, rfl⟩, cn, bf, by rw [h0t]; exact hP, va_K.moved hW.alike hK, hD⟩, hS.F h0t⟩) hS.2.2 dX2_place_24
  · have hm9 := isMb_1 (m := xm) (by rw [← hr1]; exact c5)
    refine lv_aload_n hx hb dX2_place_8 rfl (lv_at hl 0 rfl) ?_
    refine lv_iload_n hx hb dX2_place_9 rfl (lv_at hl 3 rfl) ?_
    refine lv_iload hx hb dX2_place_10 (lv_at hl 4 rfl) ?_
    refine vp_callSi (W.runV (As := [.int xt, .int xp]) (rest := []) ⟨hx, hb, hml, hown, hts⟩ (metX2_isPart l D ad cI cZ tc mv gn mb tp ow pl cn sz bf xt xp hwf.1) (cwV 2 hts (lw_V q191 q193 qs7 q14 q194) rfl rfl rfl (by decide +kernel) ⟨Nat.le_of_ble_eq_true rfl, Nat.le_of_ble_eq_true rfl⟩) ⟨blR, va_recv hK hP (ci := 2) (q0 := 0) rfl rfl, prR hP hK⟩ rfl rfl hl.1 rfl (lv_room (Nat.le_of_ble_eq_true rfl)) dX2_place_12 ⟨Nat.zero_le _, Nat.zero_le _⟩) (fun r2 hr2 => ?_)
    refine lv_if_eq (tgt := 23) hx hb dX2_place_15 (by decide) (fun c15 => ?_) (fun c15 => ?_)
    · refine lv_iconst (v := (-1)) hx hb dX2_place_23 (by decide) ?_
      exact W.iret (v := (-1)) hx hb hr (fun t0 h0t hW => ⟨⟨(-1), (tc, mv, gn, mb, tp, ow, pl, sz), rfl, Or.inl ⟨by first | exact Or.inr (Or.inr (Or.inr (Int32.not_le.mp c20))) | exact Or.inl (isPt_0 (by rw [← hr2]; exact c15)) | exact Or.inr ((isMb_0 (m := xm) (by rw [← hr1]; exact c5)).elim Or.inl (fun z => Or.inr (Or.inl z))), rfl, rfl⟩, cn, bf, by rw [h0t]; exact hP, va_K.moved hW.alike hK, hD⟩, hS.F h0t⟩) hS.2.2 dX2_place_24
    · have hnp : ¬ pcd tc sz xt xp := isPt_1 (by rw [← hr2]; exact c15)
      refine lv_iload hx hb dX2_place_18 (lv_at hl 5 rfl) ?_
      refine lv_if_ge (tgt := 25) hx hb dX2_place_20 (by decide) (fun c20 => ?_) (fun c20 => ?_)
      · have hc1 : ¬ (pcd tc sz xt xp ∨ xm < 0 ∨ 8 ≤ xm ∨ xv < 0) := or4_no hnp hm9.1 hm9.2 (Int32.not_lt.mpr c20)
        refine lv_iload_n hx hb dX2_place_25 rfl (lv_at hl 2 rfl) ?_
        refine lv_aload_n hx hb dX2_place_26 rfl (lv_at hl 0 rfl) ?_
        refine va_get (D := D) (ci := 2) (v := .int gn) (C := RX2) (T := TX2) (N := 10) hx hb hts in_X2 hown hK hP 0 rfl rfl 8 (by decide) (hts _ q152) (fun _ h9 => h9) rfl dX2_place_27 ?_
        refine lv_icmp_ne (tgt := 48) hx hb dX2_place_30 (by decide) (fun c30 => ?_) (fun c30 => ?_)
        · refine lv_bipush (v := (-2)) hx hb dX2_place_48 (by decide) ?_
          exact W.iret (v := (-2)) hx hb hr (fun t0 h0t hW => ⟨⟨(-2), (tc, mv, gn, mb, tp, ow, pl, sz), rfl, Or.inr (Or.inl ⟨hc1, by first | exact fun z => c30 z.1 | exact fun z => c45 z.2, rfl, rfl⟩), cn, bf, by rw [h0t]; exact hP, va_K.moved hW.alike hK, hD⟩, hS.F h0t⟩) hS.2.2 dX2_place_50
        · refine lv_aload_n hx hb dX2_place_33 rfl (lv_at hl 0 rfl) ?_
          refine va_get (D := D) (ci := 2) (v := .ref (ad 4)) (C := RX2) (T := TX2) (N := 10) hx hb hts in_X2 hown hK hP 0 rfl rfl 3 (by decide) (hts _ q147) (fun _ h9 => h9) rfl dX2_place_34 ?_
          refine lv_iload_n hx hb dX2_place_37 rfl (lv_at hl 3 rfl) ?_
          refine lv_iload hx hb dX2_place_38 (lv_at hl 4 rfl) ?_
          refine vp_callSi (W.runS (As := [.int xt, .int xp]) (rest := [.ref (ad 4)]) ⟨hx, hb, hml, hown, hts⟩ (metX2_at l xt xp) (va_cwS 2 hts (lw_S q223 q224 q14 q225) rfl rfl rfl (by decide +kernel) ⟨Nat.le_of_ble_eq_true rfl, Nat.le_of_ble_eq_true rfl⟩) ⟨fun _ _ _ _ q => q, fun U _ _ => ⟨rfl, trivial⟩⟩ rfl rfl hl.1 rfl (lv_room (Nat.le_of_ble_eq_true rfl)) dX2_place_40 ⟨Nat.zero_le _, Nat.zero_le _⟩) (fun r3 hr3 => ?_)
          refine g_top (y := (xt - 1) * 6 + xp) (hr3) ?_
          refine va_iald hx hb hK hP 4 0 rfl rfl (in_p hwf.1 hwf.2.1 hnp) dX2_place_43 ?_
          refine lv_iload_n hx hb dX2_place_44 rfl (lv_at hl 1 rfl) ?_
          refine lv_icmp_eq (tgt := 51) hx hb dX2_place_45 (by decide) (fun c45 => ?_) (fun c45 => ?_)
          · refine lv_aload_n hx hb dX2_place_51 rfl (lv_at hl 0 rfl) ?_
            refine va_get (D := D) (ci := 2) (v := .ref (ad 6)) (C := RX2) (T := TX2) (N := 10) hx hb hts in_X2 hown hK hP 0 rfl rfl 5 (by decide) (hts _ q149) (fun _ h9 => h9) rfl dX2_place_52 ?_
            refine lv_iload_n hx hb dX2_place_55 rfl (lv_at hl 3 rfl) ?_
            refine lv_iload hx hb dX2_place_56 (lv_at hl 4 rfl) ?_
            refine vp_callSi (W.runS (As := [.int xt, .int xp]) (rest := [.ref (ad 6)]) ⟨hx, hb, hml, hown, hts⟩ (metX2_at l xt xp) (va_cwS 2 hts (lw_S q223 q224 q14 q225) rfl rfl rfl (by decide +kernel) ⟨Nat.le_of_ble_eq_true rfl, Nat.le_of_ble_eq_true rfl⟩) ⟨fun _ _ _ _ q => q, fun U _ _ => ⟨rfl, trivial⟩⟩ rfl rfl hl.1 rfl (lv_room (Nat.le_of_ble_eq_true rfl)) dX2_place_58 ⟨Nat.zero_le _, Nat.zero_le _⟩) (fun r4 hr4 => ?_)
            refine g_top (y := (xt - 1) * 6 + xp) (hr4) ?_
            refine lv_iload hx hb dX2_place_61 (lv_at hl 5 rfl) ?_
            refine va_iast hx hb hK hP hD hS 6 0 rfl rfl (in_p hwf.1 hwf.2.1 hnp) dX2_place_63 (fun H locs hP hD hS => ?_)
            have hP : va_P D vwCl (wM ad cI cZ tc mv gn mb tp ow (upd pl ((xt - 1) * 6 + xp).toNatClampNeg xv) cn sz bf) H := hP
            have hD : va_D A (wM ad cI cZ tc mv gn mb tp ow (upd pl ((xt - 1) * 6 + xp).toNatClampNeg xv) cn sz bf) := hD
            refine lv_iconst (v := 0) hx hb dX2_place_64 (by decide) ?_
            exact W.iret (v := 0) hx hb hr (fun t0 h0t hW => ⟨⟨0, (tc, mv, gn, mb, tp, ow, upd pl ((xt - 1) * 6 + xp).toNatClampNeg xv, sz), rfl, Or.inr (Or.inr ⟨hc1, ⟨c30, c45⟩, rfl, rfl⟩), cn, bf, by rw [h0t]; exact hP, va_K.moved hW.alike hK, hD⟩, hS.F h0t⟩) hS.2.2 dX2_place_65
          · refine lv_bipush (v := (-2)) hx hb dX2_place_48 (by decide) ?_
            exact W.iret (v := (-2)) hx hb hr (fun t0 h0t hW => ⟨⟨(-2), (tc, mv, gn, mb, tp, ow, pl, sz), rfl, Or.inr (Or.inl ⟨hc1, by first | exact fun z => c30 z.1 | exact fun z => c45 z.2, rfl, rfl⟩), cn, bf, by rw [h0t]; exact hP, va_K.moved hW.alike hK, hD⟩, hS.F h0t⟩) hS.2.2 dX2_place_50
      · refine lv_iconst (v := (-1)) hx hb dX2_place_23 (by decide) ?_
        exact W.iret (v := (-1)) hx hb hr (fun t0 h0t hW => ⟨⟨(-1), (tc, mv, gn, mb, tp, ow, pl, sz), rfl, Or.inl ⟨by first | exact Or.inr (Or.inr (Or.inr (Int32.not_le.mp c20))) | exact Or.inl (isPt_0 (by rw [← hr2]; exact c15)) | exact Or.inr ((isMb_0 (m := xm) (by rw [← hr1]; exact c5)).elim Or.inl (fun z => Or.inr (Or.inl z))), rfl, rfl⟩, cn, bf, by rw [h0t]; exact hP, va_K.moved hW.alike hK, hD⟩, hS.F h0t⟩) hS.2.2 dX2_place_24
end GM
end
section
/-! INIT: the constructors -/
set_option maxRecDepth 100000
section GI
variable {p : Program} {l : Launch} {e : Env} {R : Room} {s : State} {m : MethodId} {args : Array Value} {below : List Frame} {meth : Method} {c : Code} {cells slots : Nat} {Q : State → Prop} {D : va_G} {A : Nat → Prop} {ad : Nat → Nat} {cI cZ : ClassId} {tc mv gn : Int32} {mb tp ow pl cn sz bf : FF}
set_option maxHeartbeats 4000000 in
set_option maxRecDepth 100000 in
theorem L_init1_46 (C0 : CallFix p m c cX1_init 2 s args lw_all RX1) (hK : va_K D vwCl (tyIZ cI cZ) s) (h q2 q3 q4 q5 q6 : Nat) (hk : ∀ (H : Heap) (locs : List Loc) (ls : Array Slot) (fo : FF) (fp : FF), (∀ j, j < 72 → fo j = -1) → (∀ j, j < 72 → fp j = -1) → Wl D A ([(h, .inr (1, [.ref q2, .ref q3, .int 0, .ref q4, .ref q5, .ref q6])), (q2, .inl (cZ, 8, .inl (fun _ => 0))), (q3, .inl (cZ, 13, .inl (fun _ => 0))), (q4, .inl (cI, 72, .inl fo)), (q5, .inl (cI, 72, .inl fp)), (q6, .inl (cI, 8, .inl (fun _ => 0)))]) s H locs → lv_has ls 2 [(0, .ref h), (1, .int (nI 72))] → W p l e R s m args below meth c H locs cells slots Q (F0 m 72 ls [])) : ∀ (n i : Nat), i ≤ 72 → 72 < i + n → ∀ (H : Heap) (locs : List Loc) (ls : Array Slot) (fo : FF) (fp : FF), (∀ j, j < i → fo j = -1) → (∀ j, j < i → fp j = -1) → Wl D A ([(h, .inr (1, [.ref q2, .ref q3, .int 0, .ref q4, .ref q5, .ref q6])), (q2, .inl (cZ, 8, .inl (fun _ => 0))), (q3, .inl (cZ, 13, .inl (fun _ => 0))), (q4, .inl (cI, 72, .inl fo)), (q5, .inl (cI, 72, .inl fp)), (q6, .inl (cI, 8, .inl (fun _ => 0)))]) s H locs → lv_has ls 2 [(0, .ref h), (1, .int (nI i))] → W p l e R s m args below meth c H locs cells slots Q (F0 m 46 ls []) := by
  obtain ⟨hx, hb, hml, hown, hts⟩ := id C0
  intro n
  induction n with
  | zero => intro i h1 h2; exact absurd h2 (by omega)
  | succ n ih =>
    intro i hi hin H locs ls fo fp h1 h2 hw hl
    obtain ⟨hP, hD, hS⟩ := hw
    refine lv_iload_n hx hb dX1_init_46 rfl (lv_at hl 1 rfl) ?_
    refine lv_bipush (v := nI 72) hx hb dX1_init_47 (by decide) ?_
    refine lv_icmp_ge (tgt := 72) hx hb dX1_init_49 (by decide) (fun c49 => ?_) (fun c49 => ?_)
    · obtain rfl : i = 72 := by have h9 := lp_ge (by decide) (by omega) c49; omega
      exact hk H locs ls fo fp (h1) (h2) ⟨hP, hD, hS⟩ (lv_sub hl [0, 1] rfl)
    · have hlt : i < 72 := lp_lt (by omega) c49
      refine lv_aload_n hx hb dX1_init_52 rfl (lv_at hl 0 rfl) ?_
      refine va_get (D := D) (ci := 1) (v := .ref q4) (C := RX1) (T := TX1) (N := 6) hx hb hts in_X1 hown hK hP 0 rfl rfl 3 (by decide) (hts _ q35) (fun _ h9 => h9) rfl dX1_init_53 ?_
      refine lv_iload_n hx hb dX1_init_56 rfl (lv_at hl 1 rfl) ?_
      refine lv_iconst (v := (-1)) hx hb dX1_init_57 (by decide) ?_
      refine g_iast hx hb hK hP hD hS 3 0 rfl rfl i (rfl) (by omega) (by decide) dX1_init_58 (fun H locs hP hD hS => ?_)
      have hP : va_P D vwCl ([(h, .inr (1, [.ref q2, .ref q3, .int 0, .ref q4, .ref q5, .ref q6])), (q2, .inl (cZ, 8, .inl (fun _ => 0))), (q3, .inl (cZ, 13, .inl (fun _ => 0))), (q4, .inl (cI, 72, .inl (upd fo i (-1)))), (q5, .inl (cI, 72, .inl fp)), (q6, .inl (cI, 8, .inl (fun _ => 0)))]) H := hP
      have hD : va_D A ([(h, .inr (1, [.ref q2, .ref q3, .int 0, .ref q4, .ref q5, .ref q6])), (q2, .inl (cZ, 8, .inl (fun _ => 0))), (q3, .inl (cZ, 13, .inl (fun _ => 0))), (q4, .inl (cI, 72, .inl (upd fo i (-1)))), (q5, .inl (cI, 72, .inl fp)), (q6, .inl (cI, 8, .inl (fun _ => 0)))]) := hD
      refine lv_aload_n hx hb dX1_init_59 rfl (lv_at hl 0 rfl) ?_
      refine va_get (D := D) (ci := 1) (v := .ref q5) (C := RX1) (T := TX1) (N := 6) hx hb hts in_X1 hown hK hP 0 rfl rfl 4 (by decide) (hts _ q37) (fun _ h9 => h9) rfl dX1_init_60 ?_
      refine lv_iload_n hx hb dX1_init_63 rfl (lv_at hl 1 rfl) ?_
      refine lv_iconst (v := (-1)) hx hb dX1_init_64 (by decide) ?_
      refine g_iast hx hb hK hP hD hS 4 0 rfl rfl i (rfl) (by omega) (by decide) dX1_init_65 (fun H locs hP hD hS => ?_)
      have hP : va_P D vwCl ([(h, .inr (1, [.ref q2, .ref q3, .int 0, .ref q4, .ref q5, .ref q6])), (q2, .inl (cZ, 8, .inl (fun _ => 0))), (q3, .inl (cZ, 13, .inl (fun _ => 0))), (q4, .inl (cI, 72, .inl (upd fo i (-1)))), (q5, .inl (cI, 72, .inl (upd fp i (-1)))), (q6, .inl (cI, 8, .inl (fun _ => 0)))]) H := hP
      have hD : va_D A ([(h, .inr (1, [.ref q2, .ref q3, .int 0, .ref q4, .ref q5, .ref q6])), (q2, .inl (cZ, 8, .inl (fun _ => 0))), (q3, .inl (cZ, 13, .inl (fun _ => 0))), (q4, .inl (cI, 72, .inl (upd fo i (-1)))), (q5, .inl (cI, 72, .inl (upd fp i (-1)))), (q6, .inl (cI, 8, .inl (fun _ => 0)))]) := hD
      refine lv_iinc (v := nI (i + 1)) (lv' := [(1, .int (nI (i + 1))), (0, .ref h)]) hx hb dX1_init_66 hl (k := 1) rfl (nI_inc _) (by decide) rfl (fun ls hl => ?_)
      refine lv_goto (tgt := 46) hx hb dX1_init_69 (by decide) ?_
      exact ih (i + 1) (by omega) (by omega) H locs ls (upd fo i (-1)) (upd fp i (-1)) (up_all h1) (up_all h2) ⟨hP, hD, hS⟩ (lv_sub hl [1, 0] rfl)
abbrev BGi (D : va_G) (h : Nat) (cI cZ : ClassId) (A : Nat → Prop) (u : Nat × Nat × Nat × Nat × Nat) (t : State) : Prop := va_P D vwCl ([(h, .inr (1, [.ref u.1, .ref u.2.1, .int 0, .ref u.2.2.1, .ref u.2.2.2.1, .ref u.2.2.2.2])), (u.1, .inl (cZ, 8, .inl (fun _ => 0))), (u.2.1, .inl (cZ, 13, .inl (fun _ => 0))), (u.2.2.1, .inl (cI, 72, .inl (fun _ => -1))), (u.2.2.2.1, .inl (cI, 72, .inl (fun _ => -1))), (u.2.2.2.2, .inl (cI, 8, .inl (fun _ => 0)))]) t.heap ∧ va_K D vwCl (tyIZ cI cZ) t ∧ va_D A ([(h, .inr (1, [.ref u.1, .ref u.2.1, .int 0, .ref u.2.2.1, .ref u.2.2.2.1, .ref u.2.2.2.2])), (u.1, .inl (cZ, 8, .inl (fun _ => 0))), (u.2.1, .inl (cZ, 13, .inl (fun _ => 0))), (u.2.2.1, .inl (cI, 72, .inl (fun _ => -1))), (u.2.2.2.1, .inl (cI, 72, .inl (fun _ => -1))), (u.2.2.2.2, .inl (cI, 8, .inl (fun _ => 0)))])
set_option maxHeartbeats 4000000 in
set_option maxRecDepth 100000 in
theorem metX1_init (l : Launch) (D : va_G) (cI cZ : ClassId) (h sz0 : Nat) : Met l yX1_init (ws_ yX1_init cX1_init 2 none) ({ frames := 1, cells := 5, slots := 173, locals := 12 }) (PcM D (tyIZ cI cZ) ([(h, .inr (1, [.null, .null, .int 0, .null, .null, .null]))]) sz0 [.ref h]) (va_Qv (fun _ : Nat × Nat × Nat × Nat × Nat => True) (BGi D h cI cZ (va_A ([(h, .inr (1, [.null, .null, .int 0, .null, .null, .null]))]) sz0)) (va_A ([(h, .inr (1, [.null, .null, .int 0, .null, .null, .null]))]) sz0)) 5 173 (va_A ([(h, .inr (1, [.null, .null, .int 0, .null, .null, .null]))]) sz0) := by
  refine Met.ofW (cc := cX1_init) (maxL := 2) (ret := none) (by decide) rfl ?_
  intro p e s m args below meth c s₁ B hml hv
  obtain ⟨rfl, hsz, hP, hK, hD0⟩ := hv
  have hx := B.exec
  have hb := B.bytes
  have hr := B.returns
  have hts := atoms_spec (ws := (ws_ yX1_init cX1_init 2 none)) B.pre
  have hts : ∀ w ∈ lw_all, w.before _ s = true := fun w h => hts w (List.mem_cons_of_mem _ h)
  have hown : s.vm.findClass RX1 = some m.cls := findClass_of_methodNamed B.named
  have hlocks := B.notSynchronized
  have hin : meth.name = "<init>" := (name_of_methodNamed B.named B.method).1
  subst hsz
  have hD := hD0.self (sz := s.heap.size)
  generalize hAe : va_A ([(h, .inr (1, [.null, .null, .int 0, .null, .null, .null]))]) s.heap.size = A at hD ⊢
  have hA : ∀ q : Nat, s.heap.size ≤ q → A q := fun q h => by rw [← hAe]; exact Or.inr h
  have hS : va_S A s.heap s.heap [] := va_S.rf
  have hP : va_P D vwCl ([(h, .inr (1, [.null, .null, .int 0, .null, .null, .null]))]) s.heap := hP
  have hl := lv_entry ([.ref h]) (n := 2) (Nat.le_of_ble_eq_true rfl)
  rw [lg_entry_eq]
  generalize (lg_sl ([.ref h]) ++ List.replicate (2 - (lg_sl ([.ref h])).length) Slot.unset).toArray = ls at hl ⊢
  have hl : lv_has ls 2 [(0, .ref h)] := hl
  refine lv_aload_n hx hb dX1_init_0 rfl (lv_at hl 0 rfl) ?_
  refine W.objInit hx hb hown (hts _ q28) (hts _ q21) (hts _ q22) rfl (by rw [hml]; exact hl.1) rfl dX1_init_1 (Nat.le_of_ble_eq_true rfl) (Nat.le_of_ble_eq_true rfl) ?_
  refine W.eq (g2 := F0 m 4 ls []) rfl ?_
  refine lv_aload_n hx hb dX1_init_4 rfl (lv_at hl 0 rfl) ?_
  refine lv_bipush (v := 8) hx hb dX1_init_5 (by decide) ?_
  refine g_newaZ hx hb (hts _ q53) 1 rfl hK hP hD hS hA 8 (by decide) (by decide) (by decide) (Nat.le_of_ble_eq_true rfl) (Nat.le_of_ble_eq_true rfl) dX1_init_7 (fun q2 H hP hD hS => ?_)
  have hP : va_P D vwCl ([(h, .inr (1, [.null, .null, .int 0, .null, .null, .null])), (q2, .inl (cZ, 8, .inl (fun _ => 0)))]) H := hP
  have hD : va_D A ([(h, .inr (1, [.null, .null, .int 0, .null, .null, .null])), (q2, .inl (cZ, 8, .inl (fun _ => 0)))]) := hD
  refine W.widen (k := 1) (n := 8) (by decide) (by decide) ?_
  refine va_putF (D := D) (ci := 1) (v := .ref q2) (ty := .array .boolean) (C := RX1) (T := TX1) (N := 6) hx hb hts in_X1 tyX1 tyX1_ok nmX1 hown hK hP hD hS 0 rfl rfl 0 (by decide) (hts _ q29) (fun _ h9 => h9) rfl hin rfl (by decide +kernel) rfl rfl (Nat.le_of_ble_eq_true rfl) dX1_init_9 (fun H locs hP hD hS => ?_)
  have hP : va_P D vwCl ([(h, .inr (1, [.ref q2, .null, .int 0, .null, .null, .null])), (q2, .inl (cZ, 8, .inl (fun _ => 0)))]) H := hP
  have hD : va_D A ([(h, .inr (1, [.ref q2, .null, .int 0, .null, .null, .null])), (q2, .inl (cZ, 8, .inl (fun _ => 0)))]) := hD
  refine lv_aload_n hx hb dX1_init_12 rfl (lv_at hl 0 rfl) ?_
  refine lv_bipush (v := 13) hx hb dX1_init_13 (by decide) ?_
  refine g_newaZ hx hb (hts _ q53) 1 rfl hK hP hD hS hA 13 (by decide) (by decide) (by decide) (Nat.le_of_ble_eq_true rfl) (Nat.le_of_ble_eq_true rfl) dX1_init_15 (fun q3 H hP hD hS => ?_)
  have hP : va_P D vwCl ([(h, .inr (1, [.ref q2, .null, .int 0, .null, .null, .null])), (q2, .inl (cZ, 8, .inl (fun _ => 0))), (q3, .inl (cZ, 13, .inl (fun _ => 0)))]) H := hP
  have hD : va_D A ([(h, .inr (1, [.ref q2, .null, .int 0, .null, .null, .null])), (q2, .inl (cZ, 8, .inl (fun _ => 0))), (q3, .inl (cZ, 13, .inl (fun _ => 0)))]) := hD
  refine W.widen (k := 2) (n := 21) (by decide) (by decide) ?_
  refine va_putF (D := D) (ci := 1) (v := .ref q3) (ty := .array .boolean) (C := RX1) (T := TX1) (N := 6) hx hb hts in_X1 tyX1 tyX1_ok nmX1 hown hK hP hD hS 0 rfl rfl 1 (by decide) (hts _ q31) (fun _ h9 => h9) rfl hin rfl (by decide +kernel) rfl rfl (Nat.le_of_ble_eq_true rfl) dX1_init_17 (fun H locs hP hD hS => ?_)
  have hP : va_P D vwCl ([(h, .inr (1, [.ref q2, .ref q3, .int 0, .null, .null, .null])), (q2, .inl (cZ, 8, .inl (fun _ => 0))), (q3, .inl (cZ, 13, .inl (fun _ => 0)))]) H := hP
  have hD : va_D A ([(h, .inr (1, [.ref q2, .ref q3, .int 0, .null, .null, .null])), (q2, .inl (cZ, 8, .inl (fun _ => 0))), (q3, .inl (cZ, 13, .inl (fun _ => 0)))]) := hD
  refine lv_aload_n hx hb dX1_init_20 rfl (lv_at hl 0 rfl) ?_
  refine lv_bipush (v := 72) hx hb dX1_init_21 (by decide) ?_
  refine g_newaI hx hb (hts _ q54) 0 rfl hK hP hD hS hA 72 (by decide) (by decide) (by decide) (Nat.le_of_ble_eq_true rfl) (Nat.le_of_ble_eq_true rfl) dX1_init_23 (fun q4 H hP hD hS => ?_)
  have hP : va_P D vwCl ([(h, .inr (1, [.ref q2, .ref q3, .int 0, .null, .null, .null])), (q2, .inl (cZ, 8, .inl (fun _ => 0))), (q3, .inl (cZ, 13, .inl (fun _ => 0))), (q4, .inl (cI, 72, .inl (fun _ => 0)))]) H := hP
  have hD : va_D A ([(h, .inr (1, [.ref q2, .ref q3, .int 0, .null, .null, .null])), (q2, .inl (cZ, 8, .inl (fun _ => 0))), (q3, .inl (cZ, 13, .inl (fun _ => 0))), (q4, .inl (cI, 72, .inl (fun _ => 0)))]) := hD
  refine W.widen (k := 3) (n := 93) (by decide) (by decide) ?_
  refine va_putF (D := D) (ci := 1) (v := .ref q4) (ty := .array .int) (C := RX1) (T := TX1) (N := 6) hx hb hts in_X1 tyX1 tyX1_ok nmX1 hown hK hP hD hS 0 rfl rfl 3 (by decide) (hts _ q35) (fun _ h9 => h9) rfl hin rfl (by decide +kernel) rfl rfl (Nat.le_of_ble_eq_true rfl) dX1_init_25 (fun H locs hP hD hS => ?_)
  have hP : va_P D vwCl ([(h, .inr (1, [.ref q2, .ref q3, .int 0, .ref q4, .null, .null])), (q2, .inl (cZ, 8, .inl (fun _ => 0))), (q3, .inl (cZ, 13, .inl (fun _ => 0))), (q4, .inl (cI, 72, .inl (fun _ => 0)))]) H := hP
  have hD : va_D A ([(h, .inr (1, [.ref q2, .ref q3, .int 0, .ref q4, .null, .null])), (q2, .inl (cZ, 8, .inl (fun _ => 0))), (q3, .inl (cZ, 13, .inl (fun _ => 0))), (q4, .inl (cI, 72, .inl (fun _ => 0)))]) := hD
  refine lv_aload_n hx hb dX1_init_28 rfl (lv_at hl 0 rfl) ?_
  refine lv_bipush (v := 72) hx hb dX1_init_29 (by decide) ?_
  refine g_newaI hx hb (hts _ q54) 0 rfl hK hP hD hS hA 72 (by decide) (by decide) (by decide) (Nat.le_of_ble_eq_true rfl) (Nat.le_of_ble_eq_true rfl) dX1_init_31 (fun q5 H hP hD hS => ?_)
  have hP : va_P D vwCl ([(h, .inr (1, [.ref q2, .ref q3, .int 0, .ref q4, .null, .null])), (q2, .inl (cZ, 8, .inl (fun _ => 0))), (q3, .inl (cZ, 13, .inl (fun _ => 0))), (q4, .inl (cI, 72, .inl (fun _ => 0))), (q5, .inl (cI, 72, .inl (fun _ => 0)))]) H := hP
  have hD : va_D A ([(h, .inr (1, [.ref q2, .ref q3, .int 0, .ref q4, .null, .null])), (q2, .inl (cZ, 8, .inl (fun _ => 0))), (q3, .inl (cZ, 13, .inl (fun _ => 0))), (q4, .inl (cI, 72, .inl (fun _ => 0))), (q5, .inl (cI, 72, .inl (fun _ => 0)))]) := hD
  refine W.widen (k := 4) (n := 165) (by decide) (by decide) ?_
  refine va_putF (D := D) (ci := 1) (v := .ref q5) (ty := .array .int) (C := RX1) (T := TX1) (N := 6) hx hb hts in_X1 tyX1 tyX1_ok nmX1 hown hK hP hD hS 0 rfl rfl 4 (by decide) (hts _ q37) (fun _ h9 => h9) rfl hin rfl (by decide +kernel) rfl rfl (Nat.le_of_ble_eq_true rfl) dX1_init_33 (fun H locs hP hD hS => ?_)
  have hP : va_P D vwCl ([(h, .inr (1, [.ref q2, .ref q3, .int 0, .ref q4, .ref q5, .null])), (q2, .inl (cZ, 8, .inl (fun _ => 0))), (q3, .inl (cZ, 13, .inl (fun _ => 0))), (q4, .inl (cI, 72, .inl (fun _ => 0))), (q5, .inl (cI, 72, .inl (fun _ => 0)))]) H := hP
  have hD : va_D A ([(h, .inr (1, [.ref q2, .ref q3, .int 0, .ref q4, .ref q5, .null])), (q2, .inl (cZ, 8, .inl (fun _ => 0))), (q3, .inl (cZ, 13, .inl (fun _ => 0))), (q4, .inl (cI, 72, .inl (fun _ => 0))), (q5, .inl (cI, 72, .inl (fun _ => 0)))]) := hD
  refine lv_aload_n hx hb dX1_init_36 rfl (lv_at hl 0 rfl) ?_
  refine lv_bipush (v := 8) hx hb dX1_init_37 (by decide) ?_
  refine g_newaI hx hb (hts _ q54) 0 rfl hK hP hD hS hA 8 (by decide) (by decide) (by decide) (Nat.le_of_ble_eq_true rfl) (Nat.le_of_ble_eq_true rfl) dX1_init_39 (fun q6 H hP hD hS => ?_)
  have hP : va_P D vwCl ([(h, .inr (1, [.ref q2, .ref q3, .int 0, .ref q4, .ref q5, .null])), (q2, .inl (cZ, 8, .inl (fun _ => 0))), (q3, .inl (cZ, 13, .inl (fun _ => 0))), (q4, .inl (cI, 72, .inl (fun _ => 0))), (q5, .inl (cI, 72, .inl (fun _ => 0))), (q6, .inl (cI, 8, .inl (fun _ => 0)))]) H := hP
  have hD : va_D A ([(h, .inr (1, [.ref q2, .ref q3, .int 0, .ref q4, .ref q5, .null])), (q2, .inl (cZ, 8, .inl (fun _ => 0))), (q3, .inl (cZ, 13, .inl (fun _ => 0))), (q4, .inl (cI, 72, .inl (fun _ => 0))), (q5, .inl (cI, 72, .inl (fun _ => 0))), (q6, .inl (cI, 8, .inl (fun _ => 0)))]) := hD
  refine W.widen (k := 5) (n := 173) (by decide) (by decide) ?_
  refine va_putF (D := D) (ci := 1) (v := .ref q6) (ty := .array .int) (C := RX1) (T := TX1) (N := 6) hx hb hts in_X1 tyX1 tyX1_ok nmX1 hown hK hP hD hS 0 rfl rfl 5 (by decide) (hts _ q39) (fun _ h9 => h9) rfl hin rfl (by decide +kernel) rfl rfl (Nat.le_of_ble_eq_true rfl) dX1_init_41 (fun H locs hP hD hS => ?_)
  have hP : va_P D vwCl ([(h, .inr (1, [.ref q2, .ref q3, .int 0, .ref q4, .ref q5, .ref q6])), (q2, .inl (cZ, 8, .inl (fun _ => 0))), (q3, .inl (cZ, 13, .inl (fun _ => 0))), (q4, .inl (cI, 72, .inl (fun _ => 0))), (q5, .inl (cI, 72, .inl (fun _ => 0))), (q6, .inl (cI, 8, .inl (fun _ => 0)))]) H := hP
  have hD : va_D A ([(h, .inr (1, [.ref q2, .ref q3, .int 0, .ref q4, .ref q5, .ref q6])), (q2, .inl (cZ, 8, .inl (fun _ => 0))), (q3, .inl (cZ, 13, .inl (fun _ => 0))), (q4, .inl (cI, 72, .inl (fun _ => 0))), (q5, .inl (cI, 72, .inl (fun _ => 0))), (q6, .inl (cI, 8, .inl (fun _ => 0)))]) := hD
  refine lv_iconst (v := nI 0) hx hb dX1_init_44 (by decide) ?_
  refine lv_istore_n (lv' := [(1, .int (nI 0)), (0, .ref h)]) hx hb dX1_init_45 rfl hl (by decide) rfl (fun ls hl => ?_)
  refine L_init1_46 ⟨hx, hb, hml, hown, hts⟩ hK h q2 q3 q4 q5 q6 (fun H locs ls fo fp h1 h2 hw hl => ?_) 73 0 (by decide) (by decide) _ _ ls _ _ (fun j h => absurd h (by omega)) (fun j h => absurd h (by omega)) ⟨hP, hD, hS⟩ (lv_sub hl [1, 0] rfl)
  obtain ⟨hP, hD, hS⟩ := hw
  have hP := g_ext (g := fun _ => -1) hP 3 rfl (h1)
  have hD := hD.set (p := 3) (e := .inl (cI, 72, .inl (fun _ => -1))) rfl
  have hP : va_P D vwCl ([(h, .inr (1, [.ref q2, .ref q3, .int 0, .ref q4, .ref q5, .ref q6])), (q2, .inl (cZ, 8, .inl (fun _ => 0))), (q3, .inl (cZ, 13, .inl (fun _ => 0))), (q4, .inl (cI, 72, .inl (fun _ => -1))), (q5, .inl (cI, 72, .inl fp)), (q6, .inl (cI, 8, .inl (fun _ => 0)))]) _ := hP
  have hD : va_D A ([(h, .inr (1, [.ref q2, .ref q3, .int 0, .ref q4, .ref q5, .ref q6])), (q2, .inl (cZ, 8, .inl (fun _ => 0))), (q3, .inl (cZ, 13, .inl (fun _ => 0))), (q4, .inl (cI, 72, .inl (fun _ => -1))), (q5, .inl (cI, 72, .inl fp)), (q6, .inl (cI, 8, .inl (fun _ => 0)))]) := hD
  have hP := g_ext (g := fun _ => -1) hP 4 rfl (h2)
  have hD := hD.set (p := 4) (e := .inl (cI, 72, .inl (fun _ => -1))) rfl
  have hP : va_P D vwCl ([(h, .inr (1, [.ref q2, .ref q3, .int 0, .ref q4, .ref q5, .ref q6])), (q2, .inl (cZ, 8, .inl (fun _ => 0))), (q3, .inl (cZ, 13, .inl (fun _ => 0))), (q4, .inl (cI, 72, .inl (fun _ => -1))), (q5, .inl (cI, 72, .inl (fun _ => -1))), (q6, .inl (cI, 8, .inl (fun _ => 0)))]) _ := hP
  have hD : va_D A ([(h, .inr (1, [.ref q2, .ref q3, .int 0, .ref q4, .ref q5, .ref q6])), (q2, .inl (cZ, 8, .inl (fun _ => 0))), (q3, .inl (cZ, 13, .inl (fun _ => 0))), (q4, .inl (cI, 72, .inl (fun _ => -1))), (q5, .inl (cI, 72, .inl (fun _ => -1))), (q6, .inl (cI, 8, .inl (fun _ => 0)))]) := hD
  exact W.vret hx hb hr (fun t0 h0t hW => ⟨⟨(q2, q3, q4, q5, q6), rfl, trivial, by rw [h0t]; exact hP, va_K.moved hW.alike hK, hD⟩, hS.F h0t⟩) hS.2.2 dX1_init_72
abbrev BXi (D : va_G) (cI cZ : ClassId) (A : Nat → Prop) (u : Nat → Nat) (t : State) : Prop := va_P D vwCl (wX u cI cZ 0 0 0 (fun _ => 0) (fun _ => 0) (fun _ => -1) (fun _ => -1) (fun _ => 0) (fun _ => 0) (fun _ => 0)) t.heap ∧ va_K D vwCl (tyIZ cI cZ) t ∧ va_D A (wX u cI cZ 0 0 0 (fun _ => 0) (fun _ => 0) (fun _ => -1) (fun _ => -1) (fun _ => 0) (fun _ => 0) (fun _ => 0))
abbrev BMi (D : va_G) (cI cZ : ClassId) (A : Nat → Prop) (u : Nat → Nat) (t : State) : Prop := va_P D vwCl (wM u cI cZ 0 0 0 (fun _ => 0) (fun _ => 0) (fun _ => -1) (fun _ => -1) (fun _ => 0) (fun _ => 0) (fun _ => 0)) t.heap ∧ va_K D vwCl (tyIZ cI cZ) t ∧ va_D A (wM u cI cZ 0 0 0 (fun _ => 0) (fun _ => 0) (fun _ => -1) (fun _ => -1) (fun _ => 0) (fun _ => 0) (fun _ => 0))
set_option maxHeartbeats 4000000 in
set_option maxRecDepth 100000 in
theorem metX0_init (l : Launch) (D : va_G) (cI cZ : ClassId) (h sz0 : Nat) : Met l yX0_init (ws_ yX0_init cX0_init 1 none) ({ frames := 2, cells := 8, slots := 264, locals := 33 }) (PcM D (tyIZ cI cZ) ([(h, .inr (0, [.null, .null, .null, .int 0, .int 0]))]) sz0 [.ref h]) (va_Qv (fun u : Nat → Nat => u 0 = h) (BXi D cI cZ (va_A ([(h, .inr (0, [.null, .null, .null, .int 0, .int 0]))]) sz0)) (va_A ([(h, .inr (0, [.null, .null, .null, .int 0, .int 0]))]) sz0)) 8 264 (va_A ([(h, .inr (0, [.null, .null, .null, .int 0, .int 0]))]) sz0) := by
  refine Met.ofW (cc := cX0_init) (maxL := 1) (ret := none) (by decide) rfl ?_
  intro p e s m args below meth c s₁ B hml hv
  obtain ⟨rfl, hsz, hP, hK, hD0⟩ := hv
  have hx := B.exec
  have hb := B.bytes
  have hr := B.returns
  have hts := atoms_spec (ws := (ws_ yX0_init cX0_init 1 none)) B.pre
  have hts : ∀ w ∈ lw_all, w.before _ s = true := fun w h => hts w (List.mem_cons_of_mem _ h)
  have hown : s.vm.findClass RX0 = some m.cls := findClass_of_methodNamed B.named
  have hlocks := B.notSynchronized
  have hin : meth.name = "<init>" := (name_of_methodNamed B.named B.method).1
  subst hsz
  have hD := hD0.self (sz := s.heap.size)
  generalize hAe : va_A ([(h, .inr (0, [.null, .null, .null, .int 0, .int 0]))]) s.heap.size = A at hD ⊢
  have hA : ∀ q : Nat, s.heap.size ≤ q → A q := fun q h => by rw [← hAe]; exact Or.inr h
  have hS : va_S A s.heap s.heap [] := va_S.rf
  have hP : va_P D vwCl ([(h, .inr (0, [.null, .null, .null, .int 0, .int 0]))]) s.heap := hP
  have hl := lv_entry ([.ref h]) (n := 1) (Nat.le_of_ble_eq_true rfl)
  rw [lg_entry_eq]
  generalize (lg_sl ([.ref h]) ++ List.replicate (1 - (lg_sl ([.ref h])).length) Slot.unset).toArray = ls at hl ⊢
  have hl : lv_has ls 1 [(0, .ref h)] := hl
  refine lv_aload_n hx hb dX0_init_0 rfl (lv_at hl 0 rfl) ?_
  refine W.objInit hx hb hown (hts _ q20) (hts _ q21) (hts _ q22) rfl (by rw [hml]; exact hl.1) rfl dX0_init_1 (Nat.le_of_ble_eq_true rfl) (Nat.le_of_ble_eq_true rfl) ?_
  refine W.eq (g2 := F0 m 4 ls []) rfl ?_
  refine lv_aload_n hx hb dX0_init_4 rfl (lv_at hl 0 rfl) ?_
  refine va_new (ci := 1) (fs := [.null, .null, .int 0, .null, .null, .null]) (C := RX1) (T := TX1) (N := 6) hx hb hts in_X1 tyX1 tyX1_ok hown (hts _ q23) (hts _ q24) (hts _ q13) hK hP hD hS hA rfl (fun j hj => by rcases (show j = 0 ∨ j = 1 ∨ j = 2 ∨ j = 3 ∨ j = 4 ∨ j = 5 by omega) with rfl | rfl | rfl | rfl | rfl | rfl <;> rfl) (Nat.le_of_ble_eq_true rfl) (Nat.le_of_ble_eq_true rfl) dX0_init_5 (fun g H hP hD hS => ?_)
  have hP : va_P D vwCl ([(h, .inr (0, [.null, .null, .null, .int 0, .int 0])), (g, .inr (1, [.null, .null, .int 0, .null, .null, .null]))]) H := hP
  have hD : va_D A ([(h, .inr (0, [.null, .null, .null, .int 0, .int 0])), (g, .inr (1, [.null, .null, .int 0, .null, .null, .null]))]) := hD
  refine W.widen (k := 1) (n := 6) (by decide) (by decide) ?_
  refine lv_dup hx hb dX0_init_8 rfl ?_
  have hPc := hP.sub (ws' := [(g, .inr (1, [.null, .null, .int 0, .null, .null, .null]))]) [1] rfl
  have hDc := hD.sub (ws' := [(g, .inr (1, [.null, .null, .int 0, .null, .null, .null]))]) [1] (by decide) rfl
  have hFc := va_free (wc := [(g, .inr (1, [.null, .null, .int 0, .null, .null, .null]))]) hD hS hA [1] rfl
  refine va_callv (va_runI (As := []) (rest := [.ref g, .ref h]) ⟨hx, hb, hml, hown, hts⟩ (metX1_init l D cI cZ g H.size) (cwI 0 hts (lw_meth q27) rfl rfl rfl (hts _ q13) (hts _ q25) (hts _ q26) rfl (by decide +kernel) ⟨Nat.le_of_ble_eq_true rfl, Nat.le_of_ble_eq_true rfl⟩) ⟨blM, prM hPc hDc hK⟩ rfl rfl hl.1 rfl (lv_room (Nat.le_of_ble_eq_true rfl)) dX0_init_9 ⟨Nat.le_of_ble_eq_true rfl, Nat.le_of_ble_eq_true rfl⟩) hS (fun q _ h => hFc q h) hFc (fun u t1 H1 locs h1t hvm hu hB hz1 hk1 hS => ?_)
  obtain ⟨q2, q3, q4, q5, q6⟩ := u
  obtain ⟨hP1, hK1, hD1⟩ := hB
  rw [h1t] at hP1
  obtain ⟨hP, hD⟩ := va_join (wr := [(h, .inr (0, [.null, .null, .null, .int 0, .int 0]))]) (w1 := [(g, .inr (1, [.ref q2, .ref q3, .int 0, .ref q4, .ref q5, .ref q6])), (q2, .inl (cZ, 8, .inl (fun _ => 0))), (q3, .inl (cZ, 13, .inl (fun _ => 0))), (q4, .inl (cI, 72, .inl (fun _ => -1))), (q5, .inl (cI, 72, .inl (fun _ => -1))), (q6, .inl (cI, 8, .inl (fun _ => 0)))]) hP hD [1] [0] rfl rfl (by decide) (by decide) hk1 hFc hP1 hD1
  generalize H1 = H at hP hS ⊢
  have hP : va_P D vwCl ([(h, .inr (0, [.null, .null, .null, .int 0, .int 0])), (g, .inr (1, [.ref q2, .ref q3, .int 0, .ref q4, .ref q5, .ref q6])), (q2, .inl (cZ, 8, .inl (fun _ => 0))), (q3, .inl (cZ, 13, .inl (fun _ => 0))), (q4, .inl (cI, 72, .inl (fun _ => -1))), (q5, .inl (cI, 72, .inl (fun _ => -1))), (q6, .inl (cI, 8, .inl (fun _ => 0)))]) H := hP
  have hD : va_D A ([(h, .inr (0, [.null, .null, .null, .int 0, .int 0])), (g, .inr (1, [.ref q2, .ref q3, .int 0, .ref q4, .ref q5, .ref q6])), (q2, .inl (cZ, 8, .inl (fun _ => 0))), (q3, .inl (cZ, 13, .inl (fun _ => 0))), (q4, .inl (cI, 72, .inl (fun _ => -1))), (q5, .inl (cI, 72, .inl (fun _ => -1))), (q6, .inl (cI, 8, .inl (fun _ => 0)))]) := hD
  refine W.widen (k := 6) (n := 179) (by decide) (by decide) ?_
  refine va_putF (D := D) (ci := 0) (v := .ref g) (ty := .object "GroupRows$Group") (C := RX0) (T := TX0) (N := 5) hx hb hts in_X0 tyX0 tyX0_ok nmX0 hown hK hP hD hS 0 rfl rfl 0 (by decide) (hts _ q55) (fun _ h9 => h9) rfl hin rfl (by decide +kernel) rfl rfl (Nat.le_of_ble_eq_true rfl) dX0_init_12 (fun H locs hP hD hS => ?_)
  have hP : va_P D vwCl ([(h, .inr (0, [.ref g, .null, .null, .int 0, .int 0])), (g, .inr (1, [.ref q2, .ref q3, .int 0, .ref q4, .ref q5, .ref q6])), (q2, .inl (cZ, 8, .inl (fun _ => 0))), (q3, .inl (cZ, 13, .inl (fun _ => 0))), (q4, .inl (cI, 72, .inl (fun _ => -1))), (q5, .inl (cI, 72, .inl (fun _ => -1))), (q6, .inl (cI, 8, .inl (fun _ => 0)))]) H := hP
  have hD : va_D A ([(h, .inr (0, [.ref g, .null, .null, .int 0, .int 0])), (g, .inr (1, [.ref q2, .ref q3, .int 0, .ref q4, .ref q5, .ref q6])), (q2, .inl (cZ, 8, .inl (fun _ => 0))), (q3, .inl (cZ, 13, .inl (fun _ => 0))), (q4, .inl (cI, 72, .inl (fun _ => -1))), (q5, .inl (cI, 72, .inl (fun _ => -1))), (q6, .inl (cI, 8, .inl (fun _ => 0)))]) := hD
  refine lv_aload_n hx hb dX0_init_15 rfl (lv_at hl 0 rfl) ?_
  refine lv_bipush (v := 13) hx hb dX0_init_16 (by decide) ?_
  refine g_newaI hx hb (hts _ q54) 0 rfl hK hP hD hS hA 13 (by decide) (by decide) (by decide) (Nat.le_of_ble_eq_true rfl) (Nat.le_of_ble_eq_true rfl) dX0_init_18 (fun q7 H hP hD hS => ?_)
  have hP : va_P D vwCl ([(h, .inr (0, [.ref g, .null, .null, .int 0, .int 0])), (g, .inr (1, [.ref q2, .ref q3, .int 0, .ref q4, .ref q5, .ref q6])), (q2, .inl (cZ, 8, .inl (fun _ => 0))), (q3, .inl (cZ, 13, .inl (fun _ => 0))), (q4, .inl (cI, 72, .inl (fun _ => -1))), (q5, .inl (cI, 72, .inl (fun _ => -1))), (q6, .inl (cI, 8, .inl (fun _ => 0))), (q7, .inl (cI, 13, .inl (fun _ => 0)))]) H := hP
  have hD : va_D A ([(h, .inr (0, [.ref g, .null, .null, .int 0, .int 0])), (g, .inr (1, [.ref q2, .ref q3, .int 0, .ref q4, .ref q5, .ref q6])), (q2, .inl (cZ, 8, .inl (fun _ => 0))), (q3, .inl (cZ, 13, .inl (fun _ => 0))), (q4, .inl (cI, 72, .inl (fun _ => -1))), (q5, .inl (cI, 72, .inl (fun _ => -1))), (q6, .inl (cI, 8, .inl (fun _ => 0))), (q7, .inl (cI, 13, .inl (fun _ => 0)))]) := hD
  refine W.widen (k := 7) (n := 192) (by decide) (by decide) ?_
  refine va_putF (D := D) (ci := 0) (v := .ref q7) (ty := .array .int) (C := RX0) (T := TX0) (N := 5) hx hb hts in_X0 tyX0 tyX0_ok nmX0 hown hK hP hD hS 0 rfl rfl 1 (by decide) (hts _ q56) (fun _ h9 => h9) rfl hin rfl (by decide +kernel) rfl rfl (Nat.le_of_ble_eq_true rfl) dX0_init_20 (fun H locs hP hD hS => ?_)
  have hP : va_P D vwCl ([(h, .inr (0, [.ref g, .ref q7, .null, .int 0, .int 0])), (g, .inr (1, [.ref q2, .ref q3, .int 0, .ref q4, .ref q5, .ref q6])), (q2, .inl (cZ, 8, .inl (fun _ => 0))), (q3, .inl (cZ, 13, .inl (fun _ => 0))), (q4, .inl (cI, 72, .inl (fun _ => -1))), (q5, .inl (cI, 72, .inl (fun _ => -1))), (q6, .inl (cI, 8, .inl (fun _ => 0))), (q7, .inl (cI, 13, .inl (fun _ => 0)))]) H := hP
  have hD : va_D A ([(h, .inr (0, [.ref g, .ref q7, .null, .int 0, .int 0])), (g, .inr (1, [.ref q2, .ref q3, .int 0, .ref q4, .ref q5, .ref q6])), (q2, .inl (cZ, 8, .inl (fun _ => 0))), (q3, .inl (cZ, 13, .inl (fun _ => 0))), (q4, .inl (cI, 72, .inl (fun _ => -1))), (q5, .inl (cI, 72, .inl (fun _ => -1))), (q6, .inl (cI, 8, .inl (fun _ => 0))), (q7, .inl (cI, 13, .inl (fun _ => 0)))]) := hD
  refine lv_aload_n hx hb dX0_init_23 rfl (lv_at hl 0 rfl) ?_
  refine lv_bipush (v := 72) hx hb dX0_init_24 (by decide) ?_
  refine g_newaI hx hb (hts _ q54) 0 rfl hK hP hD hS hA 72 (by decide) (by decide) (by decide) (Nat.le_of_ble_eq_true rfl) (Nat.le_of_ble_eq_true rfl) dX0_init_26 (fun q8 H hP hD hS => ?_)
  have hP : va_P D vwCl ([(h, .inr (0, [.ref g, .ref q7, .null, .int 0, .int 0])), (g, .inr (1, [.ref q2, .ref q3, .int 0, .ref q4, .ref q5, .ref q6])), (q2, .inl (cZ, 8, .inl (fun _ => 0))), (q3, .inl (cZ, 13, .inl (fun _ => 0))), (q4, .inl (cI, 72, .inl (fun _ => -1))), (q5, .inl (cI, 72, .inl (fun _ => -1))), (q6, .inl (cI, 8, .inl (fun _ => 0))), (q7, .inl (cI, 13, .inl (fun _ => 0))), (q8, .inl (cI, 72, .inl (fun _ => 0)))]) H := hP
  have hD : va_D A ([(h, .inr (0, [.ref g, .ref q7, .null, .int 0, .int 0])), (g, .inr (1, [.ref q2, .ref q3, .int 0, .ref q4, .ref q5, .ref q6])), (q2, .inl (cZ, 8, .inl (fun _ => 0))), (q3, .inl (cZ, 13, .inl (fun _ => 0))), (q4, .inl (cI, 72, .inl (fun _ => -1))), (q5, .inl (cI, 72, .inl (fun _ => -1))), (q6, .inl (cI, 8, .inl (fun _ => 0))), (q7, .inl (cI, 13, .inl (fun _ => 0))), (q8, .inl (cI, 72, .inl (fun _ => 0)))]) := hD
  refine W.widen (k := 8) (n := 264) (by decide) (by decide) ?_
  refine va_putF (D := D) (ci := 0) (v := .ref q8) (ty := .array .int) (C := RX0) (T := TX0) (N := 5) hx hb hts in_X0 tyX0 tyX0_ok nmX0 hown hK hP hD hS 0 rfl rfl 2 (by decide) (hts _ q57) (fun _ h9 => h9) rfl hin rfl (by decide +kernel) rfl rfl (Nat.le_of_ble_eq_true rfl) dX0_init_28 (fun H locs hP hD hS => ?_)
  have hP : va_P D vwCl ([(h, .inr (0, [.ref g, .ref q7, .ref q8, .int 0, .int 0])), (g, .inr (1, [.ref q2, .ref q3, .int 0, .ref q4, .ref q5, .ref q6])), (q2, .inl (cZ, 8, .inl (fun _ => 0))), (q3, .inl (cZ, 13, .inl (fun _ => 0))), (q4, .inl (cI, 72, .inl (fun _ => -1))), (q5, .inl (cI, 72, .inl (fun _ => -1))), (q6, .inl (cI, 8, .inl (fun _ => 0))), (q7, .inl (cI, 13, .inl (fun _ => 0))), (q8, .inl (cI, 72, .inl (fun _ => 0)))]) H := hP
  have hD : va_D A ([(h, .inr (0, [.ref g, .ref q7, .ref q8, .int 0, .int 0])), (g, .inr (1, [.ref q2, .ref q3, .int 0, .ref q4, .ref q5, .ref q6])), (q2, .inl (cZ, 8, .inl (fun _ => 0))), (q3, .inl (cZ, 13, .inl (fun _ => 0))), (q4, .inl (cI, 72, .inl (fun _ => -1))), (q5, .inl (cI, 72, .inl (fun _ => -1))), (q6, .inl (cI, 8, .inl (fun _ => 0))), (q7, .inl (cI, 13, .inl (fun _ => 0))), (q8, .inl (cI, 72, .inl (fun _ => 0)))]) := hD
  refine lv_aload_n hx hb dX0_init_31 rfl (lv_at hl 0 rfl) ?_
  refine lv_iconst (v := 0) hx hb dX0_init_32 (by decide) ?_
  refine va_put (D := D) (ci := 0) (v := .int 0) (ty := .int) (C := RX0) (T := TX0) (N := 5) hx hb hts in_X0 tyX0 tyX0_ok nmX0 hown hK hP hD hS 0 rfl rfl 4 (by decide) (hts _ q59) (fun _ h9 => h9) rfl (by decide +kernel) rfl rfl (Nat.le_of_ble_eq_true rfl) dX0_init_33 (fun H locs hP hD hS => ?_)
  have hP : va_P D vwCl ([(h, .inr (0, [.ref g, .ref q7, .ref q8, .int 0, .int 0])), (g, .inr (1, [.ref q2, .ref q3, .int 0, .ref q4, .ref q5, .ref q6])), (q2, .inl (cZ, 8, .inl (fun _ => 0))), (q3, .inl (cZ, 13, .inl (fun _ => 0))), (q4, .inl (cI, 72, .inl (fun _ => -1))), (q5, .inl (cI, 72, .inl (fun _ => -1))), (q6, .inl (cI, 8, .inl (fun _ => 0))), (q7, .inl (cI, 13, .inl (fun _ => 0))), (q8, .inl (cI, 72, .inl (fun _ => 0)))]) H := hP
  have hD : va_D A ([(h, .inr (0, [.ref g, .ref q7, .ref q8, .int 0, .int 0])), (g, .inr (1, [.ref q2, .ref q3, .int 0, .ref q4, .ref q5, .ref q6])), (q2, .inl (cZ, 8, .inl (fun _ => 0))), (q3, .inl (cZ, 13, .inl (fun _ => 0))), (q4, .inl (cI, 72, .inl (fun _ => -1))), (q5, .inl (cI, 72, .inl (fun _ => -1))), (q6, .inl (cI, 8, .inl (fun _ => 0))), (q7, .inl (cI, 13, .inl (fun _ => 0))), (q8, .inl (cI, 72, .inl (fun _ => 0)))]) := hD
  exact W.vret hx hb hr (fun t0 h0t hW => ⟨⟨(fun k => [h, g, q2, q3, q4, q5, q6, q7, q8].getD k 0), rfl, rfl, by rw [h0t]; exact hP, va_K.moved hW.alike hK, hD⟩, hS.F h0t⟩) hS.2.2 dX0_init_36
set_option maxHeartbeats 4000000 in
set_option maxRecDepth 100000 in
theorem L_init2_62 (C0 : CallFix p m c cX2_init 2 s args lw_all RX2) (hK : va_K D vwCl (tyIZ cI cZ) s) (h q1 q2 q3 q4 q5 q6 q7 : Nat) (hk : ∀ (H : Heap) (locs : List Loc) (ls : Array Slot) (fo : FF) (fp : FF), (∀ j, j < 72 → fo j = -1) → (∀ j, j < 72 → fp j = -1) → Wl D A ([(h, .inr (2, [.ref q1, .ref q2, .ref q3, .ref q4, .ref q5, .ref q6, .ref q7, .int 0, .int 0, .int 0])), (q1, .inl (cI, 13, .inl (fun _ => 0))), (q2, .inl (cZ, 13, .inl (fun _ => 0))), (q3, .inl (cZ, 8, .inl (fun _ => 0))), (q4, .inl (cI, 72, .inl fo)), (q5, .inl (cI, 72, .inl (fun _ => 0))), (q6, .inl (cI, 72, .inl fp)), (q7, .inl (cI, 8, .inl (fun _ => 0)))]) s H locs → lv_has ls 2 [(0, .ref h), (1, .int (nI 72))] → W p l e R s m args below meth c H locs cells slots Q (F0 m 88 ls [])) : ∀ (n i : Nat), i ≤ 72 → 72 < i + n → ∀ (H : Heap) (locs : List Loc) (ls : Array Slot) (fo : FF) (fp : FF), (∀ j, j < i → fo j = -1) → (∀ j, j < i → fp j = -1) → Wl D A ([(h, .inr (2, [.ref q1, .ref q2, .ref q3, .ref q4, .ref q5, .ref q6, .ref q7, .int 0, .int 0, .int 0])), (q1, .inl (cI, 13, .inl (fun _ => 0))), (q2, .inl (cZ, 13, .inl (fun _ => 0))), (q3, .inl (cZ, 8, .inl (fun _ => 0))), (q4, .inl (cI, 72, .inl fo)), (q5, .inl (cI, 72, .inl (fun _ => 0))), (q6, .inl (cI, 72, .inl fp)), (q7, .inl (cI, 8, .inl (fun _ => 0)))]) s H locs → lv_has ls 2 [(0, .ref h), (1, .int (nI i))] → W p l e R s m args below meth c H locs cells slots Q (F0 m 62 ls []) := by
  obtain ⟨hx, hb, hml, hown, hts⟩ := id C0
  intro n
  induction n with
  | zero => intro i h1 h2; exact absurd h2 (by omega)
  | succ n ih =>
    intro i hi hin H locs ls fo fp h1 h2 hw hl
    obtain ⟨hP, hD, hS⟩ := hw
    refine lv_iload_n hx hb dX2_init_62 rfl (lv_at hl 1 rfl) ?_
    refine lv_bipush (v := nI 72) hx hb dX2_init_63 (by decide) ?_
    refine lv_icmp_ge (tgt := 88) hx hb dX2_init_65 (by decide) (fun c65 => ?_) (fun c65 => ?_)
    · obtain rfl : i = 72 := by have h9 := lp_ge (by decide) (by omega) c65; omega
      exact hk H locs ls fo fp (h1) (h2) ⟨hP, hD, hS⟩ (lv_sub hl [0, 1] rfl)
    · have hlt : i < 72 := lp_lt (by omega) c65
      refine lv_aload_n hx hb dX2_init_68 rfl (lv_at hl 0 rfl) ?_
      refine va_get (D := D) (ci := 2) (v := .ref q4) (C := RX2) (T := TX2) (N := 10) hx hb hts in_X2 hown hK hP 0 rfl rfl 3 (by decide) (hts _ q147) (fun _ h9 => h9) rfl dX2_init_69 ?_
      refine lv_iload_n hx hb dX2_init_72 rfl (lv_at hl 1 rfl) ?_
      refine lv_iconst (v := (-1)) hx hb dX2_init_73 (by decide) ?_
      refine g_iast hx hb hK hP hD hS 4 0 rfl rfl i (rfl) (by omega) (by decide) dX2_init_74 (fun H locs hP hD hS => ?_)
      have hP : va_P D vwCl ([(h, .inr (2, [.ref q1, .ref q2, .ref q3, .ref q4, .ref q5, .ref q6, .ref q7, .int 0, .int 0, .int 0])), (q1, .inl (cI, 13, .inl (fun _ => 0))), (q2, .inl (cZ, 13, .inl (fun _ => 0))), (q3, .inl (cZ, 8, .inl (fun _ => 0))), (q4, .inl (cI, 72, .inl (upd fo i (-1)))), (q5, .inl (cI, 72, .inl (fun _ => 0))), (q6, .inl (cI, 72, .inl fp)), (q7, .inl (cI, 8, .inl (fun _ => 0)))]) H := hP
      have hD : va_D A ([(h, .inr (2, [.ref q1, .ref q2, .ref q3, .ref q4, .ref q5, .ref q6, .ref q7, .int 0, .int 0, .int 0])), (q1, .inl (cI, 13, .inl (fun _ => 0))), (q2, .inl (cZ, 13, .inl (fun _ => 0))), (q3, .inl (cZ, 8, .inl (fun _ => 0))), (q4, .inl (cI, 72, .inl (upd fo i (-1)))), (q5, .inl (cI, 72, .inl (fun _ => 0))), (q6, .inl (cI, 72, .inl fp)), (q7, .inl (cI, 8, .inl (fun _ => 0)))]) := hD
      refine lv_aload_n hx hb dX2_init_75 rfl (lv_at hl 0 rfl) ?_
      refine va_get (D := D) (ci := 2) (v := .ref q6) (C := RX2) (T := TX2) (N := 10) hx hb hts in_X2 hown hK hP 0 rfl rfl 5 (by decide) (hts _ q149) (fun _ h9 => h9) rfl dX2_init_76 ?_
      refine lv_iload_n hx hb dX2_init_79 rfl (lv_at hl 1 rfl) ?_
      refine lv_iconst (v := (-1)) hx hb dX2_init_80 (by decide) ?_
      refine g_iast hx hb hK hP hD hS 6 0 rfl rfl i (rfl) (by omega) (by decide) dX2_init_81 (fun H locs hP hD hS => ?_)
      have hP : va_P D vwCl ([(h, .inr (2, [.ref q1, .ref q2, .ref q3, .ref q4, .ref q5, .ref q6, .ref q7, .int 0, .int 0, .int 0])), (q1, .inl (cI, 13, .inl (fun _ => 0))), (q2, .inl (cZ, 13, .inl (fun _ => 0))), (q3, .inl (cZ, 8, .inl (fun _ => 0))), (q4, .inl (cI, 72, .inl (upd fo i (-1)))), (q5, .inl (cI, 72, .inl (fun _ => 0))), (q6, .inl (cI, 72, .inl (upd fp i (-1)))), (q7, .inl (cI, 8, .inl (fun _ => 0)))]) H := hP
      have hD : va_D A ([(h, .inr (2, [.ref q1, .ref q2, .ref q3, .ref q4, .ref q5, .ref q6, .ref q7, .int 0, .int 0, .int 0])), (q1, .inl (cI, 13, .inl (fun _ => 0))), (q2, .inl (cZ, 13, .inl (fun _ => 0))), (q3, .inl (cZ, 8, .inl (fun _ => 0))), (q4, .inl (cI, 72, .inl (upd fo i (-1)))), (q5, .inl (cI, 72, .inl (fun _ => 0))), (q6, .inl (cI, 72, .inl (upd fp i (-1)))), (q7, .inl (cI, 8, .inl (fun _ => 0)))]) := hD
      refine lv_iinc (v := nI (i + 1)) (lv' := [(1, .int (nI (i + 1))), (0, .ref h)]) hx hb dX2_init_82 hl (k := 1) rfl (nI_inc _) (by decide) rfl (fun ls hl => ?_)
      refine lv_goto (tgt := 62) hx hb dX2_init_85 (by decide) ?_
      exact ih (i + 1) (by omega) (by omega) H locs ls (upd fo i (-1)) (upd fp i (-1)) (up_all h1) (up_all h2) ⟨hP, hD, hS⟩ (lv_sub hl [1, 0] rfl)
set_option maxHeartbeats 4000000 in
set_option maxRecDepth 100000 in
theorem metX2_init (l : Launch) (D : va_G) (cI cZ : ClassId) (h sz0 : Nat) : Met l yX2_init (ws_ yX2_init cX2_init 2 none) ({ frames := 1, cells := 7, slots := 258, locals := 12 }) (PcM D (tyIZ cI cZ) ([(h, .inr (2, [.null, .null, .null, .null, .null, .null, .null, .int 0, .int 0, .int 0]))]) sz0 [.ref h]) (va_Qv (fun u : Nat → Nat => u 0 = h) (BMi D cI cZ (va_A ([(h, .inr (2, [.null, .null, .null, .null, .null, .null, .null, .int 0, .int 0, .int 0]))]) sz0)) (va_A ([(h, .inr (2, [.null, .null, .null, .null, .null, .null, .null, .int 0, .int 0, .int 0]))]) sz0)) 7 258 (va_A ([(h, .inr (2, [.null, .null, .null, .null, .null, .null, .null, .int 0, .int 0, .int 0]))]) sz0) := by
  refine Met.ofW (cc := cX2_init) (maxL := 2) (ret := none) (by decide) rfl ?_
  intro p e s m args below meth c s₁ B hml hv
  obtain ⟨rfl, hsz, hP, hK, hD0⟩ := hv
  have hx := B.exec
  have hb := B.bytes
  have hr := B.returns
  have hts := atoms_spec (ws := (ws_ yX2_init cX2_init 2 none)) B.pre
  have hts : ∀ w ∈ lw_all, w.before _ s = true := fun w h => hts w (List.mem_cons_of_mem _ h)
  have hown : s.vm.findClass RX2 = some m.cls := findClass_of_methodNamed B.named
  have hlocks := B.notSynchronized
  have hin : meth.name = "<init>" := (name_of_methodNamed B.named B.method).1
  subst hsz
  have hD := hD0.self (sz := s.heap.size)
  generalize hAe : va_A ([(h, .inr (2, [.null, .null, .null, .null, .null, .null, .null, .int 0, .int 0, .int 0]))]) s.heap.size = A at hD ⊢
  have hA : ∀ q : Nat, s.heap.size ≤ q → A q := fun q h => by rw [← hAe]; exact Or.inr h
  have hS : va_S A s.heap s.heap [] := va_S.rf
  have hP : va_P D vwCl ([(h, .inr (2, [.null, .null, .null, .null, .null, .null, .null, .int 0, .int 0, .int 0]))]) s.heap := hP
  have hl := lv_entry ([.ref h]) (n := 2) (Nat.le_of_ble_eq_true rfl)
  rw [lg_entry_eq]
  generalize (lg_sl ([.ref h]) ++ List.replicate (2 - (lg_sl ([.ref h])).length) Slot.unset).toArray = ls at hl ⊢
  have hl : lv_has ls 2 [(0, .ref h)] := hl
  refine lv_aload_n hx hb dX2_init_0 rfl (lv_at hl 0 rfl) ?_
  refine W.objInit hx hb hown (hts _ q143) (hts _ q21) (hts _ q22) rfl (by rw [hml]; exact hl.1) rfl dX2_init_1 (Nat.le_of_ble_eq_true rfl) (Nat.le_of_ble_eq_true rfl) ?_
  refine W.eq (g2 := F0 m 4 ls []) rfl ?_
  refine lv_aload_n hx hb dX2_init_4 rfl (lv_at hl 0 rfl) ?_
  refine lv_bipush (v := 13) hx hb dX2_init_5 (by decide) ?_
  refine g_newaI hx hb (hts _ q54) 0 rfl hK hP hD hS hA 13 (by decide) (by decide) (by decide) (Nat.le_of_ble_eq_true rfl) (Nat.le_of_ble_eq_true rfl) dX2_init_7 (fun q1 H hP hD hS => ?_)
  have hP : va_P D vwCl ([(h, .inr (2, [.null, .null, .null, .null, .null, .null, .null, .int 0, .int 0, .int 0])), (q1, .inl (cI, 13, .inl (fun _ => 0)))]) H := hP
  have hD : va_D A ([(h, .inr (2, [.null, .null, .null, .null, .null, .null, .null, .int 0, .int 0, .int 0])), (q1, .inl (cI, 13, .inl (fun _ => 0)))]) := hD
  refine W.widen (k := 1) (n := 13) (by decide) (by decide) ?_
  refine va_putF (D := D) (ci := 2) (v := .ref q1) (ty := .array .int) (C := RX2) (T := TX2) (N := 10) hx hb hts in_X2 tyX2 tyX2_ok nmX2 hown hK hP hD hS 0 rfl rfl 0 (by decide) (hts _ q144) (fun _ h9 => h9) rfl hin rfl (by decide +kernel) rfl rfl (Nat.le_of_ble_eq_true rfl) dX2_init_9 (fun H locs hP hD hS => ?_)
  have hP : va_P D vwCl ([(h, .inr (2, [.ref q1, .null, .null, .null, .null, .null, .null, .int 0, .int 0, .int 0])), (q1, .inl (cI, 13, .inl (fun _ => 0)))]) H := hP
  have hD : va_D A ([(h, .inr (2, [.ref q1, .null, .null, .null, .null, .null, .null, .int 0, .int 0, .int 0])), (q1, .inl (cI, 13, .inl (fun _ => 0)))]) := hD
  refine lv_aload_n hx hb dX2_init_12 rfl (lv_at hl 0 rfl) ?_
  refine lv_bipush (v := 13) hx hb dX2_init_13 (by decide) ?_
  refine g_newaZ hx hb (hts _ q53) 1 rfl hK hP hD hS hA 13 (by decide) (by decide) (by decide) (Nat.le_of_ble_eq_true rfl) (Nat.le_of_ble_eq_true rfl) dX2_init_15 (fun q2 H hP hD hS => ?_)
  have hP : va_P D vwCl ([(h, .inr (2, [.ref q1, .null, .null, .null, .null, .null, .null, .int 0, .int 0, .int 0])), (q1, .inl (cI, 13, .inl (fun _ => 0))), (q2, .inl (cZ, 13, .inl (fun _ => 0)))]) H := hP
  have hD : va_D A ([(h, .inr (2, [.ref q1, .null, .null, .null, .null, .null, .null, .int 0, .int 0, .int 0])), (q1, .inl (cI, 13, .inl (fun _ => 0))), (q2, .inl (cZ, 13, .inl (fun _ => 0)))]) := hD
  refine W.widen (k := 2) (n := 26) (by decide) (by decide) ?_
  refine va_putF (D := D) (ci := 2) (v := .ref q2) (ty := .array .boolean) (C := RX2) (T := TX2) (N := 10) hx hb hts in_X2 tyX2 tyX2_ok nmX2 hown hK hP hD hS 0 rfl rfl 1 (by decide) (hts _ q145) (fun _ h9 => h9) rfl hin rfl (by decide +kernel) rfl rfl (Nat.le_of_ble_eq_true rfl) dX2_init_17 (fun H locs hP hD hS => ?_)
  have hP : va_P D vwCl ([(h, .inr (2, [.ref q1, .ref q2, .null, .null, .null, .null, .null, .int 0, .int 0, .int 0])), (q1, .inl (cI, 13, .inl (fun _ => 0))), (q2, .inl (cZ, 13, .inl (fun _ => 0)))]) H := hP
  have hD : va_D A ([(h, .inr (2, [.ref q1, .ref q2, .null, .null, .null, .null, .null, .int 0, .int 0, .int 0])), (q1, .inl (cI, 13, .inl (fun _ => 0))), (q2, .inl (cZ, 13, .inl (fun _ => 0)))]) := hD
  refine lv_aload_n hx hb dX2_init_20 rfl (lv_at hl 0 rfl) ?_
  refine lv_bipush (v := 8) hx hb dX2_init_21 (by decide) ?_
  refine g_newaZ hx hb (hts _ q53) 1 rfl hK hP hD hS hA 8 (by decide) (by decide) (by decide) (Nat.le_of_ble_eq_true rfl) (Nat.le_of_ble_eq_true rfl) dX2_init_23 (fun q3 H hP hD hS => ?_)
  have hP : va_P D vwCl ([(h, .inr (2, [.ref q1, .ref q2, .null, .null, .null, .null, .null, .int 0, .int 0, .int 0])), (q1, .inl (cI, 13, .inl (fun _ => 0))), (q2, .inl (cZ, 13, .inl (fun _ => 0))), (q3, .inl (cZ, 8, .inl (fun _ => 0)))]) H := hP
  have hD : va_D A ([(h, .inr (2, [.ref q1, .ref q2, .null, .null, .null, .null, .null, .int 0, .int 0, .int 0])), (q1, .inl (cI, 13, .inl (fun _ => 0))), (q2, .inl (cZ, 13, .inl (fun _ => 0))), (q3, .inl (cZ, 8, .inl (fun _ => 0)))]) := hD
  refine W.widen (k := 3) (n := 34) (by decide) (by decide) ?_
  refine va_putF (D := D) (ci := 2) (v := .ref q3) (ty := .array .boolean) (C := RX2) (T := TX2) (N := 10) hx hb hts in_X2 tyX2 tyX2_ok nmX2 hown hK hP hD hS 0 rfl rfl 2 (by decide) (hts _ q146) (fun _ h9 => h9) rfl hin rfl (by decide +kernel) rfl rfl (Nat.le_of_ble_eq_true rfl) dX2_init_25 (fun H locs hP hD hS => ?_)
  have hP : va_P D vwCl ([(h, .inr (2, [.ref q1, .ref q2, .ref q3, .null, .null, .null, .null, .int 0, .int 0, .int 0])), (q1, .inl (cI, 13, .inl (fun _ => 0))), (q2, .inl (cZ, 13, .inl (fun _ => 0))), (q3, .inl (cZ, 8, .inl (fun _ => 0)))]) H := hP
  have hD : va_D A ([(h, .inr (2, [.ref q1, .ref q2, .ref q3, .null, .null, .null, .null, .int 0, .int 0, .int 0])), (q1, .inl (cI, 13, .inl (fun _ => 0))), (q2, .inl (cZ, 13, .inl (fun _ => 0))), (q3, .inl (cZ, 8, .inl (fun _ => 0)))]) := hD
  refine lv_aload_n hx hb dX2_init_28 rfl (lv_at hl 0 rfl) ?_
  refine lv_bipush (v := 72) hx hb dX2_init_29 (by decide) ?_
  refine g_newaI hx hb (hts _ q54) 0 rfl hK hP hD hS hA 72 (by decide) (by decide) (by decide) (Nat.le_of_ble_eq_true rfl) (Nat.le_of_ble_eq_true rfl) dX2_init_31 (fun q4 H hP hD hS => ?_)
  have hP : va_P D vwCl ([(h, .inr (2, [.ref q1, .ref q2, .ref q3, .null, .null, .null, .null, .int 0, .int 0, .int 0])), (q1, .inl (cI, 13, .inl (fun _ => 0))), (q2, .inl (cZ, 13, .inl (fun _ => 0))), (q3, .inl (cZ, 8, .inl (fun _ => 0))), (q4, .inl (cI, 72, .inl (fun _ => 0)))]) H := hP
  have hD : va_D A ([(h, .inr (2, [.ref q1, .ref q2, .ref q3, .null, .null, .null, .null, .int 0, .int 0, .int 0])), (q1, .inl (cI, 13, .inl (fun _ => 0))), (q2, .inl (cZ, 13, .inl (fun _ => 0))), (q3, .inl (cZ, 8, .inl (fun _ => 0))), (q4, .inl (cI, 72, .inl (fun _ => 0)))]) := hD
  refine W.widen (k := 4) (n := 106) (by decide) (by decide) ?_
  refine va_putF (D := D) (ci := 2) (v := .ref q4) (ty := .array .int) (C := RX2) (T := TX2) (N := 10) hx hb hts in_X2 tyX2 tyX2_ok nmX2 hown hK hP hD hS 0 rfl rfl 3 (by decide) (hts _ q147) (fun _ h9 => h9) rfl hin rfl (by decide +kernel) rfl rfl (Nat.le_of_ble_eq_true rfl) dX2_init_33 (fun H locs hP hD hS => ?_)
  have hP : va_P D vwCl ([(h, .inr (2, [.ref q1, .ref q2, .ref q3, .ref q4, .null, .null, .null, .int 0, .int 0, .int 0])), (q1, .inl (cI, 13, .inl (fun _ => 0))), (q2, .inl (cZ, 13, .inl (fun _ => 0))), (q3, .inl (cZ, 8, .inl (fun _ => 0))), (q4, .inl (cI, 72, .inl (fun _ => 0)))]) H := hP
  have hD : va_D A ([(h, .inr (2, [.ref q1, .ref q2, .ref q3, .ref q4, .null, .null, .null, .int 0, .int 0, .int 0])), (q1, .inl (cI, 13, .inl (fun _ => 0))), (q2, .inl (cZ, 13, .inl (fun _ => 0))), (q3, .inl (cZ, 8, .inl (fun _ => 0))), (q4, .inl (cI, 72, .inl (fun _ => 0)))]) := hD
  refine lv_aload_n hx hb dX2_init_36 rfl (lv_at hl 0 rfl) ?_
  refine lv_bipush (v := 72) hx hb dX2_init_37 (by decide) ?_
  refine g_newaI hx hb (hts _ q54) 0 rfl hK hP hD hS hA 72 (by decide) (by decide) (by decide) (Nat.le_of_ble_eq_true rfl) (Nat.le_of_ble_eq_true rfl) dX2_init_39 (fun q5 H hP hD hS => ?_)
  have hP : va_P D vwCl ([(h, .inr (2, [.ref q1, .ref q2, .ref q3, .ref q4, .null, .null, .null, .int 0, .int 0, .int 0])), (q1, .inl (cI, 13, .inl (fun _ => 0))), (q2, .inl (cZ, 13, .inl (fun _ => 0))), (q3, .inl (cZ, 8, .inl (fun _ => 0))), (q4, .inl (cI, 72, .inl (fun _ => 0))), (q5, .inl (cI, 72, .inl (fun _ => 0)))]) H := hP
  have hD : va_D A ([(h, .inr (2, [.ref q1, .ref q2, .ref q3, .ref q4, .null, .null, .null, .int 0, .int 0, .int 0])), (q1, .inl (cI, 13, .inl (fun _ => 0))), (q2, .inl (cZ, 13, .inl (fun _ => 0))), (q3, .inl (cZ, 8, .inl (fun _ => 0))), (q4, .inl (cI, 72, .inl (fun _ => 0))), (q5, .inl (cI, 72, .inl (fun _ => 0)))]) := hD
  refine W.widen (k := 5) (n := 178) (by decide) (by decide) ?_
  refine va_putF (D := D) (ci := 2) (v := .ref q5) (ty := .array .int) (C := RX2) (T := TX2) (N := 10) hx hb hts in_X2 tyX2 tyX2_ok nmX2 hown hK hP hD hS 0 rfl rfl 4 (by decide) (hts _ q148) (fun _ h9 => h9) rfl hin rfl (by decide +kernel) rfl rfl (Nat.le_of_ble_eq_true rfl) dX2_init_41 (fun H locs hP hD hS => ?_)
  have hP : va_P D vwCl ([(h, .inr (2, [.ref q1, .ref q2, .ref q3, .ref q4, .ref q5, .null, .null, .int 0, .int 0, .int 0])), (q1, .inl (cI, 13, .inl (fun _ => 0))), (q2, .inl (cZ, 13, .inl (fun _ => 0))), (q3, .inl (cZ, 8, .inl (fun _ => 0))), (q4, .inl (cI, 72, .inl (fun _ => 0))), (q5, .inl (cI, 72, .inl (fun _ => 0)))]) H := hP
  have hD : va_D A ([(h, .inr (2, [.ref q1, .ref q2, .ref q3, .ref q4, .ref q5, .null, .null, .int 0, .int 0, .int 0])), (q1, .inl (cI, 13, .inl (fun _ => 0))), (q2, .inl (cZ, 13, .inl (fun _ => 0))), (q3, .inl (cZ, 8, .inl (fun _ => 0))), (q4, .inl (cI, 72, .inl (fun _ => 0))), (q5, .inl (cI, 72, .inl (fun _ => 0)))]) := hD
  refine lv_aload_n hx hb dX2_init_44 rfl (lv_at hl 0 rfl) ?_
  refine lv_bipush (v := 72) hx hb dX2_init_45 (by decide) ?_
  refine g_newaI hx hb (hts _ q54) 0 rfl hK hP hD hS hA 72 (by decide) (by decide) (by decide) (Nat.le_of_ble_eq_true rfl) (Nat.le_of_ble_eq_true rfl) dX2_init_47 (fun q6 H hP hD hS => ?_)
  have hP : va_P D vwCl ([(h, .inr (2, [.ref q1, .ref q2, .ref q3, .ref q4, .ref q5, .null, .null, .int 0, .int 0, .int 0])), (q1, .inl (cI, 13, .inl (fun _ => 0))), (q2, .inl (cZ, 13, .inl (fun _ => 0))), (q3, .inl (cZ, 8, .inl (fun _ => 0))), (q4, .inl (cI, 72, .inl (fun _ => 0))), (q5, .inl (cI, 72, .inl (fun _ => 0))), (q6, .inl (cI, 72, .inl (fun _ => 0)))]) H := hP
  have hD : va_D A ([(h, .inr (2, [.ref q1, .ref q2, .ref q3, .ref q4, .ref q5, .null, .null, .int 0, .int 0, .int 0])), (q1, .inl (cI, 13, .inl (fun _ => 0))), (q2, .inl (cZ, 13, .inl (fun _ => 0))), (q3, .inl (cZ, 8, .inl (fun _ => 0))), (q4, .inl (cI, 72, .inl (fun _ => 0))), (q5, .inl (cI, 72, .inl (fun _ => 0))), (q6, .inl (cI, 72, .inl (fun _ => 0)))]) := hD
  refine W.widen (k := 6) (n := 250) (by decide) (by decide) ?_
  refine va_putF (D := D) (ci := 2) (v := .ref q6) (ty := .array .int) (C := RX2) (T := TX2) (N := 10) hx hb hts in_X2 tyX2 tyX2_ok nmX2 hown hK hP hD hS 0 rfl rfl 5 (by decide) (hts _ q149) (fun _ h9 => h9) rfl hin rfl (by decide +kernel) rfl rfl (Nat.le_of_ble_eq_true rfl) dX2_init_49 (fun H locs hP hD hS => ?_)
  have hP : va_P D vwCl ([(h, .inr (2, [.ref q1, .ref q2, .ref q3, .ref q4, .ref q5, .ref q6, .null, .int 0, .int 0, .int 0])), (q1, .inl (cI, 13, .inl (fun _ => 0))), (q2, .inl (cZ, 13, .inl (fun _ => 0))), (q3, .inl (cZ, 8, .inl (fun _ => 0))), (q4, .inl (cI, 72, .inl (fun _ => 0))), (q5, .inl (cI, 72, .inl (fun _ => 0))), (q6, .inl (cI, 72, .inl (fun _ => 0)))]) H := hP
  have hD : va_D A ([(h, .inr (2, [.ref q1, .ref q2, .ref q3, .ref q4, .ref q5, .ref q6, .null, .int 0, .int 0, .int 0])), (q1, .inl (cI, 13, .inl (fun _ => 0))), (q2, .inl (cZ, 13, .inl (fun _ => 0))), (q3, .inl (cZ, 8, .inl (fun _ => 0))), (q4, .inl (cI, 72, .inl (fun _ => 0))), (q5, .inl (cI, 72, .inl (fun _ => 0))), (q6, .inl (cI, 72, .inl (fun _ => 0)))]) := hD
  refine lv_aload_n hx hb dX2_init_52 rfl (lv_at hl 0 rfl) ?_
  refine lv_bipush (v := 8) hx hb dX2_init_53 (by decide) ?_
  refine g_newaI hx hb (hts _ q54) 0 rfl hK hP hD hS hA 8 (by decide) (by decide) (by decide) (Nat.le_of_ble_eq_true rfl) (Nat.le_of_ble_eq_true rfl) dX2_init_55 (fun q7 H hP hD hS => ?_)
  have hP : va_P D vwCl ([(h, .inr (2, [.ref q1, .ref q2, .ref q3, .ref q4, .ref q5, .ref q6, .null, .int 0, .int 0, .int 0])), (q1, .inl (cI, 13, .inl (fun _ => 0))), (q2, .inl (cZ, 13, .inl (fun _ => 0))), (q3, .inl (cZ, 8, .inl (fun _ => 0))), (q4, .inl (cI, 72, .inl (fun _ => 0))), (q5, .inl (cI, 72, .inl (fun _ => 0))), (q6, .inl (cI, 72, .inl (fun _ => 0))), (q7, .inl (cI, 8, .inl (fun _ => 0)))]) H := hP
  have hD : va_D A ([(h, .inr (2, [.ref q1, .ref q2, .ref q3, .ref q4, .ref q5, .ref q6, .null, .int 0, .int 0, .int 0])), (q1, .inl (cI, 13, .inl (fun _ => 0))), (q2, .inl (cZ, 13, .inl (fun _ => 0))), (q3, .inl (cZ, 8, .inl (fun _ => 0))), (q4, .inl (cI, 72, .inl (fun _ => 0))), (q5, .inl (cI, 72, .inl (fun _ => 0))), (q6, .inl (cI, 72, .inl (fun _ => 0))), (q7, .inl (cI, 8, .inl (fun _ => 0)))]) := hD
  refine W.widen (k := 7) (n := 258) (by decide) (by decide) ?_
  refine va_putF (D := D) (ci := 2) (v := .ref q7) (ty := .array .int) (C := RX2) (T := TX2) (N := 10) hx hb hts in_X2 tyX2 tyX2_ok nmX2 hown hK hP hD hS 0 rfl rfl 6 (by decide) (hts _ q150) (fun _ h9 => h9) rfl hin rfl (by decide +kernel) rfl rfl (Nat.le_of_ble_eq_true rfl) dX2_init_57 (fun H locs hP hD hS => ?_)
  have hP : va_P D vwCl ([(h, .inr (2, [.ref q1, .ref q2, .ref q3, .ref q4, .ref q5, .ref q6, .ref q7, .int 0, .int 0, .int 0])), (q1, .inl (cI, 13, .inl (fun _ => 0))), (q2, .inl (cZ, 13, .inl (fun _ => 0))), (q3, .inl (cZ, 8, .inl (fun _ => 0))), (q4, .inl (cI, 72, .inl (fun _ => 0))), (q5, .inl (cI, 72, .inl (fun _ => 0))), (q6, .inl (cI, 72, .inl (fun _ => 0))), (q7, .inl (cI, 8, .inl (fun _ => 0)))]) H := hP
  have hD : va_D A ([(h, .inr (2, [.ref q1, .ref q2, .ref q3, .ref q4, .ref q5, .ref q6, .ref q7, .int 0, .int 0, .int 0])), (q1, .inl (cI, 13, .inl (fun _ => 0))), (q2, .inl (cZ, 13, .inl (fun _ => 0))), (q3, .inl (cZ, 8, .inl (fun _ => 0))), (q4, .inl (cI, 72, .inl (fun _ => 0))), (q5, .inl (cI, 72, .inl (fun _ => 0))), (q6, .inl (cI, 72, .inl (fun _ => 0))), (q7, .inl (cI, 8, .inl (fun _ => 0)))]) := hD
  refine lv_iconst (v := nI 0) hx hb dX2_init_60 (by decide) ?_
  refine lv_istore_n (lv' := [(1, .int (nI 0)), (0, .ref h)]) hx hb dX2_init_61 rfl hl (by decide) rfl (fun ls hl => ?_)
  refine L_init2_62 ⟨hx, hb, hml, hown, hts⟩ hK h q1 q2 q3 q4 q5 q6 q7 (fun H locs ls fo fp h1 h2 hw hl => ?_) 73 0 (by decide) (by decide) _ _ ls _ _ (fun j h => absurd h (by omega)) (fun j h => absurd h (by omega)) ⟨hP, hD, hS⟩ (lv_sub hl [1, 0] rfl)
  obtain ⟨hP, hD, hS⟩ := hw
  have hP := g_ext (g := fun _ => -1) hP 4 rfl (h1)
  have hD := hD.set (p := 4) (e := .inl (cI, 72, .inl (fun _ => -1))) rfl
  have hP : va_P D vwCl ([(h, .inr (2, [.ref q1, .ref q2, .ref q3, .ref q4, .ref q5, .ref q6, .ref q7, .int 0, .int 0, .int 0])), (q1, .inl (cI, 13, .inl (fun _ => 0))), (q2, .inl (cZ, 13, .inl (fun _ => 0))), (q3, .inl (cZ, 8, .inl (fun _ => 0))), (q4, .inl (cI, 72, .inl (fun _ => -1))), (q5, .inl (cI, 72, .inl (fun _ => 0))), (q6, .inl (cI, 72, .inl fp)), (q7, .inl (cI, 8, .inl (fun _ => 0)))]) _ := hP
  have hD : va_D A ([(h, .inr (2, [.ref q1, .ref q2, .ref q3, .ref q4, .ref q5, .ref q6, .ref q7, .int 0, .int 0, .int 0])), (q1, .inl (cI, 13, .inl (fun _ => 0))), (q2, .inl (cZ, 13, .inl (fun _ => 0))), (q3, .inl (cZ, 8, .inl (fun _ => 0))), (q4, .inl (cI, 72, .inl (fun _ => -1))), (q5, .inl (cI, 72, .inl (fun _ => 0))), (q6, .inl (cI, 72, .inl fp)), (q7, .inl (cI, 8, .inl (fun _ => 0)))]) := hD
  have hP := g_ext (g := fun _ => -1) hP 6 rfl (h2)
  have hD := hD.set (p := 6) (e := .inl (cI, 72, .inl (fun _ => -1))) rfl
  have hP : va_P D vwCl ([(h, .inr (2, [.ref q1, .ref q2, .ref q3, .ref q4, .ref q5, .ref q6, .ref q7, .int 0, .int 0, .int 0])), (q1, .inl (cI, 13, .inl (fun _ => 0))), (q2, .inl (cZ, 13, .inl (fun _ => 0))), (q3, .inl (cZ, 8, .inl (fun _ => 0))), (q4, .inl (cI, 72, .inl (fun _ => -1))), (q5, .inl (cI, 72, .inl (fun _ => 0))), (q6, .inl (cI, 72, .inl (fun _ => -1))), (q7, .inl (cI, 8, .inl (fun _ => 0)))]) _ := hP
  have hD : va_D A ([(h, .inr (2, [.ref q1, .ref q2, .ref q3, .ref q4, .ref q5, .ref q6, .ref q7, .int 0, .int 0, .int 0])), (q1, .inl (cI, 13, .inl (fun _ => 0))), (q2, .inl (cZ, 13, .inl (fun _ => 0))), (q3, .inl (cZ, 8, .inl (fun _ => 0))), (q4, .inl (cI, 72, .inl (fun _ => -1))), (q5, .inl (cI, 72, .inl (fun _ => 0))), (q6, .inl (cI, 72, .inl (fun _ => -1))), (q7, .inl (cI, 8, .inl (fun _ => 0)))]) := hD
  exact W.vret hx hb hr (fun t0 h0t hW => ⟨⟨(fun k => [h, q1, q2, q3, q4, q5, q6, q7].getD k 0), rfl, rfl, by rw [h0t]; exact hP, va_K.moved hW.alike hK, hD⟩, hS.F h0t⟩) hS.2.2 dX2_init_88
end GI
end
section
/-! THE CLAIM OUT OF ONE WALK OF THE LAW'S BODY. Your part is whole_start (and what it stands on); all else here is the same for every law, but numbers. -/
def R_law : String := "GroupRowsLaw"
def lw_P (b : Addr) (xs : List Int32) (args : Array Value) (s : State) : Prop := args = #[.ref b] ∧ s.IntsAt b xs ∧ xs.length ≤ 384 ∧ (Jvm.Cond.and given_1 narrow_1).before args s = true
def lw_Q (_ : Array Value) (s : State) (o : Outcome) (t : State) : Prop := o = .returned (some (.int 1)) ∧ Framed s o t [] 600000 7290000
def lw_Z (below : List Frame) (a : Array Value) (s : State) : State → Prop := fun t => ∃ o, t.status = .running ∧ Ended t below o ∧ lw_Q a s o t
/-- the law's own end, with 1 on the stack, nothing written that was there before, its room as the claim has it -/
theorem lw_ret {p : Program} {l : Launch} {e : Env} {s : State} {m : MethodId} {below : List Frame} {meth : Method} {c : Code} {b : Nat} (hx : p.tables.exec = Jvm.exec) (hb : c.code = code) (hr : meth.sig.returnType = ret) (hlocks : meth.locks = false) {pc : Nat} {H : Heap} {ls : Array Slot} (hdg : decode code pc = .ok (.ireturn, 1)) : W p l e room_1 s m #[Value.ref b] below meth c H [] 600000 7290000 (lw_Z below #[Value.ref b] s) (F0 m pc ls [.int 1]) := by
  intro T hT X
  obtain ⟨fs, hret, hrun, hended, hW, hframe⟩ := X.leave (v := some (.int 1)) (hlocks := hlocks) (fun h => by rw [hr] at h; cases h)
  have hmeth' : T.vm.method? m = some meth := X.method'
  refine ⟨T.setFrames fs, ?_, .returned (some (.int 1)), hrun, hended, rfl, ⟨_, rfl⟩, hW, hframe⟩
  jvm_step X.here [X.here.top, hx, hb, hdg, hmeth', hr, ret, narrow_b1]
  (try refine ⟨rfl, ?_⟩); (try refine ⟨rfl, ?_⟩)
  first | (intro acts; rw [hret _ acts rfl rfl rfl]) | rw [hret _ _ rfl rfl rfl]
  exact Steps.refl _
/-- what holds at the law's entry: the machine, the code, the tables' words (any of lw_tbl by 'hts w (by decide +kernel)'), the script of L ints xs at the cell b, what the Statement gives of the start (any of its parts by flat_of_before) -/
def lw_At (p : Program) (s : State) (m : MethodId) (meth : Method) (c : Code) (b L : Nat) (xs : Nat → Int32) : Prop :=
  p.tables.exec = Jvm.exec ∧ c.code = code ∧ meth.sig.returnType = ret ∧ c.maxLocals = 4 ∧ s.vm.findClass R_law = some m.cls ∧ (∀ w ∈ lw_tbl, w.before #[Value.ref b] s = true) ∧ va_X b L xs s s.heap ∧ b < s.heap.size ∧ meth.locks = false ∧ (Jvm.Cond.and given_1 narrow_1).before #[Value.ref b] s = true
/-! LAW: rows of the law's own -/
theorem g_sld {p : Program} {l : Launch} {e : Env} {R : Room} {s : State} {m : MethodId} {args : Array Value} {below : List Frame} {meth : Method} {c : Code} {H : Heap} {locs : List Loc} {cells slots : Nat} {Q : State → Prop} {cc : ByteArray} {pc : Nat} {ls : Array Slot} {rest : List Value} {A : Nat → Prop} {H0 : Heap} (hexec : p.tables.exec = Jvm.exec) (hb : c.code = cc) {b L : Nat} {xs : Nat → Int32} (hX : va_X b L xs s H0) (hbl : b < H0.size) (hbA : ¬ A b) (hS : va_S A H0 H locs) {i : Int32} (j : Nat) (hi : i = nI j) (hj : j < L) (hL : L < 2 ^ 31) (hdg : decode cc pc = .ok (.iaload, 1))
    (kk : W p l e R s m args below meth c H locs cells slots Q (F0 m (pc + 1) ls (.int (xs j) :: rest))) : W p l e R s m args below meth c H locs cells slots Q (F0 m pc ls (.int i :: .ref b :: rest)) := by
  subst hi
  refine va_sld hexec hb hX hbl hbA hS (vp_in_nI hj hL) hdg ?_
  rw [nI_clamp (Nat.lt_trans hj hL)]
  exact kk
theorem law_f {L i : Nat} (hL : L ≤ 384) (hi : i ≤ 384) (h : ¬ Int32.ofNat L - 6 < nI i) : i + 6 ≤ L := by
  have e : (nI L - nI 6).toInt = (L : Int) - (6 : Nat) := pk_sub_toInt (by omega) (by decide)
  have h2 : ¬ nI L - nI 6 < nI i := h
  rw [Int32.lt_iff_toInt_lt, e, nI_toInt (by omega)] at h2
  omega
abbrev LA (s : State) : Nat → Prop := fun q => s.heap.size ≤ q
abbrev wL (ax am : Nat → Nat) (cI cZ : ClassId) (u : US) (cx bx cm bm : FF) : va_W := wX ax cI cZ u.1 u.2.1 u.2.2.1 u.2.2.2.1 u.2.2.2.2.1 u.2.2.2.2.2.1 u.2.2.2.2.2.2.1 cx u.2.2.2.2.2.2.2 bx ++ wM am cI cZ u.1 u.2.1 u.2.2.1 u.2.2.2.1 u.2.2.2.2.1 u.2.2.2.2.2.1 u.2.2.2.2.2.2.1 cm u.2.2.2.2.2.2.2 bm
section LW
variable {p : Program} {e : Env} {s : State} {m : MethodId} {below : List Frame} {meth : Method} {c : Code} {Q : State → Prop} {D : va_G} {cI cZ : ClassId} {b L : Nat} {xs : Nat → Int32}
set_option maxHeartbeats 4000000 in
set_option maxRecDepth 100000 in
theorem law_case0 (l : Launch) (ax am : Nat → Nat) (hL : L ≤ 384) (C0 : lw_At p s m meth c b L xs) (hK : va_K D vwCl (tyIZ cI cZ) s) (i : Nat) (hi : i + 6 ≤ L) (hk : ∀ (H : Heap) (locs : List Loc) (ls : Array Slot) (u : US) (cx bx cm bm : FF), WFU u → Wl D (LA s) (wL ax am cI cZ u cx bx cm bm) s H locs → lv_has ls 4 [(0, .ref b), (1, .ref (ax 0)), (2, .ref (am 0)), (3, .int (nI i))] → W p l e room_1 s m #[Value.ref b] below meth c H locs 17 537 Q (F0 m 358 ls [])) (H : Heap) (locs : List Loc) (ls : Array Slot) (u : US) (cx bx cm bm : FF) (hu : WFU u) (hw : Wl D (LA s) (wL ax am cI cZ u cx bx cm bm) s H locs) (hl : lv_has ls 4 [(0, .ref b), (1, .ref (ax 0)), (2, .ref (am 0)), (3, .int (nI i))]) : W p l e room_1 s m #[Value.ref b] below meth c H locs 17 537 Q (F0 m 88 ls []) := by
  obtain ⟨hx, hb, hr, hml, hown, hts0, hX, hbl, hlocks, hgv⟩ := id C0
  have hts : ∀ w ∈ lw_all, w.before #[Value.ref b] s = true := fun w h => hts0 w (lw_all_tbl h)
  have hA : ∀ q : Nat, s.heap.size ≤ q → LA s q := fun _ h => h
  have hbA : ¬ LA s b := Nat.not_le.mpr hbl
  obtain ⟨tc, mv, gn, mb, tp, ow, pl, sz⟩ := u
  have hwf : WF tc mb tp ow sz := hu
  obtain ⟨hP, hD, hS⟩ := hw
  have hP : va_P D vwCl (wX ax cI cZ tc mv gn mb tp ow pl cx sz bx ++ wM am cI cZ tc mv gn mb tp ow pl cm sz bm) H := hP
  have hD : va_D (LA s) (wX ax cI cZ tc mv gn mb tp ow pl cx sz bx ++ wM am cI cZ tc mv gn mb tp ow pl cm sz bm) := hD
  refine lv_aload_n hx hb dL_law_88 rfl (lv_at hl 1 rfl) ?_
  refine lv_aload_n hx hb dL_law_89 rfl (lv_at hl 0 rfl) ?_
  refine lv_iload_n hx hb dL_law_90 rfl (lv_at hl 3 rfl) ?_
  refine lv_iconst (v := nI 1) hx hb dL_law_91 (by decide) ?_
  refine lv_iadd hx hb dL_law_92 ?_
  refine g_top (y := nI (i + 1)) (nI_add i 1) ?_
  refine g_sld hx hb hX hbl hbA hS (i + 1) rfl (by omega) (by omega) dL_law_93 ?_
  have hPc := hP.sub (ws' := wX ax cI cZ tc mv gn mb tp ow pl cx sz bx) [0, 1, 2, 3, 4, 5, 6, 7, 8] rfl
  have hDc := hD.sub (ws' := wX ax cI cZ tc mv gn mb tp ow pl cx sz bx) [0, 1, 2, 3, 4, 5, 6, 7, 8] (by decide) rfl
  have hFc := va_free (wc := wX ax cI cZ tc mv gn mb tp ow pl cx sz bx) hD hS hA [0, 1, 2, 3, 4, 5, 6, 7, 8] rfl
  refine va_calli (va_runV (As := [.int (xs (i + 1))]) (rest := []) ⟨hx, hb, hml, hown, hts⟩ (metX0_topic l D ax cI cZ tc mv gn mb tp ow pl cx sz bx H.size (xs (i + 1)) hwf) (cwV 1 hts (lw_V q71 q72 q73 q12 q74) rfl rfl rfl (by decide +kernel) ⟨Nat.le_of_ble_eq_true rfl, Nat.le_of_ble_eq_true rfl⟩) ⟨blM, va_recv hK hPc (ci := 0) (q0 := 0) rfl rfl, prM hPc hDc hK⟩ rfl rfl hl.1 rfl (lv_room (Nat.le_of_ble_eq_true rfl)) dL_law_94 ⟨Nat.le_of_ble_eq_true rfl, Nat.le_of_ble_eq_true rfl⟩) hS (fun q _ h => hFc q h) hFc (fun r1 u1 t1 H1 locs h1t hvm hw1 hB hz1 hk1 hS => ?_)
  obtain ⟨cx1, bx1, hP1, hK1, hD1⟩ := hB
  rw [h1t] at hP1
  obtain ⟨hP, hD⟩ := va_join (wr := wM am cI cZ tc mv gn mb tp ow pl cm sz bm) (w1 := wX ax cI cZ u1.1 u1.2.1 u1.2.2.1 u1.2.2.2.1 u1.2.2.2.2.1 u1.2.2.2.2.2.1 u1.2.2.2.2.2.2.1 cx1 u1.2.2.2.2.2.2.2 bx1) hP hD [0, 1, 2, 3, 4, 5, 6, 7, 8] [9, 10, 11, 12, 13, 14, 15, 16] rfl rfl (by decide) (by decide) hk1 hFc hP1 hD1
  generalize H1 = H at hP hS ⊢
  refine lv_aload_n hx hb dL_law_97 rfl (lv_at hl 2 rfl) ?_
  refine lv_aload_n hx hb dL_law_98 rfl (lv_at hl 0 rfl) ?_
  refine lv_iload_n hx hb dL_law_99 rfl (lv_at hl 3 rfl) ?_
  refine lv_iconst (v := nI 1) hx hb dL_law_100 (by decide) ?_
  refine lv_iadd hx hb dL_law_101 ?_
  refine g_top (y := nI (i + 1)) (nI_add i 1) ?_
  refine g_sld hx hb hX hbl hbA hS (i + 1) rfl (by omega) (by omega) dL_law_102 ?_
  have hPc := hP.sub (ws' := wM am cI cZ tc mv gn mb tp ow pl cm sz bm) [0, 1, 2, 3, 4, 5, 6, 7] rfl
  have hDc := hD.sub (ws' := wM am cI cZ tc mv gn mb tp ow pl cm sz bm) [0, 1, 2, 3, 4, 5, 6, 7] (by decide) rfl
  have hFc := va_free (wc := wM am cI cZ tc mv gn mb tp ow pl cm sz bm) hD hS hA [0, 1, 2, 3, 4, 5, 6, 7] rfl
  refine va_calli (va_runV (As := [.int (xs (i + 1))]) (rest := [.int r1]) ⟨hx, hb, hml, hown, hts⟩ (metX2_topic l D am cI cZ tc mv gn mb tp ow pl cm sz bm H.size (xs (i + 1)) hwf) (cwV 1 hts (lw_V q175 q176 q177 q14 q178) rfl rfl rfl (by decide +kernel) ⟨Nat.le_of_ble_eq_true rfl, Nat.le_of_ble_eq_true rfl⟩) ⟨blM, va_recv hK hPc (ci := 2) (q0 := 0) rfl rfl, prM hPc hDc hK⟩ rfl rfl hl.1 rfl (lv_room (Nat.le_of_ble_eq_true rfl)) dL_law_103 ⟨Nat.le_of_ble_eq_true rfl, Nat.le_of_ble_eq_true rfl⟩) hS (fun q _ h => hFc q h) hFc (fun r2 u2 t1 H1 locs h1t hvm hw2 hB hz1 hk1 hS => ?_)
  obtain ⟨cm1, bm1, hP1, hK1, hD1⟩ := hB
  rw [h1t] at hP1
  obtain ⟨hP, hD⟩ := va_join (wr := wX ax cI cZ u1.1 u1.2.1 u1.2.2.1 u1.2.2.2.1 u1.2.2.2.2.1 u1.2.2.2.2.2.1 u1.2.2.2.2.2.2.1 cx1 u1.2.2.2.2.2.2.2 bx1) (w1 := wM am cI cZ u2.1 u2.2.1 u2.2.2.1 u2.2.2.2.1 u2.2.2.2.2.1 u2.2.2.2.2.2.1 u2.2.2.2.2.2.2.1 cm1 u2.2.2.2.2.2.2.2 bm1) hP hD [0, 1, 2, 3, 4, 5, 6, 7] [8, 9, 10, 11, 12, 13, 14, 15, 16] rfl rfl (by decide) (by decide) hk1 hFc hP1 hD1
  generalize H1 = H at hP hS ⊢
  refine lv_icmp_eq (tgt := 358) hx hb dL_law_106 (by decide) (fun c106 => ?_) (fun c106 => ?_)
  · obtain ⟨er, rfl⟩ := topP.det hw1 hw2
    exact hk H locs ls u1 cx1 bx1 cm1 bm1 (topP.wf hwf hw1) ⟨hP, hD, hS⟩ hl
  · exact absurd (topP.det hw1 hw2).1 c106
set_option maxHeartbeats 4000000 in
set_option maxRecDepth 100000 in
theorem law_case1 (l : Launch) (ax am : Nat → Nat) (hL : L ≤ 384) (C0 : lw_At p s m meth c b L xs) (hK : va_K D vwCl (tyIZ cI cZ) s) (i : Nat) (hi : i + 6 ≤ L) (hk : ∀ (H : Heap) (locs : List Loc) (ls : Array Slot) (u : US) (cx bx cm bm : FF), WFU u → Wl D (LA s) (wL ax am cI cZ u cx bx cm bm) s H locs → lv_has ls 4 [(0, .ref b), (1, .ref (ax 0)), (2, .ref (am 0)), (3, .int (nI i))] → W p l e room_1 s m #[Value.ref b] below meth c H locs 17 537 Q (F0 m 358 ls [])) (H : Heap) (locs : List Loc) (ls : Array Slot) (u : US) (cx bx cm bm : FF) (hu : WFU u) (hw : Wl D (LA s) (wL ax am cI cZ u cx bx cm bm) s H locs) (hl : lv_has ls 4 [(0, .ref b), (1, .ref (ax 0)), (2, .ref (am 0)), (3, .int (nI i))]) : W p l e room_1 s m #[Value.ref b] below meth c H locs 17 537 Q (F0 m 111 ls []) := by
  obtain ⟨hx, hb, hr, hml, hown, hts0, hX, hbl, hlocks, hgv⟩ := id C0
  have hts : ∀ w ∈ lw_all, w.before #[Value.ref b] s = true := fun w h => hts0 w (lw_all_tbl h)
  have hA : ∀ q : Nat, s.heap.size ≤ q → LA s q := fun _ h => h
  have hbA : ¬ LA s b := Nat.not_le.mpr hbl
  obtain ⟨tc, mv, gn, mb, tp, ow, pl, sz⟩ := u
  have hwf : WF tc mb tp ow sz := hu
  obtain ⟨hP, hD, hS⟩ := hw
  have hP : va_P D vwCl (wX ax cI cZ tc mv gn mb tp ow pl cx sz bx ++ wM am cI cZ tc mv gn mb tp ow pl cm sz bm) H := hP
  have hD : va_D (LA s) (wX ax cI cZ tc mv gn mb tp ow pl cx sz bx ++ wM am cI cZ tc mv gn mb tp ow pl cm sz bm) := hD
  refine lv_aload_n hx hb dL_law_111 rfl (lv_at hl 1 rfl) ?_
  refine lv_aload_n hx hb dL_law_112 rfl (lv_at hl 0 rfl) ?_
  refine lv_iload_n hx hb dL_law_113 rfl (lv_at hl 3 rfl) ?_
  refine lv_iconst (v := nI 1) hx hb dL_law_114 (by decide) ?_
  refine lv_iadd hx hb dL_law_115 ?_
  refine g_top (y := nI (i + 1)) (nI_add i 1) ?_
  refine g_sld hx hb hX hbl hbA hS (i + 1) rfl (by omega) (by omega) dL_law_116 ?_
  have hPc := hP.sub (ws' := wX ax cI cZ tc mv gn mb tp ow pl cx sz bx) [0, 1, 2, 3, 4, 5, 6, 7, 8] rfl
  have hDc := hD.sub (ws' := wX ax cI cZ tc mv gn mb tp ow pl cx sz bx) [0, 1, 2, 3, 4, 5, 6, 7, 8] (by decide) rfl
  have hFc := va_free (wc := wX ax cI cZ tc mv gn mb tp ow pl cx sz bx) hD hS hA [0, 1, 2, 3, 4, 5, 6, 7, 8] rfl
  refine va_calli (va_runV (As := [.int (xs (i + 1))]) (rest := []) ⟨hx, hb, hml, hown, hts⟩ (metX0_subscribe l D ax cI cZ tc mv gn mb tp ow pl cx sz bx H.size (xs (i + 1)) hwf) (cwV 1 hts (lw_V q75 q76 q77 q12 q78) rfl rfl rfl (by decide +kernel) ⟨Nat.le_of_ble_eq_true rfl, Nat.le_of_ble_eq_true rfl⟩) ⟨blM, va_recv hK hPc (ci := 0) (q0 := 0) rfl rfl, prM hPc hDc hK⟩ rfl rfl hl.1 rfl (lv_room (Nat.le_of_ble_eq_true rfl)) dL_law_117 ⟨Nat.le_of_ble_eq_true rfl, Nat.le_of_ble_eq_true rfl⟩) hS (fun q _ h => hFc q h) hFc (fun r1 u1 t1 H1 locs h1t hvm hw1 hB hz1 hk1 hS => ?_)
  obtain ⟨cx1, bx1, hP1, hK1, hD1⟩ := hB
  rw [h1t] at hP1
  obtain ⟨hP, hD⟩ := va_join (wr := wM am cI cZ tc mv gn mb tp ow pl cm sz bm) (w1 := wX ax cI cZ u1.1 u1.2.1 u1.2.2.1 u1.2.2.2.1 u1.2.2.2.2.1 u1.2.2.2.2.2.1 u1.2.2.2.2.2.2.1 cx1 u1.2.2.2.2.2.2.2 bx1) hP hD [0, 1, 2, 3, 4, 5, 6, 7, 8] [9, 10, 11, 12, 13, 14, 15, 16] rfl rfl (by decide) (by decide) hk1 hFc hP1 hD1
  generalize H1 = H at hP hS ⊢
  refine lv_aload_n hx hb dL_law_120 rfl (lv_at hl 2 rfl) ?_
  refine lv_aload_n hx hb dL_law_121 rfl (lv_at hl 0 rfl) ?_
  refine lv_iload_n hx hb dL_law_122 rfl (lv_at hl 3 rfl) ?_
  refine lv_iconst (v := nI 1) hx hb dL_law_123 (by decide) ?_
  refine lv_iadd hx hb dL_law_124 ?_
  refine g_top (y := nI (i + 1)) (nI_add i 1) ?_
  refine g_sld hx hb hX hbl hbA hS (i + 1) rfl (by omega) (by omega) dL_law_125 ?_
  have hPc := hP.sub (ws' := wM am cI cZ tc mv gn mb tp ow pl cm sz bm) [0, 1, 2, 3, 4, 5, 6, 7] rfl
  have hDc := hD.sub (ws' := wM am cI cZ tc mv gn mb tp ow pl cm sz bm) [0, 1, 2, 3, 4, 5, 6, 7] (by decide) rfl
  have hFc := va_free (wc := wM am cI cZ tc mv gn mb tp ow pl cm sz bm) hD hS hA [0, 1, 2, 3, 4, 5, 6, 7] rfl
  refine va_calli (va_runV (As := [.int (xs (i + 1))]) (rest := [.int r1]) ⟨hx, hb, hml, hown, hts⟩ (metX2_subscribe l D am cI cZ tc mv gn mb tp ow pl cm sz bm H.size (xs (i + 1)) hwf) (cwV 1 hts (lw_V q179 q180 q181 q14 q182) rfl rfl rfl (by decide +kernel) ⟨Nat.le_of_ble_eq_true rfl, Nat.le_of_ble_eq_true rfl⟩) ⟨blM, va_recv hK hPc (ci := 2) (q0 := 0) rfl rfl, prM hPc hDc hK⟩ rfl rfl hl.1 rfl (lv_room (Nat.le_of_ble_eq_true rfl)) dL_law_126 ⟨Nat.le_of_ble_eq_true rfl, Nat.le_of_ble_eq_true rfl⟩) hS (fun q _ h => hFc q h) hFc (fun r2 u2 t1 H1 locs h1t hvm hw2 hB hz1 hk1 hS => ?_)
  obtain ⟨cm1, bm1, hP1, hK1, hD1⟩ := hB
  rw [h1t] at hP1
  obtain ⟨hP, hD⟩ := va_join (wr := wX ax cI cZ u1.1 u1.2.1 u1.2.2.1 u1.2.2.2.1 u1.2.2.2.2.1 u1.2.2.2.2.2.1 u1.2.2.2.2.2.2.1 cx1 u1.2.2.2.2.2.2.2 bx1) (w1 := wM am cI cZ u2.1 u2.2.1 u2.2.2.1 u2.2.2.2.1 u2.2.2.2.2.1 u2.2.2.2.2.2.1 u2.2.2.2.2.2.2.1 cm1 u2.2.2.2.2.2.2.2 bm1) hP hD [0, 1, 2, 3, 4, 5, 6, 7] [8, 9, 10, 11, 12, 13, 14, 15, 16] rfl rfl (by decide) (by decide) hk1 hFc hP1 hD1
  generalize H1 = H at hP hS ⊢
  refine lv_icmp_eq (tgt := 358) hx hb dL_law_129 (by decide) (fun c129 => ?_) (fun c129 => ?_)
  · obtain ⟨er, rfl⟩ := subP.det hw1 hw2
    exact hk H locs ls u1 cx1 bx1 cm1 bm1 (subP.wf hwf hw1) ⟨hP, hD, hS⟩ hl
  · exact absurd (subP.det hw1 hw2).1 c129
set_option maxHeartbeats 4000000 in
set_option maxRecDepth 100000 in
theorem law_case2 (l : Launch) (ax am : Nat → Nat) (hL : L ≤ 384) (C0 : lw_At p s m meth c b L xs) (hK : va_K D vwCl (tyIZ cI cZ) s) (i : Nat) (hi : i + 6 ≤ L) (hk : ∀ (H : Heap) (locs : List Loc) (ls : Array Slot) (u : US) (cx bx cm bm : FF), WFU u → Wl D (LA s) (wL ax am cI cZ u cx bx cm bm) s H locs → lv_has ls 4 [(0, .ref b), (1, .ref (ax 0)), (2, .ref (am 0)), (3, .int (nI i))] → W p l e room_1 s m #[Value.ref b] below meth c H locs 17 537 Q (F0 m 358 ls [])) (H : Heap) (locs : List Loc) (ls : Array Slot) (u : US) (cx bx cm bm : FF) (hu : WFU u) (hw : Wl D (LA s) (wL ax am cI cZ u cx bx cm bm) s H locs) (hl : lv_has ls 4 [(0, .ref b), (1, .ref (ax 0)), (2, .ref (am 0)), (3, .int (nI i))]) : W p l e room_1 s m #[Value.ref b] below meth c H locs 17 537 Q (F0 m 134 ls []) := by
  obtain ⟨hx, hb, hr, hml, hown, hts0, hX, hbl, hlocks, hgv⟩ := id C0
  have hts : ∀ w ∈ lw_all, w.before #[Value.ref b] s = true := fun w h => hts0 w (lw_all_tbl h)
  have hA : ∀ q : Nat, s.heap.size ≤ q → LA s q := fun _ h => h
  have hbA : ¬ LA s b := Nat.not_le.mpr hbl
  obtain ⟨tc, mv, gn, mb, tp, ow, pl, sz⟩ := u
  have hwf : WF tc mb tp ow sz := hu
  obtain ⟨hP, hD, hS⟩ := hw
  have hP : va_P D vwCl (wX ax cI cZ tc mv gn mb tp ow pl cx sz bx ++ wM am cI cZ tc mv gn mb tp ow pl cm sz bm) H := hP
  have hD : va_D (LA s) (wX ax cI cZ tc mv gn mb tp ow pl cx sz bx ++ wM am cI cZ tc mv gn mb tp ow pl cm sz bm) := hD
  refine lv_aload_n hx hb dL_law_134 rfl (lv_at hl 1 rfl) ?_
  refine lv_aload_n hx hb dL_law_135 rfl (lv_at hl 0 rfl) ?_
  refine lv_iload_n hx hb dL_law_136 rfl (lv_at hl 3 rfl) ?_
  refine lv_iconst (v := nI 1) hx hb dL_law_137 (by decide) ?_
  refine lv_iadd hx hb dL_law_138 ?_
  refine g_top (y := nI (i + 1)) (nI_add i 1) ?_
  refine g_sld hx hb hX hbl hbA hS (i + 1) rfl (by omega) (by omega) dL_law_139 ?_
  have hPc := hP.sub (ws' := wX ax cI cZ tc mv gn mb tp ow pl cx sz bx) [0, 1, 2, 3, 4, 5, 6, 7, 8] rfl
  have hDc := hD.sub (ws' := wX ax cI cZ tc mv gn mb tp ow pl cx sz bx) [0, 1, 2, 3, 4, 5, 6, 7, 8] (by decide) rfl
  have hFc := va_free (wc := wX ax cI cZ tc mv gn mb tp ow pl cx sz bx) hD hS hA [0, 1, 2, 3, 4, 5, 6, 7, 8] rfl
  refine va_calli (va_runV (As := [.int (xs (i + 1))]) (rest := []) ⟨hx, hb, hml, hown, hts⟩ (metX0_enter l D ax cI cZ tc mv gn mb tp ow pl cx sz bx H.size (xs (i + 1)) hwf) (cwV 1 hts (lw_V q95 q96 q97 q12 q98) rfl rfl rfl (by decide +kernel) ⟨Nat.le_of_ble_eq_true rfl, Nat.le_of_ble_eq_true rfl⟩) ⟨blM, va_recv hK hPc (ci := 0) (q0 := 0) rfl rfl, prM hPc hDc hK⟩ rfl rfl hl.1 rfl (lv_room (Nat.le_of_ble_eq_true rfl)) dL_law_140 ⟨Nat.le_of_ble_eq_true rfl, Nat.le_of_ble_eq_true rfl⟩) hS (fun q _ h => hFc q h) hFc (fun r1 u1 t1 H1 locs h1t hvm hw1 hB hz1 hk1 hS => ?_)
  obtain ⟨cx1, bx1, hP1, hK1, hD1⟩ := hB
  rw [h1t] at hP1
  obtain ⟨hP, hD⟩ := va_join (wr := wM am cI cZ tc mv gn mb tp ow pl cm sz bm) (w1 := wX ax cI cZ u1.1 u1.2.1 u1.2.2.1 u1.2.2.2.1 u1.2.2.2.2.1 u1.2.2.2.2.2.1 u1.2.2.2.2.2.2.1 cx1 u1.2.2.2.2.2.2.2 bx1) hP hD [0, 1, 2, 3, 4, 5, 6, 7, 8] [9, 10, 11, 12, 13, 14, 15, 16] rfl rfl (by decide) (by decide) hk1 hFc hP1 hD1
  generalize H1 = H at hP hS ⊢
  refine lv_aload_n hx hb dL_law_143 rfl (lv_at hl 2 rfl) ?_
  refine lv_aload_n hx hb dL_law_144 rfl (lv_at hl 0 rfl) ?_
  refine lv_iload_n hx hb dL_law_145 rfl (lv_at hl 3 rfl) ?_
  refine lv_iconst (v := nI 1) hx hb dL_law_146 (by decide) ?_
  refine lv_iadd hx hb dL_law_147 ?_
  refine g_top (y := nI (i + 1)) (nI_add i 1) ?_
  refine g_sld hx hb hX hbl hbA hS (i + 1) rfl (by omega) (by omega) dL_law_148 ?_
  have hPc := hP.sub (ws' := wM am cI cZ tc mv gn mb tp ow pl cm sz bm) [0, 1, 2, 3, 4, 5, 6, 7] rfl
  have hDc := hD.sub (ws' := wM am cI cZ tc mv gn mb tp ow pl cm sz bm) [0, 1, 2, 3, 4, 5, 6, 7] (by decide) rfl
  have hFc := va_free (wc := wM am cI cZ tc mv gn mb tp ow pl cm sz bm) hD hS hA [0, 1, 2, 3, 4, 5, 6, 7] rfl
  refine va_calli (va_runV (As := [.int (xs (i + 1))]) (rest := [.int r1]) ⟨hx, hb, hml, hown, hts⟩ (metX2_enter l D am cI cZ tc mv gn mb tp ow pl cm sz bm H.size (xs (i + 1)) hwf) (cwV 1 hts (lw_V q203 q204 q205 q14 q206) rfl rfl rfl (by decide +kernel) ⟨Nat.le_of_ble_eq_true rfl, Nat.le_of_ble_eq_true rfl⟩) ⟨blM, va_recv hK hPc (ci := 2) (q0 := 0) rfl rfl, prM hPc hDc hK⟩ rfl rfl hl.1 rfl (lv_room (Nat.le_of_ble_eq_true rfl)) dL_law_149 ⟨Nat.le_of_ble_eq_true rfl, Nat.le_of_ble_eq_true rfl⟩) hS (fun q _ h => hFc q h) hFc (fun r2 u2 t1 H1 locs h1t hvm hw2 hB hz1 hk1 hS => ?_)
  obtain ⟨cm1, bm1, hP1, hK1, hD1⟩ := hB
  rw [h1t] at hP1
  obtain ⟨hP, hD⟩ := va_join (wr := wX ax cI cZ u1.1 u1.2.1 u1.2.2.1 u1.2.2.2.1 u1.2.2.2.2.1 u1.2.2.2.2.2.1 u1.2.2.2.2.2.2.1 cx1 u1.2.2.2.2.2.2.2 bx1) (w1 := wM am cI cZ u2.1 u2.2.1 u2.2.2.1 u2.2.2.2.1 u2.2.2.2.2.1 u2.2.2.2.2.2.1 u2.2.2.2.2.2.2.1 cm1 u2.2.2.2.2.2.2.2 bm1) hP hD [0, 1, 2, 3, 4, 5, 6, 7] [8, 9, 10, 11, 12, 13, 14, 15, 16] rfl rfl (by decide) (by decide) hk1 hFc hP1 hD1
  generalize H1 = H at hP hS ⊢
  refine lv_icmp_eq (tgt := 358) hx hb dL_law_152 (by decide) (fun c152 => ?_) (fun c152 => ?_)
  · obtain ⟨er, rfl⟩ := chP.det hw1 hw2
    exact hk H locs ls u1 cx1 bx1 cm1 bm1 (chP.wf hwf (by decide) hw1) ⟨hP, hD, hS⟩ hl
  · exact absurd (chP.det hw1 hw2).1 c152
set_option maxHeartbeats 4000000 in
set_option maxRecDepth 100000 in
theorem law_case3 (l : Launch) (ax am : Nat → Nat) (hL : L ≤ 384) (C0 : lw_At p s m meth c b L xs) (hK : va_K D vwCl (tyIZ cI cZ) s) (i : Nat) (hi : i + 6 ≤ L) (hk : ∀ (H : Heap) (locs : List Loc) (ls : Array Slot) (u : US) (cx bx cm bm : FF), WFU u → Wl D (LA s) (wL ax am cI cZ u cx bx cm bm) s H locs → lv_has ls 4 [(0, .ref b), (1, .ref (ax 0)), (2, .ref (am 0)), (3, .int (nI i))] → W p l e room_1 s m #[Value.ref b] below meth c H locs 17 537 Q (F0 m 358 ls [])) (H : Heap) (locs : List Loc) (ls : Array Slot) (u : US) (cx bx cm bm : FF) (hu : WFU u) (hw : Wl D (LA s) (wL ax am cI cZ u cx bx cm bm) s H locs) (hl : lv_has ls 4 [(0, .ref b), (1, .ref (ax 0)), (2, .ref (am 0)), (3, .int (nI i))]) : W p l e room_1 s m #[Value.ref b] below meth c H locs 17 537 Q (F0 m 157 ls []) := by
  obtain ⟨hx, hb, hr, hml, hown, hts0, hX, hbl, hlocks, hgv⟩ := id C0
  have hts : ∀ w ∈ lw_all, w.before #[Value.ref b] s = true := fun w h => hts0 w (lw_all_tbl h)
  have hA : ∀ q : Nat, s.heap.size ≤ q → LA s q := fun _ h => h
  have hbA : ¬ LA s b := Nat.not_le.mpr hbl
  obtain ⟨tc, mv, gn, mb, tp, ow, pl, sz⟩ := u
  have hwf : WF tc mb tp ow sz := hu
  obtain ⟨hP, hD, hS⟩ := hw
  have hP : va_P D vwCl (wX ax cI cZ tc mv gn mb tp ow pl cx sz bx ++ wM am cI cZ tc mv gn mb tp ow pl cm sz bm) H := hP
  have hD : va_D (LA s) (wX ax cI cZ tc mv gn mb tp ow pl cx sz bx ++ wM am cI cZ tc mv gn mb tp ow pl cm sz bm) := hD
  refine lv_aload_n hx hb dL_law_157 rfl (lv_at hl 1 rfl) ?_
  refine lv_aload_n hx hb dL_law_158 rfl (lv_at hl 0 rfl) ?_
  refine lv_iload_n hx hb dL_law_159 rfl (lv_at hl 3 rfl) ?_
  refine lv_iconst (v := nI 1) hx hb dL_law_160 (by decide) ?_
  refine lv_iadd hx hb dL_law_161 ?_
  refine g_top (y := nI (i + 1)) (nI_add i 1) ?_
  refine g_sld hx hb hX hbl hbA hS (i + 1) rfl (by omega) (by omega) dL_law_162 ?_
  have hPc := hP.sub (ws' := wX ax cI cZ tc mv gn mb tp ow pl cx sz bx) [0, 1, 2, 3, 4, 5, 6, 7, 8] rfl
  have hDc := hD.sub (ws' := wX ax cI cZ tc mv gn mb tp ow pl cx sz bx) [0, 1, 2, 3, 4, 5, 6, 7, 8] (by decide) rfl
  have hFc := va_free (wc := wX ax cI cZ tc mv gn mb tp ow pl cx sz bx) hD hS hA [0, 1, 2, 3, 4, 5, 6, 7, 8] rfl
  refine va_calli (va_runV (As := [.int (xs (i + 1))]) (rest := []) ⟨hx, hb, hml, hown, hts⟩ (metX0_leave l D ax cI cZ tc mv gn mb tp ow pl cx sz bx H.size (xs (i + 1)) hwf) (cwV 1 hts (lw_V q106 q107 q108 q12 q109) rfl rfl rfl (by decide +kernel) ⟨Nat.le_of_ble_eq_true rfl, Nat.le_of_ble_eq_true rfl⟩) ⟨blM, va_recv hK hPc (ci := 0) (q0 := 0) rfl rfl, prM hPc hDc hK⟩ rfl rfl hl.1 rfl (lv_room (Nat.le_of_ble_eq_true rfl)) dL_law_163 ⟨Nat.le_of_ble_eq_true rfl, Nat.le_of_ble_eq_true rfl⟩) hS (fun q _ h => hFc q h) hFc (fun r1 u1 t1 H1 locs h1t hvm hw1 hB hz1 hk1 hS => ?_)
  obtain ⟨cx1, bx1, hP1, hK1, hD1⟩ := hB
  rw [h1t] at hP1
  obtain ⟨hP, hD⟩ := va_join (wr := wM am cI cZ tc mv gn mb tp ow pl cm sz bm) (w1 := wX ax cI cZ u1.1 u1.2.1 u1.2.2.1 u1.2.2.2.1 u1.2.2.2.2.1 u1.2.2.2.2.2.1 u1.2.2.2.2.2.2.1 cx1 u1.2.2.2.2.2.2.2 bx1) hP hD [0, 1, 2, 3, 4, 5, 6, 7, 8] [9, 10, 11, 12, 13, 14, 15, 16] rfl rfl (by decide) (by decide) hk1 hFc hP1 hD1
  generalize H1 = H at hP hS ⊢
  refine lv_aload_n hx hb dL_law_166 rfl (lv_at hl 2 rfl) ?_
  refine lv_aload_n hx hb dL_law_167 rfl (lv_at hl 0 rfl) ?_
  refine lv_iload_n hx hb dL_law_168 rfl (lv_at hl 3 rfl) ?_
  refine lv_iconst (v := nI 1) hx hb dL_law_169 (by decide) ?_
  refine lv_iadd hx hb dL_law_170 ?_
  refine g_top (y := nI (i + 1)) (nI_add i 1) ?_
  refine g_sld hx hb hX hbl hbA hS (i + 1) rfl (by omega) (by omega) dL_law_171 ?_
  have hPc := hP.sub (ws' := wM am cI cZ tc mv gn mb tp ow pl cm sz bm) [0, 1, 2, 3, 4, 5, 6, 7] rfl
  have hDc := hD.sub (ws' := wM am cI cZ tc mv gn mb tp ow pl cm sz bm) [0, 1, 2, 3, 4, 5, 6, 7] (by decide) rfl
  have hFc := va_free (wc := wM am cI cZ tc mv gn mb tp ow pl cm sz bm) hD hS hA [0, 1, 2, 3, 4, 5, 6, 7] rfl
  refine va_calli (va_runV (As := [.int (xs (i + 1))]) (rest := [.int r1]) ⟨hx, hb, hml, hown, hts⟩ (metX2_leave l D am cI cZ tc mv gn mb tp ow pl cm sz bm H.size (xs (i + 1)) hwf) (cwV 1 hts (lw_V q211 q212 q213 q14 q214) rfl rfl rfl (by decide +kernel) ⟨Nat.le_of_ble_eq_true rfl, Nat.le_of_ble_eq_true rfl⟩) ⟨blM, va_recv hK hPc (ci := 2) (q0 := 0) rfl rfl, prM hPc hDc hK⟩ rfl rfl hl.1 rfl (lv_room (Nat.le_of_ble_eq_true rfl)) dL_law_172 ⟨Nat.le_of_ble_eq_true rfl, Nat.le_of_ble_eq_true rfl⟩) hS (fun q _ h => hFc q h) hFc (fun r2 u2 t1 H1 locs h1t hvm hw2 hB hz1 hk1 hS => ?_)
  obtain ⟨cm1, bm1, hP1, hK1, hD1⟩ := hB
  rw [h1t] at hP1
  obtain ⟨hP, hD⟩ := va_join (wr := wX ax cI cZ u1.1 u1.2.1 u1.2.2.1 u1.2.2.2.1 u1.2.2.2.2.1 u1.2.2.2.2.2.1 u1.2.2.2.2.2.2.1 cx1 u1.2.2.2.2.2.2.2 bx1) (w1 := wM am cI cZ u2.1 u2.2.1 u2.2.2.1 u2.2.2.2.1 u2.2.2.2.2.1 u2.2.2.2.2.2.1 u2.2.2.2.2.2.2.1 cm1 u2.2.2.2.2.2.2.2 bm1) hP hD [0, 1, 2, 3, 4, 5, 6, 7] [8, 9, 10, 11, 12, 13, 14, 15, 16] rfl rfl (by decide) (by decide) hk1 hFc hP1 hD1
  generalize H1 = H at hP hS ⊢
  refine lv_icmp_eq (tgt := 358) hx hb dL_law_175 (by decide) (fun c175 => ?_) (fun c175 => ?_)
  · obtain ⟨er, rfl⟩ := chP.det hw1 hw2
    exact hk H locs ls u1 cx1 bx1 cm1 bm1 (chP.wf hwf (by decide) hw1) ⟨hP, hD, hS⟩ hl
  · exact absurd (chP.det hw1 hw2).1 c175
set_option maxHeartbeats 4000000 in
set_option maxRecDepth 100000 in
theorem law_case4 (l : Launch) (ax am : Nat → Nat) (hL : L ≤ 384) (C0 : lw_At p s m meth c b L xs) (hK : va_K D vwCl (tyIZ cI cZ) s) (i : Nat) (hi : i + 6 ≤ L) (hk : ∀ (H : Heap) (locs : List Loc) (ls : Array Slot) (u : US) (cx bx cm bm : FF), WFU u → Wl D (LA s) (wL ax am cI cZ u cx bx cm bm) s H locs → lv_has ls 4 [(0, .ref b), (1, .ref (ax 0)), (2, .ref (am 0)), (3, .int (nI i))] → W p l e room_1 s m #[Value.ref b] below meth c H locs 17 537 Q (F0 m 358 ls [])) (H : Heap) (locs : List Loc) (ls : Array Slot) (u : US) (cx bx cm bm : FF) (hu : WFU u) (hw : Wl D (LA s) (wL ax am cI cZ u cx bx cm bm) s H locs) (hl : lv_has ls 4 [(0, .ref b), (1, .ref (ax 0)), (2, .ref (am 0)), (3, .int (nI i))]) : W p l e room_1 s m #[Value.ref b] below meth c H locs 17 537 Q (F0 m 180 ls []) := by
  obtain ⟨hx, hb, hr, hml, hown, hts0, hX, hbl, hlocks, hgv⟩ := id C0
  have hts : ∀ w ∈ lw_all, w.before #[Value.ref b] s = true := fun w h => hts0 w (lw_all_tbl h)
  have hA : ∀ q : Nat, s.heap.size ≤ q → LA s q := fun _ h => h
  have hbA : ¬ LA s b := Nat.not_le.mpr hbl
  obtain ⟨tc, mv, gn, mb, tp, ow, pl, sz⟩ := u
  have hwf : WF tc mb tp ow sz := hu
  obtain ⟨hP, hD, hS⟩ := hw
  have hP : va_P D vwCl (wX ax cI cZ tc mv gn mb tp ow pl cx sz bx ++ wM am cI cZ tc mv gn mb tp ow pl cm sz bm) H := hP
  have hD : va_D (LA s) (wX ax cI cZ tc mv gn mb tp ow pl cx sz bx ++ wM am cI cZ tc mv gn mb tp ow pl cm sz bm) := hD
  have hPx := hP.sub (ws' := wX ax cI cZ tc mv gn mb tp ow pl cx sz bx) [0, 1, 2, 3, 4, 5, 6, 7, 8] rfl
  have hPm := hP.sub (ws' := wM am cI cZ tc mv gn mb tp ow pl cm sz bm) [9, 10, 11, 12, 13, 14, 15, 16] rfl
  refine lv_aload_n hx hb dL_law_180 rfl (lv_at hl 1 rfl) ?_
  refine vp_callSi (W.runV (As := []) (rest := []) ⟨hx, hb, hml, hown, hts⟩ (metX0_generation l D ax cI cZ tc mv gn mb tp ow pl cx sz bx  ) (cwV 0 hts (lw_V q110 q111 q112 q12 q113) rfl rfl rfl (by decide +kernel) ⟨Nat.le_of_ble_eq_true rfl, Nat.le_of_ble_eq_true rfl⟩) ⟨blR, va_recv hK hPx (ci := 0) (q0 := 0) rfl rfl, prR hPx hK⟩ rfl rfl hl.1 rfl (lv_room (Nat.le_of_ble_eq_true rfl)) dL_law_181 ⟨Nat.le_of_ble_eq_true rfl, Nat.le_of_ble_eq_true rfl⟩) (fun r1 hw1 => ?_)
  refine lv_aload_n hx hb dL_law_184 rfl (lv_at hl 2 rfl) ?_
  refine vp_callSi (W.runV (As := []) (rest := [.int r1]) ⟨hx, hb, hml, hown, hts⟩ (metX2_generation l D am cI cZ tc mv gn mb tp ow pl cm sz bm  ) (cwV 0 hts (lw_V q215 q216 q217 q14 q218) rfl rfl rfl (by decide +kernel) ⟨Nat.le_of_ble_eq_true rfl, Nat.le_of_ble_eq_true rfl⟩) ⟨blR, va_recv hK hPm (ci := 2) (q0 := 0) rfl rfl, prR hPm hK⟩ rfl rfl hl.1 rfl (lv_room (Nat.le_of_ble_eq_true rfl)) dL_law_185 ⟨Nat.le_of_ble_eq_true rfl, Nat.le_of_ble_eq_true rfl⟩) (fun r2 hw2 => ?_)
  refine lv_icmp_eq (tgt := 358) hx hb dL_law_188 (by decide) (fun c188 => ?_) (fun c188 => ?_)
  · exact hk H locs ls (tc, mv, gn, mb, tp, ow, pl, sz) cx bx cm bm hu ⟨hP, hD, hS⟩ hl
  · exact absurd (hw1.trans hw2.symm) c188
set_option maxHeartbeats 4000000 in
set_option maxRecDepth 100000 in
theorem law_case5 (l : Launch) (ax am : Nat → Nat) (hL : L ≤ 384) (C0 : lw_At p s m meth c b L xs) (hK : va_K D vwCl (tyIZ cI cZ) s) (i : Nat) (hi : i + 6 ≤ L) (hk : ∀ (H : Heap) (locs : List Loc) (ls : Array Slot) (u : US) (cx bx cm bm : FF), WFU u → Wl D (LA s) (wL ax am cI cZ u cx bx cm bm) s H locs → lv_has ls 4 [(0, .ref b), (1, .ref (ax 0)), (2, .ref (am 0)), (3, .int (nI i))] → W p l e room_1 s m #[Value.ref b] below meth c H locs 17 537 Q (F0 m 358 ls [])) (H : Heap) (locs : List Loc) (ls : Array Slot) (u : US) (cx bx cm bm : FF) (hu : WFU u) (hw : Wl D (LA s) (wL ax am cI cZ u cx bx cm bm) s H locs) (hl : lv_has ls 4 [(0, .ref b), (1, .ref (ax 0)), (2, .ref (am 0)), (3, .int (nI i))]) : W p l e room_1 s m #[Value.ref b] below meth c H locs 17 537 Q (F0 m 193 ls []) := by
  obtain ⟨hx, hb, hr, hml, hown, hts0, hX, hbl, hlocks, hgv⟩ := id C0
  have hts : ∀ w ∈ lw_all, w.before #[Value.ref b] s = true := fun w h => hts0 w (lw_all_tbl h)
  have hA : ∀ q : Nat, s.heap.size ≤ q → LA s q := fun _ h => h
  have hbA : ¬ LA s b := Nat.not_le.mpr hbl
  obtain ⟨tc, mv, gn, mb, tp, ow, pl, sz⟩ := u
  have hwf : WF tc mb tp ow sz := hu
  obtain ⟨hP, hD, hS⟩ := hw
  have hP : va_P D vwCl (wX ax cI cZ tc mv gn mb tp ow pl cx sz bx ++ wM am cI cZ tc mv gn mb tp ow pl cm sz bm) H := hP
  have hD : va_D (LA s) (wX ax cI cZ tc mv gn mb tp ow pl cx sz bx ++ wM am cI cZ tc mv gn mb tp ow pl cm sz bm) := hD
  have hPx := hP.sub (ws' := wX ax cI cZ tc mv gn mb tp ow pl cx sz bx) [0, 1, 2, 3, 4, 5, 6, 7, 8] rfl
  have hPm := hP.sub (ws' := wM am cI cZ tc mv gn mb tp ow pl cm sz bm) [9, 10, 11, 12, 13, 14, 15, 16] rfl
  refine lv_aload_n hx hb dL_law_193 rfl (lv_at hl 1 rfl) ?_
  refine lv_aload_n hx hb dL_law_194 rfl (lv_at hl 0 rfl) ?_
  refine lv_iload_n hx hb dL_law_195 rfl (lv_at hl 3 rfl) ?_
  refine lv_iconst (v := nI 1) hx hb dL_law_196 (by decide) ?_
  refine lv_iadd hx hb dL_law_197 ?_
  refine g_top (y := nI (i + 1)) (nI_add i 1) ?_
  refine g_sld hx hb hX hbl hbA hS (i + 1) rfl (by omega) (by omega) dL_law_198 ?_
  refine lv_aload_n hx hb dL_law_199 rfl (lv_at hl 0 rfl) ?_
  refine lv_iload_n hx hb dL_law_200 rfl (lv_at hl 3 rfl) ?_
  refine lv_iconst (v := nI 2) hx hb dL_law_201 (by decide) ?_
  refine lv_iadd hx hb dL_law_202 ?_
  refine g_top (y := nI (i + 2)) (nI_add i 2) ?_
  refine g_sld hx hb hX hbl hbA hS (i + 2) rfl (by omega) (by omega) dL_law_203 ?_
  refine vp_callSi (W.runV (As := [.int (xs (i + 1)), .int (xs (i + 2))]) (rest := []) ⟨hx, hb, hml, hown, hts⟩ (metX0_owner l D ax cI cZ tc mv gn mb tp ow pl cx sz bx (xs (i + 1)) (xs (i + 2)) hwf.1 hwf.2.1) (cwV 2 hts (lw_V q114 q115 q116 q12 q117) rfl rfl rfl (by decide +kernel) ⟨Nat.le_of_ble_eq_true rfl, Nat.le_of_ble_eq_true rfl⟩) ⟨blR, va_recv hK hPx (ci := 0) (q0 := 0) rfl rfl, prR hPx hK⟩ rfl rfl hl.1 rfl (lv_room (Nat.le_of_ble_eq_true rfl)) dL_law_204 ⟨Nat.le_of_ble_eq_true rfl, Nat.le_of_ble_eq_true rfl⟩) (fun r1 hw1 => ?_)
  refine lv_aload_n hx hb dL_law_207 rfl (lv_at hl 2 rfl) ?_
  refine lv_aload_n hx hb dL_law_208 rfl (lv_at hl 0 rfl) ?_
  refine lv_iload_n hx hb dL_law_209 rfl (lv_at hl 3 rfl) ?_
  refine lv_iconst (v := nI 1) hx hb dL_law_210 (by decide) ?_
  refine lv_iadd hx hb dL_law_211 ?_
  refine g_top (y := nI (i + 1)) (nI_add i 1) ?_
  refine g_sld hx hb hX hbl hbA hS (i + 1) rfl (by omega) (by omega) dL_law_212 ?_
  refine lv_aload_n hx hb dL_law_213 rfl (lv_at hl 0 rfl) ?_
  refine lv_iload_n hx hb dL_law_214 rfl (lv_at hl 3 rfl) ?_
  refine lv_iconst (v := nI 2) hx hb dL_law_215 (by decide) ?_
  refine lv_iadd hx hb dL_law_216 ?_
  refine g_top (y := nI (i + 2)) (nI_add i 2) ?_
  refine g_sld hx hb hX hbl hbA hS (i + 2) rfl (by omega) (by omega) dL_law_217 ?_
  refine vp_callSi (W.runV (As := [.int (xs (i + 1)), .int (xs (i + 2))]) (rest := [.int r1]) ⟨hx, hb, hml, hown, hts⟩ (metX2_owner l D am cI cZ tc mv gn mb tp ow pl cm sz bm (xs (i + 1)) (xs (i + 2)) hwf.1 hwf.2.1) (cwV 2 hts (lw_V q219 q220 q221 q14 q222) rfl rfl rfl (by decide +kernel) ⟨Nat.le_of_ble_eq_true rfl, Nat.le_of_ble_eq_true rfl⟩) ⟨blR, va_recv hK hPm (ci := 2) (q0 := 0) rfl rfl, prR hPm hK⟩ rfl rfl hl.1 rfl (lv_room (Nat.le_of_ble_eq_true rfl)) dL_law_218 ⟨Nat.le_of_ble_eq_true rfl, Nat.le_of_ble_eq_true rfl⟩) (fun r2 hw2 => ?_)
  refine lv_icmp_eq (tgt := 358) hx hb dL_law_221 (by decide) (fun c221 => ?_) (fun c221 => ?_)
  · exact hk H locs ls (tc, mv, gn, mb, tp, ow, pl, sz) cx bx cm bm hu ⟨hP, hD, hS⟩ hl
  · exact absurd (hw1.trans hw2.symm) c221
set_option maxHeartbeats 4000000 in
set_option maxRecDepth 100000 in
theorem law_case6 (l : Launch) (ax am : Nat → Nat) (hL : L ≤ 384) (C0 : lw_At p s m meth c b L xs) (hK : va_K D vwCl (tyIZ cI cZ) s) (i : Nat) (hi : i + 6 ≤ L) (hk : ∀ (H : Heap) (locs : List Loc) (ls : Array Slot) (u : US) (cx bx cm bm : FF), WFU u → Wl D (LA s) (wL ax am cI cZ u cx bx cm bm) s H locs → lv_has ls 4 [(0, .ref b), (1, .ref (ax 0)), (2, .ref (am 0)), (3, .int (nI i))] → W p l e room_1 s m #[Value.ref b] below meth c H locs 17 537 Q (F0 m 358 ls [])) (H : Heap) (locs : List Loc) (ls : Array Slot) (u : US) (cx bx cm bm : FF) (hu : WFU u) (hw : Wl D (LA s) (wL ax am cI cZ u cx bx cm bm) s H locs) (hl : lv_has ls 4 [(0, .ref b), (1, .ref (ax 0)), (2, .ref (am 0)), (3, .int (nI i))]) : W p l e room_1 s m #[Value.ref b] below meth c H locs 17 537 Q (F0 m 226 ls []) := by
  obtain ⟨hx, hb, hr, hml, hown, hts0, hX, hbl, hlocks, hgv⟩ := id C0
  have hts : ∀ w ∈ lw_all, w.before #[Value.ref b] s = true := fun w h => hts0 w (lw_all_tbl h)
  have hA : ∀ q : Nat, s.heap.size ≤ q → LA s q := fun _ h => h
  have hbA : ¬ LA s b := Nat.not_le.mpr hbl
  obtain ⟨tc, mv, gn, mb, tp, ow, pl, sz⟩ := u
  have hwf : WF tc mb tp ow sz := hu
  obtain ⟨hP, hD, hS⟩ := hw
  have hP : va_P D vwCl (wX ax cI cZ tc mv gn mb tp ow pl cx sz bx ++ wM am cI cZ tc mv gn mb tp ow pl cm sz bm) H := hP
  have hD : va_D (LA s) (wX ax cI cZ tc mv gn mb tp ow pl cx sz bx ++ wM am cI cZ tc mv gn mb tp ow pl cm sz bm) := hD
  have hPx := hP.sub (ws' := wX ax cI cZ tc mv gn mb tp ow pl cx sz bx) [0, 1, 2, 3, 4, 5, 6, 7, 8] rfl
  have hPm := hP.sub (ws' := wM am cI cZ tc mv gn mb tp ow pl cm sz bm) [9, 10, 11, 12, 13, 14, 15, 16] rfl
  refine lv_aload_n hx hb dL_law_226 rfl (lv_at hl 1 rfl) ?_
  refine lv_aload_n hx hb dL_law_227 rfl (lv_at hl 0 rfl) ?_
  refine lv_iload_n hx hb dL_law_228 rfl (lv_at hl 3 rfl) ?_
  refine lv_iconst (v := nI 1) hx hb dL_law_229 (by decide) ?_
  refine lv_iadd hx hb dL_law_230 ?_
  refine g_top (y := nI (i + 1)) (nI_add i 1) ?_
  refine g_sld hx hb hX hbl hbA hS (i + 1) rfl (by omega) (by omega) dL_law_231 ?_
  refine vp_callSi (W.runV (As := [.int (xs (i + 1))]) (rest := []) ⟨hx, hb, hml, hown, hts⟩ (metX0_held l D ax cI cZ tc mv gn mb tp ow pl cx sz bx (xs (i + 1)) ) (cwV 1 hts (lw_V q122 q123 q124 q12 q125) rfl rfl rfl (by decide +kernel) ⟨Nat.le_of_ble_eq_true rfl, Nat.le_of_ble_eq_true rfl⟩) ⟨blR, va_recv hK hPx (ci := 0) (q0 := 0) rfl rfl, prR hPx hK⟩ rfl rfl hl.1 rfl (lv_room (Nat.le_of_ble_eq_true rfl)) dL_law_232 ⟨Nat.le_of_ble_eq_true rfl, Nat.le_of_ble_eq_true rfl⟩) (fun r1 hw1 => ?_)
  refine lv_aload_n hx hb dL_law_235 rfl (lv_at hl 2 rfl) ?_
  refine lv_aload_n hx hb dL_law_236 rfl (lv_at hl 0 rfl) ?_
  refine lv_iload_n hx hb dL_law_237 rfl (lv_at hl 3 rfl) ?_
  refine lv_iconst (v := nI 1) hx hb dL_law_238 (by decide) ?_
  refine lv_iadd hx hb dL_law_239 ?_
  refine g_top (y := nI (i + 1)) (nI_add i 1) ?_
  refine g_sld hx hb hX hbl hbA hS (i + 1) rfl (by omega) (by omega) dL_law_240 ?_
  refine vp_callSi (W.runV (As := [.int (xs (i + 1))]) (rest := [.int r1]) ⟨hx, hb, hml, hown, hts⟩ (metX2_held l D am cI cZ tc mv gn mb tp ow pl cm sz bm (xs (i + 1)) ) (cwV 1 hts (lw_V q226 q227 q228 q14 q229) rfl rfl rfl (by decide +kernel) ⟨Nat.le_of_ble_eq_true rfl, Nat.le_of_ble_eq_true rfl⟩) ⟨blR, va_recv hK hPm (ci := 2) (q0 := 0) rfl rfl, prR hPm hK⟩ rfl rfl hl.1 rfl (lv_room (Nat.le_of_ble_eq_true rfl)) dL_law_241 ⟨Nat.le_of_ble_eq_true rfl, Nat.le_of_ble_eq_true rfl⟩) (fun r2 hw2 => ?_)
  refine lv_icmp_eq (tgt := 358) hx hb dL_law_244 (by decide) (fun c244 => ?_) (fun c244 => ?_)
  · exact hk H locs ls (tc, mv, gn, mb, tp, ow, pl, sz) cx bx cm bm hu ⟨hP, hD, hS⟩ hl
  · exact absurd (hw1.trans hw2.symm) c244
set_option maxHeartbeats 4000000 in
set_option maxRecDepth 100000 in
theorem law_case7 (l : Launch) (ax am : Nat → Nat) (hL : L ≤ 384) (C0 : lw_At p s m meth c b L xs) (hK : va_K D vwCl (tyIZ cI cZ) s) (i : Nat) (hi : i + 6 ≤ L) (hk : ∀ (H : Heap) (locs : List Loc) (ls : Array Slot) (u : US) (cx bx cm bm : FF), WFU u → Wl D (LA s) (wL ax am cI cZ u cx bx cm bm) s H locs → lv_has ls 4 [(0, .ref b), (1, .ref (ax 0)), (2, .ref (am 0)), (3, .int (nI i))] → W p l e room_1 s m #[Value.ref b] below meth c H locs 17 537 Q (F0 m 358 ls [])) (H : Heap) (locs : List Loc) (ls : Array Slot) (u : US) (cx bx cm bm : FF) (hu : WFU u) (hw : Wl D (LA s) (wL ax am cI cZ u cx bx cm bm) s H locs) (hl : lv_has ls 4 [(0, .ref b), (1, .ref (ax 0)), (2, .ref (am 0)), (3, .int (nI i))]) : W p l e room_1 s m #[Value.ref b] below meth c H locs 17 537 Q (F0 m 249 ls []) := by
  obtain ⟨hx, hb, hr, hml, hown, hts0, hX, hbl, hlocks, hgv⟩ := id C0
  have hts : ∀ w ∈ lw_all, w.before #[Value.ref b] s = true := fun w h => hts0 w (lw_all_tbl h)
  have hA : ∀ q : Nat, s.heap.size ≤ q → LA s q := fun _ h => h
  have hbA : ¬ LA s b := Nat.not_le.mpr hbl
  obtain ⟨tc, mv, gn, mb, tp, ow, pl, sz⟩ := u
  have hwf : WF tc mb tp ow sz := hu
  obtain ⟨hP, hD, hS⟩ := hw
  have hP : va_P D vwCl (wX ax cI cZ tc mv gn mb tp ow pl cx sz bx ++ wM am cI cZ tc mv gn mb tp ow pl cm sz bm) H := hP
  have hD : va_D (LA s) (wX ax cI cZ tc mv gn mb tp ow pl cx sz bx ++ wM am cI cZ tc mv gn mb tp ow pl cm sz bm) := hD
  have hPx := hP.sub (ws' := wX ax cI cZ tc mv gn mb tp ow pl cx sz bx) [0, 1, 2, 3, 4, 5, 6, 7, 8] rfl
  have hPm := hP.sub (ws' := wM am cI cZ tc mv gn mb tp ow pl cm sz bm) [9, 10, 11, 12, 13, 14, 15, 16] rfl
  refine lv_aload_n hx hb dL_law_249 rfl (lv_at hl 1 rfl) ?_
  refine vp_callSi (W.runV (As := []) (rest := []) ⟨hx, hb, hml, hown, hts⟩ (metX0_moved l D ax cI cZ tc mv gn mb tp ow pl cx sz bx  ) (cwV 0 hts (lw_V q126 q127 q128 q12 q129) rfl rfl rfl (by decide +kernel) ⟨Nat.le_of_ble_eq_true rfl, Nat.le_of_ble_eq_true rfl⟩) ⟨blR, va_recv hK hPx (ci := 0) (q0 := 0) rfl rfl, prR hPx hK⟩ rfl rfl hl.1 rfl (lv_room (Nat.le_of_ble_eq_true rfl)) dL_law_250 ⟨Nat.le_of_ble_eq_true rfl, Nat.le_of_ble_eq_true rfl⟩) (fun r1 hw1 => ?_)
  refine lv_aload_n hx hb dL_law_253 rfl (lv_at hl 2 rfl) ?_
  refine vp_callSi (W.runV (As := []) (rest := [.int r1]) ⟨hx, hb, hml, hown, hts⟩ (metX2_moved l D am cI cZ tc mv gn mb tp ow pl cm sz bm  ) (cwV 0 hts (lw_V q230 q231 q232 q14 q233) rfl rfl rfl (by decide +kernel) ⟨Nat.le_of_ble_eq_true rfl, Nat.le_of_ble_eq_true rfl⟩) ⟨blR, va_recv hK hPm (ci := 2) (q0 := 0) rfl rfl, prR hPm hK⟩ rfl rfl hl.1 rfl (lv_room (Nat.le_of_ble_eq_true rfl)) dL_law_254 ⟨Nat.le_of_ble_eq_true rfl, Nat.le_of_ble_eq_true rfl⟩) (fun r2 hw2 => ?_)
  refine lv_icmp_eq (tgt := 358) hx hb dL_law_257 (by decide) (fun c257 => ?_) (fun c257 => ?_)
  · exact hk H locs ls (tc, mv, gn, mb, tp, ow, pl, sz) cx bx cm bm hu ⟨hP, hD, hS⟩ hl
  · exact absurd (hw1.trans hw2.symm) c257
set_option maxHeartbeats 4000000 in
set_option maxRecDepth 100000 in
theorem law_case8 (l : Launch) (ax am : Nat → Nat) (hL : L ≤ 384) (C0 : lw_At p s m meth c b L xs) (hK : va_K D vwCl (tyIZ cI cZ) s) (i : Nat) (hi : i + 6 ≤ L) (hk : ∀ (H : Heap) (locs : List Loc) (ls : Array Slot) (u : US) (cx bx cm bm : FF), WFU u → Wl D (LA s) (wL ax am cI cZ u cx bx cm bm) s H locs → lv_has ls 4 [(0, .ref b), (1, .ref (ax 0)), (2, .ref (am 0)), (3, .int (nI i))] → W p l e room_1 s m #[Value.ref b] below meth c H locs 17 537 Q (F0 m 358 ls [])) (H : Heap) (locs : List Loc) (ls : Array Slot) (u : US) (cx bx cm bm : FF) (hu : WFU u) (hw : Wl D (LA s) (wL ax am cI cZ u cx bx cm bm) s H locs) (hl : lv_has ls 4 [(0, .ref b), (1, .ref (ax 0)), (2, .ref (am 0)), (3, .int (nI i))]) : W p l e room_1 s m #[Value.ref b] below meth c H locs 17 537 Q (F0 m 262 ls []) := by
  obtain ⟨hx, hb, hr, hml, hown, hts0, hX, hbl, hlocks, hgv⟩ := id C0
  have hts : ∀ w ∈ lw_all, w.before #[Value.ref b] s = true := fun w h => hts0 w (lw_all_tbl h)
  have hA : ∀ q : Nat, s.heap.size ≤ q → LA s q := fun _ h => h
  have hbA : ¬ LA s b := Nat.not_le.mpr hbl
  obtain ⟨tc, mv, gn, mb, tp, ow, pl, sz⟩ := u
  have hwf : WF tc mb tp ow sz := hu
  obtain ⟨hP, hD, hS⟩ := hw
  have hP : va_P D vwCl (wX ax cI cZ tc mv gn mb tp ow pl cx sz bx ++ wM am cI cZ tc mv gn mb tp ow pl cm sz bm) H := hP
  have hD : va_D (LA s) (wX ax cI cZ tc mv gn mb tp ow pl cx sz bx ++ wM am cI cZ tc mv gn mb tp ow pl cm sz bm) := hD
  refine lv_aload_n hx hb dL_law_262 rfl (lv_at hl 1 rfl) ?_
  refine lv_aload_n hx hb dL_law_263 rfl (lv_at hl 0 rfl) ?_
  refine lv_iload_n hx hb dL_law_264 rfl (lv_at hl 3 rfl) ?_
  refine lv_iconst (v := nI 1) hx hb dL_law_265 (by decide) ?_
  refine lv_iadd hx hb dL_law_266 ?_
  refine g_top (y := nI (i + 1)) (nI_add i 1) ?_
  refine g_sld hx hb hX hbl hbA hS (i + 1) rfl (by omega) (by omega) dL_law_267 ?_
  refine lv_aload_n hx hb dL_law_268 rfl (lv_at hl 0 rfl) ?_
  refine lv_iload_n hx hb dL_law_269 rfl (lv_at hl 3 rfl) ?_
  refine lv_iconst (v := nI 2) hx hb dL_law_270 (by decide) ?_
  refine lv_iadd hx hb dL_law_271 ?_
  refine g_top (y := nI (i + 2)) (nI_add i 2) ?_
  refine g_sld hx hb hX hbl hbA hS (i + 2) rfl (by omega) (by omega) dL_law_272 ?_
  refine lv_aload_n hx hb dL_law_273 rfl (lv_at hl 0 rfl) ?_
  refine lv_iload_n hx hb dL_law_274 rfl (lv_at hl 3 rfl) ?_
  refine lv_iconst (v := nI 3) hx hb dL_law_275 (by decide) ?_
  refine lv_iadd hx hb dL_law_276 ?_
  refine g_top (y := nI (i + 3)) (nI_add i 3) ?_
  refine g_sld hx hb hX hbl hbA hS (i + 3) rfl (by omega) (by omega) dL_law_277 ?_
  refine lv_aload_n hx hb dL_law_278 rfl (lv_at hl 0 rfl) ?_
  refine lv_iload_n hx hb dL_law_279 rfl (lv_at hl 3 rfl) ?_
  refine lv_iconst (v := nI 4) hx hb dL_law_280 (by decide) ?_
  refine lv_iadd hx hb dL_law_281 ?_
  refine g_top (y := nI (i + 4)) (nI_add i 4) ?_
  refine g_sld hx hb hX hbl hbA hS (i + 4) rfl (by omega) (by omega) dL_law_282 ?_
  refine lv_aload_n hx hb dL_law_283 rfl (lv_at hl 0 rfl) ?_
  refine lv_iload_n hx hb dL_law_284 rfl (lv_at hl 3 rfl) ?_
  refine lv_iconst (v := nI 5) hx hb dL_law_285 (by decide) ?_
  refine lv_iadd hx hb dL_law_286 ?_
  refine g_top (y := nI (i + 5)) (nI_add i 5) ?_
  refine g_sld hx hb hX hbl hbA hS (i + 5) rfl (by omega) (by omega) dL_law_287 ?_
  have hPc := hP.sub (ws' := wX ax cI cZ tc mv gn mb tp ow pl cx sz bx) [0, 1, 2, 3, 4, 5, 6, 7, 8] rfl
  have hDc := hD.sub (ws' := wX ax cI cZ tc mv gn mb tp ow pl cx sz bx) [0, 1, 2, 3, 4, 5, 6, 7, 8] (by decide) rfl
  have hFc := va_free (wc := wX ax cI cZ tc mv gn mb tp ow pl cx sz bx) hD hS hA [0, 1, 2, 3, 4, 5, 6, 7, 8] rfl
  refine va_calli (va_runV (As := [.int (xs (i + 1)), .int (xs (i + 2)), .int (xs (i + 3)), .int (xs (i + 4)), .int (xs (i + 5))]) (rest := []) ⟨hx, hb, hml, hown, hts⟩ (metX0_place l D ax cI cZ tc mv gn mb tp ow pl cx sz bx H.size (xs (i + 1)) (xs (i + 2)) (xs (i + 3)) (xs (i + 4)) (xs (i + 5)) hwf) (cwV 5 hts (lw_V q130 q131 q132 q12 q133) rfl rfl rfl (by decide +kernel) ⟨Nat.le_of_ble_eq_true rfl, Nat.le_of_ble_eq_true rfl⟩) ⟨blM, va_recv hK hPc (ci := 0) (q0 := 0) rfl rfl, prM hPc hDc hK⟩ rfl rfl hl.1 rfl (lv_room (Nat.le_of_ble_eq_true rfl)) dL_law_288 ⟨Nat.le_of_ble_eq_true rfl, Nat.le_of_ble_eq_true rfl⟩) hS (fun q _ h => hFc q h) hFc (fun r1 u1 t1 H1 locs h1t hvm hw1 hB hz1 hk1 hS => ?_)
  obtain ⟨cx1, bx1, hP1, hK1, hD1⟩ := hB
  rw [h1t] at hP1
  obtain ⟨hP, hD⟩ := va_join (wr := wM am cI cZ tc mv gn mb tp ow pl cm sz bm) (w1 := wX ax cI cZ u1.1 u1.2.1 u1.2.2.1 u1.2.2.2.1 u1.2.2.2.2.1 u1.2.2.2.2.2.1 u1.2.2.2.2.2.2.1 cx1 u1.2.2.2.2.2.2.2 bx1) hP hD [0, 1, 2, 3, 4, 5, 6, 7, 8] [9, 10, 11, 12, 13, 14, 15, 16] rfl rfl (by decide) (by decide) hk1 hFc hP1 hD1
  generalize H1 = H at hP hS ⊢
  refine lv_aload_n hx hb dL_law_291 rfl (lv_at hl 2 rfl) ?_
  refine lv_aload_n hx hb dL_law_292 rfl (lv_at hl 0 rfl) ?_
  refine lv_iload_n hx hb dL_law_293 rfl (lv_at hl 3 rfl) ?_
  refine lv_iconst (v := nI 1) hx hb dL_law_294 (by decide) ?_
  refine lv_iadd hx hb dL_law_295 ?_
  refine g_top (y := nI (i + 1)) (nI_add i 1) ?_
  refine g_sld hx hb hX hbl hbA hS (i + 1) rfl (by omega) (by omega) dL_law_296 ?_
  refine lv_aload_n hx hb dL_law_297 rfl (lv_at hl 0 rfl) ?_
  refine lv_iload_n hx hb dL_law_298 rfl (lv_at hl 3 rfl) ?_
  refine lv_iconst (v := nI 2) hx hb dL_law_299 (by decide) ?_
  refine lv_iadd hx hb dL_law_300 ?_
  refine g_top (y := nI (i + 2)) (nI_add i 2) ?_
  refine g_sld hx hb hX hbl hbA hS (i + 2) rfl (by omega) (by omega) dL_law_301 ?_
  refine lv_aload_n hx hb dL_law_302 rfl (lv_at hl 0 rfl) ?_
  refine lv_iload_n hx hb dL_law_303 rfl (lv_at hl 3 rfl) ?_
  refine lv_iconst (v := nI 3) hx hb dL_law_304 (by decide) ?_
  refine lv_iadd hx hb dL_law_305 ?_
  refine g_top (y := nI (i + 3)) (nI_add i 3) ?_
  refine g_sld hx hb hX hbl hbA hS (i + 3) rfl (by omega) (by omega) dL_law_306 ?_
  refine lv_aload_n hx hb dL_law_307 rfl (lv_at hl 0 rfl) ?_
  refine lv_iload_n hx hb dL_law_308 rfl (lv_at hl 3 rfl) ?_
  refine lv_iconst (v := nI 4) hx hb dL_law_309 (by decide) ?_
  refine lv_iadd hx hb dL_law_310 ?_
  refine g_top (y := nI (i + 4)) (nI_add i 4) ?_
  refine g_sld hx hb hX hbl hbA hS (i + 4) rfl (by omega) (by omega) dL_law_311 ?_
  refine lv_aload_n hx hb dL_law_312 rfl (lv_at hl 0 rfl) ?_
  refine lv_iload_n hx hb dL_law_313 rfl (lv_at hl 3 rfl) ?_
  refine lv_iconst (v := nI 5) hx hb dL_law_314 (by decide) ?_
  refine lv_iadd hx hb dL_law_315 ?_
  refine g_top (y := nI (i + 5)) (nI_add i 5) ?_
  refine g_sld hx hb hX hbl hbA hS (i + 5) rfl (by omega) (by omega) dL_law_316 ?_
  have hPc := hP.sub (ws' := wM am cI cZ tc mv gn mb tp ow pl cm sz bm) [0, 1, 2, 3, 4, 5, 6, 7] rfl
  have hDc := hD.sub (ws' := wM am cI cZ tc mv gn mb tp ow pl cm sz bm) [0, 1, 2, 3, 4, 5, 6, 7] (by decide) rfl
  have hFc := va_free (wc := wM am cI cZ tc mv gn mb tp ow pl cm sz bm) hD hS hA [0, 1, 2, 3, 4, 5, 6, 7] rfl
  refine va_calli (va_runV (As := [.int (xs (i + 1)), .int (xs (i + 2)), .int (xs (i + 3)), .int (xs (i + 4)), .int (xs (i + 5))]) (rest := [.int r1]) ⟨hx, hb, hml, hown, hts⟩ (metX2_place l D am cI cZ tc mv gn mb tp ow pl cm sz bm H.size (xs (i + 1)) (xs (i + 2)) (xs (i + 3)) (xs (i + 4)) (xs (i + 5)) hwf) (cwV 5 hts (lw_V q234 q235 q236 q14 q237) rfl rfl rfl (by decide +kernel) ⟨Nat.le_of_ble_eq_true rfl, Nat.le_of_ble_eq_true rfl⟩) ⟨blM, va_recv hK hPc (ci := 2) (q0 := 0) rfl rfl, prM hPc hDc hK⟩ rfl rfl hl.1 rfl (lv_room (Nat.le_of_ble_eq_true rfl)) dL_law_317 ⟨Nat.le_of_ble_eq_true rfl, Nat.le_of_ble_eq_true rfl⟩) hS (fun q _ h => hFc q h) hFc (fun r2 u2 t1 H1 locs h1t hvm hw2 hB hz1 hk1 hS => ?_)
  obtain ⟨cm1, bm1, hP1, hK1, hD1⟩ := hB
  rw [h1t] at hP1
  obtain ⟨hP, hD⟩ := va_join (wr := wX ax cI cZ u1.1 u1.2.1 u1.2.2.1 u1.2.2.2.1 u1.2.2.2.2.1 u1.2.2.2.2.2.1 u1.2.2.2.2.2.2.1 cx1 u1.2.2.2.2.2.2.2 bx1) (w1 := wM am cI cZ u2.1 u2.2.1 u2.2.2.1 u2.2.2.2.1 u2.2.2.2.2.1 u2.2.2.2.2.2.1 u2.2.2.2.2.2.2.1 cm1 u2.2.2.2.2.2.2.2 bm1) hP hD [0, 1, 2, 3, 4, 5, 6, 7] [8, 9, 10, 11, 12, 13, 14, 15, 16] rfl rfl (by decide) (by decide) hk1 hFc hP1 hD1
  generalize H1 = H at hP hS ⊢
  refine lv_icmp_eq (tgt := 358) hx hb dL_law_320 (by decide) (fun c320 => ?_) (fun c320 => ?_)
  · obtain ⟨er, rfl⟩ := plP.det hw1 hw2
    exact hk H locs ls u1 cx1 bx1 cm1 bm1 (plP.wf hwf hw1) ⟨hP, hD, hS⟩ hl
  · exact absurd (plP.det hw1 hw2).1 c320
set_option maxHeartbeats 4000000 in
set_option maxRecDepth 100000 in
theorem law_case9 (l : Launch) (ax am : Nat → Nat) (hL : L ≤ 384) (C0 : lw_At p s m meth c b L xs) (hK : va_K D vwCl (tyIZ cI cZ) s) (i : Nat) (hi : i + 6 ≤ L) (hk : ∀ (H : Heap) (locs : List Loc) (ls : Array Slot) (u : US) (cx bx cm bm : FF), WFU u → Wl D (LA s) (wL ax am cI cZ u cx bx cm bm) s H locs → lv_has ls 4 [(0, .ref b), (1, .ref (ax 0)), (2, .ref (am 0)), (3, .int (nI i))] → W p l e room_1 s m #[Value.ref b] below meth c H locs 17 537 Q (F0 m 358 ls [])) (H : Heap) (locs : List Loc) (ls : Array Slot) (u : US) (cx bx cm bm : FF) (hu : WFU u) (hw : Wl D (LA s) (wL ax am cI cZ u cx bx cm bm) s H locs) (hl : lv_has ls 4 [(0, .ref b), (1, .ref (ax 0)), (2, .ref (am 0)), (3, .int (nI i))]) : W p l e room_1 s m #[Value.ref b] below meth c H locs 17 537 Q (F0 m 325 ls []) := by
  obtain ⟨hx, hb, hr, hml, hown, hts0, hX, hbl, hlocks, hgv⟩ := id C0
  have hts : ∀ w ∈ lw_all, w.before #[Value.ref b] s = true := fun w h => hts0 w (lw_all_tbl h)
  have hA : ∀ q : Nat, s.heap.size ≤ q → LA s q := fun _ h => h
  have hbA : ¬ LA s b := Nat.not_le.mpr hbl
  obtain ⟨tc, mv, gn, mb, tp, ow, pl, sz⟩ := u
  have hwf : WF tc mb tp ow sz := hu
  obtain ⟨hP, hD, hS⟩ := hw
  have hP : va_P D vwCl (wX ax cI cZ tc mv gn mb tp ow pl cx sz bx ++ wM am cI cZ tc mv gn mb tp ow pl cm sz bm) H := hP
  have hD : va_D (LA s) (wX ax cI cZ tc mv gn mb tp ow pl cx sz bx ++ wM am cI cZ tc mv gn mb tp ow pl cm sz bm) := hD
  have hPx := hP.sub (ws' := wX ax cI cZ tc mv gn mb tp ow pl cx sz bx) [0, 1, 2, 3, 4, 5, 6, 7, 8] rfl
  have hPm := hP.sub (ws' := wM am cI cZ tc mv gn mb tp ow pl cm sz bm) [9, 10, 11, 12, 13, 14, 15, 16] rfl
  refine lv_aload_n hx hb dL_law_325 rfl (lv_at hl 1 rfl) ?_
  refine lv_aload_n hx hb dL_law_326 rfl (lv_at hl 0 rfl) ?_
  refine lv_iload_n hx hb dL_law_327 rfl (lv_at hl 3 rfl) ?_
  refine lv_iconst (v := nI 1) hx hb dL_law_328 (by decide) ?_
  refine lv_iadd hx hb dL_law_329 ?_
  refine g_top (y := nI (i + 1)) (nI_add i 1) ?_
  refine g_sld hx hb hX hbl hbA hS (i + 1) rfl (by omega) (by omega) dL_law_330 ?_
  refine lv_aload_n hx hb dL_law_331 rfl (lv_at hl 0 rfl) ?_
  refine lv_iload_n hx hb dL_law_332 rfl (lv_at hl 3 rfl) ?_
  refine lv_iconst (v := nI 2) hx hb dL_law_333 (by decide) ?_
  refine lv_iadd hx hb dL_law_334 ?_
  refine g_top (y := nI (i + 2)) (nI_add i 2) ?_
  refine g_sld hx hb hX hbl hbA hS (i + 2) rfl (by omega) (by omega) dL_law_335 ?_
  refine vp_callSi (W.runV (As := [.int (xs (i + 1)), .int (xs (i + 2))]) (rest := []) ⟨hx, hb, hml, hown, hts⟩ (metX0_placed l D ax cI cZ tc mv gn mb tp ow pl cx sz bx (xs (i + 1)) (xs (i + 2)) hwf.1 hwf.2.1) (cwV 2 hts (lw_V q134 q135 q136 q12 q137) rfl rfl rfl (by decide +kernel) ⟨Nat.le_of_ble_eq_true rfl, Nat.le_of_ble_eq_true rfl⟩) ⟨blR, va_recv hK hPx (ci := 0) (q0 := 0) rfl rfl, prR hPx hK⟩ rfl rfl hl.1 rfl (lv_room (Nat.le_of_ble_eq_true rfl)) dL_law_336 ⟨Nat.le_of_ble_eq_true rfl, Nat.le_of_ble_eq_true rfl⟩) (fun r1 hw1 => ?_)
  refine lv_aload_n hx hb dL_law_339 rfl (lv_at hl 2 rfl) ?_
  refine lv_aload_n hx hb dL_law_340 rfl (lv_at hl 0 rfl) ?_
  refine lv_iload_n hx hb dL_law_341 rfl (lv_at hl 3 rfl) ?_
  refine lv_iconst (v := nI 1) hx hb dL_law_342 (by decide) ?_
  refine lv_iadd hx hb dL_law_343 ?_
  refine g_top (y := nI (i + 1)) (nI_add i 1) ?_
  refine g_sld hx hb hX hbl hbA hS (i + 1) rfl (by omega) (by omega) dL_law_344 ?_
  refine lv_aload_n hx hb dL_law_345 rfl (lv_at hl 0 rfl) ?_
  refine lv_iload_n hx hb dL_law_346 rfl (lv_at hl 3 rfl) ?_
  refine lv_iconst (v := nI 2) hx hb dL_law_347 (by decide) ?_
  refine lv_iadd hx hb dL_law_348 ?_
  refine g_top (y := nI (i + 2)) (nI_add i 2) ?_
  refine g_sld hx hb hX hbl hbA hS (i + 2) rfl (by omega) (by omega) dL_law_349 ?_
  refine vp_callSi (W.runV (As := [.int (xs (i + 1)), .int (xs (i + 2))]) (rest := [.int r1]) ⟨hx, hb, hml, hown, hts⟩ (metX2_placed l D am cI cZ tc mv gn mb tp ow pl cm sz bm (xs (i + 1)) (xs (i + 2)) hwf.1 hwf.2.1) (cwV 2 hts (lw_V q238 q239 q240 q14 q241) rfl rfl rfl (by decide +kernel) ⟨Nat.le_of_ble_eq_true rfl, Nat.le_of_ble_eq_true rfl⟩) ⟨blR, va_recv hK hPm (ci := 2) (q0 := 0) rfl rfl, prR hPm hK⟩ rfl rfl hl.1 rfl (lv_room (Nat.le_of_ble_eq_true rfl)) dL_law_350 ⟨Nat.le_of_ble_eq_true rfl, Nat.le_of_ble_eq_true rfl⟩) (fun r2 hw2 => ?_)
  refine lv_icmp_eq (tgt := 358) hx hb dL_law_353 (by decide) (fun c353 => ?_) (fun c353 => ?_)
  · exact hk H locs ls (tc, mv, gn, mb, tp, ow, pl, sz) cx bx cm bm hu ⟨hP, hD, hS⟩ hl
  · exact absurd (hw1.trans hw2.symm) c353
set_option maxHeartbeats 4000000 in
set_option maxRecDepth 100000 in
theorem law_loop (l : Launch) (ax am : Nat → Nat) (hL : L ≤ 384) (C0 : lw_At p s m meth c b L xs) (hK : va_K D vwCl (tyIZ cI cZ) s) : ∀ (n i : Nat), i ≤ L → L < i + n → ∀ (H : Heap) (locs : List Loc) (ls : Array Slot) (u : US) (cx bx cm bm : FF), WFU u → Wl D (LA s) (wL ax am cI cZ u cx bx cm bm) s H locs → lv_has ls 4 [(0, .ref b), (1, .ref (ax 0)), (2, .ref (am 0)), (3, .int (nI i))] → W p l e room_1 s m #[Value.ref b] below meth c H locs 17 537 (lw_Z below #[Value.ref b] s) (F0 m 18 ls []) := by
  obtain ⟨hx, hb, hr, hml, hown, hts0, hX, hbl, hlocks, hgv⟩ := id C0
  have hbA : ¬ LA s b := Nat.not_le.mpr hbl
  intro n
  induction n with
  | zero => intro i h1 h2; exact absurd h2 (by omega)
  | succ n ih =>
    intro i hi hin H locs ls u cx bx cm bm hu hw hl
    obtain ⟨hP, hD, hS⟩ := hw
    refine lv_iload_n hx hb dL_law_18 rfl (lv_at hl 3 rfl) ?_
    refine lv_aload_n hx hb dL_law_19 rfl (lv_at hl 0 rfl) ?_
    refine va_slen hx hb hX hbl hbA hS dL_law_20 ?_
    refine lv_bipush (v := 6) hx hb dL_law_21 (by decide) ?_
    refine lv_isub hx hb dL_law_23 ?_
    refine lv_icmp_gt (tgt := 364) hx hb dL_law_24 (by decide) (fun c24 => ?_) (fun c24 => ?_)
    · refine lv_iconst (v := 1) hx hb dL_law_364 (by decide) ?_
      refine va_forget (fun q hq => hS.2.2 q hq) ?_
      refine W.widen (k := 600000) (n := 7290000) (by decide) (by decide) ?_
      exact lw_ret hx hb hr hlocks dL_law_365
    · have hi6 : i + 6 ≤ L := law_f hL (by omega) c24
      have hk : ∀ (H : Heap) (locs : List Loc) (ls : Array Slot) (u : US) (cx bx cm bm : FF), WFU u → Wl D (LA s) (wL ax am cI cZ u cx bx cm bm) s H locs → lv_has ls 4 [(0, .ref b), (1, .ref (ax 0)), (2, .ref (am 0)), (3, .int (nI i))] → W p l e room_1 s m #[Value.ref b] below meth c H locs 17 537 (lw_Z below #[Value.ref b] s) (F0 m 358 ls []) := by
        intro H locs ls u cx bx cm bm hu hw hl
        refine lv_iinc (v := nI (i + 6)) (lv' := [(3, .int (nI (i + 6))), (0, .ref b), (1, .ref (ax 0)), (2, .ref (am 0))]) hx hb dL_law_358 hl (k := 3) rfl (nI_add i 6) (by decide) rfl (fun ls hl => ?_)
        refine lv_goto (tgt := 18) hx hb dL_law_361 (by decide) ?_
        exact ih (i + 6) hi6 (by omega) H locs ls u cx bx cm bm hu hw (lv_sub hl [1, 2, 3, 0] rfl)
      refine lv_aload_n hx hb dL_law_27 rfl (lv_at hl 0 rfl) ?_
      refine lv_iload_n hx hb dL_law_28 rfl (lv_at hl 3 rfl) ?_
      refine g_sld hx hb hX hbl hbA hS i rfl (by omega) (by omega) dL_law_29 ?_
      refine lv_bipush (v := 15) hx hb dL_law_30 (by decide) ?_
      refine lv_iand hx hb dL_law_32 ?_
      obtain ⟨j, hj, ej⟩ := pk_andE (xs i) (m := 15) 4 (by decide)
      refine g_top (y := nI j) ej ?_
      rcases (show j = 0 ∨ j = 1 ∨ j = 2 ∨ j = 3 ∨ j = 4 ∨ j = 5 ∨ j = 6 ∨ j = 7 ∨ j = 8 ∨ j = 9 ∨ 10 ≤ j by omega) with rfl | rfl | rfl | rfl | rfl | rfl | rfl | rfl | rfl | rfl | hj10
      · refine lv_tableIn (off := 55) (tgt := 88) hx hb dL_law_33 (by decide) (by decide) (by decide) (by decide) ?_
        exact law_case0 l ax am hL C0 hK i hi6 hk H locs ls u cx bx cm bm hu ⟨hP, hD, hS⟩ hl
      · refine lv_tableIn (off := 78) (tgt := 111) hx hb dL_law_33 (by decide) (by decide) (by decide) (by decide) ?_
        exact law_case1 l ax am hL C0 hK i hi6 hk H locs ls u cx bx cm bm hu ⟨hP, hD, hS⟩ hl
      · refine lv_tableIn (off := 101) (tgt := 134) hx hb dL_law_33 (by decide) (by decide) (by decide) (by decide) ?_
        exact law_case2 l ax am hL C0 hK i hi6 hk H locs ls u cx bx cm bm hu ⟨hP, hD, hS⟩ hl
      · refine lv_tableIn (off := 124) (tgt := 157) hx hb dL_law_33 (by decide) (by decide) (by decide) (by decide) ?_
        exact law_case3 l ax am hL C0 hK i hi6 hk H locs ls u cx bx cm bm hu ⟨hP, hD, hS⟩ hl
      · refine lv_tableIn (off := 147) (tgt := 180) hx hb dL_law_33 (by decide) (by decide) (by decide) (by decide) ?_
        exact law_case4 l ax am hL C0 hK i hi6 hk H locs ls u cx bx cm bm hu ⟨hP, hD, hS⟩ hl
      · refine lv_tableIn (off := 160) (tgt := 193) hx hb dL_law_33 (by decide) (by decide) (by decide) (by decide) ?_
        exact law_case5 l ax am hL C0 hK i hi6 hk H locs ls u cx bx cm bm hu ⟨hP, hD, hS⟩ hl
      · refine lv_tableIn (off := 193) (tgt := 226) hx hb dL_law_33 (by decide) (by decide) (by decide) (by decide) ?_
        exact law_case6 l ax am hL C0 hK i hi6 hk H locs ls u cx bx cm bm hu ⟨hP, hD, hS⟩ hl
      · refine lv_tableIn (off := 216) (tgt := 249) hx hb dL_law_33 (by decide) (by decide) (by decide) (by decide) ?_
        exact law_case7 l ax am hL C0 hK i hi6 hk H locs ls u cx bx cm bm hu ⟨hP, hD, hS⟩ hl
      · refine lv_tableIn (off := 229) (tgt := 262) hx hb dL_law_33 (by decide) (by decide) (by decide) (by decide) ?_
        exact law_case8 l ax am hL C0 hK i hi6 hk H locs ls u cx bx cm bm hu ⟨hP, hD, hS⟩ hl
      · refine lv_tableIn (off := 292) (tgt := 325) hx hb dL_law_33 (by decide) (by decide) (by decide) (by decide) ?_
        exact law_case9 l ax am hL C0 hK i hi6 hk H locs ls u cx bx cm bm hu ⟨hP, hD, hS⟩ hl
      · refine lv_tableOut (tgt := 358) hx hb dL_law_33 (Or.inr (by rw [nI_toInt (by omega)]; omega)) (by decide) ?_
        exact hk H locs ls u cx bx cm bm hu ⟨hP, hD, hS⟩ hl
end LW
end
section
theorem wf_zero : WFU (0, 0, 0, fun _ => 0, fun _ => 0, fun _ => -1, fun _ => -1, fun _ => 0) := ⟨⟨0, by decide, rfl, fun _ _ _ => rfl⟩, fun _ _ => ⟨0, by decide, rfl⟩, fun _ _ => Or.inl rfl, fun _ _ => Or.inl rfl, fun _ _ => Or.inl rfl, fun _ _ _ => rfl⟩
set_option maxHeartbeats 4000000 in
set_option maxRecDepth 100000 in
theorem whole_start {p : Program} {e : Env} {s : State} {m : MethodId} {below : List Frame} {meth : Method} {c : Code} (l : Launch) {b L : Nat} {xs : Nat → Int32} (hL : L ≤ 384) (C0 : lw_At p s m meth c b L xs) : W p l e room_1 s m #[Value.ref b] below meth c s.heap [] 0 0 (lw_Z below #[Value.ref b] s) (entryFrame m ([Value.ref b] : List Value).toArray 4) := by
  obtain ⟨hx, hb, hr, hml, hown, hts0, hX, hbl, hlocks, hgv⟩ := id C0
  have hts : ∀ w ∈ lw_all, w.before #[Value.ref b] s = true := fun w h => hts0 w (lw_all_tbl h)
  have hA : ∀ q : Nat, s.heap.size ≤ q → LA s q := fun _ h => h
  obtain ⟨c0, iS0, hKn0⟩ := u_known (C := RX0) (T := TX0) (N := 5) (n := 5) hts in_X0 (hts _ q16)
  obtain ⟨c1, iS1, hKn1⟩ := u_known (C := RX1) (T := TX1) (N := 6) (n := 6) hts in_X1 (hts _ q24)
  obtain ⟨c2, iS2, hKn2⟩ := u_known (C := RX2) (T := TX2) (N := 10) (n := 10) hts in_X2 (hts _ q139)
  obtain ⟨D, hKc⟩ : ∃ D : va_G, ∀ (k : Nat) (q : vw_C), vwCl[k]? = some q → u_Kn s q.1 q.2.1 q.2.2 (D.1 k) (D.2 k) := by
    refine ⟨(fun k => if k = 0 then c0 else if k = 1 then c1 else c2, fun k => if k = 0 then iS0 else if k = 1 then iS1 else iS2), ?_⟩
    intro k q hq
    match k, hq with
    | 0, hq => cases hq; exact hKn0
    | 1, hq => cases hq; exact hKn1
    | 2, hq => cases hq; exact hKn2
    | k + 3, hq => simp [vwCl] at hq
  obtain ⟨cI, kI, compI, hI1, hI2, hI3⟩ := Cond.arrayClass_spec (hts _ q54)
  obtain ⟨cZ, kZ, compZ, hZ1, hZ2, hZ3⟩ := Cond.arrayClass_spec (hts _ q53)
  have hK : va_K D vwCl (tyIZ cI cZ) s := by
    refine ⟨hKc, fun k q h => ?_⟩
    match k, h with
    | 0, h => cases h; exact ⟨fun n z => ⟨fun k h => (by cases h), kI, hI2, compI, hI3⟩, hI1⟩
    | 1, h => cases h; exact ⟨fun n z => ⟨fun k h => (by cases h), kZ, hZ2, compZ, hZ3⟩, hZ1⟩
    | k + 2, h => simp [tyIZ] at h
  have hS : va_S (LA s) s.heap s.heap [] := va_S.rf
  have hP : va_P D vwCl [] s.heap := fun k q h => by simp at h
  have hD : va_D (LA s) [] := ⟨fun i j p q h => by simp at h, fun k q h => by simp at h⟩
  have hl := lv_entry ([.ref b]) (n := 4) (Nat.le_of_ble_eq_true rfl)
  rw [lg_entry_eq]
  generalize (lg_sl ([.ref b]) ++ List.replicate (4 - (lg_sl ([.ref b])).length) Slot.unset).toArray = ls at hl ⊢
  have hl : lv_has ls 4 [(0, .ref b)] := hl
  refine va_new (ci := 0) (fs := [.null, .null, .null, .int 0, .int 0]) (C := RX0) (T := TX0) (N := 5) hx hb hts in_X0 tyX0 tyX0_ok hown (hts _ q15) (hts _ q16) (hts _ q12) hK hP hD hS hA rfl (fun j hj => by rcases (show j = 0 ∨ j = 1 ∨ j = 2 ∨ j = 3 ∨ j = 4 by omega) with rfl | rfl | rfl | rfl | rfl <;> rfl) (Nat.le_of_ble_eq_true rfl) (Nat.le_of_ble_eq_true rfl) dL_law_0 (fun x0 H hP hD hS => ?_)
  have hP : va_P D vwCl [(x0, .inr (0, [.null, .null, .null, .int 0, .int 0]))] H := hP
  have hD : va_D (LA s) [(x0, .inr (0, [.null, .null, .null, .int 0, .int 0]))] := hD
  refine W.widen (k := 1) (n := 5) (by decide) (by decide) ?_
  refine lv_dup hx hb dL_law_3 rfl ?_
  have hFc := va_free (wc := [(x0, .inr (0, [.null, .null, .null, .int 0, .int 0]))]) hD hS hA [0] rfl
  refine va_callv (va_runI (As := []) (rest := [.ref x0]) ⟨hx, hb, hml, hown, hts⟩ (metX0_init l D cI cZ x0 H.size) (cwI 0 hts (lw_meth q19) rfl rfl rfl (hts _ q12) (hts _ q17) (hts _ q18) rfl (by decide +kernel) ⟨Nat.le_of_ble_eq_true rfl, Nat.le_of_ble_eq_true rfl⟩) ⟨blM, prM hP hD hK⟩ rfl rfl hl.1 rfl (lv_room (Nat.le_of_ble_eq_true rfl)) dL_law_4 ⟨Nat.le_of_ble_eq_true rfl, Nat.le_of_ble_eq_true rfl⟩) hS (fun q _ h => hFc q h) hFc (fun ax t1 H1 locs h1t hvm hu hB hz1 hk1 hS => ?_)
  have hu : ax 0 = x0 := hu
  subst hu
  obtain ⟨hP1, hK1, hD1⟩ := hB
  rw [h1t] at hP1
  have hD := hD1.weaken (fun k q _ h => hFc q.1 h)
  generalize H1 = H at hP1 hS ⊢
  have hP : va_P D vwCl (wX ax cI cZ 0 0 0 (fun _ => 0) (fun _ => 0) (fun _ => -1) (fun _ => -1) (fun _ => 0) (fun _ => 0) (fun _ => 0)) H := hP1
  have hD : va_D (LA s) (wX ax cI cZ 0 0 0 (fun _ => 0) (fun _ => 0) (fun _ => -1) (fun _ => -1) (fun _ => 0) (fun _ => 0) (fun _ => 0)) := hD
  refine W.widen (k := 9) (n := 269) (by decide) (by decide) ?_
  refine lv_astore_n (lv' := [(1, .ref (ax 0)), (0, .ref b)]) hx hb dL_law_7 rfl hl (by decide) rfl (fun ls hl => ?_)
  refine va_new (ci := 2) (fs := [.null, .null, .null, .null, .null, .null, .null, .int 0, .int 0, .int 0]) (C := RX2) (T := TX2) (N := 10) hx hb hts in_X2 tyX2 tyX2_ok hown (hts _ q138) (hts _ q139) (hts _ q14) hK hP hD hS hA rfl (fun j hj => by rcases (show j = 0 ∨ j = 1 ∨ j = 2 ∨ j = 3 ∨ j = 4 ∨ j = 5 ∨ j = 6 ∨ j = 7 ∨ j = 8 ∨ j = 9 by omega) with rfl | rfl | rfl | rfl | rfl | rfl | rfl | rfl | rfl | rfl <;> rfl) (Nat.le_of_ble_eq_true rfl) (Nat.le_of_ble_eq_true rfl) dL_law_8 (fun m0 H hP hD hS => ?_)
  have hP : va_P D vwCl (wX ax cI cZ 0 0 0 (fun _ => 0) (fun _ => 0) (fun _ => -1) (fun _ => -1) (fun _ => 0) (fun _ => 0) (fun _ => 0) ++ [(m0, .inr (2, [.null, .null, .null, .null, .null, .null, .null, .int 0, .int 0, .int 0]))]) H := hP
  have hD : va_D (LA s) (wX ax cI cZ 0 0 0 (fun _ => 0) (fun _ => 0) (fun _ => -1) (fun _ => -1) (fun _ => 0) (fun _ => 0) (fun _ => 0) ++ [(m0, .inr (2, [.null, .null, .null, .null, .null, .null, .null, .int 0, .int 0, .int 0]))]) := hD
  refine W.widen (k := 10) (n := 279) (by decide) (by decide) ?_
  refine lv_dup hx hb dL_law_11 rfl ?_
  have hPc := hP.sub (ws' := [(m0, .inr (2, [.null, .null, .null, .null, .null, .null, .null, .int 0, .int 0, .int 0]))]) [9] rfl
  have hDc := hD.sub (ws' := [(m0, .inr (2, [.null, .null, .null, .null, .null, .null, .null, .int 0, .int 0, .int 0]))]) [9] (by decide) rfl
  have hFc := va_free (wc := [(m0, .inr (2, [.null, .null, .null, .null, .null, .null, .null, .int 0, .int 0, .int 0]))]) hD hS hA [9] rfl
  refine va_callv (va_runI (As := []) (rest := [.ref m0]) ⟨hx, hb, hml, hown, hts⟩ (metX2_init l D cI cZ m0 H.size) (cwI 0 hts (lw_meth q142) rfl rfl rfl (hts _ q14) (hts _ q140) (hts _ q141) rfl (by decide +kernel) ⟨Nat.le_of_ble_eq_true rfl, Nat.le_of_ble_eq_true rfl⟩) ⟨blM, prM hPc hDc hK⟩ rfl rfl hl.1 rfl (lv_room (Nat.le_of_ble_eq_true rfl)) dL_law_12 ⟨Nat.le_of_ble_eq_true rfl, Nat.le_of_ble_eq_true rfl⟩) hS (fun q _ h => hFc q h) hFc (fun am t1 H1 locs h1t hvm hu hB hz1 hk1 hS => ?_)
  have hu : am 0 = m0 := hu
  subst hu
  obtain ⟨hP1, hK1, hD1⟩ := hB
  rw [h1t] at hP1
  obtain ⟨hP, hD⟩ := va_join (wr := wX ax cI cZ 0 0 0 (fun _ => 0) (fun _ => 0) (fun _ => -1) (fun _ => -1) (fun _ => 0) (fun _ => 0) (fun _ => 0)) (w1 := wM am cI cZ 0 0 0 (fun _ => 0) (fun _ => 0) (fun _ => -1) (fun _ => -1) (fun _ => 0) (fun _ => 0) (fun _ => 0)) hP hD [9] [0, 1, 2, 3, 4, 5, 6, 7, 8] rfl rfl (by decide) (by decide) hk1 hFc hP1 hD1
  generalize H1 = H at hP hS ⊢
  refine W.widen (k := 17) (n := 537) (by decide) (by decide) ?_
  refine lv_astore_n (lv' := [(2, .ref (am 0)), (1, .ref (ax 0)), (0, .ref b)]) hx hb dL_law_15 rfl hl (by decide) rfl (fun ls hl => ?_)
  refine lv_iconst (v := nI 0) hx hb dL_law_16 (by decide) ?_
  refine lv_istore_n (lv' := [(3, .int (nI 0)), (2, .ref (am 0)), (1, .ref (ax 0)), (0, .ref b)]) hx hb dL_law_17 rfl hl (by decide) rfl (fun ls hl => ?_)
  exact law_loop l ax am hL C0 hK (L + 1) 0 (Nat.zero_le L) (by omega) H locs ls (0, 0, 0, fun _ => 0, fun _ => 0, fun _ => -1, fun _ => -1, fun _ => 0) (fun _ => 0) (fun _ => 0) (fun _ => 0) (fun _ => 0) wf_zero ⟨hP, hD, hS⟩ (lv_sub hl [3, 2, 1, 0] rfl)
end
section
-- ===== YOUR PART ENDS =====
set_option maxHeartbeats 4000000 in
theorem lw_walk (l : Launch) (b : Addr) (xs : List Int32) : MetFree l x (headSpec (Jvm.Cond.code x code maxLocals ret :: tables_1) room_1) (lw_P b xs) (fun _ _ _ _ _ => True) lw_Q := by
  refine MetFree.of_bodyS (code := code) (maxLocals := maxLocals) (ret := ret) (by decide) ?_ ?_
  · intro args s m h hn
    obtain ⟨meth, c, h1, h2, h3, h4, h5, h6, -, -⟩ := Cond.code_spec hn (atoms_spec (ws := Jvm.Cond.code x code maxLocals ret :: tables_1) h _ List.mem_cons_self)
    exact ⟨meth, c, h1, h2, h3, h4, h5, h6⟩
  · intro p e s m args below meth c s₁ B hml0 hP _
    obtain ⟨rfl, hx, hbd, hgv⟩ := hP
    obtain ⟨scr, harrAt, hlist, hof, hsmall⟩ := hx
    obtain ⟨hcb, hkn, -, -⟩ := State.arrayAt?_spec harrAt
    have hown : s.vm.findClass R_law = some m.cls := findClass_of_methodNamed B.named
    have hts0 : ∀ c ∈ (Jvm.Cond.code x code maxLocals ret :: tables_1), c.before #[Value.ref b] s = true := atoms_spec (ws := Jvm.Cond.code x code maxLocals ret :: tables_1) B.pre
    have hts : ∀ w ∈ lw_tbl, w.before #[Value.ref b] s = true := k2_hts_sels lw_privs (fun w hw => hts0 w (List.mem_cons_of_mem _ hw)) lw_privs_ok
    have hml : c.maxLocals = 4 := B.maxLocals_eq (hts0 _ List.mem_cons_self)
    have X₀ : Stand p l e room_1 s m #[Value.ref b] below meth c s₁ [] 0 0 := Stand.of_body B
    have hh0 : s₁.heap = s.heap := by rw [B.state]; rfl
    have hsz : scr.slots.size = xs.length := by rw [← Array.length_toList, hlist, List.length_map]
    have hval : ∀ j : Nat, j < xs.length → scr.slots[j]? = some (.int (xs.getD j 0)) := fun j hj => by
      rw [← Array.getElem?_toList, hlist]
      simp [hj]
    have hbl : b < s.heap.size := (Array.getElem?_eq_some_iff.mp hcb).1
    have hX : va_X b xs.length (fun j => xs.getD j 0) s s.heap := ⟨scr, hcb, hof, hkn, hsz, hval⟩
    have K : W p l e room_1 s m #[Value.ref b] below meth c s₁.heap [] 0 0 (lw_Z below #[Value.ref b] s) (entryFrame m ([Value.ref b] : List Value).toArray 4) := by
      rw [hh0]
      exact whole_start l hbd ⟨B.exec, B.bytes, B.returns, hml, hown, hts, hX, hbl, B.notSynchronized, hgv⟩
    obtain ⟨t, a1, o, b1, b2, b3⟩ := K s₁ rfl X₀
    exact ⟨t, o, a1, b1, b2, b3⟩
theorem lw_pre_spec {args : Array Value} {s : State} (h : (Jvm.Cond.and given_1 narrow_1).before args s = true) (hr : rest_1_c.before args s = true) : ∃ (b : Addr) (xs : List Int32), lw_P b xs args s := by
  have hs := flat_of_before _ h
  have hq := flat_of_before _ hr
  have hc : (Cond.count 1).before args s = true := hs _ (by decide +kernel)
  have harr : (Cond.arrayOf (.arg 0) .int).before args s = true := hs _ (by decide +kernel)
  have hle : (Cond.le (.length (.arg 0)) (.int 384)).before args s = true := hs _ (by decide +kernel)
  have hlen : (Cond.isInt (.length (.arg 0))).before args s = true := hq _ (by decide +kernel)
  have hall : (Cond.all (.arg 0) (.isInt (.elem (.arg 0) (.index 0)))).before args s = true := hq _ (by decide +kernel)
  obtain ⟨b, xs, hb, hx⟩ := State.ints_of_pre rfl harr hlen hall
  have hsm : xs.length < 2 ^ 31 := hx.choose_spec.2.2.2
  have hev : (Term.length (.arg 0)).eval args s none [] s = some (.int xs.length.toInt32) := hx.length_eval hb
  have hv := Cond.le_ints hev (show (Term.int 384).eval args s none [] s = some (.int 384) from rfl)
  have hd : xs.length.toInt32 ≤ 384 := by
    simpa [Cond.before, Cond.holds, hv] using hle
  have hN : xs.length ≤ 384 := (Int32.ofNat_le_ofNat hsm (by decide)).mp (show Int32.ofNat xs.length ≤ Int32.ofNat 384 from hd)
  exact ⟨b, xs, Cond.one_arg hc (show args[0]? = some (.ref b) from hb), hx, hN, h⟩
theorem lw_comes (l : Launch) : Comes l x (Jvm.Cond.code x code maxLocals ret :: tables_1) room_1 (fun tb e args s => Calls_1 tb e args s ∧ rest_1 tb e args s ∧ Pre_1 tb e args s)
    (fun _ _ args s o t => lw_Q args s o t) := by
  intro p e ha hc hk s m args below hf hfit hheap happ hpre
  obtain ⟨b, xs, hP⟩ := lw_pre_spec hpre.2.2 hpre.2.1
  obtain ⟨k, o, h1, h2, h3, hQ⟩ := lw_walk l b xs p e ha hc hk s m args below hf ((Spec.applies_iff_loose hf).mp happ).1 hP trivial
  exact ⟨k, o, h1, h2, h3, hQ⟩
theorem lw_frame {s t : State} {o : Outcome} {args : Array Value} (h : Framed s o t [] 600000 7290000) :
    Framed s o t (fieldLocs frame_1_writes args s ++ arrayLocs frame_1_arrays args s ++ staticLocs frame_1_statics s) 600000 7290000 := h
theorem lw_limb (L : Cond) (hL : ∀ (args : Array Value) (s t : State), L.after args s (.returned (some (.int 1))) t = true) :
    ArmFor flags0 classFile x code maxLocals ret World_1 tables_1 room_1 Calls_1 rest_1 Pre_1
      (fun tb e a s o t => postC L tb e a s o t ∧ Framed s o t (fieldLocs frame_1_writes a s ++ arrayLocs frame_1_arrays a s ++ staticLocs frame_1_statics s) 600000 7290000) := by
  intro l _ _ _ p e ha hc hk s m args below hf hfit hheap happ hpre
  obtain ⟨k, o, h1, h2, h3, rfl, hF⟩ := lw_comes l p e ha hc hk s m args below hf hfit hheap happ hpre
  exact ⟨k, _, h1, h2, h3, hL args s _, lw_frame hF⟩
theorem i_vc : Claimed_1_1 ∧ Claimed_1_2 := ⟨lw_limb limb_1_1 (fun args s t => by simp [limb_1_1, Cond.after, Cond.holds, Cond.value]), lw_limb limb_1_2 (fun args s t => Cond.after_iff.mpr (by
  first | (rw [show limb_1_2 = Cond.eq .result (.int 1) from rfl, Cond.eq_ints (x := 1) (y := 1) rfl rfl]; simp; done) | (simp [limb_1_2, Cond.value, Term.eval]; done)))⟩
end
