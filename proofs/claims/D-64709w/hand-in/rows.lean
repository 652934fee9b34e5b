section
-- ===== PART A: goes FIRST, ahead of the names: the tables' words, and 'selects' of the private methods out of them =====
/-- a private method of a class that the tables say can be made, by its rows of tables_1 -/
def lw_okq (q : MethodName × Nat) : Prop := (q.1.cls ≠ "java/lang/invoke/MethodHandle" ∧ q.1.cls ≠ "java/lang/invoke/VarHandle") ∧ Cond.instantiable q.1.cls q.2 ∈ tables_1 ∧ Cond.privateMethod q.1 ∈ tables_1 ∧ Cond.instanceMethod q.1 ∈ tables_1
set_option maxRecDepth 100000
theorem lw_p0 : lw_okq (⟨"IntervalClocks", "isParty", "(I)Z"⟩, 4) := ⟨⟨by decide +kernel, by decide +kernel⟩, List.mem_of_getElem? (i := 4) rfl, List.mem_of_getElem? (i := 31) rfl, List.mem_of_getElem? (i := 32) rfl⟩
theorem lw_p1 : lw_okq (⟨"IntervalClocks", "isThere", "(I)Z"⟩, 4) := ⟨⟨by decide +kernel, by decide +kernel⟩, List.mem_of_getElem? (i := 4) rfl, List.mem_of_getElem? (i := 35) rfl, List.mem_of_getElem? (i := 36) rfl⟩
theorem lw_p2 : lw_okq (⟨"IntervalClocks", "has", "(II)Z"⟩, 4) := ⟨⟨by decide +kernel, by decide +kernel⟩, List.mem_of_getElem? (i := 4) rfl, List.mem_of_getElem? (i := 42) rfl, List.mem_of_getElem? (i := 43) rfl⟩
theorem lw_p3 : lw_okq (⟨"IntervalClocks", "copy", "(II)V"⟩, 4) := ⟨⟨by decide +kernel, by decide +kernel⟩, List.mem_of_getElem? (i := 4) rfl, List.mem_of_getElem? (i := 46) rfl, List.mem_of_getElem? (i := 47) rfl⟩
theorem lw_p4 : lw_okq (⟨"IntervalClocks", "raise", "(II)Z"⟩, 4) := ⟨⟨by decide +kernel, by decide +kernel⟩, List.mem_of_getElem? (i := 4) rfl, List.mem_of_getElem? (i := 54) rfl, List.mem_of_getElem? (i := 55) rfl⟩
theorem lw_p5 : lw_okq (⟨"IntervalClocks", "under", "(II)Z"⟩, 4) := ⟨⟨by decide +kernel, by decide +kernel⟩, List.mem_of_getElem? (i := 4) rfl, List.mem_of_getElem? (i := 97) rfl, List.mem_of_getElem? (i := 98) rfl⟩
theorem lw_p6 : lw_okq (⟨"IntervalClocksModel", "party", "(I)Z"⟩, 5) := ⟨⟨by decide +kernel, by decide +kernel⟩, List.mem_of_getElem? (i := 118) rfl, List.mem_of_getElem? (i := 146) rfl, List.mem_of_getElem? (i := 147) rfl⟩
theorem lw_p7 : lw_okq (⟨"IntervalClocksModel", "count", "(I)I"⟩, 5) := ⟨⟨by decide +kernel, by decide +kernel⟩, List.mem_of_getElem? (i := 118) rfl, List.mem_of_getElem? (i := 150) rfl, List.mem_of_getElem? (i := 151) rfl⟩
theorem lw_p8 : lw_okq (⟨"IntervalClocksModel", "is", "(I)Z"⟩, 5) := ⟨⟨by decide +kernel, by decide +kernel⟩, List.mem_of_getElem? (i := 118) rfl, List.mem_of_getElem? (i := 166) rfl, List.mem_of_getElem? (i := 167) rfl⟩
theorem lw_p9 : lw_okq (⟨"IntervalClocksModel", "follows", "(II)Z"⟩, 5) := ⟨⟨by decide +kernel, by decide +kernel⟩, List.mem_of_getElem? (i := 118) rfl, List.mem_of_getElem? (i := 170) rfl, List.mem_of_getElem? (i := 171) rfl⟩
theorem lw_p10 : lw_okq (⟨"IntervalClocksModel", "slots", "(I)I"⟩, 5) := ⟨⟨by decide +kernel, by decide +kernel⟩, List.mem_of_getElem? (i := 118) rfl, List.mem_of_getElem? (i := 187) rfl, List.mem_of_getElem? (i := 188) rfl⟩
def lw_privs_1 : List (MethodName × Nat) := [(⟨"IntervalClocks", "isParty", "(I)Z"⟩, 4), (⟨"IntervalClocks", "isThere", "(I)Z"⟩, 4), (⟨"IntervalClocks", "has", "(II)Z"⟩, 4), (⟨"IntervalClocks", "copy", "(II)V"⟩, 4), (⟨"IntervalClocks", "raise", "(II)Z"⟩, 4), (⟨"IntervalClocks", "under", "(II)Z"⟩, 4), (⟨"IntervalClocksModel", "party", "(I)Z"⟩, 5), (⟨"IntervalClocksModel", "count", "(I)I"⟩, 5), (⟨"IntervalClocksModel", "is", "(I)Z"⟩, 5), (⟨"IntervalClocksModel", "follows", "(II)Z"⟩, 5), (⟨"IntervalClocksModel", "slots", "(I)I"⟩, 5)]
theorem lw_r1 : ∀ q ∈ lw_privs_1, lw_okq q := List.forall_mem_cons.mpr ⟨lw_p0, List.forall_mem_cons.mpr ⟨lw_p1, List.forall_mem_cons.mpr ⟨lw_p2, List.forall_mem_cons.mpr ⟨lw_p3, List.forall_mem_cons.mpr ⟨lw_p4, List.forall_mem_cons.mpr ⟨lw_p5, List.forall_mem_cons.mpr ⟨lw_p6, List.forall_mem_cons.mpr ⟨lw_p7, List.forall_mem_cons.mpr ⟨lw_p8, List.forall_mem_cons.mpr ⟨lw_p9, List.forall_mem_cons.mpr ⟨lw_p10, fun _ h => absurd h List.not_mem_nil⟩⟩⟩⟩⟩⟩⟩⟩⟩⟩⟩
def lw_privs : List (MethodName × Nat) := lw_privs_1
def lw_tbl : List Cond := k2_sels lw_privs ++ tables_1
theorem lw_privs_ok : ∀ q ∈ lw_privs, lw_okq q := lw_r1
-- ===== ONE list of words for every method: the tables' words that hold all through a run =====
def lw_all : List Cond := lw_tbl.filter goodWord
/-- a word of the tables by its place: claim/WORDS.tsv -/
theorem lw_w {w : Cond} (i : Nat) (h : lw_tbl[i]? = some w) (g : goodWord w = true) : w ∈ lw_all := List.mem_filter.mpr ⟨List.mem_of_getElem? h, g⟩
theorem lw_all_tbl {w : Cond} (h : w ∈ lw_all) : w ∈ lw_tbl := (List.mem_filter.mp h).1
theorem lw_self : GoodIn lw_all lw_all := fun w h => ⟨h, good_of_word (List.mem_filter.mp h).2⟩
/-- a class's field words, by their places -/
theorem lw_in (ws : List Cond) (ps : List Nat) (hp : ws = ps.filterMap (fun i => lw_tbl[i]?)) (hg : ws.all goodWord = true) : ∀ w ∈ ws, w ∈ lw_all := by
  intro w h
  have h1 := List.all_eq_true.mp hg w h
  rw [hp] at h
  obtain ⟨i, -, hi⟩ := List.mem_filterMap.mp h
  exact lw_w i hi h1
/-- the words of a contract for the method y with code b, L locals, answer r -/
abbrev ws_ (y : MethodName) (b : ByteArray) (L : Nat) (r : Option FieldType) : List Cond := Cond.code y b L r :: lw_all
theorem lw_meth {y : MethodName} {b : ByteArray} {L : Nat} {r : Option FieldType} (h : Cond.code y b L r ∈ lw_all) : GoodIn lw_all (ws_ y b L r) := by
  intro w hw
  rcases List.mem_cons.mp hw with e | e
  · rw [e]
    exact lw_self _ h
  · exact lw_self _ e
theorem lw_app {a c : List Cond} (ha : ∀ w ∈ a, w ∈ lw_all) (hc : GoodIn lw_all c) : GoodIn lw_all (a ++ c) := by
  intro w hw
  rcases List.mem_append.mp hw with e | e
  · exact lw_self w (ha w e)
  · exact hc w e
/-- what a call through an object asks: cwV n hts (lw_V ..) -/
theorem lw_V {own : String} {idx : Nat} {C : String} {y : MethodName} {b : ByteArray} {L : Nat} {r : Option FieldType} (h1 : Cond.methodLink own idx y ∈ lw_all) (h2 : Cond.instanceMethod y ∈ lw_all) (h3 : Cond.selects C y y ∈ lw_all) (h4 : Cond.initialized C ∈ lw_all) (h5 : Cond.code y b L r ∈ lw_all) : GoodIn lw_all (wsV own idx C y (ws_ y b L r)) := by
  refine lw_app ?_ (lw_meth h5)
  intro w hw
  simp only [List.mem_cons, List.not_mem_nil, or_false] at hw
  rcases hw with e | e | e | e
  · rw [e]; exact h1
  · rw [e]; exact h2
  · rw [e]; exact h3
  · rw [e]; exact h4
/-- what a static call asks: va_cwS n hts (lw_S ..) -/
theorem lw_S {own : String} {idx : Nat} {y : MethodName} {b : ByteArray} {L : Nat} {r : Option FieldType} (h1 : Cond.methodLink own idx y ∈ lw_all) (h2 : Cond.static y ∈ lw_all) (h3 : Cond.initialized y.cls ∈ lw_all) (h4 : Cond.code y b L r ∈ lw_all) : GoodIn lw_all (va_wsS own idx y (ws_ y b L r)) := by
  refine lw_app ?_ (lw_meth h4)
  intro w hw
  simp only [List.mem_cons, List.not_mem_nil, or_false] at hw
  rcases hw with e | e | e
  · rw [e]; exact h1
  · rw [e]; exact h2
  · rw [e]; exact h3
/-- the words of a contract for a method WITH HANDLERS (hh: its table) -/
abbrev wsW_ (y : MethodName) (b : ByteArray) (L : Nat) (r : Option FieldType) (hh : List (Nat × Nat × Nat × Nat)) : List Cond := Cond.codeWith y b L r hh :: lw_all
theorem lw_methW {y : MethodName} {b : ByteArray} {L : Nat} {r : Option FieldType} {hh : List (Nat × Nat × Nat × Nat)} (h : Cond.codeWith y b L r hh ∈ lw_all) : GoodIn lw_all (wsW_ y b L r hh) := by
  intro w hw
  rcases List.mem_cons.mp hw with e | e
  · rw [e]
    exact lw_self _ h
  · exact lw_self _ e
/-- any list of words by their places (lw_in), good -/
theorem lw_good {ws : List Cond} (h : ∀ w ∈ ws, w ∈ lw_all) : GoodIn lw_all ws := fun w hw => lw_self w (h w hw)
/-- what a call of a method with handlers asks: vx_cwVW n hts (lw_VW ..), vx_cwSW n hts (lw_SW ..) -/
theorem lw_VW {own : String} {idx : Nat} {C : String} {y : MethodName} {b : ByteArray} {L : Nat} {r : Option FieldType} {hh : List (Nat × Nat × Nat × Nat)} (h1 : Cond.methodLink own idx y ∈ lw_all) (h2 : Cond.instanceMethod y ∈ lw_all) (h3 : Cond.selects C y y ∈ lw_all) (h4 : Cond.initialized C ∈ lw_all) (h5 : Cond.codeWith y b L r hh ∈ lw_all) : GoodIn lw_all (wsV own idx C y (wsW_ y b L r hh)) := by
  refine lw_app ?_ (lw_methW h5)
  intro w hw
  simp only [List.mem_cons, List.not_mem_nil, or_false] at hw
  rcases hw with e | e | e | e
  · rw [e]; exact h1
  · rw [e]; exact h2
  · rw [e]; exact h3
  · rw [e]; exact h4
theorem lw_SW {own : String} {idx : Nat} {y : MethodName} {b : ByteArray} {L : Nat} {r : Option FieldType} {hh : List (Nat × Nat × Nat × Nat)} (h1 : Cond.methodLink own idx y ∈ lw_all) (h2 : Cond.static y ∈ lw_all) (h3 : Cond.initialized y.cls ∈ lw_all) (h4 : Cond.codeWith y b L r hh ∈ lw_all) : GoodIn lw_all (va_wsS own idx y (wsW_ y b L r hh)) := by
  refine lw_app ?_ (lw_methW h4)
  intro w hw
  simp only [List.mem_cons, List.not_mem_nil, or_false] at hw
  rcases hw with e | e | e
  · rw [e]; exact h1
  · rw [e]; exact h2
  · rw [e]; exact h3
/-- a word by its place in its run of the tables -/
theorem lw_at {r : List Cond} (hr : ∀ w ∈ r, w ∈ lw_tbl) {w : Cond} (i : Nat) (h : r[i]? = some w) : w ∈ lw_tbl := hr w (List.mem_of_getElem? h)
theorem lw_g {w : Cond} (h : w ∈ lw_tbl) (g : goodWord w = true) : w ∈ lw_all := List.mem_filter.mpr ⟨h, g⟩
theorem lw_ms : ∀ w ∈ k2_sels lw_privs, w ∈ lw_tbl := fun w h => show w ∈ k2_sels lw_privs ++ tables_1 from List.mem_append_left _ h
theorem lw_m0 : ∀ w ∈ tables_1, w ∈ lw_tbl := fun w h => show w ∈ k2_sels lw_privs ++ tables_1 from List.mem_append_right (k2_sels lw_privs) h
theorem qs0 : (Cond.selects "IntervalClocks" ⟨"IntervalClocks", "isParty", "(I)Z"⟩ ⟨"IntervalClocks", "isParty", "(I)Z"⟩) ∈ lw_all := lw_g (lw_at lw_ms 0 rfl) rfl
theorem qs1 : (Cond.selects "IntervalClocks" ⟨"IntervalClocks", "isThere", "(I)Z"⟩ ⟨"IntervalClocks", "isThere", "(I)Z"⟩) ∈ lw_all := lw_g (lw_at lw_ms 1 rfl) rfl
theorem qs2 : (Cond.selects "IntervalClocks" ⟨"IntervalClocks", "has", "(II)Z"⟩ ⟨"IntervalClocks", "has", "(II)Z"⟩) ∈ lw_all := lw_g (lw_at lw_ms 2 rfl) rfl
theorem qs3 : (Cond.selects "IntervalClocks" ⟨"IntervalClocks", "copy", "(II)V"⟩ ⟨"IntervalClocks", "copy", "(II)V"⟩) ∈ lw_all := lw_g (lw_at lw_ms 3 rfl) rfl
theorem qs4 : (Cond.selects "IntervalClocks" ⟨"IntervalClocks", "raise", "(II)Z"⟩ ⟨"IntervalClocks", "raise", "(II)Z"⟩) ∈ lw_all := lw_g (lw_at lw_ms 4 rfl) rfl
theorem qs5 : (Cond.selects "IntervalClocks" ⟨"IntervalClocks", "under", "(II)Z"⟩ ⟨"IntervalClocks", "under", "(II)Z"⟩) ∈ lw_all := lw_g (lw_at lw_ms 5 rfl) rfl
theorem qs6 : (Cond.selects "IntervalClocksModel" ⟨"IntervalClocksModel", "party", "(I)Z"⟩ ⟨"IntervalClocksModel", "party", "(I)Z"⟩) ∈ lw_all := lw_g (lw_at lw_ms 6 rfl) rfl
theorem qs7 : (Cond.selects "IntervalClocksModel" ⟨"IntervalClocksModel", "count", "(I)I"⟩ ⟨"IntervalClocksModel", "count", "(I)I"⟩) ∈ lw_all := lw_g (lw_at lw_ms 7 rfl) rfl
theorem qs8 : (Cond.selects "IntervalClocksModel" ⟨"IntervalClocksModel", "is", "(I)Z"⟩ ⟨"IntervalClocksModel", "is", "(I)Z"⟩) ∈ lw_all := lw_g (lw_at lw_ms 8 rfl) rfl
theorem qs9 : (Cond.selects "IntervalClocksModel" ⟨"IntervalClocksModel", "follows", "(II)Z"⟩ ⟨"IntervalClocksModel", "follows", "(II)Z"⟩) ∈ lw_all := lw_g (lw_at lw_ms 9 rfl) rfl
theorem qs10 : (Cond.selects "IntervalClocksModel" ⟨"IntervalClocksModel", "slots", "(I)I"⟩ ⟨"IntervalClocksModel", "slots", "(I)I"⟩) ∈ lw_all := lw_g (lw_at lw_ms 10 rfl) rfl
end
section
/-! IntervalClocks -/
set_option maxRecDepth 100000
def RX0 : String := "IntervalClocks"
def TX0 : u_T := fun k => match k with
  | 0 => ("IntervalClocks", "there", "I", false)
  | 1 => ("IntervalClocks", "own", "[I", true)
  | 2 => ("IntervalClocks", "heights", "[B", true)
  | _ => ("IntervalClocks", "count", "I", false)
def tyX0 : Nat → FieldType := fun k => match k with
  | 0 => .int
  | 1 => .array .int
  | 2 => .array .byte
  | _ => .int
abbrev wsX00 : List Cond := u_ws RX0 TX0 4
theorem nmX0 : ∀ a, a < 4 → ∀ b, b < 4 → a ≠ b → (TX0 a).2.1 ≠ (TX0 b).2.1 := by decide +kernel
theorem tyX0_ok : ∀ k, k < 4 → parseFieldDescriptor (TX0 k).2.2.1 = some (tyX0 k) := by decide +kernel
abbrev cX0_init : ByteArray := prog_1_method_1_code
def yX0_init : MethodName := ⟨RX0, "<init>", "()V"⟩
theorem dX0_init_0 : decode cX0_init 0 = .ok (.aload_n 0, 1) := by decide +kernel
theorem dX0_init_1 : decode cX0_init 1 = .ok (.invokespecial 1, 3) := by decide +kernel
theorem dX0_init_4 : decode cX0_init 4 = .ok (.aload_n 0, 1) := by decide +kernel
theorem dX0_init_5 : decode cX0_init 5 = .ok (.iconst 1, 1) := by decide +kernel
theorem dX0_init_6 : decode cX0_init 6 = .ok (.putfield 7, 3) := by decide +kernel
theorem dX0_init_9 : decode cX0_init 9 = .ok (.aload_n 0, 1) := by decide +kernel
theorem dX0_init_10 : decode cX0_init 10 = .ok (.bipush 8, 2) := by decide +kernel
theorem dX0_init_12 : decode cX0_init 12 = .ok (.newarray .int, 2) := by decide +kernel
theorem dX0_init_14 : decode cX0_init 14 = .ok (.putfield 13, 3) := by decide +kernel
theorem dX0_init_17 : decode cX0_init 17 = .ok (.aload_n 0, 1) := by decide +kernel
theorem dX0_init_18 : decode cX0_init 18 = .ok (.sipush 512, 3) := by decide +kernel
theorem dX0_init_21 : decode cX0_init 21 = .ok (.newarray .byte, 2) := by decide +kernel
theorem dX0_init_23 : decode cX0_init 23 = .ok (.putfield 17, 3) := by decide +kernel
theorem dX0_init_26 : decode cX0_init 26 = .ok (.aload_n 0, 1) := by decide +kernel
theorem dX0_init_27 : decode cX0_init 27 = .ok (.getfield 13, 3) := by decide +kernel
theorem dX0_init_30 : decode cX0_init 30 = .ok (.iconst 0, 1) := by decide +kernel
theorem dX0_init_31 : decode cX0_init 31 = .ok (.iconst (-1), 1) := by decide +kernel
theorem dX0_init_32 : decode cX0_init 32 = .ok (.iastore, 1) := by decide +kernel
theorem dX0_init_33 : decode cX0_init 33 = .ok (.return_, 1) := by decide +kernel
abbrev cX0_split : ByteArray := prog_1_method_9_code
def yX0_split : MethodName := ⟨RX0, "split", "(I)I"⟩
theorem dX0_split_0 : decode cX0_split 0 = .ok (.aload_n 0, 1) := by decide +kernel
theorem dX0_split_1 : decode cX0_split 1 = .ok (.iload_n 1, 1) := by decide +kernel
theorem dX0_split_2 : decode cX0_split 2 = .ok (.invokevirtual 25, 3) := by decide +kernel
theorem dX0_split_5 : decode cX0_split 5 = .ok (.ifCond .ne 5, 3) := by decide +kernel
theorem dX0_split_8 : decode cX0_split 8 = .ok (.iconst (-1), 1) := by decide +kernel
theorem dX0_split_9 : decode cX0_split 9 = .ok (.ireturn, 1) := by decide +kernel
theorem dX0_split_10 : decode cX0_split 10 = .ok (.aload_n 0, 1) := by decide +kernel
theorem dX0_split_11 : decode cX0_split 11 = .ok (.getfield 13, 3) := by decide +kernel
theorem dX0_split_14 : decode cX0_split 14 = .ok (.iload_n 1, 1) := by decide +kernel
theorem dX0_split_15 : decode cX0_split 15 = .ok (.iaload, 1) := by decide +kernel
theorem dX0_split_16 : decode cX0_split 16 = .ok (.invokestatic 28, 3) := by decide +kernel
theorem dX0_split_19 : decode cX0_split 19 = .ok (.istore_n 2, 1) := by decide +kernel
theorem dX0_split_20 : decode cX0_split 20 = .ok (.iconst 0, 1) := by decide +kernel
theorem dX0_split_21 : decode cX0_split 21 = .ok (.istore_n 3, 1) := by decide +kernel
theorem dX0_split_22 : decode cX0_split 22 = .ok (.iload_n 3, 1) := by decide +kernel
theorem dX0_split_23 : decode cX0_split 23 = .ok (.bipush 8, 2) := by decide +kernel
theorem dX0_split_25 : decode cX0_split 25 = .ok (.if_icmp .ge 17, 3) := by decide +kernel
theorem dX0_split_28 : decode cX0_split 28 = .ok (.aload_n 0, 1) := by decide +kernel
theorem dX0_split_29 : decode cX0_split 29 = .ok (.iload_n 3, 1) := by decide +kernel
theorem dX0_split_30 : decode cX0_split 30 = .ok (.invokevirtual 21, 3) := by decide +kernel
theorem dX0_split_33 : decode cX0_split 33 = .ok (.ifCond .eq 9, 3) := by decide +kernel
theorem dX0_split_36 : decode cX0_split 36 = .ok (.iinc 3 1, 3) := by decide +kernel
theorem dX0_split_39 : decode cX0_split 39 = .ok (.goto (-17), 3) := by decide +kernel
theorem dX0_split_42 : decode cX0_split 42 = .ok (.iload_n 3, 1) := by decide +kernel
theorem dX0_split_43 : decode cX0_split 43 = .ok (.bipush 8, 2) := by decide +kernel
theorem dX0_split_45 : decode cX0_split 45 = .ok (.if_icmp .eq 8, 3) := by decide +kernel
theorem dX0_split_48 : decode cX0_split 48 = .ok (.iload_n 2, 1) := by decide +kernel
theorem dX0_split_49 : decode cX0_split 49 = .ok (.iconst 2, 1) := by decide +kernel
theorem dX0_split_50 : decode cX0_split 50 = .ok (.if_icmp .ge 6, 3) := by decide +kernel
theorem dX0_split_53 : decode cX0_split 53 = .ok (.bipush (-2), 2) := by decide +kernel
theorem dX0_split_55 : decode cX0_split 55 = .ok (.ireturn, 1) := by decide +kernel
theorem dX0_split_56 : decode cX0_split 56 = .ok (.iload_n 2, 1) := by decide +kernel
theorem dX0_split_57 : decode cX0_split 57 = .ok (.iload_n 2, 1) := by decide +kernel
theorem dX0_split_58 : decode cX0_split 58 = .ok (.iconst 2, 1) := by decide +kernel
theorem dX0_split_59 : decode cX0_split 59 = .ok (.idiv, 1) := by decide +kernel
theorem dX0_split_60 : decode cX0_split 60 = .ok (.isub, 1) := by decide +kernel
theorem dX0_split_61 : decode cX0_split 61 = .ok (.istore 4, 2) := by decide +kernel
theorem dX0_split_63 : decode cX0_split 63 = .ok (.iconst 0, 1) := by decide +kernel
theorem dX0_split_64 : decode cX0_split 64 = .ok (.istore 5, 2) := by decide +kernel
theorem dX0_split_66 : decode cX0_split 66 = .ok (.iconst 0, 1) := by decide +kernel
theorem dX0_split_67 : decode cX0_split 67 = .ok (.istore 6, 2) := by decide +kernel
theorem dX0_split_69 : decode cX0_split 69 = .ok (.iconst 0, 1) := by decide +kernel
theorem dX0_split_70 : decode cX0_split 70 = .ok (.istore 7, 2) := by decide +kernel
theorem dX0_split_72 : decode cX0_split 72 = .ok (.iload 7, 2) := by decide +kernel
theorem dX0_split_74 : decode cX0_split 74 = .ok (.bipush 32, 2) := by decide +kernel
theorem dX0_split_76 : decode cX0_split 76 = .ok (.if_icmp .ge 42, 3) := by decide +kernel
theorem dX0_split_79 : decode cX0_split 79 = .ok (.aload_n 0, 1) := by decide +kernel
theorem dX0_split_80 : decode cX0_split 80 = .ok (.iload_n 1, 1) := by decide +kernel
theorem dX0_split_81 : decode cX0_split 81 = .ok (.iload 7, 2) := by decide +kernel
theorem dX0_split_83 : decode cX0_split 83 = .ok (.invokevirtual 32, 3) := by decide +kernel
theorem dX0_split_86 : decode cX0_split 86 = .ok (.ifCond .eq 26, 3) := by decide +kernel
theorem dX0_split_89 : decode cX0_split 89 = .ok (.iload 5, 2) := by decide +kernel
theorem dX0_split_91 : decode cX0_split 91 = .ok (.iload 6, 2) := by decide +kernel
theorem dX0_split_93 : decode cX0_split 93 = .ok (.iload 4, 2) := by decide +kernel
theorem dX0_split_95 : decode cX0_split 95 = .ok (.if_icmp .lt 10, 3) := by decide +kernel
theorem dX0_split_98 : decode cX0_split 98 = .ok (.iconst 1, 1) := by decide +kernel
theorem dX0_split_99 : decode cX0_split 99 = .ok (.iload 7, 2) := by decide +kernel
theorem dX0_split_101 : decode cX0_split 101 = .ok (.ishl, 1) := by decide +kernel
theorem dX0_split_102 : decode cX0_split 102 = .ok (.goto 4, 3) := by decide +kernel
theorem dX0_split_105 : decode cX0_split 105 = .ok (.iconst 0, 1) := by decide +kernel
theorem dX0_split_106 : decode cX0_split 106 = .ok (.ior, 1) := by decide +kernel
theorem dX0_split_107 : decode cX0_split 107 = .ok (.istore 5, 2) := by decide +kernel
theorem dX0_split_109 : decode cX0_split 109 = .ok (.iinc 6 1, 3) := by decide +kernel
theorem dX0_split_112 : decode cX0_split 112 = .ok (.iinc 7 1, 3) := by decide +kernel
theorem dX0_split_115 : decode cX0_split 115 = .ok (.goto (-43), 3) := by decide +kernel
theorem dX0_split_118 : decode cX0_split 118 = .ok (.aload_n 0, 1) := by decide +kernel
theorem dX0_split_119 : decode cX0_split 119 = .ok (.getfield 13, 3) := by decide +kernel
theorem dX0_split_122 : decode cX0_split 122 = .ok (.iload_n 3, 1) := by decide +kernel
theorem dX0_split_123 : decode cX0_split 123 = .ok (.iload 5, 2) := by decide +kernel
theorem dX0_split_125 : decode cX0_split 125 = .ok (.iastore, 1) := by decide +kernel
theorem dX0_split_126 : decode cX0_split 126 = .ok (.aload_n 0, 1) := by decide +kernel
theorem dX0_split_127 : decode cX0_split 127 = .ok (.getfield 13, 3) := by decide +kernel
theorem dX0_split_130 : decode cX0_split 130 = .ok (.iload_n 1, 1) := by decide +kernel
theorem dX0_split_131 : decode cX0_split 131 = .ok (.dup2, 1) := by decide +kernel
theorem dX0_split_132 : decode cX0_split 132 = .ok (.iaload, 1) := by decide +kernel
theorem dX0_split_133 : decode cX0_split 133 = .ok (.iload 5, 2) := by decide +kernel
theorem dX0_split_135 : decode cX0_split 135 = .ok (.iconst (-1), 1) := by decide +kernel
theorem dX0_split_136 : decode cX0_split 136 = .ok (.ixor, 1) := by decide +kernel
theorem dX0_split_137 : decode cX0_split 137 = .ok (.iand, 1) := by decide +kernel
theorem dX0_split_138 : decode cX0_split 138 = .ok (.iastore, 1) := by decide +kernel
theorem dX0_split_139 : decode cX0_split 139 = .ok (.aload_n 0, 1) := by decide +kernel
theorem dX0_split_140 : decode cX0_split 140 = .ok (.iload_n 1, 1) := by decide +kernel
theorem dX0_split_141 : decode cX0_split 141 = .ok (.iload_n 3, 1) := by decide +kernel
theorem dX0_split_142 : decode cX0_split 142 = .ok (.invokevirtual 36, 3) := by decide +kernel
theorem dX0_split_145 : decode cX0_split 145 = .ok (.aload_n 0, 1) := by decide +kernel
theorem dX0_split_146 : decode cX0_split 146 = .ok (.dup, 1) := by decide +kernel
theorem dX0_split_147 : decode cX0_split 147 = .ok (.getfield 7, 3) := by decide +kernel
theorem dX0_split_150 : decode cX0_split 150 = .ok (.iconst 1, 1) := by decide +kernel
theorem dX0_split_151 : decode cX0_split 151 = .ok (.iload_n 3, 1) := by decide +kernel
theorem dX0_split_152 : decode cX0_split 152 = .ok (.ishl, 1) := by decide +kernel
theorem dX0_split_153 : decode cX0_split 153 = .ok (.ior, 1) := by decide +kernel
theorem dX0_split_154 : decode cX0_split 154 = .ok (.putfield 7, 3) := by decide +kernel
theorem dX0_split_157 : decode cX0_split 157 = .ok (.iload_n 3, 1) := by decide +kernel
theorem dX0_split_158 : decode cX0_split 158 = .ok (.ireturn, 1) := by decide +kernel
abbrev cX0_isParty : ByteArray := prog_1_method_3_code
def yX0_isParty : MethodName := ⟨RX0, "isParty", "(I)Z"⟩
theorem dX0_isParty_0 : decode cX0_isParty 0 = .ok (.iload_n 1, 1) := by decide +kernel
theorem dX0_isParty_1 : decode cX0_isParty 1 = .ok (.bipush 8, 2) := by decide +kernel
theorem dX0_isParty_3 : decode cX0_isParty 3 = .ok (.if_icmp .ge 15, 3) := by decide +kernel
theorem dX0_isParty_6 : decode cX0_isParty 6 = .ok (.aload_n 0, 1) := by decide +kernel
theorem dX0_isParty_7 : decode cX0_isParty 7 = .ok (.iload_n 1, 1) := by decide +kernel
theorem dX0_isParty_8 : decode cX0_isParty 8 = .ok (.invokevirtual 21, 3) := by decide +kernel
theorem dX0_isParty_11 : decode cX0_isParty 11 = .ok (.ifCond .eq 7, 3) := by decide +kernel
theorem dX0_isParty_14 : decode cX0_isParty 14 = .ok (.iconst 1, 1) := by decide +kernel
theorem dX0_isParty_15 : decode cX0_isParty 15 = .ok (.goto 4, 3) := by decide +kernel
theorem dX0_isParty_18 : decode cX0_isParty 18 = .ok (.iconst 0, 1) := by decide +kernel
theorem dX0_isParty_19 : decode cX0_isParty 19 = .ok (.ireturn, 1) := by decide +kernel
abbrev cX0_isThere : ByteArray := prog_1_method_2_code
def yX0_isThere : MethodName := ⟨RX0, "isThere", "(I)Z"⟩
theorem dX0_isThere_0 : decode cX0_isThere 0 = .ok (.iload_n 1, 1) := by decide +kernel
theorem dX0_isThere_1 : decode cX0_isThere 1 = .ok (.ifCond .lt 24, 3) := by decide +kernel
theorem dX0_isThere_4 : decode cX0_isThere 4 = .ok (.iload_n 1, 1) := by decide +kernel
theorem dX0_isThere_5 : decode cX0_isThere 5 = .ok (.bipush 16, 2) := by decide +kernel
theorem dX0_isThere_7 : decode cX0_isThere 7 = .ok (.if_icmp .ge 18, 3) := by decide +kernel
theorem dX0_isThere_10 : decode cX0_isThere 10 = .ok (.aload_n 0, 1) := by decide +kernel
theorem dX0_isThere_11 : decode cX0_isThere 11 = .ok (.getfield 7, 3) := by decide +kernel
theorem dX0_isThere_14 : decode cX0_isThere 14 = .ok (.iload_n 1, 1) := by decide +kernel
theorem dX0_isThere_15 : decode cX0_isThere 15 = .ok (.ishr, 1) := by decide +kernel
theorem dX0_isThere_16 : decode cX0_isThere 16 = .ok (.iconst 1, 1) := by decide +kernel
theorem dX0_isThere_17 : decode cX0_isThere 17 = .ok (.iand, 1) := by decide +kernel
theorem dX0_isThere_18 : decode cX0_isThere 18 = .ok (.ifCond .eq 7, 3) := by decide +kernel
theorem dX0_isThere_21 : decode cX0_isThere 21 = .ok (.iconst 1, 1) := by decide +kernel
theorem dX0_isThere_22 : decode cX0_isThere 22 = .ok (.goto 4, 3) := by decide +kernel
theorem dX0_isThere_25 : decode cX0_isThere 25 = .ok (.iconst 0, 1) := by decide +kernel
theorem dX0_isThere_26 : decode cX0_isThere 26 = .ok (.ireturn, 1) := by decide +kernel
abbrev cX0_ones : ByteArray := prog_1_method_4_code
def yX0_ones : MethodName := ⟨RX0, "ones", "(I)I"⟩
theorem dX0_ones_0 : decode cX0_ones 0 = .ok (.iconst 0, 1) := by decide +kernel
theorem dX0_ones_1 : decode cX0_ones 1 = .ok (.istore_n 1, 1) := by decide +kernel
theorem dX0_ones_2 : decode cX0_ones 2 = .ok (.iconst 0, 1) := by decide +kernel
theorem dX0_ones_3 : decode cX0_ones 3 = .ok (.istore_n 2, 1) := by decide +kernel
theorem dX0_ones_4 : decode cX0_ones 4 = .ok (.iload_n 2, 1) := by decide +kernel
theorem dX0_ones_5 : decode cX0_ones 5 = .ok (.bipush 32, 2) := by decide +kernel
theorem dX0_ones_7 : decode cX0_ones 7 = .ok (.if_icmp .ge 17, 3) := by decide +kernel
theorem dX0_ones_10 : decode cX0_ones 10 = .ok (.iload_n 1, 1) := by decide +kernel
theorem dX0_ones_11 : decode cX0_ones 11 = .ok (.iload_n 0, 1) := by decide +kernel
theorem dX0_ones_12 : decode cX0_ones 12 = .ok (.iload_n 2, 1) := by decide +kernel
theorem dX0_ones_13 : decode cX0_ones 13 = .ok (.iushr, 1) := by decide +kernel
theorem dX0_ones_14 : decode cX0_ones 14 = .ok (.iconst 1, 1) := by decide +kernel
theorem dX0_ones_15 : decode cX0_ones 15 = .ok (.iand, 1) := by decide +kernel
theorem dX0_ones_16 : decode cX0_ones 16 = .ok (.iadd, 1) := by decide +kernel
theorem dX0_ones_17 : decode cX0_ones 17 = .ok (.istore_n 1, 1) := by decide +kernel
theorem dX0_ones_18 : decode cX0_ones 18 = .ok (.iinc 2 1, 3) := by decide +kernel
theorem dX0_ones_21 : decode cX0_ones 21 = .ok (.goto (-17), 3) := by decide +kernel
theorem dX0_ones_24 : decode cX0_ones 24 = .ok (.iload_n 1, 1) := by decide +kernel
theorem dX0_ones_25 : decode cX0_ones 25 = .ok (.ireturn, 1) := by decide +kernel
abbrev cX0_has : ByteArray := prog_1_method_5_code
def yX0_has : MethodName := ⟨RX0, "has", "(II)Z"⟩
theorem dX0_has_0 : decode cX0_has 0 = .ok (.aload_n 0, 1) := by decide +kernel
theorem dX0_has_1 : decode cX0_has 1 = .ok (.getfield 13, 3) := by decide +kernel
theorem dX0_has_4 : decode cX0_has 4 = .ok (.iload_n 1, 1) := by decide +kernel
theorem dX0_has_5 : decode cX0_has 5 = .ok (.iaload, 1) := by decide +kernel
theorem dX0_has_6 : decode cX0_has 6 = .ok (.iload_n 2, 1) := by decide +kernel
theorem dX0_has_7 : decode cX0_has 7 = .ok (.iushr, 1) := by decide +kernel
theorem dX0_has_8 : decode cX0_has 8 = .ok (.iconst 1, 1) := by decide +kernel
theorem dX0_has_9 : decode cX0_has 9 = .ok (.iand, 1) := by decide +kernel
theorem dX0_has_10 : decode cX0_has 10 = .ok (.ifCond .eq 7, 3) := by decide +kernel
theorem dX0_has_13 : decode cX0_has 13 = .ok (.iconst 1, 1) := by decide +kernel
theorem dX0_has_14 : decode cX0_has 14 = .ok (.goto 4, 3) := by decide +kernel
theorem dX0_has_17 : decode cX0_has 17 = .ok (.iconst 0, 1) := by decide +kernel
theorem dX0_has_18 : decode cX0_has 18 = .ok (.ireturn, 1) := by decide +kernel
abbrev cX0_copy : ByteArray := prog_1_method_6_code
def yX0_copy : MethodName := ⟨RX0, "copy", "(II)V"⟩
theorem dX0_copy_0 : decode cX0_copy 0 = .ok (.iconst 0, 1) := by decide +kernel
theorem dX0_copy_1 : decode cX0_copy 1 = .ok (.istore_n 3, 1) := by decide +kernel
theorem dX0_copy_2 : decode cX0_copy 2 = .ok (.iload_n 3, 1) := by decide +kernel
theorem dX0_copy_3 : decode cX0_copy 3 = .ok (.bipush 32, 2) := by decide +kernel
theorem dX0_copy_5 : decode cX0_copy 5 = .ok (.if_icmp .ge 31, 3) := by decide +kernel
theorem dX0_copy_8 : decode cX0_copy 8 = .ok (.aload_n 0, 1) := by decide +kernel
theorem dX0_copy_9 : decode cX0_copy 9 = .ok (.getfield 17, 3) := by decide +kernel
theorem dX0_copy_12 : decode cX0_copy 12 = .ok (.iload_n 2, 1) := by decide +kernel
theorem dX0_copy_13 : decode cX0_copy 13 = .ok (.bipush 32, 2) := by decide +kernel
theorem dX0_copy_15 : decode cX0_copy 15 = .ok (.imul, 1) := by decide +kernel
theorem dX0_copy_16 : decode cX0_copy 16 = .ok (.iload_n 3, 1) := by decide +kernel
theorem dX0_copy_17 : decode cX0_copy 17 = .ok (.iadd, 1) := by decide +kernel
theorem dX0_copy_18 : decode cX0_copy 18 = .ok (.aload_n 0, 1) := by decide +kernel
theorem dX0_copy_19 : decode cX0_copy 19 = .ok (.getfield 17, 3) := by decide +kernel
theorem dX0_copy_22 : decode cX0_copy 22 = .ok (.iload_n 1, 1) := by decide +kernel
theorem dX0_copy_23 : decode cX0_copy 23 = .ok (.bipush 32, 2) := by decide +kernel
theorem dX0_copy_25 : decode cX0_copy 25 = .ok (.imul, 1) := by decide +kernel
theorem dX0_copy_26 : decode cX0_copy 26 = .ok (.iload_n 3, 1) := by decide +kernel
theorem dX0_copy_27 : decode cX0_copy 27 = .ok (.iadd, 1) := by decide +kernel
theorem dX0_copy_28 : decode cX0_copy 28 = .ok (.baload, 1) := by decide +kernel
theorem dX0_copy_29 : decode cX0_copy 29 = .ok (.bastore, 1) := by decide +kernel
theorem dX0_copy_30 : decode cX0_copy 30 = .ok (.iinc 3 1, 3) := by decide +kernel
theorem dX0_copy_33 : decode cX0_copy 33 = .ok (.goto (-31), 3) := by decide +kernel
theorem dX0_copy_36 : decode cX0_copy 36 = .ok (.return_, 1) := by decide +kernel
abbrev cX0_join : ByteArray := prog_1_method_10_code
def yX0_join : MethodName := ⟨RX0, "join", "(II)I"⟩
theorem dX0_join_0 : decode cX0_join 0 = .ok (.aload_n 0, 1) := by decide +kernel
theorem dX0_join_1 : decode cX0_join 1 = .ok (.iload_n 1, 1) := by decide +kernel
theorem dX0_join_2 : decode cX0_join 2 = .ok (.invokevirtual 25, 3) := by decide +kernel
theorem dX0_join_5 : decode cX0_join 5 = .ok (.ifCond .eq 16, 3) := by decide +kernel
theorem dX0_join_8 : decode cX0_join 8 = .ok (.aload_n 0, 1) := by decide +kernel
theorem dX0_join_9 : decode cX0_join 9 = .ok (.iload_n 2, 1) := by decide +kernel
theorem dX0_join_10 : decode cX0_join 10 = .ok (.invokevirtual 25, 3) := by decide +kernel
theorem dX0_join_13 : decode cX0_join 13 = .ok (.ifCond .eq 8, 3) := by decide +kernel
theorem dX0_join_16 : decode cX0_join 16 = .ok (.iload_n 1, 1) := by decide +kernel
theorem dX0_join_17 : decode cX0_join 17 = .ok (.iload_n 2, 1) := by decide +kernel
theorem dX0_join_18 : decode cX0_join 18 = .ok (.if_icmp .ne 5, 3) := by decide +kernel
theorem dX0_join_21 : decode cX0_join 21 = .ok (.iconst (-1), 1) := by decide +kernel
theorem dX0_join_22 : decode cX0_join 22 = .ok (.ireturn, 1) := by decide +kernel
theorem dX0_join_23 : decode cX0_join 23 = .ok (.aload_n 0, 1) := by decide +kernel
theorem dX0_join_24 : decode cX0_join 24 = .ok (.iload_n 1, 1) := by decide +kernel
theorem dX0_join_25 : decode cX0_join 25 = .ok (.iload_n 2, 1) := by decide +kernel
theorem dX0_join_26 : decode cX0_join 26 = .ok (.invokevirtual 40, 3) := by decide +kernel
theorem dX0_join_29 : decode cX0_join 29 = .ok (.pop, 1) := by decide +kernel
theorem dX0_join_30 : decode cX0_join 30 = .ok (.aload_n 0, 1) := by decide +kernel
theorem dX0_join_31 : decode cX0_join 31 = .ok (.getfield 13, 3) := by decide +kernel
theorem dX0_join_34 : decode cX0_join 34 = .ok (.iload_n 1, 1) := by decide +kernel
theorem dX0_join_35 : decode cX0_join 35 = .ok (.dup2, 1) := by decide +kernel
theorem dX0_join_36 : decode cX0_join 36 = .ok (.iaload, 1) := by decide +kernel
theorem dX0_join_37 : decode cX0_join 37 = .ok (.aload_n 0, 1) := by decide +kernel
theorem dX0_join_38 : decode cX0_join 38 = .ok (.getfield 13, 3) := by decide +kernel
theorem dX0_join_41 : decode cX0_join 41 = .ok (.iload_n 2, 1) := by decide +kernel
theorem dX0_join_42 : decode cX0_join 42 = .ok (.iaload, 1) := by decide +kernel
theorem dX0_join_43 : decode cX0_join 43 = .ok (.ior, 1) := by decide +kernel
theorem dX0_join_44 : decode cX0_join 44 = .ok (.iastore, 1) := by decide +kernel
theorem dX0_join_45 : decode cX0_join 45 = .ok (.aload_n 0, 1) := by decide +kernel
theorem dX0_join_46 : decode cX0_join 46 = .ok (.getfield 13, 3) := by decide +kernel
theorem dX0_join_49 : decode cX0_join 49 = .ok (.iload_n 2, 1) := by decide +kernel
theorem dX0_join_50 : decode cX0_join 50 = .ok (.iconst 0, 1) := by decide +kernel
theorem dX0_join_51 : decode cX0_join 51 = .ok (.iastore, 1) := by decide +kernel
theorem dX0_join_52 : decode cX0_join 52 = .ok (.aload_n 0, 1) := by decide +kernel
theorem dX0_join_53 : decode cX0_join 53 = .ok (.dup, 1) := by decide +kernel
theorem dX0_join_54 : decode cX0_join 54 = .ok (.getfield 7, 3) := by decide +kernel
theorem dX0_join_57 : decode cX0_join 57 = .ok (.iconst 1, 1) := by decide +kernel
theorem dX0_join_58 : decode cX0_join 58 = .ok (.iload_n 2, 1) := by decide +kernel
theorem dX0_join_59 : decode cX0_join 59 = .ok (.ishl, 1) := by decide +kernel
theorem dX0_join_60 : decode cX0_join 60 = .ok (.iconst (-1), 1) := by decide +kernel
theorem dX0_join_61 : decode cX0_join 61 = .ok (.ixor, 1) := by decide +kernel
theorem dX0_join_62 : decode cX0_join 62 = .ok (.iand, 1) := by decide +kernel
theorem dX0_join_63 : decode cX0_join 63 = .ok (.putfield 7, 3) := by decide +kernel
theorem dX0_join_66 : decode cX0_join 66 = .ok (.aload_n 0, 1) := by decide +kernel
theorem dX0_join_67 : decode cX0_join 67 = .ok (.getfield 13, 3) := by decide +kernel
theorem dX0_join_70 : decode cX0_join 70 = .ok (.iload_n 1, 1) := by decide +kernel
theorem dX0_join_71 : decode cX0_join 71 = .ok (.iaload, 1) := by decide +kernel
theorem dX0_join_72 : decode cX0_join 72 = .ok (.invokestatic 28, 3) := by decide +kernel
theorem dX0_join_75 : decode cX0_join 75 = .ok (.ireturn, 1) := by decide +kernel
abbrev cX0_raise : ByteArray := prog_1_method_7_code
def yX0_raise : MethodName := ⟨RX0, "raise", "(II)Z"⟩
theorem dX0_raise_0 : decode cX0_raise 0 = .ok (.iconst 0, 1) := by decide +kernel
theorem dX0_raise_1 : decode cX0_raise 1 = .ok (.istore_n 3, 1) := by decide +kernel
theorem dX0_raise_2 : decode cX0_raise 2 = .ok (.iconst 0, 1) := by decide +kernel
theorem dX0_raise_3 : decode cX0_raise 3 = .ok (.istore 4, 2) := by decide +kernel
theorem dX0_raise_5 : decode cX0_raise 5 = .ok (.iload 4, 2) := by decide +kernel
theorem dX0_raise_7 : decode cX0_raise 7 = .ok (.bipush 32, 2) := by decide +kernel
theorem dX0_raise_9 : decode cX0_raise 9 = .ok (.if_icmp .ge 62, 3) := by decide +kernel
theorem dX0_raise_12 : decode cX0_raise 12 = .ok (.aload_n 0, 1) := by decide +kernel
theorem dX0_raise_13 : decode cX0_raise 13 = .ok (.getfield 17, 3) := by decide +kernel
theorem dX0_raise_16 : decode cX0_raise 16 = .ok (.iload_n 2, 1) := by decide +kernel
theorem dX0_raise_17 : decode cX0_raise 17 = .ok (.bipush 32, 2) := by decide +kernel
theorem dX0_raise_19 : decode cX0_raise 19 = .ok (.imul, 1) := by decide +kernel
theorem dX0_raise_20 : decode cX0_raise 20 = .ok (.iload 4, 2) := by decide +kernel
theorem dX0_raise_22 : decode cX0_raise 22 = .ok (.iadd, 1) := by decide +kernel
theorem dX0_raise_23 : decode cX0_raise 23 = .ok (.baload, 1) := by decide +kernel
theorem dX0_raise_24 : decode cX0_raise 24 = .ok (.aload_n 0, 1) := by decide +kernel
theorem dX0_raise_25 : decode cX0_raise 25 = .ok (.getfield 17, 3) := by decide +kernel
theorem dX0_raise_28 : decode cX0_raise 28 = .ok (.iload_n 1, 1) := by decide +kernel
theorem dX0_raise_29 : decode cX0_raise 29 = .ok (.bipush 32, 2) := by decide +kernel
theorem dX0_raise_31 : decode cX0_raise 31 = .ok (.imul, 1) := by decide +kernel
theorem dX0_raise_32 : decode cX0_raise 32 = .ok (.iload 4, 2) := by decide +kernel
theorem dX0_raise_34 : decode cX0_raise 34 = .ok (.iadd, 1) := by decide +kernel
theorem dX0_raise_35 : decode cX0_raise 35 = .ok (.baload, 1) := by decide +kernel
theorem dX0_raise_36 : decode cX0_raise 36 = .ok (.if_icmp .le 29, 3) := by decide +kernel
theorem dX0_raise_39 : decode cX0_raise 39 = .ok (.aload_n 0, 1) := by decide +kernel
theorem dX0_raise_40 : decode cX0_raise 40 = .ok (.getfield 17, 3) := by decide +kernel
theorem dX0_raise_43 : decode cX0_raise 43 = .ok (.iload_n 1, 1) := by decide +kernel
theorem dX0_raise_44 : decode cX0_raise 44 = .ok (.bipush 32, 2) := by decide +kernel
theorem dX0_raise_46 : decode cX0_raise 46 = .ok (.imul, 1) := by decide +kernel
theorem dX0_raise_47 : decode cX0_raise 47 = .ok (.iload 4, 2) := by decide +kernel
theorem dX0_raise_49 : decode cX0_raise 49 = .ok (.iadd, 1) := by decide +kernel
theorem dX0_raise_50 : decode cX0_raise 50 = .ok (.aload_n 0, 1) := by decide +kernel
theorem dX0_raise_51 : decode cX0_raise 51 = .ok (.getfield 17, 3) := by decide +kernel
theorem dX0_raise_54 : decode cX0_raise 54 = .ok (.iload_n 2, 1) := by decide +kernel
theorem dX0_raise_55 : decode cX0_raise 55 = .ok (.bipush 32, 2) := by decide +kernel
theorem dX0_raise_57 : decode cX0_raise 57 = .ok (.imul, 1) := by decide +kernel
theorem dX0_raise_58 : decode cX0_raise 58 = .ok (.iload 4, 2) := by decide +kernel
theorem dX0_raise_60 : decode cX0_raise 60 = .ok (.iadd, 1) := by decide +kernel
theorem dX0_raise_61 : decode cX0_raise 61 = .ok (.baload, 1) := by decide +kernel
theorem dX0_raise_62 : decode cX0_raise 62 = .ok (.bastore, 1) := by decide +kernel
theorem dX0_raise_63 : decode cX0_raise 63 = .ok (.iconst 1, 1) := by decide +kernel
theorem dX0_raise_64 : decode cX0_raise 64 = .ok (.istore_n 3, 1) := by decide +kernel
theorem dX0_raise_65 : decode cX0_raise 65 = .ok (.iinc 4 1, 3) := by decide +kernel
theorem dX0_raise_68 : decode cX0_raise 68 = .ok (.goto (-63), 3) := by decide +kernel
theorem dX0_raise_71 : decode cX0_raise 71 = .ok (.iload_n 3, 1) := by decide +kernel
theorem dX0_raise_72 : decode cX0_raise 72 = .ok (.ireturn, 1) := by decide +kernel
abbrev cX0_event : ByteArray := prog_1_method_11_code
def yX0_event : MethodName := ⟨RX0, "event", "(I)I"⟩
theorem dX0_event_0 : decode cX0_event 0 = .ok (.aload_n 0, 1) := by decide +kernel
theorem dX0_event_1 : decode cX0_event 1 = .ok (.iload_n 1, 1) := by decide +kernel
theorem dX0_event_2 : decode cX0_event 2 = .ok (.invokevirtual 25, 3) := by decide +kernel
theorem dX0_event_5 : decode cX0_event 5 = .ok (.ifCond .ne 5, 3) := by decide +kernel
theorem dX0_event_8 : decode cX0_event 8 = .ok (.iconst (-1), 1) := by decide +kernel
theorem dX0_event_9 : decode cX0_event 9 = .ok (.ireturn, 1) := by decide +kernel
theorem dX0_event_10 : decode cX0_event 10 = .ok (.aload_n 0, 1) := by decide +kernel
theorem dX0_event_11 : decode cX0_event 11 = .ok (.getfield 43, 3) := by decide +kernel
theorem dX0_event_14 : decode cX0_event 14 = .ok (.bipush 100, 2) := by decide +kernel
theorem dX0_event_16 : decode cX0_event 16 = .ok (.if_icmp .lt 6, 3) := by decide +kernel
theorem dX0_event_19 : decode cX0_event 19 = .ok (.bipush (-2), 2) := by decide +kernel
theorem dX0_event_21 : decode cX0_event 21 = .ok (.ireturn, 1) := by decide +kernel
theorem dX0_event_22 : decode cX0_event 22 = .ok (.iconst 0, 1) := by decide +kernel
theorem dX0_event_23 : decode cX0_event 23 = .ok (.istore_n 2, 1) := by decide +kernel
theorem dX0_event_24 : decode cX0_event 24 = .ok (.iconst 0, 1) := by decide +kernel
theorem dX0_event_25 : decode cX0_event 25 = .ok (.istore_n 3, 1) := by decide +kernel
theorem dX0_event_26 : decode cX0_event 26 = .ok (.iload_n 3, 1) := by decide +kernel
theorem dX0_event_27 : decode cX0_event 27 = .ok (.bipush 32, 2) := by decide +kernel
theorem dX0_event_29 : decode cX0_event 29 = .ok (.if_icmp .ge 48, 3) := by decide +kernel
theorem dX0_event_32 : decode cX0_event 32 = .ok (.aload_n 0, 1) := by decide +kernel
theorem dX0_event_33 : decode cX0_event 33 = .ok (.iload_n 1, 1) := by decide +kernel
theorem dX0_event_34 : decode cX0_event 34 = .ok (.iload_n 3, 1) := by decide +kernel
theorem dX0_event_35 : decode cX0_event 35 = .ok (.invokevirtual 32, 3) := by decide +kernel
theorem dX0_event_38 : decode cX0_event 38 = .ok (.ifCond .eq 17, 3) := by decide +kernel
theorem dX0_event_41 : decode cX0_event 41 = .ok (.aload_n 0, 1) := by decide +kernel
theorem dX0_event_42 : decode cX0_event 42 = .ok (.getfield 17, 3) := by decide +kernel
theorem dX0_event_45 : decode cX0_event 45 = .ok (.iload_n 1, 1) := by decide +kernel
theorem dX0_event_46 : decode cX0_event 46 = .ok (.bipush 32, 2) := by decide +kernel
theorem dX0_event_48 : decode cX0_event 48 = .ok (.imul, 1) := by decide +kernel
theorem dX0_event_49 : decode cX0_event 49 = .ok (.iload_n 3, 1) := by decide +kernel
theorem dX0_event_50 : decode cX0_event 50 = .ok (.iadd, 1) := by decide +kernel
theorem dX0_event_51 : decode cX0_event 51 = .ok (.baload, 1) := by decide +kernel
theorem dX0_event_52 : decode cX0_event 52 = .ok (.goto 4, 3) := by decide +kernel
theorem dX0_event_55 : decode cX0_event 55 = .ok (.iconst 0, 1) := by decide +kernel
theorem dX0_event_56 : decode cX0_event 56 = .ok (.istore 4, 2) := by decide +kernel
theorem dX0_event_58 : decode cX0_event 58 = .ok (.iload 4, 2) := by decide +kernel
theorem dX0_event_60 : decode cX0_event 60 = .ok (.iload_n 2, 1) := by decide +kernel
theorem dX0_event_61 : decode cX0_event 61 = .ok (.if_icmp .le 8, 3) := by decide +kernel
theorem dX0_event_64 : decode cX0_event 64 = .ok (.iload 4, 2) := by decide +kernel
theorem dX0_event_66 : decode cX0_event 66 = .ok (.goto 4, 3) := by decide +kernel
theorem dX0_event_69 : decode cX0_event 69 = .ok (.iload_n 2, 1) := by decide +kernel
theorem dX0_event_70 : decode cX0_event 70 = .ok (.istore_n 2, 1) := by decide +kernel
theorem dX0_event_71 : decode cX0_event 71 = .ok (.iinc 3 1, 3) := by decide +kernel
theorem dX0_event_74 : decode cX0_event 74 = .ok (.goto (-48), 3) := by decide +kernel
theorem dX0_event_77 : decode cX0_event 77 = .ok (.iconst 0, 1) := by decide +kernel
theorem dX0_event_78 : decode cX0_event 78 = .ok (.istore_n 3, 1) := by decide +kernel
theorem dX0_event_79 : decode cX0_event 79 = .ok (.iload_n 3, 1) := by decide +kernel
theorem dX0_event_80 : decode cX0_event 80 = .ok (.bipush 32, 2) := by decide +kernel
theorem dX0_event_82 : decode cX0_event 82 = .ok (.if_icmp .ge 33, 3) := by decide +kernel
theorem dX0_event_85 : decode cX0_event 85 = .ok (.aload_n 0, 1) := by decide +kernel
theorem dX0_event_86 : decode cX0_event 86 = .ok (.iload_n 1, 1) := by decide +kernel
theorem dX0_event_87 : decode cX0_event 87 = .ok (.iload_n 3, 1) := by decide +kernel
theorem dX0_event_88 : decode cX0_event 88 = .ok (.invokevirtual 32, 3) := by decide +kernel
theorem dX0_event_91 : decode cX0_event 91 = .ok (.ifCond .eq 18, 3) := by decide +kernel
theorem dX0_event_94 : decode cX0_event 94 = .ok (.aload_n 0, 1) := by decide +kernel
theorem dX0_event_95 : decode cX0_event 95 = .ok (.getfield 17, 3) := by decide +kernel
theorem dX0_event_98 : decode cX0_event 98 = .ok (.iload_n 1, 1) := by decide +kernel
theorem dX0_event_99 : decode cX0_event 99 = .ok (.bipush 32, 2) := by decide +kernel
theorem dX0_event_101 : decode cX0_event 101 = .ok (.imul, 1) := by decide +kernel
theorem dX0_event_102 : decode cX0_event 102 = .ok (.iload_n 3, 1) := by decide +kernel
theorem dX0_event_103 : decode cX0_event 103 = .ok (.iadd, 1) := by decide +kernel
theorem dX0_event_104 : decode cX0_event 104 = .ok (.iload_n 2, 1) := by decide +kernel
theorem dX0_event_105 : decode cX0_event 105 = .ok (.iconst 1, 1) := by decide +kernel
theorem dX0_event_106 : decode cX0_event 106 = .ok (.iadd, 1) := by decide +kernel
theorem dX0_event_107 : decode cX0_event 107 = .ok (.i2b, 1) := by decide +kernel
theorem dX0_event_108 : decode cX0_event 108 = .ok (.bastore, 1) := by decide +kernel
theorem dX0_event_109 : decode cX0_event 109 = .ok (.iinc 3 1, 3) := by decide +kernel
theorem dX0_event_112 : decode cX0_event 112 = .ok (.goto (-33), 3) := by decide +kernel
theorem dX0_event_115 : decode cX0_event 115 = .ok (.aload_n 0, 1) := by decide +kernel
theorem dX0_event_116 : decode cX0_event 116 = .ok (.dup, 1) := by decide +kernel
theorem dX0_event_117 : decode cX0_event 117 = .ok (.getfield 43, 3) := by decide +kernel
theorem dX0_event_120 : decode cX0_event 120 = .ok (.iconst 1, 1) := by decide +kernel
theorem dX0_event_121 : decode cX0_event 121 = .ok (.iadd, 1) := by decide +kernel
theorem dX0_event_122 : decode cX0_event 122 = .ok (.putfield 43, 3) := by decide +kernel
theorem dX0_event_125 : decode cX0_event 125 = .ok (.aload_n 0, 1) := by decide +kernel
theorem dX0_event_126 : decode cX0_event 126 = .ok (.getfield 43, 3) := by decide +kernel
theorem dX0_event_129 : decode cX0_event 129 = .ok (.ireturn, 1) := by decide +kernel
abbrev cX0_tell : ByteArray := prog_1_method_12_code
def yX0_tell : MethodName := ⟨RX0, "tell", "(II)I"⟩
theorem dX0_tell_0 : decode cX0_tell 0 = .ok (.aload_n 0, 1) := by decide +kernel
theorem dX0_tell_1 : decode cX0_tell 1 = .ok (.iload_n 1, 1) := by decide +kernel
theorem dX0_tell_2 : decode cX0_tell 2 = .ok (.invokevirtual 21, 3) := by decide +kernel
theorem dX0_tell_5 : decode cX0_tell 5 = .ok (.ifCond .eq 16, 3) := by decide +kernel
theorem dX0_tell_8 : decode cX0_tell 8 = .ok (.aload_n 0, 1) := by decide +kernel
theorem dX0_tell_9 : decode cX0_tell 9 = .ok (.iload_n 2, 1) := by decide +kernel
theorem dX0_tell_10 : decode cX0_tell 10 = .ok (.invokevirtual 25, 3) := by decide +kernel
theorem dX0_tell_13 : decode cX0_tell 13 = .ok (.ifCond .eq 8, 3) := by decide +kernel
theorem dX0_tell_16 : decode cX0_tell 16 = .ok (.iload_n 1, 1) := by decide +kernel
theorem dX0_tell_17 : decode cX0_tell 17 = .ok (.iload_n 2, 1) := by decide +kernel
theorem dX0_tell_18 : decode cX0_tell 18 = .ok (.if_icmp .ne 5, 3) := by decide +kernel
theorem dX0_tell_21 : decode cX0_tell 21 = .ok (.iconst (-1), 1) := by decide +kernel
theorem dX0_tell_22 : decode cX0_tell 22 = .ok (.ireturn, 1) := by decide +kernel
theorem dX0_tell_23 : decode cX0_tell 23 = .ok (.aload_n 0, 1) := by decide +kernel
theorem dX0_tell_24 : decode cX0_tell 24 = .ok (.iload_n 2, 1) := by decide +kernel
theorem dX0_tell_25 : decode cX0_tell 25 = .ok (.iload_n 1, 1) := by decide +kernel
theorem dX0_tell_26 : decode cX0_tell 26 = .ok (.invokevirtual 40, 3) := by decide +kernel
theorem dX0_tell_29 : decode cX0_tell 29 = .ok (.ifCond .eq 7, 3) := by decide +kernel
theorem dX0_tell_32 : decode cX0_tell 32 = .ok (.iconst 1, 1) := by decide +kernel
theorem dX0_tell_33 : decode cX0_tell 33 = .ok (.goto 4, 3) := by decide +kernel
theorem dX0_tell_36 : decode cX0_tell 36 = .ok (.iconst 0, 1) := by decide +kernel
theorem dX0_tell_37 : decode cX0_tell 37 = .ok (.ireturn, 1) := by decide +kernel
abbrev cX0_note : ByteArray := prog_1_method_14_code
def yX0_note : MethodName := ⟨RX0, "note", "(II)Z"⟩
theorem dX0_note_0 : decode cX0_note 0 = .ok (.aload_n 0, 1) := by decide +kernel
theorem dX0_note_1 : decode cX0_note 1 = .ok (.iload_n 1, 1) := by decide +kernel
theorem dX0_note_2 : decode cX0_note 2 = .ok (.invokevirtual 25, 3) := by decide +kernel
theorem dX0_note_5 : decode cX0_note 5 = .ok (.ifCond .eq 10, 3) := by decide +kernel
theorem dX0_note_8 : decode cX0_note 8 = .ok (.iload_n 2, 1) := by decide +kernel
theorem dX0_note_9 : decode cX0_note 9 = .ok (.invokestatic 46, 3) := by decide +kernel
theorem dX0_note_12 : decode cX0_note 12 = .ok (.ifCond .ne 5, 3) := by decide +kernel
theorem dX0_note_15 : decode cX0_note 15 = .ok (.iconst 0, 1) := by decide +kernel
theorem dX0_note_16 : decode cX0_note 16 = .ok (.ireturn, 1) := by decide +kernel
theorem dX0_note_17 : decode cX0_note 17 = .ok (.aload_n 0, 1) := by decide +kernel
theorem dX0_note_18 : decode cX0_note 18 = .ok (.iload_n 1, 1) := by decide +kernel
theorem dX0_note_19 : decode cX0_note 19 = .ok (.bipush 8, 2) := by decide +kernel
theorem dX0_note_21 : decode cX0_note 21 = .ok (.iload_n 2, 1) := by decide +kernel
theorem dX0_note_22 : decode cX0_note 22 = .ok (.iadd, 1) := by decide +kernel
theorem dX0_note_23 : decode cX0_note 23 = .ok (.invokevirtual 36, 3) := by decide +kernel
theorem dX0_note_26 : decode cX0_note 26 = .ok (.aload_n 0, 1) := by decide +kernel
theorem dX0_note_27 : decode cX0_note 27 = .ok (.dup, 1) := by decide +kernel
theorem dX0_note_28 : decode cX0_note 28 = .ok (.getfield 7, 3) := by decide +kernel
theorem dX0_note_31 : decode cX0_note 31 = .ok (.iconst 1, 1) := by decide +kernel
theorem dX0_note_32 : decode cX0_note 32 = .ok (.bipush 8, 2) := by decide +kernel
theorem dX0_note_34 : decode cX0_note 34 = .ok (.iload_n 2, 1) := by decide +kernel
theorem dX0_note_35 : decode cX0_note 35 = .ok (.iadd, 1) := by decide +kernel
theorem dX0_note_36 : decode cX0_note 36 = .ok (.ishl, 1) := by decide +kernel
theorem dX0_note_37 : decode cX0_note 37 = .ok (.ior, 1) := by decide +kernel
theorem dX0_note_38 : decode cX0_note 38 = .ok (.putfield 7, 3) := by decide +kernel
theorem dX0_note_41 : decode cX0_note 41 = .ok (.iconst 1, 1) := by decide +kernel
theorem dX0_note_42 : decode cX0_note 42 = .ok (.ireturn, 1) := by decide +kernel
abbrev cX0_isNote : ByteArray := prog_1_method_13_code
def yX0_isNote : MethodName := ⟨RX0, "isNote", "(I)Z"⟩
theorem dX0_isNote_0 : decode cX0_isNote 0 = .ok (.iload_n 0, 1) := by decide +kernel
theorem dX0_isNote_1 : decode cX0_isNote 1 = .ok (.ifCond .lt 13, 3) := by decide +kernel
theorem dX0_isNote_4 : decode cX0_isNote 4 = .ok (.iload_n 0, 1) := by decide +kernel
theorem dX0_isNote_5 : decode cX0_isNote 5 = .ok (.bipush 8, 2) := by decide +kernel
theorem dX0_isNote_7 : decode cX0_isNote 7 = .ok (.if_icmp .ge 7, 3) := by decide +kernel
theorem dX0_isNote_10 : decode cX0_isNote 10 = .ok (.iconst 1, 1) := by decide +kernel
theorem dX0_isNote_11 : decode cX0_isNote 11 = .ok (.goto 4, 3) := by decide +kernel
theorem dX0_isNote_14 : decode cX0_isNote 14 = .ok (.iconst 0, 1) := by decide +kernel
theorem dX0_isNote_15 : decode cX0_isNote 15 = .ok (.ireturn, 1) := by decide +kernel
abbrev cX0_erase : ByteArray := prog_1_method_15_code
def yX0_erase : MethodName := ⟨RX0, "erase", "(I)Z"⟩
theorem dX0_erase_0 : decode cX0_erase 0 = .ok (.iload_n 1, 1) := by decide +kernel
theorem dX0_erase_1 : decode cX0_erase 1 = .ok (.invokestatic 46, 3) := by decide +kernel
theorem dX0_erase_4 : decode cX0_erase 4 = .ok (.ifCond .eq 14, 3) := by decide +kernel
theorem dX0_erase_7 : decode cX0_erase 7 = .ok (.aload_n 0, 1) := by decide +kernel
theorem dX0_erase_8 : decode cX0_erase 8 = .ok (.bipush 8, 2) := by decide +kernel
theorem dX0_erase_10 : decode cX0_erase 10 = .ok (.iload_n 1, 1) := by decide +kernel
theorem dX0_erase_11 : decode cX0_erase 11 = .ok (.iadd, 1) := by decide +kernel
theorem dX0_erase_12 : decode cX0_erase 12 = .ok (.invokevirtual 21, 3) := by decide +kernel
theorem dX0_erase_15 : decode cX0_erase 15 = .ok (.ifCond .ne 5, 3) := by decide +kernel
theorem dX0_erase_18 : decode cX0_erase 18 = .ok (.iconst 0, 1) := by decide +kernel
theorem dX0_erase_19 : decode cX0_erase 19 = .ok (.ireturn, 1) := by decide +kernel
theorem dX0_erase_20 : decode cX0_erase 20 = .ok (.aload_n 0, 1) := by decide +kernel
theorem dX0_erase_21 : decode cX0_erase 21 = .ok (.dup, 1) := by decide +kernel
theorem dX0_erase_22 : decode cX0_erase 22 = .ok (.getfield 7, 3) := by decide +kernel
theorem dX0_erase_25 : decode cX0_erase 25 = .ok (.iconst 1, 1) := by decide +kernel
theorem dX0_erase_26 : decode cX0_erase 26 = .ok (.bipush 8, 2) := by decide +kernel
theorem dX0_erase_28 : decode cX0_erase 28 = .ok (.iload_n 1, 1) := by decide +kernel
theorem dX0_erase_29 : decode cX0_erase 29 = .ok (.iadd, 1) := by decide +kernel
theorem dX0_erase_30 : decode cX0_erase 30 = .ok (.ishl, 1) := by decide +kernel
theorem dX0_erase_31 : decode cX0_erase 31 = .ok (.iconst (-1), 1) := by decide +kernel
theorem dX0_erase_32 : decode cX0_erase 32 = .ok (.ixor, 1) := by decide +kernel
theorem dX0_erase_33 : decode cX0_erase 33 = .ok (.iand, 1) := by decide +kernel
theorem dX0_erase_34 : decode cX0_erase 34 = .ok (.putfield 7, 3) := by decide +kernel
theorem dX0_erase_37 : decode cX0_erase 37 = .ok (.iconst 1, 1) := by decide +kernel
theorem dX0_erase_38 : decode cX0_erase 38 = .ok (.ireturn, 1) := by decide +kernel
abbrev cX0_parties : ByteArray := prog_1_method_16_code
def yX0_parties : MethodName := ⟨RX0, "parties", "()I"⟩
theorem dX0_parties_0 : decode cX0_parties 0 = .ok (.aload_n 0, 1) := by decide +kernel
theorem dX0_parties_1 : decode cX0_parties 1 = .ok (.getfield 7, 3) := by decide +kernel
theorem dX0_parties_4 : decode cX0_parties 4 = .ok (.sipush 255, 3) := by decide +kernel
theorem dX0_parties_7 : decode cX0_parties 7 = .ok (.iand, 1) := by decide +kernel
theorem dX0_parties_8 : decode cX0_parties 8 = .ok (.ireturn, 1) := by decide +kernel
abbrev cX0_notes : ByteArray := prog_1_method_17_code
def yX0_notes : MethodName := ⟨RX0, "notes", "()I"⟩
theorem dX0_notes_0 : decode cX0_notes 0 = .ok (.aload_n 0, 1) := by decide +kernel
theorem dX0_notes_1 : decode cX0_notes 1 = .ok (.getfield 7, 3) := by decide +kernel
theorem dX0_notes_4 : decode cX0_notes 4 = .ok (.bipush 8, 2) := by decide +kernel
theorem dX0_notes_6 : decode cX0_notes 6 = .ok (.ishr, 1) := by decide +kernel
theorem dX0_notes_7 : decode cX0_notes 7 = .ok (.ireturn, 1) := by decide +kernel
abbrev cX0_events : ByteArray := prog_1_method_18_code
def yX0_events : MethodName := ⟨RX0, "events", "()I"⟩
theorem dX0_events_0 : decode cX0_events 0 = .ok (.aload_n 0, 1) := by decide +kernel
theorem dX0_events_1 : decode cX0_events 1 = .ok (.getfield 43, 3) := by decide +kernel
theorem dX0_events_4 : decode cX0_events 4 = .ok (.ireturn, 1) := by decide +kernel
abbrev cX0_cells : ByteArray := prog_1_method_19_code
def yX0_cells : MethodName := ⟨RX0, "cells", "(I)I"⟩
theorem dX0_cells_0 : decode cX0_cells 0 = .ok (.aload_n 0, 1) := by decide +kernel
theorem dX0_cells_1 : decode cX0_cells 1 = .ok (.iload_n 1, 1) := by decide +kernel
theorem dX0_cells_2 : decode cX0_cells 2 = .ok (.invokevirtual 25, 3) := by decide +kernel
theorem dX0_cells_5 : decode cX0_cells 5 = .ok (.ifCond .eq 15, 3) := by decide +kernel
theorem dX0_cells_8 : decode cX0_cells 8 = .ok (.aload_n 0, 1) := by decide +kernel
theorem dX0_cells_9 : decode cX0_cells 9 = .ok (.getfield 13, 3) := by decide +kernel
theorem dX0_cells_12 : decode cX0_cells 12 = .ok (.iload_n 1, 1) := by decide +kernel
theorem dX0_cells_13 : decode cX0_cells 13 = .ok (.iaload, 1) := by decide +kernel
theorem dX0_cells_14 : decode cX0_cells 14 = .ok (.invokestatic 28, 3) := by decide +kernel
theorem dX0_cells_17 : decode cX0_cells 17 = .ok (.goto 4, 3) := by decide +kernel
theorem dX0_cells_20 : decode cX0_cells 20 = .ok (.iconst (-1), 1) := by decide +kernel
theorem dX0_cells_21 : decode cX0_cells 21 = .ok (.ireturn, 1) := by decide +kernel
abbrev cX0_compare : ByteArray := prog_1_method_20_code
def yX0_compare : MethodName := ⟨RX0, "compare", "(II)I"⟩
theorem dX0_compare_0 : decode cX0_compare 0 = .ok (.aload_n 0, 1) := by decide +kernel
theorem dX0_compare_1 : decode cX0_compare 1 = .ok (.iload_n 1, 1) := by decide +kernel
theorem dX0_compare_2 : decode cX0_compare 2 = .ok (.invokevirtual 21, 3) := by decide +kernel
theorem dX0_compare_5 : decode cX0_compare 5 = .ok (.ifCond .eq 11, 3) := by decide +kernel
theorem dX0_compare_8 : decode cX0_compare 8 = .ok (.aload_n 0, 1) := by decide +kernel
theorem dX0_compare_9 : decode cX0_compare 9 = .ok (.iload_n 2, 1) := by decide +kernel
theorem dX0_compare_10 : decode cX0_compare 10 = .ok (.invokevirtual 21, 3) := by decide +kernel
theorem dX0_compare_13 : decode cX0_compare 13 = .ok (.ifCond .ne 5, 3) := by decide +kernel
theorem dX0_compare_16 : decode cX0_compare 16 = .ok (.iconst (-1), 1) := by decide +kernel
theorem dX0_compare_17 : decode cX0_compare 17 = .ok (.ireturn, 1) := by decide +kernel
theorem dX0_compare_18 : decode cX0_compare 18 = .ok (.aload_n 0, 1) := by decide +kernel
theorem dX0_compare_19 : decode cX0_compare 19 = .ok (.iload_n 1, 1) := by decide +kernel
theorem dX0_compare_20 : decode cX0_compare 20 = .ok (.iload_n 2, 1) := by decide +kernel
theorem dX0_compare_21 : decode cX0_compare 21 = .ok (.invokevirtual 49, 3) := by decide +kernel
theorem dX0_compare_24 : decode cX0_compare 24 = .ok (.istore_n 3, 1) := by decide +kernel
theorem dX0_compare_25 : decode cX0_compare 25 = .ok (.aload_n 0, 1) := by decide +kernel
theorem dX0_compare_26 : decode cX0_compare 26 = .ok (.iload_n 2, 1) := by decide +kernel
theorem dX0_compare_27 : decode cX0_compare 27 = .ok (.iload_n 1, 1) := by decide +kernel
theorem dX0_compare_28 : decode cX0_compare 28 = .ok (.invokevirtual 49, 3) := by decide +kernel
theorem dX0_compare_31 : decode cX0_compare 31 = .ok (.istore 4, 2) := by decide +kernel
theorem dX0_compare_33 : decode cX0_compare 33 = .ok (.iload_n 3, 1) := by decide +kernel
theorem dX0_compare_34 : decode cX0_compare 34 = .ok (.ifCond .eq 14, 3) := by decide +kernel
theorem dX0_compare_37 : decode cX0_compare 37 = .ok (.iload 4, 2) := by decide +kernel
theorem dX0_compare_39 : decode cX0_compare 39 = .ok (.ifCond .eq 7, 3) := by decide +kernel
theorem dX0_compare_42 : decode cX0_compare 42 = .ok (.iconst 0, 1) := by decide +kernel
theorem dX0_compare_43 : decode cX0_compare 43 = .ok (.goto 4, 3) := by decide +kernel
theorem dX0_compare_46 : decode cX0_compare 46 = .ok (.iconst 1, 1) := by decide +kernel
theorem dX0_compare_47 : decode cX0_compare 47 = .ok (.ireturn, 1) := by decide +kernel
theorem dX0_compare_48 : decode cX0_compare 48 = .ok (.iload 4, 2) := by decide +kernel
theorem dX0_compare_50 : decode cX0_compare 50 = .ok (.ifCond .eq 7, 3) := by decide +kernel
theorem dX0_compare_53 : decode cX0_compare 53 = .ok (.iconst 2, 1) := by decide +kernel
theorem dX0_compare_54 : decode cX0_compare 54 = .ok (.goto 4, 3) := by decide +kernel
theorem dX0_compare_57 : decode cX0_compare 57 = .ok (.iconst 3, 1) := by decide +kernel
theorem dX0_compare_58 : decode cX0_compare 58 = .ok (.ireturn, 1) := by decide +kernel
abbrev cX0_under : ByteArray := prog_1_method_8_code
def yX0_under : MethodName := ⟨RX0, "under", "(II)Z"⟩
theorem dX0_under_0 : decode cX0_under 0 = .ok (.iconst 0, 1) := by decide +kernel
theorem dX0_under_1 : decode cX0_under 1 = .ok (.istore_n 3, 1) := by decide +kernel
theorem dX0_under_2 : decode cX0_under 2 = .ok (.iload_n 3, 1) := by decide +kernel
theorem dX0_under_3 : decode cX0_under 3 = .ok (.bipush 32, 2) := by decide +kernel
theorem dX0_under_5 : decode cX0_under 5 = .ok (.if_icmp .ge 36, 3) := by decide +kernel
theorem dX0_under_8 : decode cX0_under 8 = .ok (.aload_n 0, 1) := by decide +kernel
theorem dX0_under_9 : decode cX0_under 9 = .ok (.getfield 17, 3) := by decide +kernel
theorem dX0_under_12 : decode cX0_under 12 = .ok (.iload_n 1, 1) := by decide +kernel
theorem dX0_under_13 : decode cX0_under 13 = .ok (.bipush 32, 2) := by decide +kernel
theorem dX0_under_15 : decode cX0_under 15 = .ok (.imul, 1) := by decide +kernel
theorem dX0_under_16 : decode cX0_under 16 = .ok (.iload_n 3, 1) := by decide +kernel
theorem dX0_under_17 : decode cX0_under 17 = .ok (.iadd, 1) := by decide +kernel
theorem dX0_under_18 : decode cX0_under 18 = .ok (.baload, 1) := by decide +kernel
theorem dX0_under_19 : decode cX0_under 19 = .ok (.aload_n 0, 1) := by decide +kernel
theorem dX0_under_20 : decode cX0_under 20 = .ok (.getfield 17, 3) := by decide +kernel
theorem dX0_under_23 : decode cX0_under 23 = .ok (.iload_n 2, 1) := by decide +kernel
theorem dX0_under_24 : decode cX0_under 24 = .ok (.bipush 32, 2) := by decide +kernel
theorem dX0_under_26 : decode cX0_under 26 = .ok (.imul, 1) := by decide +kernel
theorem dX0_under_27 : decode cX0_under 27 = .ok (.iload_n 3, 1) := by decide +kernel
theorem dX0_under_28 : decode cX0_under 28 = .ok (.iadd, 1) := by decide +kernel
theorem dX0_under_29 : decode cX0_under 29 = .ok (.baload, 1) := by decide +kernel
theorem dX0_under_30 : decode cX0_under 30 = .ok (.if_icmp .le 5, 3) := by decide +kernel
theorem dX0_under_33 : decode cX0_under 33 = .ok (.iconst 0, 1) := by decide +kernel
theorem dX0_under_34 : decode cX0_under 34 = .ok (.ireturn, 1) := by decide +kernel
theorem dX0_under_35 : decode cX0_under 35 = .ok (.iinc 3 1, 3) := by decide +kernel
theorem dX0_under_38 : decode cX0_under 38 = .ok (.goto (-36), 3) := by decide +kernel
theorem dX0_under_41 : decode cX0_under 41 = .ok (.iconst 1, 1) := by decide +kernel
theorem dX0_under_42 : decode cX0_under 42 = .ok (.ireturn, 1) := by decide +kernel
abbrev cX0_behind : ByteArray := prog_1_method_21_code
def yX0_behind : MethodName := ⟨RX0, "behind", "(I)I"⟩
theorem dX0_behind_0 : decode cX0_behind 0 = .ok (.iconst 0, 1) := by decide +kernel
theorem dX0_behind_1 : decode cX0_behind 1 = .ok (.istore_n 2, 1) := by decide +kernel
theorem dX0_behind_2 : decode cX0_behind 2 = .ok (.iconst 0, 1) := by decide +kernel
theorem dX0_behind_3 : decode cX0_behind 3 = .ok (.istore_n 3, 1) := by decide +kernel
theorem dX0_behind_4 : decode cX0_behind 4 = .ok (.iload_n 3, 1) := by decide +kernel
theorem dX0_behind_5 : decode cX0_behind 5 = .ok (.bipush 16, 2) := by decide +kernel
theorem dX0_behind_7 : decode cX0_behind 7 = .ok (.if_icmp .ge 44, 3) := by decide +kernel
theorem dX0_behind_10 : decode cX0_behind 10 = .ok (.aload_n 0, 1) := by decide +kernel
theorem dX0_behind_11 : decode cX0_behind 11 = .ok (.iload_n 1, 1) := by decide +kernel
theorem dX0_behind_12 : decode cX0_behind 12 = .ok (.invokevirtual 21, 3) := by decide +kernel
theorem dX0_behind_15 : decode cX0_behind 15 = .ok (.ifCond .eq 36, 3) := by decide +kernel
theorem dX0_behind_18 : decode cX0_behind 18 = .ok (.iload_n 2, 1) := by decide +kernel
theorem dX0_behind_19 : decode cX0_behind 19 = .ok (.aload_n 0, 1) := by decide +kernel
theorem dX0_behind_20 : decode cX0_behind 20 = .ok (.iload_n 3, 1) := by decide +kernel
theorem dX0_behind_21 : decode cX0_behind 21 = .ok (.invokevirtual 21, 3) := by decide +kernel
theorem dX0_behind_24 : decode cX0_behind 24 = .ok (.ifCond .eq 18, 3) := by decide +kernel
theorem dX0_behind_27 : decode cX0_behind 27 = .ok (.aload_n 0, 1) := by decide +kernel
theorem dX0_behind_28 : decode cX0_behind 28 = .ok (.iload_n 3, 1) := by decide +kernel
theorem dX0_behind_29 : decode cX0_behind 29 = .ok (.iload_n 1, 1) := by decide +kernel
theorem dX0_behind_30 : decode cX0_behind 30 = .ok (.invokevirtual 49, 3) := by decide +kernel
theorem dX0_behind_33 : decode cX0_behind 33 = .ok (.ifCond .eq 9, 3) := by decide +kernel
theorem dX0_behind_36 : decode cX0_behind 36 = .ok (.iconst 1, 1) := by decide +kernel
theorem dX0_behind_37 : decode cX0_behind 37 = .ok (.iload_n 3, 1) := by decide +kernel
theorem dX0_behind_38 : decode cX0_behind 38 = .ok (.ishl, 1) := by decide +kernel
theorem dX0_behind_39 : decode cX0_behind 39 = .ok (.goto 4, 3) := by decide +kernel
theorem dX0_behind_42 : decode cX0_behind 42 = .ok (.iconst 0, 1) := by decide +kernel
theorem dX0_behind_43 : decode cX0_behind 43 = .ok (.ior, 1) := by decide +kernel
theorem dX0_behind_44 : decode cX0_behind 44 = .ok (.istore_n 2, 1) := by decide +kernel
theorem dX0_behind_45 : decode cX0_behind 45 = .ok (.iinc 3 1, 3) := by decide +kernel
theorem dX0_behind_48 : decode cX0_behind 48 = .ok (.goto (-44), 3) := by decide +kernel
theorem dX0_behind_51 : decode cX0_behind 51 = .ok (.iload_n 2, 1) := by decide +kernel
theorem dX0_behind_52 : decode cX0_behind 52 = .ok (.ireturn, 1) := by decide +kernel
abbrev cX0_newest : ByteArray := prog_1_method_22_code
def yX0_newest : MethodName := ⟨RX0, "newest", "()I"⟩
theorem dX0_newest_0 : decode cX0_newest 0 = .ok (.aload_n 0, 1) := by decide +kernel
theorem dX0_newest_1 : decode cX0_newest 1 = .ok (.getfield 7, 3) := by decide +kernel
theorem dX0_newest_4 : decode cX0_newest 4 = .ok (.istore_n 1, 1) := by decide +kernel
theorem dX0_newest_5 : decode cX0_newest 5 = .ok (.iconst 0, 1) := by decide +kernel
theorem dX0_newest_6 : decode cX0_newest 6 = .ok (.istore_n 2, 1) := by decide +kernel
theorem dX0_newest_7 : decode cX0_newest 7 = .ok (.iload_n 2, 1) := by decide +kernel
theorem dX0_newest_8 : decode cX0_newest 8 = .ok (.bipush 16, 2) := by decide +kernel
theorem dX0_newest_10 : decode cX0_newest 10 = .ok (.if_icmp .ge 41, 3) := by decide +kernel
theorem dX0_newest_13 : decode cX0_newest 13 = .ok (.iconst 0, 1) := by decide +kernel
theorem dX0_newest_14 : decode cX0_newest 14 = .ok (.istore_n 3, 1) := by decide +kernel
theorem dX0_newest_15 : decode cX0_newest 15 = .ok (.iload_n 3, 1) := by decide +kernel
theorem dX0_newest_16 : decode cX0_newest 16 = .ok (.bipush 16, 2) := by decide +kernel
theorem dX0_newest_18 : decode cX0_newest 18 = .ok (.if_icmp .ge 27, 3) := by decide +kernel
theorem dX0_newest_21 : decode cX0_newest 21 = .ok (.aload_n 0, 1) := by decide +kernel
theorem dX0_newest_22 : decode cX0_newest 22 = .ok (.iload_n 2, 1) := by decide +kernel
theorem dX0_newest_23 : decode cX0_newest 23 = .ok (.iload_n 3, 1) := by decide +kernel
theorem dX0_newest_24 : decode cX0_newest 24 = .ok (.invokevirtual 52, 3) := by decide +kernel
theorem dX0_newest_27 : decode cX0_newest 27 = .ok (.iconst 1, 1) := by decide +kernel
theorem dX0_newest_28 : decode cX0_newest 28 = .ok (.if_icmp .ne 11, 3) := by decide +kernel
theorem dX0_newest_31 : decode cX0_newest 31 = .ok (.iload_n 1, 1) := by decide +kernel
theorem dX0_newest_32 : decode cX0_newest 32 = .ok (.iconst 1, 1) := by decide +kernel
theorem dX0_newest_33 : decode cX0_newest 33 = .ok (.iload_n 2, 1) := by decide +kernel
theorem dX0_newest_34 : decode cX0_newest 34 = .ok (.ishl, 1) := by decide +kernel
theorem dX0_newest_35 : decode cX0_newest 35 = .ok (.iconst (-1), 1) := by decide +kernel
theorem dX0_newest_36 : decode cX0_newest 36 = .ok (.ixor, 1) := by decide +kernel
theorem dX0_newest_37 : decode cX0_newest 37 = .ok (.iand, 1) := by decide +kernel
theorem dX0_newest_38 : decode cX0_newest 38 = .ok (.istore_n 1, 1) := by decide +kernel
theorem dX0_newest_39 : decode cX0_newest 39 = .ok (.iinc 3 1, 3) := by decide +kernel
theorem dX0_newest_42 : decode cX0_newest 42 = .ok (.goto (-27), 3) := by decide +kernel
theorem dX0_newest_45 : decode cX0_newest 45 = .ok (.iinc 2 1, 3) := by decide +kernel
theorem dX0_newest_48 : decode cX0_newest 48 = .ok (.goto (-41), 3) := by decide +kernel
theorem dX0_newest_51 : decode cX0_newest 51 = .ok (.iload_n 1, 1) := by decide +kernel
theorem dX0_newest_52 : decode cX0_newest 52 = .ok (.ireturn, 1) := by decide +kernel
abbrev cX0_everywhere : ByteArray := prog_1_method_23_code
def yX0_everywhere : MethodName := ⟨RX0, "everywhere", "(I)Z"⟩
theorem dX0_everywhere_0 : decode cX0_everywhere 0 = .ok (.iload_n 1, 1) := by decide +kernel
theorem dX0_everywhere_1 : decode cX0_everywhere 1 = .ok (.invokestatic 46, 3) := by decide +kernel
theorem dX0_everywhere_4 : decode cX0_everywhere 4 = .ok (.ifCond .eq 14, 3) := by decide +kernel
theorem dX0_everywhere_7 : decode cX0_everywhere 7 = .ok (.aload_n 0, 1) := by decide +kernel
theorem dX0_everywhere_8 : decode cX0_everywhere 8 = .ok (.bipush 8, 2) := by decide +kernel
theorem dX0_everywhere_10 : decode cX0_everywhere 10 = .ok (.iload_n 1, 1) := by decide +kernel
theorem dX0_everywhere_11 : decode cX0_everywhere 11 = .ok (.iadd, 1) := by decide +kernel
theorem dX0_everywhere_12 : decode cX0_everywhere 12 = .ok (.invokevirtual 21, 3) := by decide +kernel
theorem dX0_everywhere_15 : decode cX0_everywhere 15 = .ok (.ifCond .ne 5, 3) := by decide +kernel
theorem dX0_everywhere_18 : decode cX0_everywhere 18 = .ok (.iconst 0, 1) := by decide +kernel
theorem dX0_everywhere_19 : decode cX0_everywhere 19 = .ok (.ireturn, 1) := by decide +kernel
theorem dX0_everywhere_20 : decode cX0_everywhere 20 = .ok (.iconst 0, 1) := by decide +kernel
theorem dX0_everywhere_21 : decode cX0_everywhere 21 = .ok (.istore_n 2, 1) := by decide +kernel
theorem dX0_everywhere_22 : decode cX0_everywhere 22 = .ok (.iload_n 2, 1) := by decide +kernel
theorem dX0_everywhere_23 : decode cX0_everywhere 23 = .ok (.bipush 8, 2) := by decide +kernel
theorem dX0_everywhere_25 : decode cX0_everywhere 25 = .ok (.if_icmp .ge 31, 3) := by decide +kernel
theorem dX0_everywhere_28 : decode cX0_everywhere 28 = .ok (.aload_n 0, 1) := by decide +kernel
theorem dX0_everywhere_29 : decode cX0_everywhere 29 = .ok (.iload_n 2, 1) := by decide +kernel
theorem dX0_everywhere_30 : decode cX0_everywhere 30 = .ok (.invokevirtual 21, 3) := by decide +kernel
theorem dX0_everywhere_33 : decode cX0_everywhere 33 = .ok (.ifCond .eq 17, 3) := by decide +kernel
theorem dX0_everywhere_36 : decode cX0_everywhere 36 = .ok (.aload_n 0, 1) := by decide +kernel
theorem dX0_everywhere_37 : decode cX0_everywhere 37 = .ok (.bipush 8, 2) := by decide +kernel
theorem dX0_everywhere_39 : decode cX0_everywhere 39 = .ok (.iload_n 1, 1) := by decide +kernel
theorem dX0_everywhere_40 : decode cX0_everywhere 40 = .ok (.iadd, 1) := by decide +kernel
theorem dX0_everywhere_41 : decode cX0_everywhere 41 = .ok (.iload_n 2, 1) := by decide +kernel
theorem dX0_everywhere_42 : decode cX0_everywhere 42 = .ok (.invokevirtual 49, 3) := by decide +kernel
theorem dX0_everywhere_45 : decode cX0_everywhere 45 = .ok (.ifCond .ne 5, 3) := by decide +kernel
theorem dX0_everywhere_48 : decode cX0_everywhere 48 = .ok (.iconst 0, 1) := by decide +kernel
theorem dX0_everywhere_49 : decode cX0_everywhere 49 = .ok (.ireturn, 1) := by decide +kernel
theorem dX0_everywhere_50 : decode cX0_everywhere 50 = .ok (.iinc 2 1, 3) := by decide +kernel
theorem dX0_everywhere_53 : decode cX0_everywhere 53 = .ok (.goto (-31), 3) := by decide +kernel
theorem dX0_everywhere_56 : decode cX0_everywhere 56 = .ok (.iconst 1, 1) := by decide +kernel
theorem dX0_everywhere_57 : decode cX0_everywhere 57 = .ok (.ireturn, 1) := by decide +kernel
abbrev cX0_apartPairs : ByteArray := prog_1_method_24_code
def yX0_apartPairs : MethodName := ⟨RX0, "apartPairs", "()I"⟩
theorem dX0_apartPairs_0 : decode cX0_apartPairs 0 = .ok (.iconst 0, 1) := by decide +kernel
theorem dX0_apartPairs_1 : decode cX0_apartPairs 1 = .ok (.istore_n 1, 1) := by decide +kernel
theorem dX0_apartPairs_2 : decode cX0_apartPairs 2 = .ok (.iconst 0, 1) := by decide +kernel
theorem dX0_apartPairs_3 : decode cX0_apartPairs 3 = .ok (.istore_n 2, 1) := by decide +kernel
theorem dX0_apartPairs_4 : decode cX0_apartPairs 4 = .ok (.iload_n 2, 1) := by decide +kernel
theorem dX0_apartPairs_5 : decode cX0_apartPairs 5 = .ok (.bipush 16, 2) := by decide +kernel
theorem dX0_apartPairs_7 : decode cX0_apartPairs 7 = .ok (.if_icmp .ge 43, 3) := by decide +kernel
theorem dX0_apartPairs_10 : decode cX0_apartPairs 10 = .ok (.iload_n 2, 1) := by decide +kernel
theorem dX0_apartPairs_11 : decode cX0_apartPairs 11 = .ok (.iconst 1, 1) := by decide +kernel
theorem dX0_apartPairs_12 : decode cX0_apartPairs 12 = .ok (.iadd, 1) := by decide +kernel
theorem dX0_apartPairs_13 : decode cX0_apartPairs 13 = .ok (.istore_n 3, 1) := by decide +kernel
theorem dX0_apartPairs_14 : decode cX0_apartPairs 14 = .ok (.iload_n 3, 1) := by decide +kernel
theorem dX0_apartPairs_15 : decode cX0_apartPairs 15 = .ok (.bipush 16, 2) := by decide +kernel
theorem dX0_apartPairs_17 : decode cX0_apartPairs 17 = .ok (.if_icmp .ge 27, 3) := by decide +kernel
theorem dX0_apartPairs_20 : decode cX0_apartPairs 20 = .ok (.iload_n 1, 1) := by decide +kernel
theorem dX0_apartPairs_21 : decode cX0_apartPairs 21 = .ok (.aload_n 0, 1) := by decide +kernel
theorem dX0_apartPairs_22 : decode cX0_apartPairs 22 = .ok (.iload_n 2, 1) := by decide +kernel
theorem dX0_apartPairs_23 : decode cX0_apartPairs 23 = .ok (.iload_n 3, 1) := by decide +kernel
theorem dX0_apartPairs_24 : decode cX0_apartPairs 24 = .ok (.invokevirtual 52, 3) := by decide +kernel
theorem dX0_apartPairs_27 : decode cX0_apartPairs 27 = .ok (.iconst 3, 1) := by decide +kernel
theorem dX0_apartPairs_28 : decode cX0_apartPairs 28 = .ok (.if_icmp .ne 7, 3) := by decide +kernel
theorem dX0_apartPairs_31 : decode cX0_apartPairs 31 = .ok (.iconst 1, 1) := by decide +kernel
theorem dX0_apartPairs_32 : decode cX0_apartPairs 32 = .ok (.goto 4, 3) := by decide +kernel
theorem dX0_apartPairs_35 : decode cX0_apartPairs 35 = .ok (.iconst 0, 1) := by decide +kernel
theorem dX0_apartPairs_36 : decode cX0_apartPairs 36 = .ok (.iadd, 1) := by decide +kernel
theorem dX0_apartPairs_37 : decode cX0_apartPairs 37 = .ok (.istore_n 1, 1) := by decide +kernel
theorem dX0_apartPairs_38 : decode cX0_apartPairs 38 = .ok (.iinc 3 1, 3) := by decide +kernel
theorem dX0_apartPairs_41 : decode cX0_apartPairs 41 = .ok (.goto (-27), 3) := by decide +kernel
theorem dX0_apartPairs_44 : decode cX0_apartPairs 44 = .ok (.iinc 2 1, 3) := by decide +kernel
theorem dX0_apartPairs_47 : decode cX0_apartPairs 47 = .ok (.goto (-43), 3) := by decide +kernel
theorem dX0_apartPairs_50 : decode cX0_apartPairs 50 = .ok (.iload_n 1, 1) := by decide +kernel
theorem dX0_apartPairs_51 : decode cX0_apartPairs 51 = .ok (.ireturn, 1) := by decide +kernel
theorem q12 : (Jvm.Cond.initialized "IntervalClocks") ∈ lw_all := lw_g (lw_at lw_m0 1 rfl) rfl
theorem q15 : (Jvm.Cond.instantiable "IntervalClocks" (4 : Nat)) ∈ lw_all := lw_g (lw_at lw_m0 4 rfl) rfl
theorem q17 : (Jvm.Cond.instanceMethod ({ cls := "IntervalClocks", name := "<init>", desc := "()V" } : Jvm.MethodName)) ∈ lw_all := lw_g (lw_at lw_m0 6 rfl) rfl
theorem q18 : (Jvm.Cond.code ({ cls := "IntervalClocks", name := "<init>", desc := "()V" } : Jvm.MethodName) prog_1_method_1_code (1 : Nat) (Option.none : Option Jvm.ClassFile.FieldType)) ∈ lw_all := lw_g (lw_at lw_m0 7 rfl) rfl
theorem q19 : (Jvm.Cond.methodLink "IntervalClocks" (1 : Nat) ({ cls := "java/lang/Object", name := "<init>", desc := "()V" } : Jvm.MethodName)) ∈ lw_all := lw_g (lw_at lw_m0 8 rfl) rfl
theorem q22 : (Jvm.Cond.fieldLink "IntervalClocks" (7 : Nat) "IntervalClocks" "there" "I") ∈ lw_all := lw_g (lw_at lw_m0 11 rfl) rfl
theorem q23 : (Jvm.Cond.fieldLink "IntervalClocks" (13 : Nat) "IntervalClocks" "own" "[I") ∈ lw_all := lw_g (lw_at lw_m0 12 rfl) rfl
theorem q24 : (Jvm.Cond.fieldLink "IntervalClocks" (17 : Nat) "IntervalClocks" "heights" "[B") ∈ lw_all := lw_g (lw_at lw_m0 13 rfl) rfl
theorem q25 : (Jvm.Cond.fieldLink "IntervalClocks" (43 : Nat) "IntervalClocks" "count" "I") ∈ lw_all := lw_g (lw_at lw_m0 14 rfl) rfl
theorem q26 : (Jvm.Cond.lays "IntervalClocks" "IntervalClocks" "there" "I") ∈ lw_all := lw_g (lw_at lw_m0 15 rfl) rfl
theorem q27 : (Jvm.Cond.soleField "IntervalClocks" "there") ∈ lw_all := lw_g (lw_at lw_m0 16 rfl) rfl
theorem q28 : (Jvm.Cond.laysFinal "IntervalClocks" "IntervalClocks" "own" "[I") ∈ lw_all := lw_g (lw_at lw_m0 17 rfl) rfl
theorem q29 : (Jvm.Cond.soleField "IntervalClocks" "own") ∈ lw_all := lw_g (lw_at lw_m0 18 rfl) rfl
theorem q30 : (Jvm.Cond.laysFinal "IntervalClocks" "IntervalClocks" "heights" "[B") ∈ lw_all := lw_g (lw_at lw_m0 19 rfl) rfl
theorem q31 : (Jvm.Cond.soleField "IntervalClocks" "heights") ∈ lw_all := lw_g (lw_at lw_m0 20 rfl) rfl
theorem q32 : (Jvm.Cond.lays "IntervalClocks" "IntervalClocks" "count" "I") ∈ lw_all := lw_g (lw_at lw_m0 21 rfl) rfl
theorem q33 : (Jvm.Cond.soleField "IntervalClocks" "count") ∈ lw_all := lw_g (lw_at lw_m0 22 rfl) rfl
theorem q34 : (Jvm.Cond.superclass "IntervalClocks" "java/lang/Object") ∈ lw_all := lw_g (lw_at lw_m0 23 rfl) rfl
theorem q38 : (Jvm.Cond.instanceMethod ({ cls := "IntervalClocks", name := "split", desc := "(I)I" } : Jvm.MethodName)) ∈ lw_all := lw_g (lw_at lw_m0 27 rfl) rfl
theorem q39 : (Jvm.Cond.selects "IntervalClocks" ({ cls := "IntervalClocks", name := "split", desc := "(I)I" } : Jvm.MethodName) ({ cls := "IntervalClocks", name := "split", desc := "(I)I" } : Jvm.MethodName)) ∈ lw_all := lw_g (lw_at lw_m0 28 rfl) rfl
theorem q40 : (Jvm.Cond.code ({ cls := "IntervalClocks", name := "split", desc := "(I)I" } : Jvm.MethodName) prog_1_method_9_code (8 : Nat) (Option.some Jvm.ClassFile.FieldType.int)) ∈ lw_all := lw_g (lw_at lw_m0 29 rfl) rfl
theorem q41 : (Jvm.Cond.methodLink "IntervalClocks" (25 : Nat) ({ cls := "IntervalClocks", name := "isParty", desc := "(I)Z" } : Jvm.MethodName)) ∈ lw_all := lw_g (lw_at lw_m0 30 rfl) rfl
theorem q42 : (Jvm.Cond.privateMethod ({ cls := "IntervalClocks", name := "isParty", desc := "(I)Z" } : Jvm.MethodName)) ∈ lw_tbl := lw_at lw_m0 31 rfl
theorem q43 : (Jvm.Cond.instanceMethod ({ cls := "IntervalClocks", name := "isParty", desc := "(I)Z" } : Jvm.MethodName)) ∈ lw_all := lw_g (lw_at lw_m0 32 rfl) rfl
theorem q44 : (Jvm.Cond.code ({ cls := "IntervalClocks", name := "isParty", desc := "(I)Z" } : Jvm.MethodName) prog_1_method_3_code (2 : Nat) (Option.some Jvm.ClassFile.FieldType.boolean)) ∈ lw_all := lw_g (lw_at lw_m0 33 rfl) rfl
theorem q45 : (Jvm.Cond.methodLink "IntervalClocks" (21 : Nat) ({ cls := "IntervalClocks", name := "isThere", desc := "(I)Z" } : Jvm.MethodName)) ∈ lw_all := lw_g (lw_at lw_m0 34 rfl) rfl
theorem q46 : (Jvm.Cond.privateMethod ({ cls := "IntervalClocks", name := "isThere", desc := "(I)Z" } : Jvm.MethodName)) ∈ lw_tbl := lw_at lw_m0 35 rfl
theorem q47 : (Jvm.Cond.instanceMethod ({ cls := "IntervalClocks", name := "isThere", desc := "(I)Z" } : Jvm.MethodName)) ∈ lw_all := lw_g (lw_at lw_m0 36 rfl) rfl
theorem q48 : (Jvm.Cond.code ({ cls := "IntervalClocks", name := "isThere", desc := "(I)Z" } : Jvm.MethodName) prog_1_method_2_code (2 : Nat) (Option.some Jvm.ClassFile.FieldType.boolean)) ∈ lw_all := lw_g (lw_at lw_m0 37 rfl) rfl
theorem q49 : (Jvm.Cond.methodLink "IntervalClocks" (28 : Nat) ({ cls := "IntervalClocks", name := "ones", desc := "(I)I" } : Jvm.MethodName)) ∈ lw_all := lw_g (lw_at lw_m0 38 rfl) rfl
theorem q50 : (Jvm.Cond.static ({ cls := "IntervalClocks", name := "ones", desc := "(I)I" } : Jvm.MethodName)) ∈ lw_all := lw_g (lw_at lw_m0 39 rfl) rfl
theorem q51 : (Jvm.Cond.code ({ cls := "IntervalClocks", name := "ones", desc := "(I)I" } : Jvm.MethodName) prog_1_method_4_code (3 : Nat) (Option.some Jvm.ClassFile.FieldType.int)) ∈ lw_all := lw_g (lw_at lw_m0 40 rfl) rfl
theorem q52 : (Jvm.Cond.methodLink "IntervalClocks" (32 : Nat) ({ cls := "IntervalClocks", name := "has", desc := "(II)Z" } : Jvm.MethodName)) ∈ lw_all := lw_g (lw_at lw_m0 41 rfl) rfl
theorem q53 : (Jvm.Cond.privateMethod ({ cls := "IntervalClocks", name := "has", desc := "(II)Z" } : Jvm.MethodName)) ∈ lw_tbl := lw_at lw_m0 42 rfl
theorem q54 : (Jvm.Cond.instanceMethod ({ cls := "IntervalClocks", name := "has", desc := "(II)Z" } : Jvm.MethodName)) ∈ lw_all := lw_g (lw_at lw_m0 43 rfl) rfl
theorem q55 : (Jvm.Cond.code ({ cls := "IntervalClocks", name := "has", desc := "(II)Z" } : Jvm.MethodName) prog_1_method_5_code (3 : Nat) (Option.some Jvm.ClassFile.FieldType.boolean)) ∈ lw_all := lw_g (lw_at lw_m0 44 rfl) rfl
theorem q56 : (Jvm.Cond.methodLink "IntervalClocks" (36 : Nat) ({ cls := "IntervalClocks", name := "copy", desc := "(II)V" } : Jvm.MethodName)) ∈ lw_all := lw_g (lw_at lw_m0 45 rfl) rfl
theorem q57 : (Jvm.Cond.privateMethod ({ cls := "IntervalClocks", name := "copy", desc := "(II)V" } : Jvm.MethodName)) ∈ lw_tbl := lw_at lw_m0 46 rfl
theorem q58 : (Jvm.Cond.instanceMethod ({ cls := "IntervalClocks", name := "copy", desc := "(II)V" } : Jvm.MethodName)) ∈ lw_all := lw_g (lw_at lw_m0 47 rfl) rfl
theorem q59 : (Jvm.Cond.code ({ cls := "IntervalClocks", name := "copy", desc := "(II)V" } : Jvm.MethodName) prog_1_method_6_code (4 : Nat) (Option.none : Option Jvm.ClassFile.FieldType)) ∈ lw_all := lw_g (lw_at lw_m0 48 rfl) rfl
theorem q61 : (Jvm.Cond.instanceMethod ({ cls := "IntervalClocks", name := "join", desc := "(II)I" } : Jvm.MethodName)) ∈ lw_all := lw_g (lw_at lw_m0 50 rfl) rfl
theorem q62 : (Jvm.Cond.selects "IntervalClocks" ({ cls := "IntervalClocks", name := "join", desc := "(II)I" } : Jvm.MethodName) ({ cls := "IntervalClocks", name := "join", desc := "(II)I" } : Jvm.MethodName)) ∈ lw_all := lw_g (lw_at lw_m0 51 rfl) rfl
theorem q63 : (Jvm.Cond.code ({ cls := "IntervalClocks", name := "join", desc := "(II)I" } : Jvm.MethodName) prog_1_method_10_code (3 : Nat) (Option.some Jvm.ClassFile.FieldType.int)) ∈ lw_all := lw_g (lw_at lw_m0 52 rfl) rfl
theorem q64 : (Jvm.Cond.methodLink "IntervalClocks" (40 : Nat) ({ cls := "IntervalClocks", name := "raise", desc := "(II)Z" } : Jvm.MethodName)) ∈ lw_all := lw_g (lw_at lw_m0 53 rfl) rfl
theorem q65 : (Jvm.Cond.privateMethod ({ cls := "IntervalClocks", name := "raise", desc := "(II)Z" } : Jvm.MethodName)) ∈ lw_tbl := lw_at lw_m0 54 rfl
theorem q66 : (Jvm.Cond.instanceMethod ({ cls := "IntervalClocks", name := "raise", desc := "(II)Z" } : Jvm.MethodName)) ∈ lw_all := lw_g (lw_at lw_m0 55 rfl) rfl
theorem q67 : (Jvm.Cond.code ({ cls := "IntervalClocks", name := "raise", desc := "(II)Z" } : Jvm.MethodName) prog_1_method_7_code (5 : Nat) (Option.some Jvm.ClassFile.FieldType.boolean)) ∈ lw_all := lw_g (lw_at lw_m0 56 rfl) rfl
theorem q69 : (Jvm.Cond.instanceMethod ({ cls := "IntervalClocks", name := "event", desc := "(I)I" } : Jvm.MethodName)) ∈ lw_all := lw_g (lw_at lw_m0 58 rfl) rfl
theorem q70 : (Jvm.Cond.selects "IntervalClocks" ({ cls := "IntervalClocks", name := "event", desc := "(I)I" } : Jvm.MethodName) ({ cls := "IntervalClocks", name := "event", desc := "(I)I" } : Jvm.MethodName)) ∈ lw_all := lw_g (lw_at lw_m0 59 rfl) rfl
theorem q71 : (Jvm.Cond.code ({ cls := "IntervalClocks", name := "event", desc := "(I)I" } : Jvm.MethodName) prog_1_method_11_code (5 : Nat) (Option.some Jvm.ClassFile.FieldType.int)) ∈ lw_all := lw_g (lw_at lw_m0 60 rfl) rfl
theorem q73 : (Jvm.Cond.instanceMethod ({ cls := "IntervalClocks", name := "tell", desc := "(II)I" } : Jvm.MethodName)) ∈ lw_all := lw_g (lw_at lw_m0 62 rfl) rfl
theorem q74 : (Jvm.Cond.selects "IntervalClocks" ({ cls := "IntervalClocks", name := "tell", desc := "(II)I" } : Jvm.MethodName) ({ cls := "IntervalClocks", name := "tell", desc := "(II)I" } : Jvm.MethodName)) ∈ lw_all := lw_g (lw_at lw_m0 63 rfl) rfl
theorem q75 : (Jvm.Cond.code ({ cls := "IntervalClocks", name := "tell", desc := "(II)I" } : Jvm.MethodName) prog_1_method_12_code (3 : Nat) (Option.some Jvm.ClassFile.FieldType.int)) ∈ lw_all := lw_g (lw_at lw_m0 64 rfl) rfl
theorem q77 : (Jvm.Cond.instanceMethod ({ cls := "IntervalClocks", name := "note", desc := "(II)Z" } : Jvm.MethodName)) ∈ lw_all := lw_g (lw_at lw_m0 66 rfl) rfl
theorem q78 : (Jvm.Cond.selects "IntervalClocks" ({ cls := "IntervalClocks", name := "note", desc := "(II)Z" } : Jvm.MethodName) ({ cls := "IntervalClocks", name := "note", desc := "(II)Z" } : Jvm.MethodName)) ∈ lw_all := lw_g (lw_at lw_m0 67 rfl) rfl
theorem q79 : (Jvm.Cond.code ({ cls := "IntervalClocks", name := "note", desc := "(II)Z" } : Jvm.MethodName) prog_1_method_14_code (3 : Nat) (Option.some Jvm.ClassFile.FieldType.boolean)) ∈ lw_all := lw_g (lw_at lw_m0 68 rfl) rfl
theorem q80 : (Jvm.Cond.methodLink "IntervalClocks" (46 : Nat) ({ cls := "IntervalClocks", name := "isNote", desc := "(I)Z" } : Jvm.MethodName)) ∈ lw_all := lw_g (lw_at lw_m0 69 rfl) rfl
theorem q81 : (Jvm.Cond.static ({ cls := "IntervalClocks", name := "isNote", desc := "(I)Z" } : Jvm.MethodName)) ∈ lw_all := lw_g (lw_at lw_m0 70 rfl) rfl
theorem q82 : (Jvm.Cond.code ({ cls := "IntervalClocks", name := "isNote", desc := "(I)Z" } : Jvm.MethodName) prog_1_method_13_code (1 : Nat) (Option.some Jvm.ClassFile.FieldType.boolean)) ∈ lw_all := lw_g (lw_at lw_m0 71 rfl) rfl
theorem q84 : (Jvm.Cond.instanceMethod ({ cls := "IntervalClocks", name := "erase", desc := "(I)Z" } : Jvm.MethodName)) ∈ lw_all := lw_g (lw_at lw_m0 73 rfl) rfl
theorem q85 : (Jvm.Cond.selects "IntervalClocks" ({ cls := "IntervalClocks", name := "erase", desc := "(I)Z" } : Jvm.MethodName) ({ cls := "IntervalClocks", name := "erase", desc := "(I)Z" } : Jvm.MethodName)) ∈ lw_all := lw_g (lw_at lw_m0 74 rfl) rfl
theorem q86 : (Jvm.Cond.code ({ cls := "IntervalClocks", name := "erase", desc := "(I)Z" } : Jvm.MethodName) prog_1_method_15_code (2 : Nat) (Option.some Jvm.ClassFile.FieldType.boolean)) ∈ lw_all := lw_g (lw_at lw_m0 75 rfl) rfl
theorem q88 : (Jvm.Cond.instanceMethod ({ cls := "IntervalClocks", name := "parties", desc := "()I" } : Jvm.MethodName)) ∈ lw_all := lw_g (lw_at lw_m0 77 rfl) rfl
theorem q89 : (Jvm.Cond.selects "IntervalClocks" ({ cls := "IntervalClocks", name := "parties", desc := "()I" } : Jvm.MethodName) ({ cls := "IntervalClocks", name := "parties", desc := "()I" } : Jvm.MethodName)) ∈ lw_all := lw_g (lw_at lw_m0 78 rfl) rfl
theorem q90 : (Jvm.Cond.code ({ cls := "IntervalClocks", name := "parties", desc := "()I" } : Jvm.MethodName) prog_1_method_16_code (1 : Nat) (Option.some Jvm.ClassFile.FieldType.int)) ∈ lw_all := lw_g (lw_at lw_m0 79 rfl) rfl
theorem q92 : (Jvm.Cond.instanceMethod ({ cls := "IntervalClocks", name := "notes", desc := "()I" } : Jvm.MethodName)) ∈ lw_all := lw_g (lw_at lw_m0 81 rfl) rfl
theorem q93 : (Jvm.Cond.selects "IntervalClocks" ({ cls := "IntervalClocks", name := "notes", desc := "()I" } : Jvm.MethodName) ({ cls := "IntervalClocks", name := "notes", desc := "()I" } : Jvm.MethodName)) ∈ lw_all := lw_g (lw_at lw_m0 82 rfl) rfl
theorem q94 : (Jvm.Cond.code ({ cls := "IntervalClocks", name := "notes", desc := "()I" } : Jvm.MethodName) prog_1_method_17_code (1 : Nat) (Option.some Jvm.ClassFile.FieldType.int)) ∈ lw_all := lw_g (lw_at lw_m0 83 rfl) rfl
theorem q96 : (Jvm.Cond.instanceMethod ({ cls := "IntervalClocks", name := "events", desc := "()I" } : Jvm.MethodName)) ∈ lw_all := lw_g (lw_at lw_m0 85 rfl) rfl
theorem q97 : (Jvm.Cond.selects "IntervalClocks" ({ cls := "IntervalClocks", name := "events", desc := "()I" } : Jvm.MethodName) ({ cls := "IntervalClocks", name := "events", desc := "()I" } : Jvm.MethodName)) ∈ lw_all := lw_g (lw_at lw_m0 86 rfl) rfl
theorem q98 : (Jvm.Cond.code ({ cls := "IntervalClocks", name := "events", desc := "()I" } : Jvm.MethodName) prog_1_method_18_code (1 : Nat) (Option.some Jvm.ClassFile.FieldType.int)) ∈ lw_all := lw_g (lw_at lw_m0 87 rfl) rfl
theorem q100 : (Jvm.Cond.instanceMethod ({ cls := "IntervalClocks", name := "cells", desc := "(I)I" } : Jvm.MethodName)) ∈ lw_all := lw_g (lw_at lw_m0 89 rfl) rfl
theorem q101 : (Jvm.Cond.selects "IntervalClocks" ({ cls := "IntervalClocks", name := "cells", desc := "(I)I" } : Jvm.MethodName) ({ cls := "IntervalClocks", name := "cells", desc := "(I)I" } : Jvm.MethodName)) ∈ lw_all := lw_g (lw_at lw_m0 90 rfl) rfl
theorem q102 : (Jvm.Cond.code ({ cls := "IntervalClocks", name := "cells", desc := "(I)I" } : Jvm.MethodName) prog_1_method_19_code (2 : Nat) (Option.some Jvm.ClassFile.FieldType.int)) ∈ lw_all := lw_g (lw_at lw_m0 91 rfl) rfl
theorem q104 : (Jvm.Cond.instanceMethod ({ cls := "IntervalClocks", name := "compare", desc := "(II)I" } : Jvm.MethodName)) ∈ lw_all := lw_g (lw_at lw_m0 93 rfl) rfl
theorem q105 : (Jvm.Cond.selects "IntervalClocks" ({ cls := "IntervalClocks", name := "compare", desc := "(II)I" } : Jvm.MethodName) ({ cls := "IntervalClocks", name := "compare", desc := "(II)I" } : Jvm.MethodName)) ∈ lw_all := lw_g (lw_at lw_m0 94 rfl) rfl
theorem q106 : (Jvm.Cond.code ({ cls := "IntervalClocks", name := "compare", desc := "(II)I" } : Jvm.MethodName) prog_1_method_20_code (5 : Nat) (Option.some Jvm.ClassFile.FieldType.int)) ∈ lw_all := lw_g (lw_at lw_m0 95 rfl) rfl
theorem q107 : (Jvm.Cond.methodLink "IntervalClocks" (49 : Nat) ({ cls := "IntervalClocks", name := "under", desc := "(II)Z" } : Jvm.MethodName)) ∈ lw_all := lw_g (lw_at lw_m0 96 rfl) rfl
theorem q108 : (Jvm.Cond.privateMethod ({ cls := "IntervalClocks", name := "under", desc := "(II)Z" } : Jvm.MethodName)) ∈ lw_tbl := lw_at lw_m0 97 rfl
theorem q109 : (Jvm.Cond.instanceMethod ({ cls := "IntervalClocks", name := "under", desc := "(II)Z" } : Jvm.MethodName)) ∈ lw_all := lw_g (lw_at lw_m0 98 rfl) rfl
theorem q110 : (Jvm.Cond.code ({ cls := "IntervalClocks", name := "under", desc := "(II)Z" } : Jvm.MethodName) prog_1_method_8_code (4 : Nat) (Option.some Jvm.ClassFile.FieldType.boolean)) ∈ lw_all := lw_g (lw_at lw_m0 99 rfl) rfl
theorem q112 : (Jvm.Cond.instanceMethod ({ cls := "IntervalClocks", name := "behind", desc := "(I)I" } : Jvm.MethodName)) ∈ lw_all := lw_g (lw_at lw_m0 101 rfl) rfl
theorem q113 : (Jvm.Cond.selects "IntervalClocks" ({ cls := "IntervalClocks", name := "behind", desc := "(I)I" } : Jvm.MethodName) ({ cls := "IntervalClocks", name := "behind", desc := "(I)I" } : Jvm.MethodName)) ∈ lw_all := lw_g (lw_at lw_m0 102 rfl) rfl
theorem q114 : (Jvm.Cond.code ({ cls := "IntervalClocks", name := "behind", desc := "(I)I" } : Jvm.MethodName) prog_1_method_21_code (4 : Nat) (Option.some Jvm.ClassFile.FieldType.int)) ∈ lw_all := lw_g (lw_at lw_m0 103 rfl) rfl
theorem q116 : (Jvm.Cond.instanceMethod ({ cls := "IntervalClocks", name := "newest", desc := "()I" } : Jvm.MethodName)) ∈ lw_all := lw_g (lw_at lw_m0 105 rfl) rfl
theorem q117 : (Jvm.Cond.selects "IntervalClocks" ({ cls := "IntervalClocks", name := "newest", desc := "()I" } : Jvm.MethodName) ({ cls := "IntervalClocks", name := "newest", desc := "()I" } : Jvm.MethodName)) ∈ lw_all := lw_g (lw_at lw_m0 106 rfl) rfl
theorem q118 : (Jvm.Cond.code ({ cls := "IntervalClocks", name := "newest", desc := "()I" } : Jvm.MethodName) prog_1_method_22_code (4 : Nat) (Option.some Jvm.ClassFile.FieldType.int)) ∈ lw_all := lw_g (lw_at lw_m0 107 rfl) rfl
theorem q119 : (Jvm.Cond.methodLink "IntervalClocks" (52 : Nat) ({ cls := "IntervalClocks", name := "compare", desc := "(II)I" } : Jvm.MethodName)) ∈ lw_all := lw_g (lw_at lw_m0 108 rfl) rfl
theorem q121 : (Jvm.Cond.instanceMethod ({ cls := "IntervalClocks", name := "everywhere", desc := "(I)Z" } : Jvm.MethodName)) ∈ lw_all := lw_g (lw_at lw_m0 110 rfl) rfl
theorem q122 : (Jvm.Cond.selects "IntervalClocks" ({ cls := "IntervalClocks", name := "everywhere", desc := "(I)Z" } : Jvm.MethodName) ({ cls := "IntervalClocks", name := "everywhere", desc := "(I)Z" } : Jvm.MethodName)) ∈ lw_all := lw_g (lw_at lw_m0 111 rfl) rfl
theorem q123 : (Jvm.Cond.code ({ cls := "IntervalClocks", name := "everywhere", desc := "(I)Z" } : Jvm.MethodName) prog_1_method_23_code (3 : Nat) (Option.some Jvm.ClassFile.FieldType.boolean)) ∈ lw_all := lw_g (lw_at lw_m0 112 rfl) rfl
theorem q125 : (Jvm.Cond.instanceMethod ({ cls := "IntervalClocks", name := "apartPairs", desc := "()I" } : Jvm.MethodName)) ∈ lw_all := lw_g (lw_at lw_m0 114 rfl) rfl
theorem q126 : (Jvm.Cond.selects "IntervalClocks" ({ cls := "IntervalClocks", name := "apartPairs", desc := "()I" } : Jvm.MethodName) ({ cls := "IntervalClocks", name := "apartPairs", desc := "()I" } : Jvm.MethodName)) ∈ lw_all := lw_g (lw_at lw_m0 115 rfl) rfl
theorem q127 : (Jvm.Cond.code ({ cls := "IntervalClocks", name := "apartPairs", desc := "()I" } : Jvm.MethodName) prog_1_method_24_code (4 : Nat) (Option.some Jvm.ClassFile.FieldType.int)) ∈ lw_all := lw_g (lw_at lw_m0 116 rfl) rfl
theorem in_X0 : ∀ w ∈ wsX00, w ∈ lw_all := lw_in wsX00 [26, 28, 30, 32] (by decide +kernel) (by decide +kernel)
/-! java/lang/Object -/
set_option maxRecDepth 100000
def RJ0 : String := "java/lang/Object"
abbrev cJ0_init : ByteArray := object_method_1_code
def yJ0_init : MethodName := ⟨RJ0, "<init>", "()V"⟩
theorem dJ0_init_0 : decode cJ0_init 0 = .ok (.return_, 1) := by decide +kernel
theorem q20 : (Jvm.Cond.instanceMethod ({ cls := "java/lang/Object", name := "<init>", desc := "()V" } : Jvm.MethodName)) ∈ lw_all := lw_g (lw_at lw_m0 9 rfl) rfl
theorem q21 : (Jvm.Cond.code ({ cls := "java/lang/Object", name := "<init>", desc := "()V" } : Jvm.MethodName) object_method_1_code (1 : Nat) (Option.none : Option Jvm.ClassFile.FieldType)) ∈ lw_all := lw_g (lw_at lw_m0 10 rfl) rfl
theorem q35 : (Jvm.Cond.arrayClass Jvm.ClassFile.FieldType.int) ∈ lw_all := lw_g (lw_at lw_m0 24 rfl) rfl
set_option maxRecDepth 100000
theorem q36 : (Jvm.Cond.arrayClass Jvm.ClassFile.FieldType.byte) ∈ lw_all := lw_g (lw_at lw_m0 25 rfl) rfl
theorem q150 : (Jvm.Cond.arrayClass Jvm.ClassFile.FieldType.boolean) ∈ lw_all := lw_g (lw_at lw_m0 139 rfl) rfl
theorem q151 : (Jvm.Cond.arrayClass Jvm.ClassFile.FieldType.long) ∈ lw_all := lw_g (lw_at lw_m0 140 rfl) rfl
end
section
/-! IntervalClocksModel -/
set_option maxRecDepth 100000
def RX1 : String := "IntervalClocksModel"
def TX1 : u_T := fun k => match k with
  | 0 => ("IntervalClocksModel", "there", "[Z", false)
  | 1 => ("IntervalClocksModel", "low", "[J", false)
  | 2 => ("IntervalClocksModel", "high", "[J", false)
  | 3 => ("IntervalClocksModel", "had", "[I", false)
  | _ => ("IntervalClocksModel", "happened", "I", false)
def tyX1 : Nat → FieldType := fun k => match k with
  | 0 => .array .boolean
  | 1 => .array .long
  | 2 => .array .long
  | 3 => .array .int
  | _ => .int
abbrev wsX10 : List Cond := u_ws RX1 TX1 5
theorem nmX1 : ∀ a, a < 5 → ∀ b, b < 5 → a ≠ b → (TX1 a).2.1 ≠ (TX1 b).2.1 := by decide +kernel
theorem tyX1_ok : ∀ k, k < 5 → parseFieldDescriptor (TX1 k).2.2.1 = some (tyX1 k) := by decide +kernel
abbrev cX1_init : ByteArray := prog_3_method_1_code
def yX1_init : MethodName := ⟨RX1, "<init>", "()V"⟩
theorem dX1_init_0 : decode cX1_init 0 = .ok (.aload_n 0, 1) := by decide +kernel
theorem dX1_init_1 : decode cX1_init 1 = .ok (.invokespecial 1, 3) := by decide +kernel
theorem dX1_init_4 : decode cX1_init 4 = .ok (.aload_n 0, 1) := by decide +kernel
theorem dX1_init_5 : decode cX1_init 5 = .ok (.bipush 16, 2) := by decide +kernel
theorem dX1_init_7 : decode cX1_init 7 = .ok (.newarray .boolean, 2) := by decide +kernel
theorem dX1_init_9 : decode cX1_init 9 = .ok (.putfield 7, 3) := by decide +kernel
theorem dX1_init_12 : decode cX1_init 12 = .ok (.aload_n 0, 1) := by decide +kernel
theorem dX1_init_13 : decode cX1_init 13 = .ok (.bipush 16, 2) := by decide +kernel
theorem dX1_init_15 : decode cX1_init 15 = .ok (.newarray .long, 2) := by decide +kernel
theorem dX1_init_17 : decode cX1_init 17 = .ok (.putfield 13, 3) := by decide +kernel
theorem dX1_init_20 : decode cX1_init 20 = .ok (.aload_n 0, 1) := by decide +kernel
theorem dX1_init_21 : decode cX1_init 21 = .ok (.bipush 16, 2) := by decide +kernel
theorem dX1_init_23 : decode cX1_init 23 = .ok (.newarray .long, 2) := by decide +kernel
theorem dX1_init_25 : decode cX1_init 25 = .ok (.putfield 17, 3) := by decide +kernel
theorem dX1_init_28 : decode cX1_init 28 = .ok (.aload_n 0, 1) := by decide +kernel
theorem dX1_init_29 : decode cX1_init 29 = .ok (.bipush 8, 2) := by decide +kernel
theorem dX1_init_31 : decode cX1_init 31 = .ok (.newarray .int, 2) := by decide +kernel
theorem dX1_init_33 : decode cX1_init 33 = .ok (.putfield 20, 3) := by decide +kernel
theorem dX1_init_36 : decode cX1_init 36 = .ok (.aload_n 0, 1) := by decide +kernel
theorem dX1_init_37 : decode cX1_init 37 = .ok (.getfield 7, 3) := by decide +kernel
theorem dX1_init_40 : decode cX1_init 40 = .ok (.iconst 0, 1) := by decide +kernel
theorem dX1_init_41 : decode cX1_init 41 = .ok (.iconst 1, 1) := by decide +kernel
theorem dX1_init_42 : decode cX1_init 42 = .ok (.bastore, 1) := by decide +kernel
theorem dX1_init_43 : decode cX1_init 43 = .ok (.aload_n 0, 1) := by decide +kernel
theorem dX1_init_44 : decode cX1_init 44 = .ok (.getfield 20, 3) := by decide +kernel
theorem dX1_init_47 : decode cX1_init 47 = .ok (.iconst 0, 1) := by decide +kernel
theorem dX1_init_48 : decode cX1_init 48 = .ok (.iconst (-1), 1) := by decide +kernel
theorem dX1_init_49 : decode cX1_init 49 = .ok (.iastore, 1) := by decide +kernel
theorem dX1_init_50 : decode cX1_init 50 = .ok (.return_, 1) := by decide +kernel
abbrev cX1_split : ByteArray := prog_3_method_5_code
def yX1_split : MethodName := ⟨RX1, "split", "(I)I"⟩
theorem dX1_split_0 : decode cX1_split 0 = .ok (.aload_n 0, 1) := by decide +kernel
theorem dX1_split_1 : decode cX1_split 1 = .ok (.iload_n 1, 1) := by decide +kernel
theorem dX1_split_2 : decode cX1_split 2 = .ok (.invokevirtual 24, 3) := by decide +kernel
theorem dX1_split_5 : decode cX1_split 5 = .ok (.ifCond .ne 5, 3) := by decide +kernel
theorem dX1_split_8 : decode cX1_split 8 = .ok (.iconst (-1), 1) := by decide +kernel
theorem dX1_split_9 : decode cX1_split 9 = .ok (.ireturn, 1) := by decide +kernel
theorem dX1_split_10 : decode cX1_split 10 = .ok (.aload_n 0, 1) := by decide +kernel
theorem dX1_split_11 : decode cX1_split 11 = .ok (.aload_n 0, 1) := by decide +kernel
theorem dX1_split_12 : decode cX1_split 12 = .ok (.getfield 20, 3) := by decide +kernel
theorem dX1_split_15 : decode cX1_split 15 = .ok (.iload_n 1, 1) := by decide +kernel
theorem dX1_split_16 : decode cX1_split 16 = .ok (.iaload, 1) := by decide +kernel
theorem dX1_split_17 : decode cX1_split 17 = .ok (.invokevirtual 28, 3) := by decide +kernel
theorem dX1_split_20 : decode cX1_split 20 = .ok (.istore_n 2, 1) := by decide +kernel
theorem dX1_split_21 : decode cX1_split 21 = .ok (.iconst 0, 1) := by decide +kernel
theorem dX1_split_22 : decode cX1_split 22 = .ok (.istore_n 3, 1) := by decide +kernel
theorem dX1_split_23 : decode cX1_split 23 = .ok (.iload_n 3, 1) := by decide +kernel
theorem dX1_split_24 : decode cX1_split 24 = .ok (.bipush 8, 2) := by decide +kernel
theorem dX1_split_26 : decode cX1_split 26 = .ok (.if_icmp .ge 18, 3) := by decide +kernel
theorem dX1_split_29 : decode cX1_split 29 = .ok (.aload_n 0, 1) := by decide +kernel
theorem dX1_split_30 : decode cX1_split 30 = .ok (.getfield 7, 3) := by decide +kernel
theorem dX1_split_33 : decode cX1_split 33 = .ok (.iload_n 3, 1) := by decide +kernel
theorem dX1_split_34 : decode cX1_split 34 = .ok (.baload, 1) := by decide +kernel
theorem dX1_split_35 : decode cX1_split 35 = .ok (.ifCond .eq 9, 3) := by decide +kernel
theorem dX1_split_38 : decode cX1_split 38 = .ok (.iinc 3 1, 3) := by decide +kernel
theorem dX1_split_41 : decode cX1_split 41 = .ok (.goto (-18), 3) := by decide +kernel
theorem dX1_split_44 : decode cX1_split 44 = .ok (.iload_n 3, 1) := by decide +kernel
theorem dX1_split_45 : decode cX1_split 45 = .ok (.bipush 8, 2) := by decide +kernel
theorem dX1_split_47 : decode cX1_split 47 = .ok (.if_icmp .eq 8, 3) := by decide +kernel
theorem dX1_split_50 : decode cX1_split 50 = .ok (.iload_n 2, 1) := by decide +kernel
theorem dX1_split_51 : decode cX1_split 51 = .ok (.iconst 1, 1) := by decide +kernel
theorem dX1_split_52 : decode cX1_split 52 = .ok (.if_icmp .ne 6, 3) := by decide +kernel
theorem dX1_split_55 : decode cX1_split 55 = .ok (.bipush (-2), 2) := by decide +kernel
theorem dX1_split_57 : decode cX1_split 57 = .ok (.ireturn, 1) := by decide +kernel
theorem dX1_split_58 : decode cX1_split 58 = .ok (.aload_n 0, 1) := by decide +kernel
theorem dX1_split_59 : decode cX1_split 59 = .ok (.getfield 7, 3) := by decide +kernel
theorem dX1_split_62 : decode cX1_split 62 = .ok (.iload_n 3, 1) := by decide +kernel
theorem dX1_split_63 : decode cX1_split 63 = .ok (.iconst 1, 1) := by decide +kernel
theorem dX1_split_64 : decode cX1_split 64 = .ok (.bastore, 1) := by decide +kernel
theorem dX1_split_65 : decode cX1_split 65 = .ok (.aload_n 0, 1) := by decide +kernel
theorem dX1_split_66 : decode cX1_split 66 = .ok (.getfield 13, 3) := by decide +kernel
theorem dX1_split_69 : decode cX1_split 69 = .ok (.iload_n 3, 1) := by decide +kernel
theorem dX1_split_70 : decode cX1_split 70 = .ok (.aload_n 0, 1) := by decide +kernel
theorem dX1_split_71 : decode cX1_split 71 = .ok (.getfield 13, 3) := by decide +kernel
theorem dX1_split_74 : decode cX1_split 74 = .ok (.iload_n 1, 1) := by decide +kernel
theorem dX1_split_75 : decode cX1_split 75 = .ok (.laload, 1) := by decide +kernel
theorem dX1_split_76 : decode cX1_split 76 = .ok (.lastore, 1) := by decide +kernel
theorem dX1_split_77 : decode cX1_split 77 = .ok (.aload_n 0, 1) := by decide +kernel
theorem dX1_split_78 : decode cX1_split 78 = .ok (.getfield 17, 3) := by decide +kernel
theorem dX1_split_81 : decode cX1_split 81 = .ok (.iload_n 3, 1) := by decide +kernel
theorem dX1_split_82 : decode cX1_split 82 = .ok (.aload_n 0, 1) := by decide +kernel
theorem dX1_split_83 : decode cX1_split 83 = .ok (.getfield 17, 3) := by decide +kernel
theorem dX1_split_86 : decode cX1_split 86 = .ok (.iload_n 1, 1) := by decide +kernel
theorem dX1_split_87 : decode cX1_split 87 = .ok (.laload, 1) := by decide +kernel
theorem dX1_split_88 : decode cX1_split 88 = .ok (.lastore, 1) := by decide +kernel
theorem dX1_split_89 : decode cX1_split 89 = .ok (.aload_n 0, 1) := by decide +kernel
theorem dX1_split_90 : decode cX1_split 90 = .ok (.getfield 20, 3) := by decide +kernel
theorem dX1_split_93 : decode cX1_split 93 = .ok (.iload_n 3, 1) := by decide +kernel
theorem dX1_split_94 : decode cX1_split 94 = .ok (.iconst 0, 1) := by decide +kernel
theorem dX1_split_95 : decode cX1_split 95 = .ok (.iastore, 1) := by decide +kernel
theorem dX1_split_96 : decode cX1_split 96 = .ok (.iload_n 2, 1) := by decide +kernel
theorem dX1_split_97 : decode cX1_split 97 = .ok (.iload_n 2, 1) := by decide +kernel
theorem dX1_split_98 : decode cX1_split 98 = .ok (.iconst 2, 1) := by decide +kernel
theorem dX1_split_99 : decode cX1_split 99 = .ok (.idiv, 1) := by decide +kernel
theorem dX1_split_100 : decode cX1_split 100 = .ok (.isub, 1) := by decide +kernel
theorem dX1_split_101 : decode cX1_split 101 = .ok (.istore 4, 2) := by decide +kernel
theorem dX1_split_103 : decode cX1_split 103 = .ok (.iconst 0, 1) := by decide +kernel
theorem dX1_split_104 : decode cX1_split 104 = .ok (.istore 5, 2) := by decide +kernel
theorem dX1_split_106 : decode cX1_split 106 = .ok (.iload 5, 2) := by decide +kernel
theorem dX1_split_108 : decode cX1_split 108 = .ok (.bipush 32, 2) := by decide +kernel
theorem dX1_split_110 : decode cX1_split 110 = .ok (.if_icmp .ge 91, 3) := by decide +kernel
theorem dX1_split_113 : decode cX1_split 113 = .ok (.aload_n 0, 1) := by decide +kernel
theorem dX1_split_114 : decode cX1_split 114 = .ok (.getfield 20, 3) := by decide +kernel
theorem dX1_split_117 : decode cX1_split 117 = .ok (.iload_n 1, 1) := by decide +kernel
theorem dX1_split_118 : decode cX1_split 118 = .ok (.iaload, 1) := by decide +kernel
theorem dX1_split_119 : decode cX1_split 119 = .ok (.iload 5, 2) := by decide +kernel
theorem dX1_split_121 : decode cX1_split 121 = .ok (.ishr, 1) := by decide +kernel
theorem dX1_split_122 : decode cX1_split 122 = .ok (.iconst 1, 1) := by decide +kernel
theorem dX1_split_123 : decode cX1_split 123 = .ok (.iand, 1) := by decide +kernel
theorem dX1_split_124 : decode cX1_split 124 = .ok (.iconst 1, 1) := by decide +kernel
theorem dX1_split_125 : decode cX1_split 125 = .ok (.if_icmp .ne 70, 3) := by decide +kernel
theorem dX1_split_128 : decode cX1_split 128 = .ok (.aload_n 0, 1) := by decide +kernel
theorem dX1_split_129 : decode cX1_split 129 = .ok (.getfield 20, 3) := by decide +kernel
theorem dX1_split_132 : decode cX1_split 132 = .ok (.iload_n 3, 1) := by decide +kernel
theorem dX1_split_133 : decode cX1_split 133 = .ok (.iload 4, 2) := by decide +kernel
theorem dX1_split_135 : decode cX1_split 135 = .ok (.ifCond .le 12, 3) := by decide +kernel
theorem dX1_split_138 : decode cX1_split 138 = .ok (.aload_n 0, 1) := by decide +kernel
theorem dX1_split_139 : decode cX1_split 139 = .ok (.getfield 20, 3) := by decide +kernel
theorem dX1_split_142 : decode cX1_split 142 = .ok (.iload_n 3, 1) := by decide +kernel
theorem dX1_split_143 : decode cX1_split 143 = .ok (.iaload, 1) := by decide +kernel
theorem dX1_split_144 : decode cX1_split 144 = .ok (.goto 14, 3) := by decide +kernel
theorem dX1_split_147 : decode cX1_split 147 = .ok (.aload_n 0, 1) := by decide +kernel
theorem dX1_split_148 : decode cX1_split 148 = .ok (.getfield 20, 3) := by decide +kernel
theorem dX1_split_151 : decode cX1_split 151 = .ok (.iload_n 3, 1) := by decide +kernel
theorem dX1_split_152 : decode cX1_split 152 = .ok (.iaload, 1) := by decide +kernel
theorem dX1_split_153 : decode cX1_split 153 = .ok (.iconst 1, 1) := by decide +kernel
theorem dX1_split_154 : decode cX1_split 154 = .ok (.iload 5, 2) := by decide +kernel
theorem dX1_split_156 : decode cX1_split 156 = .ok (.ishl, 1) := by decide +kernel
theorem dX1_split_157 : decode cX1_split 157 = .ok (.ior, 1) := by decide +kernel
theorem dX1_split_158 : decode cX1_split 158 = .ok (.iastore, 1) := by decide +kernel
theorem dX1_split_159 : decode cX1_split 159 = .ok (.aload_n 0, 1) := by decide +kernel
theorem dX1_split_160 : decode cX1_split 160 = .ok (.getfield 20, 3) := by decide +kernel
theorem dX1_split_163 : decode cX1_split 163 = .ok (.iload_n 1, 1) := by decide +kernel
theorem dX1_split_164 : decode cX1_split 164 = .ok (.iload 4, 2) := by decide +kernel
theorem dX1_split_166 : decode cX1_split 166 = .ok (.ifCond .le 12, 3) := by decide +kernel
theorem dX1_split_169 : decode cX1_split 169 = .ok (.aload_n 0, 1) := by decide +kernel
theorem dX1_split_170 : decode cX1_split 170 = .ok (.getfield 20, 3) := by decide +kernel
theorem dX1_split_173 : decode cX1_split 173 = .ok (.iload_n 1, 1) := by decide +kernel
theorem dX1_split_174 : decode cX1_split 174 = .ok (.iaload, 1) := by decide +kernel
theorem dX1_split_175 : decode cX1_split 175 = .ok (.goto 16, 3) := by decide +kernel
theorem dX1_split_178 : decode cX1_split 178 = .ok (.aload_n 0, 1) := by decide +kernel
theorem dX1_split_179 : decode cX1_split 179 = .ok (.getfield 20, 3) := by decide +kernel
theorem dX1_split_182 : decode cX1_split 182 = .ok (.iload_n 1, 1) := by decide +kernel
theorem dX1_split_183 : decode cX1_split 183 = .ok (.iaload, 1) := by decide +kernel
theorem dX1_split_184 : decode cX1_split 184 = .ok (.iconst 1, 1) := by decide +kernel
theorem dX1_split_185 : decode cX1_split 185 = .ok (.iload 5, 2) := by decide +kernel
theorem dX1_split_187 : decode cX1_split 187 = .ok (.ishl, 1) := by decide +kernel
theorem dX1_split_188 : decode cX1_split 188 = .ok (.iconst (-1), 1) := by decide +kernel
theorem dX1_split_189 : decode cX1_split 189 = .ok (.ixor, 1) := by decide +kernel
theorem dX1_split_190 : decode cX1_split 190 = .ok (.iand, 1) := by decide +kernel
theorem dX1_split_191 : decode cX1_split 191 = .ok (.iastore, 1) := by decide +kernel
theorem dX1_split_192 : decode cX1_split 192 = .ok (.iinc 4 (-1), 3) := by decide +kernel
theorem dX1_split_195 : decode cX1_split 195 = .ok (.iinc 5 1, 3) := by decide +kernel
theorem dX1_split_198 : decode cX1_split 198 = .ok (.goto (-92), 3) := by decide +kernel
theorem dX1_split_201 : decode cX1_split 201 = .ok (.iload_n 3, 1) := by decide +kernel
theorem dX1_split_202 : decode cX1_split 202 = .ok (.ireturn, 1) := by decide +kernel
abbrev cX1_party : ByteArray := prog_3_method_2_code
def yX1_party : MethodName := ⟨RX1, "party", "(I)Z"⟩
theorem dX1_party_0 : decode cX1_party 0 = .ok (.iload_n 1, 1) := by decide +kernel
theorem dX1_party_1 : decode cX1_party 1 = .ok (.ifCond .lt 22, 3) := by decide +kernel
theorem dX1_party_4 : decode cX1_party 4 = .ok (.iload_n 1, 1) := by decide +kernel
theorem dX1_party_5 : decode cX1_party 5 = .ok (.bipush 7, 2) := by decide +kernel
theorem dX1_party_7 : decode cX1_party 7 = .ok (.if_icmp .gt 16, 3) := by decide +kernel
theorem dX1_party_10 : decode cX1_party 10 = .ok (.aload_n 0, 1) := by decide +kernel
theorem dX1_party_11 : decode cX1_party 11 = .ok (.getfield 7, 3) := by decide +kernel
theorem dX1_party_14 : decode cX1_party 14 = .ok (.iload_n 1, 1) := by decide +kernel
theorem dX1_party_15 : decode cX1_party 15 = .ok (.baload, 1) := by decide +kernel
theorem dX1_party_16 : decode cX1_party 16 = .ok (.ifCond .eq 7, 3) := by decide +kernel
theorem dX1_party_19 : decode cX1_party 19 = .ok (.iconst 1, 1) := by decide +kernel
theorem dX1_party_20 : decode cX1_party 20 = .ok (.goto 4, 3) := by decide +kernel
theorem dX1_party_23 : decode cX1_party 23 = .ok (.iconst 0, 1) := by decide +kernel
theorem dX1_party_24 : decode cX1_party 24 = .ok (.ireturn, 1) := by decide +kernel
abbrev cX1_count : ByteArray := prog_3_method_4_code
def yX1_count : MethodName := ⟨RX1, "count", "(I)I"⟩
theorem dX1_count_0 : decode cX1_count 0 = .ok (.iconst 0, 1) := by decide +kernel
theorem dX1_count_1 : decode cX1_count 1 = .ok (.istore_n 2, 1) := by decide +kernel
theorem dX1_count_2 : decode cX1_count 2 = .ok (.iconst 0, 1) := by decide +kernel
theorem dX1_count_3 : decode cX1_count 3 = .ok (.istore_n 3, 1) := by decide +kernel
theorem dX1_count_4 : decode cX1_count 4 = .ok (.iload_n 3, 1) := by decide +kernel
theorem dX1_count_5 : decode cX1_count 5 = .ok (.bipush 32, 2) := by decide +kernel
theorem dX1_count_7 : decode cX1_count 7 = .ok (.if_icmp .ge 17, 3) := by decide +kernel
theorem dX1_count_10 : decode cX1_count 10 = .ok (.iload_n 2, 1) := by decide +kernel
theorem dX1_count_11 : decode cX1_count 11 = .ok (.iload_n 1, 1) := by decide +kernel
theorem dX1_count_12 : decode cX1_count 12 = .ok (.iload_n 3, 1) := by decide +kernel
theorem dX1_count_13 : decode cX1_count 13 = .ok (.ishr, 1) := by decide +kernel
theorem dX1_count_14 : decode cX1_count 14 = .ok (.iconst 1, 1) := by decide +kernel
theorem dX1_count_15 : decode cX1_count 15 = .ok (.iand, 1) := by decide +kernel
theorem dX1_count_16 : decode cX1_count 16 = .ok (.iadd, 1) := by decide +kernel
theorem dX1_count_17 : decode cX1_count 17 = .ok (.istore_n 2, 1) := by decide +kernel
theorem dX1_count_18 : decode cX1_count 18 = .ok (.iinc 3 1, 3) := by decide +kernel
theorem dX1_count_21 : decode cX1_count 21 = .ok (.goto (-17), 3) := by decide +kernel
theorem dX1_count_24 : decode cX1_count 24 = .ok (.iload_n 2, 1) := by decide +kernel
theorem dX1_count_25 : decode cX1_count 25 = .ok (.ireturn, 1) := by decide +kernel
abbrev cX1_join : ByteArray := prog_3_method_6_code
def yX1_join : MethodName := ⟨RX1, "join", "(II)I"⟩
theorem dX1_join_0 : decode cX1_join 0 = .ok (.iload_n 1, 1) := by decide +kernel
theorem dX1_join_1 : decode cX1_join 1 = .ok (.iload_n 2, 1) := by decide +kernel
theorem dX1_join_2 : decode cX1_join 2 = .ok (.if_icmp .eq 19, 3) := by decide +kernel
theorem dX1_join_5 : decode cX1_join 5 = .ok (.aload_n 0, 1) := by decide +kernel
theorem dX1_join_6 : decode cX1_join 6 = .ok (.iload_n 1, 1) := by decide +kernel
theorem dX1_join_7 : decode cX1_join 7 = .ok (.invokevirtual 24, 3) := by decide +kernel
theorem dX1_join_10 : decode cX1_join 10 = .ok (.ifCond .eq 11, 3) := by decide +kernel
theorem dX1_join_13 : decode cX1_join 13 = .ok (.aload_n 0, 1) := by decide +kernel
theorem dX1_join_14 : decode cX1_join 14 = .ok (.iload_n 2, 1) := by decide +kernel
theorem dX1_join_15 : decode cX1_join 15 = .ok (.invokevirtual 24, 3) := by decide +kernel
theorem dX1_join_18 : decode cX1_join 18 = .ok (.ifCond .ne 5, 3) := by decide +kernel
theorem dX1_join_21 : decode cX1_join 21 = .ok (.iconst (-1), 1) := by decide +kernel
theorem dX1_join_22 : decode cX1_join 22 = .ok (.ireturn, 1) := by decide +kernel
theorem dX1_join_23 : decode cX1_join 23 = .ok (.aload_n 0, 1) := by decide +kernel
theorem dX1_join_24 : decode cX1_join 24 = .ok (.getfield 13, 3) := by decide +kernel
theorem dX1_join_27 : decode cX1_join 27 = .ok (.iload_n 1, 1) := by decide +kernel
theorem dX1_join_28 : decode cX1_join 28 = .ok (.aload_n 0, 1) := by decide +kernel
theorem dX1_join_29 : decode cX1_join 29 = .ok (.getfield 13, 3) := by decide +kernel
theorem dX1_join_32 : decode cX1_join 32 = .ok (.iload_n 1, 1) := by decide +kernel
theorem dX1_join_33 : decode cX1_join 33 = .ok (.laload, 1) := by decide +kernel
theorem dX1_join_34 : decode cX1_join 34 = .ok (.aload_n 0, 1) := by decide +kernel
theorem dX1_join_35 : decode cX1_join 35 = .ok (.getfield 13, 3) := by decide +kernel
theorem dX1_join_38 : decode cX1_join 38 = .ok (.iload_n 2, 1) := by decide +kernel
theorem dX1_join_39 : decode cX1_join 39 = .ok (.laload, 1) := by decide +kernel
theorem dX1_join_40 : decode cX1_join 40 = .ok (.lor, 1) := by decide +kernel
theorem dX1_join_41 : decode cX1_join 41 = .ok (.lastore, 1) := by decide +kernel
theorem dX1_join_42 : decode cX1_join 42 = .ok (.aload_n 0, 1) := by decide +kernel
theorem dX1_join_43 : decode cX1_join 43 = .ok (.getfield 17, 3) := by decide +kernel
theorem dX1_join_46 : decode cX1_join 46 = .ok (.iload_n 1, 1) := by decide +kernel
theorem dX1_join_47 : decode cX1_join 47 = .ok (.aload_n 0, 1) := by decide +kernel
theorem dX1_join_48 : decode cX1_join 48 = .ok (.getfield 17, 3) := by decide +kernel
theorem dX1_join_51 : decode cX1_join 51 = .ok (.iload_n 1, 1) := by decide +kernel
theorem dX1_join_52 : decode cX1_join 52 = .ok (.laload, 1) := by decide +kernel
theorem dX1_join_53 : decode cX1_join 53 = .ok (.aload_n 0, 1) := by decide +kernel
theorem dX1_join_54 : decode cX1_join 54 = .ok (.getfield 17, 3) := by decide +kernel
theorem dX1_join_57 : decode cX1_join 57 = .ok (.iload_n 2, 1) := by decide +kernel
theorem dX1_join_58 : decode cX1_join 58 = .ok (.laload, 1) := by decide +kernel
theorem dX1_join_59 : decode cX1_join 59 = .ok (.lor, 1) := by decide +kernel
theorem dX1_join_60 : decode cX1_join 60 = .ok (.lastore, 1) := by decide +kernel
theorem dX1_join_61 : decode cX1_join 61 = .ok (.aload_n 0, 1) := by decide +kernel
theorem dX1_join_62 : decode cX1_join 62 = .ok (.getfield 20, 3) := by decide +kernel
theorem dX1_join_65 : decode cX1_join 65 = .ok (.iload_n 1, 1) := by decide +kernel
theorem dX1_join_66 : decode cX1_join 66 = .ok (.aload_n 0, 1) := by decide +kernel
theorem dX1_join_67 : decode cX1_join 67 = .ok (.getfield 20, 3) := by decide +kernel
theorem dX1_join_70 : decode cX1_join 70 = .ok (.iload_n 1, 1) := by decide +kernel
theorem dX1_join_71 : decode cX1_join 71 = .ok (.iaload, 1) := by decide +kernel
theorem dX1_join_72 : decode cX1_join 72 = .ok (.aload_n 0, 1) := by decide +kernel
theorem dX1_join_73 : decode cX1_join 73 = .ok (.getfield 20, 3) := by decide +kernel
theorem dX1_join_76 : decode cX1_join 76 = .ok (.iload_n 2, 1) := by decide +kernel
theorem dX1_join_77 : decode cX1_join 77 = .ok (.iaload, 1) := by decide +kernel
theorem dX1_join_78 : decode cX1_join 78 = .ok (.ior, 1) := by decide +kernel
theorem dX1_join_79 : decode cX1_join 79 = .ok (.iastore, 1) := by decide +kernel
theorem dX1_join_80 : decode cX1_join 80 = .ok (.aload_n 0, 1) := by decide +kernel
theorem dX1_join_81 : decode cX1_join 81 = .ok (.getfield 7, 3) := by decide +kernel
theorem dX1_join_84 : decode cX1_join 84 = .ok (.iload_n 2, 1) := by decide +kernel
theorem dX1_join_85 : decode cX1_join 85 = .ok (.iconst 0, 1) := by decide +kernel
theorem dX1_join_86 : decode cX1_join 86 = .ok (.bastore, 1) := by decide +kernel
theorem dX1_join_87 : decode cX1_join 87 = .ok (.aload_n 0, 1) := by decide +kernel
theorem dX1_join_88 : decode cX1_join 88 = .ok (.aload_n 0, 1) := by decide +kernel
theorem dX1_join_89 : decode cX1_join 89 = .ok (.getfield 20, 3) := by decide +kernel
theorem dX1_join_92 : decode cX1_join 92 = .ok (.iload_n 1, 1) := by decide +kernel
theorem dX1_join_93 : decode cX1_join 93 = .ok (.iaload, 1) := by decide +kernel
theorem dX1_join_94 : decode cX1_join 94 = .ok (.invokevirtual 28, 3) := by decide +kernel
theorem dX1_join_97 : decode cX1_join 97 = .ok (.ireturn, 1) := by decide +kernel
abbrev cX1_event : ByteArray := prog_3_method_7_code
def yX1_event : MethodName := ⟨RX1, "event", "(I)I"⟩
theorem dX1_event_0 : decode cX1_event 0 = .ok (.aload_n 0, 1) := by decide +kernel
theorem dX1_event_1 : decode cX1_event 1 = .ok (.iload_n 1, 1) := by decide +kernel
theorem dX1_event_2 : decode cX1_event 2 = .ok (.invokevirtual 24, 3) := by decide +kernel
theorem dX1_event_5 : decode cX1_event 5 = .ok (.ifCond .ne 5, 3) := by decide +kernel
theorem dX1_event_8 : decode cX1_event 8 = .ok (.iconst (-1), 1) := by decide +kernel
theorem dX1_event_9 : decode cX1_event 9 = .ok (.ireturn, 1) := by decide +kernel
theorem dX1_event_10 : decode cX1_event 10 = .ok (.aload_n 0, 1) := by decide +kernel
theorem dX1_event_11 : decode cX1_event 11 = .ok (.getfield 32, 3) := by decide +kernel
theorem dX1_event_14 : decode cX1_event 14 = .ok (.bipush 100, 2) := by decide +kernel
theorem dX1_event_16 : decode cX1_event 16 = .ok (.if_icmp .lt 6, 3) := by decide +kernel
theorem dX1_event_19 : decode cX1_event 19 = .ok (.bipush (-2), 2) := by decide +kernel
theorem dX1_event_21 : decode cX1_event 21 = .ok (.ireturn, 1) := by decide +kernel
theorem dX1_event_22 : decode cX1_event 22 = .ok (.aload_n 0, 1) := by decide +kernel
theorem dX1_event_23 : decode cX1_event 23 = .ok (.getfield 32, 3) := by decide +kernel
theorem dX1_event_26 : decode cX1_event 26 = .ok (.bipush 64, 2) := by decide +kernel
theorem dX1_event_28 : decode cX1_event 28 = .ok (.if_icmp .ge 25, 3) := by decide +kernel
theorem dX1_event_31 : decode cX1_event 31 = .ok (.aload_n 0, 1) := by decide +kernel
theorem dX1_event_32 : decode cX1_event 32 = .ok (.getfield 13, 3) := by decide +kernel
theorem dX1_event_35 : decode cX1_event 35 = .ok (.iload_n 1, 1) := by decide +kernel
theorem dX1_event_36 : decode cX1_event 36 = .ok (.aload_n 0, 1) := by decide +kernel
theorem dX1_event_37 : decode cX1_event 37 = .ok (.getfield 13, 3) := by decide +kernel
theorem dX1_event_40 : decode cX1_event 40 = .ok (.iload_n 1, 1) := by decide +kernel
theorem dX1_event_41 : decode cX1_event 41 = .ok (.laload, 1) := by decide +kernel
theorem dX1_event_42 : decode cX1_event 42 = .ok (.lconst 1, 1) := by decide +kernel
theorem dX1_event_43 : decode cX1_event 43 = .ok (.aload_n 0, 1) := by decide +kernel
theorem dX1_event_44 : decode cX1_event 44 = .ok (.getfield 32, 3) := by decide +kernel
theorem dX1_event_47 : decode cX1_event 47 = .ok (.lshl, 1) := by decide +kernel
theorem dX1_event_48 : decode cX1_event 48 = .ok (.lor, 1) := by decide +kernel
theorem dX1_event_49 : decode cX1_event 49 = .ok (.lastore, 1) := by decide +kernel
theorem dX1_event_50 : decode cX1_event 50 = .ok (.goto 25, 3) := by decide +kernel
theorem dX1_event_53 : decode cX1_event 53 = .ok (.aload_n 0, 1) := by decide +kernel
theorem dX1_event_54 : decode cX1_event 54 = .ok (.getfield 17, 3) := by decide +kernel
theorem dX1_event_57 : decode cX1_event 57 = .ok (.iload_n 1, 1) := by decide +kernel
theorem dX1_event_58 : decode cX1_event 58 = .ok (.aload_n 0, 1) := by decide +kernel
theorem dX1_event_59 : decode cX1_event 59 = .ok (.getfield 17, 3) := by decide +kernel
theorem dX1_event_62 : decode cX1_event 62 = .ok (.iload_n 1, 1) := by decide +kernel
theorem dX1_event_63 : decode cX1_event 63 = .ok (.laload, 1) := by decide +kernel
theorem dX1_event_64 : decode cX1_event 64 = .ok (.lconst 1, 1) := by decide +kernel
theorem dX1_event_65 : decode cX1_event 65 = .ok (.aload_n 0, 1) := by decide +kernel
theorem dX1_event_66 : decode cX1_event 66 = .ok (.getfield 32, 3) := by decide +kernel
theorem dX1_event_69 : decode cX1_event 69 = .ok (.bipush 64, 2) := by decide +kernel
theorem dX1_event_71 : decode cX1_event 71 = .ok (.isub, 1) := by decide +kernel
theorem dX1_event_72 : decode cX1_event 72 = .ok (.lshl, 1) := by decide +kernel
theorem dX1_event_73 : decode cX1_event 73 = .ok (.lor, 1) := by decide +kernel
theorem dX1_event_74 : decode cX1_event 74 = .ok (.lastore, 1) := by decide +kernel
theorem dX1_event_75 : decode cX1_event 75 = .ok (.aload_n 0, 1) := by decide +kernel
theorem dX1_event_76 : decode cX1_event 76 = .ok (.dup, 1) := by decide +kernel
theorem dX1_event_77 : decode cX1_event 77 = .ok (.getfield 32, 3) := by decide +kernel
theorem dX1_event_80 : decode cX1_event 80 = .ok (.iconst 1, 1) := by decide +kernel
theorem dX1_event_81 : decode cX1_event 81 = .ok (.iadd, 1) := by decide +kernel
theorem dX1_event_82 : decode cX1_event 82 = .ok (.putfield 32, 3) := by decide +kernel
theorem dX1_event_85 : decode cX1_event 85 = .ok (.aload_n 0, 1) := by decide +kernel
theorem dX1_event_86 : decode cX1_event 86 = .ok (.getfield 32, 3) := by decide +kernel
theorem dX1_event_89 : decode cX1_event 89 = .ok (.ireturn, 1) := by decide +kernel
abbrev cX1_tell : ByteArray := prog_3_method_9_code
def yX1_tell : MethodName := ⟨RX1, "tell", "(II)I"⟩
theorem dX1_tell_0 : decode cX1_tell 0 = .ok (.iload_n 1, 1) := by decide +kernel
theorem dX1_tell_1 : decode cX1_tell 1 = .ok (.iload_n 2, 1) := by decide +kernel
theorem dX1_tell_2 : decode cX1_tell 2 = .ok (.if_icmp .eq 19, 3) := by decide +kernel
theorem dX1_tell_5 : decode cX1_tell 5 = .ok (.aload_n 0, 1) := by decide +kernel
theorem dX1_tell_6 : decode cX1_tell 6 = .ok (.iload_n 1, 1) := by decide +kernel
theorem dX1_tell_7 : decode cX1_tell 7 = .ok (.invokevirtual 38, 3) := by decide +kernel
theorem dX1_tell_10 : decode cX1_tell 10 = .ok (.ifCond .eq 11, 3) := by decide +kernel
theorem dX1_tell_13 : decode cX1_tell 13 = .ok (.aload_n 0, 1) := by decide +kernel
theorem dX1_tell_14 : decode cX1_tell 14 = .ok (.iload_n 2, 1) := by decide +kernel
theorem dX1_tell_15 : decode cX1_tell 15 = .ok (.invokevirtual 24, 3) := by decide +kernel
theorem dX1_tell_18 : decode cX1_tell 18 = .ok (.ifCond .ne 5, 3) := by decide +kernel
theorem dX1_tell_21 : decode cX1_tell 21 = .ok (.iconst (-1), 1) := by decide +kernel
theorem dX1_tell_22 : decode cX1_tell 22 = .ok (.ireturn, 1) := by decide +kernel
theorem dX1_tell_23 : decode cX1_tell 23 = .ok (.aload_n 0, 1) := by decide +kernel
theorem dX1_tell_24 : decode cX1_tell 24 = .ok (.iload_n 1, 1) := by decide +kernel
theorem dX1_tell_25 : decode cX1_tell 25 = .ok (.iload_n 2, 1) := by decide +kernel
theorem dX1_tell_26 : decode cX1_tell 26 = .ok (.invokevirtual 41, 3) := by decide +kernel
theorem dX1_tell_29 : decode cX1_tell 29 = .ok (.istore_n 3, 1) := by decide +kernel
theorem dX1_tell_30 : decode cX1_tell 30 = .ok (.aload_n 0, 1) := by decide +kernel
theorem dX1_tell_31 : decode cX1_tell 31 = .ok (.getfield 13, 3) := by decide +kernel
theorem dX1_tell_34 : decode cX1_tell 34 = .ok (.iload_n 2, 1) := by decide +kernel
theorem dX1_tell_35 : decode cX1_tell 35 = .ok (.aload_n 0, 1) := by decide +kernel
theorem dX1_tell_36 : decode cX1_tell 36 = .ok (.getfield 13, 3) := by decide +kernel
theorem dX1_tell_39 : decode cX1_tell 39 = .ok (.iload_n 2, 1) := by decide +kernel
theorem dX1_tell_40 : decode cX1_tell 40 = .ok (.laload, 1) := by decide +kernel
theorem dX1_tell_41 : decode cX1_tell 41 = .ok (.aload_n 0, 1) := by decide +kernel
theorem dX1_tell_42 : decode cX1_tell 42 = .ok (.getfield 13, 3) := by decide +kernel
theorem dX1_tell_45 : decode cX1_tell 45 = .ok (.iload_n 1, 1) := by decide +kernel
theorem dX1_tell_46 : decode cX1_tell 46 = .ok (.laload, 1) := by decide +kernel
theorem dX1_tell_47 : decode cX1_tell 47 = .ok (.lor, 1) := by decide +kernel
theorem dX1_tell_48 : decode cX1_tell 48 = .ok (.lastore, 1) := by decide +kernel
theorem dX1_tell_49 : decode cX1_tell 49 = .ok (.aload_n 0, 1) := by decide +kernel
theorem dX1_tell_50 : decode cX1_tell 50 = .ok (.getfield 17, 3) := by decide +kernel
theorem dX1_tell_53 : decode cX1_tell 53 = .ok (.iload_n 2, 1) := by decide +kernel
theorem dX1_tell_54 : decode cX1_tell 54 = .ok (.aload_n 0, 1) := by decide +kernel
theorem dX1_tell_55 : decode cX1_tell 55 = .ok (.getfield 17, 3) := by decide +kernel
theorem dX1_tell_58 : decode cX1_tell 58 = .ok (.iload_n 2, 1) := by decide +kernel
theorem dX1_tell_59 : decode cX1_tell 59 = .ok (.laload, 1) := by decide +kernel
theorem dX1_tell_60 : decode cX1_tell 60 = .ok (.aload_n 0, 1) := by decide +kernel
theorem dX1_tell_61 : decode cX1_tell 61 = .ok (.getfield 17, 3) := by decide +kernel
theorem dX1_tell_64 : decode cX1_tell 64 = .ok (.iload_n 1, 1) := by decide +kernel
theorem dX1_tell_65 : decode cX1_tell 65 = .ok (.laload, 1) := by decide +kernel
theorem dX1_tell_66 : decode cX1_tell 66 = .ok (.lor, 1) := by decide +kernel
theorem dX1_tell_67 : decode cX1_tell 67 = .ok (.lastore, 1) := by decide +kernel
theorem dX1_tell_68 : decode cX1_tell 68 = .ok (.iload_n 3, 1) := by decide +kernel
theorem dX1_tell_69 : decode cX1_tell 69 = .ok (.ifCond .eq 7, 3) := by decide +kernel
theorem dX1_tell_72 : decode cX1_tell 72 = .ok (.iconst 0, 1) := by decide +kernel
theorem dX1_tell_73 : decode cX1_tell 73 = .ok (.goto 4, 3) := by decide +kernel
theorem dX1_tell_76 : decode cX1_tell 76 = .ok (.iconst 1, 1) := by decide +kernel
theorem dX1_tell_77 : decode cX1_tell 77 = .ok (.ireturn, 1) := by decide +kernel
abbrev cX1_is : ByteArray := prog_3_method_3_code
def yX1_is : MethodName := ⟨RX1, "is", "(I)Z"⟩
theorem dX1_is_0 : decode cX1_is 0 = .ok (.iload_n 1, 1) := by decide +kernel
theorem dX1_is_1 : decode cX1_is 1 = .ok (.ifCond .lt 22, 3) := by decide +kernel
theorem dX1_is_4 : decode cX1_is 4 = .ok (.iload_n 1, 1) := by decide +kernel
theorem dX1_is_5 : decode cX1_is 5 = .ok (.bipush 15, 2) := by decide +kernel
theorem dX1_is_7 : decode cX1_is 7 = .ok (.if_icmp .gt 16, 3) := by decide +kernel
theorem dX1_is_10 : decode cX1_is 10 = .ok (.aload_n 0, 1) := by decide +kernel
theorem dX1_is_11 : decode cX1_is 11 = .ok (.getfield 7, 3) := by decide +kernel
theorem dX1_is_14 : decode cX1_is 14 = .ok (.iload_n 1, 1) := by decide +kernel
theorem dX1_is_15 : decode cX1_is 15 = .ok (.baload, 1) := by decide +kernel
theorem dX1_is_16 : decode cX1_is 16 = .ok (.ifCond .eq 7, 3) := by decide +kernel
theorem dX1_is_19 : decode cX1_is 19 = .ok (.iconst 1, 1) := by decide +kernel
theorem dX1_is_20 : decode cX1_is 20 = .ok (.goto 4, 3) := by decide +kernel
theorem dX1_is_23 : decode cX1_is 23 = .ok (.iconst 0, 1) := by decide +kernel
theorem dX1_is_24 : decode cX1_is 24 = .ok (.ireturn, 1) := by decide +kernel
abbrev cX1_follows : ByteArray := prog_3_method_8_code
def yX1_follows : MethodName := ⟨RX1, "follows", "(II)Z"⟩
theorem dX1_follows_0 : decode cX1_follows 0 = .ok (.aload_n 0, 1) := by decide +kernel
theorem dX1_follows_1 : decode cX1_follows 1 = .ok (.getfield 13, 3) := by decide +kernel
theorem dX1_follows_4 : decode cX1_follows 4 = .ok (.iload_n 1, 1) := by decide +kernel
theorem dX1_follows_5 : decode cX1_follows 5 = .ok (.laload, 1) := by decide +kernel
theorem dX1_follows_6 : decode cX1_follows 6 = .ok (.aload_n 0, 1) := by decide +kernel
theorem dX1_follows_7 : decode cX1_follows 7 = .ok (.getfield 13, 3) := by decide +kernel
theorem dX1_follows_10 : decode cX1_follows 10 = .ok (.iload_n 2, 1) := by decide +kernel
theorem dX1_follows_11 : decode cX1_follows 11 = .ok (.laload, 1) := by decide +kernel
theorem dX1_follows_12 : decode cX1_follows 12 = .ok (.ldc2_w 36, 3) := by decide +kernel
theorem dX1_follows_15 : decode cX1_follows 15 = .ok (.lxor, 1) := by decide +kernel
theorem dX1_follows_16 : decode cX1_follows 16 = .ok (.land, 1) := by decide +kernel
theorem dX1_follows_17 : decode cX1_follows 17 = .ok (.lconst 0, 1) := by decide +kernel
theorem dX1_follows_18 : decode cX1_follows 18 = .ok (.lcmp, 1) := by decide +kernel
theorem dX1_follows_19 : decode cX1_follows 19 = .ok (.ifCond .ne 29, 3) := by decide +kernel
theorem dX1_follows_22 : decode cX1_follows 22 = .ok (.aload_n 0, 1) := by decide +kernel
theorem dX1_follows_23 : decode cX1_follows 23 = .ok (.getfield 17, 3) := by decide +kernel
theorem dX1_follows_26 : decode cX1_follows 26 = .ok (.iload_n 1, 1) := by decide +kernel
theorem dX1_follows_27 : decode cX1_follows 27 = .ok (.laload, 1) := by decide +kernel
theorem dX1_follows_28 : decode cX1_follows 28 = .ok (.aload_n 0, 1) := by decide +kernel
theorem dX1_follows_29 : decode cX1_follows 29 = .ok (.getfield 17, 3) := by decide +kernel
theorem dX1_follows_32 : decode cX1_follows 32 = .ok (.iload_n 2, 1) := by decide +kernel
theorem dX1_follows_33 : decode cX1_follows 33 = .ok (.laload, 1) := by decide +kernel
theorem dX1_follows_34 : decode cX1_follows 34 = .ok (.ldc2_w 36, 3) := by decide +kernel
theorem dX1_follows_37 : decode cX1_follows 37 = .ok (.lxor, 1) := by decide +kernel
theorem dX1_follows_38 : decode cX1_follows 38 = .ok (.land, 1) := by decide +kernel
theorem dX1_follows_39 : decode cX1_follows 39 = .ok (.lconst 0, 1) := by decide +kernel
theorem dX1_follows_40 : decode cX1_follows 40 = .ok (.lcmp, 1) := by decide +kernel
theorem dX1_follows_41 : decode cX1_follows 41 = .ok (.ifCond .ne 7, 3) := by decide +kernel
theorem dX1_follows_44 : decode cX1_follows 44 = .ok (.iconst 1, 1) := by decide +kernel
theorem dX1_follows_45 : decode cX1_follows 45 = .ok (.goto 4, 3) := by decide +kernel
theorem dX1_follows_48 : decode cX1_follows 48 = .ok (.iconst 0, 1) := by decide +kernel
theorem dX1_follows_49 : decode cX1_follows 49 = .ok (.ireturn, 1) := by decide +kernel
abbrev cX1_note : ByteArray := prog_3_method_10_code
def yX1_note : MethodName := ⟨RX1, "note", "(II)Z"⟩
theorem dX1_note_0 : decode cX1_note 0 = .ok (.aload_n 0, 1) := by decide +kernel
theorem dX1_note_1 : decode cX1_note 1 = .ok (.iload_n 1, 1) := by decide +kernel
theorem dX1_note_2 : decode cX1_note 2 = .ok (.invokevirtual 24, 3) := by decide +kernel
theorem dX1_note_5 : decode cX1_note 5 = .ok (.ifCond .eq 13, 3) := by decide +kernel
theorem dX1_note_8 : decode cX1_note 8 = .ok (.iload_n 2, 1) := by decide +kernel
theorem dX1_note_9 : decode cX1_note 9 = .ok (.ifCond .lt 9, 3) := by decide +kernel
theorem dX1_note_12 : decode cX1_note 12 = .ok (.iload_n 2, 1) := by decide +kernel
theorem dX1_note_13 : decode cX1_note 13 = .ok (.bipush 7, 2) := by decide +kernel
theorem dX1_note_15 : decode cX1_note 15 = .ok (.if_icmp .le 5, 3) := by decide +kernel
theorem dX1_note_18 : decode cX1_note 18 = .ok (.iconst 0, 1) := by decide +kernel
theorem dX1_note_19 : decode cX1_note 19 = .ok (.ireturn, 1) := by decide +kernel
theorem dX1_note_20 : decode cX1_note 20 = .ok (.aload_n 0, 1) := by decide +kernel
theorem dX1_note_21 : decode cX1_note 21 = .ok (.getfield 7, 3) := by decide +kernel
theorem dX1_note_24 : decode cX1_note 24 = .ok (.bipush 8, 2) := by decide +kernel
theorem dX1_note_26 : decode cX1_note 26 = .ok (.iload_n 2, 1) := by decide +kernel
theorem dX1_note_27 : decode cX1_note 27 = .ok (.iadd, 1) := by decide +kernel
theorem dX1_note_28 : decode cX1_note 28 = .ok (.iconst 1, 1) := by decide +kernel
theorem dX1_note_29 : decode cX1_note 29 = .ok (.bastore, 1) := by decide +kernel
theorem dX1_note_30 : decode cX1_note 30 = .ok (.aload_n 0, 1) := by decide +kernel
theorem dX1_note_31 : decode cX1_note 31 = .ok (.getfield 13, 3) := by decide +kernel
theorem dX1_note_34 : decode cX1_note 34 = .ok (.bipush 8, 2) := by decide +kernel
theorem dX1_note_36 : decode cX1_note 36 = .ok (.iload_n 2, 1) := by decide +kernel
theorem dX1_note_37 : decode cX1_note 37 = .ok (.iadd, 1) := by decide +kernel
theorem dX1_note_38 : decode cX1_note 38 = .ok (.aload_n 0, 1) := by decide +kernel
theorem dX1_note_39 : decode cX1_note 39 = .ok (.getfield 13, 3) := by decide +kernel
theorem dX1_note_42 : decode cX1_note 42 = .ok (.iload_n 1, 1) := by decide +kernel
theorem dX1_note_43 : decode cX1_note 43 = .ok (.laload, 1) := by decide +kernel
theorem dX1_note_44 : decode cX1_note 44 = .ok (.lastore, 1) := by decide +kernel
theorem dX1_note_45 : decode cX1_note 45 = .ok (.aload_n 0, 1) := by decide +kernel
theorem dX1_note_46 : decode cX1_note 46 = .ok (.getfield 17, 3) := by decide +kernel
theorem dX1_note_49 : decode cX1_note 49 = .ok (.bipush 8, 2) := by decide +kernel
theorem dX1_note_51 : decode cX1_note 51 = .ok (.iload_n 2, 1) := by decide +kernel
theorem dX1_note_52 : decode cX1_note 52 = .ok (.iadd, 1) := by decide +kernel
theorem dX1_note_53 : decode cX1_note 53 = .ok (.aload_n 0, 1) := by decide +kernel
theorem dX1_note_54 : decode cX1_note 54 = .ok (.getfield 17, 3) := by decide +kernel
theorem dX1_note_57 : decode cX1_note 57 = .ok (.iload_n 1, 1) := by decide +kernel
theorem dX1_note_58 : decode cX1_note 58 = .ok (.laload, 1) := by decide +kernel
theorem dX1_note_59 : decode cX1_note 59 = .ok (.lastore, 1) := by decide +kernel
theorem dX1_note_60 : decode cX1_note 60 = .ok (.iconst 1, 1) := by decide +kernel
theorem dX1_note_61 : decode cX1_note 61 = .ok (.ireturn, 1) := by decide +kernel
abbrev cX1_erase : ByteArray := prog_3_method_11_code
def yX1_erase : MethodName := ⟨RX1, "erase", "(I)Z"⟩
theorem dX1_erase_0 : decode cX1_erase 0 = .ok (.iload_n 1, 1) := by decide +kernel
theorem dX1_erase_1 : decode cX1_erase 1 = .ok (.ifCond .lt 21, 3) := by decide +kernel
theorem dX1_erase_4 : decode cX1_erase 4 = .ok (.iload_n 1, 1) := by decide +kernel
theorem dX1_erase_5 : decode cX1_erase 5 = .ok (.bipush 7, 2) := by decide +kernel
theorem dX1_erase_7 : decode cX1_erase 7 = .ok (.if_icmp .gt 15, 3) := by decide +kernel
theorem dX1_erase_10 : decode cX1_erase 10 = .ok (.aload_n 0, 1) := by decide +kernel
theorem dX1_erase_11 : decode cX1_erase 11 = .ok (.getfield 7, 3) := by decide +kernel
theorem dX1_erase_14 : decode cX1_erase 14 = .ok (.bipush 8, 2) := by decide +kernel
theorem dX1_erase_16 : decode cX1_erase 16 = .ok (.iload_n 1, 1) := by decide +kernel
theorem dX1_erase_17 : decode cX1_erase 17 = .ok (.iadd, 1) := by decide +kernel
theorem dX1_erase_18 : decode cX1_erase 18 = .ok (.baload, 1) := by decide +kernel
theorem dX1_erase_19 : decode cX1_erase 19 = .ok (.ifCond .ne 5, 3) := by decide +kernel
theorem dX1_erase_22 : decode cX1_erase 22 = .ok (.iconst 0, 1) := by decide +kernel
theorem dX1_erase_23 : decode cX1_erase 23 = .ok (.ireturn, 1) := by decide +kernel
theorem dX1_erase_24 : decode cX1_erase 24 = .ok (.aload_n 0, 1) := by decide +kernel
theorem dX1_erase_25 : decode cX1_erase 25 = .ok (.getfield 7, 3) := by decide +kernel
theorem dX1_erase_28 : decode cX1_erase 28 = .ok (.bipush 8, 2) := by decide +kernel
theorem dX1_erase_30 : decode cX1_erase 30 = .ok (.iload_n 1, 1) := by decide +kernel
theorem dX1_erase_31 : decode cX1_erase 31 = .ok (.iadd, 1) := by decide +kernel
theorem dX1_erase_32 : decode cX1_erase 32 = .ok (.iconst 0, 1) := by decide +kernel
theorem dX1_erase_33 : decode cX1_erase 33 = .ok (.bastore, 1) := by decide +kernel
theorem dX1_erase_34 : decode cX1_erase 34 = .ok (.iconst 1, 1) := by decide +kernel
theorem dX1_erase_35 : decode cX1_erase 35 = .ok (.ireturn, 1) := by decide +kernel
abbrev cX1_parties : ByteArray := prog_3_method_13_code
def yX1_parties : MethodName := ⟨RX1, "parties", "()I"⟩
theorem dX1_parties_0 : decode cX1_parties 0 = .ok (.aload_n 0, 1) := by decide +kernel
theorem dX1_parties_1 : decode cX1_parties 1 = .ok (.iconst 0, 1) := by decide +kernel
theorem dX1_parties_2 : decode cX1_parties 2 = .ok (.invokevirtual 45, 3) := by decide +kernel
theorem dX1_parties_5 : decode cX1_parties 5 = .ok (.ireturn, 1) := by decide +kernel
abbrev cX1_slots : ByteArray := prog_3_method_12_code
def yX1_slots : MethodName := ⟨RX1, "slots", "(I)I"⟩
theorem dX1_slots_0 : decode cX1_slots 0 = .ok (.iconst 0, 1) := by decide +kernel
theorem dX1_slots_1 : decode cX1_slots 1 = .ok (.istore_n 2, 1) := by decide +kernel
theorem dX1_slots_2 : decode cX1_slots 2 = .ok (.iconst 0, 1) := by decide +kernel
theorem dX1_slots_3 : decode cX1_slots 3 = .ok (.istore_n 3, 1) := by decide +kernel
theorem dX1_slots_4 : decode cX1_slots 4 = .ok (.iload_n 3, 1) := by decide +kernel
theorem dX1_slots_5 : decode cX1_slots 5 = .ok (.bipush 8, 2) := by decide +kernel
theorem dX1_slots_7 : decode cX1_slots 7 = .ok (.if_icmp .ge 30, 3) := by decide +kernel
theorem dX1_slots_10 : decode cX1_slots 10 = .ok (.aload_n 0, 1) := by decide +kernel
theorem dX1_slots_11 : decode cX1_slots 11 = .ok (.getfield 7, 3) := by decide +kernel
theorem dX1_slots_14 : decode cX1_slots 14 = .ok (.iload_n 1, 1) := by decide +kernel
theorem dX1_slots_15 : decode cX1_slots 15 = .ok (.iload_n 3, 1) := by decide +kernel
theorem dX1_slots_16 : decode cX1_slots 16 = .ok (.iadd, 1) := by decide +kernel
theorem dX1_slots_17 : decode cX1_slots 17 = .ok (.baload, 1) := by decide +kernel
theorem dX1_slots_18 : decode cX1_slots 18 = .ok (.ifCond .eq 11, 3) := by decide +kernel
theorem dX1_slots_21 : decode cX1_slots 21 = .ok (.iload_n 2, 1) := by decide +kernel
theorem dX1_slots_22 : decode cX1_slots 22 = .ok (.iconst 1, 1) := by decide +kernel
theorem dX1_slots_23 : decode cX1_slots 23 = .ok (.iload_n 3, 1) := by decide +kernel
theorem dX1_slots_24 : decode cX1_slots 24 = .ok (.ishl, 1) := by decide +kernel
theorem dX1_slots_25 : decode cX1_slots 25 = .ok (.ior, 1) := by decide +kernel
theorem dX1_slots_26 : decode cX1_slots 26 = .ok (.goto 4, 3) := by decide +kernel
theorem dX1_slots_29 : decode cX1_slots 29 = .ok (.iload_n 2, 1) := by decide +kernel
theorem dX1_slots_30 : decode cX1_slots 30 = .ok (.istore_n 2, 1) := by decide +kernel
theorem dX1_slots_31 : decode cX1_slots 31 = .ok (.iinc 3 1, 3) := by decide +kernel
theorem dX1_slots_34 : decode cX1_slots 34 = .ok (.goto (-30), 3) := by decide +kernel
theorem dX1_slots_37 : decode cX1_slots 37 = .ok (.iload_n 2, 1) := by decide +kernel
theorem dX1_slots_38 : decode cX1_slots 38 = .ok (.ireturn, 1) := by decide +kernel
abbrev cX1_notes : ByteArray := prog_3_method_14_code
def yX1_notes : MethodName := ⟨RX1, "notes", "()I"⟩
theorem dX1_notes_0 : decode cX1_notes 0 = .ok (.aload_n 0, 1) := by decide +kernel
theorem dX1_notes_1 : decode cX1_notes 1 = .ok (.bipush 8, 2) := by decide +kernel
theorem dX1_notes_3 : decode cX1_notes 3 = .ok (.invokevirtual 45, 3) := by decide +kernel
theorem dX1_notes_6 : decode cX1_notes 6 = .ok (.ireturn, 1) := by decide +kernel
abbrev cX1_events : ByteArray := prog_3_method_15_code
def yX1_events : MethodName := ⟨RX1, "events", "()I"⟩
theorem dX1_events_0 : decode cX1_events 0 = .ok (.aload_n 0, 1) := by decide +kernel
theorem dX1_events_1 : decode cX1_events 1 = .ok (.getfield 32, 3) := by decide +kernel
theorem dX1_events_4 : decode cX1_events 4 = .ok (.ireturn, 1) := by decide +kernel
abbrev cX1_cells : ByteArray := prog_3_method_16_code
def yX1_cells : MethodName := ⟨RX1, "cells", "(I)I"⟩
theorem dX1_cells_0 : decode cX1_cells 0 = .ok (.aload_n 0, 1) := by decide +kernel
theorem dX1_cells_1 : decode cX1_cells 1 = .ok (.iload_n 1, 1) := by decide +kernel
theorem dX1_cells_2 : decode cX1_cells 2 = .ok (.invokevirtual 24, 3) := by decide +kernel
theorem dX1_cells_5 : decode cX1_cells 5 = .ok (.ifCond .eq 16, 3) := by decide +kernel
theorem dX1_cells_8 : decode cX1_cells 8 = .ok (.aload_n 0, 1) := by decide +kernel
theorem dX1_cells_9 : decode cX1_cells 9 = .ok (.aload_n 0, 1) := by decide +kernel
theorem dX1_cells_10 : decode cX1_cells 10 = .ok (.getfield 20, 3) := by decide +kernel
theorem dX1_cells_13 : decode cX1_cells 13 = .ok (.iload_n 1, 1) := by decide +kernel
theorem dX1_cells_14 : decode cX1_cells 14 = .ok (.iaload, 1) := by decide +kernel
theorem dX1_cells_15 : decode cX1_cells 15 = .ok (.invokevirtual 28, 3) := by decide +kernel
theorem dX1_cells_18 : decode cX1_cells 18 = .ok (.goto 4, 3) := by decide +kernel
theorem dX1_cells_21 : decode cX1_cells 21 = .ok (.iconst (-1), 1) := by decide +kernel
theorem dX1_cells_22 : decode cX1_cells 22 = .ok (.ireturn, 1) := by decide +kernel
abbrev cX1_compare : ByteArray := prog_3_method_17_code
def yX1_compare : MethodName := ⟨RX1, "compare", "(II)I"⟩
theorem dX1_compare_0 : decode cX1_compare 0 = .ok (.aload_n 0, 1) := by decide +kernel
theorem dX1_compare_1 : decode cX1_compare 1 = .ok (.iload_n 1, 1) := by decide +kernel
theorem dX1_compare_2 : decode cX1_compare 2 = .ok (.invokevirtual 38, 3) := by decide +kernel
theorem dX1_compare_5 : decode cX1_compare 5 = .ok (.ifCond .eq 11, 3) := by decide +kernel
theorem dX1_compare_8 : decode cX1_compare 8 = .ok (.aload_n 0, 1) := by decide +kernel
theorem dX1_compare_9 : decode cX1_compare 9 = .ok (.iload_n 2, 1) := by decide +kernel
theorem dX1_compare_10 : decode cX1_compare 10 = .ok (.invokevirtual 38, 3) := by decide +kernel
theorem dX1_compare_13 : decode cX1_compare 13 = .ok (.ifCond .ne 5, 3) := by decide +kernel
theorem dX1_compare_16 : decode cX1_compare 16 = .ok (.iconst (-1), 1) := by decide +kernel
theorem dX1_compare_17 : decode cX1_compare 17 = .ok (.ireturn, 1) := by decide +kernel
theorem dX1_compare_18 : decode cX1_compare 18 = .ok (.aload_n 0, 1) := by decide +kernel
theorem dX1_compare_19 : decode cX1_compare 19 = .ok (.iload_n 1, 1) := by decide +kernel
theorem dX1_compare_20 : decode cX1_compare 20 = .ok (.iload_n 2, 1) := by decide +kernel
theorem dX1_compare_21 : decode cX1_compare 21 = .ok (.invokevirtual 41, 3) := by decide +kernel
theorem dX1_compare_24 : decode cX1_compare 24 = .ok (.istore_n 3, 1) := by decide +kernel
theorem dX1_compare_25 : decode cX1_compare 25 = .ok (.aload_n 0, 1) := by decide +kernel
theorem dX1_compare_26 : decode cX1_compare 26 = .ok (.iload_n 2, 1) := by decide +kernel
theorem dX1_compare_27 : decode cX1_compare 27 = .ok (.iload_n 1, 1) := by decide +kernel
theorem dX1_compare_28 : decode cX1_compare 28 = .ok (.invokevirtual 41, 3) := by decide +kernel
theorem dX1_compare_31 : decode cX1_compare 31 = .ok (.istore 4, 2) := by decide +kernel
theorem dX1_compare_33 : decode cX1_compare 33 = .ok (.iload_n 3, 1) := by decide +kernel
theorem dX1_compare_34 : decode cX1_compare 34 = .ok (.ifCond .eq 12, 3) := by decide +kernel
theorem dX1_compare_37 : decode cX1_compare 37 = .ok (.iload 4, 2) := by decide +kernel
theorem dX1_compare_39 : decode cX1_compare 39 = .ok (.ifCond .eq 7, 3) := by decide +kernel
theorem dX1_compare_42 : decode cX1_compare 42 = .ok (.iconst 0, 1) := by decide +kernel
theorem dX1_compare_43 : decode cX1_compare 43 = .ok (.goto 21, 3) := by decide +kernel
theorem dX1_compare_46 : decode cX1_compare 46 = .ok (.iload_n 3, 1) := by decide +kernel
theorem dX1_compare_47 : decode cX1_compare 47 = .ok (.ifCond .eq 7, 3) := by decide +kernel
theorem dX1_compare_50 : decode cX1_compare 50 = .ok (.iconst 1, 1) := by decide +kernel
theorem dX1_compare_51 : decode cX1_compare 51 = .ok (.goto 13, 3) := by decide +kernel
theorem dX1_compare_54 : decode cX1_compare 54 = .ok (.iload 4, 2) := by decide +kernel
theorem dX1_compare_56 : decode cX1_compare 56 = .ok (.ifCond .eq 7, 3) := by decide +kernel
theorem dX1_compare_59 : decode cX1_compare 59 = .ok (.iconst 2, 1) := by decide +kernel
theorem dX1_compare_60 : decode cX1_compare 60 = .ok (.goto 4, 3) := by decide +kernel
theorem dX1_compare_63 : decode cX1_compare 63 = .ok (.iconst 3, 1) := by decide +kernel
theorem dX1_compare_64 : decode cX1_compare 64 = .ok (.ireturn, 1) := by decide +kernel
abbrev cX1_behind : ByteArray := prog_3_method_18_code
def yX1_behind : MethodName := ⟨RX1, "behind", "(I)I"⟩
theorem dX1_behind_0 : decode cX1_behind 0 = .ok (.iconst 0, 1) := by decide +kernel
theorem dX1_behind_1 : decode cX1_behind 1 = .ok (.istore_n 2, 1) := by decide +kernel
theorem dX1_behind_2 : decode cX1_behind 2 = .ok (.iconst 0, 1) := by decide +kernel
theorem dX1_behind_3 : decode cX1_behind 3 = .ok (.istore_n 3, 1) := by decide +kernel
theorem dX1_behind_4 : decode cX1_behind 4 = .ok (.iload_n 3, 1) := by decide +kernel
theorem dX1_behind_5 : decode cX1_behind 5 = .ok (.bipush 16, 2) := by decide +kernel
theorem dX1_behind_7 : decode cX1_behind 7 = .ok (.if_icmp .ge 45, 3) := by decide +kernel
theorem dX1_behind_10 : decode cX1_behind 10 = .ok (.aload_n 0, 1) := by decide +kernel
theorem dX1_behind_11 : decode cX1_behind 11 = .ok (.iload_n 1, 1) := by decide +kernel
theorem dX1_behind_12 : decode cX1_behind 12 = .ok (.invokevirtual 38, 3) := by decide +kernel
theorem dX1_behind_15 : decode cX1_behind 15 = .ok (.ifCond .eq 37, 3) := by decide +kernel
theorem dX1_behind_18 : decode cX1_behind 18 = .ok (.aload_n 0, 1) := by decide +kernel
theorem dX1_behind_19 : decode cX1_behind 19 = .ok (.getfield 7, 3) := by decide +kernel
theorem dX1_behind_22 : decode cX1_behind 22 = .ok (.iload_n 3, 1) := by decide +kernel
theorem dX1_behind_23 : decode cX1_behind 23 = .ok (.baload, 1) := by decide +kernel
theorem dX1_behind_24 : decode cX1_behind 24 = .ok (.ifCond .eq 20, 3) := by decide +kernel
theorem dX1_behind_27 : decode cX1_behind 27 = .ok (.aload_n 0, 1) := by decide +kernel
theorem dX1_behind_28 : decode cX1_behind 28 = .ok (.iload_n 3, 1) := by decide +kernel
theorem dX1_behind_29 : decode cX1_behind 29 = .ok (.iload_n 1, 1) := by decide +kernel
theorem dX1_behind_30 : decode cX1_behind 30 = .ok (.invokevirtual 41, 3) := by decide +kernel
theorem dX1_behind_33 : decode cX1_behind 33 = .ok (.ifCond .eq 11, 3) := by decide +kernel
theorem dX1_behind_36 : decode cX1_behind 36 = .ok (.iload_n 2, 1) := by decide +kernel
theorem dX1_behind_37 : decode cX1_behind 37 = .ok (.iconst 1, 1) := by decide +kernel
theorem dX1_behind_38 : decode cX1_behind 38 = .ok (.iload_n 3, 1) := by decide +kernel
theorem dX1_behind_39 : decode cX1_behind 39 = .ok (.ishl, 1) := by decide +kernel
theorem dX1_behind_40 : decode cX1_behind 40 = .ok (.ior, 1) := by decide +kernel
theorem dX1_behind_41 : decode cX1_behind 41 = .ok (.goto 4, 3) := by decide +kernel
theorem dX1_behind_44 : decode cX1_behind 44 = .ok (.iload_n 2, 1) := by decide +kernel
theorem dX1_behind_45 : decode cX1_behind 45 = .ok (.istore_n 2, 1) := by decide +kernel
theorem dX1_behind_46 : decode cX1_behind 46 = .ok (.iinc 3 1, 3) := by decide +kernel
theorem dX1_behind_49 : decode cX1_behind 49 = .ok (.goto (-45), 3) := by decide +kernel
theorem dX1_behind_52 : decode cX1_behind 52 = .ok (.iload_n 2, 1) := by decide +kernel
theorem dX1_behind_53 : decode cX1_behind 53 = .ok (.ireturn, 1) := by decide +kernel
abbrev cX1_newest : ByteArray := prog_3_method_19_code
def yX1_newest : MethodName := ⟨RX1, "newest", "()I"⟩
theorem dX1_newest_0 : decode cX1_newest 0 = .ok (.iconst 0, 1) := by decide +kernel
theorem dX1_newest_1 : decode cX1_newest 1 = .ok (.istore_n 1, 1) := by decide +kernel
theorem dX1_newest_2 : decode cX1_newest 2 = .ok (.iconst 0, 1) := by decide +kernel
theorem dX1_newest_3 : decode cX1_newest 3 = .ok (.istore_n 2, 1) := by decide +kernel
theorem dX1_newest_4 : decode cX1_newest 4 = .ok (.iload_n 2, 1) := by decide +kernel
theorem dX1_newest_5 : decode cX1_newest 5 = .ok (.bipush 16, 2) := by decide +kernel
theorem dX1_newest_7 : decode cX1_newest 7 = .ok (.if_icmp .ge 86, 3) := by decide +kernel
theorem dX1_newest_10 : decode cX1_newest 10 = .ok (.aload_n 0, 1) := by decide +kernel
theorem dX1_newest_11 : decode cX1_newest 11 = .ok (.getfield 7, 3) := by decide +kernel
theorem dX1_newest_14 : decode cX1_newest 14 = .ok (.iload_n 2, 1) := by decide +kernel
theorem dX1_newest_15 : decode cX1_newest 15 = .ok (.baload, 1) := by decide +kernel
theorem dX1_newest_16 : decode cX1_newest 16 = .ok (.istore_n 3, 1) := by decide +kernel
theorem dX1_newest_17 : decode cX1_newest 17 = .ok (.iconst 0, 1) := by decide +kernel
theorem dX1_newest_18 : decode cX1_newest 18 = .ok (.istore 4, 2) := by decide +kernel
theorem dX1_newest_20 : decode cX1_newest 20 = .ok (.iload 4, 2) := by decide +kernel
theorem dX1_newest_22 : decode cX1_newest 22 = .ok (.bipush 16, 2) := by decide +kernel
theorem dX1_newest_24 : decode cX1_newest 24 = .ok (.if_icmp .ge 49, 3) := by decide +kernel
theorem dX1_newest_27 : decode cX1_newest 27 = .ok (.iload_n 3, 1) := by decide +kernel
theorem dX1_newest_28 : decode cX1_newest 28 = .ok (.ifCond .eq 37, 3) := by decide +kernel
theorem dX1_newest_31 : decode cX1_newest 31 = .ok (.aload_n 0, 1) := by decide +kernel
theorem dX1_newest_32 : decode cX1_newest 32 = .ok (.getfield 7, 3) := by decide +kernel
theorem dX1_newest_35 : decode cX1_newest 35 = .ok (.iload 4, 2) := by decide +kernel
theorem dX1_newest_37 : decode cX1_newest 37 = .ok (.baload, 1) := by decide +kernel
theorem dX1_newest_38 : decode cX1_newest 38 = .ok (.ifCond .eq 23, 3) := by decide +kernel
theorem dX1_newest_41 : decode cX1_newest 41 = .ok (.aload_n 0, 1) := by decide +kernel
theorem dX1_newest_42 : decode cX1_newest 42 = .ok (.iload_n 2, 1) := by decide +kernel
theorem dX1_newest_43 : decode cX1_newest 43 = .ok (.iload 4, 2) := by decide +kernel
theorem dX1_newest_45 : decode cX1_newest 45 = .ok (.invokevirtual 41, 3) := by decide +kernel
theorem dX1_newest_48 : decode cX1_newest 48 = .ok (.ifCond .eq 13, 3) := by decide +kernel
theorem dX1_newest_51 : decode cX1_newest 51 = .ok (.aload_n 0, 1) := by decide +kernel
theorem dX1_newest_52 : decode cX1_newest 52 = .ok (.iload 4, 2) := by decide +kernel
theorem dX1_newest_54 : decode cX1_newest 54 = .ok (.iload_n 2, 1) := by decide +kernel
theorem dX1_newest_55 : decode cX1_newest 55 = .ok (.invokevirtual 41, 3) := by decide +kernel
theorem dX1_newest_58 : decode cX1_newest 58 = .ok (.ifCond .eq 7, 3) := by decide +kernel
theorem dX1_newest_61 : decode cX1_newest 61 = .ok (.iconst 1, 1) := by decide +kernel
theorem dX1_newest_62 : decode cX1_newest 62 = .ok (.goto 4, 3) := by decide +kernel
theorem dX1_newest_65 : decode cX1_newest 65 = .ok (.iconst 0, 1) := by decide +kernel
theorem dX1_newest_66 : decode cX1_newest 66 = .ok (.istore_n 3, 1) := by decide +kernel
theorem dX1_newest_67 : decode cX1_newest 67 = .ok (.iinc 4 1, 3) := by decide +kernel
theorem dX1_newest_70 : decode cX1_newest 70 = .ok (.goto (-50), 3) := by decide +kernel
theorem dX1_newest_73 : decode cX1_newest 73 = .ok (.iload_n 3, 1) := by decide +kernel
theorem dX1_newest_74 : decode cX1_newest 74 = .ok (.ifCond .eq 11, 3) := by decide +kernel
theorem dX1_newest_77 : decode cX1_newest 77 = .ok (.iload_n 1, 1) := by decide +kernel
theorem dX1_newest_78 : decode cX1_newest 78 = .ok (.iconst 1, 1) := by decide +kernel
theorem dX1_newest_79 : decode cX1_newest 79 = .ok (.iload_n 2, 1) := by decide +kernel
theorem dX1_newest_80 : decode cX1_newest 80 = .ok (.ishl, 1) := by decide +kernel
theorem dX1_newest_81 : decode cX1_newest 81 = .ok (.ior, 1) := by decide +kernel
theorem dX1_newest_82 : decode cX1_newest 82 = .ok (.goto 4, 3) := by decide +kernel
theorem dX1_newest_85 : decode cX1_newest 85 = .ok (.iload_n 1, 1) := by decide +kernel
theorem dX1_newest_86 : decode cX1_newest 86 = .ok (.istore_n 1, 1) := by decide +kernel
theorem dX1_newest_87 : decode cX1_newest 87 = .ok (.iinc 2 1, 3) := by decide +kernel
theorem dX1_newest_90 : decode cX1_newest 90 = .ok (.goto (-86), 3) := by decide +kernel
theorem dX1_newest_93 : decode cX1_newest 93 = .ok (.iload_n 1, 1) := by decide +kernel
theorem dX1_newest_94 : decode cX1_newest 94 = .ok (.ireturn, 1) := by decide +kernel
abbrev cX1_everywhere : ByteArray := prog_3_method_20_code
def yX1_everywhere : MethodName := ⟨RX1, "everywhere", "(I)Z"⟩
theorem dX1_everywhere_0 : decode cX1_everywhere 0 = .ok (.iload_n 1, 1) := by decide +kernel
theorem dX1_everywhere_1 : decode cX1_everywhere 1 = .ok (.ifCond .lt 25, 3) := by decide +kernel
theorem dX1_everywhere_4 : decode cX1_everywhere 4 = .ok (.iload_n 1, 1) := by decide +kernel
theorem dX1_everywhere_5 : decode cX1_everywhere 5 = .ok (.bipush 7, 2) := by decide +kernel
theorem dX1_everywhere_7 : decode cX1_everywhere 7 = .ok (.if_icmp .gt 19, 3) := by decide +kernel
theorem dX1_everywhere_10 : decode cX1_everywhere 10 = .ok (.aload_n 0, 1) := by decide +kernel
theorem dX1_everywhere_11 : decode cX1_everywhere 11 = .ok (.getfield 7, 3) := by decide +kernel
theorem dX1_everywhere_14 : decode cX1_everywhere 14 = .ok (.bipush 8, 2) := by decide +kernel
theorem dX1_everywhere_16 : decode cX1_everywhere 16 = .ok (.iload_n 1, 1) := by decide +kernel
theorem dX1_everywhere_17 : decode cX1_everywhere 17 = .ok (.iadd, 1) := by decide +kernel
theorem dX1_everywhere_18 : decode cX1_everywhere 18 = .ok (.baload, 1) := by decide +kernel
theorem dX1_everywhere_19 : decode cX1_everywhere 19 = .ok (.ifCond .eq 7, 3) := by decide +kernel
theorem dX1_everywhere_22 : decode cX1_everywhere 22 = .ok (.iconst 1, 1) := by decide +kernel
theorem dX1_everywhere_23 : decode cX1_everywhere 23 = .ok (.goto 4, 3) := by decide +kernel
theorem dX1_everywhere_26 : decode cX1_everywhere 26 = .ok (.iconst 0, 1) := by decide +kernel
theorem dX1_everywhere_27 : decode cX1_everywhere 27 = .ok (.istore_n 2, 1) := by decide +kernel
theorem dX1_everywhere_28 : decode cX1_everywhere 28 = .ok (.iconst 0, 1) := by decide +kernel
theorem dX1_everywhere_29 : decode cX1_everywhere 29 = .ok (.istore_n 3, 1) := by decide +kernel
theorem dX1_everywhere_30 : decode cX1_everywhere 30 = .ok (.iload_n 3, 1) := by decide +kernel
theorem dX1_everywhere_31 : decode cX1_everywhere 31 = .ok (.bipush 8, 2) := by decide +kernel
theorem dX1_everywhere_33 : decode cX1_everywhere 33 = .ok (.if_icmp .ge 40, 3) := by decide +kernel
theorem dX1_everywhere_36 : decode cX1_everywhere 36 = .ok (.iload_n 2, 1) := by decide +kernel
theorem dX1_everywhere_37 : decode cX1_everywhere 37 = .ok (.ifCond .eq 36, 3) := by decide +kernel
theorem dX1_everywhere_40 : decode cX1_everywhere 40 = .ok (.aload_n 0, 1) := by decide +kernel
theorem dX1_everywhere_41 : decode cX1_everywhere 41 = .ok (.getfield 7, 3) := by decide +kernel
theorem dX1_everywhere_44 : decode cX1_everywhere 44 = .ok (.iload_n 3, 1) := by decide +kernel
theorem dX1_everywhere_45 : decode cX1_everywhere 45 = .ok (.baload, 1) := by decide +kernel
theorem dX1_everywhere_46 : decode cX1_everywhere 46 = .ok (.ifCond .eq 15, 3) := by decide +kernel
theorem dX1_everywhere_49 : decode cX1_everywhere 49 = .ok (.aload_n 0, 1) := by decide +kernel
theorem dX1_everywhere_50 : decode cX1_everywhere 50 = .ok (.bipush 8, 2) := by decide +kernel
theorem dX1_everywhere_52 : decode cX1_everywhere 52 = .ok (.iload_n 1, 1) := by decide +kernel
theorem dX1_everywhere_53 : decode cX1_everywhere 53 = .ok (.iadd, 1) := by decide +kernel
theorem dX1_everywhere_54 : decode cX1_everywhere 54 = .ok (.iload_n 3, 1) := by decide +kernel
theorem dX1_everywhere_55 : decode cX1_everywhere 55 = .ok (.invokevirtual 41, 3) := by decide +kernel
theorem dX1_everywhere_58 : decode cX1_everywhere 58 = .ok (.ifCond .eq 7, 3) := by decide +kernel
theorem dX1_everywhere_61 : decode cX1_everywhere 61 = .ok (.iconst 1, 1) := by decide +kernel
theorem dX1_everywhere_62 : decode cX1_everywhere 62 = .ok (.goto 4, 3) := by decide +kernel
theorem dX1_everywhere_65 : decode cX1_everywhere 65 = .ok (.iconst 0, 1) := by decide +kernel
theorem dX1_everywhere_66 : decode cX1_everywhere 66 = .ok (.istore_n 2, 1) := by decide +kernel
theorem dX1_everywhere_67 : decode cX1_everywhere 67 = .ok (.iinc 3 1, 3) := by decide +kernel
theorem dX1_everywhere_70 : decode cX1_everywhere 70 = .ok (.goto (-40), 3) := by decide +kernel
theorem dX1_everywhere_73 : decode cX1_everywhere 73 = .ok (.iload_n 2, 1) := by decide +kernel
theorem dX1_everywhere_74 : decode cX1_everywhere 74 = .ok (.ireturn, 1) := by decide +kernel
abbrev cX1_apartPairs : ByteArray := prog_3_method_21_code
def yX1_apartPairs : MethodName := ⟨RX1, "apartPairs", "()I"⟩
theorem dX1_apartPairs_0 : decode cX1_apartPairs 0 = .ok (.iconst 0, 1) := by decide +kernel
theorem dX1_apartPairs_1 : decode cX1_apartPairs 1 = .ok (.istore_n 1, 1) := by decide +kernel
theorem dX1_apartPairs_2 : decode cX1_apartPairs 2 = .ok (.iconst 0, 1) := by decide +kernel
theorem dX1_apartPairs_3 : decode cX1_apartPairs 3 = .ok (.istore_n 2, 1) := by decide +kernel
theorem dX1_apartPairs_4 : decode cX1_apartPairs 4 = .ok (.iload_n 2, 1) := by decide +kernel
theorem dX1_apartPairs_5 : decode cX1_apartPairs 5 = .ok (.sipush 256, 3) := by decide +kernel
theorem dX1_apartPairs_8 : decode cX1_apartPairs 8 = .ok (.if_icmp .ge 44, 3) := by decide +kernel
theorem dX1_apartPairs_11 : decode cX1_apartPairs 11 = .ok (.iload_n 2, 1) := by decide +kernel
theorem dX1_apartPairs_12 : decode cX1_apartPairs 12 = .ok (.bipush 16, 2) := by decide +kernel
theorem dX1_apartPairs_14 : decode cX1_apartPairs 14 = .ok (.idiv, 1) := by decide +kernel
theorem dX1_apartPairs_15 : decode cX1_apartPairs 15 = .ok (.iload_n 2, 1) := by decide +kernel
theorem dX1_apartPairs_16 : decode cX1_apartPairs 16 = .ok (.bipush 16, 2) := by decide +kernel
theorem dX1_apartPairs_18 : decode cX1_apartPairs 18 = .ok (.irem, 1) := by decide +kernel
theorem dX1_apartPairs_19 : decode cX1_apartPairs 19 = .ok (.if_icmp .ge 25, 3) := by decide +kernel
theorem dX1_apartPairs_22 : decode cX1_apartPairs 22 = .ok (.aload_n 0, 1) := by decide +kernel
theorem dX1_apartPairs_23 : decode cX1_apartPairs 23 = .ok (.iload_n 2, 1) := by decide +kernel
theorem dX1_apartPairs_24 : decode cX1_apartPairs 24 = .ok (.bipush 16, 2) := by decide +kernel
theorem dX1_apartPairs_26 : decode cX1_apartPairs 26 = .ok (.idiv, 1) := by decide +kernel
theorem dX1_apartPairs_27 : decode cX1_apartPairs 27 = .ok (.iload_n 2, 1) := by decide +kernel
theorem dX1_apartPairs_28 : decode cX1_apartPairs 28 = .ok (.bipush 16, 2) := by decide +kernel
theorem dX1_apartPairs_30 : decode cX1_apartPairs 30 = .ok (.irem, 1) := by decide +kernel
theorem dX1_apartPairs_31 : decode cX1_apartPairs 31 = .ok (.invokevirtual 48, 3) := by decide +kernel
theorem dX1_apartPairs_34 : decode cX1_apartPairs 34 = .ok (.iconst 3, 1) := by decide +kernel
theorem dX1_apartPairs_35 : decode cX1_apartPairs 35 = .ok (.if_icmp .ne 9, 3) := by decide +kernel
theorem dX1_apartPairs_38 : decode cX1_apartPairs 38 = .ok (.iload_n 1, 1) := by decide +kernel
theorem dX1_apartPairs_39 : decode cX1_apartPairs 39 = .ok (.iconst 1, 1) := by decide +kernel
theorem dX1_apartPairs_40 : decode cX1_apartPairs 40 = .ok (.iadd, 1) := by decide +kernel
theorem dX1_apartPairs_41 : decode cX1_apartPairs 41 = .ok (.goto 4, 3) := by decide +kernel
theorem dX1_apartPairs_44 : decode cX1_apartPairs 44 = .ok (.iload_n 1, 1) := by decide +kernel
theorem dX1_apartPairs_45 : decode cX1_apartPairs 45 = .ok (.istore_n 1, 1) := by decide +kernel
theorem dX1_apartPairs_46 : decode cX1_apartPairs 46 = .ok (.iinc 2 1, 3) := by decide +kernel
theorem dX1_apartPairs_49 : decode cX1_apartPairs 49 = .ok (.goto (-45), 3) := by decide +kernel
theorem dX1_apartPairs_52 : decode cX1_apartPairs 52 = .ok (.iload_n 1, 1) := by decide +kernel
theorem dX1_apartPairs_53 : decode cX1_apartPairs 53 = .ok (.ireturn, 1) := by decide +kernel
theorem q13 : (Jvm.Cond.initialized "IntervalClocksModel") ∈ lw_all := lw_g (lw_at lw_m0 2 rfl) rfl
theorem q129 : (Jvm.Cond.instantiable "IntervalClocksModel" (5 : Nat)) ∈ lw_all := lw_g (lw_at lw_m0 118 rfl) rfl
theorem q131 : (Jvm.Cond.instanceMethod ({ cls := "IntervalClocksModel", name := "<init>", desc := "()V" } : Jvm.MethodName)) ∈ lw_all := lw_g (lw_at lw_m0 120 rfl) rfl
theorem q132 : (Jvm.Cond.code ({ cls := "IntervalClocksModel", name := "<init>", desc := "()V" } : Jvm.MethodName) prog_3_method_1_code (1 : Nat) (Option.none : Option Jvm.ClassFile.FieldType)) ∈ lw_all := lw_g (lw_at lw_m0 121 rfl) rfl
theorem q133 : (Jvm.Cond.methodLink "IntervalClocksModel" (1 : Nat) ({ cls := "java/lang/Object", name := "<init>", desc := "()V" } : Jvm.MethodName)) ∈ lw_all := lw_g (lw_at lw_m0 122 rfl) rfl
theorem q134 : (Jvm.Cond.fieldLink "IntervalClocksModel" (7 : Nat) "IntervalClocksModel" "there" "[Z") ∈ lw_all := lw_g (lw_at lw_m0 123 rfl) rfl
theorem q135 : (Jvm.Cond.fieldLink "IntervalClocksModel" (13 : Nat) "IntervalClocksModel" "low" "[J") ∈ lw_all := lw_g (lw_at lw_m0 124 rfl) rfl
theorem q136 : (Jvm.Cond.fieldLink "IntervalClocksModel" (17 : Nat) "IntervalClocksModel" "high" "[J") ∈ lw_all := lw_g (lw_at lw_m0 125 rfl) rfl
theorem q137 : (Jvm.Cond.fieldLink "IntervalClocksModel" (20 : Nat) "IntervalClocksModel" "had" "[I") ∈ lw_all := lw_g (lw_at lw_m0 126 rfl) rfl
theorem q138 : (Jvm.Cond.fieldLink "IntervalClocksModel" (32 : Nat) "IntervalClocksModel" "happened" "I") ∈ lw_all := lw_g (lw_at lw_m0 127 rfl) rfl
theorem q139 : (Jvm.Cond.lays "IntervalClocksModel" "IntervalClocksModel" "there" "[Z") ∈ lw_all := lw_g (lw_at lw_m0 128 rfl) rfl
theorem q140 : (Jvm.Cond.soleField "IntervalClocksModel" "there") ∈ lw_all := lw_g (lw_at lw_m0 129 rfl) rfl
theorem q141 : (Jvm.Cond.lays "IntervalClocksModel" "IntervalClocksModel" "low" "[J") ∈ lw_all := lw_g (lw_at lw_m0 130 rfl) rfl
theorem q142 : (Jvm.Cond.soleField "IntervalClocksModel" "low") ∈ lw_all := lw_g (lw_at lw_m0 131 rfl) rfl
theorem q143 : (Jvm.Cond.lays "IntervalClocksModel" "IntervalClocksModel" "high" "[J") ∈ lw_all := lw_g (lw_at lw_m0 132 rfl) rfl
theorem q144 : (Jvm.Cond.soleField "IntervalClocksModel" "high") ∈ lw_all := lw_g (lw_at lw_m0 133 rfl) rfl
theorem q145 : (Jvm.Cond.lays "IntervalClocksModel" "IntervalClocksModel" "had" "[I") ∈ lw_all := lw_g (lw_at lw_m0 134 rfl) rfl
theorem q146 : (Jvm.Cond.soleField "IntervalClocksModel" "had") ∈ lw_all := lw_g (lw_at lw_m0 135 rfl) rfl
theorem q147 : (Jvm.Cond.lays "IntervalClocksModel" "IntervalClocksModel" "happened" "I") ∈ lw_all := lw_g (lw_at lw_m0 136 rfl) rfl
theorem q148 : (Jvm.Cond.soleField "IntervalClocksModel" "happened") ∈ lw_all := lw_g (lw_at lw_m0 137 rfl) rfl
theorem q149 : (Jvm.Cond.superclass "IntervalClocksModel" "java/lang/Object") ∈ lw_all := lw_g (lw_at lw_m0 138 rfl) rfl
theorem q153 : (Jvm.Cond.instanceMethod ({ cls := "IntervalClocksModel", name := "split", desc := "(I)I" } : Jvm.MethodName)) ∈ lw_all := lw_g (lw_at lw_m0 142 rfl) rfl
theorem q154 : (Jvm.Cond.selects "IntervalClocksModel" ({ cls := "IntervalClocksModel", name := "split", desc := "(I)I" } : Jvm.MethodName) ({ cls := "IntervalClocksModel", name := "split", desc := "(I)I" } : Jvm.MethodName)) ∈ lw_all := lw_g (lw_at lw_m0 143 rfl) rfl
theorem q155 : (Jvm.Cond.code ({ cls := "IntervalClocksModel", name := "split", desc := "(I)I" } : Jvm.MethodName) prog_3_method_5_code (6 : Nat) (Option.some Jvm.ClassFile.FieldType.int)) ∈ lw_all := lw_g (lw_at lw_m0 144 rfl) rfl
theorem q156 : (Jvm.Cond.methodLink "IntervalClocksModel" (24 : Nat) ({ cls := "IntervalClocksModel", name := "party", desc := "(I)Z" } : Jvm.MethodName)) ∈ lw_all := lw_g (lw_at lw_m0 145 rfl) rfl
theorem q157 : (Jvm.Cond.privateMethod ({ cls := "IntervalClocksModel", name := "party", desc := "(I)Z" } : Jvm.MethodName)) ∈ lw_tbl := lw_at lw_m0 146 rfl
theorem q158 : (Jvm.Cond.instanceMethod ({ cls := "IntervalClocksModel", name := "party", desc := "(I)Z" } : Jvm.MethodName)) ∈ lw_all := lw_g (lw_at lw_m0 147 rfl) rfl
theorem q159 : (Jvm.Cond.code ({ cls := "IntervalClocksModel", name := "party", desc := "(I)Z" } : Jvm.MethodName) prog_3_method_2_code (2 : Nat) (Option.some Jvm.ClassFile.FieldType.boolean)) ∈ lw_all := lw_g (lw_at lw_m0 148 rfl) rfl
theorem q160 : (Jvm.Cond.methodLink "IntervalClocksModel" (28 : Nat) ({ cls := "IntervalClocksModel", name := "count", desc := "(I)I" } : Jvm.MethodName)) ∈ lw_all := lw_g (lw_at lw_m0 149 rfl) rfl
theorem q161 : (Jvm.Cond.privateMethod ({ cls := "IntervalClocksModel", name := "count", desc := "(I)I" } : Jvm.MethodName)) ∈ lw_tbl := lw_at lw_m0 150 rfl
theorem q162 : (Jvm.Cond.instanceMethod ({ cls := "IntervalClocksModel", name := "count", desc := "(I)I" } : Jvm.MethodName)) ∈ lw_all := lw_g (lw_at lw_m0 151 rfl) rfl
theorem q163 : (Jvm.Cond.code ({ cls := "IntervalClocksModel", name := "count", desc := "(I)I" } : Jvm.MethodName) prog_3_method_4_code (4 : Nat) (Option.some Jvm.ClassFile.FieldType.int)) ∈ lw_all := lw_g (lw_at lw_m0 152 rfl) rfl
theorem q165 : (Jvm.Cond.instanceMethod ({ cls := "IntervalClocksModel", name := "join", desc := "(II)I" } : Jvm.MethodName)) ∈ lw_all := lw_g (lw_at lw_m0 154 rfl) rfl
theorem q166 : (Jvm.Cond.selects "IntervalClocksModel" ({ cls := "IntervalClocksModel", name := "join", desc := "(II)I" } : Jvm.MethodName) ({ cls := "IntervalClocksModel", name := "join", desc := "(II)I" } : Jvm.MethodName)) ∈ lw_all := lw_g (lw_at lw_m0 155 rfl) rfl
theorem q167 : (Jvm.Cond.code ({ cls := "IntervalClocksModel", name := "join", desc := "(II)I" } : Jvm.MethodName) prog_3_method_6_code (3 : Nat) (Option.some Jvm.ClassFile.FieldType.int)) ∈ lw_all := lw_g (lw_at lw_m0 156 rfl) rfl
theorem q169 : (Jvm.Cond.instanceMethod ({ cls := "IntervalClocksModel", name := "event", desc := "(I)I" } : Jvm.MethodName)) ∈ lw_all := lw_g (lw_at lw_m0 158 rfl) rfl
theorem q170 : (Jvm.Cond.selects "IntervalClocksModel" ({ cls := "IntervalClocksModel", name := "event", desc := "(I)I" } : Jvm.MethodName) ({ cls := "IntervalClocksModel", name := "event", desc := "(I)I" } : Jvm.MethodName)) ∈ lw_all := lw_g (lw_at lw_m0 159 rfl) rfl
theorem q171 : (Jvm.Cond.code ({ cls := "IntervalClocksModel", name := "event", desc := "(I)I" } : Jvm.MethodName) prog_3_method_7_code (2 : Nat) (Option.some Jvm.ClassFile.FieldType.int)) ∈ lw_all := lw_g (lw_at lw_m0 160 rfl) rfl
theorem q173 : (Jvm.Cond.instanceMethod ({ cls := "IntervalClocksModel", name := "tell", desc := "(II)I" } : Jvm.MethodName)) ∈ lw_all := lw_g (lw_at lw_m0 162 rfl) rfl
theorem q174 : (Jvm.Cond.selects "IntervalClocksModel" ({ cls := "IntervalClocksModel", name := "tell", desc := "(II)I" } : Jvm.MethodName) ({ cls := "IntervalClocksModel", name := "tell", desc := "(II)I" } : Jvm.MethodName)) ∈ lw_all := lw_g (lw_at lw_m0 163 rfl) rfl
theorem q175 : (Jvm.Cond.code ({ cls := "IntervalClocksModel", name := "tell", desc := "(II)I" } : Jvm.MethodName) prog_3_method_9_code (4 : Nat) (Option.some Jvm.ClassFile.FieldType.int)) ∈ lw_all := lw_g (lw_at lw_m0 164 rfl) rfl
theorem q176 : (Jvm.Cond.methodLink "IntervalClocksModel" (38 : Nat) ({ cls := "IntervalClocksModel", name := "is", desc := "(I)Z" } : Jvm.MethodName)) ∈ lw_all := lw_g (lw_at lw_m0 165 rfl) rfl
theorem q177 : (Jvm.Cond.privateMethod ({ cls := "IntervalClocksModel", name := "is", desc := "(I)Z" } : Jvm.MethodName)) ∈ lw_tbl := lw_at lw_m0 166 rfl
theorem q178 : (Jvm.Cond.instanceMethod ({ cls := "IntervalClocksModel", name := "is", desc := "(I)Z" } : Jvm.MethodName)) ∈ lw_all := lw_g (lw_at lw_m0 167 rfl) rfl
theorem q179 : (Jvm.Cond.code ({ cls := "IntervalClocksModel", name := "is", desc := "(I)Z" } : Jvm.MethodName) prog_3_method_3_code (2 : Nat) (Option.some Jvm.ClassFile.FieldType.boolean)) ∈ lw_all := lw_g (lw_at lw_m0 168 rfl) rfl
theorem q180 : (Jvm.Cond.methodLink "IntervalClocksModel" (41 : Nat) ({ cls := "IntervalClocksModel", name := "follows", desc := "(II)Z" } : Jvm.MethodName)) ∈ lw_all := lw_g (lw_at lw_m0 169 rfl) rfl
theorem q181 : (Jvm.Cond.privateMethod ({ cls := "IntervalClocksModel", name := "follows", desc := "(II)Z" } : Jvm.MethodName)) ∈ lw_tbl := lw_at lw_m0 170 rfl
theorem q182 : (Jvm.Cond.instanceMethod ({ cls := "IntervalClocksModel", name := "follows", desc := "(II)Z" } : Jvm.MethodName)) ∈ lw_all := lw_g (lw_at lw_m0 171 rfl) rfl
theorem q183 : (Jvm.Cond.code ({ cls := "IntervalClocksModel", name := "follows", desc := "(II)Z" } : Jvm.MethodName) prog_3_method_8_code (3 : Nat) (Option.some Jvm.ClassFile.FieldType.boolean)) ∈ lw_all := lw_g (lw_at lw_m0 172 rfl) rfl
theorem q184 : (Jvm.Cond.constantLong "IntervalClocksModel" (36 : Nat) (-1 : Int64)) ∈ lw_all := lw_g (lw_at lw_m0 173 rfl) rfl
theorem q186 : (Jvm.Cond.instanceMethod ({ cls := "IntervalClocksModel", name := "note", desc := "(II)Z" } : Jvm.MethodName)) ∈ lw_all := lw_g (lw_at lw_m0 175 rfl) rfl
theorem q187 : (Jvm.Cond.selects "IntervalClocksModel" ({ cls := "IntervalClocksModel", name := "note", desc := "(II)Z" } : Jvm.MethodName) ({ cls := "IntervalClocksModel", name := "note", desc := "(II)Z" } : Jvm.MethodName)) ∈ lw_all := lw_g (lw_at lw_m0 176 rfl) rfl
theorem q188 : (Jvm.Cond.code ({ cls := "IntervalClocksModel", name := "note", desc := "(II)Z" } : Jvm.MethodName) prog_3_method_10_code (3 : Nat) (Option.some Jvm.ClassFile.FieldType.boolean)) ∈ lw_all := lw_g (lw_at lw_m0 177 rfl) rfl
theorem q190 : (Jvm.Cond.instanceMethod ({ cls := "IntervalClocksModel", name := "erase", desc := "(I)Z" } : Jvm.MethodName)) ∈ lw_all := lw_g (lw_at lw_m0 179 rfl) rfl
theorem q191 : (Jvm.Cond.selects "IntervalClocksModel" ({ cls := "IntervalClocksModel", name := "erase", desc := "(I)Z" } : Jvm.MethodName) ({ cls := "IntervalClocksModel", name := "erase", desc := "(I)Z" } : Jvm.MethodName)) ∈ lw_all := lw_g (lw_at lw_m0 180 rfl) rfl
theorem q192 : (Jvm.Cond.code ({ cls := "IntervalClocksModel", name := "erase", desc := "(I)Z" } : Jvm.MethodName) prog_3_method_11_code (2 : Nat) (Option.some Jvm.ClassFile.FieldType.boolean)) ∈ lw_all := lw_g (lw_at lw_m0 181 rfl) rfl
theorem q194 : (Jvm.Cond.instanceMethod ({ cls := "IntervalClocksModel", name := "parties", desc := "()I" } : Jvm.MethodName)) ∈ lw_all := lw_g (lw_at lw_m0 183 rfl) rfl
theorem q195 : (Jvm.Cond.selects "IntervalClocksModel" ({ cls := "IntervalClocksModel", name := "parties", desc := "()I" } : Jvm.MethodName) ({ cls := "IntervalClocksModel", name := "parties", desc := "()I" } : Jvm.MethodName)) ∈ lw_all := lw_g (lw_at lw_m0 184 rfl) rfl
theorem q196 : (Jvm.Cond.code ({ cls := "IntervalClocksModel", name := "parties", desc := "()I" } : Jvm.MethodName) prog_3_method_13_code (1 : Nat) (Option.some Jvm.ClassFile.FieldType.int)) ∈ lw_all := lw_g (lw_at lw_m0 185 rfl) rfl
theorem q197 : (Jvm.Cond.methodLink "IntervalClocksModel" (45 : Nat) ({ cls := "IntervalClocksModel", name := "slots", desc := "(I)I" } : Jvm.MethodName)) ∈ lw_all := lw_g (lw_at lw_m0 186 rfl) rfl
theorem q198 : (Jvm.Cond.privateMethod ({ cls := "IntervalClocksModel", name := "slots", desc := "(I)I" } : Jvm.MethodName)) ∈ lw_tbl := lw_at lw_m0 187 rfl
theorem q199 : (Jvm.Cond.instanceMethod ({ cls := "IntervalClocksModel", name := "slots", desc := "(I)I" } : Jvm.MethodName)) ∈ lw_all := lw_g (lw_at lw_m0 188 rfl) rfl
theorem q200 : (Jvm.Cond.code ({ cls := "IntervalClocksModel", name := "slots", desc := "(I)I" } : Jvm.MethodName) prog_3_method_12_code (4 : Nat) (Option.some Jvm.ClassFile.FieldType.int)) ∈ lw_all := lw_g (lw_at lw_m0 189 rfl) rfl
theorem q202 : (Jvm.Cond.instanceMethod ({ cls := "IntervalClocksModel", name := "notes", desc := "()I" } : Jvm.MethodName)) ∈ lw_all := lw_g (lw_at lw_m0 191 rfl) rfl
theorem q203 : (Jvm.Cond.selects "IntervalClocksModel" ({ cls := "IntervalClocksModel", name := "notes", desc := "()I" } : Jvm.MethodName) ({ cls := "IntervalClocksModel", name := "notes", desc := "()I" } : Jvm.MethodName)) ∈ lw_all := lw_g (lw_at lw_m0 192 rfl) rfl
theorem q204 : (Jvm.Cond.code ({ cls := "IntervalClocksModel", name := "notes", desc := "()I" } : Jvm.MethodName) prog_3_method_14_code (1 : Nat) (Option.some Jvm.ClassFile.FieldType.int)) ∈ lw_all := lw_g (lw_at lw_m0 193 rfl) rfl
theorem q206 : (Jvm.Cond.instanceMethod ({ cls := "IntervalClocksModel", name := "events", desc := "()I" } : Jvm.MethodName)) ∈ lw_all := lw_g (lw_at lw_m0 195 rfl) rfl
theorem q207 : (Jvm.Cond.selects "IntervalClocksModel" ({ cls := "IntervalClocksModel", name := "events", desc := "()I" } : Jvm.MethodName) ({ cls := "IntervalClocksModel", name := "events", desc := "()I" } : Jvm.MethodName)) ∈ lw_all := lw_g (lw_at lw_m0 196 rfl) rfl
theorem q208 : (Jvm.Cond.code ({ cls := "IntervalClocksModel", name := "events", desc := "()I" } : Jvm.MethodName) prog_3_method_15_code (1 : Nat) (Option.some Jvm.ClassFile.FieldType.int)) ∈ lw_all := lw_g (lw_at lw_m0 197 rfl) rfl
theorem q210 : (Jvm.Cond.instanceMethod ({ cls := "IntervalClocksModel", name := "cells", desc := "(I)I" } : Jvm.MethodName)) ∈ lw_all := lw_g (lw_at lw_m0 199 rfl) rfl
theorem q211 : (Jvm.Cond.selects "IntervalClocksModel" ({ cls := "IntervalClocksModel", name := "cells", desc := "(I)I" } : Jvm.MethodName) ({ cls := "IntervalClocksModel", name := "cells", desc := "(I)I" } : Jvm.MethodName)) ∈ lw_all := lw_g (lw_at lw_m0 200 rfl) rfl
theorem q212 : (Jvm.Cond.code ({ cls := "IntervalClocksModel", name := "cells", desc := "(I)I" } : Jvm.MethodName) prog_3_method_16_code (2 : Nat) (Option.some Jvm.ClassFile.FieldType.int)) ∈ lw_all := lw_g (lw_at lw_m0 201 rfl) rfl
theorem q214 : (Jvm.Cond.instanceMethod ({ cls := "IntervalClocksModel", name := "compare", desc := "(II)I" } : Jvm.MethodName)) ∈ lw_all := lw_g (lw_at lw_m0 203 rfl) rfl
theorem q215 : (Jvm.Cond.selects "IntervalClocksModel" ({ cls := "IntervalClocksModel", name := "compare", desc := "(II)I" } : Jvm.MethodName) ({ cls := "IntervalClocksModel", name := "compare", desc := "(II)I" } : Jvm.MethodName)) ∈ lw_all := lw_g (lw_at lw_m0 204 rfl) rfl
theorem q216 : (Jvm.Cond.code ({ cls := "IntervalClocksModel", name := "compare", desc := "(II)I" } : Jvm.MethodName) prog_3_method_17_code (5 : Nat) (Option.some Jvm.ClassFile.FieldType.int)) ∈ lw_all := lw_g (lw_at lw_m0 205 rfl) rfl
theorem q218 : (Jvm.Cond.instanceMethod ({ cls := "IntervalClocksModel", name := "behind", desc := "(I)I" } : Jvm.MethodName)) ∈ lw_all := lw_g (lw_at lw_m0 207 rfl) rfl
theorem q219 : (Jvm.Cond.selects "IntervalClocksModel" ({ cls := "IntervalClocksModel", name := "behind", desc := "(I)I" } : Jvm.MethodName) ({ cls := "IntervalClocksModel", name := "behind", desc := "(I)I" } : Jvm.MethodName)) ∈ lw_all := lw_g (lw_at lw_m0 208 rfl) rfl
theorem q220 : (Jvm.Cond.code ({ cls := "IntervalClocksModel", name := "behind", desc := "(I)I" } : Jvm.MethodName) prog_3_method_18_code (4 : Nat) (Option.some Jvm.ClassFile.FieldType.int)) ∈ lw_all := lw_g (lw_at lw_m0 209 rfl) rfl
theorem q222 : (Jvm.Cond.instanceMethod ({ cls := "IntervalClocksModel", name := "newest", desc := "()I" } : Jvm.MethodName)) ∈ lw_all := lw_g (lw_at lw_m0 211 rfl) rfl
theorem q223 : (Jvm.Cond.selects "IntervalClocksModel" ({ cls := "IntervalClocksModel", name := "newest", desc := "()I" } : Jvm.MethodName) ({ cls := "IntervalClocksModel", name := "newest", desc := "()I" } : Jvm.MethodName)) ∈ lw_all := lw_g (lw_at lw_m0 212 rfl) rfl
theorem q224 : (Jvm.Cond.code ({ cls := "IntervalClocksModel", name := "newest", desc := "()I" } : Jvm.MethodName) prog_3_method_19_code (5 : Nat) (Option.some Jvm.ClassFile.FieldType.int)) ∈ lw_all := lw_g (lw_at lw_m0 213 rfl) rfl
theorem q226 : (Jvm.Cond.instanceMethod ({ cls := "IntervalClocksModel", name := "everywhere", desc := "(I)Z" } : Jvm.MethodName)) ∈ lw_all := lw_g (lw_at lw_m0 215 rfl) rfl
theorem q227 : (Jvm.Cond.selects "IntervalClocksModel" ({ cls := "IntervalClocksModel", name := "everywhere", desc := "(I)Z" } : Jvm.MethodName) ({ cls := "IntervalClocksModel", name := "everywhere", desc := "(I)Z" } : Jvm.MethodName)) ∈ lw_all := lw_g (lw_at lw_m0 216 rfl) rfl
theorem q228 : (Jvm.Cond.code ({ cls := "IntervalClocksModel", name := "everywhere", desc := "(I)Z" } : Jvm.MethodName) prog_3_method_20_code (4 : Nat) (Option.some Jvm.ClassFile.FieldType.boolean)) ∈ lw_all := lw_g (lw_at lw_m0 217 rfl) rfl
theorem q230 : (Jvm.Cond.instanceMethod ({ cls := "IntervalClocksModel", name := "apartPairs", desc := "()I" } : Jvm.MethodName)) ∈ lw_all := lw_g (lw_at lw_m0 219 rfl) rfl
theorem q231 : (Jvm.Cond.selects "IntervalClocksModel" ({ cls := "IntervalClocksModel", name := "apartPairs", desc := "()I" } : Jvm.MethodName) ({ cls := "IntervalClocksModel", name := "apartPairs", desc := "()I" } : Jvm.MethodName)) ∈ lw_all := lw_g (lw_at lw_m0 220 rfl) rfl
theorem q232 : (Jvm.Cond.code ({ cls := "IntervalClocksModel", name := "apartPairs", desc := "()I" } : Jvm.MethodName) prog_3_method_21_code (3 : Nat) (Option.some Jvm.ClassFile.FieldType.int)) ∈ lw_all := lw_g (lw_at lw_m0 221 rfl) rfl
theorem q233 : (Jvm.Cond.methodLink "IntervalClocksModel" (48 : Nat) ({ cls := "IntervalClocksModel", name := "compare", desc := "(II)I" } : Jvm.MethodName)) ∈ lw_all := lw_g (lw_at lw_m0 222 rfl) rfl
theorem in_X1 : ∀ w ∈ wsX10, w ∈ lw_all := lw_in wsX10 [139, 141, 143, 145, 147] (by decide +kernel) (by decide +kernel)
end
section
/-! the law's own entry -/
set_option maxRecDepth 100000
abbrev cL_law : ByteArray := code
theorem dL_law_0 : decode cL_law 0 = .ok (.new 7, 3) := by decide +kernel
theorem dL_law_3 : decode cL_law 3 = .ok (.dup, 1) := by decide +kernel
theorem dL_law_4 : decode cL_law 4 = .ok (.invokespecial 9, 3) := by decide +kernel
theorem dL_law_7 : decode cL_law 7 = .ok (.astore_n 1, 1) := by decide +kernel
theorem dL_law_8 : decode cL_law 8 = .ok (.new 10, 3) := by decide +kernel
theorem dL_law_11 : decode cL_law 11 = .ok (.dup, 1) := by decide +kernel
theorem dL_law_12 : decode cL_law 12 = .ok (.invokespecial 12, 3) := by decide +kernel
theorem dL_law_15 : decode cL_law 15 = .ok (.astore_n 2, 1) := by decide +kernel
theorem dL_law_16 : decode cL_law 16 = .ok (.iconst 0, 1) := by decide +kernel
theorem dL_law_17 : decode cL_law 17 = .ok (.istore_n 3, 1) := by decide +kernel
theorem dL_law_18 : decode cL_law 18 = .ok (.iload_n 3, 1) := by decide +kernel
theorem dL_law_19 : decode cL_law 19 = .ok (.aload_n 0, 1) := by decide +kernel
theorem dL_law_20 : decode cL_law 20 = .ok (.arraylength, 1) := by decide +kernel
theorem dL_law_21 : decode cL_law 21 = .ok (.iconst 3, 1) := by decide +kernel
theorem dL_law_22 : decode cL_law 22 = .ok (.isub, 1) := by decide +kernel
theorem dL_law_23 : decode cL_law 23 = .ok (.if_icmp .gt 426, 3) := by decide +kernel
theorem dL_law_26 : decode cL_law 26 = .ok (.aload_n 0, 1) := by decide +kernel
theorem dL_law_27 : decode cL_law 27 = .ok (.iload_n 3, 1) := by decide +kernel
theorem dL_law_28 : decode cL_law 28 = .ok (.iaload, 1) := by decide +kernel
theorem dL_law_29 : decode cL_law 29 = .ok (.bipush 15, 2) := by decide +kernel
theorem dL_law_31 : decode cL_law 31 = .ok (.iand, 1) := by decide +kernel
theorem dL_law_32 : decode cL_law 32 = .ok (.tableswitch 411 0 14 #[76, 99, 132, 155, 188, 221, 244, 257, 270, 283, 306, 339, 362, 375, 398], 76) := by decide +kernel
theorem dL_law_108 : decode cL_law 108 = .ok (.aload_n 1, 1) := by decide +kernel
theorem dL_law_109 : decode cL_law 109 = .ok (.aload_n 0, 1) := by decide +kernel
theorem dL_law_110 : decode cL_law 110 = .ok (.iload_n 3, 1) := by decide +kernel
theorem dL_law_111 : decode cL_law 111 = .ok (.iconst 1, 1) := by decide +kernel
theorem dL_law_112 : decode cL_law 112 = .ok (.iadd, 1) := by decide +kernel
theorem dL_law_113 : decode cL_law 113 = .ok (.iaload, 1) := by decide +kernel
theorem dL_law_114 : decode cL_law 114 = .ok (.invokevirtual 13, 3) := by decide +kernel
theorem dL_law_117 : decode cL_law 117 = .ok (.aload_n 2, 1) := by decide +kernel
theorem dL_law_118 : decode cL_law 118 = .ok (.aload_n 0, 1) := by decide +kernel
theorem dL_law_119 : decode cL_law 119 = .ok (.iload_n 3, 1) := by decide +kernel
theorem dL_law_120 : decode cL_law 120 = .ok (.iconst 1, 1) := by decide +kernel
theorem dL_law_121 : decode cL_law 121 = .ok (.iadd, 1) := by decide +kernel
theorem dL_law_122 : decode cL_law 122 = .ok (.iaload, 1) := by decide +kernel
theorem dL_law_123 : decode cL_law 123 = .ok (.invokevirtual 17, 3) := by decide +kernel
theorem dL_law_126 : decode cL_law 126 = .ok (.if_icmp .eq 317, 3) := by decide +kernel
theorem dL_law_129 : decode cL_law 129 = .ok (.iconst 0, 1) := by decide +kernel
theorem dL_law_130 : decode cL_law 130 = .ok (.ireturn, 1) := by decide +kernel
theorem dL_law_131 : decode cL_law 131 = .ok (.aload_n 1, 1) := by decide +kernel
theorem dL_law_132 : decode cL_law 132 = .ok (.aload_n 0, 1) := by decide +kernel
theorem dL_law_133 : decode cL_law 133 = .ok (.iload_n 3, 1) := by decide +kernel
theorem dL_law_134 : decode cL_law 134 = .ok (.iconst 1, 1) := by decide +kernel
theorem dL_law_135 : decode cL_law 135 = .ok (.iadd, 1) := by decide +kernel
theorem dL_law_136 : decode cL_law 136 = .ok (.iaload, 1) := by decide +kernel
theorem dL_law_137 : decode cL_law 137 = .ok (.aload_n 0, 1) := by decide +kernel
theorem dL_law_138 : decode cL_law 138 = .ok (.iload_n 3, 1) := by decide +kernel
theorem dL_law_139 : decode cL_law 139 = .ok (.iconst 2, 1) := by decide +kernel
theorem dL_law_140 : decode cL_law 140 = .ok (.iadd, 1) := by decide +kernel
theorem dL_law_141 : decode cL_law 141 = .ok (.iaload, 1) := by decide +kernel
theorem dL_law_142 : decode cL_law 142 = .ok (.invokevirtual 18, 3) := by decide +kernel
theorem dL_law_145 : decode cL_law 145 = .ok (.aload_n 2, 1) := by decide +kernel
theorem dL_law_146 : decode cL_law 146 = .ok (.aload_n 0, 1) := by decide +kernel
theorem dL_law_147 : decode cL_law 147 = .ok (.iload_n 3, 1) := by decide +kernel
theorem dL_law_148 : decode cL_law 148 = .ok (.iconst 1, 1) := by decide +kernel
theorem dL_law_149 : decode cL_law 149 = .ok (.iadd, 1) := by decide +kernel
theorem dL_law_150 : decode cL_law 150 = .ok (.iaload, 1) := by decide +kernel
theorem dL_law_151 : decode cL_law 151 = .ok (.aload_n 0, 1) := by decide +kernel
theorem dL_law_152 : decode cL_law 152 = .ok (.iload_n 3, 1) := by decide +kernel
theorem dL_law_153 : decode cL_law 153 = .ok (.iconst 2, 1) := by decide +kernel
theorem dL_law_154 : decode cL_law 154 = .ok (.iadd, 1) := by decide +kernel
theorem dL_law_155 : decode cL_law 155 = .ok (.iaload, 1) := by decide +kernel
theorem dL_law_156 : decode cL_law 156 = .ok (.invokevirtual 22, 3) := by decide +kernel
theorem dL_law_159 : decode cL_law 159 = .ok (.if_icmp .eq 284, 3) := by decide +kernel
theorem dL_law_162 : decode cL_law 162 = .ok (.iconst 0, 1) := by decide +kernel
theorem dL_law_163 : decode cL_law 163 = .ok (.ireturn, 1) := by decide +kernel
theorem dL_law_164 : decode cL_law 164 = .ok (.aload_n 1, 1) := by decide +kernel
theorem dL_law_165 : decode cL_law 165 = .ok (.aload_n 0, 1) := by decide +kernel
theorem dL_law_166 : decode cL_law 166 = .ok (.iload_n 3, 1) := by decide +kernel
theorem dL_law_167 : decode cL_law 167 = .ok (.iconst 1, 1) := by decide +kernel
theorem dL_law_168 : decode cL_law 168 = .ok (.iadd, 1) := by decide +kernel
theorem dL_law_169 : decode cL_law 169 = .ok (.iaload, 1) := by decide +kernel
theorem dL_law_170 : decode cL_law 170 = .ok (.invokevirtual 23, 3) := by decide +kernel
theorem dL_law_173 : decode cL_law 173 = .ok (.aload_n 2, 1) := by decide +kernel
theorem dL_law_174 : decode cL_law 174 = .ok (.aload_n 0, 1) := by decide +kernel
theorem dL_law_175 : decode cL_law 175 = .ok (.iload_n 3, 1) := by decide +kernel
theorem dL_law_176 : decode cL_law 176 = .ok (.iconst 1, 1) := by decide +kernel
theorem dL_law_177 : decode cL_law 177 = .ok (.iadd, 1) := by decide +kernel
theorem dL_law_178 : decode cL_law 178 = .ok (.iaload, 1) := by decide +kernel
theorem dL_law_179 : decode cL_law 179 = .ok (.invokevirtual 26, 3) := by decide +kernel
theorem dL_law_182 : decode cL_law 182 = .ok (.if_icmp .eq 261, 3) := by decide +kernel
theorem dL_law_185 : decode cL_law 185 = .ok (.iconst 0, 1) := by decide +kernel
theorem dL_law_186 : decode cL_law 186 = .ok (.ireturn, 1) := by decide +kernel
theorem dL_law_187 : decode cL_law 187 = .ok (.aload_n 1, 1) := by decide +kernel
theorem dL_law_188 : decode cL_law 188 = .ok (.aload_n 0, 1) := by decide +kernel
theorem dL_law_189 : decode cL_law 189 = .ok (.iload_n 3, 1) := by decide +kernel
theorem dL_law_190 : decode cL_law 190 = .ok (.iconst 1, 1) := by decide +kernel
theorem dL_law_191 : decode cL_law 191 = .ok (.iadd, 1) := by decide +kernel
theorem dL_law_192 : decode cL_law 192 = .ok (.iaload, 1) := by decide +kernel
theorem dL_law_193 : decode cL_law 193 = .ok (.aload_n 0, 1) := by decide +kernel
theorem dL_law_194 : decode cL_law 194 = .ok (.iload_n 3, 1) := by decide +kernel
theorem dL_law_195 : decode cL_law 195 = .ok (.iconst 2, 1) := by decide +kernel
theorem dL_law_196 : decode cL_law 196 = .ok (.iadd, 1) := by decide +kernel
theorem dL_law_197 : decode cL_law 197 = .ok (.iaload, 1) := by decide +kernel
theorem dL_law_198 : decode cL_law 198 = .ok (.invokevirtual 27, 3) := by decide +kernel
theorem dL_law_201 : decode cL_law 201 = .ok (.aload_n 2, 1) := by decide +kernel
theorem dL_law_202 : decode cL_law 202 = .ok (.aload_n 0, 1) := by decide +kernel
theorem dL_law_203 : decode cL_law 203 = .ok (.iload_n 3, 1) := by decide +kernel
theorem dL_law_204 : decode cL_law 204 = .ok (.iconst 1, 1) := by decide +kernel
theorem dL_law_205 : decode cL_law 205 = .ok (.iadd, 1) := by decide +kernel
theorem dL_law_206 : decode cL_law 206 = .ok (.iaload, 1) := by decide +kernel
theorem dL_law_207 : decode cL_law 207 = .ok (.aload_n 0, 1) := by decide +kernel
theorem dL_law_208 : decode cL_law 208 = .ok (.iload_n 3, 1) := by decide +kernel
theorem dL_law_209 : decode cL_law 209 = .ok (.iconst 2, 1) := by decide +kernel
theorem dL_law_210 : decode cL_law 210 = .ok (.iadd, 1) := by decide +kernel
theorem dL_law_211 : decode cL_law 211 = .ok (.iaload, 1) := by decide +kernel
theorem dL_law_212 : decode cL_law 212 = .ok (.invokevirtual 30, 3) := by decide +kernel
theorem dL_law_215 : decode cL_law 215 = .ok (.if_icmp .eq 228, 3) := by decide +kernel
theorem dL_law_218 : decode cL_law 218 = .ok (.iconst 0, 1) := by decide +kernel
theorem dL_law_219 : decode cL_law 219 = .ok (.ireturn, 1) := by decide +kernel
theorem dL_law_220 : decode cL_law 220 = .ok (.aload_n 1, 1) := by decide +kernel
theorem dL_law_221 : decode cL_law 221 = .ok (.aload_n 0, 1) := by decide +kernel
theorem dL_law_222 : decode cL_law 222 = .ok (.iload_n 3, 1) := by decide +kernel
theorem dL_law_223 : decode cL_law 223 = .ok (.iconst 1, 1) := by decide +kernel
theorem dL_law_224 : decode cL_law 224 = .ok (.iadd, 1) := by decide +kernel
theorem dL_law_225 : decode cL_law 225 = .ok (.iaload, 1) := by decide +kernel
theorem dL_law_226 : decode cL_law 226 = .ok (.aload_n 0, 1) := by decide +kernel
theorem dL_law_227 : decode cL_law 227 = .ok (.iload_n 3, 1) := by decide +kernel
theorem dL_law_228 : decode cL_law 228 = .ok (.iconst 2, 1) := by decide +kernel
theorem dL_law_229 : decode cL_law 229 = .ok (.iadd, 1) := by decide +kernel
theorem dL_law_230 : decode cL_law 230 = .ok (.iaload, 1) := by decide +kernel
theorem dL_law_231 : decode cL_law 231 = .ok (.invokevirtual 31, 3) := by decide +kernel
theorem dL_law_234 : decode cL_law 234 = .ok (.aload_n 2, 1) := by decide +kernel
theorem dL_law_235 : decode cL_law 235 = .ok (.aload_n 0, 1) := by decide +kernel
theorem dL_law_236 : decode cL_law 236 = .ok (.iload_n 3, 1) := by decide +kernel
theorem dL_law_237 : decode cL_law 237 = .ok (.iconst 1, 1) := by decide +kernel
theorem dL_law_238 : decode cL_law 238 = .ok (.iadd, 1) := by decide +kernel
theorem dL_law_239 : decode cL_law 239 = .ok (.iaload, 1) := by decide +kernel
theorem dL_law_240 : decode cL_law 240 = .ok (.aload_n 0, 1) := by decide +kernel
theorem dL_law_241 : decode cL_law 241 = .ok (.iload_n 3, 1) := by decide +kernel
theorem dL_law_242 : decode cL_law 242 = .ok (.iconst 2, 1) := by decide +kernel
theorem dL_law_243 : decode cL_law 243 = .ok (.iadd, 1) := by decide +kernel
theorem dL_law_244 : decode cL_law 244 = .ok (.iaload, 1) := by decide +kernel
theorem dL_law_245 : decode cL_law 245 = .ok (.invokevirtual 35, 3) := by decide +kernel
theorem dL_law_248 : decode cL_law 248 = .ok (.if_icmp .eq 195, 3) := by decide +kernel
theorem dL_law_251 : decode cL_law 251 = .ok (.iconst 0, 1) := by decide +kernel
theorem dL_law_252 : decode cL_law 252 = .ok (.ireturn, 1) := by decide +kernel
theorem dL_law_253 : decode cL_law 253 = .ok (.aload_n 1, 1) := by decide +kernel
theorem dL_law_254 : decode cL_law 254 = .ok (.aload_n 0, 1) := by decide +kernel
theorem dL_law_255 : decode cL_law 255 = .ok (.iload_n 3, 1) := by decide +kernel
theorem dL_law_256 : decode cL_law 256 = .ok (.iconst 1, 1) := by decide +kernel
theorem dL_law_257 : decode cL_law 257 = .ok (.iadd, 1) := by decide +kernel
theorem dL_law_258 : decode cL_law 258 = .ok (.iaload, 1) := by decide +kernel
theorem dL_law_259 : decode cL_law 259 = .ok (.invokevirtual 36, 3) := by decide +kernel
theorem dL_law_262 : decode cL_law 262 = .ok (.aload_n 2, 1) := by decide +kernel
theorem dL_law_263 : decode cL_law 263 = .ok (.aload_n 0, 1) := by decide +kernel
theorem dL_law_264 : decode cL_law 264 = .ok (.iload_n 3, 1) := by decide +kernel
theorem dL_law_265 : decode cL_law 265 = .ok (.iconst 1, 1) := by decide +kernel
theorem dL_law_266 : decode cL_law 266 = .ok (.iadd, 1) := by decide +kernel
theorem dL_law_267 : decode cL_law 267 = .ok (.iaload, 1) := by decide +kernel
theorem dL_law_268 : decode cL_law 268 = .ok (.invokevirtual 40, 3) := by decide +kernel
theorem dL_law_271 : decode cL_law 271 = .ok (.if_icmp .eq 172, 3) := by decide +kernel
theorem dL_law_274 : decode cL_law 274 = .ok (.iconst 0, 1) := by decide +kernel
theorem dL_law_275 : decode cL_law 275 = .ok (.ireturn, 1) := by decide +kernel
theorem dL_law_276 : decode cL_law 276 = .ok (.aload_n 1, 1) := by decide +kernel
theorem dL_law_277 : decode cL_law 277 = .ok (.invokevirtual 41, 3) := by decide +kernel
theorem dL_law_280 : decode cL_law 280 = .ok (.aload_n 2, 1) := by decide +kernel
theorem dL_law_281 : decode cL_law 281 = .ok (.invokevirtual 45, 3) := by decide +kernel
theorem dL_law_284 : decode cL_law 284 = .ok (.if_icmp .eq 159, 3) := by decide +kernel
theorem dL_law_287 : decode cL_law 287 = .ok (.iconst 0, 1) := by decide +kernel
theorem dL_law_288 : decode cL_law 288 = .ok (.ireturn, 1) := by decide +kernel
theorem dL_law_289 : decode cL_law 289 = .ok (.aload_n 1, 1) := by decide +kernel
theorem dL_law_290 : decode cL_law 290 = .ok (.invokevirtual 46, 3) := by decide +kernel
theorem dL_law_293 : decode cL_law 293 = .ok (.aload_n 2, 1) := by decide +kernel
theorem dL_law_294 : decode cL_law 294 = .ok (.invokevirtual 49, 3) := by decide +kernel
theorem dL_law_297 : decode cL_law 297 = .ok (.if_icmp .eq 146, 3) := by decide +kernel
theorem dL_law_300 : decode cL_law 300 = .ok (.iconst 0, 1) := by decide +kernel
theorem dL_law_301 : decode cL_law 301 = .ok (.ireturn, 1) := by decide +kernel
theorem dL_law_302 : decode cL_law 302 = .ok (.aload_n 1, 1) := by decide +kernel
theorem dL_law_303 : decode cL_law 303 = .ok (.invokevirtual 50, 3) := by decide +kernel
theorem dL_law_306 : decode cL_law 306 = .ok (.aload_n 2, 1) := by decide +kernel
theorem dL_law_307 : decode cL_law 307 = .ok (.invokevirtual 53, 3) := by decide +kernel
theorem dL_law_310 : decode cL_law 310 = .ok (.if_icmp .eq 133, 3) := by decide +kernel
theorem dL_law_313 : decode cL_law 313 = .ok (.iconst 0, 1) := by decide +kernel
theorem dL_law_314 : decode cL_law 314 = .ok (.ireturn, 1) := by decide +kernel
theorem dL_law_315 : decode cL_law 315 = .ok (.aload_n 1, 1) := by decide +kernel
theorem dL_law_316 : decode cL_law 316 = .ok (.aload_n 0, 1) := by decide +kernel
theorem dL_law_317 : decode cL_law 317 = .ok (.iload_n 3, 1) := by decide +kernel
theorem dL_law_318 : decode cL_law 318 = .ok (.iconst 1, 1) := by decide +kernel
theorem dL_law_319 : decode cL_law 319 = .ok (.iadd, 1) := by decide +kernel
theorem dL_law_320 : decode cL_law 320 = .ok (.iaload, 1) := by decide +kernel
theorem dL_law_321 : decode cL_law 321 = .ok (.invokevirtual 54, 3) := by decide +kernel
theorem dL_law_324 : decode cL_law 324 = .ok (.aload_n 2, 1) := by decide +kernel
theorem dL_law_325 : decode cL_law 325 = .ok (.aload_n 0, 1) := by decide +kernel
theorem dL_law_326 : decode cL_law 326 = .ok (.iload_n 3, 1) := by decide +kernel
theorem dL_law_327 : decode cL_law 327 = .ok (.iconst 1, 1) := by decide +kernel
theorem dL_law_328 : decode cL_law 328 = .ok (.iadd, 1) := by decide +kernel
theorem dL_law_329 : decode cL_law 329 = .ok (.iaload, 1) := by decide +kernel
theorem dL_law_330 : decode cL_law 330 = .ok (.invokevirtual 57, 3) := by decide +kernel
theorem dL_law_333 : decode cL_law 333 = .ok (.if_icmp .eq 110, 3) := by decide +kernel
theorem dL_law_336 : decode cL_law 336 = .ok (.iconst 0, 1) := by decide +kernel
theorem dL_law_337 : decode cL_law 337 = .ok (.ireturn, 1) := by decide +kernel
theorem dL_law_338 : decode cL_law 338 = .ok (.aload_n 1, 1) := by decide +kernel
theorem dL_law_339 : decode cL_law 339 = .ok (.aload_n 0, 1) := by decide +kernel
theorem dL_law_340 : decode cL_law 340 = .ok (.iload_n 3, 1) := by decide +kernel
theorem dL_law_341 : decode cL_law 341 = .ok (.iconst 1, 1) := by decide +kernel
theorem dL_law_342 : decode cL_law 342 = .ok (.iadd, 1) := by decide +kernel
theorem dL_law_343 : decode cL_law 343 = .ok (.iaload, 1) := by decide +kernel
theorem dL_law_344 : decode cL_law 344 = .ok (.aload_n 0, 1) := by decide +kernel
theorem dL_law_345 : decode cL_law 345 = .ok (.iload_n 3, 1) := by decide +kernel
theorem dL_law_346 : decode cL_law 346 = .ok (.iconst 2, 1) := by decide +kernel
theorem dL_law_347 : decode cL_law 347 = .ok (.iadd, 1) := by decide +kernel
theorem dL_law_348 : decode cL_law 348 = .ok (.iaload, 1) := by decide +kernel
theorem dL_law_349 : decode cL_law 349 = .ok (.invokevirtual 58, 3) := by decide +kernel
theorem dL_law_352 : decode cL_law 352 = .ok (.aload_n 2, 1) := by decide +kernel
theorem dL_law_353 : decode cL_law 353 = .ok (.aload_n 0, 1) := by decide +kernel
theorem dL_law_354 : decode cL_law 354 = .ok (.iload_n 3, 1) := by decide +kernel
theorem dL_law_355 : decode cL_law 355 = .ok (.iconst 1, 1) := by decide +kernel
theorem dL_law_356 : decode cL_law 356 = .ok (.iadd, 1) := by decide +kernel
theorem dL_law_357 : decode cL_law 357 = .ok (.iaload, 1) := by decide +kernel
theorem dL_law_358 : decode cL_law 358 = .ok (.aload_n 0, 1) := by decide +kernel
theorem dL_law_359 : decode cL_law 359 = .ok (.iload_n 3, 1) := by decide +kernel
theorem dL_law_360 : decode cL_law 360 = .ok (.iconst 2, 1) := by decide +kernel
theorem dL_law_361 : decode cL_law 361 = .ok (.iadd, 1) := by decide +kernel
theorem dL_law_362 : decode cL_law 362 = .ok (.iaload, 1) := by decide +kernel
theorem dL_law_363 : decode cL_law 363 = .ok (.invokevirtual 61, 3) := by decide +kernel
theorem dL_law_366 : decode cL_law 366 = .ok (.if_icmp .eq 77, 3) := by decide +kernel
theorem dL_law_369 : decode cL_law 369 = .ok (.iconst 0, 1) := by decide +kernel
theorem dL_law_370 : decode cL_law 370 = .ok (.ireturn, 1) := by decide +kernel
theorem dL_law_371 : decode cL_law 371 = .ok (.aload_n 1, 1) := by decide +kernel
theorem dL_law_372 : decode cL_law 372 = .ok (.aload_n 0, 1) := by decide +kernel
theorem dL_law_373 : decode cL_law 373 = .ok (.iload_n 3, 1) := by decide +kernel
theorem dL_law_374 : decode cL_law 374 = .ok (.iconst 1, 1) := by decide +kernel
theorem dL_law_375 : decode cL_law 375 = .ok (.iadd, 1) := by decide +kernel
theorem dL_law_376 : decode cL_law 376 = .ok (.iaload, 1) := by decide +kernel
theorem dL_law_377 : decode cL_law 377 = .ok (.invokevirtual 62, 3) := by decide +kernel
theorem dL_law_380 : decode cL_law 380 = .ok (.aload_n 2, 1) := by decide +kernel
theorem dL_law_381 : decode cL_law 381 = .ok (.aload_n 0, 1) := by decide +kernel
theorem dL_law_382 : decode cL_law 382 = .ok (.iload_n 3, 1) := by decide +kernel
theorem dL_law_383 : decode cL_law 383 = .ok (.iconst 1, 1) := by decide +kernel
theorem dL_law_384 : decode cL_law 384 = .ok (.iadd, 1) := by decide +kernel
theorem dL_law_385 : decode cL_law 385 = .ok (.iaload, 1) := by decide +kernel
theorem dL_law_386 : decode cL_law 386 = .ok (.invokevirtual 65, 3) := by decide +kernel
theorem dL_law_389 : decode cL_law 389 = .ok (.if_icmp .eq 54, 3) := by decide +kernel
theorem dL_law_392 : decode cL_law 392 = .ok (.iconst 0, 1) := by decide +kernel
theorem dL_law_393 : decode cL_law 393 = .ok (.ireturn, 1) := by decide +kernel
theorem dL_law_394 : decode cL_law 394 = .ok (.aload_n 1, 1) := by decide +kernel
theorem dL_law_395 : decode cL_law 395 = .ok (.invokevirtual 66, 3) := by decide +kernel
theorem dL_law_398 : decode cL_law 398 = .ok (.aload_n 2, 1) := by decide +kernel
theorem dL_law_399 : decode cL_law 399 = .ok (.invokevirtual 69, 3) := by decide +kernel
theorem dL_law_402 : decode cL_law 402 = .ok (.if_icmp .eq 41, 3) := by decide +kernel
theorem dL_law_405 : decode cL_law 405 = .ok (.iconst 0, 1) := by decide +kernel
theorem dL_law_406 : decode cL_law 406 = .ok (.ireturn, 1) := by decide +kernel
theorem dL_law_407 : decode cL_law 407 = .ok (.aload_n 1, 1) := by decide +kernel
theorem dL_law_408 : decode cL_law 408 = .ok (.aload_n 0, 1) := by decide +kernel
theorem dL_law_409 : decode cL_law 409 = .ok (.iload_n 3, 1) := by decide +kernel
theorem dL_law_410 : decode cL_law 410 = .ok (.iconst 1, 1) := by decide +kernel
theorem dL_law_411 : decode cL_law 411 = .ok (.iadd, 1) := by decide +kernel
theorem dL_law_412 : decode cL_law 412 = .ok (.iaload, 1) := by decide +kernel
theorem dL_law_413 : decode cL_law 413 = .ok (.invokevirtual 70, 3) := by decide +kernel
theorem dL_law_416 : decode cL_law 416 = .ok (.aload_n 2, 1) := by decide +kernel
theorem dL_law_417 : decode cL_law 417 = .ok (.aload_n 0, 1) := by decide +kernel
theorem dL_law_418 : decode cL_law 418 = .ok (.iload_n 3, 1) := by decide +kernel
theorem dL_law_419 : decode cL_law 419 = .ok (.iconst 1, 1) := by decide +kernel
theorem dL_law_420 : decode cL_law 420 = .ok (.iadd, 1) := by decide +kernel
theorem dL_law_421 : decode cL_law 421 = .ok (.iaload, 1) := by decide +kernel
theorem dL_law_422 : decode cL_law 422 = .ok (.invokevirtual 73, 3) := by decide +kernel
theorem dL_law_425 : decode cL_law 425 = .ok (.if_icmp .eq 18, 3) := by decide +kernel
theorem dL_law_428 : decode cL_law 428 = .ok (.iconst 0, 1) := by decide +kernel
theorem dL_law_429 : decode cL_law 429 = .ok (.ireturn, 1) := by decide +kernel
theorem dL_law_430 : decode cL_law 430 = .ok (.aload_n 1, 1) := by decide +kernel
theorem dL_law_431 : decode cL_law 431 = .ok (.invokevirtual 74, 3) := by decide +kernel
theorem dL_law_434 : decode cL_law 434 = .ok (.aload_n 2, 1) := by decide +kernel
theorem dL_law_435 : decode cL_law 435 = .ok (.invokevirtual 77, 3) := by decide +kernel
theorem dL_law_438 : decode cL_law 438 = .ok (.if_icmp .eq 5, 3) := by decide +kernel
theorem dL_law_441 : decode cL_law 441 = .ok (.iconst 0, 1) := by decide +kernel
theorem dL_law_442 : decode cL_law 442 = .ok (.ireturn, 1) := by decide +kernel
theorem dL_law_443 : decode cL_law 443 = .ok (.iinc 3 3, 3) := by decide +kernel
theorem dL_law_446 : decode cL_law 446 = .ok (.goto (-428), 3) := by decide +kernel
theorem dL_law_449 : decode cL_law 449 = .ok (.iconst 1, 1) := by decide +kernel
theorem dL_law_450 : decode cL_law 450 = .ok (.ireturn, 1) := by decide +kernel
theorem q11 : (Jvm.Cond.initialized "IntervalClocksLaw") ∈ lw_all := lw_g (lw_at lw_m0 0 rfl) rfl
set_option maxRecDepth 100000
theorem q14 : (Jvm.Cond.classLink "IntervalClocksLaw" (7 : Nat) "IntervalClocks") ∈ lw_all := lw_g (lw_at lw_m0 3 rfl) rfl
theorem q16 : (Jvm.Cond.methodLink "IntervalClocksLaw" (9 : Nat) ({ cls := "IntervalClocks", name := "<init>", desc := "()V" } : Jvm.MethodName)) ∈ lw_all := lw_g (lw_at lw_m0 5 rfl) rfl
theorem q37 : (Jvm.Cond.methodLink "IntervalClocksLaw" (13 : Nat) ({ cls := "IntervalClocks", name := "split", desc := "(I)I" } : Jvm.MethodName)) ∈ lw_all := lw_g (lw_at lw_m0 26 rfl) rfl
theorem q60 : (Jvm.Cond.methodLink "IntervalClocksLaw" (18 : Nat) ({ cls := "IntervalClocks", name := "join", desc := "(II)I" } : Jvm.MethodName)) ∈ lw_all := lw_g (lw_at lw_m0 49 rfl) rfl
theorem q68 : (Jvm.Cond.methodLink "IntervalClocksLaw" (23 : Nat) ({ cls := "IntervalClocks", name := "event", desc := "(I)I" } : Jvm.MethodName)) ∈ lw_all := lw_g (lw_at lw_m0 57 rfl) rfl
theorem q72 : (Jvm.Cond.methodLink "IntervalClocksLaw" (27 : Nat) ({ cls := "IntervalClocks", name := "tell", desc := "(II)I" } : Jvm.MethodName)) ∈ lw_all := lw_g (lw_at lw_m0 61 rfl) rfl
theorem q76 : (Jvm.Cond.methodLink "IntervalClocksLaw" (31 : Nat) ({ cls := "IntervalClocks", name := "note", desc := "(II)Z" } : Jvm.MethodName)) ∈ lw_all := lw_g (lw_at lw_m0 65 rfl) rfl
theorem q83 : (Jvm.Cond.methodLink "IntervalClocksLaw" (36 : Nat) ({ cls := "IntervalClocks", name := "erase", desc := "(I)Z" } : Jvm.MethodName)) ∈ lw_all := lw_g (lw_at lw_m0 72 rfl) rfl
theorem q87 : (Jvm.Cond.methodLink "IntervalClocksLaw" (41 : Nat) ({ cls := "IntervalClocks", name := "parties", desc := "()I" } : Jvm.MethodName)) ∈ lw_all := lw_g (lw_at lw_m0 76 rfl) rfl
theorem q91 : (Jvm.Cond.methodLink "IntervalClocksLaw" (46 : Nat) ({ cls := "IntervalClocks", name := "notes", desc := "()I" } : Jvm.MethodName)) ∈ lw_all := lw_g (lw_at lw_m0 80 rfl) rfl
theorem q95 : (Jvm.Cond.methodLink "IntervalClocksLaw" (50 : Nat) ({ cls := "IntervalClocks", name := "events", desc := "()I" } : Jvm.MethodName)) ∈ lw_all := lw_g (lw_at lw_m0 84 rfl) rfl
theorem q99 : (Jvm.Cond.methodLink "IntervalClocksLaw" (54 : Nat) ({ cls := "IntervalClocks", name := "cells", desc := "(I)I" } : Jvm.MethodName)) ∈ lw_all := lw_g (lw_at lw_m0 88 rfl) rfl
theorem q103 : (Jvm.Cond.methodLink "IntervalClocksLaw" (58 : Nat) ({ cls := "IntervalClocks", name := "compare", desc := "(II)I" } : Jvm.MethodName)) ∈ lw_all := lw_g (lw_at lw_m0 92 rfl) rfl
theorem q111 : (Jvm.Cond.methodLink "IntervalClocksLaw" (62 : Nat) ({ cls := "IntervalClocks", name := "behind", desc := "(I)I" } : Jvm.MethodName)) ∈ lw_all := lw_g (lw_at lw_m0 100 rfl) rfl
theorem q115 : (Jvm.Cond.methodLink "IntervalClocksLaw" (66 : Nat) ({ cls := "IntervalClocks", name := "newest", desc := "()I" } : Jvm.MethodName)) ∈ lw_all := lw_g (lw_at lw_m0 104 rfl) rfl
theorem q120 : (Jvm.Cond.methodLink "IntervalClocksLaw" (70 : Nat) ({ cls := "IntervalClocks", name := "everywhere", desc := "(I)Z" } : Jvm.MethodName)) ∈ lw_all := lw_g (lw_at lw_m0 109 rfl) rfl
theorem q124 : (Jvm.Cond.methodLink "IntervalClocksLaw" (74 : Nat) ({ cls := "IntervalClocks", name := "apartPairs", desc := "()I" } : Jvm.MethodName)) ∈ lw_all := lw_g (lw_at lw_m0 113 rfl) rfl
theorem q128 : (Jvm.Cond.classLink "IntervalClocksLaw" (10 : Nat) "IntervalClocksModel") ∈ lw_all := lw_g (lw_at lw_m0 117 rfl) rfl
theorem q130 : (Jvm.Cond.methodLink "IntervalClocksLaw" (12 : Nat) ({ cls := "IntervalClocksModel", name := "<init>", desc := "()V" } : Jvm.MethodName)) ∈ lw_all := lw_g (lw_at lw_m0 119 rfl) rfl
theorem q152 : (Jvm.Cond.methodLink "IntervalClocksLaw" (17 : Nat) ({ cls := "IntervalClocksModel", name := "split", desc := "(I)I" } : Jvm.MethodName)) ∈ lw_all := lw_g (lw_at lw_m0 141 rfl) rfl
theorem q164 : (Jvm.Cond.methodLink "IntervalClocksLaw" (22 : Nat) ({ cls := "IntervalClocksModel", name := "join", desc := "(II)I" } : Jvm.MethodName)) ∈ lw_all := lw_g (lw_at lw_m0 153 rfl) rfl
theorem q168 : (Jvm.Cond.methodLink "IntervalClocksLaw" (26 : Nat) ({ cls := "IntervalClocksModel", name := "event", desc := "(I)I" } : Jvm.MethodName)) ∈ lw_all := lw_g (lw_at lw_m0 157 rfl) rfl
theorem q172 : (Jvm.Cond.methodLink "IntervalClocksLaw" (30 : Nat) ({ cls := "IntervalClocksModel", name := "tell", desc := "(II)I" } : Jvm.MethodName)) ∈ lw_all := lw_g (lw_at lw_m0 161 rfl) rfl
theorem q185 : (Jvm.Cond.methodLink "IntervalClocksLaw" (35 : Nat) ({ cls := "IntervalClocksModel", name := "note", desc := "(II)Z" } : Jvm.MethodName)) ∈ lw_all := lw_g (lw_at lw_m0 174 rfl) rfl
theorem q189 : (Jvm.Cond.methodLink "IntervalClocksLaw" (40 : Nat) ({ cls := "IntervalClocksModel", name := "erase", desc := "(I)Z" } : Jvm.MethodName)) ∈ lw_all := lw_g (lw_at lw_m0 178 rfl) rfl
theorem q193 : (Jvm.Cond.methodLink "IntervalClocksLaw" (45 : Nat) ({ cls := "IntervalClocksModel", name := "parties", desc := "()I" } : Jvm.MethodName)) ∈ lw_all := lw_g (lw_at lw_m0 182 rfl) rfl
theorem q201 : (Jvm.Cond.methodLink "IntervalClocksLaw" (49 : Nat) ({ cls := "IntervalClocksModel", name := "notes", desc := "()I" } : Jvm.MethodName)) ∈ lw_all := lw_g (lw_at lw_m0 190 rfl) rfl
theorem q205 : (Jvm.Cond.methodLink "IntervalClocksLaw" (53 : Nat) ({ cls := "IntervalClocksModel", name := "events", desc := "()I" } : Jvm.MethodName)) ∈ lw_all := lw_g (lw_at lw_m0 194 rfl) rfl
theorem q209 : (Jvm.Cond.methodLink "IntervalClocksLaw" (57 : Nat) ({ cls := "IntervalClocksModel", name := "cells", desc := "(I)I" } : Jvm.MethodName)) ∈ lw_all := lw_g (lw_at lw_m0 198 rfl) rfl
theorem q213 : (Jvm.Cond.methodLink "IntervalClocksLaw" (61 : Nat) ({ cls := "IntervalClocksModel", name := "compare", desc := "(II)I" } : Jvm.MethodName)) ∈ lw_all := lw_g (lw_at lw_m0 202 rfl) rfl
theorem q217 : (Jvm.Cond.methodLink "IntervalClocksLaw" (65 : Nat) ({ cls := "IntervalClocksModel", name := "behind", desc := "(I)I" } : Jvm.MethodName)) ∈ lw_all := lw_g (lw_at lw_m0 206 rfl) rfl
theorem q221 : (Jvm.Cond.methodLink "IntervalClocksLaw" (69 : Nat) ({ cls := "IntervalClocksModel", name := "newest", desc := "()I" } : Jvm.MethodName)) ∈ lw_all := lw_g (lw_at lw_m0 210 rfl) rfl
theorem q225 : (Jvm.Cond.methodLink "IntervalClocksLaw" (73 : Nat) ({ cls := "IntervalClocksModel", name := "everywhere", desc := "(I)Z" } : Jvm.MethodName)) ∈ lw_all := lw_g (lw_at lw_m0 214 rfl) rfl
theorem q229 : (Jvm.Cond.methodLink "IntervalClocksLaw" (77 : Nat) ({ cls := "IntervalClocksModel", name := "apartPairs", desc := "()I" } : Jvm.MethodName)) ∈ lw_all := lw_g (lw_at lw_m0 218 rfl) rfl
end
section
/-! ===== Int32 by its bits: bt x i ===== -/
def bt (x : Int32) (i : Nat) : Bool := x.toBitVec.getLsbD i
theorem b_ext {x y : Int32} (h : ∀ i, i < 32 → bt x i = bt y i) : x = y := Int32.toBitVec_inj.mp (BitVec.eq_of_getLsbD_eq (fun i hi => h i hi))
theorem b_or (x y : Int32) (i : Nat) : bt (x ||| y) i = (bt x i || bt y i) := by unfold bt; rw [Int32.toBitVec_or, BitVec.getLsbD_or]
theorem b_and (x y : Int32) (i : Nat) : bt (x &&& y) i = (bt x i && bt y i) := by unfold bt; rw [Int32.toBitVec_and, BitVec.getLsbD_and]
theorem b_xor (x y : Int32) (i : Nat) : bt (x ^^^ y) i = (bt x i ^^ bt y i) := by unfold bt; rw [Int32.toBitVec_xor, BitVec.getLsbD_xor]
theorem b_big {x : Int32} {i : Nat} (h : 32 ≤ i) : bt x i = false := BitVec.getLsbD_of_ge _ _ h
theorem b_255 (i : Nat) : bt 255 i = decide (i < 8) := by
  rcases Nat.lt_or_ge i 32 with h | h
  · exact (by decide +kernel : ∀ i, i < 32 → bt 255 i = decide (i < 8)) i h
  · rw [b_big h, decide_eq_false (by omega)]
theorem b_65535 (i : Nat) : bt 65535 i = decide (i < 16) := by
  rcases Nat.lt_or_ge i 32 with h | h
  · exact (by decide +kernel : ∀ i, i < 32 → bt 65535 i = decide (i < 16)) i h
  · rw [b_big h, decide_eq_false (by omega)]
theorem b_m1 : ∀ i, i < 32 → bt (-1) i = true := by decide +kernel
theorem b_0 (i : Nat) : bt 0 i = false := BitVec.getLsbD_zero
theorem s_l : ∀ n, n < 32 → ((nI n &&& 31).toBitVec.smod 32).toNat = n := by decide +kernel
theorem s_u : ∀ n, n < 32 → (((nI n).toUInt32 &&& Int32.toUInt32 31).toBitVec % 32).toNat = n := by decide +kernel
theorem b_shl (n : Nat) (hn : n < 32) (x : Int32) {i : Nat} (hi : i < 32) : bt (x <<< (nI n &&& 31)) i = (decide (n ≤ i) && bt x (i - n)) := by
  unfold bt
  rw [Int32.toBitVec_shiftLeft]
  show (x.toBitVec <<< ((nI n &&& 31).toBitVec.smod 32).toNat).getLsbD i = _
  rw [s_l n hn, BitVec.getLsbD_shiftLeft]
  rcases Nat.lt_or_ge i n with h | h
  · simp [h, Nat.not_le.mpr h]
  · simp [hi, h, Nat.not_lt.mpr h]
theorem b_ushr (n : Nat) (hn : n < 32) (x : Int32) (i : Nat) : bt ((x.toUInt32 >>> ((nI n).toUInt32 &&& Int32.toUInt32 31)).toInt32) i = bt x (n + i) := by
  show (x.toUInt32 >>> ((nI n).toUInt32 &&& Int32.toUInt32 31)).toBitVec.getLsbD i = x.toUInt32.toBitVec.getLsbD (n + i)
  rw [UInt32.toBitVec_shiftRight]
  show (x.toUInt32.toBitVec >>> (((nI n).toUInt32 &&& Int32.toUInt32 31).toBitVec % 32).toNat).getLsbD i = _
  rw [s_u n hn, BitVec.getLsbD_ushiftRight]
theorem b_sshr (n : Nat) (hn : n < 32) (x : Int32) {i : Nat} (hi : i < 32) : bt (x >>> (nI n &&& 31)) i = if n + i < 32 then bt x (n + i) else bt x 31 := by
  unfold bt
  rw [Int32.toBitVec_shiftRight]
  show (x.toBitVec.sshiftRight ((nI n &&& 31).toBitVec.smod 32).toNat).getLsbD i = _
  rw [s_l n hn, BitVec.getLsbD_sshiftRight, BitVec.msb_eq_getLsbD_last]
  simp [hi]
/-! ===== how many places have a property ===== -/
def fb_ct (p : Nat → Bool) : Nat → Nat
  | 0 => 0
  | n + 1 => fb_ct p n + (if p n then 1 else 0)
theorem fb_ct_succ (p : Nat → Bool) (n : Nat) : fb_ct p (n + 1) = fb_ct p n + (if p n then 1 else 0) := rfl
theorem fb_ct_le (p : Nat → Bool) : ∀ n, fb_ct p n ≤ n
  | 0 => Nat.le_refl _
  | n + 1 => by
    have h := fb_ct_le p n
    rw [fb_ct_succ]
    split <;> omega
theorem fb_ct_step (p : Nat → Bool) (m : Nat) : ∀ n, fb_ct p m ≤ fb_ct p (m + n)
  | 0 => Nat.le_refl _
  | n + 1 => by
    have h := fb_ct_step p m n
    show fb_ct p m ≤ fb_ct p (m + n + 1)
    rw [fb_ct_succ]
    omega
theorem fb_ct_mono (p : Nat → Bool) {m n : Nat} (h : m ≤ n) : fb_ct p m ≤ fb_ct p n := by
  have := fb_ct_step p m (n - m)
  rwa [Nat.add_sub_cancel' h] at this
theorem fb_ct_cong {p q : Nat → Bool} : ∀ {n : Nat}, (∀ k, k < n → p k = q k) → fb_ct p n = fb_ct q n
  | 0, _ => rfl
  | n + 1, h => by
    rw [fb_ct_succ, fb_ct_succ, fb_ct_cong (fun k hk => h k (by omega)), h n (by omega)]
/-- one place changed -/
theorem fb_ct_out (p : Nat → Bool) (b : Bool) {i n : Nat} (h : n ≤ i) : fb_ct (fun k => if k = i then b else p k) n = fb_ct p n :=
  fb_ct_cong fun k hk => if_neg (by omega)
theorem fb_ct_upd (p : Nat → Bool) (b : Bool) {i : Nat} : ∀ {n : Nat}, i < n → fb_ct (fun k => if k = i then b else p k) n + (if p i then 1 else 0) = fb_ct p n + (if b then 1 else 0)
  | 0, h => absurd h (Nat.not_lt_zero i)
  | n + 1, h => by
    rw [fb_ct_succ, fb_ct_succ]
    rcases Nat.lt_or_ge i n with q | q
    · have := fb_ct_upd p b q
      have e : (if n = i then b else p n) = p n := if_neg (by omega)
      rw [e]
      omega
    · have e : i = n := by omega
      subst e
      rw [fb_ct_out p b (Nat.le_refl _)]
      simp only [if_true]
      omega
theorem fb_ct_sub {p q : Nat → Bool} : ∀ {n : Nat}, (∀ k, k < n → p k = true → q k = true) → fb_ct p n ≤ fb_ct q n
  | 0, _ => Nat.le_refl _
  | n + 1, h => by
    have h1 := fb_ct_sub (n := n) (p := p) (q := q) (fun k hk => h k (by omega))
    have h2 := h n (by omega)
    rw [fb_ct_succ, fb_ct_succ]
    cases hp : p n <;> cases hq : q n <;> simp_all <;> omega
theorem fb_ct_or {p q : Nat → Bool} : ∀ {n : Nat}, (∀ k, k < n → ¬ (p k = true ∧ q k = true)) → fb_ct (fun k => p k || q k) n = fb_ct p n + fb_ct q n
  | 0, _ => rfl
  | n + 1, h => by
    have h1 := fb_ct_or (n := n) (p := p) (q := q) (fun k hk => h k (by omega))
    have h2 := h n (by omega)
    rw [fb_ct_succ, fb_ct_succ, fb_ct_succ, h1]
    cases hp : p n <;> cases hq : q n <;> simp_all <;> omega
theorem fb_ct_not (p : Nat → Bool) : ∀ n, fb_ct p n + fb_ct (fun k => !p k) n = n
  | 0 => rfl
  | n + 1 => by
    have h := fb_ct_not p n
    rw [fb_ct_succ, fb_ct_succ]
    cases p n <;> simp <;> omega
theorem fb_ct_split (p : Nat → Bool) (m : Nat) : ∀ n, fb_ct p (m + n) = fb_ct p m + fb_ct (fun k => p (m + k)) n
  | 0 => rfl
  | n + 1 => by
    have h := fb_ct_split p m n
    show fb_ct p (m + n + 1) = _
    rw [fb_ct_succ, fb_ct_succ, h, Nat.add_assoc]
theorem fb_ct_zero {p : Nat → Bool} : ∀ {n : Nat}, fb_ct p n = 0 ↔ ∀ k, k < n → p k = false
  | 0 => ⟨fun _ k hk => absurd hk (Nat.not_lt_zero k), fun _ => rfl⟩
  | n + 1 => by
    have h := fb_ct_zero (p := p) (n := n)
    rw [fb_ct_succ]
    constructor
    · intro e k hk
      have e1 : fb_ct p n = 0 := by omega
      rcases Nat.lt_or_ge k n with q | q
      · exact h.mp e1 k q
      · have ek : k = n := by omega
        subst ek
        cases hp : p k
        · rfl
        · simp [hp] at e
    · intro a
      rw [h.mpr (fun k hk => a k (by omega)), a n (by omega)]
      rfl
theorem fb_ct_pos {p : Nat → Bool} {n : Nat} : 0 < fb_ct p n ↔ ∃ k, k < n ∧ p k = true := by
  constructor
  · intro h
    refine Classical.byContradiction fun hx => ?_
    have := fb_ct_zero.mpr (fun k hk => by
      cases hp : p k
      · rfl
      · exact absurd ⟨k, hk, hp⟩ hx : ∀ k, k < n → p k = false)
    omega
  · rintro ⟨k, hk, hp⟩
    rcases Nat.eq_zero_or_pos (fb_ct p n) with e | e
    · have := fb_ct_zero.mp e k hk
      rw [this] at hp
      cases hp
    · exact e
theorem fb_ct_all {p : Nat → Bool} {n : Nat} : fb_ct p n = n ↔ ∀ k, k < n → p k = true := by
  have h := fb_ct_not p n
  constructor
  · intro e k hk
    have z : fb_ct (fun k => !p k) n = 0 := by omega
    have := fb_ct_zero.mp z k hk
    cases hp : p k
    · simp [hp] at this
    · rfl
  · intro a
    have z : fb_ct (fun k => !p k) n = 0 := fb_ct_zero.mpr (fun k hk => by simp [a k hk])
    omega
/-- the k-th place with the property -/
theorem fb_ct_kth {p : Nat → Bool} {k : Nat} : ∀ {n : Nat}, k < fb_ct p n → ∃ i, i < n ∧ p i = true ∧ fb_ct p i = k
  | 0, h => absurd h (Nat.not_lt_zero k)
  | n + 1, h => by
    rcases Nat.lt_or_ge k (fb_ct p n) with q | q
    · obtain ⟨i, h1, h2⟩ := fb_ct_kth q
      exact ⟨i, by omega, h2⟩
    · rw [fb_ct_succ] at h
      cases hp : p n
      · simp [hp] at h; omega
      · simp [hp] at h
        exact ⟨n, by omega, hp, by omega⟩
theorem fb_ct_kth_one {p : Nat → Bool} {i j : Nat} (hi : p i = true) (hj : p j = true) (e : fb_ct p i = fb_ct p j) : i = j := by
  have key : ∀ a b : Nat, a < b → p a = true → fb_ct p a < fb_ct p b := by
    intro a b hab ha
    have h := fb_ct_mono p (show a + 1 ≤ b from hab)
    rw [fb_ct_succ, ha] at h
    simp at h
    omega
  rcases Nat.lt_trichotomy i j with q | q | q
  · have := key i j q hi; omega
  · exact q
  · have := key j i q hj; omega
/-- a store that changes nothing -/
theorem fa_upd_same {f : Nat → Int32} {i : Nat} {x : Int32} (h : f i = x) : upd f i x = f := by
  funext k
  by_cases e : k = i
  · subst e
    rw [pk_us, h]
  · rw [pk_un e]
/-- a store under a condition, told as one -/
theorem fa_upd_if (c : Prop) [Decidable c] (f : Nat → Int32) (i : Nat) (x : Int32) : (if c then upd f i x else f) = upd f i (if c then x else f i) := by
  by_cases h : c
  · rw [if_pos h, if_pos h]
  · rw [if_neg h, if_neg h, fa_upd_same rfl]
/-- two stores at one place, at two -/
theorem fa_upd_twice (f : Nat → Int32) (i : Nat) (x y : Int32) : upd (upd f i x) i y = upd f i y := by
  funext k
  by_cases e : k = i
  · subst e
    rw [pk_us, pk_us]
  · rw [pk_un e, pk_un e, pk_un e]
theorem fa_upd_swap (f : Nat → Int32) {i j : Nat} (h : i ≠ j) (x y : Int32) : upd (upd f i x) j y = upd (upd f j y) i x := by
  funext k
  by_cases e : k = i
  · subst e
    rw [pk_un h, pk_us, pk_us]
  · by_cases e2 : k = j
    · subst e2
      rw [pk_us, pk_un e, pk_us]
    · rw [pk_un e2, pk_un e, pk_un e, pk_un e2]
/-! ===== the first index with a property; a count ===== -/
/-- the first k < n with p k, n if there is none -/
def fa_first (p : Nat → Bool) : Nat → Nat
  | 0 => 0
  | n + 1 => if fa_first p n < n then fa_first p n else if p n then n else n + 1
theorem fa_first_le (p : Nat → Bool) : ∀ n, fa_first p n ≤ n
  | 0 => Nat.le_refl 0
  | n + 1 => by
    have ih := fa_first_le p n
    unfold fa_first
    split
    · omega
    · split
      · omega
      · omega
theorem fa_first_no (p : Nat → Bool) : ∀ n k, k < fa_first p n → p k = false
  | 0, k, h => absurd h (Nat.not_lt_zero k)
  | n + 1, k, h => by
    have ih := fa_first_no p n
    have hl := fa_first_le p n
    unfold fa_first at h
    split at h
    · exact ih k h
    · rename_i h1
      split at h
      · exact ih k (by omega)
      · rename_i h2
        by_cases e : k = n
        · subst e
          exact Bool.eq_false_iff.mpr h2
        · exact ih k (by omega)
theorem fa_first_yes (p : Nat → Bool) : ∀ n, fa_first p n < n → p (fa_first p n) = true
  | 0, h => absurd h (Nat.not_lt_zero _)
  | n + 1, h => by
    have ih := fa_first_yes p n
    have hl := fa_first_le p n
    unfold fa_first at h ⊢
    split at h
    · rename_i h1
      rw [if_pos h1]
      exact ih h1
    · rename_i h1
      rw [if_neg h1]
      split at h
      · rename_i h2
        rw [if_pos h2]
        exact h2
      · omega
end
section
/-! plain words of this claim -/
def ic_b (b : Bool) : Int32 := if b then 1 else 0
theorem ic_b_0 {b : Bool} : ic_b b = 0 ↔ b = false := by cases b <;> decide
theorem ic_b_n {b : Bool} : ¬ ic_b b = 0 ↔ b = true := by cases b <;> decide
theorem ic_b_f {b : Bool} (h : b = false) : ic_b b = 0 := ic_b_0.mpr h
theorem ic_b_t {b : Bool} (h : b = true) : ¬ ic_b b = 0 := ic_b_n.mpr h
theorem ic_b_nar (b : Bool) : narrow .boolean (.int (ic_b b)) = .int (ic_b b) := by cases b <;> rfl
theorem ic_b_vn (b : Bool) : vp_nar .boolean (ic_b b) = ic_b b := by cases b <;> rfl
theorem ic_nby {v : Nat} (h : v < 128) : vp_nar .byte (nI v) = nI v := by
  rw [vp_nar_byte]
  exact (by decide +kernel : ∀ n, n < 128 → (nI n).toInt8.toInt32 = nI n) v h
theorem ic_i2b {v : Nat} (h : v < 128) : (nI v).toInt8.toInt32 = nI v := (by decide +kernel : ∀ n, n < 128 → (nI n).toInt8.toInt32 = nI n) v h
theorem ic_b_1 : ∀ i, i < 32 → bt (nI 1) i = decide (i = 0) := by decide +kernel
theorem ic_b_bt (b : Bool) : ∀ i, i < 32 → bt (ic_b b) i = (b && decide (i = 0)) := by cases b <;> decide +kernel
/-- bit j, shifted down and masked -/
theorem ic_bit_s (x : Int32) {j : Nat} (hj : j < 32) : (x >>> (nI j &&& 31)) &&& nI 1 = ic_b (bt x j) := by
  apply b_ext
  intro i hi
  rw [b_and, b_sshr j hj x hi, ic_b_1 i hi, ic_b_bt _ i hi]
  rcases Nat.eq_zero_or_pos i with h | h
  · subst h
    rw [Nat.add_zero, if_pos hj]
  · rw [decide_eq_false (by omega), Bool.and_false, Bool.and_false]
theorem ic_bit_u (x : Int32) {j : Nat} (hj : j < 32) : (x.toUInt32 >>> ((nI j).toUInt32 &&& Int32.toUInt32 31)).toInt32 &&& nI 1 = ic_b (bt x j) := by
  apply b_ext
  intro i hi
  rw [b_and, b_ushr j hj x i, ic_b_1 i hi, ic_b_bt _ i hi]
  rcases Nat.eq_zero_or_pos i with h | h
  · subst h
    rw [Nat.add_zero]
  · rw [decide_eq_false (by omega), Bool.and_false, Bool.and_false]
def ic_sh (j : Nat) : Int32 := nI 1 <<< (nI j &&& 31)
theorem ic_sh_bt {j i : Nat} (hj : j < 32) (hi : i < 32) : bt (ic_sh j) i = decide (i = j) := by
  unfold ic_sh
  rw [b_shl j hj _ hi, ic_b_1 _ (by omega), ← Bool.decide_and]
  exact decide_eq_decide.mpr (by omega)
theorem ic_or_sh (th : Int32) {j : Nat} (hj : j < 32) : bt (th ||| ic_sh j) = va_up (bt th) j true := by
  funext i
  unfold va_up
  rcases Nat.lt_or_ge i 32 with hi | hi
  · rw [b_or, ic_sh_bt hj hi]
    by_cases e : i = j
    · rw [if_pos e, decide_eq_true e, Bool.or_true]
    · rw [if_neg e, decide_eq_false e, Bool.or_false]
  · rw [b_big hi, if_neg (by omega), b_big hi]
theorem ic_clr_sh (th : Int32) {j : Nat} (hj : j < 32) : bt (th &&& (ic_sh j ^^^ (-1))) = va_up (bt th) j false := by
  funext i
  unfold va_up
  rcases Nat.lt_or_ge i 32 with hi | hi
  · rw [b_and, b_xor, ic_sh_bt hj hi, b_m1 i hi]
    by_cases e : i = j
    · rw [if_pos e, decide_eq_true e, Bool.xor_self, Bool.and_false]
    · rw [if_neg e, decide_eq_false e, Bool.false_xor, Bool.and_true]
  · rw [b_big hi, if_neg (by omega), b_big hi]
/-- x is a number under N, and T holds there -/
def ic_in (T : Nat → Bool) (N : Nat) (x : Int32) : Bool := decide (¬ (x < 0 ∨ N ≤ x.toNatClampNeg)) && T x.toNatClampNeg
theorem ic_in_neg {T : Nat → Bool} {N : Nat} {x : Int32} (h : x < 0) : ic_in T N x = false := by
  unfold ic_in
  rw [decide_eq_false (fun q => q (Or.inl h)), Bool.false_and]
theorem ic_in_big {T : Nat → Bool} {N : Nat} {x : Int32} (hN : N < 2 ^ 31) (h : nI N ≤ x) : ic_in T N x = false := by
  have h1 := Int32.le_iff_toInt_le.mp h
  rw [nI_toInt hN] at h1
  have h2 : N ≤ x.toNatClampNeg := by
    show N ≤ x.toInt.toNat
    omega
  unfold ic_in
  rw [decide_eq_false (fun q => q (Or.inr h2)), Bool.false_and]
theorem ic_in_nI {T : Nat → Bool} {N j : Nat} (hj : j < N) (hN : N < 2 ^ 31) : ic_in T N (nI j) = T j := by
  have h : ¬ (nI j < 0 ∨ N ≤ (nI j).toNatClampNeg) := nI_in hj hN
  unfold ic_in
  rw [decide_eq_true h, Bool.true_and, nI_clamp (by omega)]
theorem ic_in_out {T : Nat → Bool} {N j : Nat} (hj : N ≤ j) (h : j < 2 ^ 31) : ic_in T N (nI j) = false := by
  unfold ic_in
  rw [nI_clamp h, decide_eq_false (fun q => q (Or.inr hj)), Bool.false_and]
theorem ic_in_of {T : Nat → Bool} {N : Nat} {x : Int32} (hN : N < 2 ^ 31) (h : ic_in T N x = true) : ∃ j, j < N ∧ x = nI j ∧ T j = true := by
  unfold ic_in at h
  rw [Bool.and_eq_true] at h
  have h3 : ¬ (x < 0 ∨ N ≤ x.toNatClampNeg) := of_decide_eq_true h.1
  obtain ⟨j, h1, h2⟩ := vp_in_of h3 hN
  subst h2
  rw [nI_clamp (by omega)] at h
  exact ⟨j, h1, rfl, h.2⟩
theorem ic_bool (b : Bool) : b = false ∨ b = true := by cases b <;> simp
/-- the first free party -/
def ic_fst (T : Nat → Bool) : Nat := fa_first (fun j => !T j) 8
theorem ic_fst_is {T : Nat → Bool} {b : Nat} (hb : b ≤ 8) (h1 : ∀ j, j < b → T j = true) (h2 : b < 8 → T b = false) : ic_fst T = b := by
  unfold ic_fst
  have hle := fa_first_le (fun j => !T j) 8
  have hno := fa_first_no (fun j => !T j) 8
  have hy := fa_first_yes (fun j => !T j) 8
  rcases Nat.lt_trichotomy (fa_first (fun j => !T j) 8) b with q | q | q
  · have h3 := hy (by omega)
    rw [h1 _ q] at h3
    cases h3
  · exact q
  · have h3 := hno b q
    rw [h2 (by omega)] at h3
    cases h3
theorem ic_fst_free {T : Nat → Bool} (h : ¬ ic_fst T = 8) : ic_fst T < 8 ∧ T (ic_fst T) = false := by
  have hle : ic_fst T ≤ 8 := fa_first_le (fun j => !T j) 8
  have hl : ic_fst T < 8 := by omega
  have h3 := fa_first_yes (fun j => !T j) 8 hl
  refine ⟨hl, ?_⟩
  cases h4 : T (ic_fst T)
  · rfl
  · have h5 : (!T (ic_fst T)) = true := h3
    rw [h4] at h5
    cases h5
def ic_cn (o : Int32) : Nat := fb_ct (bt o) 32
theorem ic_cn_le (o : Int32) : ic_cn o ≤ 32 := fb_ct_le _ _
/-- a set of bits by its places -/
def ic_bs (p : Nat → Bool) : Nat → Int32
  | 0 => nI 0
  | k + 1 => ic_bs p k ||| (if p k then ic_sh k else nI 0)
theorem ic_or0 (x : Int32) : x ||| nI 0 = x := by
  apply b_ext
  intro i hi
  rw [b_or, show bt (nI 0) i = false from b_0 i, Bool.or_false]
theorem ic_bs_t {p : Nat → Bool} {k : Nat} (h : p k = true) : ic_bs p (k + 1) = ic_bs p k ||| ic_sh k := by
  show ic_bs p k ||| (if p k then ic_sh k else nI 0) = _
  rw [h]
  rfl
theorem ic_bs_z {p : Nat → Bool} {k : Nat} (h : p k = false) : ic_bs p (k + 1) = ic_bs p k ||| nI 0 := by
  show ic_bs p k ||| (if p k then ic_sh k else nI 0) = _
  rw [h]
  rfl
theorem ic_bs_f {p : Nat → Bool} {k : Nat} (h : p k = false) : ic_bs p (k + 1) = ic_bs p k := by rw [ic_bs_z h, ic_or0]
theorem ic_bs_bt (p : Nat → Bool) : ∀ {n : Nat}, n ≤ 32 → ∀ {i : Nat}, i < 32 → bt (ic_bs p n) i = (decide (i < n) && p i)
  | 0, _, i, _ => by
    rw [decide_eq_false (by omega), Bool.false_and]
    exact b_0 i
  | n + 1, hn, i, hi => by
    have ih := ic_bs_bt p (n := n) (by omega) hi
    by_cases e : i = n
    · subst e
      rw [decide_eq_true (by omega : i < i + 1), Bool.true_and]
      rw [decide_eq_false (by omega : ¬ i < i), Bool.false_and] at ih
      cases h : p i
      · rw [ic_bs_f h, ih]
      · rw [ic_bs_t h, b_or, ih, ic_sh_bt hi hi, decide_eq_true rfl, Bool.or_true]
    · have h2 : bt (ic_bs p (n + 1)) i = bt (ic_bs p n) i := by
        cases h : p n
        · rw [ic_bs_f h]
        · rw [ic_bs_t h, b_or, ic_sh_bt (by omega) hi, decide_eq_false e, Bool.or_false]
      rw [h2, ih]
      congr 1
      exact decide_eq_decide.mpr (by omega)
/-- the bits that a split gives away -/
def ic_gB (o : Int32) (kp : Nat) (i : Nat) : Bool := bt o i && decide (kp ≤ fb_ct (bt o) i)
def ic_gv (o : Int32) (kp k : Nat) : Int32 := ic_bs (ic_gB o kp) k
theorem ic_gB_no {o : Int32} {kp i : Nat} (h : bt o i = false) : ic_gB o kp i = false := by unfold ic_gB; rw [h, Bool.false_and]
theorem ic_gB_lt {o : Int32} {kp i : Nat} (h : fb_ct (bt o) i < kp) : ic_gB o kp i = false := by unfold ic_gB; rw [decide_eq_false (by omega), Bool.and_false]
theorem ic_gB_ge {o : Int32} {kp i : Nat} (hb : bt o i = true) (h : kp ≤ fb_ct (bt o) i) : ic_gB o kp i = true := by unfold ic_gB; rw [hb, decide_eq_true h]; rfl
theorem ic_ct_t {p : Nat → Bool} {i : Nat} (h : p i = true) : fb_ct p (i + 1) = fb_ct p i + 1 := by rw [fb_ct_succ, h]; rfl
theorem ic_ct_f {p : Nat → Bool} {i : Nat} (h : p i = false) : fb_ct p (i + 1) = fb_ct p i := by rw [fb_ct_succ, h]; rfl
/-- heights: no height of x in the first k cells is above y's -/
def ic_un (Hn : Nat → Nat) (x y : Nat) : Nat → Bool
  | 0 => true
  | i + 1 => ic_un Hn x y i && decide (Hn (x * 32 + i) ≤ Hn (y * 32 + i))
def ic_F (Hn : Nat → Nat) (x y : Nat) : Bool := ic_un Hn x y 32
theorem ic_un_iff (Hn : Nat → Nat) (x y : Nat) : ∀ k, ic_un Hn x y k = true ↔ ∀ i, i < k → Hn (x * 32 + i) ≤ Hn (y * 32 + i)
  | 0 => ⟨fun _ i h => absurd h (Nat.not_lt_zero i), fun _ => rfl⟩
  | k + 1 => by
    have ih := ic_un_iff Hn x y k
    show (ic_un Hn x y k && decide (Hn (x * 32 + k) ≤ Hn (y * 32 + k))) = true ↔ _
    rw [Bool.and_eq_true, ih, decide_eq_true_iff]
    constructor
    · rintro ⟨h1, h2⟩ i hi
      by_cases e : i = k
      · subst e; exact h2
      · exact h1 i (by omega)
    · intro h
      exact ⟨fun i hi => h i (by omega), h k (by omega)⟩
theorem ic_un_no {Hn : Nat → Nat} {x y i k : Nat} (hi : i < k) (h : ¬ Hn (x * 32 + i) ≤ Hn (y * 32 + i)) : ic_un Hn x y k = false := by
  cases h1 : ic_un Hn x y k
  · rfl
  · exact absurd ((ic_un_iff Hn x y k).mp h1 i hi) h
theorem ic_un_s {Hn : Nat → Nat} {x y i : Nat} (h : Hn (x * 32 + i) ≤ Hn (y * 32 + i)) : ic_un Hn x y (i + 1) = ic_un Hn x y i := by
  show (ic_un Hn x y i && decide (Hn (x * 32 + i) ≤ Hn (y * 32 + i))) = _
  rw [decide_eq_true h, Bool.and_true]
/-- row f copied over row t, i cells of it -/
def ic_cp (Hn : Nat → Nat) (f t i : Nat) : Nat → Nat := fun k => if t * 32 ≤ k ∧ k < t * 32 + i then Hn (f * 32 + (k - t * 32)) else Hn k
theorem ic_cp_0 (Hn : Nat → Nat) (f t : Nat) : ic_cp Hn f t 0 = Hn := funext fun k => if_neg (by omega)
theorem ic_cp_rd (Hn : Nat → Nat) (f t : Nat) {i : Nat} (hi : i < 32) : ic_cp Hn f t i (f * 32 + i) = Hn (f * 32 + i) := if_neg (by omega)
theorem ic_cp_s (Hn : Nat → Nat) (f t : Nat) {i : Nat} (hi : i < 32) : va_up (ic_cp Hn f t i) (t * 32 + i) (Hn (f * 32 + i)) = ic_cp Hn f t (i + 1) := by
  funext k
  unfold va_up ic_cp
  by_cases e : k = t * 32 + i
  · rw [if_pos e, if_pos (by omega)]
    congr 1
    omega
  · rw [if_neg e]
    by_cases e2 : t * 32 ≤ k ∧ k < t * 32 + i
    · rw [if_pos e2, if_pos (by omega)]
    · rw [if_neg e2, if_neg (by omega)]
/-- row t raised by row f, i cells of it -/
def ic_rs (Hn : Nat → Nat) (t f i : Nat) : Nat → Nat := fun k => if t * 32 ≤ k ∧ k < t * 32 + i then max (Hn k) (Hn (f * 32 + (k - t * 32))) else Hn k
theorem ic_rs_0 (Hn : Nat → Nat) (t f : Nat) : ic_rs Hn t f 0 = Hn := funext fun k => if_neg (by omega)
theorem ic_rs_rf (Hn : Nat → Nat) (t f : Nat) {i : Nat} (hi : i < 32) : ic_rs Hn t f i (f * 32 + i) = Hn (f * 32 + i) := if_neg (by omega)
theorem ic_rs_rt (Hn : Nat → Nat) (t f : Nat) (i : Nat) : ic_rs Hn t f i (t * 32 + i) = Hn (t * 32 + i) := if_neg (by omega)
theorem ic_rs_up (Hn : Nat → Nat) (t f : Nat) {i : Nat} (h : Hn (t * 32 + i) < Hn (f * 32 + i)) : va_up (ic_rs Hn t f i) (t * 32 + i) (Hn (f * 32 + i)) = ic_rs Hn t f (i + 1) := by
  funext k
  unfold va_up ic_rs
  by_cases e : k = t * 32 + i
  · subst e
    rw [if_pos rfl, if_pos (by omega), Nat.add_sub_cancel_left]
    omega
  · rw [if_neg e]
    by_cases e2 : t * 32 ≤ k ∧ k < t * 32 + i
    · rw [if_pos e2, if_pos (by omega)]
    · rw [if_neg e2, if_neg (by omega)]
theorem ic_rs_no (Hn : Nat → Nat) (t f : Nat) {i : Nat} (h : Hn (f * 32 + i) ≤ Hn (t * 32 + i)) : ic_rs Hn t f (i + 1) = ic_rs Hn t f i := by
  funext k
  unfold ic_rs
  by_cases e : k = t * 32 + i
  · subst e
    rw [if_pos (by omega), if_neg (by omega), Nat.add_sub_cancel_left]
    omega
  · by_cases e2 : t * 32 ≤ k ∧ k < t * 32 + i
    · rw [if_pos e2, if_pos (by omega)]
    · rw [if_neg e2, if_neg (by omega)]
/-- the highest of the cells o of row a, among the first i -/
def ic_tp (Hn : Nat → Nat) (o : Int32) (a : Nat) : Nat → Nat
  | 0 => 0
  | i + 1 => max (ic_tp Hn o a i) (if bt o i = true then Hn (a * 32 + i) else 0)
theorem ic_tp_le {Hn : Nat → Nat} {o : Int32} {a n : Nat} (h : ∀ k, k < 512 → Hn k ≤ n) (ha : a < 16) : ∀ i, i ≤ 32 → ic_tp Hn o a i ≤ n
  | 0, _ => Nat.zero_le n
  | i + 1, hi => by
    have ih := ic_tp_le (o := o) h ha i (by omega)
    have h2 := h (a * 32 + i) (by omega)
    show max (ic_tp Hn o a i) (if bt o i = true then Hn (a * 32 + i) else 0) ≤ n
    split <;> omega
theorem ic_tp_ge {Hn : Nat → Nat} {o : Int32} {a : Nat} : ∀ (i : Nat) {j : Nat}, j < i → bt o j = true → Hn (a * 32 + j) ≤ ic_tp Hn o a i
  | 0, j, h, _ => absurd h (Nat.not_lt_zero j)
  | i + 1, j, h, hb => by
    show _ ≤ max (ic_tp Hn o a i) (if bt o i = true then Hn (a * 32 + i) else 0)
    by_cases e : j = i
    · subst e
      rw [if_pos hb]
      omega
    · have ih := ic_tp_ge (Hn := Hn) (a := a) i (show j < i by omega) hb
      omega
/-- the cells o of row a set to t, among the first i -/
def ic_ev (Hn : Nat → Nat) (o : Int32) (a t i : Nat) : Nat → Nat := fun k => if a * 32 ≤ k ∧ k < a * 32 + i ∧ bt o (k - a * 32) = true then t else Hn k
theorem ic_ev_0 (Hn : Nat → Nat) (o : Int32) (a t : Nat) : ic_ev Hn o a t 0 = Hn := funext fun k => if_neg (fun h => by omega)
theorem ic_ev_up (Hn : Nat → Nat) {o : Int32} (a t : Nat) {i : Nat} (h : bt o i = true) : va_up (ic_ev Hn o a t i) (a * 32 + i) t = ic_ev Hn o a t (i + 1) := by
  funext k
  unfold va_up ic_ev
  by_cases e : k = a * 32 + i
  · subst e
    rw [if_pos rfl, if_pos ⟨by omega, by omega, by rw [Nat.add_sub_cancel_left]; exact h⟩]
  · rw [if_neg e]
    by_cases e2 : a * 32 ≤ k ∧ k < a * 32 + i ∧ bt o (k - a * 32) = true
    · rw [if_pos e2, if_pos ⟨e2.1, by omega, e2.2.2⟩]
    · rw [if_neg e2, if_neg (fun q => e2 ⟨q.1, by omega, q.2.2⟩)]
theorem ic_ev_no (Hn : Nat → Nat) {o : Int32} (a t : Nat) {i : Nat} (h : bt o i = false) : ic_ev Hn o a t (i + 1) = ic_ev Hn o a t i := by
  funext k
  unfold ic_ev
  by_cases e : k = a * 32 + i
  · subst e
    rw [if_neg (fun q => ?_), if_neg (fun q => by omega)]
    have q3 := q.2.2
    rw [Nat.add_sub_cancel_left, h] at q3
    cases q3
  · by_cases e2 : a * 32 ≤ k ∧ k < a * 32 + i ∧ bt o (k - a * 32) = true
    · rw [if_pos e2, if_pos ⟨e2.1, by omega, e2.2.2⟩]
    · rw [if_neg e2, if_neg (fun q => e2 ⟨q.1, by omega, q.2.2⟩)]
theorem ic_updN (Hn : Nat → Nat) (j v : Nat) : upd (fun k => nI (Hn k)) j (nI v) = fun k => nI (va_up Hn j v k) := by
  funext k
  unfold upd va_up
  split <;> rfl
theorem ic_updB (T : Nat → Bool) (j : Nat) (v : Bool) : upd (fun k => ic_b (T k)) j (ic_b v) = fun k => ic_b (va_up T j v k) := by
  funext k
  unfold upd va_up
  split <;> rfl
end
section
/-! what each method answers and leaves, over plain states: X: (there, own, heights, count), M: (there, low, high, had, happened) -/
abbrev ic_X : Type := Int32 × (Nat → Int32) × (Nat → Nat) × Nat
abbrev ic_M : Type := (Nat → Bool) × (Nat → Int64) × (Nat → Int64) × (Nat → Int32) × Nat
def ic_fol (lo hi : Nat → Int64) (x y : Nat) : Bool := decide (lo x &&& (lo y ^^^ (-1)) = 0) && decide (hi x &&& (hi y ^^^ (-1)) = 0)
def ic_gg (o : Int32) : Int32 := ic_gv o (ic_cn o - ic_cn o / 2) 32
def ic_sp (had : Nat → Int32) (a b : Nat) (g : Int32) : Nat → Int32 := fun k => if k = b then g else if k = a then had a &&& (g ^^^ (-1)) else had k
def ic_lb (n : Nat) : Int64 := (1 : Int64) <<< ((nI n).toInt64 &&& 63)
-- looking
def ic_cmp (T : Nat → Bool) (F : Nat → Nat → Bool) (x y : Int32) : Int32 := if ic_in T 16 x = true ∧ ic_in T 16 y = true then (if F x.toNatClampNeg y.toNatClampNeg = true then (if F y.toNatClampNeg x.toNatClampNeg = true then nI 0 else nI 1) else (if F y.toNatClampNeg x.toNatClampNeg = true then nI 2 else nI 3)) else (-1)
theorem ic_cmp_no {T : Nat → Bool} {F : Nat → Nat → Bool} {x y : Int32} (h : ic_in T 16 x = false ∨ ic_in T 16 y = false) : ic_cmp T F x y = (-1) := by
  unfold ic_cmp
  rw [if_neg]
  rintro ⟨h1, h2⟩
  rcases h with h | h
  · rw [h] at h1; cases h1
  · rw [h] at h2; cases h2
theorem ic_cmp_in {T : Nat → Bool} {F : Nat → Nat → Bool} {x y : Nat} (hx : x < 16) (hy : y < 16) (h1 : T x = true) (h2 : T y = true) : ic_cmp T F (nI x) (nI y) = (if F x y = true then (if F y x = true then nI 0 else nI 1) else (if F y x = true then nI 2 else nI 3)) := by
  unfold ic_cmp
  rw [if_pos ⟨by rw [ic_in_nI hx (by decide)]; exact h1, by rw [ic_in_nI hy (by decide)]; exact h2⟩, nI_clamp (by omega), nI_clamp (by omega)]
theorem ic_cmp_00 {T : Nat → Bool} {F : Nat → Nat → Bool} {x y : Nat} (hx : x < 16) (hy : y < 16) (h1 : T x = true) (h2 : T y = true) (f : F x y = true) (g : F y x = true) : ic_cmp T F (nI x) (nI y) = nI 0 := by rw [ic_cmp_in hx hy h1 h2, if_pos f, if_pos g]
theorem ic_cmp_01 {T : Nat → Bool} {F : Nat → Nat → Bool} {x y : Nat} (hx : x < 16) (hy : y < 16) (h1 : T x = true) (h2 : T y = true) (f : F x y = true) (g : F y x = false) : ic_cmp T F (nI x) (nI y) = nI 1 := by rw [ic_cmp_in hx hy h1 h2, if_pos f, if_neg (by rw [g]; decide)]
theorem ic_cmp_10 {T : Nat → Bool} {F : Nat → Nat → Bool} {x y : Nat} (hx : x < 16) (hy : y < 16) (h1 : T x = true) (h2 : T y = true) (f : F x y = false) (g : F y x = true) : ic_cmp T F (nI x) (nI y) = nI 2 := by rw [ic_cmp_in hx hy h1 h2, if_neg (by rw [f]; decide), if_pos g]
theorem ic_cmp_11 {T : Nat → Bool} {F : Nat → Nat → Bool} {x y : Nat} (hx : x < 16) (hy : y < 16) (h1 : T x = true) (h2 : T y = true) (f : F x y = false) (g : F y x = false) : ic_cmp T F (nI x) (nI y) = nI 3 := by rw [ic_cmp_in hx hy h1 h2, if_neg (by rw [f]; decide), if_neg (by rw [g]; decide)]
/-- behind: 1 just so -/
theorem ic_cmp_1 {T : Nat → Bool} {F : Nat → Nat → Bool} {x y : Nat} (hx : x < 16) (hy : y < 16) : ic_cmp T F (nI x) (nI y) = nI 1 ↔ (T x && (T y && F x y && !F y x)) = true := by
  cases h1 : T x
  · rw [ic_cmp_no (Or.inl (by rw [ic_in_nI hx (by decide)]; exact h1))]; exact ⟨fun q => absurd q (by decide), fun q => by simp at q⟩
  · cases h2 : T y
    · rw [ic_cmp_no (Or.inr (by rw [ic_in_nI hy (by decide)]; exact h2))]; exact ⟨fun q => absurd q (by decide), fun q => by simp at q⟩
    · cases f : F x y <;> cases g : F y x
      · rw [ic_cmp_11 hx hy h1 h2 f g]; decide
      · rw [ic_cmp_10 hx hy h1 h2 f g]; decide
      · rw [ic_cmp_01 hx hy h1 h2 f g]; decide
      · rw [ic_cmp_00 hx hy h1 h2 f g]; decide
theorem ic_cmp_3 {T : Nat → Bool} {F : Nat → Nat → Bool} {x y : Nat} (hx : x < 16) (hy : y < 16) : ic_cmp T F (nI x) (nI y) = nI 3 ↔ (T x && T y && !F x y && !F y x) = true := by
  cases h1 : T x
  · rw [ic_cmp_no (Or.inl (by rw [ic_in_nI hx (by decide)]; exact h1))]; exact ⟨fun q => absurd q (by decide), fun q => by simp at q⟩
  · cases h2 : T y
    · rw [ic_cmp_no (Or.inr (by rw [ic_in_nI hy (by decide)]; exact h2))]; exact ⟨fun q => absurd q (by decide), fun q => by simp at q⟩
    · cases f : F x y <;> cases g : F y x
      · rw [ic_cmp_11 hx hy h1 h2 f g]; decide
      · rw [ic_cmp_10 hx hy h1 h2 f g]; decide
      · rw [ic_cmp_01 hx hy h1 h2 f g]; decide
      · rw [ic_cmp_00 hx hy h1 h2 f g]; decide
def ic_cel (T : Nat → Bool) (own : Nat → Int32) (a : Int32) : Int32 := if ic_in T 8 a = true then nI (ic_cn (own a.toNatClampNeg)) else (-1)
theorem ic_cel_no {T : Nat → Bool} {own : Nat → Int32} {a : Int32} (h : ic_in T 8 a = false) : ic_cel T own a = (-1) := by unfold ic_cel; rw [if_neg (by rw [h]; decide)]
theorem ic_cel_ok {T : Nat → Bool} {own : Nat → Int32} {j : Nat} (hj : j < 8) (h : T j = true) : ic_cel T own (nI j) = nI (ic_cn (own j)) := by unfold ic_cel; rw [if_pos (by rw [ic_in_nI hj (by decide)]; exact h), nI_clamp (by omega)]
def ic_bh (T : Nat → Bool) (F : Nat → Nat → Bool) (x : Int32) : Int32 := if ic_in T 16 x = true then ic_bs (fun y => T y && F y x.toNatClampNeg) 16 else nI 0
theorem ic_bh_no {T : Nat → Bool} {F : Nat → Nat → Bool} {x : Int32} (h : ic_in T 16 x = false) : ic_bh T F x = nI 0 := by unfold ic_bh; rw [if_neg (by rw [h]; decide)]
theorem ic_bh_ok {T : Nat → Bool} {F : Nat → Nat → Bool} {x : Nat} (hx : x < 16) (h : T x = true) : ic_bh T F (nI x) = ic_bs (fun y => T y && F y x) 16 := by unfold ic_bh; rw [if_pos (by rw [ic_in_nI hx (by decide)]; exact h), nI_clamp (by omega)]
def ic_nb (T : Nat → Bool) (F : Nat → Nat → Bool) (x : Nat) : Nat → Bool
  | 0 => true
  | y + 1 => ic_nb T F x y && !(T y && F x y && !F y x)
def ic_nw (T : Nat → Bool) (F : Nat → Nat → Bool) (x : Nat) : Bool := T x && ic_nb T F x 16
def ic_al (T : Nat → Bool) (F : Nat → Nat → Bool) (m : Nat) : Nat → Bool
  | 0 => true
  | a + 1 => ic_al T F m a && (!T a || F (8 + m) a)
def ic_evw (T : Nat → Bool) (F : Nat → Nat → Bool) (m : Int32) : Int32 := ic_b (ic_in (fun j => T (8 + j)) 8 m && ic_al T F m.toNatClampNeg 8)
theorem ic_evw_no {T : Nat → Bool} {F : Nat → Nat → Bool} {m : Int32} (h : ic_in (fun j => T (8 + j)) 8 m = false) : ic_evw T F m = nI 0 := by unfold ic_evw; rw [h]; rfl
theorem ic_evw_ok {T : Nat → Bool} {F : Nat → Nat → Bool} {j : Nat} (hj : j < 8) (h : T (8 + j) = true) : ic_evw T F (nI j) = ic_b (ic_al T F j 8) := by unfold ic_evw; rw [ic_in_nI hj (by decide), h, Bool.true_and, nI_clamp (by omega)]
theorem ic_al_no {T : Nat → Bool} {F : Nat → Nat → Bool} {m a : Nat} (h1 : T a = true) (h2 : F (8 + m) a = false) : ∀ k, a < k → ic_al T F m k = false
  | 0, h => absurd h (Nat.not_lt_zero a)
  | k + 1, h => by
    show (ic_al T F m k && (!T k || F (8 + m) k)) = false
    by_cases e : a = k
    · subst e
      rw [h1, h2]
      exact Bool.and_false _
    · rw [ic_al_no h1 h2 k (by omega), Bool.false_and]
theorem ic_al_s {T : Nat → Bool} {F : Nat → Nat → Bool} {m a : Nat} (h : ic_al T F m a = true) (h2 : T a = false ∨ F (8 + m) a = true) : ic_al T F m (a + 1) = true := by
  show (ic_al T F m a && (!T a || F (8 + m) a)) = true
  rw [h]
  rcases h2 with h2 | h2
  · rw [h2]; rfl
  · rw [h2, Bool.or_true]; rfl
def ic_ap (T : Nat → Bool) (F : Nat → Nat → Bool) (c : Nat) : Bool := decide (c / 16 < c % 16) && (T (c / 16) && T (c % 16) && !F (c / 16) (c % 16) && !F (c % 16) (c / 16))
-- doing, the class
def ic_Xsplit (th : Int32) (own : Nat → Int32) (Hn : Nat → Nat) (n : Nat) (a : Int32) : Int32 × ic_X :=
  if ic_in (bt th) 8 a = true then
    (if ic_fst (bt th) = 8 ∨ ic_cn (own a.toNatClampNeg) < 2 then ((-2), th, own, Hn, n)
     else (nI (ic_fst (bt th)), th ||| ic_sh (ic_fst (bt th)), upd (upd own (ic_fst (bt th)) (ic_gg (own a.toNatClampNeg))) a.toNatClampNeg (own a.toNatClampNeg &&& (ic_gg (own a.toNatClampNeg) ^^^ (-1))), ic_cp Hn a.toNatClampNeg (ic_fst (bt th)) 32, n))
  else ((-1), th, own, Hn, n)
def ic_Xjoin (th : Int32) (own : Nat → Int32) (Hn : Nat → Nat) (n : Nat) (a b : Int32) : Int32 × ic_X :=
  if ic_in (bt th) 8 a = true ∧ ic_in (bt th) 8 b = true ∧ ¬ a = b then
    (nI (ic_cn (own a.toNatClampNeg ||| own b.toNatClampNeg)), th &&& (ic_sh b.toNatClampNeg ^^^ (-1)), upd (upd own a.toNatClampNeg (own a.toNatClampNeg ||| own b.toNatClampNeg)) b.toNatClampNeg (nI 0), ic_rs Hn a.toNatClampNeg b.toNatClampNeg 32, n)
  else ((-1), th, own, Hn, n)
def ic_Xevent (th : Int32) (own : Nat → Int32) (Hn : Nat → Nat) (n : Nat) (a : Int32) : Int32 × ic_X :=
  if ic_in (bt th) 8 a = true then
    (nI (n + 1), th, own, ic_ev Hn (own a.toNatClampNeg) a.toNatClampNeg (ic_tp Hn (own a.toNatClampNeg) a.toNatClampNeg 32 + 1) 32, n + 1)
  else ((-1), th, own, Hn, n)
def ic_Xtell (th : Int32) (own : Nat → Int32) (Hn : Nat → Nat) (n : Nat) (x b : Int32) : Int32 × ic_X :=
  if ic_in (bt th) 16 x = true ∧ ic_in (bt th) 8 b = true ∧ ¬ x = b then
    (ic_b (!ic_F Hn x.toNatClampNeg b.toNatClampNeg), th, own, ic_rs Hn b.toNatClampNeg x.toNatClampNeg 32, n)
  else ((-1), th, own, Hn, n)
def ic_Xnote (th : Int32) (own : Nat → Int32) (Hn : Nat → Nat) (n : Nat) (a m : Int32) : Int32 × ic_X :=
  if ic_in (bt th) 8 a = true ∧ ic_in (fun _ => true) 8 m = true then
    (nI 1, th ||| ic_sh (8 + m.toNatClampNeg), own, ic_cp Hn a.toNatClampNeg (8 + m.toNatClampNeg) 32, n)
  else (nI 0, th, own, Hn, n)
def ic_Xerase (th : Int32) (own : Nat → Int32) (Hn : Nat → Nat) (n : Nat) (m : Int32) : Int32 × ic_X :=
  if ic_in (fun j => bt th (8 + j)) 8 m = true then
    (nI 1, th &&& (ic_sh (8 + m.toNatClampNeg) ^^^ (-1)), own, Hn, n)
  else (nI 0, th, own, Hn, n)
-- doing, the reference
def ic_Msplit (T : Nat → Bool) (lo hi : Nat → Int64) (had : Nat → Int32) (n : Nat) (a : Int32) : Int32 × ic_M :=
  if ic_in T 8 a = true then
    (if ic_fst T = 8 ∨ ic_cn (had a.toNatClampNeg) = 1 then ((-2), T, lo, hi, had, n)
     else (nI (ic_fst T), va_up T (ic_fst T) true, vp_updL lo (ic_fst T) (lo a.toNatClampNeg), vp_updL hi (ic_fst T) (hi a.toNatClampNeg), ic_sp had a.toNatClampNeg (ic_fst T) (ic_gg (had a.toNatClampNeg)), n))
  else ((-1), T, lo, hi, had, n)
def ic_Mjoin (T : Nat → Bool) (lo hi : Nat → Int64) (had : Nat → Int32) (n : Nat) (a b : Int32) : Int32 × ic_M :=
  if ic_in T 8 a = true ∧ ic_in T 8 b = true ∧ ¬ a = b then
    (nI (ic_cn (had a.toNatClampNeg ||| had b.toNatClampNeg)), va_up T b.toNatClampNeg false, vp_updL lo a.toNatClampNeg (lo a.toNatClampNeg ||| lo b.toNatClampNeg), vp_updL hi a.toNatClampNeg (hi a.toNatClampNeg ||| hi b.toNatClampNeg), upd had a.toNatClampNeg (had a.toNatClampNeg ||| had b.toNatClampNeg), n)
  else ((-1), T, lo, hi, had, n)
def ic_Mevent (T : Nat → Bool) (lo hi : Nat → Int64) (had : Nat → Int32) (n : Nat) (a : Int32) : Int32 × ic_M :=
  if ic_in T 8 a = true then
    (nI (n + 1), T, vp_updL lo a.toNatClampNeg (lo a.toNatClampNeg ||| ic_lb n), hi, had, n + 1)
  else ((-1), T, lo, hi, had, n)
def ic_Mtell (T : Nat → Bool) (lo hi : Nat → Int64) (had : Nat → Int32) (n : Nat) (x b : Int32) : Int32 × ic_M :=
  if ic_in T 16 x = true ∧ ic_in T 8 b = true ∧ ¬ x = b then
    (ic_b (!ic_fol lo hi x.toNatClampNeg b.toNatClampNeg), T, vp_updL lo b.toNatClampNeg (lo b.toNatClampNeg ||| lo x.toNatClampNeg), vp_updL hi b.toNatClampNeg (hi b.toNatClampNeg ||| hi x.toNatClampNeg), had, n)
  else ((-1), T, lo, hi, had, n)
def ic_Mnote (T : Nat → Bool) (lo hi : Nat → Int64) (had : Nat → Int32) (n : Nat) (a m : Int32) : Int32 × ic_M :=
  if ic_in T 8 a = true ∧ ic_in (fun _ => true) 8 m = true then
    (nI 1, va_up T (8 + m.toNatClampNeg) true, vp_updL lo (8 + m.toNatClampNeg) (lo a.toNatClampNeg), vp_updL hi (8 + m.toNatClampNeg) (hi a.toNatClampNeg), had, n)
  else (nI 0, T, lo, hi, had, n)
def ic_Merase (T : Nat → Bool) (lo hi : Nat → Int64) (had : Nat → Int32) (n : Nat) (m : Int32) : Int32 × ic_M :=
  if ic_in (fun j => T (8 + j)) 8 m = true then
    (nI 1, va_up T (8 + m.toNatClampNeg) false, lo, hi, had, n)
  else (nI 0, T, lo, hi, had, n)
section ICS
variable {th : Int32} {own : Nat → Int32} {Hn : Nat → Nat} {n : Nat} {T : Nat → Bool} {lo hi : Nat → Int64} {had : Nat → Int32} {a b : Int32} {i j : Nat}
theorem ic_nt {b : Bool} (h : b = false) : ¬ b = true := by rw [h]; decide
theorem ic_Xsplit_no (h : ic_in (bt th) 8 a = false) : ic_Xsplit th own Hn n a = ((-1), th, own, Hn, n) := by unfold ic_Xsplit; rw [if_neg (ic_nt h)]
theorem ic_Xsplit_full (hj : j < 8) (hT : bt th j = true) (h : ic_fst (bt th) = 8 ∨ ic_cn (own j) < 2) : ic_Xsplit th own Hn n (nI j) = ((-2), th, own, Hn, n) := by unfold ic_Xsplit; rw [ic_in_nI hj (by decide), if_pos hT, nI_clamp (by omega), if_pos h]
theorem ic_Xsplit_ok (hj : j < 8) (hT : bt th j = true) (h : ¬ (ic_fst (bt th) = 8 ∨ ic_cn (own j) < 2)) : ic_Xsplit th own Hn n (nI j) = (nI (ic_fst (bt th)), th ||| ic_sh (ic_fst (bt th)), upd (upd own (ic_fst (bt th)) (ic_gg (own j))) j (own j &&& (ic_gg (own j) ^^^ (-1))), ic_cp Hn j (ic_fst (bt th)) 32, n) := by unfold ic_Xsplit; rw [ic_in_nI hj (by decide), if_pos hT, nI_clamp (by omega), if_neg h]
theorem ic_Xjoin_no (h : ¬ (ic_in (bt th) 8 a = true ∧ ic_in (bt th) 8 b = true ∧ ¬ a = b)) : ic_Xjoin th own Hn n a b = ((-1), th, own, Hn, n) := by unfold ic_Xjoin; rw [if_neg h]
theorem ic_Xjoin_ok (hi : i < 8) (hj : j < 8) (h1 : bt th i = true) (h2 : bt th j = true) (h : ¬ nI i = nI j) : ic_Xjoin th own Hn n (nI i) (nI j) = (nI (ic_cn (own i ||| own j)), th &&& (ic_sh j ^^^ (-1)), upd (upd own i (own i ||| own j)) j (nI 0), ic_rs Hn i j 32, n) := by unfold ic_Xjoin; rw [ic_in_nI hi (by decide), ic_in_nI hj (by decide), if_pos ⟨h1, h2, h⟩, nI_clamp (by omega), nI_clamp (by omega)]
theorem ic_Xevent_no (h : ic_in (bt th) 8 a = false) : ic_Xevent th own Hn n a = ((-1), th, own, Hn, n) := by unfold ic_Xevent; rw [if_neg (ic_nt h)]
theorem ic_Xevent_ok (hj : j < 8) (hT : bt th j = true) : ic_Xevent th own Hn n (nI j) = (nI (n + 1), th, own, ic_ev Hn (own j) j (ic_tp Hn (own j) j 32 + 1) 32, n + 1) := by unfold ic_Xevent; rw [ic_in_nI hj (by decide), if_pos hT, nI_clamp (by omega)]
theorem ic_Xtell_no (h : ¬ (ic_in (bt th) 16 a = true ∧ ic_in (bt th) 8 b = true ∧ ¬ a = b)) : ic_Xtell th own Hn n a b = ((-1), th, own, Hn, n) := by unfold ic_Xtell; rw [if_neg h]
theorem ic_Xtell_ok (hi : i < 16) (hj : j < 8) (h1 : bt th i = true) (h2 : bt th j = true) (h : ¬ nI i = nI j) : ic_Xtell th own Hn n (nI i) (nI j) = (ic_b (!ic_F Hn i j), th, own, ic_rs Hn j i 32, n) := by unfold ic_Xtell; rw [ic_in_nI hi (by decide), ic_in_nI hj (by decide), if_pos ⟨h1, h2, h⟩, nI_clamp (by omega), nI_clamp (by omega)]
theorem ic_Xnote_no (h : ¬ (ic_in (bt th) 8 a = true ∧ ic_in (fun _ => true) 8 b = true)) : ic_Xnote th own Hn n a b = (nI 0, th, own, Hn, n) := by unfold ic_Xnote; rw [if_neg h]
theorem ic_Xnote_ok (hi : i < 8) (hj : j < 8) (h1 : bt th i = true) : ic_Xnote th own Hn n (nI i) (nI j) = (nI 1, th ||| ic_sh (8 + j), own, ic_cp Hn i (8 + j) 32, n) := by unfold ic_Xnote; rw [ic_in_nI hi (by decide), ic_in_nI hj (by decide), if_pos ⟨h1, rfl⟩, nI_clamp (by omega), nI_clamp (by omega)]
theorem ic_Xerase_no (h : ic_in (fun j => bt th (8 + j)) 8 a = false) : ic_Xerase th own Hn n a = (nI 0, th, own, Hn, n) := by unfold ic_Xerase; rw [if_neg (ic_nt h)]
theorem ic_Xerase_ok (hj : j < 8) (h1 : bt th (8 + j) = true) : ic_Xerase th own Hn n (nI j) = (nI 1, th &&& (ic_sh (8 + j) ^^^ (-1)), own, Hn, n) := by unfold ic_Xerase; rw [ic_in_nI hj (by decide), if_pos h1, nI_clamp (by omega)]
theorem ic_Msplit_no (h : ic_in T 8 a = false) : ic_Msplit T lo hi had n a = ((-1), T, lo, hi, had, n) := by unfold ic_Msplit; rw [if_neg (ic_nt h)]
theorem ic_Msplit_full (hj : j < 8) (hT : T j = true) (h : ic_fst T = 8 ∨ ic_cn (had j) = 1) : ic_Msplit T lo hi had n (nI j) = ((-2), T, lo, hi, had, n) := by unfold ic_Msplit; rw [ic_in_nI hj (by decide), if_pos hT, nI_clamp (by omega), if_pos h]
theorem ic_Msplit_ok (hj : j < 8) (hT : T j = true) (h : ¬ (ic_fst T = 8 ∨ ic_cn (had j) = 1)) : ic_Msplit T lo hi had n (nI j) = (nI (ic_fst T), va_up T (ic_fst T) true, vp_updL lo (ic_fst T) (lo j), vp_updL hi (ic_fst T) (hi j), ic_sp had j (ic_fst T) (ic_gg (had j)), n) := by unfold ic_Msplit; rw [ic_in_nI hj (by decide), if_pos hT, nI_clamp (by omega), if_neg h]
theorem ic_Mjoin_no (h : ¬ (ic_in T 8 a = true ∧ ic_in T 8 b = true ∧ ¬ a = b)) : ic_Mjoin T lo hi had n a b = ((-1), T, lo, hi, had, n) := by unfold ic_Mjoin; rw [if_neg h]
theorem ic_Mjoin_ok (hi' : i < 8) (hj : j < 8) (h1 : T i = true) (h2 : T j = true) (h : ¬ nI i = nI j) : ic_Mjoin T lo hi had n (nI i) (nI j) = (nI (ic_cn (had i ||| had j)), va_up T j false, vp_updL lo i (lo i ||| lo j), vp_updL hi i (hi i ||| hi j), upd had i (had i ||| had j), n) := by unfold ic_Mjoin; rw [ic_in_nI hi' (by decide), ic_in_nI hj (by decide), if_pos ⟨h1, h2, h⟩, nI_clamp (by omega), nI_clamp (by omega)]
theorem ic_Mevent_no (h : ic_in T 8 a = false) : ic_Mevent T lo hi had n a = ((-1), T, lo, hi, had, n) := by unfold ic_Mevent; rw [if_neg (ic_nt h)]
theorem ic_Mevent_ok (hj : j < 8) (hT : T j = true) : ic_Mevent T lo hi had n (nI j) = (nI (n + 1), T, vp_updL lo j (lo j ||| ic_lb n), hi, had, n + 1) := by unfold ic_Mevent; rw [ic_in_nI hj (by decide), if_pos hT, nI_clamp (by omega)]
theorem ic_Mtell_no (h : ¬ (ic_in T 16 a = true ∧ ic_in T 8 b = true ∧ ¬ a = b)) : ic_Mtell T lo hi had n a b = ((-1), T, lo, hi, had, n) := by unfold ic_Mtell; rw [if_neg h]
theorem ic_Mtell_ok (hi' : i < 16) (hj : j < 8) (h1 : T i = true) (h2 : T j = true) (h : ¬ nI i = nI j) : ic_Mtell T lo hi had n (nI i) (nI j) = (ic_b (!ic_fol lo hi i j), T, vp_updL lo j (lo j ||| lo i), vp_updL hi j (hi j ||| hi i), had, n) := by unfold ic_Mtell; rw [ic_in_nI hi' (by decide), ic_in_nI hj (by decide), if_pos ⟨h1, h2, h⟩, nI_clamp (by omega), nI_clamp (by omega)]
theorem ic_Mnote_no (h : ¬ (ic_in T 8 a = true ∧ ic_in (fun _ => true) 8 b = true)) : ic_Mnote T lo hi had n a b = (nI 0, T, lo, hi, had, n) := by unfold ic_Mnote; rw [if_neg h]
theorem ic_Mnote_ok (hi' : i < 8) (hj : j < 8) (h1 : T i = true) : ic_Mnote T lo hi had n (nI i) (nI j) = (nI 1, va_up T (8 + j) true, vp_updL lo (8 + j) (lo i), vp_updL hi (8 + j) (hi i), had, n) := by unfold ic_Mnote; rw [ic_in_nI hi' (by decide), ic_in_nI hj (by decide), if_pos ⟨h1, rfl⟩, nI_clamp (by omega), nI_clamp (by omega)]
theorem ic_Merase_no (h : ic_in (fun j => T (8 + j)) 8 a = false) : ic_Merase T lo hi had n a = (nI 0, T, lo, hi, had, n) := by unfold ic_Merase; rw [if_neg (ic_nt h)]
theorem ic_Merase_ok (hj : j < 8) (h1 : T (8 + j) = true) : ic_Merase T lo hi had n (nI j) = (nI 1, va_up T (8 + j) false, lo, hi, had, n) := by unfold ic_Merase; rw [ic_in_nI hj (by decide), if_pos h1, nI_clamp (by omega)]
end ICS
end
section
/-! worlds of the two classes, and rows over them -/
set_option maxRecDepth 100000
abbrev ic_cl : List vw_C := [(RX0, TX0, 4), (RX1, TX1, 5)]
abbrev ic_tX (cI cB : ClassId) : List (ClassId × FieldType) := [(cI, .int), (cB, .byte)]
abbrev ic_wX (h hO hH : Nat) (cI cB : ClassId) (th : Int32) (own : Nat → Int32) (Hn : Nat → Nat) (n : Nat) : va_W := [(h, .inr (0, [.int th, .ref hO, .ref hH, .int (nI n)])), (hO, .inl (cI, 8, .inl own)), (hH, .inl (cB, 512, .inl (fun j => nI (Hn j))))]
abbrev ic_tM (cZ cJ cG cD : ClassId) : List (ClassId × FieldType) := [(cZ, .boolean), (cJ, .long), (cG, .long), (cD, .int)]
abbrev ic_wM (g gT gL gH gD : Nat) (cZ cJ cG cD : ClassId) (T : Nat → Bool) (lo hi : Nat → Int64) (had : Nat → Int32) (n : Nat) : va_W := [(g, .inr (1, [.ref gT, .ref gL, .ref gH, .ref gD, .int (nI n)])), (gT, .inl (cZ, 16, .inl (fun j => ic_b (T j)))), (gL, .inl (cJ, 16, .inr (.inl lo))), (gH, .inl (cG, 16, .inr (.inl hi))), (gD, .inl (cD, 8, .inl had))]
abbrev ic_R0 : Room := { frames := 0, cells := 0, slots := 0, locals := 0 }
abbrev ic_R1 : Room := { frames := 1, cells := 0, slots := 0, locals := 24 }
abbrev ic_R2 : Room := { frames := 2, cells := 0, slots := 0, locals := 48 }
section ICR
variable {p : Program} {l : Launch} {e : Env} {R : Room} {s : State} {m : MethodId} {args : Array Value} {below : List Frame} {meth : Method} {c : Code} {H : Heap} {locs : List Loc} {cells slots : Nat} {Q : State → Prop}
variable {cc : ByteArray} {pc : Nat} {ls : Array Slot} {rest : List Value} {D : va_G} {A : Nat → Prop} {H0 : Heap}
variable {h hO hH : Nat} {cI cB : ClassId} {th : Int32} {own : Nat → Int32} {Hn : Nat → Nat} {n : Nat}
variable {g gT gL gH gD : Nat} {cZ cJ cG cD : ClassId} {T : Nat → Bool} {lo hi : Nat → Int64} {had : Nat → Int32}
theorem ic_top {x y : Int32} (h : x = y) (k : W p l e R s m args below meth c H locs cells slots Q (F0 m pc ls (.int y :: rest))) : W p l e R s m args below meth c H locs cells slots Q (F0 m pc ls (.int x :: rest)) := by
  subst h
  exact k
theorem ic_topl {x y : Int64} (h : x = y) (k : W p l e R s m args below meth c H locs cells slots Q (F0 m pc ls (.long y :: rest))) : W p l e R s m args below meth c H locs cells slots Q (F0 m pc ls (.long x :: rest)) := by
  subst h
  exact k
theorem xg_th (hx : p.tables.exec = Jvm.exec) (hb : c.code = cc) (hts : ∀ w ∈ lw_all, w.before args s = true) (hown : s.vm.findClass RX0 = some m.cls) (hK : va_K D ic_cl (ic_tX cI cB) s) (hP : va_P D ic_cl (ic_wX h hO hH cI cB th own Hn n) H) (hdg : decode cc pc = .ok (.getfield 7, 3)) (k : W p l e R s m args below meth c H locs cells slots Q (F0 m (pc + 3) ls (.int th :: rest))) : W p l e R s m args below meth c H locs cells slots Q (F0 m pc ls (.ref h :: rest)) :=
  va_get (D := D) (ci := 0) (v := .int th) (C := RX0) (T := TX0) (N := 4) hx hb hts in_X0 hown hK hP 0 rfl rfl 0 (by decide) (hts _ q22) (fun _ h9 => h9) rfl hdg k
theorem xg_own (hx : p.tables.exec = Jvm.exec) (hb : c.code = cc) (hts : ∀ w ∈ lw_all, w.before args s = true) (hown : s.vm.findClass RX0 = some m.cls) (hK : va_K D ic_cl (ic_tX cI cB) s) (hP : va_P D ic_cl (ic_wX h hO hH cI cB th own Hn n) H) (hdg : decode cc pc = .ok (.getfield 13, 3)) (k : W p l e R s m args below meth c H locs cells slots Q (F0 m (pc + 3) ls (.ref hO :: rest))) : W p l e R s m args below meth c H locs cells slots Q (F0 m pc ls (.ref h :: rest)) :=
  va_get (D := D) (ci := 0) (v := .ref hO) (C := RX0) (T := TX0) (N := 4) hx hb hts in_X0 hown hK hP 0 rfl rfl 1 (by decide) (hts _ q23) (fun _ h9 => h9) rfl hdg k
theorem xg_ht (hx : p.tables.exec = Jvm.exec) (hb : c.code = cc) (hts : ∀ w ∈ lw_all, w.before args s = true) (hown : s.vm.findClass RX0 = some m.cls) (hK : va_K D ic_cl (ic_tX cI cB) s) (hP : va_P D ic_cl (ic_wX h hO hH cI cB th own Hn n) H) (hdg : decode cc pc = .ok (.getfield 17, 3)) (k : W p l e R s m args below meth c H locs cells slots Q (F0 m (pc + 3) ls (.ref hH :: rest))) : W p l e R s m args below meth c H locs cells slots Q (F0 m pc ls (.ref h :: rest)) :=
  va_get (D := D) (ci := 0) (v := .ref hH) (C := RX0) (T := TX0) (N := 4) hx hb hts in_X0 hown hK hP 0 rfl rfl 2 (by decide) (hts _ q24) (fun _ h9 => h9) rfl hdg k
theorem xg_cnt (hx : p.tables.exec = Jvm.exec) (hb : c.code = cc) (hts : ∀ w ∈ lw_all, w.before args s = true) (hown : s.vm.findClass RX0 = some m.cls) (hK : va_K D ic_cl (ic_tX cI cB) s) (hP : va_P D ic_cl (ic_wX h hO hH cI cB th own Hn n) H) (hdg : decode cc pc = .ok (.getfield 43, 3)) (k : W p l e R s m args below meth c H locs cells slots Q (F0 m (pc + 3) ls (.int (nI n) :: rest))) : W p l e R s m args below meth c H locs cells slots Q (F0 m pc ls (.ref h :: rest)) :=
  va_get (D := D) (ci := 0) (v := .int (nI n)) (C := RX0) (T := TX0) (N := 4) hx hb hts in_X0 hown hK hP 0 rfl rfl 3 (by decide) (hts _ q25) (fun _ h9 => h9) rfl hdg k
theorem mg_T (hx : p.tables.exec = Jvm.exec) (hb : c.code = cc) (hts : ∀ w ∈ lw_all, w.before args s = true) (hown : s.vm.findClass RX1 = some m.cls) (hK : va_K D ic_cl (ic_tM cZ cJ cG cD) s) (hP : va_P D ic_cl (ic_wM g gT gL gH gD cZ cJ cG cD T lo hi had n) H) (hdg : decode cc pc = .ok (.getfield 7, 3)) (k : W p l e R s m args below meth c H locs cells slots Q (F0 m (pc + 3) ls (.ref gT :: rest))) : W p l e R s m args below meth c H locs cells slots Q (F0 m pc ls (.ref g :: rest)) :=
  va_get (D := D) (ci := 1) (v := .ref gT) (C := RX1) (T := TX1) (N := 5) hx hb hts in_X1 hown hK hP 0 rfl rfl 0 (by decide) (hts _ q134) (fun _ h9 => h9) rfl hdg k
theorem mg_lo (hx : p.tables.exec = Jvm.exec) (hb : c.code = cc) (hts : ∀ w ∈ lw_all, w.before args s = true) (hown : s.vm.findClass RX1 = some m.cls) (hK : va_K D ic_cl (ic_tM cZ cJ cG cD) s) (hP : va_P D ic_cl (ic_wM g gT gL gH gD cZ cJ cG cD T lo hi had n) H) (hdg : decode cc pc = .ok (.getfield 13, 3)) (k : W p l e R s m args below meth c H locs cells slots Q (F0 m (pc + 3) ls (.ref gL :: rest))) : W p l e R s m args below meth c H locs cells slots Q (F0 m pc ls (.ref g :: rest)) :=
  va_get (D := D) (ci := 1) (v := .ref gL) (C := RX1) (T := TX1) (N := 5) hx hb hts in_X1 hown hK hP 0 rfl rfl 1 (by decide) (hts _ q135) (fun _ h9 => h9) rfl hdg k
theorem mg_hi (hx : p.tables.exec = Jvm.exec) (hb : c.code = cc) (hts : ∀ w ∈ lw_all, w.before args s = true) (hown : s.vm.findClass RX1 = some m.cls) (hK : va_K D ic_cl (ic_tM cZ cJ cG cD) s) (hP : va_P D ic_cl (ic_wM g gT gL gH gD cZ cJ cG cD T lo hi had n) H) (hdg : decode cc pc = .ok (.getfield 17, 3)) (k : W p l e R s m args below meth c H locs cells slots Q (F0 m (pc + 3) ls (.ref gH :: rest))) : W p l e R s m args below meth c H locs cells slots Q (F0 m pc ls (.ref g :: rest)) :=
  va_get (D := D) (ci := 1) (v := .ref gH) (C := RX1) (T := TX1) (N := 5) hx hb hts in_X1 hown hK hP 0 rfl rfl 2 (by decide) (hts _ q136) (fun _ h9 => h9) rfl hdg k
theorem mg_had (hx : p.tables.exec = Jvm.exec) (hb : c.code = cc) (hts : ∀ w ∈ lw_all, w.before args s = true) (hown : s.vm.findClass RX1 = some m.cls) (hK : va_K D ic_cl (ic_tM cZ cJ cG cD) s) (hP : va_P D ic_cl (ic_wM g gT gL gH gD cZ cJ cG cD T lo hi had n) H) (hdg : decode cc pc = .ok (.getfield 20, 3)) (k : W p l e R s m args below meth c H locs cells slots Q (F0 m (pc + 3) ls (.ref gD :: rest))) : W p l e R s m args below meth c H locs cells slots Q (F0 m pc ls (.ref g :: rest)) :=
  va_get (D := D) (ci := 1) (v := .ref gD) (C := RX1) (T := TX1) (N := 5) hx hb hts in_X1 hown hK hP 0 rfl rfl 3 (by decide) (hts _ q137) (fun _ h9 => h9) rfl hdg k
theorem mg_n (hx : p.tables.exec = Jvm.exec) (hb : c.code = cc) (hts : ∀ w ∈ lw_all, w.before args s = true) (hown : s.vm.findClass RX1 = some m.cls) (hK : va_K D ic_cl (ic_tM cZ cJ cG cD) s) (hP : va_P D ic_cl (ic_wM g gT gL gH gD cZ cJ cG cD T lo hi had n) H) (hdg : decode cc pc = .ok (.getfield 32, 3)) (k : W p l e R s m args below meth c H locs cells slots Q (F0 m (pc + 3) ls (.int (nI n) :: rest))) : W p l e R s m args below meth c H locs cells slots Q (F0 m pc ls (.ref g :: rest)) :=
  va_get (D := D) (ci := 1) (v := .int (nI n)) (C := RX1) (T := TX1) (N := 5) hx hb hts in_X1 hown hK hP 0 rfl rfl 4 (by decide) (hts _ q138) (fun _ h9 => h9) rfl hdg k
theorem xp_th (hx : p.tables.exec = Jvm.exec) (hb : c.code = cc) (hts : ∀ w ∈ lw_all, w.before args s = true) (hown : s.vm.findClass RX0 = some m.cls) (hK : va_K D ic_cl (ic_tX cI cB) s) (hP : va_P D ic_cl (ic_wX h hO hH cI cB th own Hn n) H) (hD : va_D A (ic_wX h hO hH cI cB th own Hn n)) (hS : va_S A H0 H locs) {v : Int32} (hdg : decode cc pc = .ok (.putfield 7, 3)) (k : ∀ (H1 : Heap) (locs1 : List Loc), va_P D ic_cl (ic_wX h hO hH cI cB v own Hn n) H1 → va_D A (ic_wX h hO hH cI cB v own Hn n) → va_S A H0 H1 locs1 → W p l e R s m args below meth c H1 locs1 cells slots Q (F0 m (pc + 3) ls rest)) : W p l e R s m args below meth c H locs cells slots Q (F0 m pc ls (.int v :: .ref h :: rest)) :=
  va_put (D := D) (ci := 0) (v := .int v) (ty := .int) (C := RX0) (T := TX0) (N := 4) hx hb hts in_X0 tyX0 tyX0_ok nmX0 hown hK hP hD hS 0 rfl rfl 0 (by decide) (hts _ q22) (fun _ h9 => h9) rfl (by decide +kernel) rfl rfl (Nat.le_of_ble_eq_true rfl) hdg k
theorem xp_cnt (hx : p.tables.exec = Jvm.exec) (hb : c.code = cc) (hts : ∀ w ∈ lw_all, w.before args s = true) (hown : s.vm.findClass RX0 = some m.cls) (hK : va_K D ic_cl (ic_tX cI cB) s) (hP : va_P D ic_cl (ic_wX h hO hH cI cB th own Hn n) H) (hD : va_D A (ic_wX h hO hH cI cB th own Hn n)) (hS : va_S A H0 H locs) {v : Nat} (hdg : decode cc pc = .ok (.putfield 43, 3)) (k : ∀ (H1 : Heap) (locs1 : List Loc), va_P D ic_cl (ic_wX h hO hH cI cB th own Hn v) H1 → va_D A (ic_wX h hO hH cI cB th own Hn v) → va_S A H0 H1 locs1 → W p l e R s m args below meth c H1 locs1 cells slots Q (F0 m (pc + 3) ls rest)) : W p l e R s m args below meth c H locs cells slots Q (F0 m pc ls (.int (nI v) :: .ref h :: rest)) :=
  va_put (D := D) (ci := 0) (v := .int (nI v)) (ty := .int) (C := RX0) (T := TX0) (N := 4) hx hb hts in_X0 tyX0 tyX0_ok nmX0 hown hK hP hD hS 0 rfl rfl 3 (by decide) (hts _ q25) (fun _ h9 => h9) rfl (by decide +kernel) rfl rfl (Nat.le_of_ble_eq_true rfl) hdg k
theorem mp_n (hx : p.tables.exec = Jvm.exec) (hb : c.code = cc) (hts : ∀ w ∈ lw_all, w.before args s = true) (hown : s.vm.findClass RX1 = some m.cls) (hK : va_K D ic_cl (ic_tM cZ cJ cG cD) s) (hP : va_P D ic_cl (ic_wM g gT gL gH gD cZ cJ cG cD T lo hi had n) H) (hD : va_D A (ic_wM g gT gL gH gD cZ cJ cG cD T lo hi had n)) (hS : va_S A H0 H locs) {v : Nat} (hdg : decode cc pc = .ok (.putfield 32, 3)) (k : ∀ (H1 : Heap) (locs1 : List Loc), va_P D ic_cl (ic_wM g gT gL gH gD cZ cJ cG cD T lo hi had v) H1 → va_D A (ic_wM g gT gL gH gD cZ cJ cG cD T lo hi had v) → va_S A H0 H1 locs1 → W p l e R s m args below meth c H1 locs1 cells slots Q (F0 m (pc + 3) ls rest)) : W p l e R s m args below meth c H locs cells slots Q (F0 m pc ls (.int (nI v) :: .ref g :: rest)) :=
  va_put (D := D) (ci := 1) (v := .int (nI v)) (ty := .int) (C := RX1) (T := TX1) (N := 5) hx hb hts in_X1 tyX1 tyX1_ok nmX1 hown hK hP hD hS 0 rfl rfl 4 (by decide) (hts _ q138) (fun _ h9 => h9) rfl (by decide +kernel) rfl rfl (Nat.le_of_ble_eq_true rfl) hdg k
theorem xo_ld (hx : p.tables.exec = Jvm.exec) (hb : c.code = cc) (hK : va_K D ic_cl (ic_tX cI cB) s) (hP : va_P D ic_cl (ic_wX h hO hH cI cB th own Hn n) H) {i : Nat} (hi0 : i < 8) (hdg : decode cc pc = .ok (.iaload, 1)) (k : W p l e R s m args below meth c H locs cells slots Q (F0 m (pc + 1) ls (.int (own i) :: rest))) : W p l e R s m args below meth c H locs cells slots Q (F0 m pc ls (.int (nI i) :: .ref hO :: rest)) := by
  refine va_iald hx hb hK hP 1 0 rfl rfl (vp_in_nI hi0 (by decide)) hdg ?_
  rw [nI_clamp (by omega)]
  exact k
theorem xh_ld (hx : p.tables.exec = Jvm.exec) (hb : c.code = cc) (hK : va_K D ic_cl (ic_tX cI cB) s) (hP : va_P D ic_cl (ic_wX h hO hH cI cB th own Hn n) H) {i : Nat} (hi0 : i < 512) (hdg : decode cc pc = .ok (.baload, 1)) (k : W p l e R s m args below meth c H locs cells slots Q (F0 m (pc + 1) ls (.int (nI (Hn i)) :: rest))) : W p l e R s m args below meth c H locs cells slots Q (F0 m pc ls (.int (nI i) :: .ref hH :: rest)) := by
  refine va_bald hx hb hK hP 2 1 rfl rfl (vp_in_nI hi0 (by decide)) hdg ?_
  rw [nI_clamp (by omega)]
  exact k
theorem mT_ld (hx : p.tables.exec = Jvm.exec) (hb : c.code = cc) (hK : va_K D ic_cl (ic_tM cZ cJ cG cD) s) (hP : va_P D ic_cl (ic_wM g gT gL gH gD cZ cJ cG cD T lo hi had n) H) {i : Nat} (hi0 : i < 16) (hdg : decode cc pc = .ok (.baload, 1)) (k : W p l e R s m args below meth c H locs cells slots Q (F0 m (pc + 1) ls (.int (ic_b (T i)) :: rest))) : W p l e R s m args below meth c H locs cells slots Q (F0 m pc ls (.int (nI i) :: .ref gT :: rest)) := by
  refine va_zald hx hb hK hP 1 0 rfl rfl (vp_in_nI hi0 (by decide)) hdg ?_
  rw [nI_clamp (by omega)]
  exact k
theorem ml_ld (hx : p.tables.exec = Jvm.exec) (hb : c.code = cc) (hK : va_K D ic_cl (ic_tM cZ cJ cG cD) s) (hP : va_P D ic_cl (ic_wM g gT gL gH gD cZ cJ cG cD T lo hi had n) H) {i : Nat} (hi0 : i < 16) (hdg : decode cc pc = .ok (.laload, 1)) (k : W p l e R s m args below meth c H locs cells slots Q (F0 m (pc + 1) ls (.long (lo i) :: rest))) : W p l e R s m args below meth c H locs cells slots Q (F0 m pc ls (.int (nI i) :: .ref gL :: rest)) := by
  refine va_lald hx hb hK hP 2 1 rfl rfl (vp_in_nI hi0 (by decide)) hdg ?_
  rw [nI_clamp (by omega)]
  exact k
theorem mh_ld (hx : p.tables.exec = Jvm.exec) (hb : c.code = cc) (hK : va_K D ic_cl (ic_tM cZ cJ cG cD) s) (hP : va_P D ic_cl (ic_wM g gT gL gH gD cZ cJ cG cD T lo hi had n) H) {i : Nat} (hi0 : i < 16) (hdg : decode cc pc = .ok (.laload, 1)) (k : W p l e R s m args below meth c H locs cells slots Q (F0 m (pc + 1) ls (.long (hi i) :: rest))) : W p l e R s m args below meth c H locs cells slots Q (F0 m pc ls (.int (nI i) :: .ref gH :: rest)) := by
  refine va_lald hx hb hK hP 3 2 rfl rfl (vp_in_nI hi0 (by decide)) hdg ?_
  rw [nI_clamp (by omega)]
  exact k
theorem md_ld (hx : p.tables.exec = Jvm.exec) (hb : c.code = cc) (hK : va_K D ic_cl (ic_tM cZ cJ cG cD) s) (hP : va_P D ic_cl (ic_wM g gT gL gH gD cZ cJ cG cD T lo hi had n) H) {i : Nat} (hi0 : i < 8) (hdg : decode cc pc = .ok (.iaload, 1)) (k : W p l e R s m args below meth c H locs cells slots Q (F0 m (pc + 1) ls (.int (had i) :: rest))) : W p l e R s m args below meth c H locs cells slots Q (F0 m pc ls (.int (nI i) :: .ref gD :: rest)) := by
  refine va_iald hx hb hK hP 4 3 rfl rfl (vp_in_nI hi0 (by decide)) hdg ?_
  rw [nI_clamp (by omega)]
  exact k
theorem xo_st (hx : p.tables.exec = Jvm.exec) (hb : c.code = cc) (hK : va_K D ic_cl (ic_tX cI cB) s) (hP : va_P D ic_cl (ic_wX h hO hH cI cB th own Hn n) H) (hD : va_D A (ic_wX h hO hH cI cB th own Hn n)) (hS : va_S A H0 H locs) {i : Nat} (hi0 : i < 8) {v : Int32} (hdg : decode cc pc = .ok (.iastore, 1)) (k : ∀ (H1 : Heap) (locs1 : List Loc), va_P D ic_cl (ic_wX h hO hH cI cB th (upd own i v) Hn n) H1 → va_D A (ic_wX h hO hH cI cB th (upd own i v) Hn n) → va_S A H0 H1 locs1 → W p l e R s m args below meth c H1 locs1 cells slots Q (F0 m (pc + 1) ls rest)) : W p l e R s m args below meth c H locs cells slots Q (F0 m pc ls (.int (v) :: .int (nI i) :: .ref hO :: rest)) := by
  refine va_iast hx hb hK hP hD hS 1 0 rfl rfl (vp_in_nI hi0 (by decide)) hdg (fun H1 locs1 hP1 hD1 hS1 => ?_)
  rw [nI_clamp (by omega)] at hP1 hD1
  exact k H1 locs1 hP1 hD1 hS1
theorem xh_st (hx : p.tables.exec = Jvm.exec) (hb : c.code = cc) (hK : va_K D ic_cl (ic_tX cI cB) s) (hP : va_P D ic_cl (ic_wX h hO hH cI cB th own Hn n) H) (hD : va_D A (ic_wX h hO hH cI cB th own Hn n)) (hS : va_S A H0 H locs) {i : Nat} (hi0 : i < 512) {v : Nat} (hv : v < 128) (hdg : decode cc pc = .ok (.bastore, 1)) (k : ∀ (H1 : Heap) (locs1 : List Loc), va_P D ic_cl (ic_wX h hO hH cI cB th own (va_up Hn i v) n) H1 → va_D A (ic_wX h hO hH cI cB th own (va_up Hn i v) n) → va_S A H0 H1 locs1 → W p l e R s m args below meth c H1 locs1 cells slots Q (F0 m (pc + 1) ls rest)) : W p l e R s m args below meth c H locs cells slots Q (F0 m pc ls (.int (nI v) :: .int (nI i) :: .ref hH :: rest)) := by
  refine va_bast hx hb hK hP hD hS 2 1 rfl rfl (vp_in_nI hi0 (by decide)) hdg (fun H1 locs1 hP1 hD1 hS1 => ?_)
  rw [nI_clamp (by omega), ic_nby hv, ic_updN] at hP1 hD1
  exact k H1 locs1 hP1 hD1 hS1
theorem mT_st (hx : p.tables.exec = Jvm.exec) (hb : c.code = cc) (hK : va_K D ic_cl (ic_tM cZ cJ cG cD) s) (hP : va_P D ic_cl (ic_wM g gT gL gH gD cZ cJ cG cD T lo hi had n) H) (hD : va_D A (ic_wM g gT gL gH gD cZ cJ cG cD T lo hi had n)) (hS : va_S A H0 H locs) {i : Nat} (hi0 : i < 16) {v : Bool} (hdg : decode cc pc = .ok (.bastore, 1)) (k : ∀ (H1 : Heap) (locs1 : List Loc), va_P D ic_cl (ic_wM g gT gL gH gD cZ cJ cG cD (va_up T i v) lo hi had n) H1 → va_D A (ic_wM g gT gL gH gD cZ cJ cG cD (va_up T i v) lo hi had n) → va_S A H0 H1 locs1 → W p l e R s m args below meth c H1 locs1 cells slots Q (F0 m (pc + 1) ls rest)) : W p l e R s m args below meth c H locs cells slots Q (F0 m pc ls (.int (ic_b v) :: .int (nI i) :: .ref gT :: rest)) := by
  refine va_zast hx hb hK hP hD hS 1 0 rfl rfl (vp_in_nI hi0 (by decide)) hdg (fun H1 locs1 hP1 hD1 hS1 => ?_)
  rw [nI_clamp (by omega), ic_b_vn, ic_updB] at hP1 hD1
  exact k H1 locs1 hP1 hD1 hS1
theorem ml_st (hx : p.tables.exec = Jvm.exec) (hb : c.code = cc) (hK : va_K D ic_cl (ic_tM cZ cJ cG cD) s) (hP : va_P D ic_cl (ic_wM g gT gL gH gD cZ cJ cG cD T lo hi had n) H) (hD : va_D A (ic_wM g gT gL gH gD cZ cJ cG cD T lo hi had n)) (hS : va_S A H0 H locs) {i : Nat} (hi0 : i < 16) {v : Int64} (hdg : decode cc pc = .ok (.lastore, 1)) (k : ∀ (H1 : Heap) (locs1 : List Loc), va_P D ic_cl (ic_wM g gT gL gH gD cZ cJ cG cD T (vp_updL lo i v) hi had n) H1 → va_D A (ic_wM g gT gL gH gD cZ cJ cG cD T (vp_updL lo i v) hi had n) → va_S A H0 H1 locs1 → W p l e R s m args below meth c H1 locs1 cells slots Q (F0 m (pc + 1) ls rest)) : W p l e R s m args below meth c H locs cells slots Q (F0 m pc ls (.long (v) :: .int (nI i) :: .ref gL :: rest)) := by
  refine va_last hx hb hK hP hD hS 2 1 rfl rfl (vp_in_nI hi0 (by decide)) hdg (fun H1 locs1 hP1 hD1 hS1 => ?_)
  rw [nI_clamp (by omega)] at hP1 hD1
  exact k H1 locs1 hP1 hD1 hS1
theorem mh_st (hx : p.tables.exec = Jvm.exec) (hb : c.code = cc) (hK : va_K D ic_cl (ic_tM cZ cJ cG cD) s) (hP : va_P D ic_cl (ic_wM g gT gL gH gD cZ cJ cG cD T lo hi had n) H) (hD : va_D A (ic_wM g gT gL gH gD cZ cJ cG cD T lo hi had n)) (hS : va_S A H0 H locs) {i : Nat} (hi0 : i < 16) {v : Int64} (hdg : decode cc pc = .ok (.lastore, 1)) (k : ∀ (H1 : Heap) (locs1 : List Loc), va_P D ic_cl (ic_wM g gT gL gH gD cZ cJ cG cD T lo (vp_updL hi i v) had n) H1 → va_D A (ic_wM g gT gL gH gD cZ cJ cG cD T lo (vp_updL hi i v) had n) → va_S A H0 H1 locs1 → W p l e R s m args below meth c H1 locs1 cells slots Q (F0 m (pc + 1) ls rest)) : W p l e R s m args below meth c H locs cells slots Q (F0 m pc ls (.long (v) :: .int (nI i) :: .ref gH :: rest)) := by
  refine va_last hx hb hK hP hD hS 3 2 rfl rfl (vp_in_nI hi0 (by decide)) hdg (fun H1 locs1 hP1 hD1 hS1 => ?_)
  rw [nI_clamp (by omega)] at hP1 hD1
  exact k H1 locs1 hP1 hD1 hS1
theorem md_st (hx : p.tables.exec = Jvm.exec) (hb : c.code = cc) (hK : va_K D ic_cl (ic_tM cZ cJ cG cD) s) (hP : va_P D ic_cl (ic_wM g gT gL gH gD cZ cJ cG cD T lo hi had n) H) (hD : va_D A (ic_wM g gT gL gH gD cZ cJ cG cD T lo hi had n)) (hS : va_S A H0 H locs) {i : Nat} (hi0 : i < 8) {v : Int32} (hdg : decode cc pc = .ok (.iastore, 1)) (k : ∀ (H1 : Heap) (locs1 : List Loc), va_P D ic_cl (ic_wM g gT gL gH gD cZ cJ cG cD T lo hi (upd had i v) n) H1 → va_D A (ic_wM g gT gL gH gD cZ cJ cG cD T lo hi (upd had i v) n) → va_S A H0 H1 locs1 → W p l e R s m args below meth c H1 locs1 cells slots Q (F0 m (pc + 1) ls rest)) : W p l e R s m args below meth c H locs cells slots Q (F0 m pc ls (.int (v) :: .int (nI i) :: .ref gD :: rest)) := by
  refine va_iast hx hb hK hP hD hS 4 3 rfl rfl (vp_in_nI hi0 (by decide)) hdg (fun H1 locs1 hP1 hD1 hS1 => ?_)
  rw [nI_clamp (by omega)] at hP1 hD1
  exact k H1 locs1 hP1 hD1 hS1
end ICR
-- contracts' starts
abbrev ic_pX (D : va_G) (h hO hH : Nat) (cI cB : ClassId) (th : Int32) (own : Nat → Int32) (Hn : Nat → Nat) (n : Nat) (As : List Value) : Array Value → State → Prop := va_Pc (.ref h :: As) (fun U => va_P D ic_cl (ic_wX h hO hH cI cB th own Hn n) U.heap ∧ va_K D ic_cl (ic_tX cI cB) U)
abbrev ic_pM (D : va_G) (g gT gL gH gD : Nat) (cZ cJ cG cD : ClassId) (T : Nat → Bool) (lo hi : Nat → Int64) (had : Nat → Int32) (n : Nat) (As : List Value) : Array Value → State → Prop := va_Pc (.ref g :: As) (fun U => va_P D ic_cl (ic_wM g gT gL gH gD cZ cJ cG cD T lo hi had n) U.heap ∧ va_K D ic_cl (ic_tM cZ cJ cG cD) U)
abbrev ic_qX (D : va_G) (h hO hH : Nat) (cI cB : ClassId) (th : Int32) (own : Nat → Int32) (Hn : Nat → Nat) (n sz : Nat) (As : List Value) : Array Value → State → Prop := va_Pc (.ref h :: As) (fun U => U.heap.size = sz ∧ va_P D ic_cl (ic_wX h hO hH cI cB th own Hn n) U.heap ∧ va_K D ic_cl (ic_tX cI cB) U ∧ va_D (fun _ => True) (ic_wX h hO hH cI cB th own Hn n))
abbrev ic_qM (D : va_G) (g gT gL gH gD : Nat) (cZ cJ cG cD : ClassId) (T : Nat → Bool) (lo hi : Nat → Int64) (had : Nat → Int32) (n sz : Nat) (As : List Value) : Array Value → State → Prop := va_Pc (.ref g :: As) (fun U => U.heap.size = sz ∧ va_P D ic_cl (ic_wM g gT gL gH gD cZ cJ cG cD T lo hi had n) U.heap ∧ va_K D ic_cl (ic_tM cZ cJ cG cD) U ∧ va_D (fun _ => True) (ic_wM g gT gL gH gD cZ cJ cG cD T lo hi had n))
-- contracts' ends
abbrev ic_BX (D : va_G) (h hO hH : Nat) (cI cB : ClassId) (A : Nat → Prop) (v : ic_X) (t : State) : Prop := va_P D ic_cl (ic_wX h hO hH cI cB v.1 v.2.1 v.2.2.1 v.2.2.2) t.heap ∧ va_K D ic_cl (ic_tX cI cB) t ∧ va_D A (ic_wX h hO hH cI cB v.1 v.2.1 v.2.2.1 v.2.2.2)
abbrev ic_BM (D : va_G) (g gT gL gH gD : Nat) (cZ cJ cG cD : ClassId) (A : Nat → Prop) (v : ic_M) (t : State) : Prop := va_P D ic_cl (ic_wM g gT gL gH gD cZ cJ cG cD v.1 v.2.1 v.2.2.1 v.2.2.2.1 v.2.2.2.2) t.heap ∧ va_K D ic_cl (ic_tM cZ cJ cG cD) t ∧ va_D A (ic_wM g gT gL gH gD cZ cJ cG cD v.1 v.2.1 v.2.2.1 v.2.2.2.1 v.2.2.2.2)
abbrev ic_AX (h hO hH : Nat) (cI cB : ClassId) (th : Int32) (own : Nat → Int32) (Hn : Nat → Nat) (n sz : Nat) : Nat → Prop := va_A (ic_wX h hO hH cI cB th own Hn n) sz
abbrev ic_AM (g gT gL gH gD : Nat) (cZ cJ cG cD : ClassId) (T : Nat → Bool) (lo hi : Nat → Int64) (had : Nat → Int32) (n sz : Nat) : Nat → Prop := va_A (ic_wM g gT gL gH gD cZ cJ cG cD T lo hi had n) sz
section ICB
variable {l : Launch} {D : va_G} {h hO hH : Nat} {cI cB : ClassId} {th : Int32} {own : Nat → Int32} {Hn : Nat → Nat} {n sz : Nat} {As : List Value}
variable {g gT gL gH gD : Nat} {cZ cJ cG cD : ClassId} {T : Nat → Bool} {lo hi : Nat → Int64} {had : Nat → Int32}
variable {y : MethodName} {cc : ByteArray} {maxL : Nat} {rt : FieldType} {rm : Room} {post : Int32 → Prop}
/-- a method that changes nothing: its body, with its end as a hypothesis -/
theorem ic_sX (hy : plainName y.cls = true) (hy2 : y.cls = RX0) (hlen : (lg_sl (.ref h :: As)).length ≤ maxL) (hnar : ∀ v, post v → narrow rt (.int v) = .int v)
    (body : ∀ (p : Program) (e : Env) (s : State) (m : MethodId) (args : Array Value) (below : List Frame) (meth : Method) (c : Code) (ls : Array Slot) (Q : State → Prop), p.tables.exec = Jvm.exec → c.code = cc → c.maxLocals = maxL → s.vm.findClass RX0 = some m.cls → (∀ w ∈ lw_all, w.before args s = true) → va_K D ic_cl (ic_tX cI cB) s → va_P D ic_cl (ic_wX h hO hH cI cB th own Hn n) s.heap → lv_has ls maxL (lv_args 0 (.ref h :: As)) →
      (∀ (v : Int32) (pc : Nat) (ls : Array Slot), post v → decode cc pc = .ok (.ireturn, 1) → W p l e rm s m args below meth c s.heap [] 0 0 Q (F0 m pc ls [.int v])) → W p l e rm s m args below meth c s.heap [] 0 0 Q (F0 m 0 ls [])) :
    Met l y (ws_ y cc maxL (some rt)) rm (ic_pX D h hO hH cI cB th own Hn n As) (vp_Si post) 0 0 (fun _ => False) := by
  refine Met.ofW (cc := cc) (maxL := maxL) (ret := some rt) hy rfl ?_
  intro p e s m args below meth c s₁ B hml hv
  obtain ⟨rfl, hP, hK⟩ := hv
  have hts := atoms_spec (ws := ws_ y cc maxL (some rt)) B.pre
  have hts : ∀ w ∈ lw_all, w.before _ s = true := fun w h => hts w (List.mem_cons_of_mem _ h)
  have hown : s.vm.findClass y.cls = some m.cls := findClass_of_methodNamed B.named
  rw [hy2] at hown
  have hl := lv_entry (.ref h :: As) hlen
  rw [lg_entry_eq]
  exact body p e s m _ below meth c _ _ B.exec B.bytes hml hown hts hK hP hl (fun v pc ls hp hd => W.zret B.exec B.bytes B.returns (hnar v hp) (fun t ht _ => ⟨v, rfl, hp, ht⟩) (fun q hq => absurd hq List.not_mem_nil) hd B.notSynchronized)
/-- a method that changes nothing: its body, with its end as a hypothesis -/
theorem ic_sM (hy : plainName y.cls = true) (hy2 : y.cls = RX1) (hlen : (lg_sl (.ref g :: As)).length ≤ maxL) (hnar : ∀ v, post v → narrow rt (.int v) = .int v)
    (body : ∀ (p : Program) (e : Env) (s : State) (m : MethodId) (args : Array Value) (below : List Frame) (meth : Method) (c : Code) (ls : Array Slot) (Q : State → Prop), p.tables.exec = Jvm.exec → c.code = cc → c.maxLocals = maxL → s.vm.findClass RX1 = some m.cls → (∀ w ∈ lw_all, w.before args s = true) → va_K D ic_cl (ic_tM cZ cJ cG cD) s → va_P D ic_cl (ic_wM g gT gL gH gD cZ cJ cG cD T lo hi had n) s.heap → lv_has ls maxL (lv_args 0 (.ref g :: As)) →
      (∀ (v : Int32) (pc : Nat) (ls : Array Slot), post v → decode cc pc = .ok (.ireturn, 1) → W p l e rm s m args below meth c s.heap [] 0 0 Q (F0 m pc ls [.int v])) → W p l e rm s m args below meth c s.heap [] 0 0 Q (F0 m 0 ls [])) :
    Met l y (ws_ y cc maxL (some rt)) rm (ic_pM D g gT gL gH gD cZ cJ cG cD T lo hi had n As) (vp_Si post) 0 0 (fun _ => False) := by
  refine Met.ofW (cc := cc) (maxL := maxL) (ret := some rt) hy rfl ?_
  intro p e s m args below meth c s₁ B hml hv
  obtain ⟨rfl, hP, hK⟩ := hv
  have hts := atoms_spec (ws := ws_ y cc maxL (some rt)) B.pre
  have hts : ∀ w ∈ lw_all, w.before _ s = true := fun w h => hts w (List.mem_cons_of_mem _ h)
  have hown : s.vm.findClass y.cls = some m.cls := findClass_of_methodNamed B.named
  rw [hy2] at hown
  have hl := lv_entry (.ref g :: As) hlen
  rw [lg_entry_eq]
  exact body p e s m _ below meth c _ _ B.exec B.bytes hml hown hts hK hP hl (fun v pc ls hp hd => W.zret B.exec B.bytes B.returns (hnar v hp) (fun t ht _ => ⟨v, rfl, hp, ht⟩) (fun q hq => absurd hq List.not_mem_nil) hd B.notSynchronized)
/-- a static method that changes nothing, of the first class -/
theorem ic_s0 (hy : plainName y.cls = true) (hlen : (lg_sl As).length ≤ maxL) (hnar : ∀ v, post v → narrow rt (.int v) = .int v)
    (body : ∀ (p : Program) (e : Env) (s : State) (m : MethodId) (args : Array Value) (below : List Frame) (meth : Method) (c : Code) (ls : Array Slot) (Q : State → Prop), p.tables.exec = Jvm.exec → c.code = cc → c.maxLocals = maxL → lv_has ls maxL (lv_args 0 As) →
      (∀ (v : Int32) (pc : Nat) (ls : Array Slot), post v → decode cc pc = .ok (.ireturn, 1) → W p l e rm s m args below meth c s.heap [] 0 0 Q (F0 m pc ls [.int v])) → W p l e rm s m args below meth c s.heap [] 0 0 Q (F0 m 0 ls [])) :
    Met l y (ws_ y cc maxL (some rt)) rm (va_Pc As (fun _ => True)) (vp_Si post) 0 0 (fun _ => False) := by
  refine Met.ofW (cc := cc) (maxL := maxL) (ret := some rt) hy rfl ?_
  intro p e s m args below meth c s₁ B hml hv
  obtain ⟨rfl, -⟩ := hv
  have hl := lv_entry As hlen
  rw [lg_entry_eq]
  exact body p e s m _ below meth c _ _ B.exec B.bytes hml hl (fun v pc ls hp hd => W.zret B.exec B.bytes B.returns (hnar v hp) (fun t ht _ => ⟨v, rfl, hp, ht⟩) (fun q hq => absurd hq List.not_mem_nil) hd B.notSynchronized)
/-- a method that changes its object's world: its body, with its end as a hypothesis -/
theorem ic_uX {pst : Int32 → ic_X → Prop} (hy : plainName y.cls = true) (hy2 : y.cls = RX0) (hlen : (lg_sl (.ref h :: As)).length ≤ maxL) (hnar : ∀ v u, pst v u → narrow rt (.int v) = .int v)
    (body : ∀ (p : Program) (e : Env) (s : State) (m : MethodId) (args : Array Value) (below : List Frame) (meth : Method) (c : Code) (ls : Array Slot) (Q : State → Prop) (A : Nat → Prop), p.tables.exec = Jvm.exec → c.code = cc → c.maxLocals = maxL → s.vm.findClass RX0 = some m.cls → (∀ w ∈ lw_all, w.before args s = true) → va_K D ic_cl (ic_tX cI cB) s → va_P D ic_cl (ic_wX h hO hH cI cB th own Hn n) s.heap → va_D A (ic_wX h hO hH cI cB th own Hn n) → (∀ q : Nat, s.heap.size ≤ q → A q) → va_S A s.heap s.heap [] → lv_has ls maxL (lv_args 0 (.ref h :: As)) →
      (∀ (v : Int32) (th1 : Int32) (own1 : Nat → Int32) (Hn1 : Nat → Nat) (n1 : Nat) (pc : Nat) (ls : Array Slot) (H : Heap) (locs : List Loc), pst v (th1, own1, Hn1, n1) → va_P D ic_cl (ic_wX h hO hH cI cB th1 own1 Hn1 n1) H → va_D A (ic_wX h hO hH cI cB th1 own1 Hn1 n1) → va_S A s.heap H locs → decode cc pc = .ok (.ireturn, 1) → W p l e rm s m args below meth c H locs 0 0 Q (F0 m pc ls [.int v])) → W p l e rm s m args below meth c s.heap [] 0 0 Q (F0 m 0 ls [])) :
    Met l y (ws_ y cc maxL (some rt)) rm (ic_qX D h hO hH cI cB th own Hn n sz As) (va_Qi pst (ic_BX D h hO hH cI cB (ic_AX h hO hH cI cB th own Hn n sz)) (ic_AX h hO hH cI cB th own Hn n sz)) 0 0 (ic_AX h hO hH cI cB th own Hn n sz) := by
  refine Met.ofW (cc := cc) (maxL := maxL) (ret := (some rt)) hy rfl ?_
  intro p e s m args below meth c s₁ B hml hv
  obtain ⟨rfl, hsz, hP, hK, hD0⟩ := hv
  subst hsz
  have hts := atoms_spec (ws := ws_ y cc maxL (some rt)) B.pre
  have hts : ∀ w ∈ lw_all, w.before _ s = true := fun w h => hts w (List.mem_cons_of_mem _ h)
  have hown : s.vm.findClass y.cls = some m.cls := findClass_of_methodNamed B.named
  rw [hy2] at hown
  have hD := hD0.self (sz := s.heap.size)
  have hl := lv_entry (.ref h :: As) hlen
  rw [lg_entry_eq]
  exact body p e s m _ below meth c _ _ _ B.exec B.bytes hml hown hts hK hP hD (fun q h => Or.inr h) va_S.rf hl (fun v th1 own1 Hn1 n1 pc ls H locs hp hP9 hD9 hS9 hd => W.zret B.exec B.bytes B.returns (hnar v _ hp) (fun t ht hW => ⟨⟨v, (th1, own1, Hn1, n1), rfl, hp, by rw [ht]; exact hP9, va_K.moved hW.alike hK, hD9⟩, hS9.F ht⟩) hS9.2.2 hd B.notSynchronized)
/-- a method that changes its object's world: its body, with its end as a hypothesis -/
theorem ic_uXv {pst : ic_X → Prop} (hy : plainName y.cls = true) (hy2 : y.cls = RX0) (hlen : (lg_sl (.ref h :: As)).length ≤ maxL) 
    (body : ∀ (p : Program) (e : Env) (s : State) (m : MethodId) (args : Array Value) (below : List Frame) (meth : Method) (c : Code) (ls : Array Slot) (Q : State → Prop) (A : Nat → Prop), p.tables.exec = Jvm.exec → c.code = cc → c.maxLocals = maxL → s.vm.findClass RX0 = some m.cls → (∀ w ∈ lw_all, w.before args s = true) → va_K D ic_cl (ic_tX cI cB) s → va_P D ic_cl (ic_wX h hO hH cI cB th own Hn n) s.heap → va_D A (ic_wX h hO hH cI cB th own Hn n) → (∀ q : Nat, s.heap.size ≤ q → A q) → va_S A s.heap s.heap [] → lv_has ls maxL (lv_args 0 (.ref h :: As)) →
      (∀ (th1 : Int32) (own1 : Nat → Int32) (Hn1 : Nat → Nat) (n1 : Nat) (pc : Nat) (ls : Array Slot) (H : Heap) (locs : List Loc), pst (th1, own1, Hn1, n1) → va_P D ic_cl (ic_wX h hO hH cI cB th1 own1 Hn1 n1) H → va_D A (ic_wX h hO hH cI cB th1 own1 Hn1 n1) → va_S A s.heap H locs → decode cc pc = .ok (.return_, 1) → W p l e rm s m args below meth c H locs 0 0 Q (F0 m pc ls [])) → W p l e rm s m args below meth c s.heap [] 0 0 Q (F0 m 0 ls [])) :
    Met l y (ws_ y cc maxL none) rm (ic_qX D h hO hH cI cB th own Hn n sz As) (va_Qv pst (ic_BX D h hO hH cI cB (ic_AX h hO hH cI cB th own Hn n sz)) (ic_AX h hO hH cI cB th own Hn n sz)) 0 0 (ic_AX h hO hH cI cB th own Hn n sz) := by
  refine Met.ofW (cc := cc) (maxL := maxL) (ret := none) hy rfl ?_
  intro p e s m args below meth c s₁ B hml hv
  obtain ⟨rfl, hsz, hP, hK, hD0⟩ := hv
  subst hsz
  have hts := atoms_spec (ws := ws_ y cc maxL none) B.pre
  have hts : ∀ w ∈ lw_all, w.before _ s = true := fun w h => hts w (List.mem_cons_of_mem _ h)
  have hown : s.vm.findClass y.cls = some m.cls := findClass_of_methodNamed B.named
  rw [hy2] at hown
  have hD := hD0.self (sz := s.heap.size)
  have hl := lv_entry (.ref h :: As) hlen
  rw [lg_entry_eq]
  exact body p e s m _ below meth c _ _ _ B.exec B.bytes hml hown hts hK hP hD (fun q h => Or.inr h) va_S.rf hl (fun th1 own1 Hn1 n1 pc ls H locs hp hP9 hD9 hS9 hd => W.vret B.exec B.bytes B.returns (fun t ht hW => ⟨⟨(th1, own1, Hn1, n1), rfl, hp, by rw [ht]; exact hP9, va_K.moved hW.alike hK, hD9⟩, hS9.F ht⟩) hS9.2.2 hd B.notSynchronized)
/-- a method that changes its object's world: its body, with its end as a hypothesis -/
theorem ic_uM {pst : Int32 → ic_M → Prop} (hy : plainName y.cls = true) (hy2 : y.cls = RX1) (hlen : (lg_sl (.ref g :: As)).length ≤ maxL) (hnar : ∀ v u, pst v u → narrow rt (.int v) = .int v)
    (body : ∀ (p : Program) (e : Env) (s : State) (m : MethodId) (args : Array Value) (below : List Frame) (meth : Method) (c : Code) (ls : Array Slot) (Q : State → Prop) (A : Nat → Prop), p.tables.exec = Jvm.exec → c.code = cc → c.maxLocals = maxL → s.vm.findClass RX1 = some m.cls → (∀ w ∈ lw_all, w.before args s = true) → va_K D ic_cl (ic_tM cZ cJ cG cD) s → va_P D ic_cl (ic_wM g gT gL gH gD cZ cJ cG cD T lo hi had n) s.heap → va_D A (ic_wM g gT gL gH gD cZ cJ cG cD T lo hi had n) → (∀ q : Nat, s.heap.size ≤ q → A q) → va_S A s.heap s.heap [] → lv_has ls maxL (lv_args 0 (.ref g :: As)) →
      (∀ (v : Int32) (T1 : Nat → Bool) (lo1 hi1 : Nat → Int64) (had1 : Nat → Int32) (n1 : Nat) (pc : Nat) (ls : Array Slot) (H : Heap) (locs : List Loc), pst v (T1, lo1, hi1, had1, n1) → va_P D ic_cl (ic_wM g gT gL gH gD cZ cJ cG cD T1 lo1 hi1 had1 n1) H → va_D A (ic_wM g gT gL gH gD cZ cJ cG cD T1 lo1 hi1 had1 n1) → va_S A s.heap H locs → decode cc pc = .ok (.ireturn, 1) → W p l e rm s m args below meth c H locs 0 0 Q (F0 m pc ls [.int v])) → W p l e rm s m args below meth c s.heap [] 0 0 Q (F0 m 0 ls [])) :
    Met l y (ws_ y cc maxL (some rt)) rm (ic_qM D g gT gL gH gD cZ cJ cG cD T lo hi had n sz As) (va_Qi pst (ic_BM D g gT gL gH gD cZ cJ cG cD (ic_AM g gT gL gH gD cZ cJ cG cD T lo hi had n sz)) (ic_AM g gT gL gH gD cZ cJ cG cD T lo hi had n sz)) 0 0 (ic_AM g gT gL gH gD cZ cJ cG cD T lo hi had n sz) := by
  refine Met.ofW (cc := cc) (maxL := maxL) (ret := (some rt)) hy rfl ?_
  intro p e s m args below meth c s₁ B hml hv
  obtain ⟨rfl, hsz, hP, hK, hD0⟩ := hv
  subst hsz
  have hts := atoms_spec (ws := ws_ y cc maxL (some rt)) B.pre
  have hts : ∀ w ∈ lw_all, w.before _ s = true := fun w h => hts w (List.mem_cons_of_mem _ h)
  have hown : s.vm.findClass y.cls = some m.cls := findClass_of_methodNamed B.named
  rw [hy2] at hown
  have hD := hD0.self (sz := s.heap.size)
  have hl := lv_entry (.ref g :: As) hlen
  rw [lg_entry_eq]
  exact body p e s m _ below meth c _ _ _ B.exec B.bytes hml hown hts hK hP hD (fun q h => Or.inr h) va_S.rf hl (fun v T1 lo1 hi1 had1 n1 pc ls H locs hp hP9 hD9 hS9 hd => W.zret B.exec B.bytes B.returns (hnar v _ hp) (fun t ht hW => ⟨⟨v, (T1, lo1, hi1, had1, n1), rfl, hp, by rw [ht]; exact hP9, va_K.moved hW.alike hK, hD9⟩, hS9.F ht⟩) hS9.2.2 hd B.notSynchronized)
end ICB
section ICC
variable {p : Program} {l : Launch} {e : Env} {R : Room} {s : State} {m : MethodId} {args : Array Value} {below : List Frame} {meth : Method} {c : Code} {H : Heap} {locs : List Loc} {cells slots : Nat} {Q : State → Prop}
variable {cc : ByteArray} {pc : Nat} {ls : Array Slot} {rest st0 : List Value} {D : va_G} {A : Nat → Prop} {H0 : Heap}
variable {h hO hH : Nat} {cI cB : ClassId} {th : Int32} {own : Nat → Int32} {Hn : Nat → Nat} {n : Nat}
variable {g gT gL gH gD : Nat} {cZ cJ cG cD : ClassId} {T : Nat → Bool} {lo hi : Nat → Int64} {had : Nat → Int32}
variable {y : MethodName} {bytes : ByteArray} {maxL nL nn index : Nat} {ret : Option FieldType} {ws : List Cond} {rm : Room} {As : List Value} {post : Int32 → Prop} {ow : String}
/-- a call of a method that changes nothing -/
theorem xc_i (S : CallFix p m c cc nL s args lw_all ow) (hM : Met l y ws rm (ic_pX D h hO hH cI cB th own Hn n As) (vp_Si post) 0 0 (fun _ => False)) (cw : CallW R s args ow RX0 index y bytes maxL ret ws rm 0 0 nn) (hK : va_K D ic_cl (ic_tX cI cB) s) (hP : va_P D ic_cl (ic_wX h hO hH cI cB th own Hn n) H) (hn : As.length = nn) (hsize : ls.size = nL) (hst : st0 = As.reverse ++ .ref h :: rest) (hroom : (rest.map fun v => v.category).sum ≤ 8) (hdg : decode cc pc = .ok (.invokevirtual index, 3)) (hf : cells + 0 ≤ R.cells ∧ slots + 0 ≤ R.slots)
    (k : ∀ r : Int32, post r → W p l e R s m args below meth c H locs cells slots Q (F0 m (pc + 3) ls (.int r :: rest))) : W p l e R s m args below meth c H locs cells slots Q (F0 m pc ls st0) :=
  vp_callSi (va_runV (As := As) (rest := rest) S hM cw ⟨fun a U g mk q => by
    obtain ⟨q0, qP, qK⟩ := q
    exact ⟨q0, qP, va_K.moved (u := U) (U := U.calling g mk a) (Vm.Alike.refl U.vm) qK⟩, va_recv hK hP (ci := 0) (q0 := 0) rfl rfl, fun U hU hW => ⟨rfl, by rw [hU]; exact hP, va_K.moved hW.alike hK⟩⟩ rfl hn hsize hst (lv_room hroom) hdg hf).run k
/-- a call of a method that changes nothing -/
theorem mc_i (S : CallFix p m c cc nL s args lw_all ow) (hM : Met l y ws rm (ic_pM D g gT gL gH gD cZ cJ cG cD T lo hi had n As) (vp_Si post) 0 0 (fun _ => False)) (cw : CallW R s args ow RX1 index y bytes maxL ret ws rm 0 0 nn) (hK : va_K D ic_cl (ic_tM cZ cJ cG cD) s) (hP : va_P D ic_cl (ic_wM g gT gL gH gD cZ cJ cG cD T lo hi had n) H) (hn : As.length = nn) (hsize : ls.size = nL) (hst : st0 = As.reverse ++ .ref g :: rest) (hroom : (rest.map fun v => v.category).sum ≤ 8) (hdg : decode cc pc = .ok (.invokevirtual index, 3)) (hf : cells + 0 ≤ R.cells ∧ slots + 0 ≤ R.slots)
    (k : ∀ r : Int32, post r → W p l e R s m args below meth c H locs cells slots Q (F0 m (pc + 3) ls (.int r :: rest))) : W p l e R s m args below meth c H locs cells slots Q (F0 m pc ls st0) :=
  vp_callSi (va_runV (As := As) (rest := rest) S hM cw ⟨fun a U g mk q => by
    obtain ⟨q0, qP, qK⟩ := q
    exact ⟨q0, qP, va_K.moved (u := U) (U := U.calling g mk a) (Vm.Alike.refl U.vm) qK⟩, va_recv hK hP (ci := 1) (q0 := 0) rfl rfl, fun U hU hW => ⟨rfl, by rw [hU]; exact hP, va_K.moved hW.alike hK⟩⟩ rfl hn hsize hst (lv_room hroom) hdg hf).run k
theorem ic_c0 (S : CallFix p m c cc nL s args lw_all ow) (hM : Met l y ws rm (va_Pc As (fun _ => True)) (vp_Si post) 0 0 (fun _ => False)) (cw : CallB R s args ow index y bytes maxL ret ws rm 0 0 nn ∧ (Cond.static y).before args s = true) (hn : As.length = nn) (hsize : ls.size = nL) (hst : st0 = As.reverse ++ rest) (hroom : (rest.map fun v => v.category).sum ≤ 8) (hdg : decode cc pc = .ok (.invokestatic index, 3)) (hf : cells + 0 ≤ R.cells ∧ slots + 0 ≤ R.slots)
    (k : ∀ r : Int32, post r → W p l e R s m args below meth c H locs cells slots Q (F0 m (pc + 3) ls (.int r :: rest))) : W p l e R s m args below meth c H locs cells slots Q (F0 m pc ls st0) :=
  vp_callSi (va_runS (As := As) (rest := rest) S hM cw ⟨fun a U g mk q => q, fun U hU hW => ⟨rfl, trivial⟩⟩ rfl hn hsize hst (lv_room hroom) hdg hf).run k
/-- a call of a method that changes the object's world -/
theorem xc_m {pst : Int32 → ic_X → Prop} (S : CallFix p m c cc nL s args lw_all ow) (hM : Met l y ws rm (ic_qX D h hO hH cI cB th own Hn n H.size As) (va_Qi pst (ic_BX D h hO hH cI cB (ic_AX h hO hH cI cB th own Hn n H.size)) (ic_AX h hO hH cI cB th own Hn n H.size)) 0 0 (ic_AX h hO hH cI cB th own Hn n H.size)) (cw : CallW R s args ow RX0 index y bytes maxL ret ws rm 0 0 nn) (hK : va_K D ic_cl (ic_tX cI cB) s) (hP : va_P D ic_cl (ic_wX h hO hH cI cB th own Hn n) H) (hD : va_D A (ic_wX h hO hH cI cB th own Hn n)) (hS : va_S A H0 H locs) (hA : ∀ q : Nat, H0.size ≤ q → A q) (hn : As.length = nn) (hsize : ls.size = nL) (hst : st0 = As.reverse ++ .ref h :: rest) (hroom : (rest.map fun v => v.category).sum ≤ 8) (hdg : decode cc pc = .ok (.invokevirtual index, 3)) (hf : cells + 0 ≤ R.cells ∧ slots + 0 ≤ R.slots)
    (k : ∀ (r : Int32) (v : ic_X) (H1 : Heap) (locs1 : List Loc), pst r v → va_P D ic_cl (ic_wX h hO hH cI cB v.1 v.2.1 v.2.2.1 v.2.2.2) H1 → va_D A (ic_wX h hO hH cI cB v.1 v.2.1 v.2.2.1 v.2.2.2) → va_S A H0 H1 locs1 → W p l e R s m args below meth c H1 locs1 cells slots Q (F0 m (pc + 3) ls (.int r :: rest))) : W p l e R s m args below meth c H locs cells slots Q (F0 m pc ls st0) := by
  have hF : ∀ q, ic_AX h hO hH cI cB th own Hn n H.size q → A q := va_free (wc := ic_wX h hO hH cI cB th own Hn n) hD hS hA [0, 1, 2] rfl
  refine va_calli (va_runV (As := As) (rest := rest) S hM cw ⟨fun a U g mk q => by
    obtain ⟨q0, q1, qP, qK, qD⟩ := q
    exact ⟨q0, q1, qP, va_K.moved (u := U) (U := U.calling g mk a) (Vm.Alike.refl U.vm) qK, qD⟩, va_recv hK hP (ci := 0) (q0 := 0) rfl rfl, fun U hU hW => ⟨rfl, by rw [hU], by rw [hU]; exact hP, va_K.moved hW.alike hK, hD.weaken (fun _ _ _ _ => trivial)⟩⟩ rfl hn hsize hst (lv_room hroom) hdg hf) hS (fun q _ hq => hF q hq) hF (fun r v t H1 locs1 ht hvm hp hB hz hk hS1 => ?_)
  obtain ⟨hP1, hK1, hD1⟩ := hB
  rw [ht] at hP1
  exact k r v H1 locs1 hp hP1 (hD1.weaken (fun _ q _ hq => hF q.1 hq)) hS1
/-- a call of a method that changes the object's world -/
theorem xc_mv {pst : ic_X → Prop} (S : CallFix p m c cc nL s args lw_all ow) (hM : Met l y ws rm (ic_qX D h hO hH cI cB th own Hn n H.size As) (va_Qv pst (ic_BX D h hO hH cI cB (ic_AX h hO hH cI cB th own Hn n H.size)) (ic_AX h hO hH cI cB th own Hn n H.size)) 0 0 (ic_AX h hO hH cI cB th own Hn n H.size)) (cw : CallW R s args ow RX0 index y bytes maxL ret ws rm 0 0 nn) (hK : va_K D ic_cl (ic_tX cI cB) s) (hP : va_P D ic_cl (ic_wX h hO hH cI cB th own Hn n) H) (hD : va_D A (ic_wX h hO hH cI cB th own Hn n)) (hS : va_S A H0 H locs) (hA : ∀ q : Nat, H0.size ≤ q → A q) (hn : As.length = nn) (hsize : ls.size = nL) (hst : st0 = As.reverse ++ .ref h :: rest) (hroom : (rest.map fun v => v.category).sum ≤ 8) (hdg : decode cc pc = .ok (.invokevirtual index, 3)) (hf : cells + 0 ≤ R.cells ∧ slots + 0 ≤ R.slots)
    (k : ∀ (v : ic_X) (H1 : Heap) (locs1 : List Loc), pst v → va_P D ic_cl (ic_wX h hO hH cI cB v.1 v.2.1 v.2.2.1 v.2.2.2) H1 → va_D A (ic_wX h hO hH cI cB v.1 v.2.1 v.2.2.1 v.2.2.2) → va_S A H0 H1 locs1 → W p l e R s m args below meth c H1 locs1 cells slots Q (F0 m (pc + 3) ls rest)) : W p l e R s m args below meth c H locs cells slots Q (F0 m pc ls st0) := by
  have hF : ∀ q, ic_AX h hO hH cI cB th own Hn n H.size q → A q := va_free (wc := ic_wX h hO hH cI cB th own Hn n) hD hS hA [0, 1, 2] rfl
  refine va_callv (va_runV (As := As) (rest := rest) S hM cw ⟨fun a U g mk q => by
    obtain ⟨q0, q1, qP, qK, qD⟩ := q
    exact ⟨q0, q1, qP, va_K.moved (u := U) (U := U.calling g mk a) (Vm.Alike.refl U.vm) qK, qD⟩, va_recv hK hP (ci := 0) (q0 := 0) rfl rfl, fun U hU hW => ⟨rfl, by rw [hU], by rw [hU]; exact hP, va_K.moved hW.alike hK, hD.weaken (fun _ _ _ _ => trivial)⟩⟩ rfl hn hsize hst (lv_room hroom) hdg hf) hS (fun q _ hq => hF q hq) hF (fun v t H1 locs1 ht hvm hp hB hz hk hS1 => ?_)
  obtain ⟨hP1, hK1, hD1⟩ := hB
  rw [ht] at hP1
  exact k v H1 locs1 hp hP1 (hD1.weaken (fun _ q _ hq => hF q.1 hq)) hS1
end ICC
end
section
/-! IntervalClocks: the leaves -/
theorem ic_ct_add (p : Nat → Bool) (i : Nat) : nI (fb_ct p i) + ic_b (p i) = nI (fb_ct p (i + 1)) := by
  cases h : p i
  · rw [ic_ct_f h]; exact (nI_add _ 0).trans rfl
  · rw [ic_ct_t h]; exact nI_1 _
set_option maxHeartbeats 4000000 in
set_option maxRecDepth 100000 in
theorem mX_isThere (l : Launch) (D : va_G) (h hO hH : Nat) (cI cB : ClassId) (th : Int32) (own : Nat → Int32) (Hn : Nat → Nat) (n : Nat) (x : Int32) : Met l yX0_isThere (ws_ yX0_isThere cX0_isThere 2 (some .boolean)) ic_R0 (ic_pX D h hO hH cI cB th own Hn n [.int x]) (vp_Si (fun r => r = ic_b (ic_in (bt th) 16 x))) 0 0 (fun _ => False) := by
  refine ic_sX (by decide) rfl (Nat.le_of_ble_eq_true rfl) (fun v hv => by rw [hv]; exact ic_b_nar _) ?_
  intro p e s m args below meth c ls Q hx hb hml hown hts hK hP hl hfin
  have hl : lv_has ls 2 [(0, .ref h), (1, .int x)] := hl
  rcases pk_ix x (n := 16) (by decide) with z | z | ⟨j, hj, rfl⟩
  · skip
    refine lv_iload_n hx hb dX0_isThere_0 rfl (lv_at hl 1 rfl) ?_
    refine lv_if_lt (tgt := 25) hx hb dX0_isThere_1 (by decide) (fun _ => ?_) (fun c9 => absurd z c9)
    refine lv_iconst (v := nI 0) hx hb dX0_isThere_25 (by decide) ?_
    exact hfin _ 26 ls (by rw [ic_in_neg z]; rfl) dX0_isThere_26
  · have z2 : ¬ x < 0 := fun q => absurd (Int32.lt_of_le_of_lt z q) (by decide)
    refine lv_iload_n hx hb dX0_isThere_0 rfl (lv_at hl 1 rfl) ?_
    refine lv_if_lt (tgt := 25) hx hb dX0_isThere_1 (by decide) (fun c9 => absurd c9 z2) (fun _ => ?_)
    refine lv_iload_n hx hb dX0_isThere_4 rfl (lv_at hl 1 rfl) ?_
    refine lv_bipush (v := nI 16) hx hb dX0_isThere_5 (by decide) ?_
    refine lv_icmp_ge (tgt := 25) hx hb dX0_isThere_7 (by decide) (fun _ => ?_) (fun c9 => absurd z c9)
    refine lv_iconst (v := nI 0) hx hb dX0_isThere_25 (by decide) ?_
    exact hfin _ 26 ls (by rw [ic_in_big (by decide) z]; rfl) dX0_isThere_26
  · skip
    refine lv_iload_n hx hb dX0_isThere_0 rfl (lv_at hl 1 rfl) ?_
    refine lv_if_lt (tgt := 25) hx hb dX0_isThere_1 (by decide) (fun c9 => absurd c9 (nI_pos (by omega))) (fun _ => ?_)
    refine lv_iload_n hx hb dX0_isThere_4 rfl (lv_at hl 1 rfl) ?_
    refine lv_bipush (v := nI 16) hx hb dX0_isThere_5 (by decide) ?_
    refine lv_icmp_ge (tgt := 25) hx hb dX0_isThere_7 (by decide) (fun c9 => absurd c9 (nI_ge hj (by decide))) (fun _ => ?_)
    refine lv_aload_n hx hb dX0_isThere_10 rfl (lv_at hl 0 rfl) ?_
    refine xg_th hx hb hts hown hK hP dX0_isThere_11 ?_
    refine lv_iload_n hx hb dX0_isThere_14 rfl (lv_at hl 1 rfl) ?_
    refine lv_ishr hx hb dX0_isThere_15 ?_
    refine lv_iconst (v := nI 1) hx hb dX0_isThere_16 (by decide) ?_
    refine lv_iand hx hb dX0_isThere_17 ?_
    refine ic_top (ic_bit_s th (by omega)) ?_
    rcases ic_bool (bt th j) with q | q
    · skip
      refine lv_if_eq (tgt := 25) hx hb dX0_isThere_18 (by decide) (fun _ => ?_) (fun c9 => absurd (ic_b_f q) c9)
      refine lv_iconst (v := nI 0) hx hb dX0_isThere_25 (by decide) ?_
      exact hfin _ 26 ls (by rw [ic_in_nI hj (by decide), q]; rfl) dX0_isThere_26
    · skip
      refine lv_if_eq (tgt := 25) hx hb dX0_isThere_18 (by decide) (fun c9 => absurd c9 (ic_b_t q)) (fun _ => ?_)
      refine lv_iconst (v := nI 1) hx hb dX0_isThere_21 (by decide) ?_
      refine lv_goto (tgt := 26) hx hb dX0_isThere_22 (by decide) ?_
      exact hfin _ 26 ls (by rw [ic_in_nI hj (by decide), q]; rfl) dX0_isThere_26
set_option maxHeartbeats 4000000 in
set_option maxRecDepth 100000 in
theorem mX_isNote (l : Launch) (x : Int32) : Met l yX0_isNote (ws_ yX0_isNote cX0_isNote 1 (some .boolean)) ic_R0 (va_Pc [.int x] (fun _ => True)) (vp_Si (fun r => r = ic_b (ic_in (fun _ => true) 8 x))) 0 0 (fun _ => False) := by
  refine ic_s0 (by decide) (Nat.le_of_ble_eq_true rfl) (fun v hv => by rw [hv]; exact ic_b_nar _) ?_
  intro p e s m args below meth c ls Q hx hb hml hl hfin
  have hl : lv_has ls 1 [(0, .int x)] := hl
  rcases pk_ix x (n := 8) (by decide) with z | z | ⟨j, hj, rfl⟩
  · skip
    refine lv_iload_n hx hb dX0_isNote_0 rfl (lv_at hl 0 rfl) ?_
    refine lv_if_lt (tgt := 14) hx hb dX0_isNote_1 (by decide) (fun _ => ?_) (fun c9 => absurd z c9)
    refine lv_iconst (v := nI 0) hx hb dX0_isNote_14 (by decide) ?_
    exact hfin _ 15 ls (by rw [ic_in_neg z]; rfl) dX0_isNote_15
  · have z2 : ¬ x < 0 := fun q => absurd (Int32.lt_of_le_of_lt z q) (by decide)
    refine lv_iload_n hx hb dX0_isNote_0 rfl (lv_at hl 0 rfl) ?_
    refine lv_if_lt (tgt := 14) hx hb dX0_isNote_1 (by decide) (fun c9 => absurd c9 z2) (fun _ => ?_)
    refine lv_iload_n hx hb dX0_isNote_4 rfl (lv_at hl 0 rfl) ?_
    refine lv_bipush (v := nI 8) hx hb dX0_isNote_5 (by decide) ?_
    refine lv_icmp_ge (tgt := 14) hx hb dX0_isNote_7 (by decide) (fun _ => ?_) (fun c9 => absurd z c9)
    refine lv_iconst (v := nI 0) hx hb dX0_isNote_14 (by decide) ?_
    exact hfin _ 15 ls (by rw [ic_in_big (by decide) z]; rfl) dX0_isNote_15
  · skip
    refine lv_iload_n hx hb dX0_isNote_0 rfl (lv_at hl 0 rfl) ?_
    refine lv_if_lt (tgt := 14) hx hb dX0_isNote_1 (by decide) (fun c9 => absurd c9 (nI_pos (by omega))) (fun _ => ?_)
    refine lv_iload_n hx hb dX0_isNote_4 rfl (lv_at hl 0 rfl) ?_
    refine lv_bipush (v := nI 8) hx hb dX0_isNote_5 (by decide) ?_
    refine lv_icmp_ge (tgt := 14) hx hb dX0_isNote_7 (by decide) (fun c9 => absurd c9 (nI_ge hj (by decide))) (fun _ => ?_)
    refine lv_iconst (v := nI 1) hx hb dX0_isNote_10 (by decide) ?_
    refine lv_goto (tgt := 15) hx hb dX0_isNote_11 (by decide) ?_
    exact hfin _ 15 ls (by rw [ic_in_nI hj (by decide)]; rfl) dX0_isNote_15
set_option maxHeartbeats 4000000 in
set_option maxRecDepth 100000 in
theorem mX_ones (l : Launch) (o : Int32) : Met l yX0_ones (ws_ yX0_ones cX0_ones 3 (some .int)) ic_R0 (va_Pc [.int o] (fun _ => True)) (vp_Si (fun r => r = nI (ic_cn o))) 0 0 (fun _ => False) := by
  refine ic_s0 (by decide) (Nat.le_of_ble_eq_true rfl) (fun v hv => rfl) ?_
  intro p e s m args below meth c ls Q hx hb hml hl hfin
  have hl : lv_has ls 3 [(0, .int o)] := hl
  have loop : ∀ (k i : Nat), i + k = 32 → ∀ (ls : Array Slot), lv_has ls 3 [(0, .int o), (1, .int (nI (fb_ct (bt o) i))), (2, .int (nI i))] → W p l e ic_R0 s m args below meth c s.heap [] 0 0 Q (F0 m 4 ls []) := by
    intro k
    induction k with
    | zero =>
      intro i hi ls hl
      obtain rfl : i = 32 := by omega
      refine lv_iload_n hx hb dX0_ones_4 rfl (lv_at hl 2 rfl) ?_
      refine lv_bipush (v := nI 32) hx hb dX0_ones_5 (by decide) ?_
      refine lv_icmp_ge (tgt := 24) hx hb dX0_ones_7 (by decide) (fun _ => ?_) (fun c9 => absurd (nI_le (Nat.le_refl 32) (by decide)) c9)
      refine lv_iload_n hx hb dX0_ones_24 rfl (lv_at hl 1 rfl) ?_
      exact hfin _ 25 ls rfl dX0_ones_25
    | succ k ih =>
      intro i hi ls hl
      refine lv_iload_n hx hb dX0_ones_4 rfl (lv_at hl 2 rfl) ?_
      refine lv_bipush (v := nI 32) hx hb dX0_ones_5 (by decide) ?_
      refine lv_icmp_ge (tgt := 24) hx hb dX0_ones_7 (by decide) (fun c9 => absurd c9 (nI_ge (show i < 32 by omega) (by decide))) (fun _ => ?_)
      refine lv_iload_n hx hb dX0_ones_10 rfl (lv_at hl 1 rfl) ?_
      refine lv_iload_n hx hb dX0_ones_11 rfl (lv_at hl 0 rfl) ?_
      refine lv_iload_n hx hb dX0_ones_12 rfl (lv_at hl 2 rfl) ?_
      refine lv_iushr hx hb dX0_ones_13 rfl ?_
      refine lv_iconst (v := nI 1) hx hb dX0_ones_14 (by decide) ?_
      refine lv_iand hx hb dX0_ones_15 ?_
      refine ic_top (ic_bit_u o (show i < 32 by omega)) ?_
      refine lv_iadd hx hb dX0_ones_16 ?_
      refine ic_top (ic_ct_add (bt o) i) ?_
      refine lv_istore_n (lv' := [(1, .int (nI (fb_ct (bt o) (i + 1)))), (0, .int o), (2, .int (nI i))]) hx hb dX0_ones_17 rfl hl (by decide) rfl (fun ls hl => ?_)
      refine lv_iinc (v := nI (i + 1)) (lv' := [(2, .int (nI (i + 1))), (1, .int (nI (fb_ct (bt o) (i + 1)))), (0, .int o)]) hx hb dX0_ones_18 hl (k := 2) rfl (nI_1 _) (by decide) rfl (fun ls hl => ?_)
      refine lv_goto (tgt := 4) hx hb dX0_ones_21 (by decide) ?_
      exact ih (i + 1) (by omega) ls (lv_sub hl [2, 1, 0] rfl)
  refine lv_iconst (v := nI 0) hx hb dX0_ones_0 (by decide) ?_
  refine lv_istore_n (lv' := [(1, .int (nI 0)), (0, .int o)]) hx hb dX0_ones_1 rfl hl (by decide) rfl (fun ls hl => ?_)
  refine lv_iconst (v := nI 0) hx hb dX0_ones_2 (by decide) ?_
  refine lv_istore_n (lv' := [(2, .int (nI 0)), (1, .int (nI 0)), (0, .int o)]) hx hb dX0_ones_3 rfl hl (by decide) rfl (fun ls hl => ?_)
  exact loop 32 0 rfl ls (lv_sub hl [2, 1, 0] rfl)
set_option maxHeartbeats 4000000 in
set_option maxRecDepth 100000 in
theorem mX_has (l : Launch) (D : va_G) (h hO hH : Nat) (cI cB : ClassId) (th : Int32) (own : Nat → Int32) (Hn : Nat → Nat) (n : Nat) (a i : Nat) (ha : a < 8) (hi : i < 32) : Met l yX0_has (ws_ yX0_has cX0_has 3 (some .boolean)) ic_R0 (ic_pX D h hO hH cI cB th own Hn n [.int (nI a), .int (nI i)]) (vp_Si (fun r => r = ic_b (bt (own a) i))) 0 0 (fun _ => False) := by
  refine ic_sX (by decide) rfl (Nat.le_of_ble_eq_true rfl) (fun v hv => by rw [hv]; exact ic_b_nar _) ?_
  intro p e s m args below meth c ls Q hx hb hml hown hts hK hP hl hfin
  have hl : lv_has ls 3 [(0, .ref h), (1, .int (nI a)), (2, .int (nI i))] := hl
  refine lv_aload_n hx hb dX0_has_0 rfl (lv_at hl 0 rfl) ?_
  refine xg_own hx hb hts hown hK hP dX0_has_1 ?_
  refine lv_iload_n hx hb dX0_has_4 rfl (lv_at hl 1 rfl) ?_
  refine xo_ld hx hb hK hP (i := a) (by omega) dX0_has_5 ?_
  refine lv_iload_n hx hb dX0_has_6 rfl (lv_at hl 2 rfl) ?_
  refine lv_iushr hx hb dX0_has_7 rfl ?_
  refine lv_iconst (v := nI 1) hx hb dX0_has_8 (by decide) ?_
  refine lv_iand hx hb dX0_has_9 ?_
  refine ic_top (ic_bit_u (own a) hi) ?_
  rcases ic_bool (bt (own a) i) with q | q
  · skip
    refine lv_if_eq (tgt := 17) hx hb dX0_has_10 (by decide) (fun _ => ?_) (fun c9 => absurd (ic_b_f q) c9)
    refine lv_iconst (v := nI 0) hx hb dX0_has_17 (by decide) ?_
    exact hfin _ 18 ls (by rw [q]; rfl) dX0_has_18
  · skip
    refine lv_if_eq (tgt := 17) hx hb dX0_has_10 (by decide) (fun c9 => absurd c9 (ic_b_t q)) (fun _ => ?_)
    refine lv_iconst (v := nI 1) hx hb dX0_has_13 (by decide) ?_
    refine lv_goto (tgt := 18) hx hb dX0_has_14 (by decide) ?_
    exact hfin _ 18 ls (by rw [q]; rfl) dX0_has_18
set_option maxHeartbeats 4000000 in
set_option maxRecDepth 100000 in
theorem mX_copy (l : Launch) (D : va_G) (h hO hH : Nat) (cI cB : ClassId) (th : Int32) (own : Nat → Int32) (Hn : Nat → Nat) (n : Nat) (sz : Nat) (f t : Nat) (hf : f < 16) (ht : t < 16) (hHn : ∀ k, k < 512 → Hn k < 128) : Met l yX0_copy (ws_ yX0_copy cX0_copy 4 none) ic_R0 (ic_qX D h hO hH cI cB th own Hn n sz [.int (nI f), .int (nI t)]) (va_Qv (fun v => v = (th, own, ic_cp Hn f t 32, n)) (ic_BX D h hO hH cI cB (ic_AX h hO hH cI cB th own Hn n sz)) (ic_AX h hO hH cI cB th own Hn n sz)) 0 0 (ic_AX h hO hH cI cB th own Hn n sz) := by
  refine ic_uXv (by decide) rfl (Nat.le_of_ble_eq_true rfl) ?_
  intro p e s m args below meth c ls Q A hx hb hml hown hts hK hP hD hA hS hl hfin
  have hl : lv_has ls 4 [(0, .ref h), (1, .int (nI f)), (2, .int (nI t))] := hl
  have loop : ∀ (k i : Nat), i + k = 32 → ∀ (ls : Array Slot) (H : Heap) (locs : List Loc), lv_has ls 4 [(0, .ref h), (1, .int (nI f)), (2, .int (nI t)), (3, .int (nI i))] → va_P D ic_cl (ic_wX h hO hH cI cB th own (ic_cp Hn f t i) n) H → va_D A (ic_wX h hO hH cI cB th own (ic_cp Hn f t i) n) → va_S A s.heap H locs → W p l e ic_R0 s m args below meth c H locs 0 0 Q (F0 m 2 ls []) := by
    intro k
    induction k with
    | zero =>
      intro i hi ls H locs hl hP hD hS
      obtain rfl : i = 32 := by omega
      refine lv_iload_n hx hb dX0_copy_2 rfl (lv_at hl 3 rfl) ?_
      refine lv_bipush (v := nI 32) hx hb dX0_copy_3 (by decide) ?_
      refine lv_icmp_ge (tgt := 36) hx hb dX0_copy_5 (by decide) (fun _ => ?_) (fun c9 => absurd (nI_le (Nat.le_refl 32) (by decide)) c9)
      exact hfin th own (ic_cp Hn f t 32) n 36 ls _ _ rfl hP hD hS dX0_copy_36
    | succ k ih =>
      intro i hi ls H locs hl hP hD hS
      refine lv_iload_n hx hb dX0_copy_2 rfl (lv_at hl 3 rfl) ?_
      refine lv_bipush (v := nI 32) hx hb dX0_copy_3 (by decide) ?_
      refine lv_icmp_ge (tgt := 36) hx hb dX0_copy_5 (by decide) (fun c9 => absurd c9 (nI_ge (show i < 32 by omega) (by decide))) (fun _ => ?_)
      refine lv_aload_n hx hb dX0_copy_8 rfl (lv_at hl 0 rfl) ?_
      refine xg_ht hx hb hts hown hK hP dX0_copy_9 ?_
      refine lv_iload_n hx hb dX0_copy_12 rfl (lv_at hl 2 rfl) ?_
      refine lv_bipush (v := nI 32) hx hb dX0_copy_13 (by decide) ?_
      refine lv_imul hx hb dX0_copy_15 ?_
      refine ic_top (pk_mul _ _) ?_
      refine lv_iload_n hx hb dX0_copy_16 rfl (lv_at hl 3 rfl) ?_
      refine lv_iadd hx hb dX0_copy_17 ?_
      refine ic_top (nI_add _ _) ?_
      refine lv_aload_n hx hb dX0_copy_18 rfl (lv_at hl 0 rfl) ?_
      refine xg_ht hx hb hts hown hK hP dX0_copy_19 ?_
      refine lv_iload_n hx hb dX0_copy_22 rfl (lv_at hl 1 rfl) ?_
      refine lv_bipush (v := nI 32) hx hb dX0_copy_23 (by decide) ?_
      refine lv_imul hx hb dX0_copy_25 ?_
      refine ic_top (pk_mul _ _) ?_
      refine lv_iload_n hx hb dX0_copy_26 rfl (lv_at hl 3 rfl) ?_
      refine lv_iadd hx hb dX0_copy_27 ?_
      refine ic_top (nI_add _ _) ?_
      refine xh_ld hx hb hK hP (i := f * 32 + i) (by omega) dX0_copy_28 ?_
      refine ic_top (congrArg nI (ic_cp_rd Hn f t (show i < 32 by omega))) ?_
      refine xh_st hx hb hK hP hD hS (i := t * 32 + i) (v := Hn (f * 32 + i)) (by omega) (hHn _ (by omega)) dX0_copy_29 (fun H locs hP hD hS => ?_)
      rw [ic_cp_s Hn f t (show i < 32 by omega)] at hP hD
      refine lv_iinc (v := nI (i + 1)) (lv' := [(3, .int (nI (i + 1))), (0, .ref h), (1, .int (nI f)), (2, .int (nI t))]) hx hb dX0_copy_30 hl (k := 3) rfl (nI_1 _) (by decide) rfl (fun ls hl => ?_)
      refine lv_goto (tgt := 2) hx hb dX0_copy_33 (by decide) ?_
      exact ih (i + 1) (by omega) ls _ _ (lv_sub hl [1, 2, 3, 0] rfl) hP hD hS
  refine lv_iconst (v := nI 0) hx hb dX0_copy_0 (by decide) ?_
  refine lv_istore_n (lv' := [(3, .int (nI 0)), (0, .ref h), (1, .int (nI f)), (2, .int (nI t))]) hx hb dX0_copy_1 rfl hl (by decide) rfl (fun ls hl => ?_)
  exact loop 32 0 rfl ls _ _ (lv_sub hl [1, 2, 3, 0] rfl) (by rw [ic_cp_0]; exact hP) (by rw [ic_cp_0]; exact hD) hS
set_option maxHeartbeats 4000000 in
set_option maxRecDepth 100000 in
theorem mX_raise (l : Launch) (D : va_G) (h hO hH : Nat) (cI cB : ClassId) (th : Int32) (own : Nat → Int32) (Hn : Nat → Nat) (n : Nat) (sz : Nat) (t f : Nat) (ht : t < 16) (hf : f < 16) (hHn : ∀ k, k < 512 → Hn k < 128) : Met l yX0_raise (ws_ yX0_raise cX0_raise 5 (some .boolean)) ic_R0 (ic_qX D h hO hH cI cB th own Hn n sz [.int (nI t), .int (nI f)]) (va_Qi (fun r v => r = ic_b (!ic_F Hn f t) ∧ v = (th, own, ic_rs Hn t f 32, n)) (ic_BX D h hO hH cI cB (ic_AX h hO hH cI cB th own Hn n sz)) (ic_AX h hO hH cI cB th own Hn n sz)) 0 0 (ic_AX h hO hH cI cB th own Hn n sz) := by
  refine ic_uX (by decide) rfl (Nat.le_of_ble_eq_true rfl) (fun v u hv => by rw [hv.1]; exact ic_b_nar _) ?_
  intro p e s m args below meth c ls Q A hx hb hml hown hts hK hP hD hA hS hl hfin
  have hl : lv_has ls 5 [(0, .ref h), (1, .int (nI t)), (2, .int (nI f))] := hl
  have loop : ∀ (k i : Nat), i + k = 32 → ∀ (ls : Array Slot) (H : Heap) (locs : List Loc), lv_has ls 5 [(0, .ref h), (1, .int (nI t)), (2, .int (nI f)), (3, .int (ic_b (!ic_un Hn f t i))), (4, .int (nI i))] → va_P D ic_cl (ic_wX h hO hH cI cB th own (ic_rs Hn t f i) n) H → va_D A (ic_wX h hO hH cI cB th own (ic_rs Hn t f i) n) → va_S A s.heap H locs → W p l e ic_R0 s m args below meth c H locs 0 0 Q (F0 m 5 ls []) := by
    intro k
    induction k with
    | zero =>
      intro i hi ls H locs hl hP hD hS
      obtain rfl : i = 32 := by omega
      refine lv_iload hx hb dX0_raise_5 (lv_at hl 4 rfl) ?_
      refine lv_bipush (v := nI 32) hx hb dX0_raise_7 (by decide) ?_
      refine lv_icmp_ge (tgt := 71) hx hb dX0_raise_9 (by decide) (fun _ => ?_) (fun c9 => absurd (nI_le (Nat.le_refl 32) (by decide)) c9)
      refine lv_iload_n hx hb dX0_raise_71 rfl (lv_at hl 3 rfl) ?_
      exact hfin _ th own (ic_rs Hn t f 32) n 72 ls _ _ ⟨rfl, rfl⟩ hP hD hS dX0_raise_72
    | succ k ih =>
      intro i hi ls H locs hl hP hD hS
      refine lv_iload hx hb dX0_raise_5 (lv_at hl 4 rfl) ?_
      refine lv_bipush (v := nI 32) hx hb dX0_raise_7 (by decide) ?_
      refine lv_icmp_ge (tgt := 71) hx hb dX0_raise_9 (by decide) (fun c9 => absurd c9 (nI_ge (show i < 32 by omega) (by decide))) (fun _ => ?_)
      refine lv_aload_n hx hb dX0_raise_12 rfl (lv_at hl 0 rfl) ?_
      refine xg_ht hx hb hts hown hK hP dX0_raise_13 ?_
      refine lv_iload_n hx hb dX0_raise_16 rfl (lv_at hl 2 rfl) ?_
      refine lv_bipush (v := nI 32) hx hb dX0_raise_17 (by decide) ?_
      refine lv_imul hx hb dX0_raise_19 ?_
      refine ic_top (pk_mul _ _) ?_
      refine lv_iload hx hb dX0_raise_20 (lv_at hl 4 rfl) ?_
      refine lv_iadd hx hb dX0_raise_22 ?_
      refine ic_top (nI_add _ _) ?_
      refine xh_ld hx hb hK hP (i := f * 32 + i) (by omega) dX0_raise_23 ?_
      refine ic_top (congrArg nI (ic_rs_rf Hn t f (show i < 32 by omega))) ?_
      refine lv_aload_n hx hb dX0_raise_24 rfl (lv_at hl 0 rfl) ?_
      refine xg_ht hx hb hts hown hK hP dX0_raise_25 ?_
      refine lv_iload_n hx hb dX0_raise_28 rfl (lv_at hl 1 rfl) ?_
      refine lv_bipush (v := nI 32) hx hb dX0_raise_29 (by decide) ?_
      refine lv_imul hx hb dX0_raise_31 ?_
      refine ic_top (pk_mul _ _) ?_
      refine lv_iload hx hb dX0_raise_32 (lv_at hl 4 rfl) ?_
      refine lv_iadd hx hb dX0_raise_34 ?_
      refine ic_top (nI_add _ _) ?_
      refine xh_ld hx hb hK hP (i := t * 32 + i) (by omega) dX0_raise_35 ?_
      refine ic_top (congrArg nI (ic_rs_rt Hn t f i)) ?_
      have b1 := hHn (f * 32 + i) (by omega)
      have b2 := hHn (t * 32 + i) (by omega)
      rcases Nat.lt_or_ge (Hn (t * 32 + i)) (Hn (f * 32 + i)) with q | q
      · skip
        refine lv_icmp_le (tgt := 65) hx hb dX0_raise_36 (by decide) (fun c9 => absurd c9 (nI_ge q (by omega))) (fun _ => ?_)
        refine lv_aload_n hx hb dX0_raise_39 rfl (lv_at hl 0 rfl) ?_
        refine xg_ht hx hb hts hown hK hP dX0_raise_40 ?_
        refine lv_iload_n hx hb dX0_raise_43 rfl (lv_at hl 1 rfl) ?_
        refine lv_bipush (v := nI 32) hx hb dX0_raise_44 (by decide) ?_
        refine lv_imul hx hb dX0_raise_46 ?_
        refine ic_top (pk_mul _ _) ?_
        refine lv_iload hx hb dX0_raise_47 (lv_at hl 4 rfl) ?_
        refine lv_iadd hx hb dX0_raise_49 ?_
        refine ic_top (nI_add _ _) ?_
        refine lv_aload_n hx hb dX0_raise_50 rfl (lv_at hl 0 rfl) ?_
        refine xg_ht hx hb hts hown hK hP dX0_raise_51 ?_
        refine lv_iload_n hx hb dX0_raise_54 rfl (lv_at hl 2 rfl) ?_
        refine lv_bipush (v := nI 32) hx hb dX0_raise_55 (by decide) ?_
        refine lv_imul hx hb dX0_raise_57 ?_
        refine ic_top (pk_mul _ _) ?_
        refine lv_iload hx hb dX0_raise_58 (lv_at hl 4 rfl) ?_
        refine lv_iadd hx hb dX0_raise_60 ?_
        refine ic_top (nI_add _ _) ?_
        refine xh_ld hx hb hK hP (i := f * 32 + i) (by omega) dX0_raise_61 ?_
        refine ic_top (congrArg nI (ic_rs_rf Hn t f (show i < 32 by omega))) ?_
        refine xh_st hx hb hK hP hD hS (i := t * 32 + i) (v := Hn (f * 32 + i)) (by omega) (hHn _ (by omega)) dX0_raise_62 (fun H locs hP hD hS => ?_)
        rw [ic_rs_up Hn t f q] at hP hD
        refine lv_iconst (v := nI 1) hx hb dX0_raise_63 (by decide) ?_
        refine lv_istore_n (lv' := [(3, .int (nI 1)), (0, .ref h), (1, .int (nI t)), (2, .int (nI f)), (4, .int (nI i))]) hx hb dX0_raise_64 rfl hl (by decide) rfl (fun ls hl => ?_)
        refine lv_iinc (v := nI (i + 1)) (lv' := [(4, .int (nI (i + 1))), (3, .int (nI 1)), (0, .ref h), (1, .int (nI t)), (2, .int (nI f))]) hx hb dX0_raise_65 hl (k := 4) rfl (nI_1 _) (by decide) rfl (fun ls hl => ?_)
        refine lv_goto (tgt := 5) hx hb dX0_raise_68 (by decide) ?_
        have e1 : ic_un Hn f t (i + 1) = false := ic_un_no (Nat.lt_succ_self i) (by omega)
        exact ih (i + 1) (by omega) ls _ _ (by rw [e1]; exact (lv_sub hl [2, 3, 4, 1, 0] rfl)) hP hD hS
      · skip
        refine lv_icmp_le (tgt := 65) hx hb dX0_raise_36 (by decide) (fun _ => ?_) (fun c9 => absurd (nI_le q (by omega)) c9)
        rw [← ic_rs_no Hn t f q] at hP hD
        refine lv_iinc (v := nI (i + 1)) (lv' := [(4, .int (nI (i + 1))), (0, .ref h), (1, .int (nI t)), (2, .int (nI f)), (3, .int (ic_b (!ic_un Hn f t i)))]) hx hb dX0_raise_65 hl (k := 4) rfl (nI_1 _) (by decide) rfl (fun ls hl => ?_)
        refine lv_goto (tgt := 5) hx hb dX0_raise_68 (by decide) ?_
        exact ih (i + 1) (by omega) ls _ _ (by rw [ic_un_s q]; exact (lv_sub hl [1, 2, 3, 4, 0] rfl)) hP hD hS
  refine lv_iconst (v := nI 0) hx hb dX0_raise_0 (by decide) ?_
  refine lv_istore_n (lv' := [(3, .int (nI 0)), (0, .ref h), (1, .int (nI t)), (2, .int (nI f))]) hx hb dX0_raise_1 rfl hl (by decide) rfl (fun ls hl => ?_)
  refine lv_iconst (v := nI 0) hx hb dX0_raise_2 (by decide) ?_
  refine lv_istore (lv' := [(4, .int (nI 0)), (3, .int (nI 0)), (0, .ref h), (1, .int (nI t)), (2, .int (nI f))]) hx hb dX0_raise_3 hl (by decide) rfl (fun ls hl => ?_)
  exact loop 32 0 rfl ls _ _ (lv_sub hl [2, 3, 4, 1, 0] rfl) (by rw [ic_rs_0]; exact hP) (by rw [ic_rs_0]; exact hD) hS
set_option maxHeartbeats 4000000 in
set_option maxRecDepth 100000 in
theorem mX_under (l : Launch) (D : va_G) (h hO hH : Nat) (cI cB : ClassId) (th : Int32) (own : Nat → Int32) (Hn : Nat → Nat) (n : Nat) (x y : Nat) (hx0 : x < 16) (hy0 : y < 16) (hHn : ∀ k, k < 512 → Hn k < 128) : Met l yX0_under (ws_ yX0_under cX0_under 4 (some .boolean)) ic_R0 (ic_pX D h hO hH cI cB th own Hn n [.int (nI x), .int (nI y)]) (vp_Si (fun r => r = ic_b (ic_F Hn x y))) 0 0 (fun _ => False) := by
  refine ic_sX (by decide) rfl (Nat.le_of_ble_eq_true rfl) (fun v hv => by rw [hv]; exact ic_b_nar _) ?_
  intro p e s m args below meth c ls Q hx hb hml hown hts hK hP hl hfin
  have hl : lv_has ls 4 [(0, .ref h), (1, .int (nI x)), (2, .int (nI y))] := hl
  have loop : ∀ (k i : Nat), i + k = 32 → ic_un Hn x y i = true → ∀ (ls : Array Slot), lv_has ls 4 [(0, .ref h), (1, .int (nI x)), (2, .int (nI y)), (3, .int (nI i))] → W p l e ic_R0 s m args below meth c s.heap [] 0 0 Q (F0 m 2 ls []) := by
    intro k
    induction k with
    | zero =>
      intro i hi hu ls hl
      obtain rfl : i = 32 := by omega
      refine lv_iload_n hx hb dX0_under_2 rfl (lv_at hl 3 rfl) ?_
      refine lv_bipush (v := nI 32) hx hb dX0_under_3 (by decide) ?_
      refine lv_icmp_ge (tgt := 41) hx hb dX0_under_5 (by decide) (fun _ => ?_) (fun c9 => absurd (nI_le (Nat.le_refl 32) (by decide)) c9)
      refine lv_iconst (v := nI 1) hx hb dX0_under_41 (by decide) ?_
      exact hfin _ 42 ls (by unfold ic_F; rw [hu]; rfl) dX0_under_42
    | succ k ih =>
      intro i hi hu ls hl
      refine lv_iload_n hx hb dX0_under_2 rfl (lv_at hl 3 rfl) ?_
      refine lv_bipush (v := nI 32) hx hb dX0_under_3 (by decide) ?_
      refine lv_icmp_ge (tgt := 41) hx hb dX0_under_5 (by decide) (fun c9 => absurd c9 (nI_ge (show i < 32 by omega) (by decide))) (fun _ => ?_)
      refine lv_aload_n hx hb dX0_under_8 rfl (lv_at hl 0 rfl) ?_
      refine xg_ht hx hb hts hown hK hP dX0_under_9 ?_
      refine lv_iload_n hx hb dX0_under_12 rfl (lv_at hl 1 rfl) ?_
      refine lv_bipush (v := nI 32) hx hb dX0_under_13 (by decide) ?_
      refine lv_imul hx hb dX0_under_15 ?_
      refine ic_top (pk_mul _ _) ?_
      refine lv_iload_n hx hb dX0_under_16 rfl (lv_at hl 3 rfl) ?_
      refine lv_iadd hx hb dX0_under_17 ?_
      refine ic_top (nI_add _ _) ?_
      refine xh_ld hx hb hK hP (i := x * 32 + i) (by omega) dX0_under_18 ?_
      refine lv_aload_n hx hb dX0_under_19 rfl (lv_at hl 0 rfl) ?_
      refine xg_ht hx hb hts hown hK hP dX0_under_20 ?_
      refine lv_iload_n hx hb dX0_under_23 rfl (lv_at hl 2 rfl) ?_
      refine lv_bipush (v := nI 32) hx hb dX0_under_24 (by decide) ?_
      refine lv_imul hx hb dX0_under_26 ?_
      refine ic_top (pk_mul _ _) ?_
      refine lv_iload_n hx hb dX0_under_27 rfl (lv_at hl 3 rfl) ?_
      refine lv_iadd hx hb dX0_under_28 ?_
      refine ic_top (nI_add _ _) ?_
      refine xh_ld hx hb hK hP (i := y * 32 + i) (by omega) dX0_under_29 ?_
      have b1 := hHn (x * 32 + i) (by omega)
      have b2 := hHn (y * 32 + i) (by omega)
      rcases Nat.lt_or_ge (Hn (y * 32 + i)) (Hn (x * 32 + i)) with q | q
      · skip
        refine lv_icmp_le (tgt := 35) hx hb dX0_under_30 (by decide) (fun c9 => absurd c9 (nI_ge q (by omega))) (fun _ => ?_)
        refine lv_iconst (v := nI 0) hx hb dX0_under_33 (by decide) ?_
        exact hfin _ 34 ls (by unfold ic_F; rw [ic_un_no (show i < 32 by omega) (by omega)]; rfl) dX0_under_34
      · skip
        refine lv_icmp_le (tgt := 35) hx hb dX0_under_30 (by decide) (fun _ => ?_) (fun c9 => absurd (nI_le q (by omega)) c9)
        refine lv_iinc (v := nI (i + 1)) (lv' := [(3, .int (nI (i + 1))), (0, .ref h), (1, .int (nI x)), (2, .int (nI y))]) hx hb dX0_under_35 hl (k := 3) rfl (nI_1 _) (by decide) rfl (fun ls hl => ?_)
        refine lv_goto (tgt := 2) hx hb dX0_under_38 (by decide) ?_
        exact ih (i + 1) (by omega) (by rw [ic_un_s q]; exact hu) ls (lv_sub hl [1, 2, 3, 0] rfl)
  refine lv_iconst (v := nI 0) hx hb dX0_under_0 (by decide) ?_
  refine lv_istore_n (lv' := [(3, .int (nI 0)), (0, .ref h), (1, .int (nI x)), (2, .int (nI y))]) hx hb dX0_under_1 rfl hl (by decide) rfl (fun ls hl => ?_)
  exact loop 32 0 rfl rfl ls (lv_sub hl [1, 2, 3, 0] rfl)
set_option maxHeartbeats 4000000 in
set_option maxRecDepth 100000 in
theorem mX_parties (l : Launch) (D : va_G) (h hO hH : Nat) (cI cB : ClassId) (th : Int32) (own : Nat → Int32) (Hn : Nat → Nat) (n : Nat)  : Met l yX0_parties (ws_ yX0_parties cX0_parties 1 (some .int)) ic_R0 (ic_pX D h hO hH cI cB th own Hn n []) (vp_Si (fun r => r = th &&& nI 255)) 0 0 (fun _ => False) := by
  refine ic_sX (by decide) rfl (Nat.le_of_ble_eq_true rfl) (fun v hv => rfl) ?_
  intro p e s m args below meth c ls Q hx hb hml hown hts hK hP hl hfin
  have hl : lv_has ls 1 [(0, .ref h)] := hl
  refine lv_aload_n hx hb dX0_parties_0 rfl (lv_at hl 0 rfl) ?_
  refine xg_th hx hb hts hown hK hP dX0_parties_1 ?_
  refine lv_sipush (v := nI 255) hx hb dX0_parties_4 (by decide) ?_
  refine lv_iand hx hb dX0_parties_7 ?_
  exact hfin _ 8 ls rfl dX0_parties_8
set_option maxHeartbeats 4000000 in
set_option maxRecDepth 100000 in
theorem mX_notes (l : Launch) (D : va_G) (h hO hH : Nat) (cI cB : ClassId) (th : Int32) (own : Nat → Int32) (Hn : Nat → Nat) (n : Nat)  : Met l yX0_notes (ws_ yX0_notes cX0_notes 1 (some .int)) ic_R0 (ic_pX D h hO hH cI cB th own Hn n []) (vp_Si (fun r => r = th >>> (nI 8 &&& 31))) 0 0 (fun _ => False) := by
  refine ic_sX (by decide) rfl (Nat.le_of_ble_eq_true rfl) (fun v hv => rfl) ?_
  intro p e s m args below meth c ls Q hx hb hml hown hts hK hP hl hfin
  have hl : lv_has ls 1 [(0, .ref h)] := hl
  refine lv_aload_n hx hb dX0_notes_0 rfl (lv_at hl 0 rfl) ?_
  refine xg_th hx hb hts hown hK hP dX0_notes_1 ?_
  refine lv_bipush (v := nI 8) hx hb dX0_notes_4 (by decide) ?_
  refine lv_ishr hx hb dX0_notes_6 ?_
  exact hfin _ 7 ls rfl dX0_notes_7
set_option maxHeartbeats 4000000 in
set_option maxRecDepth 100000 in
theorem mX_events (l : Launch) (D : va_G) (h hO hH : Nat) (cI cB : ClassId) (th : Int32) (own : Nat → Int32) (Hn : Nat → Nat) (n : Nat)  : Met l yX0_events (ws_ yX0_events cX0_events 1 (some .int)) ic_R0 (ic_pX D h hO hH cI cB th own Hn n []) (vp_Si (fun r => r = nI n)) 0 0 (fun _ => False) := by
  refine ic_sX (by decide) rfl (Nat.le_of_ble_eq_true rfl) (fun v hv => rfl) ?_
  intro p e s m args below meth c ls Q hx hb hml hown hts hK hP hl hfin
  have hl : lv_has ls 1 [(0, .ref h)] := hl
  refine lv_aload_n hx hb dX0_events_0 rfl (lv_at hl 0 rfl) ?_
  refine xg_cnt hx hb hts hown hK hP dX0_events_1 ?_
  exact hfin _ 4 ls rfl dX0_events_4
end
section
/-! IntervalClocks: what it shows -/
set_option maxRecDepth 100000
theorem cwX_isThere {R : Room} {s : State} {args : Array Value} (hts : ∀ w ∈ lw_all, w.before args s = true) (hR : ic_R0.frames + 1 ≤ R.frames ∧ 8 + (2 + 11) + ic_R0.locals ≤ R.locals) : CallW R s args RX0 RX0 21 yX0_isThere cX0_isThere 2 (some .boolean) (ws_ yX0_isThere cX0_isThere 2 (some .boolean)) ic_R0 0 0 1 := cwV 1 hts (lw_V q45 q47 qs1 q12 q48) rfl rfl rfl (by decide +kernel) hR
theorem cwX_ones {R : Room} {s : State} {args : Array Value} (hts : ∀ w ∈ lw_all, w.before args s = true) (hR : ic_R0.frames + 1 ≤ R.frames ∧ 8 + (3 + 11) + ic_R0.locals ≤ R.locals) : CallB R s args RX0 28 yX0_ones cX0_ones 3 (some .int) (ws_ yX0_ones cX0_ones 3 (some .int)) ic_R0 0 0 1 ∧ (Cond.static yX0_ones).before args s = true := va_cwS 1 hts (lw_S q49 q50 q12 q51) rfl rfl rfl (by decide +kernel) hR
theorem cwX_has {R : Room} {s : State} {args : Array Value} (hts : ∀ w ∈ lw_all, w.before args s = true) (hR : ic_R0.frames + 1 ≤ R.frames ∧ 8 + (3 + 11) + ic_R0.locals ≤ R.locals) : CallW R s args RX0 RX0 32 yX0_has cX0_has 3 (some .boolean) (ws_ yX0_has cX0_has 3 (some .boolean)) ic_R0 0 0 2 := cwV 2 hts (lw_V q52 q54 qs2 q12 q55) rfl rfl rfl (by decide +kernel) hR
theorem cwX_copy {R : Room} {s : State} {args : Array Value} (hts : ∀ w ∈ lw_all, w.before args s = true) (hR : ic_R0.frames + 1 ≤ R.frames ∧ 8 + (4 + 11) + ic_R0.locals ≤ R.locals) : CallW R s args RX0 RX0 36 yX0_copy cX0_copy 4 none (ws_ yX0_copy cX0_copy 4 none) ic_R0 0 0 2 := cwV 2 hts (lw_V q56 q58 qs3 q12 q59) rfl rfl rfl (by decide +kernel) hR
theorem cwX_raise {R : Room} {s : State} {args : Array Value} (hts : ∀ w ∈ lw_all, w.before args s = true) (hR : ic_R0.frames + 1 ≤ R.frames ∧ 8 + (5 + 11) + ic_R0.locals ≤ R.locals) : CallW R s args RX0 RX0 40 yX0_raise cX0_raise 5 (some .boolean) (ws_ yX0_raise cX0_raise 5 (some .boolean)) ic_R0 0 0 2 := cwV 2 hts (lw_V q64 q66 qs4 q12 q67) rfl rfl rfl (by decide +kernel) hR
theorem cwX_isNote {R : Room} {s : State} {args : Array Value} (hts : ∀ w ∈ lw_all, w.before args s = true) (hR : ic_R0.frames + 1 ≤ R.frames ∧ 8 + (1 + 11) + ic_R0.locals ≤ R.locals) : CallB R s args RX0 46 yX0_isNote cX0_isNote 1 (some .boolean) (ws_ yX0_isNote cX0_isNote 1 (some .boolean)) ic_R0 0 0 1 ∧ (Cond.static yX0_isNote).before args s = true := va_cwS 1 hts (lw_S q80 q81 q12 q82) rfl rfl rfl (by decide +kernel) hR
theorem cwX_under {R : Room} {s : State} {args : Array Value} (hts : ∀ w ∈ lw_all, w.before args s = true) (hR : ic_R0.frames + 1 ≤ R.frames ∧ 8 + (4 + 11) + ic_R0.locals ≤ R.locals) : CallW R s args RX0 RX0 49 yX0_under cX0_under 4 (some .boolean) (ws_ yX0_under cX0_under 4 (some .boolean)) ic_R0 0 0 2 := cwV 2 hts (lw_V q107 q109 qs5 q12 q110) rfl rfl rfl (by decide +kernel) hR
set_option maxHeartbeats 4000000 in
set_option maxRecDepth 100000 in
theorem mX_isParty (l : Launch) (D : va_G) (h hO hH : Nat) (cI cB : ClassId) (th : Int32) (own : Nat → Int32) (Hn : Nat → Nat) (n : Nat) (x : Int32) : Met l yX0_isParty (ws_ yX0_isParty cX0_isParty 2 (some .boolean)) ic_R1 (ic_pX D h hO hH cI cB th own Hn n [.int x]) (vp_Si (fun r => r = ic_b (ic_in (bt th) 8 x))) 0 0 (fun _ => False) := by
  refine ic_sX (by decide) rfl (Nat.le_of_ble_eq_true rfl) (fun v hv => by rw [hv]; exact ic_b_nar _) ?_
  intro p e s m args below meth c ls Q hx hb hml hown hts hK hP hl hfin
  have hl : lv_has ls 2 [(0, .ref h), (1, .int x)] := hl
  rcases pk_ix x (n := 8) (by decide) with z | z | ⟨j, hj, rfl⟩
  · have z2 : ¬ nI 8 ≤ x := fun q => absurd (Int32.lt_of_le_of_lt q z) (by decide)
    refine lv_iload_n hx hb dX0_isParty_0 rfl (lv_at hl 1 rfl) ?_
    refine lv_bipush (v := nI 8) hx hb dX0_isParty_1 (by decide) ?_
    refine lv_icmp_ge (tgt := 18) hx hb dX0_isParty_3 (by decide) (fun c9 => absurd c9 z2) (fun _ => ?_)
    refine lv_aload_n hx hb dX0_isParty_6 rfl (lv_at hl 0 rfl) ?_
    refine lv_iload_n hx hb dX0_isParty_7 rfl (lv_at hl 1 rfl) ?_
    refine xc_i ⟨hx, hb, hml, hown, hts⟩ (mX_isThere l D h hO hH cI cB th own Hn n x) (cwX_isThere hts ⟨Nat.le_of_ble_eq_true rfl, Nat.le_of_ble_eq_true rfl⟩) hK hP rfl hl.1 rfl (Nat.le_of_ble_eq_true rfl) dX0_isParty_8 ⟨Nat.le_refl _, Nat.le_refl _⟩ (fun r er => ?_)
    subst er
    refine lv_if_eq (tgt := 18) hx hb dX0_isParty_11 (by decide) (fun _ => ?_) (fun c9 => absurd (ic_b_f (ic_in_neg z)) c9)
    refine lv_iconst (v := nI 0) hx hb dX0_isParty_18 (by decide) ?_
    exact hfin _ 19 ls (by rw [ic_in_neg z]; rfl) dX0_isParty_19
  · skip
    refine lv_iload_n hx hb dX0_isParty_0 rfl (lv_at hl 1 rfl) ?_
    refine lv_bipush (v := nI 8) hx hb dX0_isParty_1 (by decide) ?_
    refine lv_icmp_ge (tgt := 18) hx hb dX0_isParty_3 (by decide) (fun _ => ?_) (fun c9 => absurd z c9)
    refine lv_iconst (v := nI 0) hx hb dX0_isParty_18 (by decide) ?_
    exact hfin _ 19 ls (by rw [ic_in_big (by decide) z]; rfl) dX0_isParty_19
  · skip
    refine lv_iload_n hx hb dX0_isParty_0 rfl (lv_at hl 1 rfl) ?_
    refine lv_bipush (v := nI 8) hx hb dX0_isParty_1 (by decide) ?_
    refine lv_icmp_ge (tgt := 18) hx hb dX0_isParty_3 (by decide) (fun c9 => absurd c9 (nI_ge hj (by decide))) (fun _ => ?_)
    refine lv_aload_n hx hb dX0_isParty_6 rfl (lv_at hl 0 rfl) ?_
    refine lv_iload_n hx hb dX0_isParty_7 rfl (lv_at hl 1 rfl) ?_
    refine xc_i ⟨hx, hb, hml, hown, hts⟩ (mX_isThere l D h hO hH cI cB th own Hn n (nI j)) (cwX_isThere hts ⟨Nat.le_of_ble_eq_true rfl, Nat.le_of_ble_eq_true rfl⟩) hK hP rfl hl.1 rfl (Nat.le_of_ble_eq_true rfl) dX0_isParty_8 ⟨Nat.le_refl _, Nat.le_refl _⟩ (fun r er => ?_)
    subst er
    refine ic_top (congrArg ic_b (ic_in_nI (show j < 16 by omega) (by decide))) ?_
    rcases ic_bool (bt th j) with q | q
    · skip
      refine lv_if_eq (tgt := 18) hx hb dX0_isParty_11 (by decide) (fun _ => ?_) (fun c9 => absurd (ic_b_f q) c9)
      refine lv_iconst (v := nI 0) hx hb dX0_isParty_18 (by decide) ?_
      exact hfin _ 19 ls (by rw [ic_in_nI hj (by decide), q]; rfl) dX0_isParty_19
    · skip
      refine lv_if_eq (tgt := 18) hx hb dX0_isParty_11 (by decide) (fun c9 => absurd c9 (ic_b_t q)) (fun _ => ?_)
      refine lv_iconst (v := nI 1) hx hb dX0_isParty_14 (by decide) ?_
      refine lv_goto (tgt := 19) hx hb dX0_isParty_15 (by decide) ?_
      exact hfin _ 19 ls (by rw [ic_in_nI hj (by decide), q]; rfl) dX0_isParty_19
theorem cwX_isParty {R : Room} {s : State} {args : Array Value} (hts : ∀ w ∈ lw_all, w.before args s = true) (hR : ic_R1.frames + 1 ≤ R.frames ∧ 8 + (2 + 11) + ic_R1.locals ≤ R.locals) : CallW R s args RX0 RX0 25 yX0_isParty cX0_isParty 2 (some .boolean) (ws_ yX0_isParty cX0_isParty 2 (some .boolean)) ic_R1 0 0 1 := cwV 1 hts (lw_V q41 q43 qs0 q12 q44) rfl rfl rfl (by decide +kernel) hR
set_option maxHeartbeats 4000000 in
set_option maxRecDepth 100000 in
theorem mX_compare (l : Launch) (D : va_G) (h hO hH : Nat) (cI cB : ClassId) (th : Int32) (own : Nat → Int32) (Hn : Nat → Nat) (n : Nat) (x y : Int32) (hHn : ∀ k, k < 512 → Hn k < 128) : Met l yX0_compare (ws_ yX0_compare cX0_compare 5 (some .int)) ic_R1 (ic_pX D h hO hH cI cB th own Hn n [.int x, .int y]) (vp_Si (fun r => r = ic_cmp (bt th) (ic_F Hn) x y)) 0 0 (fun _ => False) := by
  refine ic_sX (by decide) rfl (Nat.le_of_ble_eq_true rfl) (fun v hv => rfl) ?_
  intro p e s m args below meth c ls Q hx hb hml hown hts hK hP hl hfin
  have hl : lv_has ls 5 [(0, .ref h), (1, .int x), (2, .int y)] := hl
  refine lv_aload_n hx hb dX0_compare_0 rfl (lv_at hl 0 rfl) ?_
  refine lv_iload_n hx hb dX0_compare_1 rfl (lv_at hl 1 rfl) ?_
  refine xc_i ⟨hx, hb, hml, hown, hts⟩ (mX_isThere l D h hO hH cI cB th own Hn n x) (cwX_isThere hts ⟨Nat.le_of_ble_eq_true rfl, Nat.le_of_ble_eq_true rfl⟩) hK hP rfl hl.1 rfl (Nat.le_of_ble_eq_true rfl) dX0_compare_2 ⟨Nat.le_refl _, Nat.le_refl _⟩ (fun r er => ?_)
  subst er
  rcases ic_bool (ic_in (bt th) 16 x) with z | z
  · skip
    refine lv_if_eq (tgt := 16) hx hb dX0_compare_5 (by decide) (fun _ => ?_) (fun c9 => absurd (ic_b_f z) c9)
    refine lv_iconst (v := (-1)) hx hb dX0_compare_16 (by decide) ?_
    exact hfin _ 17 ls (ic_cmp_no (Or.inl z)).symm dX0_compare_17
  · skip
    refine lv_if_eq (tgt := 16) hx hb dX0_compare_5 (by decide) (fun c9 => absurd c9 (ic_b_t z)) (fun _ => ?_)
    refine lv_aload_n hx hb dX0_compare_8 rfl (lv_at hl 0 rfl) ?_
    refine lv_iload_n hx hb dX0_compare_9 rfl (lv_at hl 2 rfl) ?_
    refine xc_i ⟨hx, hb, hml, hown, hts⟩ (mX_isThere l D h hO hH cI cB th own Hn n y) (cwX_isThere hts ⟨Nat.le_of_ble_eq_true rfl, Nat.le_of_ble_eq_true rfl⟩) hK hP rfl hl.1 rfl (Nat.le_of_ble_eq_true rfl) dX0_compare_10 ⟨Nat.le_refl _, Nat.le_refl _⟩ (fun r er => ?_)
    subst er
    rcases ic_bool (ic_in (bt th) 16 y) with z2 | z2
    · skip
      refine lv_if_ne (tgt := 18) hx hb dX0_compare_13 (by decide) (fun c9 => absurd (ic_b_f z2) c9) (fun _ => ?_)
      refine lv_iconst (v := (-1)) hx hb dX0_compare_16 (by decide) ?_
      exact hfin _ 17 ls (ic_cmp_no (Or.inr z2)).symm dX0_compare_17
    · skip
      refine lv_if_ne (tgt := 18) hx hb dX0_compare_13 (by decide) (fun _ => ?_) (fun c9 => absurd c9 (ic_b_t z2))
      obtain ⟨i, hi, rfl, t1⟩ := ic_in_of (by decide) z
      obtain ⟨j, hj, rfl, t2⟩ := ic_in_of (by decide) z2
      refine lv_aload_n hx hb dX0_compare_18 rfl (lv_at hl 0 rfl) ?_
      refine lv_iload_n hx hb dX0_compare_19 rfl (lv_at hl 1 rfl) ?_
      refine lv_iload_n hx hb dX0_compare_20 rfl (lv_at hl 2 rfl) ?_
      refine xc_i ⟨hx, hb, hml, hown, hts⟩ (mX_under l D h hO hH cI cB th own Hn n i j hi hj hHn) (cwX_under hts ⟨Nat.le_of_ble_eq_true rfl, Nat.le_of_ble_eq_true rfl⟩) hK hP rfl hl.1 rfl (Nat.le_of_ble_eq_true rfl) dX0_compare_21 ⟨Nat.le_refl _, Nat.le_refl _⟩ (fun r er => ?_)
      subst er
      refine lv_istore_n (lv' := [(3, .int (ic_b (ic_F Hn i j))), (0, .ref h), (1, .int (nI i)), (2, .int (nI j))]) hx hb dX0_compare_24 rfl hl (by decide) rfl (fun ls hl => ?_)
      refine lv_aload_n hx hb dX0_compare_25 rfl (lv_at hl 1 rfl) ?_
      refine lv_iload_n hx hb dX0_compare_26 rfl (lv_at hl 3 rfl) ?_
      refine lv_iload_n hx hb dX0_compare_27 rfl (lv_at hl 2 rfl) ?_
      refine xc_i ⟨hx, hb, hml, hown, hts⟩ (mX_under l D h hO hH cI cB th own Hn n j i hj hi hHn) (cwX_under hts ⟨Nat.le_of_ble_eq_true rfl, Nat.le_of_ble_eq_true rfl⟩) hK hP rfl hl.1 rfl (Nat.le_of_ble_eq_true rfl) dX0_compare_28 ⟨Nat.le_refl _, Nat.le_refl _⟩ (fun r er => ?_)
      subst er
      refine lv_istore (lv' := [(4, .int (ic_b (ic_F Hn j i))), (3, .int (ic_b (ic_F Hn i j))), (0, .ref h), (1, .int (nI i)), (2, .int (nI j))]) hx hb dX0_compare_31 hl (by decide) rfl (fun ls hl => ?_)
      refine lv_iload_n hx hb dX0_compare_33 rfl (lv_at hl 1 rfl) ?_
      rcases ic_bool (ic_F Hn i j) with f1 | f1
      · skip
        refine lv_if_eq (tgt := 48) hx hb dX0_compare_34 (by decide) (fun _ => ?_) (fun c9 => absurd (ic_b_f f1) c9)
        refine lv_iload hx hb dX0_compare_48 (lv_at hl 0 rfl) ?_
        rcases ic_bool (ic_F Hn j i) with f2 | f2
        · skip
          refine lv_if_eq (tgt := 57) hx hb dX0_compare_50 (by decide) (fun _ => ?_) (fun c9 => absurd (ic_b_f f2) c9)
          refine lv_iconst (v := nI 3) hx hb dX0_compare_57 (by decide) ?_
          exact hfin _ 58 ls (ic_cmp_11 hi hj t1 t2 f1 f2).symm dX0_compare_58
        · skip
          refine lv_if_eq (tgt := 57) hx hb dX0_compare_50 (by decide) (fun c9 => absurd c9 (ic_b_t f2)) (fun _ => ?_)
          refine lv_iconst (v := nI 2) hx hb dX0_compare_53 (by decide) ?_
          refine lv_goto (tgt := 58) hx hb dX0_compare_54 (by decide) ?_
          exact hfin _ 58 ls (ic_cmp_10 hi hj t1 t2 f1 f2).symm dX0_compare_58
      · skip
        refine lv_if_eq (tgt := 48) hx hb dX0_compare_34 (by decide) (fun c9 => absurd c9 (ic_b_t f1)) (fun _ => ?_)
        refine lv_iload hx hb dX0_compare_37 (lv_at hl 0 rfl) ?_
        rcases ic_bool (ic_F Hn j i) with f2 | f2
        · skip
          refine lv_if_eq (tgt := 46) hx hb dX0_compare_39 (by decide) (fun _ => ?_) (fun c9 => absurd (ic_b_f f2) c9)
          refine lv_iconst (v := nI 1) hx hb dX0_compare_46 (by decide) ?_
          exact hfin _ 47 ls (ic_cmp_01 hi hj t1 t2 f1 f2).symm dX0_compare_47
        · skip
          refine lv_if_eq (tgt := 46) hx hb dX0_compare_39 (by decide) (fun c9 => absurd c9 (ic_b_t f2)) (fun _ => ?_)
          refine lv_iconst (v := nI 0) hx hb dX0_compare_42 (by decide) ?_
          refine lv_goto (tgt := 47) hx hb dX0_compare_43 (by decide) ?_
          exact hfin _ 47 ls (ic_cmp_00 hi hj t1 t2 f1 f2).symm dX0_compare_47
theorem cwX_compare {R : Room} {s : State} {args : Array Value} (hts : ∀ w ∈ lw_all, w.before args s = true) (hR : ic_R1.frames + 1 ≤ R.frames ∧ 8 + (5 + 11) + ic_R1.locals ≤ R.locals) : CallW R s args RX0 RX0 52 yX0_compare cX0_compare 5 (some .int) (ws_ yX0_compare cX0_compare 5 (some .int)) ic_R1 0 0 2 := cwV 2 hts (lw_V q119 q104 q105 q12 q106) rfl rfl rfl (by decide +kernel) hR
set_option maxHeartbeats 4000000 in
set_option maxRecDepth 100000 in
theorem mX_cells (l : Launch) (D : va_G) (h hO hH : Nat) (cI cB : ClassId) (th : Int32) (own : Nat → Int32) (Hn : Nat → Nat) (n : Nat) (a : Int32) : Met l yX0_cells (ws_ yX0_cells cX0_cells 2 (some .int)) ic_R2 (ic_pX D h hO hH cI cB th own Hn n [.int a]) (vp_Si (fun r => r = ic_cel (bt th) own a)) 0 0 (fun _ => False) := by
  refine ic_sX (by decide) rfl (Nat.le_of_ble_eq_true rfl) (fun v hv => rfl) ?_
  intro p e s m args below meth c ls Q hx hb hml hown hts hK hP hl hfin
  have hl : lv_has ls 2 [(0, .ref h), (1, .int a)] := hl
  refine lv_aload_n hx hb dX0_cells_0 rfl (lv_at hl 0 rfl) ?_
  refine lv_iload_n hx hb dX0_cells_1 rfl (lv_at hl 1 rfl) ?_
  refine xc_i ⟨hx, hb, hml, hown, hts⟩ (mX_isParty l D h hO hH cI cB th own Hn n a) (cwX_isParty hts ⟨Nat.le_of_ble_eq_true rfl, Nat.le_of_ble_eq_true rfl⟩) hK hP rfl hl.1 rfl (Nat.le_of_ble_eq_true rfl) dX0_cells_2 ⟨Nat.le_refl _, Nat.le_refl _⟩ (fun r er => ?_)
  subst er
  rcases ic_bool (ic_in (bt th) 8 a) with z | z
  · skip
    refine lv_if_eq (tgt := 20) hx hb dX0_cells_5 (by decide) (fun _ => ?_) (fun c9 => absurd (ic_b_f z) c9)
    refine lv_iconst (v := (-1)) hx hb dX0_cells_20 (by decide) ?_
    exact hfin _ 21 ls (ic_cel_no z).symm dX0_cells_21
  · skip
    refine lv_if_eq (tgt := 20) hx hb dX0_cells_5 (by decide) (fun c9 => absurd c9 (ic_b_t z)) (fun _ => ?_)
    obtain ⟨j, hj, rfl, hT⟩ := ic_in_of (by decide) z
    refine lv_aload_n hx hb dX0_cells_8 rfl (lv_at hl 0 rfl) ?_
    refine xg_own hx hb hts hown hK hP dX0_cells_9 ?_
    refine lv_iload_n hx hb dX0_cells_12 rfl (lv_at hl 1 rfl) ?_
    refine xo_ld hx hb hK hP (i := j) (by omega) dX0_cells_13 ?_
    refine ic_c0 ⟨hx, hb, hml, hown, hts⟩ (mX_ones l (own j)) (cwX_ones hts ⟨Nat.le_of_ble_eq_true rfl, Nat.le_of_ble_eq_true rfl⟩) rfl hl.1 rfl (Nat.le_of_ble_eq_true rfl) dX0_cells_14 ⟨Nat.le_refl _, Nat.le_refl _⟩ (fun r er => ?_)
    subst er
    refine lv_goto (tgt := 21) hx hb dX0_cells_17 (by decide) ?_
    exact hfin _ 21 ls (ic_cel_ok hj hT).symm dX0_cells_21
set_option maxHeartbeats 4000000 in
set_option maxRecDepth 100000 in
theorem mX_behind (l : Launch) (D : va_G) (h hO hH : Nat) (cI cB : ClassId) (th : Int32) (own : Nat → Int32) (Hn : Nat → Nat) (n : Nat) (x : Int32) (hHn : ∀ k, k < 512 → Hn k < 128) : Met l yX0_behind (ws_ yX0_behind cX0_behind 4 (some .int)) ic_R1 (ic_pX D h hO hH cI cB th own Hn n [.int x]) (vp_Si (fun r => r = ic_bh (bt th) (ic_F Hn) x)) 0 0 (fun _ => False) := by
  refine ic_sX (by decide) rfl (Nat.le_of_ble_eq_true rfl) (fun v hv => rfl) ?_
  intro p e s m args below meth c ls Q hx hb hml hown hts hK hP hl hfin
  have hl : lv_has ls 4 [(0, .ref h), (1, .int x)] := hl
  refine lv_iconst (v := nI 0) hx hb dX0_behind_0 (by decide) ?_
  refine lv_istore_n (lv' := [(2, .int (nI 0)), (0, .ref h), (1, .int x)]) hx hb dX0_behind_1 rfl hl (by decide) rfl (fun ls hl => ?_)
  refine lv_iconst (v := nI 0) hx hb dX0_behind_2 (by decide) ?_
  refine lv_istore_n (lv' := [(3, .int (nI 0)), (2, .int (nI 0)), (0, .ref h), (1, .int x)]) hx hb dX0_behind_3 rfl hl (by decide) rfl (fun ls hl => ?_)
  rcases ic_bool (ic_in (bt th) 16 x) with z | z
  · skip
    refine lv_iload_n hx hb dX0_behind_4 rfl (lv_at hl 0 rfl) ?_
    refine lv_bipush (v := nI 16) hx hb dX0_behind_5 (by decide) ?_
    refine lv_icmp_ge (tgt := 51) hx hb dX0_behind_7 (by decide) (fun c9 => absurd c9 (nI_ge (show 0 < 16 by decide) (by decide))) (fun _ => ?_)
    refine lv_aload_n hx hb dX0_behind_10 rfl (lv_at hl 2 rfl) ?_
    refine lv_iload_n hx hb dX0_behind_11 rfl (lv_at hl 3 rfl) ?_
    refine xc_i ⟨hx, hb, hml, hown, hts⟩ (mX_isThere l D h hO hH cI cB th own Hn n x) (cwX_isThere hts ⟨Nat.le_of_ble_eq_true rfl, Nat.le_of_ble_eq_true rfl⟩) hK hP rfl hl.1 rfl (Nat.le_of_ble_eq_true rfl) dX0_behind_12 ⟨Nat.le_refl _, Nat.le_refl _⟩ (fun r er => ?_)
    subst er
    refine lv_if_eq (tgt := 51) hx hb dX0_behind_15 (by decide) (fun _ => ?_) (fun c9 => absurd (ic_b_f z) c9)
    refine lv_iload_n hx hb dX0_behind_51 rfl (lv_at hl 1 rfl) ?_
    exact hfin _ 52 ls (ic_bh_no z).symm dX0_behind_52
  · obtain ⟨j, hj, rfl, hT⟩ := ic_in_of (by decide) z
    have loop : ∀ (k i : Nat), i + k = 16 → ∀ (ls : Array Slot), lv_has ls 4 [(0, .ref h), (1, .int (nI j)), (2, .int (ic_bs (fun y => bt th y && ic_F Hn y j) i)), (3, .int (nI i))] → W p l e ic_R1 s m args below meth c s.heap [] 0 0 Q (F0 m 4 ls []) := by
      intro k
      induction k with
      | zero =>
        intro i hi ls hl
        obtain rfl : i = 16 := by omega
        refine lv_iload_n hx hb dX0_behind_4 rfl (lv_at hl 3 rfl) ?_
        refine lv_bipush (v := nI 16) hx hb dX0_behind_5 (by decide) ?_
        refine lv_icmp_ge (tgt := 51) hx hb dX0_behind_7 (by decide) (fun _ => ?_) (fun c9 => absurd (nI_le (Nat.le_refl 16) (by decide)) c9)
        refine lv_iload_n hx hb dX0_behind_51 rfl (lv_at hl 2 rfl) ?_
        exact hfin _ 52 ls (ic_bh_ok hj hT).symm dX0_behind_52
      | succ k ih =>
        intro i hi ls hl
        refine lv_iload_n hx hb dX0_behind_4 rfl (lv_at hl 3 rfl) ?_
        refine lv_bipush (v := nI 16) hx hb dX0_behind_5 (by decide) ?_
        refine lv_icmp_ge (tgt := 51) hx hb dX0_behind_7 (by decide) (fun c9 => absurd c9 (nI_ge (show i < 16 by omega) (by decide))) (fun _ => ?_)
        refine lv_aload_n hx hb dX0_behind_10 rfl (lv_at hl 0 rfl) ?_
        refine lv_iload_n hx hb dX0_behind_11 rfl (lv_at hl 1 rfl) ?_
        refine xc_i ⟨hx, hb, hml, hown, hts⟩ (mX_isThere l D h hO hH cI cB th own Hn n (nI j)) (cwX_isThere hts ⟨Nat.le_of_ble_eq_true rfl, Nat.le_of_ble_eq_true rfl⟩) hK hP rfl hl.1 rfl (Nat.le_of_ble_eq_true rfl) dX0_behind_12 ⟨Nat.le_refl _, Nat.le_refl _⟩ (fun r er => ?_)
        subst er
        refine ic_top (congrArg ic_b (ic_in_nI hj (by decide))) ?_
        refine lv_if_eq (tgt := 51) hx hb dX0_behind_15 (by decide) (fun c9 => absurd c9 (ic_b_t hT)) (fun _ => ?_)
        refine lv_iload_n hx hb dX0_behind_18 rfl (lv_at hl 2 rfl) ?_
        refine lv_aload_n hx hb dX0_behind_19 rfl (lv_at hl 0 rfl) ?_
        refine lv_iload_n hx hb dX0_behind_20 rfl (lv_at hl 3 rfl) ?_
        refine xc_i ⟨hx, hb, hml, hown, hts⟩ (mX_isThere l D h hO hH cI cB th own Hn n (nI i)) (cwX_isThere hts ⟨Nat.le_of_ble_eq_true rfl, Nat.le_of_ble_eq_true rfl⟩) hK hP rfl hl.1 rfl (Nat.le_of_ble_eq_true rfl) dX0_behind_21 ⟨Nat.le_refl _, Nat.le_refl _⟩ (fun r er => ?_)
        subst er
        refine ic_top (congrArg ic_b (ic_in_nI (show i < 16 by omega) (by decide))) ?_
        rcases ic_bool (bt th i) with f1 | f1
        · skip
          refine lv_if_eq (tgt := 42) hx hb dX0_behind_24 (by decide) (fun _ => ?_) (fun c9 => absurd (ic_b_f f1) c9)
          refine lv_iconst (v := nI 0) hx hb dX0_behind_42 (by decide) ?_
          refine lv_ior hx hb dX0_behind_43 ?_
          refine ic_top (ic_bs_z (p := fun y => bt th y && ic_F Hn y j) (by show (bt th i && _) = false; rw [f1]; rfl)).symm ?_
          refine lv_istore_n (lv' := [(2, .int (ic_bs (fun y => bt th y && ic_F Hn y j) (i + 1))), (0, .ref h), (1, .int (nI j)), (3, .int (nI i))]) hx hb dX0_behind_44 rfl hl (by decide) rfl (fun ls hl => ?_)
          refine lv_iinc (v := nI (i + 1)) (lv' := [(3, .int (nI (i + 1))), (2, .int (ic_bs (fun y => bt th y && ic_F Hn y j) (i + 1))), (0, .ref h), (1, .int (nI j))]) hx hb dX0_behind_45 hl (k := 3) rfl (nI_1 _) (by decide) rfl (fun ls hl => ?_)
          refine lv_goto (tgt := 4) hx hb dX0_behind_48 (by decide) ?_
          exact ih (i + 1) (by omega) ls (lv_sub hl [2, 3, 1, 0] rfl)
        · skip
          refine lv_if_eq (tgt := 42) hx hb dX0_behind_24 (by decide) (fun c9 => absurd c9 (ic_b_t f1)) (fun _ => ?_)
          refine lv_aload_n hx hb dX0_behind_27 rfl (lv_at hl 0 rfl) ?_
          refine lv_iload_n hx hb dX0_behind_28 rfl (lv_at hl 3 rfl) ?_
          refine lv_iload_n hx hb dX0_behind_29 rfl (lv_at hl 1 rfl) ?_
          refine xc_i ⟨hx, hb, hml, hown, hts⟩ (mX_under l D h hO hH cI cB th own Hn n i j (show i < 16 by omega) hj hHn) (cwX_under hts ⟨Nat.le_of_ble_eq_true rfl, Nat.le_of_ble_eq_true rfl⟩) hK hP rfl hl.1 rfl (Nat.le_of_ble_eq_true rfl) dX0_behind_30 ⟨Nat.le_refl _, Nat.le_refl _⟩ (fun r er => ?_)
          subst er
          rcases ic_bool (ic_F Hn i j) with f2 | f2
          · skip
            refine lv_if_eq (tgt := 42) hx hb dX0_behind_33 (by decide) (fun _ => ?_) (fun c9 => absurd (ic_b_f f2) c9)
            refine lv_iconst (v := nI 0) hx hb dX0_behind_42 (by decide) ?_
            refine lv_ior hx hb dX0_behind_43 ?_
            refine ic_top (ic_bs_z (p := fun y => bt th y && ic_F Hn y j) (by show (bt th i && ic_F Hn i j) = false; rw [f1, f2]; rfl)).symm ?_
            refine lv_istore_n (lv' := [(2, .int (ic_bs (fun y => bt th y && ic_F Hn y j) (i + 1))), (0, .ref h), (1, .int (nI j)), (3, .int (nI i))]) hx hb dX0_behind_44 rfl hl (by decide) rfl (fun ls hl => ?_)
            refine lv_iinc (v := nI (i + 1)) (lv' := [(3, .int (nI (i + 1))), (2, .int (ic_bs (fun y => bt th y && ic_F Hn y j) (i + 1))), (0, .ref h), (1, .int (nI j))]) hx hb dX0_behind_45 hl (k := 3) rfl (nI_1 _) (by decide) rfl (fun ls hl => ?_)
            refine lv_goto (tgt := 4) hx hb dX0_behind_48 (by decide) ?_
            exact ih (i + 1) (by omega) ls (lv_sub hl [2, 3, 1, 0] rfl)
          · skip
            refine lv_if_eq (tgt := 42) hx hb dX0_behind_33 (by decide) (fun c9 => absurd c9 (ic_b_t f2)) (fun _ => ?_)
            refine lv_iconst (v := nI 1) hx hb dX0_behind_36 (by decide) ?_
            refine lv_iload_n hx hb dX0_behind_37 rfl (lv_at hl 3 rfl) ?_
            refine lv_ishl hx hb dX0_behind_38 ?_
            refine ic_top (show _ = ic_sh i from rfl) ?_
            refine lv_goto (tgt := 43) hx hb dX0_behind_39 (by decide) ?_
            refine lv_ior hx hb dX0_behind_43 ?_
            refine ic_top (ic_bs_t (p := fun y => bt th y && ic_F Hn y j) (by show (bt th i && ic_F Hn i j) = true; rw [f1, f2]; rfl)).symm ?_
            refine lv_istore_n (lv' := [(2, .int (ic_bs (fun y => bt th y && ic_F Hn y j) (i + 1))), (0, .ref h), (1, .int (nI j)), (3, .int (nI i))]) hx hb dX0_behind_44 rfl hl (by decide) rfl (fun ls hl => ?_)
            refine lv_iinc (v := nI (i + 1)) (lv' := [(3, .int (nI (i + 1))), (2, .int (ic_bs (fun y => bt th y && ic_F Hn y j) (i + 1))), (0, .ref h), (1, .int (nI j))]) hx hb dX0_behind_45 hl (k := 3) rfl (nI_1 _) (by decide) rfl (fun ls hl => ?_)
            refine lv_goto (tgt := 4) hx hb dX0_behind_48 (by decide) ?_
            exact ih (i + 1) (by omega) ls (lv_sub hl [2, 3, 1, 0] rfl)
    exact loop 16 0 rfl ls (lv_sub hl [2, 3, 1, 0] rfl)
/-- newest, half done: the bits below x are settled, bit x by the first y others -/
def ic_ns (th : Int32) (F : Nat → Nat → Bool) (x y : Nat) (t : Int32) : Prop := ∀ i, i < 32 → bt t i = (bt th i && (if i < x then ic_nb (bt th) F i 16 else if i = x then ic_nb (bt th) F x y else true))
theorem ic_ns_0 (th : Int32) (F : Nat → Nat → Bool) : ic_ns th F 0 0 th := by
  intro i hi
  rw [if_neg (Nat.not_lt_zero i)]
  by_cases e : i = 0
  · rw [if_pos e]; exact (Bool.and_true _).symm
  · rw [if_neg e]; exact (Bool.and_true _).symm
theorem ic_ns_next {th t : Int32} {F : Nat → Nat → Bool} {x : Nat} (h : ic_ns th F x 16 t) : ic_ns th F (x + 1) 0 t := by
  intro i hi
  rw [h i hi]
  congr 1
  by_cases e : i < x
  · rw [if_pos e, if_pos (by omega)]
  · by_cases e2 : i = x
    · subst e2
      rw [if_neg e, if_pos rfl, if_pos (by omega)]
    · rw [if_neg e, if_neg e2, if_neg (by omega)]
      by_cases e3 : i = x + 1
      · rw [if_pos e3]; rfl
      · rw [if_neg e3]
theorem ic_ns_clr {th t : Int32} {F : Nat → Nat → Bool} {x y : Nat} (hx : x < 16) (q : (bt th x && (bt th y && F x y && !F y x)) = true) (h : ic_ns th F x y t) : ic_ns th F x (y + 1) (t &&& (ic_sh x ^^^ (-1))) := by
  intro i hi
  rw [ic_clr_sh t (show x < 32 by omega)]
  unfold va_up
  by_cases e : i = x
  · subst e
    rw [if_pos rfl, if_neg (Nat.lt_irrefl i), if_pos rfl]
    show false = (bt th i && (ic_nb (bt th) F i y && !(bt th y && F i y && !F y i)))
    rw [Bool.and_eq_true] at q
    rw [q.2]
    simp
  · rw [if_neg e, h i hi]
    by_cases e2 : i < x
    · rw [if_pos e2, if_pos e2]
    · rw [if_neg e2, if_neg e, if_neg e2, if_neg e]
theorem ic_ns_keep {th t : Int32} {F : Nat → Nat → Bool} {x y : Nat} (q : (bt th x && (bt th y && F x y && !F y x)) = false) (h : ic_ns th F x y t) : ic_ns th F x (y + 1) t := by
  intro i hi
  rw [h i hi]
  by_cases e : i = x
  · subst e
    rw [if_neg (Nat.lt_irrefl i), if_pos rfl, if_neg (Nat.lt_irrefl i), if_pos rfl]
    show _ = (bt th i && (ic_nb (bt th) F i y && !(bt th y && F i y && !F y i)))
    cases h1 : bt th i
    · rfl
    · rw [h1, Bool.true_and] at q
      rw [q]
      simp
  · by_cases e2 : i < x
    · rw [if_pos e2, if_pos e2]
    · rw [if_neg e2, if_neg e, if_neg e2, if_neg e]
theorem ic_ns_end {th t : Int32} {F : Nat → Nat → Bool} (hth : ∀ j, 16 ≤ j → bt th j = false) (h : ic_ns th F 16 0 t) : t = ic_bs (ic_nw (bt th) F) 16 := by
  apply b_ext
  intro i hi
  rw [h i hi, ic_bs_bt _ (by decide) hi]
  by_cases e : i < 16
  · rw [if_pos e, decide_eq_true e, Bool.true_and]
    rfl
  · rw [hth i (by omega), decide_eq_false e]
    rfl
theorem ic_ap_skip (T : Nat → Bool) (F : Nat → Nat → Bool) {x : Nat} (hx : x < 16) : fb_ct (ic_ap T F) (16 * x + (x + 1)) = fb_ct (ic_ap T F) (16 * x) := by
  rw [fb_ct_split]
  have h : fb_ct (fun k => ic_ap T F (16 * x + k)) (x + 1) = 0 := fb_ct_zero.mpr (fun k hk => by
    show ic_ap T F (16 * x + k) = false
    unfold ic_ap
    rw [decide_eq_false (by omega), Bool.false_and])
  rw [h, Nat.add_zero]
theorem ic_ap_at (T : Nat → Bool) (F : Nat → Nat → Bool) {x y : Nat} (hy : y < 16) (hxy : x < y) : ic_ap T F (16 * x + y) = (T x && T y && !F x y && !F y x) := by
  unfold ic_ap
  have e1 : (16 * x + y) / 16 = x := by omega
  have e2 : (16 * x + y) % 16 = y := by omega
  rw [e1, e2, decide_eq_true hxy, Bool.true_and]
set_option maxHeartbeats 4000000 in
set_option maxRecDepth 100000 in
theorem mX_newest (l : Launch) (D : va_G) (h hO hH : Nat) (cI cB : ClassId) (th : Int32) (own : Nat → Int32) (Hn : Nat → Nat) (n : Nat)  (hHn : ∀ k, k < 512 → Hn k < 128) (hth : ∀ j, 16 ≤ j → bt th j = false) : Met l yX0_newest (ws_ yX0_newest cX0_newest 4 (some .int)) ic_R2 (ic_pX D h hO hH cI cB th own Hn n []) (vp_Si (fun r => r = ic_bs (ic_nw (bt th) (ic_F Hn)) 16)) 0 0 (fun _ => False) := by
  refine ic_sX (by decide) rfl (Nat.le_of_ble_eq_true rfl) (fun v hv => rfl) ?_
  intro p e s m args below meth c ls Q hx hb hml hown hts hK hP hl hfin
  have hl : lv_has ls 4 [(0, .ref h)] := hl
  refine lv_aload_n hx hb dX0_newest_0 rfl (lv_at hl 0 rfl) ?_
  refine xg_th hx hb hts hown hK hP dX0_newest_1 ?_
  refine lv_istore_n (lv' := [(1, .int th), (0, .ref h)]) hx hb dX0_newest_4 rfl hl (by decide) rfl (fun ls hl => ?_)
  refine lv_iconst (v := nI 0) hx hb dX0_newest_5 (by decide) ?_
  refine lv_istore_n (lv' := [(2, .int (nI 0)), (1, .int th), (0, .ref h)]) hx hb dX0_newest_6 rfl hl (by decide) rfl (fun ls hl => ?_)
  have loop : ∀ (k x : Nat), x + k = 16 → ∀ (t : Int32), ic_ns th (ic_F Hn) x 0 t → ∀ (ls : Array Slot), lv_has ls 4 [(0, .ref h), (1, .int t), (2, .int (nI x))] → W p l e ic_R2 s m args below meth c s.heap [] 0 0 Q (F0 m 7 ls []) := by
    intro k
    induction k with
    | zero =>
      intro x hi t ht ls hl
      obtain rfl : x = 16 := by omega
      refine lv_iload_n hx hb dX0_newest_7 rfl (lv_at hl 2 rfl) ?_
      refine lv_bipush (v := nI 16) hx hb dX0_newest_8 (by decide) ?_
      refine lv_icmp_ge (tgt := 51) hx hb dX0_newest_10 (by decide) (fun _ => ?_) (fun c9 => absurd (nI_le (Nat.le_refl 16) (by decide)) c9)
      refine lv_iload_n hx hb dX0_newest_51 rfl (lv_at hl 1 rfl) ?_
      exact hfin _ 52 ls (ic_ns_end hth ht) dX0_newest_52
    | succ k ih =>
      intro x hi t ht ls hl
      refine lv_iload_n hx hb dX0_newest_7 rfl (lv_at hl 2 rfl) ?_
      refine lv_bipush (v := nI 16) hx hb dX0_newest_8 (by decide) ?_
      refine lv_icmp_ge (tgt := 51) hx hb dX0_newest_10 (by decide) (fun c9 => absurd c9 (nI_ge (show x < 16 by omega) (by decide))) (fun _ => ?_)
      refine lv_iconst (v := nI 0) hx hb dX0_newest_13 (by decide) ?_
      refine lv_istore_n (lv' := [(3, .int (nI 0)), (0, .ref h), (1, .int t), (2, .int (nI x))]) hx hb dX0_newest_14 rfl hl (by decide) rfl (fun ls hl => ?_)
      have loop2 : ∀ (k y : Nat), y + k = 16 → ∀ (t : Int32), ic_ns th (ic_F Hn) x y t → ∀ (ls : Array Slot), lv_has ls 4 [(0, .ref h), (1, .int t), (2, .int (nI x)), (3, .int (nI y))] → W p l e ic_R2 s m args below meth c s.heap [] 0 0 Q (F0 m 15 ls []) := by
        intro k
        induction k with
        | zero =>
          intro y hi t ht ls hl
          obtain rfl : y = 16 := by omega
          refine lv_iload_n hx hb dX0_newest_15 rfl (lv_at hl 3 rfl) ?_
          refine lv_bipush (v := nI 16) hx hb dX0_newest_16 (by decide) ?_
          refine lv_icmp_ge (tgt := 45) hx hb dX0_newest_18 (by decide) (fun _ => ?_) (fun c9 => absurd (nI_le (Nat.le_refl 16) (by decide)) c9)
          refine lv_iinc (v := nI (x + 1)) (lv' := [(2, .int (nI (x + 1))), (0, .ref h), (1, .int t), (3, .int (nI 16))]) hx hb dX0_newest_45 hl (k := 2) rfl (nI_1 _) (by decide) rfl (fun ls hl => ?_)
          refine lv_goto (tgt := 7) hx hb dX0_newest_48 (by decide) ?_
          exact ih (x + 1) (by omega) t (ic_ns_next ht) ls (lv_sub hl [1, 2, 0] rfl)
        | succ k2 ih2 =>
          intro y hi t ht ls hl
          refine lv_iload_n hx hb dX0_newest_15 rfl (lv_at hl 3 rfl) ?_
          refine lv_bipush (v := nI 16) hx hb dX0_newest_16 (by decide) ?_
          refine lv_icmp_ge (tgt := 45) hx hb dX0_newest_18 (by decide) (fun c9 => absurd c9 (nI_ge (show y < 16 by omega) (by decide))) (fun _ => ?_)
          refine lv_aload_n hx hb dX0_newest_21 rfl (lv_at hl 0 rfl) ?_
          refine lv_iload_n hx hb dX0_newest_22 rfl (lv_at hl 2 rfl) ?_
          refine lv_iload_n hx hb dX0_newest_23 rfl (lv_at hl 3 rfl) ?_
          refine xc_i ⟨hx, hb, hml, hown, hts⟩ (mX_compare l D h hO hH cI cB th own Hn n (nI x) (nI y) hHn) (cwX_compare hts ⟨Nat.le_of_ble_eq_true rfl, Nat.le_of_ble_eq_true rfl⟩) hK hP rfl hl.1 rfl (Nat.le_of_ble_eq_true rfl) dX0_newest_24 ⟨Nat.le_refl _, Nat.le_refl _⟩ (fun r er => ?_)
          subst er
          refine lv_iconst (v := nI 1) hx hb dX0_newest_27 (by decide) ?_
          have hx0 : x < 16 := by omega
          have hy0 : y < 16 := by omega
          rcases ic_bool (bt th x && (bt th y && ic_F Hn x y && !ic_F Hn y x)) with q | q
          · skip
            refine lv_icmp_ne (tgt := 39) hx hb dX0_newest_28 (by decide) (fun _ => ?_) (fun c9 => absurd c9 (fun z => absurd ((ic_cmp_1 hx0 hy0).mp z) (ic_nt q)))
            refine lv_iinc (v := nI (y + 1)) (lv' := [(3, .int (nI (y + 1))), (0, .ref h), (1, .int t), (2, .int (nI x))]) hx hb dX0_newest_39 hl (k := 3) rfl (nI_1 _) (by decide) rfl (fun ls hl => ?_)
            refine lv_goto (tgt := 15) hx hb dX0_newest_42 (by decide) ?_
            exact ih2 (y + 1) (by omega) t (ic_ns_keep q ht) ls (lv_sub hl [1, 2, 3, 0] rfl)
          · skip
            refine lv_icmp_ne (tgt := 39) hx hb dX0_newest_28 (by decide) (fun c9 => absurd ((ic_cmp_1 hx0 hy0).mpr q) c9) (fun _ => ?_)
            refine lv_iload_n hx hb dX0_newest_31 rfl (lv_at hl 1 rfl) ?_
            refine lv_iconst (v := nI 1) hx hb dX0_newest_32 (by decide) ?_
            refine lv_iload_n hx hb dX0_newest_33 rfl (lv_at hl 2 rfl) ?_
            refine lv_ishl hx hb dX0_newest_34 ?_
            refine ic_top (show _ = ic_sh x from rfl) ?_
            refine lv_iconst (v := (-1)) hx hb dX0_newest_35 (by decide) ?_
            refine lv_ixor hx hb dX0_newest_36 ?_
            refine lv_iand hx hb dX0_newest_37 ?_
            refine lv_istore_n (lv' := [(1, .int (t &&& ((ic_sh x) ^^^ (-1)))), (0, .ref h), (2, .int (nI x)), (3, .int (nI y))]) hx hb dX0_newest_38 rfl hl (by decide) rfl (fun ls hl => ?_)
            refine lv_iinc (v := nI (y + 1)) (lv' := [(3, .int (nI (y + 1))), (1, .int (t &&& ((ic_sh x) ^^^ (-1)))), (0, .ref h), (2, .int (nI x))]) hx hb dX0_newest_39 hl (k := 3) rfl (nI_1 _) (by decide) rfl (fun ls hl => ?_)
            refine lv_goto (tgt := 15) hx hb dX0_newest_42 (by decide) ?_
            exact ih2 (y + 1) (by omega) _ (ic_ns_clr hx0 q ht) ls (lv_sub hl [2, 1, 3, 0] rfl)
      exact loop2 16 0 rfl t ht ls (lv_sub hl [1, 2, 3, 0] rfl)
  exact loop 16 0 rfl th (ic_ns_0 th _) ls (lv_sub hl [2, 1, 0] rfl)
set_option maxHeartbeats 4000000 in
set_option maxRecDepth 100000 in
theorem mX_everywhere (l : Launch) (D : va_G) (h hO hH : Nat) (cI cB : ClassId) (th : Int32) (own : Nat → Int32) (Hn : Nat → Nat) (n : Nat) (x : Int32) (hHn : ∀ k, k < 512 → Hn k < 128) : Met l yX0_everywhere (ws_ yX0_everywhere cX0_everywhere 3 (some .boolean)) ic_R1 (ic_pX D h hO hH cI cB th own Hn n [.int x]) (vp_Si (fun r => r = ic_evw (bt th) (ic_F Hn) x)) 0 0 (fun _ => False) := by
  refine ic_sX (by decide) rfl (Nat.le_of_ble_eq_true rfl) (fun v hv => by rw [hv]; exact ic_b_nar _) ?_
  intro p e s m args below meth c ls Q hx hb hml hown hts hK hP hl hfin
  have hl : lv_has ls 3 [(0, .ref h), (1, .int x)] := hl
  refine lv_iload_n hx hb dX0_everywhere_0 rfl (lv_at hl 1 rfl) ?_
  refine ic_c0 ⟨hx, hb, hml, hown, hts⟩ (mX_isNote l x) (cwX_isNote hts ⟨Nat.le_of_ble_eq_true rfl, Nat.le_of_ble_eq_true rfl⟩) rfl hl.1 rfl (Nat.le_of_ble_eq_true rfl) dX0_everywhere_1 ⟨Nat.le_refl _, Nat.le_refl _⟩ (fun r er => ?_)
  subst er
  rcases pk_ix x (n := 8) (by decide) with z | z | ⟨j, hj, rfl⟩
  · skip
    refine lv_if_eq (tgt := 18) hx hb dX0_everywhere_4 (by decide) (fun _ => ?_) (fun c9 => absurd (ic_b_f (ic_in_neg z)) c9)
    refine lv_iconst (v := nI 0) hx hb dX0_everywhere_18 (by decide) ?_
    exact hfin _ 19 ls (ic_evw_no (ic_in_neg z)).symm dX0_everywhere_19
  · skip
    refine lv_if_eq (tgt := 18) hx hb dX0_everywhere_4 (by decide) (fun _ => ?_) (fun c9 => absurd (ic_b_f (ic_in_big (by decide) z)) c9)
    refine lv_iconst (v := nI 0) hx hb dX0_everywhere_18 (by decide) ?_
    exact hfin _ 19 ls (ic_evw_no (ic_in_big (by decide) z)).symm dX0_everywhere_19
  · skip
    refine lv_if_eq (tgt := 18) hx hb dX0_everywhere_4 (by decide) (fun c9 => absurd c9 (ic_b_t (ic_in_nI hj (by decide)))) (fun _ => ?_)
    refine lv_aload_n hx hb dX0_everywhere_7 rfl (lv_at hl 0 rfl) ?_
    refine lv_bipush (v := nI 8) hx hb dX0_everywhere_8 (by decide) ?_
    refine lv_iload_n hx hb dX0_everywhere_10 rfl (lv_at hl 1 rfl) ?_
    refine lv_iadd hx hb dX0_everywhere_11 ?_
    refine ic_top (nI_add _ _) ?_
    refine xc_i ⟨hx, hb, hml, hown, hts⟩ (mX_isThere l D h hO hH cI cB th own Hn n (nI (8 + j))) (cwX_isThere hts ⟨Nat.le_of_ble_eq_true rfl, Nat.le_of_ble_eq_true rfl⟩) hK hP rfl hl.1 rfl (Nat.le_of_ble_eq_true rfl) dX0_everywhere_12 ⟨Nat.le_refl _, Nat.le_refl _⟩ (fun r er => ?_)
    subst er
    refine ic_top (congrArg ic_b (ic_in_nI (show 8 + j < 16 by omega) (by decide))) ?_
    rcases ic_bool (bt th (8 + j)) with q | q
    · skip
      refine lv_if_ne (tgt := 20) hx hb dX0_everywhere_15 (by decide) (fun c9 => absurd (ic_b_f q) c9) (fun _ => ?_)
      refine lv_iconst (v := nI 0) hx hb dX0_everywhere_18 (by decide) ?_
      exact hfin _ 19 ls (ic_evw_no (by rw [ic_in_nI hj (by decide)]; exact q)).symm dX0_everywhere_19
    · skip
      refine lv_if_ne (tgt := 20) hx hb dX0_everywhere_15 (by decide) (fun _ => ?_) (fun c9 => absurd c9 (ic_b_t q))
      refine lv_iconst (v := nI 0) hx hb dX0_everywhere_20 (by decide) ?_
      refine lv_istore_n (lv' := [(2, .int (nI 0)), (0, .ref h), (1, .int (nI j))]) hx hb dX0_everywhere_21 rfl hl (by decide) rfl (fun ls hl => ?_)
      have loop : ∀ (k i : Nat), i + k = 8 → ic_al (bt th) (ic_F Hn) j i = true → ∀ (ls : Array Slot), lv_has ls 3 [(0, .ref h), (1, .int (nI j)), (2, .int (nI i))] → W p l e ic_R1 s m args below meth c s.heap [] 0 0 Q (F0 m 22 ls []) := by
        intro k
        induction k with
        | zero =>
          intro i hi hu ls hl
          obtain rfl : i = 8 := by omega
          refine lv_iload_n hx hb dX0_everywhere_22 rfl (lv_at hl 2 rfl) ?_
          refine lv_bipush (v := nI 8) hx hb dX0_everywhere_23 (by decide) ?_
          refine lv_icmp_ge (tgt := 56) hx hb dX0_everywhere_25 (by decide) (fun _ => ?_) (fun c9 => absurd (nI_le (Nat.le_refl 8) (by decide)) c9)
          refine lv_iconst (v := nI 1) hx hb dX0_everywhere_56 (by decide) ?_
          exact hfin _ 57 ls (by rw [ic_evw_ok hj q, hu]; rfl) dX0_everywhere_57
        | succ k ih =>
          intro i hi hu ls hl
          refine lv_iload_n hx hb dX0_everywhere_22 rfl (lv_at hl 2 rfl) ?_
          refine lv_bipush (v := nI 8) hx hb dX0_everywhere_23 (by decide) ?_
          refine lv_icmp_ge (tgt := 56) hx hb dX0_everywhere_25 (by decide) (fun c9 => absurd c9 (nI_ge (show i < 8 by omega) (by decide))) (fun _ => ?_)
          refine lv_aload_n hx hb dX0_everywhere_28 rfl (lv_at hl 0 rfl) ?_
          refine lv_iload_n hx hb dX0_everywhere_29 rfl (lv_at hl 2 rfl) ?_
          refine xc_i ⟨hx, hb, hml, hown, hts⟩ (mX_isThere l D h hO hH cI cB th own Hn n (nI i)) (cwX_isThere hts ⟨Nat.le_of_ble_eq_true rfl, Nat.le_of_ble_eq_true rfl⟩) hK hP rfl hl.1 rfl (Nat.le_of_ble_eq_true rfl) dX0_everywhere_30 ⟨Nat.le_refl _, Nat.le_refl _⟩ (fun r er => ?_)
          subst er
          refine ic_top (congrArg ic_b (ic_in_nI (show i < 16 by omega) (by decide))) ?_
          rcases ic_bool (bt th i) with f1 | f1
          · skip
            refine lv_if_eq (tgt := 50) hx hb dX0_everywhere_33 (by decide) (fun _ => ?_) (fun c9 => absurd (ic_b_f f1) c9)
            refine lv_iinc (v := nI (i + 1)) (lv' := [(2, .int (nI (i + 1))), (0, .ref h), (1, .int (nI j))]) hx hb dX0_everywhere_50 hl (k := 2) rfl (nI_1 _) (by decide) rfl (fun ls hl => ?_)
            refine lv_goto (tgt := 22) hx hb dX0_everywhere_53 (by decide) ?_
            exact ih (i + 1) (by omega) (ic_al_s hu (Or.inl f1)) ls (lv_sub hl [1, 2, 0] rfl)
          · skip
            refine lv_if_eq (tgt := 50) hx hb dX0_everywhere_33 (by decide) (fun c9 => absurd c9 (ic_b_t f1)) (fun _ => ?_)
            refine lv_aload_n hx hb dX0_everywhere_36 rfl (lv_at hl 0 rfl) ?_
            refine lv_bipush (v := nI 8) hx hb dX0_everywhere_37 (by decide) ?_
            refine lv_iload_n hx hb dX0_everywhere_39 rfl (lv_at hl 1 rfl) ?_
            refine lv_iadd hx hb dX0_everywhere_40 ?_
            refine ic_top (nI_add _ _) ?_
            refine lv_iload_n hx hb dX0_everywhere_41 rfl (lv_at hl 2 rfl) ?_
            refine xc_i ⟨hx, hb, hml, hown, hts⟩ (mX_under l D h hO hH cI cB th own Hn n (8 + j) i (show 8 + j < 16 by omega) (show i < 16 by omega) hHn) (cwX_under hts ⟨Nat.le_of_ble_eq_true rfl, Nat.le_of_ble_eq_true rfl⟩) hK hP rfl hl.1 rfl (Nat.le_of_ble_eq_true rfl) dX0_everywhere_42 ⟨Nat.le_refl _, Nat.le_refl _⟩ (fun r er => ?_)
            subst er
            rcases ic_bool (ic_F Hn (8 + j) i) with f2 | f2
            · skip
              refine lv_if_ne (tgt := 50) hx hb dX0_everywhere_45 (by decide) (fun c9 => absurd (ic_b_f f2) c9) (fun _ => ?_)
              refine lv_iconst (v := nI 0) hx hb dX0_everywhere_48 (by decide) ?_
              exact hfin _ 49 ls (by rw [ic_evw_ok hj q, ic_al_no f1 f2 8 (by omega)]; rfl) dX0_everywhere_49
            · skip
              refine lv_if_ne (tgt := 50) hx hb dX0_everywhere_45 (by decide) (fun _ => ?_) (fun c9 => absurd c9 (ic_b_t f2))
              refine lv_iinc (v := nI (i + 1)) (lv' := [(2, .int (nI (i + 1))), (0, .ref h), (1, .int (nI j))]) hx hb dX0_everywhere_50 hl (k := 2) rfl (nI_1 _) (by decide) rfl (fun ls hl => ?_)
              refine lv_goto (tgt := 22) hx hb dX0_everywhere_53 (by decide) ?_
              exact ih (i + 1) (by omega) (ic_al_s hu (Or.inr f2)) ls (lv_sub hl [1, 2, 0] rfl)
      exact loop 8 0 rfl rfl ls (lv_sub hl [1, 2, 0] rfl)
set_option maxHeartbeats 4000000 in
set_option maxRecDepth 100000 in
theorem mX_apartPairs (l : Launch) (D : va_G) (h hO hH : Nat) (cI cB : ClassId) (th : Int32) (own : Nat → Int32) (Hn : Nat → Nat) (n : Nat)  (hHn : ∀ k, k < 512 → Hn k < 128) : Met l yX0_apartPairs (ws_ yX0_apartPairs cX0_apartPairs 4 (some .int)) ic_R2 (ic_pX D h hO hH cI cB th own Hn n []) (vp_Si (fun r => r = nI (fb_ct (ic_ap (bt th) (ic_F Hn)) 256))) 0 0 (fun _ => False) := by
  refine ic_sX (by decide) rfl (Nat.le_of_ble_eq_true rfl) (fun v hv => rfl) ?_
  intro p e s m args below meth c ls Q hx hb hml hown hts hK hP hl hfin
  have hl : lv_has ls 4 [(0, .ref h)] := hl
  refine lv_iconst (v := nI 0) hx hb dX0_apartPairs_0 (by decide) ?_
  refine lv_istore_n (lv' := [(1, .int (nI 0)), (0, .ref h)]) hx hb dX0_apartPairs_1 rfl hl (by decide) rfl (fun ls hl => ?_)
  refine lv_iconst (v := nI 0) hx hb dX0_apartPairs_2 (by decide) ?_
  refine lv_istore_n (lv' := [(2, .int (nI 0)), (1, .int (nI 0)), (0, .ref h)]) hx hb dX0_apartPairs_3 rfl hl (by decide) rfl (fun ls hl => ?_)
  have loop : ∀ (k x : Nat), x + k = 16 → ∀ (ls : Array Slot), lv_has ls 4 [(0, .ref h), (1, .int (nI (fb_ct (ic_ap (bt th) (ic_F Hn)) (16 * x)))), (2, .int (nI x))] → W p l e ic_R2 s m args below meth c s.heap [] 0 0 Q (F0 m 4 ls []) := by
    intro k
    induction k with
    | zero =>
      intro x hi ls hl
      obtain rfl : x = 16 := by omega
      refine lv_iload_n hx hb dX0_apartPairs_4 rfl (lv_at hl 2 rfl) ?_
      refine lv_bipush (v := nI 16) hx hb dX0_apartPairs_5 (by decide) ?_
      refine lv_icmp_ge (tgt := 50) hx hb dX0_apartPairs_7 (by decide) (fun _ => ?_) (fun c9 => absurd (nI_le (Nat.le_refl 16) (by decide)) c9)
      refine lv_iload_n hx hb dX0_apartPairs_50 rfl (lv_at hl 1 rfl) ?_
      exact hfin _ 51 ls rfl dX0_apartPairs_51
    | succ k ih =>
      intro x hi ls hl
      refine lv_iload_n hx hb dX0_apartPairs_4 rfl (lv_at hl 2 rfl) ?_
      refine lv_bipush (v := nI 16) hx hb dX0_apartPairs_5 (by decide) ?_
      refine lv_icmp_ge (tgt := 50) hx hb dX0_apartPairs_7 (by decide) (fun c9 => absurd c9 (nI_ge (show x < 16 by omega) (by decide))) (fun _ => ?_)
      refine lv_iload_n hx hb dX0_apartPairs_10 rfl (lv_at hl 2 rfl) ?_
      refine lv_iconst (v := nI 1) hx hb dX0_apartPairs_11 (by decide) ?_
      refine lv_iadd hx hb dX0_apartPairs_12 ?_
      refine ic_top (nI_add _ _) ?_
      refine lv_istore_n (lv' := [(3, .int (nI (x + 1))), (0, .ref h), (1, .int (nI (fb_ct (ic_ap (bt th) (ic_F Hn)) (16 * x)))), (2, .int (nI x))]) hx hb dX0_apartPairs_13 rfl hl (by decide) rfl (fun ls hl => ?_)
      have loop2 : ∀ (k y : Nat), y + k = 16 → x < y → ∀ (ls : Array Slot), lv_has ls 4 [(0, .ref h), (1, .int (nI (fb_ct (ic_ap (bt th) (ic_F Hn)) (16 * x + y)))), (2, .int (nI x)), (3, .int (nI y))] → W p l e ic_R2 s m args below meth c s.heap [] 0 0 Q (F0 m 14 ls []) := by
        intro k2
        induction k2 with
        | zero =>
          intro y hi hxy ls hl
          obtain rfl : y = 16 := by omega
          refine lv_iload_n hx hb dX0_apartPairs_14 rfl (lv_at hl 3 rfl) ?_
          refine lv_bipush (v := nI 16) hx hb dX0_apartPairs_15 (by decide) ?_
          refine lv_icmp_ge (tgt := 44) hx hb dX0_apartPairs_17 (by decide) (fun _ => ?_) (fun c9 => absurd (nI_le (Nat.le_refl 16) (by decide)) c9)
          refine lv_iinc (v := nI (x + 1)) (lv' := [(2, .int (nI (x + 1))), (0, .ref h), (1, .int (nI (fb_ct (ic_ap (bt th) (ic_F Hn)) (16 * x + 16)))), (3, .int (nI 16))]) hx hb dX0_apartPairs_44 hl (k := 2) rfl (nI_1 _) (by decide) rfl (fun ls hl => ?_)
          refine lv_goto (tgt := 4) hx hb dX0_apartPairs_47 (by decide) ?_
          exact ih (x + 1) (by omega) ls (lv_sub hl [1, 2, 0] rfl)
        | succ k2 ih2 =>
          intro y hi hxy ls hl
          refine lv_iload_n hx hb dX0_apartPairs_14 rfl (lv_at hl 3 rfl) ?_
          refine lv_bipush (v := nI 16) hx hb dX0_apartPairs_15 (by decide) ?_
          refine lv_icmp_ge (tgt := 44) hx hb dX0_apartPairs_17 (by decide) (fun c9 => absurd c9 (nI_ge (show y < 16 by omega) (by decide))) (fun _ => ?_)
          refine lv_iload_n hx hb dX0_apartPairs_20 rfl (lv_at hl 1 rfl) ?_
          refine lv_aload_n hx hb dX0_apartPairs_21 rfl (lv_at hl 0 rfl) ?_
          refine lv_iload_n hx hb dX0_apartPairs_22 rfl (lv_at hl 2 rfl) ?_
          refine lv_iload_n hx hb dX0_apartPairs_23 rfl (lv_at hl 3 rfl) ?_
          refine xc_i ⟨hx, hb, hml, hown, hts⟩ (mX_compare l D h hO hH cI cB th own Hn n (nI x) (nI y) hHn) (cwX_compare hts ⟨Nat.le_of_ble_eq_true rfl, Nat.le_of_ble_eq_true rfl⟩) hK hP rfl hl.1 rfl (Nat.le_of_ble_eq_true rfl) dX0_apartPairs_24 ⟨Nat.le_refl _, Nat.le_refl _⟩ (fun r er => ?_)
          subst er
          refine lv_iconst (v := nI 3) hx hb dX0_apartPairs_27 (by decide) ?_
          have hx0 : x < 16 := by omega
          have hy0 : y < 16 := by omega
          have hg := ic_ap_at (bt th) (ic_F Hn) hy0 hxy
          rcases ic_bool (bt th x && bt th y && !ic_F Hn x y && !ic_F Hn y x) with q | q
          · rw [q] at hg
            refine lv_icmp_ne (tgt := 35) hx hb dX0_apartPairs_28 (by decide) (fun _ => ?_) (fun c9 => absurd c9 (fun z => absurd ((ic_cmp_3 hx0 hy0).mp z) (ic_nt q)))
            refine lv_iconst (v := nI 0) hx hb dX0_apartPairs_35 (by decide) ?_
            refine lv_iadd hx hb dX0_apartPairs_36 ?_
            refine ic_top (show _ = nI (fb_ct (ic_ap (bt th) (ic_F Hn)) (16 * x + (y + 1))) from (nI_add _ 0).trans (congrArg nI (ic_ct_f hg).symm)) ?_
            refine lv_istore_n (lv' := [(1, .int (nI (fb_ct (ic_ap (bt th) (ic_F Hn)) (16 * x + (y + 1))))), (0, .ref h), (2, .int (nI x)), (3, .int (nI y))]) hx hb dX0_apartPairs_37 rfl hl (by decide) rfl (fun ls hl => ?_)
            refine lv_iinc (v := nI (y + 1)) (lv' := [(3, .int (nI (y + 1))), (1, .int (nI (fb_ct (ic_ap (bt th) (ic_F Hn)) (16 * x + (y + 1))))), (0, .ref h), (2, .int (nI x))]) hx hb dX0_apartPairs_38 hl (k := 3) rfl (nI_1 _) (by decide) rfl (fun ls hl => ?_)
            refine lv_goto (tgt := 14) hx hb dX0_apartPairs_41 (by decide) ?_
            exact ih2 (y + 1) (by omega) (by omega) ls (lv_sub hl [2, 1, 3, 0] rfl)
          · rw [q] at hg
            refine lv_icmp_ne (tgt := 35) hx hb dX0_apartPairs_28 (by decide) (fun c9 => absurd ((ic_cmp_3 hx0 hy0).mpr q) c9) (fun _ => ?_)
            refine lv_iconst (v := nI 1) hx hb dX0_apartPairs_31 (by decide) ?_
            refine lv_goto (tgt := 36) hx hb dX0_apartPairs_32 (by decide) ?_
            refine lv_iadd hx hb dX0_apartPairs_36 ?_
            refine ic_top (show _ = nI (fb_ct (ic_ap (bt th) (ic_F Hn)) (16 * x + (y + 1))) from (nI_add _ 1).trans (congrArg nI (ic_ct_t hg).symm)) ?_
            refine lv_istore_n (lv' := [(1, .int (nI (fb_ct (ic_ap (bt th) (ic_F Hn)) (16 * x + (y + 1))))), (0, .ref h), (2, .int (nI x)), (3, .int (nI y))]) hx hb dX0_apartPairs_37 rfl hl (by decide) rfl (fun ls hl => ?_)
            refine lv_iinc (v := nI (y + 1)) (lv' := [(3, .int (nI (y + 1))), (1, .int (nI (fb_ct (ic_ap (bt th) (ic_F Hn)) (16 * x + (y + 1))))), (0, .ref h), (2, .int (nI x))]) hx hb dX0_apartPairs_38 hl (k := 3) rfl (nI_1 _) (by decide) rfl (fun ls hl => ?_)
            refine lv_goto (tgt := 14) hx hb dX0_apartPairs_41 (by decide) ?_
            exact ih2 (y + 1) (by omega) (by omega) ls (lv_sub hl [2, 1, 3, 0] rfl)
      have hs := ic_ap_skip (bt th) (ic_F Hn) (show x < 16 by omega)
      exact loop2 (15 - x) (x + 1) (by omega) (by omega) ls (by rw [hs]; exact (lv_sub hl [1, 2, 3, 0] rfl))
  exact loop 16 0 rfl ls (lv_sub hl [2, 1, 0] rfl)
end
section
/-! IntervalClocks: what it does -/
theorem ic_nar01 {r : Int32} (h : r = nI 0 ∨ r = nI 1) : narrow .boolean (.int r) = .int r := by rcases h with h | h <;> rw [h] <;> rfl
theorem ic_Xerase_nar {th : Int32} {own : Nat → Int32} {Hn : Nat → Nat} {n : Nat} {x r : Int32} {v : ic_X} (h : (r, v) = ic_Xerase th own Hn n x) : narrow .boolean (.int r) = .int r := by
  apply ic_nar01
  unfold ic_Xerase at h
  split at h <;> injection h with h1 h2
  · exact Or.inr h1
  · exact Or.inl h1
theorem ic_Xnote_nar {th : Int32} {own : Nat → Int32} {Hn : Nat → Nat} {n : Nat} {x y r : Int32} {v : ic_X} (h : (r, v) = ic_Xnote th own Hn n x y) : narrow .boolean (.int r) = .int r := by
  apply ic_nar01
  unfold ic_Xnote at h
  split at h <;> injection h with h1 h2
  · exact Or.inr h1
  · exact Or.inl h1
theorem ic_Merase_nar {T : Nat → Bool} {lo hi : Nat → Int64} {had : Nat → Int32} {n : Nat} {x r : Int32} {v : ic_M} (h : (r, v) = ic_Merase T lo hi had n x) : narrow .boolean (.int r) = .int r := by
  apply ic_nar01
  unfold ic_Merase at h
  split at h <;> injection h with h1 h2
  · exact Or.inr h1
  · exact Or.inl h1
theorem ic_Mnote_nar {T : Nat → Bool} {lo hi : Nat → Int64} {had : Nat → Int32} {n : Nat} {x y r : Int32} {v : ic_M} (h : (r, v) = ic_Mnote T lo hi had n x y) : narrow .boolean (.int r) = .int r := by
  apply ic_nar01
  unfold ic_Mnote at h
  split at h <;> injection h with h1 h2
  · exact Or.inr h1
  · exact Or.inl h1
set_option maxHeartbeats 4000000 in
set_option maxRecDepth 100000 in
theorem mX_erase (l : Launch) (D : va_G) (h hO hH : Nat) (cI cB : ClassId) (th : Int32) (own : Nat → Int32) (Hn : Nat → Nat) (n : Nat) (sz : Nat) (x : Int32) : Met l yX0_erase (ws_ yX0_erase cX0_erase 2 (some .boolean)) ic_R1 (ic_qX D h hO hH cI cB th own Hn n sz [.int x]) (va_Qi (fun r v => (r, v) = ic_Xerase th own Hn n x) (ic_BX D h hO hH cI cB (ic_AX h hO hH cI cB th own Hn n sz)) (ic_AX h hO hH cI cB th own Hn n sz)) 0 0 (ic_AX h hO hH cI cB th own Hn n sz) := by
  refine ic_uX (by decide) rfl (Nat.le_of_ble_eq_true rfl) (fun v u hv => ic_Xerase_nar hv) ?_
  intro p e s m args below meth c ls Q A hx hb hml hown hts hK hP hD hA hS hl hfin
  have hl : lv_has ls 2 [(0, .ref h), (1, .int x)] := hl
  refine lv_iload_n hx hb dX0_erase_0 rfl (lv_at hl 1 rfl) ?_
  refine ic_c0 ⟨hx, hb, hml, hown, hts⟩ (mX_isNote l x) (cwX_isNote hts ⟨Nat.le_of_ble_eq_true rfl, Nat.le_of_ble_eq_true rfl⟩) rfl hl.1 rfl (Nat.le_of_ble_eq_true rfl) dX0_erase_1 ⟨Nat.le_refl _, Nat.le_refl _⟩ (fun r er => ?_)
  subst er
  rcases pk_ix x (n := 8) (by decide) with z | z | ⟨j, hj, rfl⟩
  · skip
    refine lv_if_eq (tgt := 18) hx hb dX0_erase_4 (by decide) (fun _ => ?_) (fun c9 => absurd (ic_b_f (ic_in_neg z)) c9)
    refine lv_iconst (v := nI 0) hx hb dX0_erase_18 (by decide) ?_
    exact hfin _ th own Hn n 19 ls _ _ (ic_Xerase_no (ic_in_neg z)).symm hP hD hS dX0_erase_19
  · skip
    refine lv_if_eq (tgt := 18) hx hb dX0_erase_4 (by decide) (fun _ => ?_) (fun c9 => absurd (ic_b_f (ic_in_big (by decide) z)) c9)
    refine lv_iconst (v := nI 0) hx hb dX0_erase_18 (by decide) ?_
    exact hfin _ th own Hn n 19 ls _ _ (ic_Xerase_no (ic_in_big (by decide) z)).symm hP hD hS dX0_erase_19
  · skip
    refine lv_if_eq (tgt := 18) hx hb dX0_erase_4 (by decide) (fun c9 => absurd c9 (ic_b_t (ic_in_nI hj (by decide)))) (fun _ => ?_)
    refine lv_aload_n hx hb dX0_erase_7 rfl (lv_at hl 0 rfl) ?_
    refine lv_bipush (v := nI 8) hx hb dX0_erase_8 (by decide) ?_
    refine lv_iload_n hx hb dX0_erase_10 rfl (lv_at hl 1 rfl) ?_
    refine lv_iadd hx hb dX0_erase_11 ?_
    refine ic_top (nI_add _ _) ?_
    refine xc_i ⟨hx, hb, hml, hown, hts⟩ (mX_isThere l D h hO hH cI cB th own Hn n (nI (8 + j))) (cwX_isThere hts ⟨Nat.le_of_ble_eq_true rfl, Nat.le_of_ble_eq_true rfl⟩) hK hP rfl hl.1 rfl (Nat.le_of_ble_eq_true rfl) dX0_erase_12 ⟨Nat.le_refl _, Nat.le_refl _⟩ (fun r er => ?_)
    subst er
    refine ic_top (congrArg ic_b (ic_in_nI (show 8 + j < 16 by omega) (by decide))) ?_
    rcases ic_bool (bt th (8 + j)) with q | q
    · skip
      refine lv_if_ne (tgt := 20) hx hb dX0_erase_15 (by decide) (fun c9 => absurd (ic_b_f q) c9) (fun _ => ?_)
      refine lv_iconst (v := nI 0) hx hb dX0_erase_18 (by decide) ?_
      exact hfin _ th own Hn n 19 ls _ _ (ic_Xerase_no (by rw [ic_in_nI hj (by decide)]; exact q)).symm hP hD hS dX0_erase_19
    · skip
      refine lv_if_ne (tgt := 20) hx hb dX0_erase_15 (by decide) (fun _ => ?_) (fun c9 => absurd c9 (ic_b_t q))
      refine lv_aload_n hx hb dX0_erase_20 rfl (lv_at hl 0 rfl) ?_
      refine lv_dup hx hb dX0_erase_21 rfl ?_
      refine xg_th hx hb hts hown hK hP dX0_erase_22 ?_
      refine lv_iconst (v := nI 1) hx hb dX0_erase_25 (by decide) ?_
      refine lv_bipush (v := nI 8) hx hb dX0_erase_26 (by decide) ?_
      refine lv_iload_n hx hb dX0_erase_28 rfl (lv_at hl 1 rfl) ?_
      refine lv_iadd hx hb dX0_erase_29 ?_
      refine ic_top (nI_add _ _) ?_
      refine lv_ishl hx hb dX0_erase_30 ?_
      refine ic_top (show _ = ic_sh (8 + j) from rfl) ?_
      refine lv_iconst (v := (-1)) hx hb dX0_erase_31 (by decide) ?_
      refine lv_ixor hx hb dX0_erase_32 ?_
      refine lv_iand hx hb dX0_erase_33 ?_
      refine xp_th hx hb hts hown hK hP hD hS (v := th &&& ((ic_sh (8 + j)) ^^^ (-1))) dX0_erase_34 (fun H locs hP hD hS => ?_)
      refine lv_iconst (v := nI 1) hx hb dX0_erase_37 (by decide) ?_
      exact hfin _ (th &&& ((ic_sh (8 + j)) ^^^ (-1))) own Hn n 38 ls _ _ (ic_Xerase_ok hj q).symm hP hD hS dX0_erase_38
set_option maxHeartbeats 4000000 in
set_option maxRecDepth 100000 in
theorem mX_note (l : Launch) (D : va_G) (h hO hH : Nat) (cI cB : ClassId) (th : Int32) (own : Nat → Int32) (Hn : Nat → Nat) (n : Nat) (sz : Nat) (x y : Int32) (hHn : ∀ k, k < 512 → Hn k < 128) : Met l yX0_note (ws_ yX0_note cX0_note 3 (some .boolean)) ic_R2 (ic_qX D h hO hH cI cB th own Hn n sz [.int x, .int y]) (va_Qi (fun r v => (r, v) = ic_Xnote th own Hn n x y) (ic_BX D h hO hH cI cB (ic_AX h hO hH cI cB th own Hn n sz)) (ic_AX h hO hH cI cB th own Hn n sz)) 0 0 (ic_AX h hO hH cI cB th own Hn n sz) := by
  refine ic_uX (by decide) rfl (Nat.le_of_ble_eq_true rfl) (fun v u hv => ic_Xnote_nar hv) ?_
  intro p e s m args below meth c ls Q A hx hb hml hown hts hK hP hD hA hS hl hfin
  have hl : lv_has ls 3 [(0, .ref h), (1, .int x), (2, .int y)] := hl
  refine lv_aload_n hx hb dX0_note_0 rfl (lv_at hl 0 rfl) ?_
  refine lv_iload_n hx hb dX0_note_1 rfl (lv_at hl 1 rfl) ?_
  refine xc_i ⟨hx, hb, hml, hown, hts⟩ (mX_isParty l D h hO hH cI cB th own Hn n x) (cwX_isParty hts ⟨Nat.le_of_ble_eq_true rfl, Nat.le_of_ble_eq_true rfl⟩) hK hP rfl hl.1 rfl (Nat.le_of_ble_eq_true rfl) dX0_note_2 ⟨Nat.le_refl _, Nat.le_refl _⟩ (fun r er => ?_)
  subst er
  rcases ic_bool (ic_in (bt th) 8 x) with z | z
  · skip
    refine lv_if_eq (tgt := 15) hx hb dX0_note_5 (by decide) (fun _ => ?_) (fun c9 => absurd (ic_b_f z) c9)
    refine lv_iconst (v := nI 0) hx hb dX0_note_15 (by decide) ?_
    exact hfin _ th own Hn n 16 ls _ _ (ic_Xnote_no (fun q => absurd q.1 (ic_nt z))).symm hP hD hS dX0_note_16
  · skip
    refine lv_if_eq (tgt := 15) hx hb dX0_note_5 (by decide) (fun c9 => absurd c9 (ic_b_t z)) (fun _ => ?_)
    refine lv_iload_n hx hb dX0_note_8 rfl (lv_at hl 2 rfl) ?_
    refine ic_c0 ⟨hx, hb, hml, hown, hts⟩ (mX_isNote l y) (cwX_isNote hts ⟨Nat.le_of_ble_eq_true rfl, Nat.le_of_ble_eq_true rfl⟩) rfl hl.1 rfl (Nat.le_of_ble_eq_true rfl) dX0_note_9 ⟨Nat.le_refl _, Nat.le_refl _⟩ (fun r er => ?_)
    subst er
    rcases ic_bool (ic_in (fun _ => true) 8 y) with z2 | z2
    · skip
      refine lv_if_ne (tgt := 17) hx hb dX0_note_12 (by decide) (fun c9 => absurd (ic_b_f z2) c9) (fun _ => ?_)
      refine lv_iconst (v := nI 0) hx hb dX0_note_15 (by decide) ?_
      exact hfin _ th own Hn n 16 ls _ _ (ic_Xnote_no (fun q => absurd q.2 (ic_nt z2))).symm hP hD hS dX0_note_16
    · skip
      refine lv_if_ne (tgt := 17) hx hb dX0_note_12 (by decide) (fun _ => ?_) (fun c9 => absurd c9 (ic_b_t z2))
      obtain ⟨i, hi, rfl, t1⟩ := ic_in_of (by decide) z
      obtain ⟨j, hj, rfl, -⟩ := ic_in_of (by decide) z2
      refine lv_aload_n hx hb dX0_note_17 rfl (lv_at hl 0 rfl) ?_
      refine lv_iload_n hx hb dX0_note_18 rfl (lv_at hl 1 rfl) ?_
      refine lv_bipush (v := nI 8) hx hb dX0_note_19 (by decide) ?_
      refine lv_iload_n hx hb dX0_note_21 rfl (lv_at hl 2 rfl) ?_
      refine lv_iadd hx hb dX0_note_22 ?_
      refine ic_top (nI_add _ _) ?_
      refine xc_mv ⟨hx, hb, hml, hown, hts⟩ (mX_copy l D h hO hH cI cB th own Hn n _ i (8 + j) (show i < 16 by omega) (show 8 + j < 16 by omega) hHn) (cwX_copy hts ⟨Nat.le_of_ble_eq_true rfl, Nat.le_of_ble_eq_true rfl⟩) hK hP hD hS hA rfl hl.1 rfl (Nat.le_of_ble_eq_true rfl) dX0_note_23 ⟨Nat.le_refl _, Nat.le_refl _⟩ (fun v H locs ev hP hD hS => ?_)
      subst ev
      have hP : va_P D ic_cl (ic_wX h hO hH cI cB th own (ic_cp Hn i (8 + j) 32) n) H := hP
      have hD : va_D A (ic_wX h hO hH cI cB th own (ic_cp Hn i (8 + j) 32) n) := hD
      refine lv_aload_n hx hb dX0_note_26 rfl (lv_at hl 0 rfl) ?_
      refine lv_dup hx hb dX0_note_27 rfl ?_
      refine xg_th hx hb hts hown hK hP dX0_note_28 ?_
      refine lv_iconst (v := nI 1) hx hb dX0_note_31 (by decide) ?_
      refine lv_bipush (v := nI 8) hx hb dX0_note_32 (by decide) ?_
      refine lv_iload_n hx hb dX0_note_34 rfl (lv_at hl 2 rfl) ?_
      refine lv_iadd hx hb dX0_note_35 ?_
      refine ic_top (nI_add _ _) ?_
      refine lv_ishl hx hb dX0_note_36 ?_
      refine ic_top (show _ = ic_sh (8 + j) from rfl) ?_
      refine lv_ior hx hb dX0_note_37 ?_
      refine xp_th hx hb hts hown hK hP hD hS (v := th ||| (ic_sh (8 + j))) dX0_note_38 (fun H locs hP hD hS => ?_)
      refine lv_iconst (v := nI 1) hx hb dX0_note_41 (by decide) ?_
      exact hfin _ (th ||| (ic_sh (8 + j))) own (ic_cp Hn i (8 + j) 32) n 42 ls _ _ (ic_Xnote_ok hi hj t1).symm hP hD hS dX0_note_42
set_option maxHeartbeats 4000000 in
set_option maxRecDepth 100000 in
theorem mX_tell (l : Launch) (D : va_G) (h hO hH : Nat) (cI cB : ClassId) (th : Int32) (own : Nat → Int32) (Hn : Nat → Nat) (n : Nat) (sz : Nat) (x y : Int32) (hHn : ∀ k, k < 512 → Hn k < 128) : Met l yX0_tell (ws_ yX0_tell cX0_tell 3 (some .int)) ic_R2 (ic_qX D h hO hH cI cB th own Hn n sz [.int x, .int y]) (va_Qi (fun r v => (r, v) = ic_Xtell th own Hn n x y) (ic_BX D h hO hH cI cB (ic_AX h hO hH cI cB th own Hn n sz)) (ic_AX h hO hH cI cB th own Hn n sz)) 0 0 (ic_AX h hO hH cI cB th own Hn n sz) := by
  refine ic_uX (by decide) rfl (Nat.le_of_ble_eq_true rfl) (fun v u hv => rfl) ?_
  intro p e s m args below meth c ls Q A hx hb hml hown hts hK hP hD hA hS hl hfin
  have hl : lv_has ls 3 [(0, .ref h), (1, .int x), (2, .int y)] := hl
  refine lv_aload_n hx hb dX0_tell_0 rfl (lv_at hl 0 rfl) ?_
  refine lv_iload_n hx hb dX0_tell_1 rfl (lv_at hl 1 rfl) ?_
  refine xc_i ⟨hx, hb, hml, hown, hts⟩ (mX_isThere l D h hO hH cI cB th own Hn n x) (cwX_isThere hts ⟨Nat.le_of_ble_eq_true rfl, Nat.le_of_ble_eq_true rfl⟩) hK hP rfl hl.1 rfl (Nat.le_of_ble_eq_true rfl) dX0_tell_2 ⟨Nat.le_refl _, Nat.le_refl _⟩ (fun r er => ?_)
  subst er
  rcases ic_bool (ic_in (bt th) 16 x) with z | z
  · skip
    refine lv_if_eq (tgt := 21) hx hb dX0_tell_5 (by decide) (fun _ => ?_) (fun c9 => absurd (ic_b_f z) c9)
    refine lv_iconst (v := (-1)) hx hb dX0_tell_21 (by decide) ?_
    exact hfin _ th own Hn n 22 ls _ _ (ic_Xtell_no (fun q => absurd q.1 (ic_nt z))).symm hP hD hS dX0_tell_22
  · skip
    refine lv_if_eq (tgt := 21) hx hb dX0_tell_5 (by decide) (fun c9 => absurd c9 (ic_b_t z)) (fun _ => ?_)
    refine lv_aload_n hx hb dX0_tell_8 rfl (lv_at hl 0 rfl) ?_
    refine lv_iload_n hx hb dX0_tell_9 rfl (lv_at hl 2 rfl) ?_
    refine xc_i ⟨hx, hb, hml, hown, hts⟩ (mX_isParty l D h hO hH cI cB th own Hn n y) (cwX_isParty hts ⟨Nat.le_of_ble_eq_true rfl, Nat.le_of_ble_eq_true rfl⟩) hK hP rfl hl.1 rfl (Nat.le_of_ble_eq_true rfl) dX0_tell_10 ⟨Nat.le_refl _, Nat.le_refl _⟩ (fun r er => ?_)
    subst er
    rcases ic_bool (ic_in (bt th) 8 y) with z2 | z2
    · skip
      refine lv_if_eq (tgt := 21) hx hb dX0_tell_13 (by decide) (fun _ => ?_) (fun c9 => absurd (ic_b_f z2) c9)
      refine lv_iconst (v := (-1)) hx hb dX0_tell_21 (by decide) ?_
      exact hfin _ th own Hn n 22 ls _ _ (ic_Xtell_no (fun q => absurd q.2.1 (ic_nt z2))).symm hP hD hS dX0_tell_22
    · skip
      refine lv_if_eq (tgt := 21) hx hb dX0_tell_13 (by decide) (fun c9 => absurd c9 (ic_b_t z2)) (fun _ => ?_)
      refine lv_iload_n hx hb dX0_tell_16 rfl (lv_at hl 1 rfl) ?_
      refine lv_iload_n hx hb dX0_tell_17 rfl (lv_at hl 2 rfl) ?_
      refine lv_icmp_ne (tgt := 23) hx hb dX0_tell_18 (by decide) (fun c1 => ?_) (fun c1 => ?_)
      · skip
        obtain ⟨i, hi, rfl, t1⟩ := ic_in_of (by decide) z
        obtain ⟨j, hj, rfl, t2⟩ := ic_in_of (by decide) z2
        refine lv_aload_n hx hb dX0_tell_23 rfl (lv_at hl 0 rfl) ?_
        refine lv_iload_n hx hb dX0_tell_24 rfl (lv_at hl 2 rfl) ?_
        refine lv_iload_n hx hb dX0_tell_25 rfl (lv_at hl 1 rfl) ?_
        refine xc_m ⟨hx, hb, hml, hown, hts⟩ (mX_raise l D h hO hH cI cB th own Hn n _ j i (show j < 16 by omega) hi hHn) (cwX_raise hts ⟨Nat.le_of_ble_eq_true rfl, Nat.le_of_ble_eq_true rfl⟩) hK hP hD hS hA rfl hl.1 rfl (Nat.le_of_ble_eq_true rfl) dX0_tell_26 ⟨Nat.le_refl _, Nat.le_refl _⟩ (fun r v H locs ev hP hD hS => ?_)
        obtain ⟨er, ev⟩ := ev
        subst er
        subst ev
        have hP : va_P D ic_cl (ic_wX h hO hH cI cB th own (ic_rs Hn j i 32) n) H := hP
        have hD : va_D A (ic_wX h hO hH cI cB th own (ic_rs Hn j i 32) n) := hD
        have e1 := (ic_Xtell_ok (own := own) (Hn := Hn) (n := n) hi hj t1 t2 c1).symm
        rcases ic_bool (!ic_F Hn i j) with q | q
        · rw [q] at e1
          refine lv_if_eq (tgt := 36) hx hb dX0_tell_29 (by decide) (fun _ => ?_) (fun c9 => absurd (ic_b_f q) c9)
          refine lv_iconst (v := nI 0) hx hb dX0_tell_36 (by decide) ?_
          exact hfin _ th own (ic_rs Hn j i 32) n 37 ls _ _ e1 hP hD hS dX0_tell_37
        · rw [q] at e1
          refine lv_if_eq (tgt := 36) hx hb dX0_tell_29 (by decide) (fun c9 => absurd c9 (ic_b_t q)) (fun _ => ?_)
          refine lv_iconst (v := nI 1) hx hb dX0_tell_32 (by decide) ?_
          refine lv_goto (tgt := 37) hx hb dX0_tell_33 (by decide) ?_
          exact hfin _ th own (ic_rs Hn j i 32) n 37 ls _ _ e1 hP hD hS dX0_tell_37
      · skip
        refine lv_iconst (v := (-1)) hx hb dX0_tell_21 (by decide) ?_
        exact hfin _ th own Hn n 22 ls _ _ (ic_Xtell_no (fun q => q.2.2 c1)).symm hP hD hS dX0_tell_22
set_option maxHeartbeats 4000000 in
set_option maxRecDepth 100000 in
theorem mX_join (l : Launch) (D : va_G) (h hO hH : Nat) (cI cB : ClassId) (th : Int32) (own : Nat → Int32) (Hn : Nat → Nat) (n : Nat) (sz : Nat) (x y : Int32) (hHn : ∀ k, k < 512 → Hn k < 128) : Met l yX0_join (ws_ yX0_join cX0_join 3 (some .int)) ic_R2 (ic_qX D h hO hH cI cB th own Hn n sz [.int x, .int y]) (va_Qi (fun r v => (r, v) = ic_Xjoin th own Hn n x y) (ic_BX D h hO hH cI cB (ic_AX h hO hH cI cB th own Hn n sz)) (ic_AX h hO hH cI cB th own Hn n sz)) 0 0 (ic_AX h hO hH cI cB th own Hn n sz) := by
  refine ic_uX (by decide) rfl (Nat.le_of_ble_eq_true rfl) (fun v u hv => rfl) ?_
  intro p e s m args below meth c ls Q A hx hb hml hown hts hK hP hD hA hS hl hfin
  have hl : lv_has ls 3 [(0, .ref h), (1, .int x), (2, .int y)] := hl
  refine lv_aload_n hx hb dX0_join_0 rfl (lv_at hl 0 rfl) ?_
  refine lv_iload_n hx hb dX0_join_1 rfl (lv_at hl 1 rfl) ?_
  refine xc_i ⟨hx, hb, hml, hown, hts⟩ (mX_isParty l D h hO hH cI cB th own Hn n x) (cwX_isParty hts ⟨Nat.le_of_ble_eq_true rfl, Nat.le_of_ble_eq_true rfl⟩) hK hP rfl hl.1 rfl (Nat.le_of_ble_eq_true rfl) dX0_join_2 ⟨Nat.le_refl _, Nat.le_refl _⟩ (fun r er => ?_)
  subst er
  rcases ic_bool (ic_in (bt th) 8 x) with z | z
  · skip
    refine lv_if_eq (tgt := 21) hx hb dX0_join_5 (by decide) (fun _ => ?_) (fun c9 => absurd (ic_b_f z) c9)
    refine lv_iconst (v := (-1)) hx hb dX0_join_21 (by decide) ?_
    exact hfin _ th own Hn n 22 ls _ _ (ic_Xjoin_no (fun q => absurd q.1 (ic_nt z))).symm hP hD hS dX0_join_22
  · skip
    refine lv_if_eq (tgt := 21) hx hb dX0_join_5 (by decide) (fun c9 => absurd c9 (ic_b_t z)) (fun _ => ?_)
    refine lv_aload_n hx hb dX0_join_8 rfl (lv_at hl 0 rfl) ?_
    refine lv_iload_n hx hb dX0_join_9 rfl (lv_at hl 2 rfl) ?_
    refine xc_i ⟨hx, hb, hml, hown, hts⟩ (mX_isParty l D h hO hH cI cB th own Hn n y) (cwX_isParty hts ⟨Nat.le_of_ble_eq_true rfl, Nat.le_of_ble_eq_true rfl⟩) hK hP rfl hl.1 rfl (Nat.le_of_ble_eq_true rfl) dX0_join_10 ⟨Nat.le_refl _, Nat.le_refl _⟩ (fun r er => ?_)
    subst er
    rcases ic_bool (ic_in (bt th) 8 y) with z2 | z2
    · skip
      refine lv_if_eq (tgt := 21) hx hb dX0_join_13 (by decide) (fun _ => ?_) (fun c9 => absurd (ic_b_f z2) c9)
      refine lv_iconst (v := (-1)) hx hb dX0_join_21 (by decide) ?_
      exact hfin _ th own Hn n 22 ls _ _ (ic_Xjoin_no (fun q => absurd q.2.1 (ic_nt z2))).symm hP hD hS dX0_join_22
    · skip
      refine lv_if_eq (tgt := 21) hx hb dX0_join_13 (by decide) (fun c9 => absurd c9 (ic_b_t z2)) (fun _ => ?_)
      refine lv_iload_n hx hb dX0_join_16 rfl (lv_at hl 1 rfl) ?_
      refine lv_iload_n hx hb dX0_join_17 rfl (lv_at hl 2 rfl) ?_
      refine lv_icmp_ne (tgt := 23) hx hb dX0_join_18 (by decide) (fun c1 => ?_) (fun c1 => ?_)
      · skip
        obtain ⟨i, hi, rfl, t1⟩ := ic_in_of (by decide) z
        obtain ⟨j, hj, rfl, t2⟩ := ic_in_of (by decide) z2
        have hne : ¬ i = j := fun q => c1 (congrArg nI q)
        refine lv_aload_n hx hb dX0_join_23 rfl (lv_at hl 0 rfl) ?_
        refine lv_iload_n hx hb dX0_join_24 rfl (lv_at hl 1 rfl) ?_
        refine lv_iload_n hx hb dX0_join_25 rfl (lv_at hl 2 rfl) ?_
        refine xc_m ⟨hx, hb, hml, hown, hts⟩ (mX_raise l D h hO hH cI cB th own Hn n _ i j (show i < 16 by omega) (show j < 16 by omega) hHn) (cwX_raise hts ⟨Nat.le_of_ble_eq_true rfl, Nat.le_of_ble_eq_true rfl⟩) hK hP hD hS hA rfl hl.1 rfl (Nat.le_of_ble_eq_true rfl) dX0_join_26 ⟨Nat.le_refl _, Nat.le_refl _⟩ (fun r v H locs ev hP hD hS => ?_)
        obtain ⟨er, ev⟩ := ev
        subst er
        subst ev
        have hP : va_P D ic_cl (ic_wX h hO hH cI cB th own (ic_rs Hn i j 32) n) H := hP
        have hD : va_D A (ic_wX h hO hH cI cB th own (ic_rs Hn i j 32) n) := hD
        refine lv_pop hx hb dX0_join_29 rfl ?_
        refine lv_aload_n hx hb dX0_join_30 rfl (lv_at hl 0 rfl) ?_
        refine xg_own hx hb hts hown hK hP dX0_join_31 ?_
        refine lv_iload_n hx hb dX0_join_34 rfl (lv_at hl 1 rfl) ?_
        refine lv_dup2_11 hx hb dX0_join_35 rfl rfl ?_
        refine xo_ld hx hb hK hP (i := i) (by omega) dX0_join_36 ?_
        refine lv_aload_n hx hb dX0_join_37 rfl (lv_at hl 0 rfl) ?_
        refine xg_own hx hb hts hown hK hP dX0_join_38 ?_
        refine lv_iload_n hx hb dX0_join_41 rfl (lv_at hl 2 rfl) ?_
        refine xo_ld hx hb hK hP (i := j) (by omega) dX0_join_42 ?_
        refine lv_ior hx hb dX0_join_43 ?_
        refine xo_st hx hb hK hP hD hS (i := i) (v := (own i) ||| (own j)) (by omega) dX0_join_44 (fun H locs hP hD hS => ?_)
        refine lv_aload_n hx hb dX0_join_45 rfl (lv_at hl 0 rfl) ?_
        refine xg_own hx hb hts hown hK hP dX0_join_46 ?_
        refine lv_iload_n hx hb dX0_join_49 rfl (lv_at hl 2 rfl) ?_
        refine lv_iconst (v := nI 0) hx hb dX0_join_50 (by decide) ?_
        refine xo_st hx hb hK hP hD hS (i := j) (v := nI 0) (by omega) dX0_join_51 (fun H locs hP hD hS => ?_)
        refine lv_aload_n hx hb dX0_join_52 rfl (lv_at hl 0 rfl) ?_
        refine lv_dup hx hb dX0_join_53 rfl ?_
        refine xg_th hx hb hts hown hK hP dX0_join_54 ?_
        refine lv_iconst (v := nI 1) hx hb dX0_join_57 (by decide) ?_
        refine lv_iload_n hx hb dX0_join_58 rfl (lv_at hl 2 rfl) ?_
        refine lv_ishl hx hb dX0_join_59 ?_
        refine ic_top (show _ = ic_sh j from rfl) ?_
        refine lv_iconst (v := (-1)) hx hb dX0_join_60 (by decide) ?_
        refine lv_ixor hx hb dX0_join_61 ?_
        refine lv_iand hx hb dX0_join_62 ?_
        refine xp_th hx hb hts hown hK hP hD hS (v := th &&& ((ic_sh j) ^^^ (-1))) dX0_join_63 (fun H locs hP hD hS => ?_)
        refine lv_aload_n hx hb dX0_join_66 rfl (lv_at hl 0 rfl) ?_
        refine xg_own hx hb hts hown hK hP dX0_join_67 ?_
        refine lv_iload_n hx hb dX0_join_70 rfl (lv_at hl 1 rfl) ?_
        refine xo_ld hx hb hK hP (i := i) (by omega) dX0_join_71 ?_
        refine ic_top (show upd (upd own i (own i ||| own j)) j (nI 0) i = own i ||| own j from (pk_un hne).trans pk_us) ?_
        refine ic_c0 ⟨hx, hb, hml, hown, hts⟩ (mX_ones l (own i ||| own j)) (cwX_ones hts ⟨Nat.le_of_ble_eq_true rfl, Nat.le_of_ble_eq_true rfl⟩) rfl hl.1 rfl (Nat.le_of_ble_eq_true rfl) dX0_join_72 ⟨Nat.le_refl _, Nat.le_refl _⟩ (fun r er => ?_)
        subst er
        exact hfin _ (th &&& ((ic_sh j) ^^^ (-1))) (upd (upd own i ((own i) ||| (own j))) j (nI 0)) (ic_rs Hn i j 32) n 75 ls _ _ (ic_Xjoin_ok hi hj t1 t2 c1).symm hP hD hS dX0_join_75
      · skip
        refine lv_iconst (v := (-1)) hx hb dX0_join_21 (by decide) ?_
        exact hfin _ th own Hn n 22 ls _ _ (ic_Xjoin_no (fun q => q.2.2 c1)).symm hP hD hS dX0_join_22
set_option maxHeartbeats 4000000 in
set_option maxRecDepth 100000 in
theorem mX_event (l : Launch) (D : va_G) (h hO hH : Nat) (cI cB : ClassId) (th : Int32) (own : Nat → Int32) (Hn : Nat → Nat) (n : Nat) (sz : Nat) (x : Int32) (hn0 : n < 64) (hHn : ∀ k, k < 512 → Hn k ≤ n) : Met l yX0_event (ws_ yX0_event cX0_event 5 (some .int)) ic_R2 (ic_qX D h hO hH cI cB th own Hn n sz [.int x]) (va_Qi (fun r v => (r, v) = ic_Xevent th own Hn n x) (ic_BX D h hO hH cI cB (ic_AX h hO hH cI cB th own Hn n sz)) (ic_AX h hO hH cI cB th own Hn n sz)) 0 0 (ic_AX h hO hH cI cB th own Hn n sz) := by
  refine ic_uX (by decide) rfl (Nat.le_of_ble_eq_true rfl) (fun v u hv => rfl) ?_
  intro p e s m args below meth c ls Q A hx hb hml hown hts hK hP hD hA hS hl hfin
  have hl : lv_has ls 5 [(0, .ref h), (1, .int x)] := hl
  refine lv_aload_n hx hb dX0_event_0 rfl (lv_at hl 0 rfl) ?_
  refine lv_iload_n hx hb dX0_event_1 rfl (lv_at hl 1 rfl) ?_
  refine xc_i ⟨hx, hb, hml, hown, hts⟩ (mX_isParty l D h hO hH cI cB th own Hn n x) (cwX_isParty hts ⟨Nat.le_of_ble_eq_true rfl, Nat.le_of_ble_eq_true rfl⟩) hK hP rfl hl.1 rfl (Nat.le_of_ble_eq_true rfl) dX0_event_2 ⟨Nat.le_refl _, Nat.le_refl _⟩ (fun r er => ?_)
  subst er
  rcases ic_bool (ic_in (bt th) 8 x) with z | z
  · skip
    refine lv_if_ne (tgt := 10) hx hb dX0_event_5 (by decide) (fun c9 => absurd (ic_b_f z) c9) (fun _ => ?_)
    refine lv_iconst (v := (-1)) hx hb dX0_event_8 (by decide) ?_
    exact hfin _ th own Hn n 9 ls _ _ (ic_Xevent_no z).symm hP hD hS dX0_event_9
  · skip
    refine lv_if_ne (tgt := 10) hx hb dX0_event_5 (by decide) (fun _ => ?_) (fun c9 => absurd c9 (ic_b_t z))
    obtain ⟨j, hj, rfl, hT⟩ := ic_in_of (by decide) z
    refine lv_aload_n hx hb dX0_event_10 rfl (lv_at hl 0 rfl) ?_
    refine xg_cnt hx hb hts hown hK hP dX0_event_11 ?_
    refine lv_bipush (v := nI 100) hx hb dX0_event_14 (by decide) ?_
    refine lv_icmp_lt (tgt := 22) hx hb dX0_event_16 (by decide) (fun _ => ?_) (fun c9 => absurd (nI_lt (show n < 100 by omega) (by decide)) c9)
    have htop : ic_tp Hn (own j) j 32 ≤ n := ic_tp_le hHn (by omega) 32 (by decide)
    have loop2 : ∀ (k i : Nat), i + k = 32 → ∀ (ls : Array Slot) (H : Heap) (locs : List Loc), lv_has ls 5 [(0, .ref h), (1, .int (nI j)), (2, .int (nI (ic_tp Hn (own j) j 32))), (3, .int (nI i))] → va_P D ic_cl (ic_wX h hO hH cI cB th own (ic_ev Hn (own j) j (ic_tp Hn (own j) j 32 + 1) i) n) H → va_D A (ic_wX h hO hH cI cB th own (ic_ev Hn (own j) j (ic_tp Hn (own j) j 32 + 1) i) n) → va_S A s.heap H locs → W p l e ic_R2 s m args below meth c H locs 0 0 Q (F0 m 79 ls []) := by
      intro k
      induction k with
      | zero =>
        intro i hi ls H locs hl hP hD hS
        obtain rfl : i = 32 := by omega
        refine lv_iload_n hx hb dX0_event_79 rfl (lv_at hl 3 rfl) ?_
        refine lv_bipush (v := nI 32) hx hb dX0_event_80 (by decide) ?_
        refine lv_icmp_ge (tgt := 115) hx hb dX0_event_82 (by decide) (fun _ => ?_) (fun c9 => absurd (nI_le (Nat.le_refl 32) (by decide)) c9)
        refine lv_aload_n hx hb dX0_event_115 rfl (lv_at hl 0 rfl) ?_
        refine lv_dup hx hb dX0_event_116 rfl ?_
        refine xg_cnt hx hb hts hown hK hP dX0_event_117 ?_
        refine lv_iconst (v := nI 1) hx hb dX0_event_120 (by decide) ?_
        refine lv_iadd hx hb dX0_event_121 ?_
        refine ic_top (nI_add _ _) ?_
        refine xp_cnt hx hb hts hown hK hP hD hS (v := n + 1) dX0_event_122 (fun H locs hP hD hS => ?_)
        refine lv_aload_n hx hb dX0_event_125 rfl (lv_at hl 0 rfl) ?_
        refine xg_cnt hx hb hts hown hK hP dX0_event_126 ?_
        exact hfin _ th own (ic_ev Hn (own j) j (ic_tp Hn (own j) j 32 + 1) 32) (n + 1) 129 ls _ _ (ic_Xevent_ok hj hT).symm hP hD hS dX0_event_129
      | succ k ih =>
        intro i hi ls H locs hl hP hD hS
        refine lv_iload_n hx hb dX0_event_79 rfl (lv_at hl 3 rfl) ?_
        refine lv_bipush (v := nI 32) hx hb dX0_event_80 (by decide) ?_
        refine lv_icmp_ge (tgt := 115) hx hb dX0_event_82 (by decide) (fun c9 => absurd c9 (nI_ge (show i < 32 by omega) (by decide))) (fun _ => ?_)
        refine lv_aload_n hx hb dX0_event_85 rfl (lv_at hl 0 rfl) ?_
        refine lv_iload_n hx hb dX0_event_86 rfl (lv_at hl 1 rfl) ?_
        refine lv_iload_n hx hb dX0_event_87 rfl (lv_at hl 3 rfl) ?_
        refine xc_i ⟨hx, hb, hml, hown, hts⟩ (mX_has l D h hO hH cI cB th own (ic_ev Hn (own j) j (ic_tp Hn (own j) j 32 + 1) i) n j i hj (show i < 32 by omega)) (cwX_has hts ⟨Nat.le_of_ble_eq_true rfl, Nat.le_of_ble_eq_true rfl⟩) hK hP rfl hl.1 rfl (Nat.le_of_ble_eq_true rfl) dX0_event_88 ⟨Nat.le_refl _, Nat.le_refl _⟩ (fun r er => ?_)
        subst er
        rcases ic_bool (bt (own j) i) with f1 | f1
        · skip
          refine lv_if_eq (tgt := 109) hx hb dX0_event_91 (by decide) (fun _ => ?_) (fun c9 => absurd (ic_b_f f1) c9)
          rw [← ic_ev_no Hn j _ f1] at hP hD
          refine lv_iinc (v := nI (i + 1)) (lv' := [(3, .int (nI (i + 1))), (0, .ref h), (1, .int (nI j)), (2, .int (nI (ic_tp Hn (own j) j 32)))]) hx hb dX0_event_109 hl (k := 3) rfl (nI_1 _) (by decide) rfl (fun ls hl => ?_)
          refine lv_goto (tgt := 79) hx hb dX0_event_112 (by decide) ?_
          exact ih (i + 1) (by omega) ls _ _ (lv_sub hl [1, 2, 3, 0] rfl) hP hD hS
        · skip
          refine lv_if_eq (tgt := 109) hx hb dX0_event_91 (by decide) (fun c9 => absurd c9 (ic_b_t f1)) (fun _ => ?_)
          refine lv_aload_n hx hb dX0_event_94 rfl (lv_at hl 0 rfl) ?_
          refine xg_ht hx hb hts hown hK hP dX0_event_95 ?_
          refine lv_iload_n hx hb dX0_event_98 rfl (lv_at hl 1 rfl) ?_
          refine lv_bipush (v := nI 32) hx hb dX0_event_99 (by decide) ?_
          refine lv_imul hx hb dX0_event_101 ?_
          refine ic_top (pk_mul _ _) ?_
          refine lv_iload_n hx hb dX0_event_102 rfl (lv_at hl 3 rfl) ?_
          refine lv_iadd hx hb dX0_event_103 ?_
          refine ic_top (nI_add _ _) ?_
          refine lv_iload_n hx hb dX0_event_104 rfl (lv_at hl 2 rfl) ?_
          refine lv_iconst (v := nI 1) hx hb dX0_event_105 (by decide) ?_
          refine lv_iadd hx hb dX0_event_106 ?_
          refine ic_top (nI_add _ _) ?_
          refine lv_i2b hx hb dX0_event_107 (ic_i2b (by omega)) ?_
          refine xh_st hx hb hK hP hD hS (i := j * 32 + i) (v := ic_tp Hn (own j) j 32 + 1) (by omega) (by omega) dX0_event_108 (fun H locs hP hD hS => ?_)
          rw [ic_ev_up Hn j _ f1] at hP hD
          refine lv_iinc (v := nI (i + 1)) (lv' := [(3, .int (nI (i + 1))), (0, .ref h), (1, .int (nI j)), (2, .int (nI (ic_tp Hn (own j) j 32)))]) hx hb dX0_event_109 hl (k := 3) rfl (nI_1 _) (by decide) rfl (fun ls hl => ?_)
          refine lv_goto (tgt := 79) hx hb dX0_event_112 (by decide) ?_
          exact ih (i + 1) (by omega) ls _ _ (lv_sub hl [1, 2, 3, 0] rfl) hP hD hS
    have loop : ∀ (k i : Nat), i + k = 32 → ∀ (ls : Array Slot), lv_has ls 5 [(0, .ref h), (1, .int (nI j)), (2, .int (nI (ic_tp Hn (own j) j i))), (3, .int (nI i))] → W p l e ic_R2 s m args below meth c s.heap [] 0 0 Q (F0 m 26 ls []) := by
      intro k
      induction k with
      | zero =>
        intro i hi ls hl
        obtain rfl : i = 32 := by omega
        refine lv_iload_n hx hb dX0_event_26 rfl (lv_at hl 3 rfl) ?_
        refine lv_bipush (v := nI 32) hx hb dX0_event_27 (by decide) ?_
        refine lv_icmp_ge (tgt := 77) hx hb dX0_event_29 (by decide) (fun _ => ?_) (fun c9 => absurd (nI_le (Nat.le_refl 32) (by decide)) c9)
        refine lv_iconst (v := nI 0) hx hb dX0_event_77 (by decide) ?_
        refine lv_istore_n (lv' := [(3, .int (nI 0)), (0, .ref h), (1, .int (nI j)), (2, .int (nI (ic_tp Hn (own j) j 32)))]) hx hb dX0_event_78 rfl hl (by decide) rfl (fun ls hl => ?_)
        exact loop2 32 0 rfl ls _ _ (lv_sub hl [1, 2, 3, 0] rfl) (by rw [ic_ev_0]; exact hP) (by rw [ic_ev_0]; exact hD) hS
      | succ k ih =>
        intro i hi ls hl
        refine lv_iload_n hx hb dX0_event_26 rfl (lv_at hl 3 rfl) ?_
        refine lv_bipush (v := nI 32) hx hb dX0_event_27 (by decide) ?_
        refine lv_icmp_ge (tgt := 77) hx hb dX0_event_29 (by decide) (fun c9 => absurd c9 (nI_ge (show i < 32 by omega) (by decide))) (fun _ => ?_)
        refine lv_aload_n hx hb dX0_event_32 rfl (lv_at hl 0 rfl) ?_
        refine lv_iload_n hx hb dX0_event_33 rfl (lv_at hl 1 rfl) ?_
        refine lv_iload_n hx hb dX0_event_34 rfl (lv_at hl 3 rfl) ?_
        refine xc_i ⟨hx, hb, hml, hown, hts⟩ (mX_has l D h hO hH cI cB th own Hn n j i hj (show i < 32 by omega)) (cwX_has hts ⟨Nat.le_of_ble_eq_true rfl, Nat.le_of_ble_eq_true rfl⟩) hK hP rfl hl.1 rfl (Nat.le_of_ble_eq_true rfl) dX0_event_35 ⟨Nat.le_refl _, Nat.le_refl _⟩ (fun r er => ?_)
        subst er
        have b1 : ic_tp Hn (own j) j i ≤ n := ic_tp_le hHn (by omega) i (by omega)
        have b2 := hHn (j * 32 + i) (by omega)
        rcases ic_bool (bt (own j) i) with f1 | f1
        · have e1 : ic_tp Hn (own j) j (i + 1) = max (ic_tp Hn (own j) j i) 0 := by show max _ (if bt (own j) i = true then _ else 0) = _; rw [if_neg (ic_nt f1)]
          refine lv_if_eq (tgt := 55) hx hb dX0_event_38 (by decide) (fun _ => ?_) (fun c9 => absurd (ic_b_f f1) c9)
          refine lv_iconst (v := nI 0) hx hb dX0_event_55 (by decide) ?_
          refine lv_istore (lv' := [(4, .int (nI 0)), (0, .ref h), (1, .int (nI j)), (2, .int (nI (ic_tp Hn (own j) j i))), (3, .int (nI i))]) hx hb dX0_event_56 hl (by decide) rfl (fun ls hl => ?_)
          refine lv_iload hx hb dX0_event_58 (lv_at hl 0 rfl) ?_
          refine lv_iload_n hx hb dX0_event_60 rfl (lv_at hl 3 rfl) ?_
          rcases Nat.lt_or_ge (ic_tp Hn (own j) j i) (0) with g1 | g1
          · skip
            refine lv_icmp_le (tgt := 69) hx hb dX0_event_61 (by decide) (fun c9 => absurd c9 (nI_ge g1 (by omega))) (fun _ => ?_)
            refine lv_iload hx hb dX0_event_64 (lv_at hl 0 rfl) ?_
            refine lv_goto (tgt := 70) hx hb dX0_event_66 (by decide) ?_
            refine ic_top (show _ = nI (ic_tp Hn (own j) j (i + 1)) from congrArg nI (by rw [e1]; omega)) ?_
            refine lv_istore_n (lv' := [(2, .int (nI (ic_tp Hn (own j) j (i + 1)))), (4, .int (nI 0)), (0, .ref h), (1, .int (nI j)), (3, .int (nI i))]) hx hb dX0_event_70 rfl hl (by decide) rfl (fun ls hl => ?_)
            refine lv_iinc (v := nI (i + 1)) (lv' := [(3, .int (nI (i + 1))), (2, .int (nI (ic_tp Hn (own j) j (i + 1)))), (4, .int (nI 0)), (0, .ref h), (1, .int (nI j))]) hx hb dX0_event_71 hl (k := 4) rfl (nI_1 _) (by decide) rfl (fun ls hl => ?_)
            refine lv_goto (tgt := 26) hx hb dX0_event_74 (by decide) ?_
            exact ih (i + 1) (by omega) ls (lv_sub hl [3, 4, 1, 0] rfl)
          · skip
            refine lv_icmp_le (tgt := 69) hx hb dX0_event_61 (by decide) (fun _ => ?_) (fun c9 => absurd (nI_le g1 (by omega)) c9)
            refine lv_iload_n hx hb dX0_event_69 rfl (lv_at hl 3 rfl) ?_
            refine ic_top (show _ = nI (ic_tp Hn (own j) j (i + 1)) from congrArg nI (by rw [e1]; omega)) ?_
            refine lv_istore_n (lv' := [(2, .int (nI (ic_tp Hn (own j) j (i + 1)))), (4, .int (nI 0)), (0, .ref h), (1, .int (nI j)), (3, .int (nI i))]) hx hb dX0_event_70 rfl hl (by decide) rfl (fun ls hl => ?_)
            refine lv_iinc (v := nI (i + 1)) (lv' := [(3, .int (nI (i + 1))), (2, .int (nI (ic_tp Hn (own j) j (i + 1)))), (4, .int (nI 0)), (0, .ref h), (1, .int (nI j))]) hx hb dX0_event_71 hl (k := 4) rfl (nI_1 _) (by decide) rfl (fun ls hl => ?_)
            refine lv_goto (tgt := 26) hx hb dX0_event_74 (by decide) ?_
            exact ih (i + 1) (by omega) ls (lv_sub hl [3, 4, 1, 0] rfl)
        · have e1 : ic_tp Hn (own j) j (i + 1) = max (ic_tp Hn (own j) j i) (Hn (j * 32 + i)) := by show max _ (if bt (own j) i = true then _ else 0) = _; rw [if_pos f1]
          refine lv_if_eq (tgt := 55) hx hb dX0_event_38 (by decide) (fun c9 => absurd c9 (ic_b_t f1)) (fun _ => ?_)
          refine lv_aload_n hx hb dX0_event_41 rfl (lv_at hl 0 rfl) ?_
          refine xg_ht hx hb hts hown hK hP dX0_event_42 ?_
          refine lv_iload_n hx hb dX0_event_45 rfl (lv_at hl 1 rfl) ?_
          refine lv_bipush (v := nI 32) hx hb dX0_event_46 (by decide) ?_
          refine lv_imul hx hb dX0_event_48 ?_
          refine ic_top (pk_mul _ _) ?_
          refine lv_iload_n hx hb dX0_event_49 rfl (lv_at hl 3 rfl) ?_
          refine lv_iadd hx hb dX0_event_50 ?_
          refine ic_top (nI_add _ _) ?_
          refine xh_ld hx hb hK hP (i := j * 32 + i) (by omega) dX0_event_51 ?_
          refine lv_goto (tgt := 56) hx hb dX0_event_52 (by decide) ?_
          refine lv_istore (lv' := [(4, .int (nI (Hn (j * 32 + i)))), (0, .ref h), (1, .int (nI j)), (2, .int (nI (ic_tp Hn (own j) j i))), (3, .int (nI i))]) hx hb dX0_event_56 hl (by decide) rfl (fun ls hl => ?_)
          refine lv_iload hx hb dX0_event_58 (lv_at hl 0 rfl) ?_
          refine lv_iload_n hx hb dX0_event_60 rfl (lv_at hl 3 rfl) ?_
          rcases Nat.lt_or_ge (ic_tp Hn (own j) j i) (Hn (j * 32 + i)) with g1 | g1
          · skip
            refine lv_icmp_le (tgt := 69) hx hb dX0_event_61 (by decide) (fun c9 => absurd c9 (nI_ge g1 (by omega))) (fun _ => ?_)
            refine lv_iload hx hb dX0_event_64 (lv_at hl 0 rfl) ?_
            refine lv_goto (tgt := 70) hx hb dX0_event_66 (by decide) ?_
            refine ic_top (show _ = nI (ic_tp Hn (own j) j (i + 1)) from congrArg nI (by rw [e1]; omega)) ?_
            refine lv_istore_n (lv' := [(2, .int (nI (ic_tp Hn (own j) j (i + 1)))), (4, .int (nI (Hn (j * 32 + i)))), (0, .ref h), (1, .int (nI j)), (3, .int (nI i))]) hx hb dX0_event_70 rfl hl (by decide) rfl (fun ls hl => ?_)
            refine lv_iinc (v := nI (i + 1)) (lv' := [(3, .int (nI (i + 1))), (2, .int (nI (ic_tp Hn (own j) j (i + 1)))), (4, .int (nI (Hn (j * 32 + i)))), (0, .ref h), (1, .int (nI j))]) hx hb dX0_event_71 hl (k := 4) rfl (nI_1 _) (by decide) rfl (fun ls hl => ?_)
            refine lv_goto (tgt := 26) hx hb dX0_event_74 (by decide) ?_
            exact ih (i + 1) (by omega) ls (lv_sub hl [3, 4, 1, 0] rfl)
          · skip
            refine lv_icmp_le (tgt := 69) hx hb dX0_event_61 (by decide) (fun _ => ?_) (fun c9 => absurd (nI_le g1 (by omega)) c9)
            refine lv_iload_n hx hb dX0_event_69 rfl (lv_at hl 3 rfl) ?_
            refine ic_top (show _ = nI (ic_tp Hn (own j) j (i + 1)) from congrArg nI (by rw [e1]; omega)) ?_
            refine lv_istore_n (lv' := [(2, .int (nI (ic_tp Hn (own j) j (i + 1)))), (4, .int (nI (Hn (j * 32 + i)))), (0, .ref h), (1, .int (nI j)), (3, .int (nI i))]) hx hb dX0_event_70 rfl hl (by decide) rfl (fun ls hl => ?_)
            refine lv_iinc (v := nI (i + 1)) (lv' := [(3, .int (nI (i + 1))), (2, .int (nI (ic_tp Hn (own j) j (i + 1)))), (4, .int (nI (Hn (j * 32 + i)))), (0, .ref h), (1, .int (nI j))]) hx hb dX0_event_71 hl (k := 4) rfl (nI_1 _) (by decide) rfl (fun ls hl => ?_)
            refine lv_goto (tgt := 26) hx hb dX0_event_74 (by decide) ?_
            exact ih (i + 1) (by omega) ls (lv_sub hl [3, 4, 1, 0] rfl)
    refine lv_iconst (v := nI 0) hx hb dX0_event_22 (by decide) ?_
    refine lv_istore_n (lv' := [(2, .int (nI 0)), (0, .ref h), (1, .int (nI j))]) hx hb dX0_event_23 rfl hl (by decide) rfl (fun ls hl => ?_)
    refine lv_iconst (v := nI 0) hx hb dX0_event_24 (by decide) ?_
    refine lv_istore_n (lv' := [(3, .int (nI 0)), (2, .int (nI 0)), (0, .ref h), (1, .int (nI j))]) hx hb dX0_event_25 rfl hl (by decide) rfl (fun ls hl => ?_)
    exact loop 32 0 rfl ls (lv_sub hl [2, 3, 1, 0] rfl)
set_option maxHeartbeats 4000000 in
set_option maxRecDepth 100000 in
theorem mX_split (l : Launch) (D : va_G) (h hO hH : Nat) (cI cB : ClassId) (th : Int32) (own : Nat → Int32) (Hn : Nat → Nat) (n : Nat) (sz : Nat) (x : Int32) (hHn : ∀ k, k < 512 → Hn k < 128) : Met l yX0_split (ws_ yX0_split cX0_split 8 (some .int)) ic_R2 (ic_qX D h hO hH cI cB th own Hn n sz [.int x]) (va_Qi (fun r v => (r, v) = ic_Xsplit th own Hn n x) (ic_BX D h hO hH cI cB (ic_AX h hO hH cI cB th own Hn n sz)) (ic_AX h hO hH cI cB th own Hn n sz)) 0 0 (ic_AX h hO hH cI cB th own Hn n sz) := by
  refine ic_uX (by decide) rfl (Nat.le_of_ble_eq_true rfl) (fun v u hv => rfl) ?_
  intro p e s m args below meth c ls Q A hx hb hml hown hts hK hP hD hA hS hl hfin
  have hl : lv_has ls 8 [(0, .ref h), (1, .int x)] := hl
  refine lv_aload_n hx hb dX0_split_0 rfl (lv_at hl 0 rfl) ?_
  refine lv_iload_n hx hb dX0_split_1 rfl (lv_at hl 1 rfl) ?_
  refine xc_i ⟨hx, hb, hml, hown, hts⟩ (mX_isParty l D h hO hH cI cB th own Hn n x) (cwX_isParty hts ⟨Nat.le_of_ble_eq_true rfl, Nat.le_of_ble_eq_true rfl⟩) hK hP rfl hl.1 rfl (Nat.le_of_ble_eq_true rfl) dX0_split_2 ⟨Nat.le_refl _, Nat.le_refl _⟩ (fun r er => ?_)
  subst er
  rcases ic_bool (ic_in (bt th) 8 x) with z | z
  · skip
    refine lv_if_ne (tgt := 10) hx hb dX0_split_5 (by decide) (fun c9 => absurd (ic_b_f z) c9) (fun _ => ?_)
    refine lv_iconst (v := (-1)) hx hb dX0_split_8 (by decide) ?_
    exact hfin _ th own Hn n 9 ls _ _ (ic_Xsplit_no z).symm hP hD hS dX0_split_9
  · skip
    refine lv_if_ne (tgt := 10) hx hb dX0_split_5 (by decide) (fun _ => ?_) (fun c9 => absurd c9 (ic_b_t z))
    obtain ⟨j, hj, rfl, hT⟩ := ic_in_of (by decide) z
    refine lv_aload_n hx hb dX0_split_10 rfl (lv_at hl 0 rfl) ?_
    refine xg_own hx hb hts hown hK hP dX0_split_11 ?_
    refine lv_iload_n hx hb dX0_split_14 rfl (lv_at hl 1 rfl) ?_
    refine xo_ld hx hb hK hP (i := j) (by omega) dX0_split_15 ?_
    refine ic_c0 ⟨hx, hb, hml, hown, hts⟩ (mX_ones l (own j)) (cwX_ones hts ⟨Nat.le_of_ble_eq_true rfl, Nat.le_of_ble_eq_true rfl⟩) rfl hl.1 rfl (Nat.le_of_ble_eq_true rfl) dX0_split_16 ⟨Nat.le_refl _, Nat.le_refl _⟩ (fun r er => ?_)
    subst er
    refine lv_istore_n (lv' := [(2, .int (nI (ic_cn (own j)))), (0, .ref h), (1, .int (nI j))]) hx hb dX0_split_19 rfl hl (by decide) rfl (fun ls hl => ?_)
    refine lv_iconst (v := nI 0) hx hb dX0_split_20 (by decide) ?_
    refine lv_istore_n (lv' := [(3, .int (nI 0)), (2, .int (nI (ic_cn (own j)))), (0, .ref h), (1, .int (nI j))]) hx hb dX0_split_21 rfl hl (by decide) rfl (fun ls hl => ?_)
    have hcn := ic_cn_le (own j)
    have after : ∀ (b : Nat), b ≤ 8 → ic_fst (bt th) = b → ∀ (ls : Array Slot), lv_has ls 8 [(0, .ref h), (1, .int (nI j)), (2, .int (nI (ic_cn (own j)))), (3, .int (nI b))] → W p l e ic_R2 s m args below meth c s.heap [] 0 0 Q (F0 m 42 ls []) := by
      intro b hb8 hfst ls hl
      refine lv_iload_n hx hb dX0_split_42 rfl (lv_at hl 3 rfl) ?_
      refine lv_bipush (v := nI 8) hx hb dX0_split_43 (by decide) ?_
      rcases Nat.lt_or_ge b 8 with g1 | g1
      · skip
        refine lv_icmp_eq (tgt := 53) hx hb dX0_split_45 (by decide) (fun c9 => absurd c9 (fun q => absurd ((nI_eq (by omega) (by decide)).mp q) (by omega))) (fun _ => ?_)
        refine lv_iload_n hx hb dX0_split_48 rfl (lv_at hl 2 rfl) ?_
        refine lv_iconst (v := nI 2) hx hb dX0_split_49 (by decide) ?_
        rcases Nat.lt_or_ge (ic_cn (own j)) 2 with g2 | g2
        · skip
          refine lv_icmp_ge (tgt := 56) hx hb dX0_split_50 (by decide) (fun c9 => absurd c9 (nI_ge g2 (by decide))) (fun _ => ?_)
          refine lv_bipush (v := (-2)) hx hb dX0_split_53 (by decide) ?_
          exact hfin _ th own Hn n 55 ls _ _ (ic_Xsplit_full hj hT (Or.inr g2)).symm hP hD hS dX0_split_55
        · skip
          refine lv_icmp_ge (tgt := 56) hx hb dX0_split_50 (by decide) (fun _ => ?_) (fun c9 => absurd (nI_le g2 (by omega)) c9)
          refine lv_iload_n hx hb dX0_split_56 rfl (lv_at hl 2 rfl) ?_
          refine lv_iload_n hx hb dX0_split_57 rfl (lv_at hl 2 rfl) ?_
          refine lv_iconst (v := nI 2) hx hb dX0_split_58 (by decide) ?_
          refine lv_idiv hx hb dX0_split_59 (by decide) ?_
          refine ic_top (pk_div (by omega) (by decide) (by decide)) ?_
          refine lv_isub hx hb dX0_split_60 ?_
          refine ic_top (pk_sub (by omega)) ?_
          refine lv_istore (lv' := [(4, .int (nI (ic_cn (own j) - ic_cn (own j) / 2))), (0, .ref h), (1, .int (nI j)), (2, .int (nI (ic_cn (own j)))), (3, .int (nI b))]) hx hb dX0_split_61 hl (by decide) rfl (fun ls hl => ?_)
          refine lv_iconst (v := nI 0) hx hb dX0_split_63 (by decide) ?_
          refine lv_istore (lv' := [(5, .int (nI 0)), (4, .int (nI (ic_cn (own j) - ic_cn (own j) / 2))), (0, .ref h), (1, .int (nI j)), (2, .int (nI (ic_cn (own j)))), (3, .int (nI b))]) hx hb dX0_split_64 hl (by decide) rfl (fun ls hl => ?_)
          refine lv_iconst (v := nI 0) hx hb dX0_split_66 (by decide) ?_
          refine lv_istore (lv' := [(6, .int (nI 0)), (5, .int (nI 0)), (4, .int (nI (ic_cn (own j) - ic_cn (own j) / 2))), (0, .ref h), (1, .int (nI j)), (2, .int (nI (ic_cn (own j)))), (3, .int (nI b))]) hx hb dX0_split_67 hl (by decide) rfl (fun ls hl => ?_)
          refine lv_iconst (v := nI 0) hx hb dX0_split_69 (by decide) ?_
          refine lv_istore (lv' := [(7, .int (nI 0)), (6, .int (nI 0)), (5, .int (nI 0)), (4, .int (nI (ic_cn (own j) - ic_cn (own j) / 2))), (0, .ref h), (1, .int (nI j)), (2, .int (nI (ic_cn (own j)))), (3, .int (nI b))]) hx hb dX0_split_70 hl (by decide) rfl (fun ls hl => ?_)
          have hkp : (ic_cn (own j) - ic_cn (own j) / 2) ≤ 32 := by omega
          have hTb : bt th b = false := by have q := (ic_fst_free (T := bt th) (by omega)).2; rw [hfst] at q; exact q
          have hne : ¬ j = b := fun q => by rw [q, hTb] at hT; cases hT
          have hno : ¬ (ic_fst (bt th) = 8 ∨ ic_cn (own j) < 2) := by omega
          have loop : ∀ (k i : Nat), i + k = 32 → ∀ (ls : Array Slot), lv_has ls 8 [(0, .ref h), (1, .int (nI j)), (2, .int (nI (ic_cn (own j)))), (3, .int (nI b)), (4, .int (nI (ic_cn (own j) - ic_cn (own j) / 2))), (5, .int (ic_gv (own j) (ic_cn (own j) - ic_cn (own j) / 2) i)), (6, .int (nI (fb_ct (bt (own j)) i))), (7, .int (nI i))] → W p l e ic_R2 s m args below meth c s.heap [] 0 0 Q (F0 m 72 ls []) := by
            intro k
            induction k with
            | zero =>
              intro i hi ls hl
              obtain rfl : i = 32 := by omega
              refine lv_iload hx hb dX0_split_72 (lv_at hl 7 rfl) ?_
              refine lv_bipush (v := nI 32) hx hb dX0_split_74 (by decide) ?_
              refine lv_icmp_ge (tgt := 118) hx hb dX0_split_76 (by decide) (fun _ => ?_) (fun c9 => absurd (nI_le (Nat.le_refl 32) (by decide)) c9)
              refine lv_aload_n hx hb dX0_split_118 rfl (lv_at hl 0 rfl) ?_
              refine xg_own hx hb hts hown hK hP dX0_split_119 ?_
              refine lv_iload_n hx hb dX0_split_122 rfl (lv_at hl 3 rfl) ?_
              refine lv_iload hx hb dX0_split_123 (lv_at hl 5 rfl) ?_
              refine xo_st hx hb hK hP hD hS (i := b) (v := ic_gv (own j) (ic_cn (own j) - ic_cn (own j) / 2) 32) (by omega) dX0_split_125 (fun H locs hP hD hS => ?_)
              refine lv_aload_n hx hb dX0_split_126 rfl (lv_at hl 0 rfl) ?_
              refine xg_own hx hb hts hown hK hP dX0_split_127 ?_
              refine lv_iload_n hx hb dX0_split_130 rfl (lv_at hl 1 rfl) ?_
              refine lv_dup2_11 hx hb dX0_split_131 rfl rfl ?_
              refine xo_ld hx hb hK hP (i := j) (by omega) dX0_split_132 ?_
              refine ic_top (show upd own b (ic_gv (own j) (ic_cn (own j) - ic_cn (own j) / 2) 32) j = own j from pk_un hne) ?_
              refine lv_iload hx hb dX0_split_133 (lv_at hl 5 rfl) ?_
              refine lv_iconst (v := (-1)) hx hb dX0_split_135 (by decide) ?_
              refine lv_ixor hx hb dX0_split_136 ?_
              refine lv_iand hx hb dX0_split_137 ?_
              refine xo_st hx hb hK hP hD hS (i := j) (v := (own j) &&& ((ic_gv (own j) (ic_cn (own j) - ic_cn (own j) / 2) 32) ^^^ (-1))) (by omega) dX0_split_138 (fun H locs hP hD hS => ?_)
              refine lv_aload_n hx hb dX0_split_139 rfl (lv_at hl 0 rfl) ?_
              refine lv_iload_n hx hb dX0_split_140 rfl (lv_at hl 1 rfl) ?_
              refine lv_iload_n hx hb dX0_split_141 rfl (lv_at hl 3 rfl) ?_
              refine xc_mv ⟨hx, hb, hml, hown, hts⟩ (mX_copy l D h hO hH cI cB th (upd (upd own b (ic_gv (own j) (ic_cn (own j) - ic_cn (own j) / 2) 32)) j ((own j) &&& ((ic_gv (own j) (ic_cn (own j) - ic_cn (own j) / 2) 32) ^^^ (-1)))) Hn n _ j b (show j < 16 by omega) (show b < 16 by omega) hHn) (cwX_copy hts ⟨Nat.le_of_ble_eq_true rfl, Nat.le_of_ble_eq_true rfl⟩) hK hP hD hS hA rfl hl.1 rfl (Nat.le_of_ble_eq_true rfl) dX0_split_142 ⟨Nat.le_refl _, Nat.le_refl _⟩ (fun v H locs ev hP hD hS => ?_)
              subst ev
              have hP : va_P D ic_cl (ic_wX h hO hH cI cB th (upd (upd own b (ic_gv (own j) (ic_cn (own j) - ic_cn (own j) / 2) 32)) j ((own j) &&& ((ic_gv (own j) (ic_cn (own j) - ic_cn (own j) / 2) 32) ^^^ (-1)))) (ic_cp Hn j b 32) n) H := hP
              have hD : va_D A (ic_wX h hO hH cI cB th (upd (upd own b (ic_gv (own j) (ic_cn (own j) - ic_cn (own j) / 2) 32)) j ((own j) &&& ((ic_gv (own j) (ic_cn (own j) - ic_cn (own j) / 2) 32) ^^^ (-1)))) (ic_cp Hn j b 32) n) := hD
              refine lv_aload_n hx hb dX0_split_145 rfl (lv_at hl 0 rfl) ?_
              refine lv_dup hx hb dX0_split_146 rfl ?_
              refine xg_th hx hb hts hown hK hP dX0_split_147 ?_
              refine lv_iconst (v := nI 1) hx hb dX0_split_150 (by decide) ?_
              refine lv_iload_n hx hb dX0_split_151 rfl (lv_at hl 3 rfl) ?_
              refine lv_ishl hx hb dX0_split_152 ?_
              refine ic_top (show _ = ic_sh b from rfl) ?_
              refine lv_ior hx hb dX0_split_153 ?_
              refine xp_th hx hb hts hown hK hP hD hS (v := th ||| (ic_sh b)) dX0_split_154 (fun H locs hP hD hS => ?_)
              refine lv_iload_n hx hb dX0_split_157 rfl (lv_at hl 3 rfl) ?_
              subst hfst
              exact hfin _ (th ||| (ic_sh (ic_fst (bt th)))) (upd (upd own (ic_fst (bt th)) (ic_gv (own j) (ic_cn (own j) - ic_cn (own j) / 2) 32)) j ((own j) &&& ((ic_gv (own j) (ic_cn (own j) - ic_cn (own j) / 2) 32) ^^^ (-1)))) (ic_cp Hn j (ic_fst (bt th)) 32) n 158 ls _ _ (ic_Xsplit_ok hj hT hno).symm hP hD hS dX0_split_158
            | succ k ih =>
              intro i hi ls hl
              refine lv_iload hx hb dX0_split_72 (lv_at hl 7 rfl) ?_
              refine lv_bipush (v := nI 32) hx hb dX0_split_74 (by decide) ?_
              refine lv_icmp_ge (tgt := 118) hx hb dX0_split_76 (by decide) (fun c9 => absurd c9 (nI_ge (show i < 32 by omega) (by decide))) (fun _ => ?_)
              refine lv_aload_n hx hb dX0_split_79 rfl (lv_at hl 0 rfl) ?_
              refine lv_iload_n hx hb dX0_split_80 rfl (lv_at hl 1 rfl) ?_
              refine lv_iload hx hb dX0_split_81 (lv_at hl 7 rfl) ?_
              refine xc_i ⟨hx, hb, hml, hown, hts⟩ (mX_has l D h hO hH cI cB th own Hn n j i hj (show i < 32 by omega)) (cwX_has hts ⟨Nat.le_of_ble_eq_true rfl, Nat.le_of_ble_eq_true rfl⟩) hK hP rfl hl.1 rfl (Nat.le_of_ble_eq_true rfl) dX0_split_83 ⟨Nat.le_refl _, Nat.le_refl _⟩ (fun r er => ?_)
              subst er
              have hct : fb_ct (bt (own j)) i ≤ i := fb_ct_le _ _
              rcases ic_bool (bt (own j) i) with f1 | f1
              · skip
                refine lv_if_eq (tgt := 112) hx hb dX0_split_86 (by decide) (fun _ => ?_) (fun c9 => absurd (ic_b_f f1) c9)
                refine lv_iinc (v := nI (i + 1)) (lv' := [(7, .int (nI (i + 1))), (0, .ref h), (1, .int (nI j)), (2, .int (nI (ic_cn (own j)))), (3, .int (nI b)), (4, .int (nI (ic_cn (own j) - ic_cn (own j) / 2))), (5, .int (ic_gv (own j) (ic_cn (own j) - ic_cn (own j) / 2) i)), (6, .int (nI (fb_ct (bt (own j)) i)))]) hx hb dX0_split_112 hl (k := 7) rfl (nI_1 _) (by decide) rfl (fun ls hl => ?_)
                refine lv_goto (tgt := 72) hx hb dX0_split_115 (by decide) ?_
                have e1 : ic_gv (own j) (ic_cn (own j) - ic_cn (own j) / 2) (i + 1) = ic_gv (own j) (ic_cn (own j) - ic_cn (own j) / 2) i := ic_bs_f (ic_gB_no f1)
                exact ih (i + 1) (by omega) ls (by rw [e1, ic_ct_f f1]; exact (lv_sub hl [1, 2, 3, 4, 5, 6, 7, 0] rfl))
              · skip
                refine lv_if_eq (tgt := 112) hx hb dX0_split_86 (by decide) (fun c9 => absurd c9 (ic_b_t f1)) (fun _ => ?_)
                refine lv_iload hx hb dX0_split_89 (lv_at hl 5 rfl) ?_
                refine lv_iload hx hb dX0_split_91 (lv_at hl 6 rfl) ?_
                refine lv_iload hx hb dX0_split_93 (lv_at hl 4 rfl) ?_
                rcases Nat.lt_or_ge (fb_ct (bt (own j)) i) (ic_cn (own j) - ic_cn (own j) / 2) with f2 | f2
                · skip
                  refine lv_icmp_lt (tgt := 105) hx hb dX0_split_95 (by decide) (fun _ => ?_) (fun c9 => absurd (nI_lt f2 (by omega)) c9)
                  refine lv_iconst (v := nI 0) hx hb dX0_split_105 (by decide) ?_
                  refine lv_ior hx hb dX0_split_106 ?_
                  refine ic_top (show _ = ic_gv (own j) (ic_cn (own j) - ic_cn (own j) / 2) (i + 1) from (ic_bs_z (ic_gB_lt f2)).symm) ?_
                  refine lv_istore (lv' := [(5, .int (ic_gv (own j) (ic_cn (own j) - ic_cn (own j) / 2) (i + 1))), (0, .ref h), (1, .int (nI j)), (2, .int (nI (ic_cn (own j)))), (3, .int (nI b)), (4, .int (nI (ic_cn (own j) - ic_cn (own j) / 2))), (6, .int (nI (fb_ct (bt (own j)) i))), (7, .int (nI i))]) hx hb dX0_split_107 hl (by decide) rfl (fun ls hl => ?_)
                  refine lv_iinc (v := nI (fb_ct (bt (own j)) i + 1)) (lv' := [(6, .int (nI (fb_ct (bt (own j)) i + 1))), (5, .int (ic_gv (own j) (ic_cn (own j) - ic_cn (own j) / 2) (i + 1))), (0, .ref h), (1, .int (nI j)), (2, .int (nI (ic_cn (own j)))), (3, .int (nI b)), (4, .int (nI (ic_cn (own j) - ic_cn (own j) / 2))), (7, .int (nI i))]) hx hb dX0_split_109 hl (k := 6) rfl (nI_1 _) (by decide) rfl (fun ls hl => ?_)
                  refine lv_iinc (v := nI (i + 1)) (lv' := [(7, .int (nI (i + 1))), (6, .int (nI (fb_ct (bt (own j)) i + 1))), (5, .int (ic_gv (own j) (ic_cn (own j) - ic_cn (own j) / 2) (i + 1))), (0, .ref h), (1, .int (nI j)), (2, .int (nI (ic_cn (own j)))), (3, .int (nI b)), (4, .int (nI (ic_cn (own j) - ic_cn (own j) / 2)))]) hx hb dX0_split_112 hl (k := 7) rfl (nI_1 _) (by decide) rfl (fun ls hl => ?_)
                  refine lv_goto (tgt := 72) hx hb dX0_split_115 (by decide) ?_
                  exact ih (i + 1) (by omega) ls (by rw [ic_ct_t f1]; exact (lv_sub hl [3, 4, 5, 6, 7, 2, 1, 0] rfl))
                · skip
                  refine lv_icmp_lt (tgt := 105) hx hb dX0_split_95 (by decide) (fun c9 => absurd c9 (nI_nlt f2 (by omega))) (fun _ => ?_)
                  refine lv_iconst (v := nI 1) hx hb dX0_split_98 (by decide) ?_
                  refine lv_iload hx hb dX0_split_99 (lv_at hl 7 rfl) ?_
                  refine lv_ishl hx hb dX0_split_101 ?_
                  refine ic_top (show _ = ic_sh i from rfl) ?_
                  refine lv_goto (tgt := 106) hx hb dX0_split_102 (by decide) ?_
                  refine lv_ior hx hb dX0_split_106 ?_
                  refine ic_top (show _ = ic_gv (own j) (ic_cn (own j) - ic_cn (own j) / 2) (i + 1) from (ic_bs_t (ic_gB_ge f1 f2)).symm) ?_
                  refine lv_istore (lv' := [(5, .int (ic_gv (own j) (ic_cn (own j) - ic_cn (own j) / 2) (i + 1))), (0, .ref h), (1, .int (nI j)), (2, .int (nI (ic_cn (own j)))), (3, .int (nI b)), (4, .int (nI (ic_cn (own j) - ic_cn (own j) / 2))), (6, .int (nI (fb_ct (bt (own j)) i))), (7, .int (nI i))]) hx hb dX0_split_107 hl (by decide) rfl (fun ls hl => ?_)
                  refine lv_iinc (v := nI (fb_ct (bt (own j)) i + 1)) (lv' := [(6, .int (nI (fb_ct (bt (own j)) i + 1))), (5, .int (ic_gv (own j) (ic_cn (own j) - ic_cn (own j) / 2) (i + 1))), (0, .ref h), (1, .int (nI j)), (2, .int (nI (ic_cn (own j)))), (3, .int (nI b)), (4, .int (nI (ic_cn (own j) - ic_cn (own j) / 2))), (7, .int (nI i))]) hx hb dX0_split_109 hl (k := 6) rfl (nI_1 _) (by decide) rfl (fun ls hl => ?_)
                  refine lv_iinc (v := nI (i + 1)) (lv' := [(7, .int (nI (i + 1))), (6, .int (nI (fb_ct (bt (own j)) i + 1))), (5, .int (ic_gv (own j) (ic_cn (own j) - ic_cn (own j) / 2) (i + 1))), (0, .ref h), (1, .int (nI j)), (2, .int (nI (ic_cn (own j)))), (3, .int (nI b)), (4, .int (nI (ic_cn (own j) - ic_cn (own j) / 2)))]) hx hb dX0_split_112 hl (k := 7) rfl (nI_1 _) (by decide) rfl (fun ls hl => ?_)
                  refine lv_goto (tgt := 72) hx hb dX0_split_115 (by decide) ?_
                  exact ih (i + 1) (by omega) ls (by rw [ic_ct_t f1]; exact (lv_sub hl [3, 4, 5, 6, 7, 2, 1, 0] rfl))
          exact loop 32 0 rfl ls (lv_sub hl [4, 5, 6, 7, 3, 2, 1, 0] rfl)
      · obtain rfl : b = 8 := by omega
        refine lv_icmp_eq (tgt := 53) hx hb dX0_split_45 (by decide) (fun _ => ?_) (fun c9 => absurd rfl c9)
        refine lv_bipush (v := (-2)) hx hb dX0_split_53 (by decide) ?_
        exact hfin _ th own Hn n 55 ls _ _ (ic_Xsplit_full hj hT (Or.inl hfst)).symm hP hD hS dX0_split_55
    have loop : ∀ (k b : Nat), b + k = 8 → (∀ q, q < b → bt th q = true) → ∀ (ls : Array Slot), lv_has ls 8 [(0, .ref h), (1, .int (nI j)), (2, .int (nI (ic_cn (own j)))), (3, .int (nI b))] → W p l e ic_R2 s m args below meth c s.heap [] 0 0 Q (F0 m 22 ls []) := by
      intro k
      induction k with
      | zero =>
        intro b hi hu ls hl
        obtain rfl : b = 8 := by omega
        refine lv_iload_n hx hb dX0_split_22 rfl (lv_at hl 3 rfl) ?_
        refine lv_bipush (v := nI 8) hx hb dX0_split_23 (by decide) ?_
        refine lv_icmp_ge (tgt := 42) hx hb dX0_split_25 (by decide) (fun _ => ?_) (fun c9 => absurd (nI_le (Nat.le_refl 8) (by decide)) c9)
        exact after 8 (by decide) (ic_fst_is (by decide) hu (fun q => absurd q (by decide))) ls (lv_sub hl [0, 1, 2, 3] rfl)
      | succ k ih =>
        intro b hi hu ls hl
        refine lv_iload_n hx hb dX0_split_22 rfl (lv_at hl 3 rfl) ?_
        refine lv_bipush (v := nI 8) hx hb dX0_split_23 (by decide) ?_
        refine lv_icmp_ge (tgt := 42) hx hb dX0_split_25 (by decide) (fun c9 => absurd c9 (nI_ge (show b < 8 by omega) (by decide))) (fun _ => ?_)
        refine lv_aload_n hx hb dX0_split_28 rfl (lv_at hl 0 rfl) ?_
        refine lv_iload_n hx hb dX0_split_29 rfl (lv_at hl 3 rfl) ?_
        refine xc_i ⟨hx, hb, hml, hown, hts⟩ (mX_isThere l D h hO hH cI cB th own Hn n (nI b)) (cwX_isThere hts ⟨Nat.le_of_ble_eq_true rfl, Nat.le_of_ble_eq_true rfl⟩) hK hP rfl hl.1 rfl (Nat.le_of_ble_eq_true rfl) dX0_split_30 ⟨Nat.le_refl _, Nat.le_refl _⟩ (fun r er => ?_)
        subst er
        refine ic_top (congrArg ic_b (ic_in_nI (show b < 16 by omega) (by decide))) ?_
        rcases ic_bool (bt th b) with f1 | f1
        · skip
          refine lv_if_eq (tgt := 42) hx hb dX0_split_33 (by decide) (fun _ => ?_) (fun c9 => absurd (ic_b_f f1) c9)
          exact after b (by omega) (ic_fst_is (by omega) hu (fun _ => f1)) ls (lv_sub hl [0, 1, 2, 3] rfl)
        · skip
          refine lv_if_eq (tgt := 42) hx hb dX0_split_33 (by decide) (fun c9 => absurd c9 (ic_b_t f1)) (fun _ => ?_)
          refine lv_iinc (v := nI (b + 1)) (lv' := [(3, .int (nI (b + 1))), (0, .ref h), (1, .int (nI j)), (2, .int (nI (ic_cn (own j))))]) hx hb dX0_split_36 hl (k := 3) rfl (nI_1 _) (by decide) rfl (fun ls hl => ?_)
          refine lv_goto (tgt := 22) hx hb dX0_split_39 (by decide) ?_
          exact ih (b + 1) (by omega) (fun q hq => by
              by_cases e1 : q = b
              · rw [e1]; exact f1
              · exact hu q (by omega)) ls (lv_sub hl [1, 2, 3, 0] rfl)
    exact loop 8 0 rfl (fun q hq => absurd hq (Nat.not_lt_zero q)) ls (lv_sub hl [2, 3, 1, 0] rfl)
end
section
/-! the two constructors -/
def ic_own0 : Nat → Int32 := upd (fun _ => 0) 0 (-1)
abbrev ic_x0 (h : Nat) : va_W := [(h, .inr (0, [.int 0, .null, .null, .int 0]))]
abbrev ic_m0 (g : Nat) : va_W := [(g, .inr (1, [.null, .null, .null, .null, .int 0]))]
abbrev ic_Bx0 (D : va_G) (h : Nat) (A : Nat → Prop) (u : Nat × Nat × ClassId × ClassId) (t : State) : Prop := va_P D ic_cl (ic_wX h u.1 u.2.1 u.2.2.1 u.2.2.2 (nI 1) ic_own0 (fun _ => 0) 0) t.heap ∧ va_K D ic_cl (ic_tX u.2.2.1 u.2.2.2) t ∧ va_D A (ic_wX h u.1 u.2.1 u.2.2.1 u.2.2.2 (nI 1) ic_own0 (fun _ => 0) 0)
abbrev ic_Bm0 (D : va_G) (g : Nat) (A : Nat → Prop) (u : Nat × Nat × Nat × Nat × ClassId × ClassId × ClassId × ClassId) (t : State) : Prop := va_P D ic_cl (ic_wM g u.1 u.2.1 u.2.2.1 u.2.2.2.1 u.2.2.2.2.1 u.2.2.2.2.2.1 u.2.2.2.2.2.2.1 u.2.2.2.2.2.2.2 (va_up (fun _ => false) 0 true) (fun _ => 0) (fun _ => 0) ic_own0 0) t.heap ∧ va_K D ic_cl (ic_tM u.2.2.2.2.1 u.2.2.2.2.2.1 u.2.2.2.2.2.2.1 u.2.2.2.2.2.2.2) t ∧ va_D A (ic_wM g u.1 u.2.1 u.2.2.1 u.2.2.2.1 u.2.2.2.2.1 u.2.2.2.2.2.1 u.2.2.2.2.2.2.1 u.2.2.2.2.2.2.2 (va_up (fun _ => false) 0 true) (fun _ => 0) (fun _ => 0) ic_own0 0)
set_option maxHeartbeats 4000000 in
set_option maxRecDepth 100000 in
theorem mX_init (l : Launch) (D : va_G) (h sz : Nat) : Met l yX0_init (ws_ yX0_init cX0_init 1 none) ({ frames := 1, cells := 2, slots := 520, locals := 12 }) (va_Pc [.ref h] (fun U => U.heap.size = sz ∧ va_P D ic_cl (ic_x0 h) U.heap ∧ va_K D ic_cl [] U ∧ va_D (fun _ => True) (ic_x0 h))) (va_Qv (fun _ => True) (ic_Bx0 D h (va_A (ic_x0 h) sz)) (va_A (ic_x0 h) sz)) 2 520 (va_A (ic_x0 h) sz) := by
  refine Met.ofW (cc := cX0_init) (maxL := 1) (ret := none) (by decide) rfl ?_
  intro p e s m args below meth c s₁ B hml hv
  obtain ⟨rfl, hsz, hP, hK, hD0⟩ := hv
  have hx := B.exec
  have hb := B.bytes
  have hr := B.returns
  have hts := atoms_spec (ws := ws_ yX0_init cX0_init 1 none) B.pre
  have hts : ∀ w ∈ lw_all, w.before _ s = true := fun w h => hts w (List.mem_cons_of_mem _ h)
  have hown : s.vm.findClass RX0 = some m.cls := findClass_of_methodNamed B.named
  have hlocks := B.notSynchronized
  have hin : meth.name = "<init>" := (name_of_methodNamed B.named B.method).1
  subst hsz
  have hD := hD0.self (sz := s.heap.size)
  generalize hAe : va_A (ic_x0 h) s.heap.size = A at hD ⊢
  have hA : ∀ q : Nat, s.heap.size ≤ q → A q := fun q h => by rw [← hAe]; exact Or.inr h
  have hS : va_S A s.heap s.heap [] := va_S.rf
  have hl := lv_entry ([.ref h]) (n := 1) (Nat.le_of_ble_eq_true rfl)
  rw [lg_entry_eq]
  generalize (lg_sl ([.ref h]) ++ List.replicate (1 - (lg_sl ([.ref h])).length) Slot.unset).toArray = ls at hl ⊢
  have hl : lv_has ls 1 [(0, .ref h)] := hl
  refine lv_aload_n hx hb dX0_init_0 rfl (lv_at hl 0 rfl) ?_
  refine W.objInit hx hb hown (hts _ q19) (hts _ q20) (hts _ q21) rfl (by rw [hml]; exact hl.1) rfl dX0_init_1 (Nat.le_of_ble_eq_true rfl) (Nat.le_of_ble_eq_true rfl) ?_
  refine W.eq (g2 := F0 m 4 ls []) rfl ?_
  refine lv_aload_n hx hb dX0_init_4 rfl (lv_at hl 0 rfl) ?_
  refine lv_iconst (v := nI 1) hx hb dX0_init_5 (by decide) ?_
  refine va_put (D := D) (ci := 0) (v := .int (nI 1)) (ty := .int) (C := RX0) (T := TX0) (N := 4) hx hb hts in_X0 tyX0 tyX0_ok nmX0 hown hK hP hD hS 0 rfl rfl 0 (by decide) (hts _ q22) (fun _ h9 => h9) rfl (by decide +kernel) rfl rfl (Nat.le_of_ble_eq_true rfl) dX0_init_6 (fun H locs hP hD hS => ?_)
  have hP : va_P D ic_cl [(h, .inr (0, [.int (nI 1), .null, .null, .int 0]))] H := hP
  have hD : va_D A [(h, .inr (0, [.int (nI 1), .null, .null, .int 0]))] := hD
  refine lv_aload_n hx hb dX0_init_9 rfl (lv_at hl 0 rfl) ?_
  refine lv_bipush (v := nI 8) hx hb dX0_init_10 (by decide) ?_
  refine va_newa (atype := .int) (ty := .int) (N' := 8) (a0 := (8, .inl (fun _ => 0))) hx hb (hts _ q35) rfl hK hP hD hS hA (fun _ => rfl) (by decide) (by decide) (by decide) (Nat.le_of_ble_eq_true rfl) (Nat.le_of_ble_eq_true rfl) dX0_init_12 (fun hO cI H hK hP hD hS => ?_)
  have hP : va_P D ic_cl ([(h, .inr (0, [.int (nI 1), .null, .null, .int 0])), (hO, .inl (cI, 8, .inl (fun _ => 0)))]) H := hP
  have hD : va_D A ([(h, .inr (0, [.int (nI 1), .null, .null, .int 0])), (hO, .inl (cI, 8, .inl (fun _ => 0)))]) := hD
  refine va_putF (D := D) (ci := 0) (v := .ref hO) (ty := .array .int) (C := RX0) (T := TX0) (N := 4) hx hb hts in_X0 tyX0 tyX0_ok nmX0 hown hK hP hD hS 0 rfl rfl 1 (by decide) (hts _ q23) (fun _ h9 => h9) rfl hin rfl (by decide +kernel) rfl rfl (Nat.le_of_ble_eq_true rfl) dX0_init_14 (fun H locs hP hD hS => ?_)
  have hP : va_P D ic_cl ([(h, .inr (0, [.int (nI 1), .ref hO, .null, .int 0])), (hO, .inl (cI, 8, .inl (fun _ => 0)))]) H := hP
  have hD : va_D A ([(h, .inr (0, [.int (nI 1), .ref hO, .null, .int 0])), (hO, .inl (cI, 8, .inl (fun _ => 0)))]) := hD
  refine lv_aload_n hx hb dX0_init_17 rfl (lv_at hl 0 rfl) ?_
  refine lv_sipush (v := nI 512) hx hb dX0_init_18 (by decide) ?_
  refine va_newa (atype := .byte) (ty := .byte) (N' := 512) (a0 := (512, .inl (fun _ => 0))) hx hb (hts _ q36) rfl hK hP hD hS hA (fun _ => rfl) (by decide) (by decide) (by decide) (Nat.le_of_ble_eq_true rfl) (Nat.le_of_ble_eq_true rfl) dX0_init_21 (fun hH cB H hK hP hD hS => ?_)
  have hP : va_P D ic_cl ([(h, .inr (0, [.int (nI 1), .ref hO, .null, .int 0])), (hO, .inl (cI, 8, .inl (fun _ => 0))), (hH, .inl (cB, 512, .inl (fun _ => 0)))]) H := hP
  have hD : va_D A ([(h, .inr (0, [.int (nI 1), .ref hO, .null, .int 0])), (hO, .inl (cI, 8, .inl (fun _ => 0))), (hH, .inl (cB, 512, .inl (fun _ => 0)))]) := hD
  refine va_putF (D := D) (ci := 0) (v := .ref hH) (ty := .array .byte) (C := RX0) (T := TX0) (N := 4) hx hb hts in_X0 tyX0 tyX0_ok nmX0 hown hK hP hD hS 0 rfl rfl 2 (by decide) (hts _ q24) (fun _ h9 => h9) rfl hin rfl (by decide +kernel) rfl rfl (Nat.le_of_ble_eq_true rfl) dX0_init_23 (fun H locs hP hD hS => ?_)
  have hP : va_P D ic_cl (ic_wX h hO hH cI cB (nI 1) (fun _ => 0) (fun _ => 0) 0) H := hP
  have hD : va_D A (ic_wX h hO hH cI cB (nI 1) (fun _ => 0) (fun _ => 0) 0) := hD
  have hK : va_K D ic_cl (ic_tX cI cB) s := hK
  refine lv_aload_n hx hb dX0_init_26 rfl (lv_at hl 0 rfl) ?_
  refine xg_own hx hb hts hown hK hP dX0_init_27 ?_
  refine lv_iconst (v := nI 0) hx hb dX0_init_30 (by decide) ?_
  refine lv_iconst (v := (-1)) hx hb dX0_init_31 (by decide) ?_
  refine xo_st hx hb hK hP hD hS (i := 0) (v := (-1)) (by omega) dX0_init_32 (fun H locs hP hD hS => ?_)
  exact W.vret hx hb hr (fun t ht hW => ⟨⟨(hO, hH, cI, cB), rfl, trivial, by rw [ht]; exact hP, va_K.moved hW.alike hK, hD⟩, hS.F ht⟩) hS.2.2 dX0_init_33
set_option maxHeartbeats 4000000 in
set_option maxRecDepth 100000 in
theorem mM_init (l : Launch) (D : va_G) (g sz : Nat) : Met l yX1_init (ws_ yX1_init cX1_init 1 none) ({ frames := 1, cells := 4, slots := 56, locals := 12 }) (va_Pc [.ref g] (fun U => U.heap.size = sz ∧ va_P D ic_cl (ic_m0 g) U.heap ∧ va_K D ic_cl [] U ∧ va_D (fun _ => True) (ic_m0 g))) (va_Qv (fun _ => True) (ic_Bm0 D g (va_A (ic_m0 g) sz)) (va_A (ic_m0 g) sz)) 4 56 (va_A (ic_m0 g) sz) := by
  refine Met.ofW (cc := cX1_init) (maxL := 1) (ret := none) (by decide) rfl ?_
  intro p e s m args below meth c s₁ B hml hv
  obtain ⟨rfl, hsz, hP, hK, hD0⟩ := hv
  have hx := B.exec
  have hb := B.bytes
  have hr := B.returns
  have hts := atoms_spec (ws := ws_ yX1_init cX1_init 1 none) B.pre
  have hts : ∀ w ∈ lw_all, w.before _ s = true := fun w h => hts w (List.mem_cons_of_mem _ h)
  have hown : s.vm.findClass RX1 = some m.cls := findClass_of_methodNamed B.named
  have hlocks := B.notSynchronized
  have hin : meth.name = "<init>" := (name_of_methodNamed B.named B.method).1
  subst hsz
  have hD := hD0.self (sz := s.heap.size)
  generalize hAe : va_A (ic_m0 g) s.heap.size = A at hD ⊢
  have hA : ∀ q : Nat, s.heap.size ≤ q → A q := fun q h => by rw [← hAe]; exact Or.inr h
  have hS : va_S A s.heap s.heap [] := va_S.rf
  have hl := lv_entry ([.ref g]) (n := 1) (Nat.le_of_ble_eq_true rfl)
  rw [lg_entry_eq]
  generalize (lg_sl ([.ref g]) ++ List.replicate (1 - (lg_sl ([.ref g])).length) Slot.unset).toArray = ls at hl ⊢
  have hl : lv_has ls 1 [(0, .ref g)] := hl
  refine lv_aload_n hx hb dX1_init_0 rfl (lv_at hl 0 rfl) ?_
  refine W.objInit hx hb hown (hts _ q133) (hts _ q20) (hts _ q21) rfl (by rw [hml]; exact hl.1) rfl dX1_init_1 (Nat.le_of_ble_eq_true rfl) (Nat.le_of_ble_eq_true rfl) ?_
  refine W.eq (g2 := F0 m 4 ls []) rfl ?_
  refine lv_aload_n hx hb dX1_init_4 rfl (lv_at hl 0 rfl) ?_
  refine lv_bipush (v := nI 16) hx hb dX1_init_5 (by decide) ?_
  refine va_newa (atype := .boolean) (ty := .boolean) (N' := 16) (a0 := (16, .inl (fun _ => 0))) hx hb (hts _ q150) rfl hK hP hD hS hA (fun _ => rfl) (by decide) (by decide) (by decide) (Nat.le_of_ble_eq_true rfl) (Nat.le_of_ble_eq_true rfl) dX1_init_7 (fun gT cZ H hK hP hD hS => ?_)
  have hP : va_P D ic_cl ([(g, .inr (1, [.null, .null, .null, .null, .int 0])), (gT, .inl (cZ, 16, .inl (fun _ => 0)))]) H := hP
  have hD : va_D A ([(g, .inr (1, [.null, .null, .null, .null, .int 0])), (gT, .inl (cZ, 16, .inl (fun _ => 0)))]) := hD
  refine va_put (D := D) (ci := 1) (v := .ref gT) (ty := .array .boolean) (C := RX1) (T := TX1) (N := 5) hx hb hts in_X1 tyX1 tyX1_ok nmX1 hown hK hP hD hS 0 rfl rfl 0 (by decide) (hts _ q134) (fun _ h9 => h9) rfl (by decide +kernel) rfl rfl (Nat.le_of_ble_eq_true rfl) dX1_init_9 (fun H locs hP hD hS => ?_)
  have hP : va_P D ic_cl ([(g, .inr (1, [.ref gT, .null, .null, .null, .int 0])), (gT, .inl (cZ, 16, .inl (fun _ => 0)))]) H := hP
  have hD : va_D A ([(g, .inr (1, [.ref gT, .null, .null, .null, .int 0])), (gT, .inl (cZ, 16, .inl (fun _ => 0)))]) := hD
  refine lv_aload_n hx hb dX1_init_12 rfl (lv_at hl 0 rfl) ?_
  refine lv_bipush (v := nI 16) hx hb dX1_init_13 (by decide) ?_
  refine va_newa (atype := .long) (ty := .long) (N' := 16) (a0 := (16, .inr (.inl (fun _ => 0)))) hx hb (hts _ q151) rfl hK hP hD hS hA (fun _ => rfl) (by decide) (by decide) (by decide) (Nat.le_of_ble_eq_true rfl) (Nat.le_of_ble_eq_true rfl) dX1_init_15 (fun gL cJ H hK hP hD hS => ?_)
  have hP : va_P D ic_cl ([(g, .inr (1, [.ref gT, .null, .null, .null, .int 0])), (gT, .inl (cZ, 16, .inl (fun _ => 0))), (gL, .inl (cJ, 16, .inr (.inl (fun _ => 0))))]) H := hP
  have hD : va_D A ([(g, .inr (1, [.ref gT, .null, .null, .null, .int 0])), (gT, .inl (cZ, 16, .inl (fun _ => 0))), (gL, .inl (cJ, 16, .inr (.inl (fun _ => 0))))]) := hD
  refine va_put (D := D) (ci := 1) (v := .ref gL) (ty := .array .long) (C := RX1) (T := TX1) (N := 5) hx hb hts in_X1 tyX1 tyX1_ok nmX1 hown hK hP hD hS 0 rfl rfl 1 (by decide) (hts _ q135) (fun _ h9 => h9) rfl (by decide +kernel) rfl rfl (Nat.le_of_ble_eq_true rfl) dX1_init_17 (fun H locs hP hD hS => ?_)
  have hP : va_P D ic_cl ([(g, .inr (1, [.ref gT, .ref gL, .null, .null, .int 0])), (gT, .inl (cZ, 16, .inl (fun _ => 0))), (gL, .inl (cJ, 16, .inr (.inl (fun _ => 0))))]) H := hP
  have hD : va_D A ([(g, .inr (1, [.ref gT, .ref gL, .null, .null, .int 0])), (gT, .inl (cZ, 16, .inl (fun _ => 0))), (gL, .inl (cJ, 16, .inr (.inl (fun _ => 0))))]) := hD
  refine lv_aload_n hx hb dX1_init_20 rfl (lv_at hl 0 rfl) ?_
  refine lv_bipush (v := nI 16) hx hb dX1_init_21 (by decide) ?_
  refine va_newa (atype := .long) (ty := .long) (N' := 16) (a0 := (16, .inr (.inl (fun _ => 0)))) hx hb (hts _ q151) rfl hK hP hD hS hA (fun _ => rfl) (by decide) (by decide) (by decide) (Nat.le_of_ble_eq_true rfl) (Nat.le_of_ble_eq_true rfl) dX1_init_23 (fun gH cG H hK hP hD hS => ?_)
  have hP : va_P D ic_cl ([(g, .inr (1, [.ref gT, .ref gL, .null, .null, .int 0])), (gT, .inl (cZ, 16, .inl (fun _ => 0))), (gL, .inl (cJ, 16, .inr (.inl (fun _ => 0)))), (gH, .inl (cG, 16, .inr (.inl (fun _ => 0))))]) H := hP
  have hD : va_D A ([(g, .inr (1, [.ref gT, .ref gL, .null, .null, .int 0])), (gT, .inl (cZ, 16, .inl (fun _ => 0))), (gL, .inl (cJ, 16, .inr (.inl (fun _ => 0)))), (gH, .inl (cG, 16, .inr (.inl (fun _ => 0))))]) := hD
  refine va_put (D := D) (ci := 1) (v := .ref gH) (ty := .array .long) (C := RX1) (T := TX1) (N := 5) hx hb hts in_X1 tyX1 tyX1_ok nmX1 hown hK hP hD hS 0 rfl rfl 2 (by decide) (hts _ q136) (fun _ h9 => h9) rfl (by decide +kernel) rfl rfl (Nat.le_of_ble_eq_true rfl) dX1_init_25 (fun H locs hP hD hS => ?_)
  have hP : va_P D ic_cl ([(g, .inr (1, [.ref gT, .ref gL, .ref gH, .null, .int 0])), (gT, .inl (cZ, 16, .inl (fun _ => 0))), (gL, .inl (cJ, 16, .inr (.inl (fun _ => 0)))), (gH, .inl (cG, 16, .inr (.inl (fun _ => 0))))]) H := hP
  have hD : va_D A ([(g, .inr (1, [.ref gT, .ref gL, .ref gH, .null, .int 0])), (gT, .inl (cZ, 16, .inl (fun _ => 0))), (gL, .inl (cJ, 16, .inr (.inl (fun _ => 0)))), (gH, .inl (cG, 16, .inr (.inl (fun _ => 0))))]) := hD
  refine lv_aload_n hx hb dX1_init_28 rfl (lv_at hl 0 rfl) ?_
  refine lv_bipush (v := nI 8) hx hb dX1_init_29 (by decide) ?_
  refine va_newa (atype := .int) (ty := .int) (N' := 8) (a0 := (8, .inl (fun _ => 0))) hx hb (hts _ q35) rfl hK hP hD hS hA (fun _ => rfl) (by decide) (by decide) (by decide) (Nat.le_of_ble_eq_true rfl) (Nat.le_of_ble_eq_true rfl) dX1_init_31 (fun gD cD H hK hP hD hS => ?_)
  have hP : va_P D ic_cl ([(g, .inr (1, [.ref gT, .ref gL, .ref gH, .null, .int 0])), (gT, .inl (cZ, 16, .inl (fun _ => 0))), (gL, .inl (cJ, 16, .inr (.inl (fun _ => 0)))), (gH, .inl (cG, 16, .inr (.inl (fun _ => 0)))), (gD, .inl (cD, 8, .inl (fun _ => 0)))]) H := hP
  have hD : va_D A ([(g, .inr (1, [.ref gT, .ref gL, .ref gH, .null, .int 0])), (gT, .inl (cZ, 16, .inl (fun _ => 0))), (gL, .inl (cJ, 16, .inr (.inl (fun _ => 0)))), (gH, .inl (cG, 16, .inr (.inl (fun _ => 0)))), (gD, .inl (cD, 8, .inl (fun _ => 0)))]) := hD
  refine va_put (D := D) (ci := 1) (v := .ref gD) (ty := .array .int) (C := RX1) (T := TX1) (N := 5) hx hb hts in_X1 tyX1 tyX1_ok nmX1 hown hK hP hD hS 0 rfl rfl 3 (by decide) (hts _ q137) (fun _ h9 => h9) rfl (by decide +kernel) rfl rfl (Nat.le_of_ble_eq_true rfl) dX1_init_33 (fun H locs hP hD hS => ?_)
  have hP : va_P D ic_cl ([(g, .inr (1, [.ref gT, .ref gL, .ref gH, .ref gD, .int 0])), (gT, .inl (cZ, 16, .inl (fun _ => 0))), (gL, .inl (cJ, 16, .inr (.inl (fun _ => 0)))), (gH, .inl (cG, 16, .inr (.inl (fun _ => 0)))), (gD, .inl (cD, 8, .inl (fun _ => 0)))]) H := hP
  have hD : va_D A ([(g, .inr (1, [.ref gT, .ref gL, .ref gH, .ref gD, .int 0])), (gT, .inl (cZ, 16, .inl (fun _ => 0))), (gL, .inl (cJ, 16, .inr (.inl (fun _ => 0)))), (gH, .inl (cG, 16, .inr (.inl (fun _ => 0)))), (gD, .inl (cD, 8, .inl (fun _ => 0)))]) := hD
  have hP : va_P D ic_cl (ic_wM g gT gL gH gD cZ cJ cG cD (fun _ => false) (fun _ => 0) (fun _ => 0) (fun _ => 0) 0) H := hP
  have hD : va_D A (ic_wM g gT gL gH gD cZ cJ cG cD (fun _ => false) (fun _ => 0) (fun _ => 0) (fun _ => 0) 0) := hD
  have hK : va_K D ic_cl (ic_tM cZ cJ cG cD) s := hK
  refine lv_aload_n hx hb dX1_init_36 rfl (lv_at hl 0 rfl) ?_
  refine mg_T hx hb hts hown hK hP dX1_init_37 ?_
  refine lv_iconst (v := nI 0) hx hb dX1_init_40 (by decide) ?_
  refine lv_iconst (v := nI 1) hx hb dX1_init_41 (by decide) ?_
  refine ic_top (show nI 1 = ic_b true from rfl) ?_
  refine mT_st hx hb hK hP hD hS (i := 0) (v := true) (by omega) dX1_init_42 (fun H locs hP hD hS => ?_)
  refine lv_aload_n hx hb dX1_init_43 rfl (lv_at hl 0 rfl) ?_
  refine mg_had hx hb hts hown hK hP dX1_init_44 ?_
  refine lv_iconst (v := nI 0) hx hb dX1_init_47 (by decide) ?_
  refine lv_iconst (v := (-1)) hx hb dX1_init_48 (by decide) ?_
  refine md_st hx hb hK hP hD hS (i := 0) (v := (-1)) (by omega) dX1_init_49 (fun H locs hP hD hS => ?_)
  exact W.vret hx hb hr (fun t ht hW => ⟨⟨(gT, gL, gH, gD, cZ, cJ, cG, cD), rfl, trivial, by rw [ht]; exact hP, va_K.moved hW.alike hK, hD⟩, hS.F ht⟩) hS.2.2 dX1_init_50
end
section
/-! IntervalClocksModel: what it shows -/
set_option maxRecDepth 100000
theorem ic_al_mono {T : Nat → Bool} {F : Nat → Nat → Bool} {m a : Nat} (h : ic_al T F m a = false) : ∀ k, a ≤ k → ic_al T F m k = false
  | 0, hk => by
    obtain rfl : a = 0 := by omega
    exact h
  | k + 1, hk => by
    by_cases e : a = k + 1
    · rw [← e]; exact h
    · show (ic_al T F m k && (!T k || F (8 + m) k)) = false
      rw [ic_al_mono h k (by omega), Bool.false_and]
set_option maxHeartbeats 4000000 in
set_option maxRecDepth 100000 in
theorem mM_party (l : Launch) (D : va_G) (g gT gL gH gD : Nat) (cZ cJ cG cD : ClassId) (T : Nat → Bool) (lo hh : Nat → Int64) (had : Nat → Int32) (n : Nat) (x : Int32) : Met l yX1_party (ws_ yX1_party cX1_party 2 (some .boolean)) ic_R0 (ic_pM D g gT gL gH gD cZ cJ cG cD T lo hh had n [.int x]) (vp_Si (fun r => r = ic_b (ic_in T 8 x))) 0 0 (fun _ => False) := by
  refine ic_sM (by decide) rfl (Nat.le_of_ble_eq_true rfl) (fun v hv => by rw [hv]; exact ic_b_nar _) ?_
  intro p e s m args below meth c ls Q hx hb hml hown hts hK hP hl hfin
  have hl : lv_has ls 2 [(0, .ref g), (1, .int x)] := hl
  rcases pk_ix x (n := 8) (by decide) with z | z | ⟨j, hj, rfl⟩
  · skip
    refine lv_iload_n hx hb dX1_party_0 rfl (lv_at hl 1 rfl) ?_
    refine lv_if_lt (tgt := 23) hx hb dX1_party_1 (by decide) (fun _ => ?_) (fun c9 => absurd z c9)
    refine lv_iconst (v := nI 0) hx hb dX1_party_23 (by decide) ?_
    exact hfin _ 24 ls (by rw [ic_in_neg z]; rfl) dX1_party_24
  · have z2 : ¬ x < 0 := fun q => absurd (Int32.lt_of_le_of_lt z q) (by decide)
    refine lv_iload_n hx hb dX1_party_0 rfl (lv_at hl 1 rfl) ?_
    refine lv_if_lt (tgt := 23) hx hb dX1_party_1 (by decide) (fun c9 => absurd c9 z2) (fun _ => ?_)
    refine lv_iload_n hx hb dX1_party_4 rfl (lv_at hl 1 rfl) ?_
    refine lv_bipush (v := nI 7) hx hb dX1_party_5 (by decide) ?_
    refine lv_icmp_gt (tgt := 23) hx hb dX1_party_7 (by decide) (fun _ => ?_) (fun c9 => absurd (Int32.lt_of_lt_of_le (show nI 7 < nI 8 by decide) z) c9)
    refine lv_iconst (v := nI 0) hx hb dX1_party_23 (by decide) ?_
    exact hfin _ 24 ls (by rw [ic_in_big (by decide) z]; rfl) dX1_party_24
  · skip
    refine lv_iload_n hx hb dX1_party_0 rfl (lv_at hl 1 rfl) ?_
    refine lv_if_lt (tgt := 23) hx hb dX1_party_1 (by decide) (fun c9 => absurd c9 (nI_pos (by omega))) (fun _ => ?_)
    refine lv_iload_n hx hb dX1_party_4 rfl (lv_at hl 1 rfl) ?_
    refine lv_bipush (v := nI 7) hx hb dX1_party_5 (by decide) ?_
    refine lv_icmp_gt (tgt := 23) hx hb dX1_party_7 (by decide) (fun c9 => absurd c9 (nI_nlt (show j ≤ 7 by omega) (by decide))) (fun _ => ?_)
    refine lv_aload_n hx hb dX1_party_10 rfl (lv_at hl 0 rfl) ?_
    refine mg_T hx hb hts hown hK hP dX1_party_11 ?_
    refine lv_iload_n hx hb dX1_party_14 rfl (lv_at hl 1 rfl) ?_
    refine mT_ld hx hb hK hP (i := j) (by omega) dX1_party_15 ?_
    rcases ic_bool (T j) with q | q
    · skip
      refine lv_if_eq (tgt := 23) hx hb dX1_party_16 (by decide) (fun _ => ?_) (fun c9 => absurd (ic_b_f q) c9)
      refine lv_iconst (v := nI 0) hx hb dX1_party_23 (by decide) ?_
      exact hfin _ 24 ls (by rw [ic_in_nI hj (by decide), q]; rfl) dX1_party_24
    · skip
      refine lv_if_eq (tgt := 23) hx hb dX1_party_16 (by decide) (fun c9 => absurd c9 (ic_b_t q)) (fun _ => ?_)
      refine lv_iconst (v := nI 1) hx hb dX1_party_19 (by decide) ?_
      refine lv_goto (tgt := 24) hx hb dX1_party_20 (by decide) ?_
      exact hfin _ 24 ls (by rw [ic_in_nI hj (by decide), q]; rfl) dX1_party_24
set_option maxHeartbeats 4000000 in
set_option maxRecDepth 100000 in
theorem mM_is (l : Launch) (D : va_G) (g gT gL gH gD : Nat) (cZ cJ cG cD : ClassId) (T : Nat → Bool) (lo hh : Nat → Int64) (had : Nat → Int32) (n : Nat) (x : Int32) : Met l yX1_is (ws_ yX1_is cX1_is 2 (some .boolean)) ic_R0 (ic_pM D g gT gL gH gD cZ cJ cG cD T lo hh had n [.int x]) (vp_Si (fun r => r = ic_b (ic_in T 16 x))) 0 0 (fun _ => False) := by
  refine ic_sM (by decide) rfl (Nat.le_of_ble_eq_true rfl) (fun v hv => by rw [hv]; exact ic_b_nar _) ?_
  intro p e s m args below meth c ls Q hx hb hml hown hts hK hP hl hfin
  have hl : lv_has ls 2 [(0, .ref g), (1, .int x)] := hl
  rcases pk_ix x (n := 16) (by decide) with z | z | ⟨j, hj, rfl⟩
  · skip
    refine lv_iload_n hx hb dX1_is_0 rfl (lv_at hl 1 rfl) ?_
    refine lv_if_lt (tgt := 23) hx hb dX1_is_1 (by decide) (fun _ => ?_) (fun c9 => absurd z c9)
    refine lv_iconst (v := nI 0) hx hb dX1_is_23 (by decide) ?_
    exact hfin _ 24 ls (by rw [ic_in_neg z]; rfl) dX1_is_24
  · have z2 : ¬ x < 0 := fun q => absurd (Int32.lt_of_le_of_lt z q) (by decide)
    refine lv_iload_n hx hb dX1_is_0 rfl (lv_at hl 1 rfl) ?_
    refine lv_if_lt (tgt := 23) hx hb dX1_is_1 (by decide) (fun c9 => absurd c9 z2) (fun _ => ?_)
    refine lv_iload_n hx hb dX1_is_4 rfl (lv_at hl 1 rfl) ?_
    refine lv_bipush (v := nI 15) hx hb dX1_is_5 (by decide) ?_
    refine lv_icmp_gt (tgt := 23) hx hb dX1_is_7 (by decide) (fun _ => ?_) (fun c9 => absurd (Int32.lt_of_lt_of_le (show nI 15 < nI 16 by decide) z) c9)
    refine lv_iconst (v := nI 0) hx hb dX1_is_23 (by decide) ?_
    exact hfin _ 24 ls (by rw [ic_in_big (by decide) z]; rfl) dX1_is_24
  · skip
    refine lv_iload_n hx hb dX1_is_0 rfl (lv_at hl 1 rfl) ?_
    refine lv_if_lt (tgt := 23) hx hb dX1_is_1 (by decide) (fun c9 => absurd c9 (nI_pos (by omega))) (fun _ => ?_)
    refine lv_iload_n hx hb dX1_is_4 rfl (lv_at hl 1 rfl) ?_
    refine lv_bipush (v := nI 15) hx hb dX1_is_5 (by decide) ?_
    refine lv_icmp_gt (tgt := 23) hx hb dX1_is_7 (by decide) (fun c9 => absurd c9 (nI_nlt (show j ≤ 15 by omega) (by decide))) (fun _ => ?_)
    refine lv_aload_n hx hb dX1_is_10 rfl (lv_at hl 0 rfl) ?_
    refine mg_T hx hb hts hown hK hP dX1_is_11 ?_
    refine lv_iload_n hx hb dX1_is_14 rfl (lv_at hl 1 rfl) ?_
    refine mT_ld hx hb hK hP (i := j) (by omega) dX1_is_15 ?_
    rcases ic_bool (T j) with q | q
    · skip
      refine lv_if_eq (tgt := 23) hx hb dX1_is_16 (by decide) (fun _ => ?_) (fun c9 => absurd (ic_b_f q) c9)
      refine lv_iconst (v := nI 0) hx hb dX1_is_23 (by decide) ?_
      exact hfin _ 24 ls (by rw [ic_in_nI hj (by decide), q]; rfl) dX1_is_24
    · skip
      refine lv_if_eq (tgt := 23) hx hb dX1_is_16 (by decide) (fun c9 => absurd c9 (ic_b_t q)) (fun _ => ?_)
      refine lv_iconst (v := nI 1) hx hb dX1_is_19 (by decide) ?_
      refine lv_goto (tgt := 24) hx hb dX1_is_20 (by decide) ?_
      exact hfin _ 24 ls (by rw [ic_in_nI hj (by decide), q]; rfl) dX1_is_24
set_option maxHeartbeats 4000000 in
set_option maxRecDepth 100000 in
theorem mM_count (l : Launch) (D : va_G) (g gT gL gH gD : Nat) (cZ cJ cG cD : ClassId) (T : Nat → Bool) (lo hh : Nat → Int64) (had : Nat → Int32) (n : Nat) (o : Int32) : Met l yX1_count (ws_ yX1_count cX1_count 4 (some .int)) ic_R0 (ic_pM D g gT gL gH gD cZ cJ cG cD T lo hh had n [.int o]) (vp_Si (fun r => r = nI (ic_cn o))) 0 0 (fun _ => False) := by
  refine ic_sM (by decide) rfl (Nat.le_of_ble_eq_true rfl) (fun v hv => rfl) ?_
  intro p e s m args below meth c ls Q hx hb hml hown hts hK hP hl hfin
  have hl : lv_has ls 4 [(0, .ref g), (1, .int o)] := hl
  refine lv_iconst (v := nI 0) hx hb dX1_count_0 (by decide) ?_
  refine lv_istore_n (lv' := [(2, .int (nI 0)), (0, .ref g), (1, .int o)]) hx hb dX1_count_1 rfl hl (by decide) rfl (fun ls hl => ?_)
  refine lv_iconst (v := nI 0) hx hb dX1_count_2 (by decide) ?_
  refine lv_istore_n (lv' := [(3, .int (nI 0)), (2, .int (nI 0)), (0, .ref g), (1, .int o)]) hx hb dX1_count_3 rfl hl (by decide) rfl (fun ls hl => ?_)
  have loop : ∀ (k i : Nat), i + k = 32 → ∀ (ls : Array Slot), lv_has ls 4 [(0, .ref g), (1, .int o), (2, .int (nI (fb_ct (bt o) i))), (3, .int (nI i))] → W p l e ic_R0 s m args below meth c s.heap [] 0 0 Q (F0 m 4 ls []) := by
    intro k
    induction k with
    | zero =>
      intro i hi ls hl
      obtain rfl : i = 32 := by omega
      refine lv_iload_n hx hb dX1_count_4 rfl (lv_at hl 3 rfl) ?_
      refine lv_bipush (v := nI 32) hx hb dX1_count_5 (by decide) ?_
      refine lv_icmp_ge (tgt := 24) hx hb dX1_count_7 (by decide) (fun _ => ?_) (fun c9 => absurd (nI_le (Nat.le_refl 32) (by decide)) c9)
      refine lv_iload_n hx hb dX1_count_24 rfl (lv_at hl 2 rfl) ?_
      exact hfin _ 25 ls rfl dX1_count_25
    | succ k ih =>
      intro i hi ls hl
      refine lv_iload_n hx hb dX1_count_4 rfl (lv_at hl 3 rfl) ?_
      refine lv_bipush (v := nI 32) hx hb dX1_count_5 (by decide) ?_
      refine lv_icmp_ge (tgt := 24) hx hb dX1_count_7 (by decide) (fun c9 => absurd c9 (nI_ge (show i < 32 by omega) (by decide))) (fun _ => ?_)
      refine lv_iload_n hx hb dX1_count_10 rfl (lv_at hl 2 rfl) ?_
      refine lv_iload_n hx hb dX1_count_11 rfl (lv_at hl 1 rfl) ?_
      refine lv_iload_n hx hb dX1_count_12 rfl (lv_at hl 3 rfl) ?_
      refine lv_ishr hx hb dX1_count_13 ?_
      refine lv_iconst (v := nI 1) hx hb dX1_count_14 (by decide) ?_
      refine lv_iand hx hb dX1_count_15 ?_
      refine ic_top (ic_bit_s o (show i < 32 by omega)) ?_
      refine lv_iadd hx hb dX1_count_16 ?_
      refine ic_top (ic_ct_add (bt o) i) ?_
      refine lv_istore_n (lv' := [(2, .int (nI (fb_ct (bt o) (i + 1)))), (0, .ref g), (1, .int o), (3, .int (nI i))]) hx hb dX1_count_17 rfl hl (by decide) rfl (fun ls hl => ?_)
      refine lv_iinc (v := nI (i + 1)) (lv' := [(3, .int (nI (i + 1))), (2, .int (nI (fb_ct (bt o) (i + 1)))), (0, .ref g), (1, .int o)]) hx hb dX1_count_18 hl (k := 3) rfl (nI_1 _) (by decide) rfl (fun ls hl => ?_)
      refine lv_goto (tgt := 4) hx hb dX1_count_21 (by decide) ?_
      exact ih (i + 1) (by omega) ls (lv_sub hl [2, 3, 1, 0] rfl)
  exact loop 32 0 rfl ls (lv_sub hl [2, 3, 1, 0] rfl)
set_option maxHeartbeats 4000000 in
set_option maxRecDepth 100000 in
theorem mM_follows (l : Launch) (D : va_G) (g gT gL gH gD : Nat) (cZ cJ cG cD : ClassId) (T : Nat → Bool) (lo hh : Nat → Int64) (had : Nat → Int32) (n : Nat) (x y : Nat) (hx0 : x < 16) (hy0 : y < 16) : Met l yX1_follows (ws_ yX1_follows cX1_follows 3 (some .boolean)) ic_R0 (ic_pM D g gT gL gH gD cZ cJ cG cD T lo hh had n [.int (nI x), .int (nI y)]) (vp_Si (fun r => r = ic_b (ic_fol lo hh x y))) 0 0 (fun _ => False) := by
  refine ic_sM (by decide) rfl (Nat.le_of_ble_eq_true rfl) (fun v hv => by rw [hv]; exact ic_b_nar _) ?_
  intro p e s m args below meth c ls Q hx hb hml hown hts hK hP hl hfin
  have hl : lv_has ls 3 [(0, .ref g), (1, .int (nI x)), (2, .int (nI y))] := hl
  refine lv_aload_n hx hb dX1_follows_0 rfl (lv_at hl 0 rfl) ?_
  refine mg_lo hx hb hts hown hK hP dX1_follows_1 ?_
  refine lv_iload_n hx hb dX1_follows_4 rfl (lv_at hl 1 rfl) ?_
  refine ml_ld hx hb hK hP (i := x) (by omega) dX1_follows_5 ?_
  refine lv_aload_n hx hb dX1_follows_6 rfl (lv_at hl 0 rfl) ?_
  refine mg_lo hx hb hts hown hK hP dX1_follows_7 ?_
  refine lv_iload_n hx hb dX1_follows_10 rfl (lv_at hl 2 rfl) ?_
  refine ml_ld hx hb hK hP (i := y) (by omega) dX1_follows_11 ?_
  refine lv_ldc2 (v := -1) hx hb hown (hts _ q184) dX1_follows_12 ?_
  refine lv_lxor hx hb dX1_follows_15 ?_
  refine lv_land hx hb dX1_follows_16 ?_
  refine lv_lconst (v := 0) hx hb dX1_follows_17 (by decide) ?_
  refine W.lcmp hx hb dX1_follows_18 ?_
  rcases Decidable.em (lo x &&& (lo y ^^^ (-1)) = 0) with ql | ql
  · skip
    refine lv_if_ne (tgt := 48) hx hb dX1_follows_19 (by decide) (fun c9 => absurd ((lg_cmp_eq _ _).mpr ql) c9) (fun _ => ?_)
    refine lv_aload_n hx hb dX1_follows_22 rfl (lv_at hl 0 rfl) ?_
    refine mg_hi hx hb hts hown hK hP dX1_follows_23 ?_
    refine lv_iload_n hx hb dX1_follows_26 rfl (lv_at hl 1 rfl) ?_
    refine mh_ld hx hb hK hP (i := x) (by omega) dX1_follows_27 ?_
    refine lv_aload_n hx hb dX1_follows_28 rfl (lv_at hl 0 rfl) ?_
    refine mg_hi hx hb hts hown hK hP dX1_follows_29 ?_
    refine lv_iload_n hx hb dX1_follows_32 rfl (lv_at hl 2 rfl) ?_
    refine mh_ld hx hb hK hP (i := y) (by omega) dX1_follows_33 ?_
    refine lv_ldc2 (v := -1) hx hb hown (hts _ q184) dX1_follows_34 ?_
    refine lv_lxor hx hb dX1_follows_37 ?_
    refine lv_land hx hb dX1_follows_38 ?_
    refine lv_lconst (v := 0) hx hb dX1_follows_39 (by decide) ?_
    refine W.lcmp hx hb dX1_follows_40 ?_
    rcases Decidable.em (hh x &&& (hh y ^^^ (-1)) = 0) with qh | qh
    · skip
      refine lv_if_ne (tgt := 48) hx hb dX1_follows_41 (by decide) (fun c9 => absurd ((lg_cmp_eq _ _).mpr qh) c9) (fun _ => ?_)
      refine lv_iconst (v := nI 1) hx hb dX1_follows_44 (by decide) ?_
      refine lv_goto (tgt := 49) hx hb dX1_follows_45 (by decide) ?_
      exact hfin _ 49 ls (by unfold ic_fol; rw [decide_eq_true ql, decide_eq_true qh]; rfl) dX1_follows_49
    · skip
      refine lv_if_ne (tgt := 48) hx hb dX1_follows_41 (by decide) (fun _ => ?_) (fun c9 => absurd c9 (fun q9 => qh ((lg_cmp_eq _ _).mp q9)))
      refine lv_iconst (v := nI 0) hx hb dX1_follows_48 (by decide) ?_
      exact hfin _ 49 ls (by unfold ic_fol; rw [decide_eq_true ql, decide_eq_false qh]; rfl) dX1_follows_49
  · skip
    refine lv_if_ne (tgt := 48) hx hb dX1_follows_19 (by decide) (fun _ => ?_) (fun c9 => absurd c9 (fun q9 => ql ((lg_cmp_eq _ _).mp q9)))
    refine lv_iconst (v := nI 0) hx hb dX1_follows_48 (by decide) ?_
    exact hfin _ 49 ls (by unfold ic_fol; rw [decide_eq_false ql]; rfl) dX1_follows_49
set_option maxHeartbeats 4000000 in
set_option maxRecDepth 100000 in
theorem mM_slots (l : Launch) (D : va_G) (g gT gL gH gD : Nat) (cZ cJ cG cD : ClassId) (T : Nat → Bool) (lo hh : Nat → Int64) (had : Nat → Int32) (n : Nat) (f : Nat) (hf0 : f ≤ 8) : Met l yX1_slots (ws_ yX1_slots cX1_slots 4 (some .int)) ic_R0 (ic_pM D g gT gL gH gD cZ cJ cG cD T lo hh had n [.int (nI f)]) (vp_Si (fun r => r = ic_bs (fun i => T (f + i)) 8)) 0 0 (fun _ => False) := by
  refine ic_sM (by decide) rfl (Nat.le_of_ble_eq_true rfl) (fun v hv => rfl) ?_
  intro p e s m args below meth c ls Q hx hb hml hown hts hK hP hl hfin
  have hl : lv_has ls 4 [(0, .ref g), (1, .int (nI f))] := hl
  refine lv_iconst (v := nI 0) hx hb dX1_slots_0 (by decide) ?_
  refine lv_istore_n (lv' := [(2, .int (nI 0)), (0, .ref g), (1, .int (nI f))]) hx hb dX1_slots_1 rfl hl (by decide) rfl (fun ls hl => ?_)
  refine lv_iconst (v := nI 0) hx hb dX1_slots_2 (by decide) ?_
  refine lv_istore_n (lv' := [(3, .int (nI 0)), (2, .int (nI 0)), (0, .ref g), (1, .int (nI f))]) hx hb dX1_slots_3 rfl hl (by decide) rfl (fun ls hl => ?_)
  have loop : ∀ (k i : Nat), i + k = 8 → ∀ (ls : Array Slot), lv_has ls 4 [(0, .ref g), (1, .int (nI f)), (2, .int (ic_bs (fun i => T (f + i)) i)), (3, .int (nI i))] → W p l e ic_R0 s m args below meth c s.heap [] 0 0 Q (F0 m 4 ls []) := by
    intro k
    induction k with
    | zero =>
      intro i hi ls hl
      obtain rfl : i = 8 := by omega
      refine lv_iload_n hx hb dX1_slots_4 rfl (lv_at hl 3 rfl) ?_
      refine lv_bipush (v := nI 8) hx hb dX1_slots_5 (by decide) ?_
      refine lv_icmp_ge (tgt := 37) hx hb dX1_slots_7 (by decide) (fun _ => ?_) (fun c9 => absurd (nI_le (Nat.le_refl 8) (by decide)) c9)
      refine lv_iload_n hx hb dX1_slots_37 rfl (lv_at hl 2 rfl) ?_
      exact hfin _ 38 ls rfl dX1_slots_38
    | succ k ih =>
      intro i hi ls hl
      refine lv_iload_n hx hb dX1_slots_4 rfl (lv_at hl 3 rfl) ?_
      refine lv_bipush (v := nI 8) hx hb dX1_slots_5 (by decide) ?_
      refine lv_icmp_ge (tgt := 37) hx hb dX1_slots_7 (by decide) (fun c9 => absurd c9 (nI_ge (show i < 8 by omega) (by decide))) (fun _ => ?_)
      refine lv_aload_n hx hb dX1_slots_10 rfl (lv_at hl 0 rfl) ?_
      refine mg_T hx hb hts hown hK hP dX1_slots_11 ?_
      refine lv_iload_n hx hb dX1_slots_14 rfl (lv_at hl 1 rfl) ?_
      refine lv_iload_n hx hb dX1_slots_15 rfl (lv_at hl 3 rfl) ?_
      refine lv_iadd hx hb dX1_slots_16 ?_
      refine ic_top (nI_add _ _) ?_
      refine mT_ld hx hb hK hP (i := f + i) (by omega) dX1_slots_17 ?_
      rcases ic_bool (T (f + i)) with q | q
      · skip
        refine lv_if_eq (tgt := 29) hx hb dX1_slots_18 (by decide) (fun _ => ?_) (fun c9 => absurd (ic_b_f q) c9)
        refine lv_iload_n hx hb dX1_slots_29 rfl (lv_at hl 2 rfl) ?_
        refine ic_top (ic_bs_f (p := fun i => T (f + i)) q).symm ?_
        refine lv_istore_n (lv' := [(2, .int (ic_bs (fun i => T (f + i)) (i + 1))), (0, .ref g), (1, .int (nI f)), (3, .int (nI i))]) hx hb dX1_slots_30 rfl hl (by decide) rfl (fun ls hl => ?_)
        refine lv_iinc (v := nI (i + 1)) (lv' := [(3, .int (nI (i + 1))), (2, .int (ic_bs (fun i => T (f + i)) (i + 1))), (0, .ref g), (1, .int (nI f))]) hx hb dX1_slots_31 hl (k := 3) rfl (nI_1 _) (by decide) rfl (fun ls hl => ?_)
        refine lv_goto (tgt := 4) hx hb dX1_slots_34 (by decide) ?_
        exact ih (i + 1) (by omega) ls (lv_sub hl [2, 3, 1, 0] rfl)
      · skip
        refine lv_if_eq (tgt := 29) hx hb dX1_slots_18 (by decide) (fun c9 => absurd c9 (ic_b_t q)) (fun _ => ?_)
        refine lv_iload_n hx hb dX1_slots_21 rfl (lv_at hl 2 rfl) ?_
        refine lv_iconst (v := nI 1) hx hb dX1_slots_22 (by decide) ?_
        refine lv_iload_n hx hb dX1_slots_23 rfl (lv_at hl 3 rfl) ?_
        refine lv_ishl hx hb dX1_slots_24 ?_
        refine ic_top (show _ = ic_sh i from rfl) ?_
        refine lv_ior hx hb dX1_slots_25 ?_
        refine ic_top (ic_bs_t (p := fun i => T (f + i)) q).symm ?_
        refine lv_goto (tgt := 30) hx hb dX1_slots_26 (by decide) ?_
        refine lv_istore_n (lv' := [(2, .int (ic_bs (fun i => T (f + i)) (i + 1))), (0, .ref g), (1, .int (nI f)), (3, .int (nI i))]) hx hb dX1_slots_30 rfl hl (by decide) rfl (fun ls hl => ?_)
        refine lv_iinc (v := nI (i + 1)) (lv' := [(3, .int (nI (i + 1))), (2, .int (ic_bs (fun i => T (f + i)) (i + 1))), (0, .ref g), (1, .int (nI f))]) hx hb dX1_slots_31 hl (k := 3) rfl (nI_1 _) (by decide) rfl (fun ls hl => ?_)
        refine lv_goto (tgt := 4) hx hb dX1_slots_34 (by decide) ?_
        exact ih (i + 1) (by omega) ls (lv_sub hl [2, 3, 1, 0] rfl)
  exact loop 8 0 rfl ls (lv_sub hl [2, 3, 1, 0] rfl)
theorem cwM_party {R : Room} {s : State} {args : Array Value} (hts : ∀ w ∈ lw_all, w.before args s = true) (hR : ic_R0.frames + 1 ≤ R.frames ∧ 8 + (2 + 11) + ic_R0.locals ≤ R.locals) : CallW R s args RX1 RX1 24 yX1_party cX1_party 2 (some .boolean) (ws_ yX1_party cX1_party 2 (some .boolean)) ic_R0 0 0 1 := cwV 1 hts (lw_V q156 q158 qs6 q13 q159) rfl rfl rfl (by decide +kernel) hR
theorem cwM_count {R : Room} {s : State} {args : Array Value} (hts : ∀ w ∈ lw_all, w.before args s = true) (hR : ic_R0.frames + 1 ≤ R.frames ∧ 8 + (4 + 11) + ic_R0.locals ≤ R.locals) : CallW R s args RX1 RX1 28 yX1_count cX1_count 4 (some .int) (ws_ yX1_count cX1_count 4 (some .int)) ic_R0 0 0 1 := cwV 1 hts (lw_V q160 q162 qs7 q13 q163) rfl rfl rfl (by decide +kernel) hR
theorem cwM_is {R : Room} {s : State} {args : Array Value} (hts : ∀ w ∈ lw_all, w.before args s = true) (hR : ic_R0.frames + 1 ≤ R.frames ∧ 8 + (2 + 11) + ic_R0.locals ≤ R.locals) : CallW R s args RX1 RX1 38 yX1_is cX1_is 2 (some .boolean) (ws_ yX1_is cX1_is 2 (some .boolean)) ic_R0 0 0 1 := cwV 1 hts (lw_V q176 q178 qs8 q13 q179) rfl rfl rfl (by decide +kernel) hR
theorem cwM_follows {R : Room} {s : State} {args : Array Value} (hts : ∀ w ∈ lw_all, w.before args s = true) (hR : ic_R0.frames + 1 ≤ R.frames ∧ 8 + (3 + 11) + ic_R0.locals ≤ R.locals) : CallW R s args RX1 RX1 41 yX1_follows cX1_follows 3 (some .boolean) (ws_ yX1_follows cX1_follows 3 (some .boolean)) ic_R0 0 0 2 := cwV 2 hts (lw_V q180 q182 qs9 q13 q183) rfl rfl rfl (by decide +kernel) hR
theorem cwM_slots {R : Room} {s : State} {args : Array Value} (hts : ∀ w ∈ lw_all, w.before args s = true) (hR : ic_R0.frames + 1 ≤ R.frames ∧ 8 + (4 + 11) + ic_R0.locals ≤ R.locals) : CallW R s args RX1 RX1 45 yX1_slots cX1_slots 4 (some .int) (ws_ yX1_slots cX1_slots 4 (some .int)) ic_R0 0 0 1 := cwV 1 hts (lw_V q197 q199 qs10 q13 q200) rfl rfl rfl (by decide +kernel) hR
set_option maxHeartbeats 4000000 in
set_option maxRecDepth 100000 in
theorem mM_compare (l : Launch) (D : va_G) (g gT gL gH gD : Nat) (cZ cJ cG cD : ClassId) (T : Nat → Bool) (lo hh : Nat → Int64) (had : Nat → Int32) (n : Nat) (x y : Int32) (F : Nat → Nat → Bool) (hF : ∀ x y, x < 16 → y < 16 → ic_fol lo hh x y = F x y) : Met l yX1_compare (ws_ yX1_compare cX1_compare 5 (some .int)) ic_R1 (ic_pM D g gT gL gH gD cZ cJ cG cD T lo hh had n [.int x, .int y]) (vp_Si (fun r => r = ic_cmp T F x y)) 0 0 (fun _ => False) := by
  refine ic_sM (by decide) rfl (Nat.le_of_ble_eq_true rfl) (fun v hv => rfl) ?_
  intro p e s m args below meth c ls Q hx hb hml hown hts hK hP hl hfin
  have hl : lv_has ls 5 [(0, .ref g), (1, .int x), (2, .int y)] := hl
  refine lv_aload_n hx hb dX1_compare_0 rfl (lv_at hl 0 rfl) ?_
  refine lv_iload_n hx hb dX1_compare_1 rfl (lv_at hl 1 rfl) ?_
  refine mc_i ⟨hx, hb, hml, hown, hts⟩ (mM_is l D g gT gL gH gD cZ cJ cG cD T lo hh had n x) (cwM_is hts ⟨Nat.le_of_ble_eq_true rfl, Nat.le_of_ble_eq_true rfl⟩) hK hP rfl hl.1 rfl (Nat.le_of_ble_eq_true rfl) dX1_compare_2 ⟨Nat.le_refl _, Nat.le_refl _⟩ (fun r er => ?_)
  subst er
  rcases ic_bool (ic_in T 16 x) with z | z
  · skip
    refine lv_if_eq (tgt := 16) hx hb dX1_compare_5 (by decide) (fun _ => ?_) (fun c9 => absurd (ic_b_f z) c9)
    refine lv_iconst (v := (-1)) hx hb dX1_compare_16 (by decide) ?_
    exact hfin _ 17 ls (ic_cmp_no (Or.inl z)).symm dX1_compare_17
  · skip
    refine lv_if_eq (tgt := 16) hx hb dX1_compare_5 (by decide) (fun c9 => absurd c9 (ic_b_t z)) (fun _ => ?_)
    refine lv_aload_n hx hb dX1_compare_8 rfl (lv_at hl 0 rfl) ?_
    refine lv_iload_n hx hb dX1_compare_9 rfl (lv_at hl 2 rfl) ?_
    refine mc_i ⟨hx, hb, hml, hown, hts⟩ (mM_is l D g gT gL gH gD cZ cJ cG cD T lo hh had n y) (cwM_is hts ⟨Nat.le_of_ble_eq_true rfl, Nat.le_of_ble_eq_true rfl⟩) hK hP rfl hl.1 rfl (Nat.le_of_ble_eq_true rfl) dX1_compare_10 ⟨Nat.le_refl _, Nat.le_refl _⟩ (fun r er => ?_)
    subst er
    rcases ic_bool (ic_in T 16 y) with z2 | z2
    · skip
      refine lv_if_ne (tgt := 18) hx hb dX1_compare_13 (by decide) (fun c9 => absurd (ic_b_f z2) c9) (fun _ => ?_)
      refine lv_iconst (v := (-1)) hx hb dX1_compare_16 (by decide) ?_
      exact hfin _ 17 ls (ic_cmp_no (Or.inr z2)).symm dX1_compare_17
    · skip
      refine lv_if_ne (tgt := 18) hx hb dX1_compare_13 (by decide) (fun _ => ?_) (fun c9 => absurd c9 (ic_b_t z2))
      obtain ⟨i, hi, rfl, t1⟩ := ic_in_of (by decide) z
      obtain ⟨j, hj, rfl, t2⟩ := ic_in_of (by decide) z2
      refine lv_aload_n hx hb dX1_compare_18 rfl (lv_at hl 0 rfl) ?_
      refine lv_iload_n hx hb dX1_compare_19 rfl (lv_at hl 1 rfl) ?_
      refine lv_iload_n hx hb dX1_compare_20 rfl (lv_at hl 2 rfl) ?_
      refine mc_i ⟨hx, hb, hml, hown, hts⟩ (mM_follows l D g gT gL gH gD cZ cJ cG cD T lo hh had n i j hi hj) (cwM_follows hts ⟨Nat.le_of_ble_eq_true rfl, Nat.le_of_ble_eq_true rfl⟩) hK hP rfl hl.1 rfl (Nat.le_of_ble_eq_true rfl) dX1_compare_21 ⟨Nat.le_refl _, Nat.le_refl _⟩ (fun r er => ?_)
      subst er
      refine ic_top (congrArg ic_b (hF i j hi hj)) ?_
      refine lv_istore_n (lv' := [(3, .int (ic_b (F i j))), (0, .ref g), (1, .int (nI i)), (2, .int (nI j))]) hx hb dX1_compare_24 rfl hl (by decide) rfl (fun ls hl => ?_)
      refine lv_aload_n hx hb dX1_compare_25 rfl (lv_at hl 1 rfl) ?_
      refine lv_iload_n hx hb dX1_compare_26 rfl (lv_at hl 3 rfl) ?_
      refine lv_iload_n hx hb dX1_compare_27 rfl (lv_at hl 2 rfl) ?_
      refine mc_i ⟨hx, hb, hml, hown, hts⟩ (mM_follows l D g gT gL gH gD cZ cJ cG cD T lo hh had n j i hj hi) (cwM_follows hts ⟨Nat.le_of_ble_eq_true rfl, Nat.le_of_ble_eq_true rfl⟩) hK hP rfl hl.1 rfl (Nat.le_of_ble_eq_true rfl) dX1_compare_28 ⟨Nat.le_refl _, Nat.le_refl _⟩ (fun r er => ?_)
      subst er
      refine ic_top (congrArg ic_b (hF j i hj hi)) ?_
      refine lv_istore (lv' := [(4, .int (ic_b (F j i))), (3, .int (ic_b (F i j))), (0, .ref g), (1, .int (nI i)), (2, .int (nI j))]) hx hb dX1_compare_31 hl (by decide) rfl (fun ls hl => ?_)
      refine lv_iload_n hx hb dX1_compare_33 rfl (lv_at hl 1 rfl) ?_
      rcases ic_bool (F i j) with f1 | f1
      · skip
        refine lv_if_eq (tgt := 46) hx hb dX1_compare_34 (by decide) (fun _ => ?_) (fun c9 => absurd (ic_b_f f1) c9)
        refine lv_iload_n hx hb dX1_compare_46 rfl (lv_at hl 1 rfl) ?_
        refine lv_if_eq (tgt := 54) hx hb dX1_compare_47 (by decide) (fun _ => ?_) (fun c9 => absurd (ic_b_f f1) c9)
        refine lv_iload hx hb dX1_compare_54 (lv_at hl 0 rfl) ?_
        rcases ic_bool (F j i) with f2 | f2
        · skip
          refine lv_if_eq (tgt := 63) hx hb dX1_compare_56 (by decide) (fun _ => ?_) (fun c9 => absurd (ic_b_f f2) c9)
          refine lv_iconst (v := nI 3) hx hb dX1_compare_63 (by decide) ?_
          exact hfin _ 64 ls (ic_cmp_11 hi hj t1 t2 f1 f2).symm dX1_compare_64
        · skip
          refine lv_if_eq (tgt := 63) hx hb dX1_compare_56 (by decide) (fun c9 => absurd c9 (ic_b_t f2)) (fun _ => ?_)
          refine lv_iconst (v := nI 2) hx hb dX1_compare_59 (by decide) ?_
          refine lv_goto (tgt := 64) hx hb dX1_compare_60 (by decide) ?_
          exact hfin _ 64 ls (ic_cmp_10 hi hj t1 t2 f1 f2).symm dX1_compare_64
      · skip
        refine lv_if_eq (tgt := 46) hx hb dX1_compare_34 (by decide) (fun c9 => absurd c9 (ic_b_t f1)) (fun _ => ?_)
        refine lv_iload hx hb dX1_compare_37 (lv_at hl 0 rfl) ?_
        rcases ic_bool (F j i) with f2 | f2
        · skip
          refine lv_if_eq (tgt := 46) hx hb dX1_compare_39 (by decide) (fun _ => ?_) (fun c9 => absurd (ic_b_f f2) c9)
          refine lv_iload_n hx hb dX1_compare_46 rfl (lv_at hl 1 rfl) ?_
          refine lv_if_eq (tgt := 54) hx hb dX1_compare_47 (by decide) (fun c9 => absurd c9 (ic_b_t f1)) (fun _ => ?_)
          refine lv_iconst (v := nI 1) hx hb dX1_compare_50 (by decide) ?_
          refine lv_goto (tgt := 64) hx hb dX1_compare_51 (by decide) ?_
          exact hfin _ 64 ls (ic_cmp_01 hi hj t1 t2 f1 f2).symm dX1_compare_64
        · skip
          refine lv_if_eq (tgt := 46) hx hb dX1_compare_39 (by decide) (fun c9 => absurd c9 (ic_b_t f2)) (fun _ => ?_)
          refine lv_iconst (v := nI 0) hx hb dX1_compare_42 (by decide) ?_
          refine lv_goto (tgt := 64) hx hb dX1_compare_43 (by decide) ?_
          exact hfin _ 64 ls (ic_cmp_00 hi hj t1 t2 f1 f2).symm dX1_compare_64
theorem cwM_compare {R : Room} {s : State} {args : Array Value} (hts : ∀ w ∈ lw_all, w.before args s = true) (hR : ic_R1.frames + 1 ≤ R.frames ∧ 8 + (5 + 11) + ic_R1.locals ≤ R.locals) : CallW R s args RX1 RX1 48 yX1_compare cX1_compare 5 (some .int) (ws_ yX1_compare cX1_compare 5 (some .int)) ic_R1 0 0 2 := cwV 2 hts (lw_V q233 q214 q215 q13 q216) rfl rfl rfl (by decide +kernel) hR
set_option maxHeartbeats 4000000 in
set_option maxRecDepth 100000 in
theorem mM_parties (l : Launch) (D : va_G) (g gT gL gH gD : Nat) (cZ cJ cG cD : ClassId) (T : Nat → Bool) (lo hh : Nat → Int64) (had : Nat → Int32) (n : Nat)  : Met l yX1_parties (ws_ yX1_parties cX1_parties 1 (some .int)) ic_R1 (ic_pM D g gT gL gH gD cZ cJ cG cD T lo hh had n []) (vp_Si (fun r => r = ic_bs (fun i => T (0 + i)) 8)) 0 0 (fun _ => False) := by
  refine ic_sM (by decide) rfl (Nat.le_of_ble_eq_true rfl) (fun v hv => rfl) ?_
  intro p e s m args below meth c ls Q hx hb hml hown hts hK hP hl hfin
  have hl : lv_has ls 1 [(0, .ref g)] := hl
  refine lv_aload_n hx hb dX1_parties_0 rfl (lv_at hl 0 rfl) ?_
  refine lv_iconst (v := nI 0) hx hb dX1_parties_1 (by decide) ?_
  refine mc_i ⟨hx, hb, hml, hown, hts⟩ (mM_slots l D g gT gL gH gD cZ cJ cG cD T lo hh had n 0 (by decide)) (cwM_slots hts ⟨Nat.le_of_ble_eq_true rfl, Nat.le_of_ble_eq_true rfl⟩) hK hP rfl hl.1 rfl (Nat.le_of_ble_eq_true rfl) dX1_parties_2 ⟨Nat.le_refl _, Nat.le_refl _⟩ (fun r er => ?_)
  subst er
  exact hfin _ 5 ls rfl dX1_parties_5
set_option maxHeartbeats 4000000 in
set_option maxRecDepth 100000 in
theorem mM_notes (l : Launch) (D : va_G) (g gT gL gH gD : Nat) (cZ cJ cG cD : ClassId) (T : Nat → Bool) (lo hh : Nat → Int64) (had : Nat → Int32) (n : Nat)  : Met l yX1_notes (ws_ yX1_notes cX1_notes 1 (some .int)) ic_R1 (ic_pM D g gT gL gH gD cZ cJ cG cD T lo hh had n []) (vp_Si (fun r => r = ic_bs (fun i => T (8 + i)) 8)) 0 0 (fun _ => False) := by
  refine ic_sM (by decide) rfl (Nat.le_of_ble_eq_true rfl) (fun v hv => rfl) ?_
  intro p e s m args below meth c ls Q hx hb hml hown hts hK hP hl hfin
  have hl : lv_has ls 1 [(0, .ref g)] := hl
  refine lv_aload_n hx hb dX1_notes_0 rfl (lv_at hl 0 rfl) ?_
  refine lv_bipush (v := nI 8) hx hb dX1_notes_1 (by decide) ?_
  refine mc_i ⟨hx, hb, hml, hown, hts⟩ (mM_slots l D g gT gL gH gD cZ cJ cG cD T lo hh had n 8 (by decide)) (cwM_slots hts ⟨Nat.le_of_ble_eq_true rfl, Nat.le_of_ble_eq_true rfl⟩) hK hP rfl hl.1 rfl (Nat.le_of_ble_eq_true rfl) dX1_notes_3 ⟨Nat.le_refl _, Nat.le_refl _⟩ (fun r er => ?_)
  subst er
  exact hfin _ 6 ls rfl dX1_notes_6
set_option maxHeartbeats 4000000 in
set_option maxRecDepth 100000 in
theorem mM_events (l : Launch) (D : va_G) (g gT gL gH gD : Nat) (cZ cJ cG cD : ClassId) (T : Nat → Bool) (lo hh : Nat → Int64) (had : Nat → Int32) (n : Nat)  : Met l yX1_events (ws_ yX1_events cX1_events 1 (some .int)) ic_R0 (ic_pM D g gT gL gH gD cZ cJ cG cD T lo hh had n []) (vp_Si (fun r => r = nI n)) 0 0 (fun _ => False) := by
  refine ic_sM (by decide) rfl (Nat.le_of_ble_eq_true rfl) (fun v hv => rfl) ?_
  intro p e s m args below meth c ls Q hx hb hml hown hts hK hP hl hfin
  have hl : lv_has ls 1 [(0, .ref g)] := hl
  refine lv_aload_n hx hb dX1_events_0 rfl (lv_at hl 0 rfl) ?_
  refine mg_n hx hb hts hown hK hP dX1_events_1 ?_
  exact hfin _ 4 ls rfl dX1_events_4
set_option maxHeartbeats 4000000 in
set_option maxRecDepth 100000 in
theorem mM_cells (l : Launch) (D : va_G) (g gT gL gH gD : Nat) (cZ cJ cG cD : ClassId) (T : Nat → Bool) (lo hh : Nat → Int64) (had : Nat → Int32) (n : Nat) (a : Int32) : Met l yX1_cells (ws_ yX1_cells cX1_cells 2 (some .int)) ic_R1 (ic_pM D g gT gL gH gD cZ cJ cG cD T lo hh had n [.int a]) (vp_Si (fun r => r = ic_cel T had a)) 0 0 (fun _ => False) := by
  refine ic_sM (by decide) rfl (Nat.le_of_ble_eq_true rfl) (fun v hv => rfl) ?_
  intro p e s m args below meth c ls Q hx hb hml hown hts hK hP hl hfin
  have hl : lv_has ls 2 [(0, .ref g), (1, .int a)] := hl
  refine lv_aload_n hx hb dX1_cells_0 rfl (lv_at hl 0 rfl) ?_
  refine lv_iload_n hx hb dX1_cells_1 rfl (lv_at hl 1 rfl) ?_
  refine mc_i ⟨hx, hb, hml, hown, hts⟩ (mM_party l D g gT gL gH gD cZ cJ cG cD T lo hh had n a) (cwM_party hts ⟨Nat.le_of_ble_eq_true rfl, Nat.le_of_ble_eq_true rfl⟩) hK hP rfl hl.1 rfl (Nat.le_of_ble_eq_true rfl) dX1_cells_2 ⟨Nat.le_refl _, Nat.le_refl _⟩ (fun r er => ?_)
  subst er
  rcases ic_bool (ic_in T 8 a) with z | z
  · skip
    refine lv_if_eq (tgt := 21) hx hb dX1_cells_5 (by decide) (fun _ => ?_) (fun c9 => absurd (ic_b_f z) c9)
    refine lv_iconst (v := (-1)) hx hb dX1_cells_21 (by decide) ?_
    exact hfin _ 22 ls (ic_cel_no z).symm dX1_cells_22
  · skip
    refine lv_if_eq (tgt := 21) hx hb dX1_cells_5 (by decide) (fun c9 => absurd c9 (ic_b_t z)) (fun _ => ?_)
    obtain ⟨j, hj, rfl, hT⟩ := ic_in_of (by decide) z
    refine lv_aload_n hx hb dX1_cells_8 rfl (lv_at hl 0 rfl) ?_
    refine lv_aload_n hx hb dX1_cells_9 rfl (lv_at hl 0 rfl) ?_
    refine mg_had hx hb hts hown hK hP dX1_cells_10 ?_
    refine lv_iload_n hx hb dX1_cells_13 rfl (lv_at hl 1 rfl) ?_
    refine md_ld hx hb hK hP (i := j) (by omega) dX1_cells_14 ?_
    refine mc_i ⟨hx, hb, hml, hown, hts⟩ (mM_count l D g gT gL gH gD cZ cJ cG cD T lo hh had n (had j)) (cwM_count hts ⟨Nat.le_of_ble_eq_true rfl, Nat.le_of_ble_eq_true rfl⟩) hK hP rfl hl.1 rfl (Nat.le_of_ble_eq_true rfl) dX1_cells_15 ⟨Nat.le_refl _, Nat.le_refl _⟩ (fun r er => ?_)
    subst er
    refine lv_goto (tgt := 22) hx hb dX1_cells_18 (by decide) ?_
    exact hfin _ 22 ls (ic_cel_ok hj hT).symm dX1_cells_22
set_option maxHeartbeats 4000000 in
set_option maxRecDepth 100000 in
theorem mM_behind (l : Launch) (D : va_G) (g gT gL gH gD : Nat) (cZ cJ cG cD : ClassId) (T : Nat → Bool) (lo hh : Nat → Int64) (had : Nat → Int32) (n : Nat) (x : Int32) (F : Nat → Nat → Bool) (hF : ∀ x y, x < 16 → y < 16 → ic_fol lo hh x y = F x y) : Met l yX1_behind (ws_ yX1_behind cX1_behind 4 (some .int)) ic_R1 (ic_pM D g gT gL gH gD cZ cJ cG cD T lo hh had n [.int x]) (vp_Si (fun r => r = ic_bh T F x)) 0 0 (fun _ => False) := by
  refine ic_sM (by decide) rfl (Nat.le_of_ble_eq_true rfl) (fun v hv => rfl) ?_
  intro p e s m args below meth c ls Q hx hb hml hown hts hK hP hl hfin
  have hl : lv_has ls 4 [(0, .ref g), (1, .int x)] := hl
  refine lv_iconst (v := nI 0) hx hb dX1_behind_0 (by decide) ?_
  refine lv_istore_n (lv' := [(2, .int (nI 0)), (0, .ref g), (1, .int x)]) hx hb dX1_behind_1 rfl hl (by decide) rfl (fun ls hl => ?_)
  refine lv_iconst (v := nI 0) hx hb dX1_behind_2 (by decide) ?_
  refine lv_istore_n (lv' := [(3, .int (nI 0)), (2, .int (nI 0)), (0, .ref g), (1, .int x)]) hx hb dX1_behind_3 rfl hl (by decide) rfl (fun ls hl => ?_)
  rcases ic_bool (ic_in T 16 x) with z | z
  · skip
    refine lv_iload_n hx hb dX1_behind_4 rfl (lv_at hl 0 rfl) ?_
    refine lv_bipush (v := nI 16) hx hb dX1_behind_5 (by decide) ?_
    refine lv_icmp_ge (tgt := 52) hx hb dX1_behind_7 (by decide) (fun c9 => absurd c9 (nI_ge (show 0 < 16 by decide) (by decide))) (fun _ => ?_)
    refine lv_aload_n hx hb dX1_behind_10 rfl (lv_at hl 2 rfl) ?_
    refine lv_iload_n hx hb dX1_behind_11 rfl (lv_at hl 3 rfl) ?_
    refine mc_i ⟨hx, hb, hml, hown, hts⟩ (mM_is l D g gT gL gH gD cZ cJ cG cD T lo hh had n x) (cwM_is hts ⟨Nat.le_of_ble_eq_true rfl, Nat.le_of_ble_eq_true rfl⟩) hK hP rfl hl.1 rfl (Nat.le_of_ble_eq_true rfl) dX1_behind_12 ⟨Nat.le_refl _, Nat.le_refl _⟩ (fun r er => ?_)
    subst er
    refine lv_if_eq (tgt := 52) hx hb dX1_behind_15 (by decide) (fun _ => ?_) (fun c9 => absurd (ic_b_f z) c9)
    refine lv_iload_n hx hb dX1_behind_52 rfl (lv_at hl 1 rfl) ?_
    exact hfin _ 53 ls (ic_bh_no z).symm dX1_behind_53
  · obtain ⟨j, hj, rfl, hT⟩ := ic_in_of (by decide) z
    have loop : ∀ (k i : Nat), i + k = 16 → ∀ (ls : Array Slot), lv_has ls 4 [(0, .ref g), (1, .int (nI j)), (2, .int (ic_bs (fun y => T y && F y j) i)), (3, .int (nI i))] → W p l e ic_R1 s m args below meth c s.heap [] 0 0 Q (F0 m 4 ls []) := by
      intro k
      induction k with
      | zero =>
        intro i hi ls hl
        obtain rfl : i = 16 := by omega
        refine lv_iload_n hx hb dX1_behind_4 rfl (lv_at hl 3 rfl) ?_
        refine lv_bipush (v := nI 16) hx hb dX1_behind_5 (by decide) ?_
        refine lv_icmp_ge (tgt := 52) hx hb dX1_behind_7 (by decide) (fun _ => ?_) (fun c9 => absurd (nI_le (Nat.le_refl 16) (by decide)) c9)
        refine lv_iload_n hx hb dX1_behind_52 rfl (lv_at hl 2 rfl) ?_
        exact hfin _ 53 ls (ic_bh_ok hj hT).symm dX1_behind_53
      | succ k ih =>
        intro i hi ls hl
        refine lv_iload_n hx hb dX1_behind_4 rfl (lv_at hl 3 rfl) ?_
        refine lv_bipush (v := nI 16) hx hb dX1_behind_5 (by decide) ?_
        refine lv_icmp_ge (tgt := 52) hx hb dX1_behind_7 (by decide) (fun c9 => absurd c9 (nI_ge (show i < 16 by omega) (by decide))) (fun _ => ?_)
        refine lv_aload_n hx hb dX1_behind_10 rfl (lv_at hl 0 rfl) ?_
        refine lv_iload_n hx hb dX1_behind_11 rfl (lv_at hl 1 rfl) ?_
        refine mc_i ⟨hx, hb, hml, hown, hts⟩ (mM_is l D g gT gL gH gD cZ cJ cG cD T lo hh had n (nI j)) (cwM_is hts ⟨Nat.le_of_ble_eq_true rfl, Nat.le_of_ble_eq_true rfl⟩) hK hP rfl hl.1 rfl (Nat.le_of_ble_eq_true rfl) dX1_behind_12 ⟨Nat.le_refl _, Nat.le_refl _⟩ (fun r er => ?_)
        subst er
        refine lv_if_eq (tgt := 52) hx hb dX1_behind_15 (by decide) (fun c9 => absurd c9 (ic_b_t (by rw [ic_in_nI hj (by decide)]; exact hT))) (fun _ => ?_)
        refine lv_aload_n hx hb dX1_behind_18 rfl (lv_at hl 0 rfl) ?_
        refine mg_T hx hb hts hown hK hP dX1_behind_19 ?_
        refine lv_iload_n hx hb dX1_behind_22 rfl (lv_at hl 3 rfl) ?_
        refine mT_ld hx hb hK hP (i := i) (by omega) dX1_behind_23 ?_
        rcases ic_bool (T i) with f1 | f1
        · skip
          refine lv_if_eq (tgt := 44) hx hb dX1_behind_24 (by decide) (fun _ => ?_) (fun c9 => absurd (ic_b_f f1) c9)
          refine lv_iload_n hx hb dX1_behind_44 rfl (lv_at hl 2 rfl) ?_
          refine ic_top (ic_bs_f (p := fun y => T y && F y j) (by show (T i && _) = false; rw [f1]; rfl)).symm ?_
          refine lv_istore_n (lv' := [(2, .int (ic_bs (fun y => T y && F y j) (i + 1))), (0, .ref g), (1, .int (nI j)), (3, .int (nI i))]) hx hb dX1_behind_45 rfl hl (by decide) rfl (fun ls hl => ?_)
          refine lv_iinc (v := nI (i + 1)) (lv' := [(3, .int (nI (i + 1))), (2, .int (ic_bs (fun y => T y && F y j) (i + 1))), (0, .ref g), (1, .int (nI j))]) hx hb dX1_behind_46 hl (k := 3) rfl (nI_1 _) (by decide) rfl (fun ls hl => ?_)
          refine lv_goto (tgt := 4) hx hb dX1_behind_49 (by decide) ?_
          exact ih (i + 1) (by omega) ls (lv_sub hl [2, 3, 1, 0] rfl)
        · skip
          refine lv_if_eq (tgt := 44) hx hb dX1_behind_24 (by decide) (fun c9 => absurd c9 (ic_b_t f1)) (fun _ => ?_)
          refine lv_aload_n hx hb dX1_behind_27 rfl (lv_at hl 0 rfl) ?_
          refine lv_iload_n hx hb dX1_behind_28 rfl (lv_at hl 3 rfl) ?_
          refine lv_iload_n hx hb dX1_behind_29 rfl (lv_at hl 1 rfl) ?_
          refine mc_i ⟨hx, hb, hml, hown, hts⟩ (mM_follows l D g gT gL gH gD cZ cJ cG cD T lo hh had n i j (show i < 16 by omega) hj) (cwM_follows hts ⟨Nat.le_of_ble_eq_true rfl, Nat.le_of_ble_eq_true rfl⟩) hK hP rfl hl.1 rfl (Nat.le_of_ble_eq_true rfl) dX1_behind_30 ⟨Nat.le_refl _, Nat.le_refl _⟩ (fun r er => ?_)
          subst er
          refine ic_top (congrArg ic_b (hF i j (show i < 16 by omega) hj)) ?_
          rcases ic_bool (F i j) with f2 | f2
          · skip
            refine lv_if_eq (tgt := 44) hx hb dX1_behind_33 (by decide) (fun _ => ?_) (fun c9 => absurd (ic_b_f f2) c9)
            refine lv_iload_n hx hb dX1_behind_44 rfl (lv_at hl 2 rfl) ?_
            refine ic_top (ic_bs_f (p := fun y => T y && F y j) (by show (T i && F i j) = false; rw [f1, f2]; rfl)).symm ?_
            refine lv_istore_n (lv' := [(2, .int (ic_bs (fun y => T y && F y j) (i + 1))), (0, .ref g), (1, .int (nI j)), (3, .int (nI i))]) hx hb dX1_behind_45 rfl hl (by decide) rfl (fun ls hl => ?_)
            refine lv_iinc (v := nI (i + 1)) (lv' := [(3, .int (nI (i + 1))), (2, .int (ic_bs (fun y => T y && F y j) (i + 1))), (0, .ref g), (1, .int (nI j))]) hx hb dX1_behind_46 hl (k := 3) rfl (nI_1 _) (by decide) rfl (fun ls hl => ?_)
            refine lv_goto (tgt := 4) hx hb dX1_behind_49 (by decide) ?_
            exact ih (i + 1) (by omega) ls (lv_sub hl [2, 3, 1, 0] rfl)
          · skip
            refine lv_if_eq (tgt := 44) hx hb dX1_behind_33 (by decide) (fun c9 => absurd c9 (ic_b_t f2)) (fun _ => ?_)
            refine lv_iload_n hx hb dX1_behind_36 rfl (lv_at hl 2 rfl) ?_
            refine lv_iconst (v := nI 1) hx hb dX1_behind_37 (by decide) ?_
            refine lv_iload_n hx hb dX1_behind_38 rfl (lv_at hl 3 rfl) ?_
            refine lv_ishl hx hb dX1_behind_39 ?_
            refine ic_top (show _ = ic_sh i from rfl) ?_
            refine lv_ior hx hb dX1_behind_40 ?_
            refine ic_top (ic_bs_t (p := fun y => T y && F y j) (by show (T i && F i j) = true; rw [f1, f2]; rfl)).symm ?_
            refine lv_goto (tgt := 45) hx hb dX1_behind_41 (by decide) ?_
            refine lv_istore_n (lv' := [(2, .int (ic_bs (fun y => T y && F y j) (i + 1))), (0, .ref g), (1, .int (nI j)), (3, .int (nI i))]) hx hb dX1_behind_45 rfl hl (by decide) rfl (fun ls hl => ?_)
            refine lv_iinc (v := nI (i + 1)) (lv' := [(3, .int (nI (i + 1))), (2, .int (ic_bs (fun y => T y && F y j) (i + 1))), (0, .ref g), (1, .int (nI j))]) hx hb dX1_behind_46 hl (k := 3) rfl (nI_1 _) (by decide) rfl (fun ls hl => ?_)
            refine lv_goto (tgt := 4) hx hb dX1_behind_49 (by decide) ?_
            exact ih (i + 1) (by omega) ls (lv_sub hl [2, 3, 1, 0] rfl)
    exact loop 16 0 rfl ls (lv_sub hl [2, 3, 1, 0] rfl)
set_option maxHeartbeats 4000000 in
set_option maxRecDepth 100000 in
theorem mM_newest (l : Launch) (D : va_G) (g gT gL gH gD : Nat) (cZ cJ cG cD : ClassId) (T : Nat → Bool) (lo hh : Nat → Int64) (had : Nat → Int32) (n : Nat)  (F : Nat → Nat → Bool) (hF : ∀ x y, x < 16 → y < 16 → ic_fol lo hh x y = F x y) : Met l yX1_newest (ws_ yX1_newest cX1_newest 5 (some .int)) ic_R1 (ic_pM D g gT gL gH gD cZ cJ cG cD T lo hh had n []) (vp_Si (fun r => r = ic_bs (ic_nw T F) 16)) 0 0 (fun _ => False) := by
  refine ic_sM (by decide) rfl (Nat.le_of_ble_eq_true rfl) (fun v hv => rfl) ?_
  intro p e s m args below meth c ls Q hx hb hml hown hts hK hP hl hfin
  have hl : lv_has ls 5 [(0, .ref g)] := hl
  refine lv_iconst (v := nI 0) hx hb dX1_newest_0 (by decide) ?_
  refine lv_istore_n (lv' := [(1, .int (nI 0)), (0, .ref g)]) hx hb dX1_newest_1 rfl hl (by decide) rfl (fun ls hl => ?_)
  refine lv_iconst (v := nI 0) hx hb dX1_newest_2 (by decide) ?_
  refine lv_istore_n (lv' := [(2, .int (nI 0)), (1, .int (nI 0)), (0, .ref g)]) hx hb dX1_newest_3 rfl hl (by decide) rfl (fun ls hl => ?_)
  have loop : ∀ (k x : Nat), x + k = 16 → ∀ (ls : Array Slot), lv_has ls 5 [(0, .ref g), (1, .int (ic_bs (ic_nw T F) x)), (2, .int (nI x))] → W p l e ic_R1 s m args below meth c s.heap [] 0 0 Q (F0 m 4 ls []) := by
    intro k
    induction k with
    | zero =>
      intro x hi ls hl
      obtain rfl : x = 16 := by omega
      refine lv_iload_n hx hb dX1_newest_4 rfl (lv_at hl 2 rfl) ?_
      refine lv_bipush (v := nI 16) hx hb dX1_newest_5 (by decide) ?_
      refine lv_icmp_ge (tgt := 93) hx hb dX1_newest_7 (by decide) (fun _ => ?_) (fun c9 => absurd (nI_le (Nat.le_refl 16) (by decide)) c9)
      refine lv_iload_n hx hb dX1_newest_93 rfl (lv_at hl 1 rfl) ?_
      exact hfin _ 94 ls rfl dX1_newest_94
    | succ k ih =>
      intro x hi ls hl
      refine lv_iload_n hx hb dX1_newest_4 rfl (lv_at hl 2 rfl) ?_
      refine lv_bipush (v := nI 16) hx hb dX1_newest_5 (by decide) ?_
      refine lv_icmp_ge (tgt := 93) hx hb dX1_newest_7 (by decide) (fun c9 => absurd c9 (nI_ge (show x < 16 by omega) (by decide))) (fun _ => ?_)
      have hx0 : x < 16 := by omega
      refine lv_aload_n hx hb dX1_newest_10 rfl (lv_at hl 0 rfl) ?_
      refine mg_T hx hb hts hown hK hP dX1_newest_11 ?_
      refine lv_iload_n hx hb dX1_newest_14 rfl (lv_at hl 2 rfl) ?_
      refine mT_ld hx hb hK hP (i := x) (by omega) dX1_newest_15 ?_
      refine lv_istore_n (lv' := [(3, .int (ic_b (T x))), (0, .ref g), (1, .int (ic_bs (ic_nw T F) x)), (2, .int (nI x))]) hx hb dX1_newest_16 rfl hl (by decide) rfl (fun ls hl => ?_)
      refine lv_iconst (v := nI 0) hx hb dX1_newest_17 (by decide) ?_
      refine lv_istore (lv' := [(4, .int (nI 0)), (3, .int (ic_b (T x))), (0, .ref g), (1, .int (ic_bs (ic_nw T F) x)), (2, .int (nI x))]) hx hb dX1_newest_18 hl (by decide) rfl (fun ls hl => ?_)
      have loop2 : ∀ (k y : Nat), y + k = 16 → ∀ (ls : Array Slot), lv_has ls 5 [(0, .ref g), (1, .int (ic_bs (ic_nw T F) x)), (2, .int (nI x)), (3, .int (ic_b (T x && ic_nb T F x y))), (4, .int (nI y))] → W p l e ic_R1 s m args below meth c s.heap [] 0 0 Q (F0 m 20 ls []) := by
        intro k2
        induction k2 with
        | zero =>
          intro y hi ls hl
          obtain rfl : y = 16 := by omega
          refine lv_iload hx hb dX1_newest_20 (lv_at hl 4 rfl) ?_
          refine lv_bipush (v := nI 16) hx hb dX1_newest_22 (by decide) ?_
          refine lv_icmp_ge (tgt := 73) hx hb dX1_newest_24 (by decide) (fun _ => ?_) (fun c9 => absurd (nI_le (Nat.le_refl 16) (by decide)) c9)
          refine lv_iload_n hx hb dX1_newest_73 rfl (lv_at hl 3 rfl) ?_
          rcases ic_bool (T x && ic_nb T F x 16) with q | q
          · skip
            refine lv_if_eq (tgt := 85) hx hb dX1_newest_74 (by decide) (fun _ => ?_) (fun c9 => absurd (ic_b_f q) c9)
            refine lv_iload_n hx hb dX1_newest_85 rfl (lv_at hl 1 rfl) ?_
            refine ic_top (ic_bs_f (p := ic_nw T F) q).symm ?_
            refine lv_istore_n (lv' := [(1, .int (ic_bs (ic_nw T F) (x + 1))), (0, .ref g), (2, .int (nI x)), (3, .int (ic_b (T x && ic_nb T F x 16))), (4, .int (nI 16))]) hx hb dX1_newest_86 rfl hl (by decide) rfl (fun ls hl => ?_)
            refine lv_iinc (v := nI (x + 1)) (lv' := [(2, .int (nI (x + 1))), (1, .int (ic_bs (ic_nw T F) (x + 1))), (0, .ref g), (3, .int (ic_b (T x && ic_nb T F x 16))), (4, .int (nI 16))]) hx hb dX1_newest_87 hl (k := 2) rfl (nI_1 _) (by decide) rfl (fun ls hl => ?_)
            refine lv_goto (tgt := 4) hx hb dX1_newest_90 (by decide) ?_
            exact ih (x + 1) (by omega) ls (lv_sub hl [2, 1, 0] rfl)
          · skip
            refine lv_if_eq (tgt := 85) hx hb dX1_newest_74 (by decide) (fun c9 => absurd c9 (ic_b_t q)) (fun _ => ?_)
            refine lv_iload_n hx hb dX1_newest_77 rfl (lv_at hl 1 rfl) ?_
            refine lv_iconst (v := nI 1) hx hb dX1_newest_78 (by decide) ?_
            refine lv_iload_n hx hb dX1_newest_79 rfl (lv_at hl 2 rfl) ?_
            refine lv_ishl hx hb dX1_newest_80 ?_
            refine ic_top (show _ = ic_sh x from rfl) ?_
            refine lv_ior hx hb dX1_newest_81 ?_
            refine ic_top (ic_bs_t (p := ic_nw T F) q).symm ?_
            refine lv_goto (tgt := 86) hx hb dX1_newest_82 (by decide) ?_
            refine lv_istore_n (lv' := [(1, .int (ic_bs (ic_nw T F) (x + 1))), (0, .ref g), (2, .int (nI x)), (3, .int (ic_b (T x && ic_nb T F x 16))), (4, .int (nI 16))]) hx hb dX1_newest_86 rfl hl (by decide) rfl (fun ls hl => ?_)
            refine lv_iinc (v := nI (x + 1)) (lv' := [(2, .int (nI (x + 1))), (1, .int (ic_bs (ic_nw T F) (x + 1))), (0, .ref g), (3, .int (ic_b (T x && ic_nb T F x 16))), (4, .int (nI 16))]) hx hb dX1_newest_87 hl (k := 2) rfl (nI_1 _) (by decide) rfl (fun ls hl => ?_)
            refine lv_goto (tgt := 4) hx hb dX1_newest_90 (by decide) ?_
            exact ih (x + 1) (by omega) ls (lv_sub hl [2, 1, 0] rfl)
        | succ k2 ih2 =>
          intro y hi ls hl
          refine lv_iload hx hb dX1_newest_20 (lv_at hl 4 rfl) ?_
          refine lv_bipush (v := nI 16) hx hb dX1_newest_22 (by decide) ?_
          refine lv_icmp_ge (tgt := 73) hx hb dX1_newest_24 (by decide) (fun c9 => absurd c9 (nI_ge (show y < 16 by omega) (by decide))) (fun _ => ?_)
          have hy0 : y < 16 := by omega
          refine lv_iload_n hx hb dX1_newest_27 rfl (lv_at hl 3 rfl) ?_
          have hn1 : ic_nb T F x (y + 1) = (ic_nb T F x y && !(T y && F x y && !F y x)) := rfl
          rcases ic_bool (T x && ic_nb T F x y) with q | q
          · skip
            refine lv_if_eq (tgt := 65) hx hb dX1_newest_28 (by decide) (fun _ => ?_) (fun c9 => absurd (ic_b_f q) c9)
            refine lv_iconst (v := nI 0) hx hb dX1_newest_65 (by decide) ?_
            refine ic_top (show _ = ic_b (T x && ic_nb T F x (y + 1)) from by rw [hn1, ← Bool.and_assoc, q]; rfl) ?_
            refine lv_istore_n (lv' := [(3, .int (ic_b (T x && ic_nb T F x (y + 1)))), (0, .ref g), (1, .int (ic_bs (ic_nw T F) x)), (2, .int (nI x)), (4, .int (nI y))]) hx hb dX1_newest_66 rfl hl (by decide) rfl (fun ls hl => ?_)
            refine lv_iinc (v := nI (y + 1)) (lv' := [(4, .int (nI (y + 1))), (3, .int (ic_b (T x && ic_nb T F x (y + 1)))), (0, .ref g), (1, .int (ic_bs (ic_nw T F) x)), (2, .int (nI x))]) hx hb dX1_newest_67 hl (k := 4) rfl (nI_1 _) (by decide) rfl (fun ls hl => ?_)
            refine lv_goto (tgt := 20) hx hb dX1_newest_70 (by decide) ?_
            exact ih2 (y + 1) (by omega) ls (lv_sub hl [2, 3, 4, 1, 0] rfl)
          · skip
            refine lv_if_eq (tgt := 65) hx hb dX1_newest_28 (by decide) (fun c9 => absurd c9 (ic_b_t q)) (fun _ => ?_)
            refine lv_aload_n hx hb dX1_newest_31 rfl (lv_at hl 0 rfl) ?_
            refine mg_T hx hb hts hown hK hP dX1_newest_32 ?_
            refine lv_iload hx hb dX1_newest_35 (lv_at hl 4 rfl) ?_
            refine mT_ld hx hb hK hP (i := y) (by omega) dX1_newest_37 ?_
            rcases ic_bool (T y) with f1 | f1
            · skip
              refine lv_if_eq (tgt := 61) hx hb dX1_newest_38 (by decide) (fun _ => ?_) (fun c9 => absurd (ic_b_f f1) c9)
              refine lv_iconst (v := nI 1) hx hb dX1_newest_61 (by decide) ?_
              refine lv_goto (tgt := 66) hx hb dX1_newest_62 (by decide) ?_
              refine ic_top (show _ = ic_b (T x && ic_nb T F x (y + 1)) from by rw [hn1, ← Bool.and_assoc, q, f1]; rfl) ?_
              refine lv_istore_n (lv' := [(3, .int (ic_b (T x && ic_nb T F x (y + 1)))), (0, .ref g), (1, .int (ic_bs (ic_nw T F) x)), (2, .int (nI x)), (4, .int (nI y))]) hx hb dX1_newest_66 rfl hl (by decide) rfl (fun ls hl => ?_)
              refine lv_iinc (v := nI (y + 1)) (lv' := [(4, .int (nI (y + 1))), (3, .int (ic_b (T x && ic_nb T F x (y + 1)))), (0, .ref g), (1, .int (ic_bs (ic_nw T F) x)), (2, .int (nI x))]) hx hb dX1_newest_67 hl (k := 4) rfl (nI_1 _) (by decide) rfl (fun ls hl => ?_)
              refine lv_goto (tgt := 20) hx hb dX1_newest_70 (by decide) ?_
              exact ih2 (y + 1) (by omega) ls (lv_sub hl [2, 3, 4, 1, 0] rfl)
            · skip
              refine lv_if_eq (tgt := 61) hx hb dX1_newest_38 (by decide) (fun c9 => absurd c9 (ic_b_t f1)) (fun _ => ?_)
              refine lv_aload_n hx hb dX1_newest_41 rfl (lv_at hl 0 rfl) ?_
              refine lv_iload_n hx hb dX1_newest_42 rfl (lv_at hl 2 rfl) ?_
              refine lv_iload hx hb dX1_newest_43 (lv_at hl 4 rfl) ?_
              refine mc_i ⟨hx, hb, hml, hown, hts⟩ (mM_follows l D g gT gL gH gD cZ cJ cG cD T lo hh had n x y hx0 hy0) (cwM_follows hts ⟨Nat.le_of_ble_eq_true rfl, Nat.le_of_ble_eq_true rfl⟩) hK hP rfl hl.1 rfl (Nat.le_of_ble_eq_true rfl) dX1_newest_45 ⟨Nat.le_refl _, Nat.le_refl _⟩ (fun r er => ?_)
              subst er
              refine ic_top (congrArg ic_b (hF x y hx0 hy0)) ?_
              rcases ic_bool (F x y) with f2 | f2
              · skip
                refine lv_if_eq (tgt := 61) hx hb dX1_newest_48 (by decide) (fun _ => ?_) (fun c9 => absurd (ic_b_f f2) c9)
                refine lv_iconst (v := nI 1) hx hb dX1_newest_61 (by decide) ?_
                refine lv_goto (tgt := 66) hx hb dX1_newest_62 (by decide) ?_
                refine ic_top (show _ = ic_b (T x && ic_nb T F x (y + 1)) from by rw [hn1, ← Bool.and_assoc, q, f1, f2]; rfl) ?_
                refine lv_istore_n (lv' := [(3, .int (ic_b (T x && ic_nb T F x (y + 1)))), (0, .ref g), (1, .int (ic_bs (ic_nw T F) x)), (2, .int (nI x)), (4, .int (nI y))]) hx hb dX1_newest_66 rfl hl (by decide) rfl (fun ls hl => ?_)
                refine lv_iinc (v := nI (y + 1)) (lv' := [(4, .int (nI (y + 1))), (3, .int (ic_b (T x && ic_nb T F x (y + 1)))), (0, .ref g), (1, .int (ic_bs (ic_nw T F) x)), (2, .int (nI x))]) hx hb dX1_newest_67 hl (k := 4) rfl (nI_1 _) (by decide) rfl (fun ls hl => ?_)
                refine lv_goto (tgt := 20) hx hb dX1_newest_70 (by decide) ?_
                exact ih2 (y + 1) (by omega) ls (lv_sub hl [2, 3, 4, 1, 0] rfl)
              · skip
                refine lv_if_eq (tgt := 61) hx hb dX1_newest_48 (by decide) (fun c9 => absurd c9 (ic_b_t f2)) (fun _ => ?_)
                refine lv_aload_n hx hb dX1_newest_51 rfl (lv_at hl 0 rfl) ?_
                refine lv_iload hx hb dX1_newest_52 (lv_at hl 4 rfl) ?_
                refine lv_iload_n hx hb dX1_newest_54 rfl (lv_at hl 2 rfl) ?_
                refine mc_i ⟨hx, hb, hml, hown, hts⟩ (mM_follows l D g gT gL gH gD cZ cJ cG cD T lo hh had n y x hy0 hx0) (cwM_follows hts ⟨Nat.le_of_ble_eq_true rfl, Nat.le_of_ble_eq_true rfl⟩) hK hP rfl hl.1 rfl (Nat.le_of_ble_eq_true rfl) dX1_newest_55 ⟨Nat.le_refl _, Nat.le_refl _⟩ (fun r er => ?_)
                subst er
                refine ic_top (congrArg ic_b (hF y x hy0 hx0)) ?_
                rcases ic_bool (F y x) with f3 | f3
                · skip
                  refine lv_if_eq (tgt := 65) hx hb dX1_newest_58 (by decide) (fun _ => ?_) (fun c9 => absurd (ic_b_f f3) c9)
                  refine lv_iconst (v := nI 0) hx hb dX1_newest_65 (by decide) ?_
                  refine ic_top (show _ = ic_b (T x && ic_nb T F x (y + 1)) from by rw [hn1, ← Bool.and_assoc, q, f1, f2, f3]; rfl) ?_
                  refine lv_istore_n (lv' := [(3, .int (ic_b (T x && ic_nb T F x (y + 1)))), (0, .ref g), (1, .int (ic_bs (ic_nw T F) x)), (2, .int (nI x)), (4, .int (nI y))]) hx hb dX1_newest_66 rfl hl (by decide) rfl (fun ls hl => ?_)
                  refine lv_iinc (v := nI (y + 1)) (lv' := [(4, .int (nI (y + 1))), (3, .int (ic_b (T x && ic_nb T F x (y + 1)))), (0, .ref g), (1, .int (ic_bs (ic_nw T F) x)), (2, .int (nI x))]) hx hb dX1_newest_67 hl (k := 4) rfl (nI_1 _) (by decide) rfl (fun ls hl => ?_)
                  refine lv_goto (tgt := 20) hx hb dX1_newest_70 (by decide) ?_
                  exact ih2 (y + 1) (by omega) ls (lv_sub hl [2, 3, 4, 1, 0] rfl)
                · skip
                  refine lv_if_eq (tgt := 65) hx hb dX1_newest_58 (by decide) (fun c9 => absurd c9 (ic_b_t f3)) (fun _ => ?_)
                  refine lv_iconst (v := nI 1) hx hb dX1_newest_61 (by decide) ?_
                  refine lv_goto (tgt := 66) hx hb dX1_newest_62 (by decide) ?_
                  refine ic_top (show _ = ic_b (T x && ic_nb T F x (y + 1)) from by rw [hn1, ← Bool.and_assoc, q, f1, f2, f3]; rfl) ?_
                  refine lv_istore_n (lv' := [(3, .int (ic_b (T x && ic_nb T F x (y + 1)))), (0, .ref g), (1, .int (ic_bs (ic_nw T F) x)), (2, .int (nI x)), (4, .int (nI y))]) hx hb dX1_newest_66 rfl hl (by decide) rfl (fun ls hl => ?_)
                  refine lv_iinc (v := nI (y + 1)) (lv' := [(4, .int (nI (y + 1))), (3, .int (ic_b (T x && ic_nb T F x (y + 1)))), (0, .ref g), (1, .int (ic_bs (ic_nw T F) x)), (2, .int (nI x))]) hx hb dX1_newest_67 hl (k := 4) rfl (nI_1 _) (by decide) rfl (fun ls hl => ?_)
                  refine lv_goto (tgt := 20) hx hb dX1_newest_70 (by decide) ?_
                  exact ih2 (y + 1) (by omega) ls (lv_sub hl [2, 3, 4, 1, 0] rfl)
      have e0 : (T x && ic_nb T F x 0) = T x := Bool.and_true _
      exact loop2 16 0 rfl ls (by rw [e0]; exact (lv_sub hl [2, 3, 4, 1, 0] rfl))
  exact loop 16 0 rfl ls (lv_sub hl [2, 1, 0] rfl)
set_option maxHeartbeats 4000000 in
set_option maxRecDepth 100000 in
theorem mM_everywhere (l : Launch) (D : va_G) (g gT gL gH gD : Nat) (cZ cJ cG cD : ClassId) (T : Nat → Bool) (lo hh : Nat → Int64) (had : Nat → Int32) (n : Nat) (x : Int32) (F : Nat → Nat → Bool) (hF : ∀ x y, x < 16 → y < 16 → ic_fol lo hh x y = F x y) : Met l yX1_everywhere (ws_ yX1_everywhere cX1_everywhere 4 (some .boolean)) ic_R1 (ic_pM D g gT gL gH gD cZ cJ cG cD T lo hh had n [.int x]) (vp_Si (fun r => r = ic_evw T F x)) 0 0 (fun _ => False) := by
  refine ic_sM (by decide) rfl (Nat.le_of_ble_eq_true rfl) (fun v hv => by rw [hv]; exact ic_b_nar _) ?_
  intro p e s m args below meth c ls Q hx hb hml hown hts hK hP hl hfin
  have hl : lv_has ls 4 [(0, .ref g), (1, .int x)] := hl
  rcases pk_ix x (n := 8) (by decide) with z | z | ⟨j, hj, rfl⟩
  · skip
    refine lv_iload_n hx hb dX1_everywhere_0 rfl (lv_at hl 1 rfl) ?_
    refine lv_if_lt (tgt := 26) hx hb dX1_everywhere_1 (by decide) (fun _ => ?_) (fun c9 => absurd z c9)
    refine lv_iconst (v := nI 0) hx hb dX1_everywhere_26 (by decide) ?_
    refine lv_istore_n (lv' := [(2, .int (nI 0)), (0, .ref g), (1, .int x)]) hx hb dX1_everywhere_27 rfl hl (by decide) rfl (fun ls hl => ?_)
    refine lv_iconst (v := nI 0) hx hb dX1_everywhere_28 (by decide) ?_
    refine lv_istore_n (lv' := [(3, .int (nI 0)), (2, .int (nI 0)), (0, .ref g), (1, .int x)]) hx hb dX1_everywhere_29 rfl hl (by decide) rfl (fun ls hl => ?_)
    refine lv_iload_n hx hb dX1_everywhere_30 rfl (lv_at hl 0 rfl) ?_
    refine lv_bipush (v := nI 8) hx hb dX1_everywhere_31 (by decide) ?_
    refine lv_icmp_ge (tgt := 73) hx hb dX1_everywhere_33 (by decide) (fun c9 => absurd c9 (nI_ge (show 0 < 8 by decide) (by decide))) (fun _ => ?_)
    refine lv_iload_n hx hb dX1_everywhere_36 rfl (lv_at hl 1 rfl) ?_
    refine lv_if_eq (tgt := 73) hx hb dX1_everywhere_37 (by decide) (fun _ => ?_) (fun c9 => absurd rfl c9)
    refine lv_iload_n hx hb dX1_everywhere_73 rfl (lv_at hl 1 rfl) ?_
    exact hfin _ 74 ls (ic_evw_no (ic_in_neg z)).symm dX1_everywhere_74
  · have z2 : ¬ x < 0 := fun q => absurd (Int32.lt_of_le_of_lt z q) (by decide)
    refine lv_iload_n hx hb dX1_everywhere_0 rfl (lv_at hl 1 rfl) ?_
    refine lv_if_lt (tgt := 26) hx hb dX1_everywhere_1 (by decide) (fun c9 => absurd c9 z2) (fun _ => ?_)
    refine lv_iload_n hx hb dX1_everywhere_4 rfl (lv_at hl 1 rfl) ?_
    refine lv_bipush (v := nI 7) hx hb dX1_everywhere_5 (by decide) ?_
    refine lv_icmp_gt (tgt := 26) hx hb dX1_everywhere_7 (by decide) (fun _ => ?_) (fun c9 => absurd (Int32.lt_of_lt_of_le (show nI 7 < nI 8 by decide) z) c9)
    refine lv_iconst (v := nI 0) hx hb dX1_everywhere_26 (by decide) ?_
    refine lv_istore_n (lv' := [(2, .int (nI 0)), (0, .ref g), (1, .int x)]) hx hb dX1_everywhere_27 rfl hl (by decide) rfl (fun ls hl => ?_)
    refine lv_iconst (v := nI 0) hx hb dX1_everywhere_28 (by decide) ?_
    refine lv_istore_n (lv' := [(3, .int (nI 0)), (2, .int (nI 0)), (0, .ref g), (1, .int x)]) hx hb dX1_everywhere_29 rfl hl (by decide) rfl (fun ls hl => ?_)
    refine lv_iload_n hx hb dX1_everywhere_30 rfl (lv_at hl 0 rfl) ?_
    refine lv_bipush (v := nI 8) hx hb dX1_everywhere_31 (by decide) ?_
    refine lv_icmp_ge (tgt := 73) hx hb dX1_everywhere_33 (by decide) (fun c9 => absurd c9 (nI_ge (show 0 < 8 by decide) (by decide))) (fun _ => ?_)
    refine lv_iload_n hx hb dX1_everywhere_36 rfl (lv_at hl 1 rfl) ?_
    refine lv_if_eq (tgt := 73) hx hb dX1_everywhere_37 (by decide) (fun _ => ?_) (fun c9 => absurd rfl c9)
    refine lv_iload_n hx hb dX1_everywhere_73 rfl (lv_at hl 1 rfl) ?_
    exact hfin _ 74 ls (ic_evw_no (ic_in_big (by decide) z)).symm dX1_everywhere_74
  · skip
    refine lv_iload_n hx hb dX1_everywhere_0 rfl (lv_at hl 1 rfl) ?_
    refine lv_if_lt (tgt := 26) hx hb dX1_everywhere_1 (by decide) (fun c9 => absurd c9 (nI_pos (by omega))) (fun _ => ?_)
    refine lv_iload_n hx hb dX1_everywhere_4 rfl (lv_at hl 1 rfl) ?_
    refine lv_bipush (v := nI 7) hx hb dX1_everywhere_5 (by decide) ?_
    refine lv_icmp_gt (tgt := 26) hx hb dX1_everywhere_7 (by decide) (fun c9 => absurd c9 (nI_nlt (show j ≤ 7 by omega) (by decide))) (fun _ => ?_)
    refine lv_aload_n hx hb dX1_everywhere_10 rfl (lv_at hl 0 rfl) ?_
    refine mg_T hx hb hts hown hK hP dX1_everywhere_11 ?_
    refine lv_bipush (v := nI 8) hx hb dX1_everywhere_14 (by decide) ?_
    refine lv_iload_n hx hb dX1_everywhere_16 rfl (lv_at hl 1 rfl) ?_
    refine lv_iadd hx hb dX1_everywhere_17 ?_
    refine ic_top (nI_add _ _) ?_
    refine mT_ld hx hb hK hP (i := 8 + j) (by omega) dX1_everywhere_18 ?_
    rcases ic_bool (T (8 + j)) with q | q
    · skip
      refine lv_if_eq (tgt := 26) hx hb dX1_everywhere_19 (by decide) (fun _ => ?_) (fun c9 => absurd (ic_b_f q) c9)
      refine lv_iconst (v := nI 0) hx hb dX1_everywhere_26 (by decide) ?_
      refine lv_istore_n (lv' := [(2, .int (nI 0)), (0, .ref g), (1, .int (nI j))]) hx hb dX1_everywhere_27 rfl hl (by decide) rfl (fun ls hl => ?_)
      refine lv_iconst (v := nI 0) hx hb dX1_everywhere_28 (by decide) ?_
      refine lv_istore_n (lv' := [(3, .int (nI 0)), (2, .int (nI 0)), (0, .ref g), (1, .int (nI j))]) hx hb dX1_everywhere_29 rfl hl (by decide) rfl (fun ls hl => ?_)
      refine lv_iload_n hx hb dX1_everywhere_30 rfl (lv_at hl 0 rfl) ?_
      refine lv_bipush (v := nI 8) hx hb dX1_everywhere_31 (by decide) ?_
      refine lv_icmp_ge (tgt := 73) hx hb dX1_everywhere_33 (by decide) (fun c9 => absurd c9 (nI_ge (show 0 < 8 by decide) (by decide))) (fun _ => ?_)
      refine lv_iload_n hx hb dX1_everywhere_36 rfl (lv_at hl 1 rfl) ?_
      refine lv_if_eq (tgt := 73) hx hb dX1_everywhere_37 (by decide) (fun _ => ?_) (fun c9 => absurd rfl c9)
      refine lv_iload_n hx hb dX1_everywhere_73 rfl (lv_at hl 1 rfl) ?_
      exact hfin _ 74 ls (ic_evw_no (by rw [ic_in_nI hj (by decide)]; exact q)).symm dX1_everywhere_74
    · skip
      refine lv_if_eq (tgt := 26) hx hb dX1_everywhere_19 (by decide) (fun c9 => absurd c9 (ic_b_t q)) (fun _ => ?_)
      refine lv_iconst (v := nI 1) hx hb dX1_everywhere_22 (by decide) ?_
      refine lv_goto (tgt := 27) hx hb dX1_everywhere_23 (by decide) ?_
      refine lv_istore_n (lv' := [(2, .int (nI 1)), (0, .ref g), (1, .int (nI j))]) hx hb dX1_everywhere_27 rfl hl (by decide) rfl (fun ls hl => ?_)
      refine lv_iconst (v := nI 0) hx hb dX1_everywhere_28 (by decide) ?_
      refine lv_istore_n (lv' := [(3, .int (nI 0)), (2, .int (nI 1)), (0, .ref g), (1, .int (nI j))]) hx hb dX1_everywhere_29 rfl hl (by decide) rfl (fun ls hl => ?_)
      have loop : ∀ (k i : Nat), i + k = 8 → ∀ (ls : Array Slot), lv_has ls 4 [(0, .ref g), (1, .int (nI j)), (2, .int (ic_b (ic_al T F j i))), (3, .int (nI i))] → W p l e ic_R1 s m args below meth c s.heap [] 0 0 Q (F0 m 30 ls []) := by
        intro k
        induction k with
        | zero =>
          intro i hi ls hl
          obtain rfl : i = 8 := by omega
          refine lv_iload_n hx hb dX1_everywhere_30 rfl (lv_at hl 3 rfl) ?_
          refine lv_bipush (v := nI 8) hx hb dX1_everywhere_31 (by decide) ?_
          refine lv_icmp_ge (tgt := 73) hx hb dX1_everywhere_33 (by decide) (fun _ => ?_) (fun c9 => absurd (nI_le (Nat.le_refl 8) (by decide)) c9)
          refine lv_iload_n hx hb dX1_everywhere_73 rfl (lv_at hl 2 rfl) ?_
          exact hfin _ 74 ls (ic_evw_ok hj q).symm dX1_everywhere_74
        | succ k ih =>
          intro i hi ls hl
          refine lv_iload_n hx hb dX1_everywhere_30 rfl (lv_at hl 3 rfl) ?_
          refine lv_bipush (v := nI 8) hx hb dX1_everywhere_31 (by decide) ?_
          refine lv_icmp_ge (tgt := 73) hx hb dX1_everywhere_33 (by decide) (fun c9 => absurd c9 (nI_ge (show i < 8 by omega) (by decide))) (fun _ => ?_)
          refine lv_iload_n hx hb dX1_everywhere_36 rfl (lv_at hl 2 rfl) ?_
          have ha1 : ic_al T F j (i + 1) = (ic_al T F j i && (!T i || F (8 + j) i)) := rfl
          rcases ic_bool (ic_al T F j i) with f0 | f0
          · skip
            refine lv_if_eq (tgt := 73) hx hb dX1_everywhere_37 (by decide) (fun _ => ?_) (fun c9 => absurd (ic_b_f f0) c9)
            refine lv_iload_n hx hb dX1_everywhere_73 rfl (lv_at hl 2 rfl) ?_
            exact hfin _ 74 ls (by rw [ic_evw_ok hj q, f0, ic_al_mono f0 8 (by omega)]) dX1_everywhere_74
          · skip
            refine lv_if_eq (tgt := 73) hx hb dX1_everywhere_37 (by decide) (fun c9 => absurd c9 (ic_b_t f0)) (fun _ => ?_)
            refine lv_aload_n hx hb dX1_everywhere_40 rfl (lv_at hl 0 rfl) ?_
            refine mg_T hx hb hts hown hK hP dX1_everywhere_41 ?_
            refine lv_iload_n hx hb dX1_everywhere_44 rfl (lv_at hl 3 rfl) ?_
            refine mT_ld hx hb hK hP (i := i) (by omega) dX1_everywhere_45 ?_
            rcases ic_bool (T i) with f1 | f1
            · skip
              refine lv_if_eq (tgt := 61) hx hb dX1_everywhere_46 (by decide) (fun _ => ?_) (fun c9 => absurd (ic_b_f f1) c9)
              refine lv_iconst (v := nI 1) hx hb dX1_everywhere_61 (by decide) ?_
              refine lv_goto (tgt := 66) hx hb dX1_everywhere_62 (by decide) ?_
              refine ic_top (show _ = ic_b (ic_al T F j (i + 1)) from by rw [ha1, f0, f1]; rfl) ?_
              refine lv_istore_n (lv' := [(2, .int (ic_b (ic_al T F j (i + 1)))), (0, .ref g), (1, .int (nI j)), (3, .int (nI i))]) hx hb dX1_everywhere_66 rfl hl (by decide) rfl (fun ls hl => ?_)
              refine lv_iinc (v := nI (i + 1)) (lv' := [(3, .int (nI (i + 1))), (2, .int (ic_b (ic_al T F j (i + 1)))), (0, .ref g), (1, .int (nI j))]) hx hb dX1_everywhere_67 hl (k := 3) rfl (nI_1 _) (by decide) rfl (fun ls hl => ?_)
              refine lv_goto (tgt := 30) hx hb dX1_everywhere_70 (by decide) ?_
              exact ih (i + 1) (by omega) ls (lv_sub hl [2, 3, 1, 0] rfl)
            · skip
              refine lv_if_eq (tgt := 61) hx hb dX1_everywhere_46 (by decide) (fun c9 => absurd c9 (ic_b_t f1)) (fun _ => ?_)
              refine lv_aload_n hx hb dX1_everywhere_49 rfl (lv_at hl 0 rfl) ?_
              refine lv_bipush (v := nI 8) hx hb dX1_everywhere_50 (by decide) ?_
              refine lv_iload_n hx hb dX1_everywhere_52 rfl (lv_at hl 1 rfl) ?_
              refine lv_iadd hx hb dX1_everywhere_53 ?_
              refine ic_top (nI_add _ _) ?_
              refine lv_iload_n hx hb dX1_everywhere_54 rfl (lv_at hl 3 rfl) ?_
              refine mc_i ⟨hx, hb, hml, hown, hts⟩ (mM_follows l D g gT gL gH gD cZ cJ cG cD T lo hh had n (8 + j) i (show 8 + j < 16 by omega) (show i < 16 by omega)) (cwM_follows hts ⟨Nat.le_of_ble_eq_true rfl, Nat.le_of_ble_eq_true rfl⟩) hK hP rfl hl.1 rfl (Nat.le_of_ble_eq_true rfl) dX1_everywhere_55 ⟨Nat.le_refl _, Nat.le_refl _⟩ (fun r er => ?_)
              subst er
              refine ic_top (congrArg ic_b (hF (8 + j) i (show 8 + j < 16 by omega) (show i < 16 by omega))) ?_
              rcases ic_bool (F (8 + j) i) with f2 | f2
              · skip
                refine lv_if_eq (tgt := 65) hx hb dX1_everywhere_58 (by decide) (fun _ => ?_) (fun c9 => absurd (ic_b_f f2) c9)
                refine lv_iconst (v := nI 0) hx hb dX1_everywhere_65 (by decide) ?_
                refine ic_top (show _ = ic_b (ic_al T F j (i + 1)) from by rw [ha1, f0, f1, f2]; rfl) ?_
                refine lv_istore_n (lv' := [(2, .int (ic_b (ic_al T F j (i + 1)))), (0, .ref g), (1, .int (nI j)), (3, .int (nI i))]) hx hb dX1_everywhere_66 rfl hl (by decide) rfl (fun ls hl => ?_)
                refine lv_iinc (v := nI (i + 1)) (lv' := [(3, .int (nI (i + 1))), (2, .int (ic_b (ic_al T F j (i + 1)))), (0, .ref g), (1, .int (nI j))]) hx hb dX1_everywhere_67 hl (k := 3) rfl (nI_1 _) (by decide) rfl (fun ls hl => ?_)
                refine lv_goto (tgt := 30) hx hb dX1_everywhere_70 (by decide) ?_
                exact ih (i + 1) (by omega) ls (lv_sub hl [2, 3, 1, 0] rfl)
              · skip
                refine lv_if_eq (tgt := 65) hx hb dX1_everywhere_58 (by decide) (fun c9 => absurd c9 (ic_b_t f2)) (fun _ => ?_)
                refine lv_iconst (v := nI 1) hx hb dX1_everywhere_61 (by decide) ?_
                refine lv_goto (tgt := 66) hx hb dX1_everywhere_62 (by decide) ?_
                refine ic_top (show _ = ic_b (ic_al T F j (i + 1)) from by rw [ha1, f0, f1, f2]; rfl) ?_
                refine lv_istore_n (lv' := [(2, .int (ic_b (ic_al T F j (i + 1)))), (0, .ref g), (1, .int (nI j)), (3, .int (nI i))]) hx hb dX1_everywhere_66 rfl hl (by decide) rfl (fun ls hl => ?_)
                refine lv_iinc (v := nI (i + 1)) (lv' := [(3, .int (nI (i + 1))), (2, .int (ic_b (ic_al T F j (i + 1)))), (0, .ref g), (1, .int (nI j))]) hx hb dX1_everywhere_67 hl (k := 3) rfl (nI_1 _) (by decide) rfl (fun ls hl => ?_)
                refine lv_goto (tgt := 30) hx hb dX1_everywhere_70 (by decide) ?_
                exact ih (i + 1) (by omega) ls (lv_sub hl [2, 3, 1, 0] rfl)
      exact loop 8 0 rfl ls (lv_sub hl [2, 3, 1, 0] rfl)
set_option maxHeartbeats 4000000 in
set_option maxRecDepth 100000 in
theorem mM_apartPairs (l : Launch) (D : va_G) (g gT gL gH gD : Nat) (cZ cJ cG cD : ClassId) (T : Nat → Bool) (lo hh : Nat → Int64) (had : Nat → Int32) (n : Nat)  (F : Nat → Nat → Bool) (hF : ∀ x y, x < 16 → y < 16 → ic_fol lo hh x y = F x y) : Met l yX1_apartPairs (ws_ yX1_apartPairs cX1_apartPairs 3 (some .int)) ic_R2 (ic_pM D g gT gL gH gD cZ cJ cG cD T lo hh had n []) (vp_Si (fun r => r = nI (fb_ct (ic_ap T F) 256))) 0 0 (fun _ => False) := by
  refine ic_sM (by decide) rfl (Nat.le_of_ble_eq_true rfl) (fun v hv => rfl) ?_
  intro p e s m args below meth c ls Q hx hb hml hown hts hK hP hl hfin
  have hl : lv_has ls 3 [(0, .ref g)] := hl
  refine lv_iconst (v := nI 0) hx hb dX1_apartPairs_0 (by decide) ?_
  refine lv_istore_n (lv' := [(1, .int (nI 0)), (0, .ref g)]) hx hb dX1_apartPairs_1 rfl hl (by decide) rfl (fun ls hl => ?_)
  refine lv_iconst (v := nI 0) hx hb dX1_apartPairs_2 (by decide) ?_
  refine lv_istore_n (lv' := [(2, .int (nI 0)), (1, .int (nI 0)), (0, .ref g)]) hx hb dX1_apartPairs_3 rfl hl (by decide) rfl (fun ls hl => ?_)
  have loop : ∀ (k i : Nat), i + k = 256 → ∀ (ls : Array Slot), lv_has ls 3 [(0, .ref g), (1, .int (nI (fb_ct (ic_ap T F) i))), (2, .int (nI i))] → W p l e ic_R2 s m args below meth c s.heap [] 0 0 Q (F0 m 4 ls []) := by
    intro k
    induction k with
    | zero =>
      intro i hi ls hl
      obtain rfl : i = 256 := by omega
      refine lv_iload_n hx hb dX1_apartPairs_4 rfl (lv_at hl 2 rfl) ?_
      refine lv_sipush (v := nI 256) hx hb dX1_apartPairs_5 (by decide) ?_
      refine lv_icmp_ge (tgt := 52) hx hb dX1_apartPairs_8 (by decide) (fun _ => ?_) (fun c9 => absurd (nI_le (Nat.le_refl 256) (by decide)) c9)
      refine lv_iload_n hx hb dX1_apartPairs_52 rfl (lv_at hl 1 rfl) ?_
      exact hfin _ 53 ls rfl dX1_apartPairs_53
    | succ k ih =>
      intro i hi ls hl
      refine lv_iload_n hx hb dX1_apartPairs_4 rfl (lv_at hl 2 rfl) ?_
      refine lv_sipush (v := nI 256) hx hb dX1_apartPairs_5 (by decide) ?_
      refine lv_icmp_ge (tgt := 52) hx hb dX1_apartPairs_8 (by decide) (fun c9 => absurd c9 (nI_ge (show i < 256 by omega) (by decide))) (fun _ => ?_)
      refine lv_iload_n hx hb dX1_apartPairs_11 rfl (lv_at hl 2 rfl) ?_
      refine lv_bipush (v := nI 16) hx hb dX1_apartPairs_12 (by decide) ?_
      refine lv_idiv hx hb dX1_apartPairs_14 (by decide) ?_
      refine ic_top (pk_div (by omega) (by decide) (by decide)) ?_
      refine lv_iload_n hx hb dX1_apartPairs_15 rfl (lv_at hl 2 rfl) ?_
      refine lv_bipush (v := nI 16) hx hb dX1_apartPairs_16 (by decide) ?_
      refine lv_irem hx hb dX1_apartPairs_18 (by decide) ?_
      refine ic_top (pk_rem (by omega) (by decide) (by decide)) ?_
      have hx0 : i / 16 < 16 := by omega
      have hy0 : i % 16 < 16 := by omega
      have hg : ic_ap T F i = (decide (i / 16 < i % 16) && (T (i / 16) && T (i % 16) && !F (i / 16) (i % 16) && !F (i % 16) (i / 16))) := rfl
      rcases Nat.lt_or_ge (i / 16) (i % 16) with f1 | f1
      · skip
        refine lv_icmp_ge (tgt := 44) hx hb dX1_apartPairs_19 (by decide) (fun c9 => absurd c9 (nI_ge f1 (by omega))) (fun _ => ?_)
        refine lv_aload_n hx hb dX1_apartPairs_22 rfl (lv_at hl 0 rfl) ?_
        refine lv_iload_n hx hb dX1_apartPairs_23 rfl (lv_at hl 2 rfl) ?_
        refine lv_bipush (v := nI 16) hx hb dX1_apartPairs_24 (by decide) ?_
        refine lv_idiv hx hb dX1_apartPairs_26 (by decide) ?_
        refine ic_top (pk_div (by omega) (by decide) (by decide)) ?_
        refine lv_iload_n hx hb dX1_apartPairs_27 rfl (lv_at hl 2 rfl) ?_
        refine lv_bipush (v := nI 16) hx hb dX1_apartPairs_28 (by decide) ?_
        refine lv_irem hx hb dX1_apartPairs_30 (by decide) ?_
        refine ic_top (pk_rem (by omega) (by decide) (by decide)) ?_
        refine mc_i ⟨hx, hb, hml, hown, hts⟩ (mM_compare l D g gT gL gH gD cZ cJ cG cD T lo hh had n (nI (i / 16)) (nI (i % 16)) F hF) (cwM_compare hts ⟨Nat.le_of_ble_eq_true rfl, Nat.le_of_ble_eq_true rfl⟩) hK hP rfl hl.1 rfl (Nat.le_of_ble_eq_true rfl) dX1_apartPairs_31 ⟨Nat.le_refl _, Nat.le_refl _⟩ (fun r er => ?_)
        subst er
        refine lv_iconst (v := nI 3) hx hb dX1_apartPairs_34 (by decide) ?_
        rw [decide_eq_true f1, Bool.true_and] at hg
        rcases ic_bool (T (i / 16) && T (i % 16) && !F (i / 16) (i % 16) && !F (i % 16) (i / 16)) with q | q
        · rw [q] at hg
          refine lv_icmp_ne (tgt := 44) hx hb dX1_apartPairs_35 (by decide) (fun _ => ?_) (fun c9 => absurd c9 (fun z => absurd ((ic_cmp_3 hx0 hy0).mp z) (ic_nt q)))
          refine lv_iload_n hx hb dX1_apartPairs_44 rfl (lv_at hl 1 rfl) ?_
          refine ic_top (show _ = nI (fb_ct (ic_ap T F) (i + 1)) from congrArg nI (ic_ct_f hg).symm) ?_
          refine lv_istore_n (lv' := [(1, .int (nI (fb_ct (ic_ap T F) (i + 1)))), (0, .ref g), (2, .int (nI i))]) hx hb dX1_apartPairs_45 rfl hl (by decide) rfl (fun ls hl => ?_)
          refine lv_iinc (v := nI (i + 1)) (lv' := [(2, .int (nI (i + 1))), (1, .int (nI (fb_ct (ic_ap T F) (i + 1)))), (0, .ref g)]) hx hb dX1_apartPairs_46 hl (k := 2) rfl (nI_1 _) (by decide) rfl (fun ls hl => ?_)
          refine lv_goto (tgt := 4) hx hb dX1_apartPairs_49 (by decide) ?_
          exact ih (i + 1) (by omega) ls (lv_sub hl [2, 1, 0] rfl)
        · rw [q] at hg
          refine lv_icmp_ne (tgt := 44) hx hb dX1_apartPairs_35 (by decide) (fun c9 => absurd ((ic_cmp_3 hx0 hy0).mpr q) c9) (fun _ => ?_)
          refine lv_iload_n hx hb dX1_apartPairs_38 rfl (lv_at hl 1 rfl) ?_
          refine lv_iconst (v := nI 1) hx hb dX1_apartPairs_39 (by decide) ?_
          refine lv_iadd hx hb dX1_apartPairs_40 ?_
          refine lv_goto (tgt := 45) hx hb dX1_apartPairs_41 (by decide) ?_
          refine ic_top (show _ = nI (fb_ct (ic_ap T F) (i + 1)) from (nI_add _ 1).trans (congrArg nI (ic_ct_t hg).symm)) ?_
          refine lv_istore_n (lv' := [(1, .int (nI (fb_ct (ic_ap T F) (i + 1)))), (0, .ref g), (2, .int (nI i))]) hx hb dX1_apartPairs_45 rfl hl (by decide) rfl (fun ls hl => ?_)
          refine lv_iinc (v := nI (i + 1)) (lv' := [(2, .int (nI (i + 1))), (1, .int (nI (fb_ct (ic_ap T F) (i + 1)))), (0, .ref g)]) hx hb dX1_apartPairs_46 hl (k := 2) rfl (nI_1 _) (by decide) rfl (fun ls hl => ?_)
          refine lv_goto (tgt := 4) hx hb dX1_apartPairs_49 (by decide) ?_
          exact ih (i + 1) (by omega) ls (lv_sub hl [2, 1, 0] rfl)
      · skip
        refine lv_icmp_ge (tgt := 44) hx hb dX1_apartPairs_19 (by decide) (fun _ => ?_) (fun c9 => absurd (nI_le f1 (by omega)) c9)
        rw [decide_eq_false (by omega), Bool.false_and] at hg
        refine lv_iload_n hx hb dX1_apartPairs_44 rfl (lv_at hl 1 rfl) ?_
        refine ic_top (show _ = nI (fb_ct (ic_ap T F) (i + 1)) from congrArg nI (ic_ct_f hg).symm) ?_
        refine lv_istore_n (lv' := [(1, .int (nI (fb_ct (ic_ap T F) (i + 1)))), (0, .ref g), (2, .int (nI i))]) hx hb dX1_apartPairs_45 rfl hl (by decide) rfl (fun ls hl => ?_)
        refine lv_iinc (v := nI (i + 1)) (lv' := [(2, .int (nI (i + 1))), (1, .int (nI (fb_ct (ic_ap T F) (i + 1)))), (0, .ref g)]) hx hb dX1_apartPairs_46 hl (k := 2) rfl (nI_1 _) (by decide) rfl (fun ls hl => ?_)
        refine lv_goto (tgt := 4) hx hb dX1_apartPairs_49 (by decide) ?_
        exact ih (i + 1) (by omega) ls (lv_sub hl [2, 1, 0] rfl)
  exact loop 256 0 rfl ls (lv_sub hl [2, 1, 0] rfl)
end
section
/-! IntervalClocksModel: what it does -/
theorem ic_sp_a (had : Nat → Int32) {a b : Nat} (g : Int32) (h : ¬ a = b) : ic_sp had a b g a = had a &&& (g ^^^ (-1)) := by unfold ic_sp; rw [if_neg h, if_pos rfl]
theorem ic_sp_b (had : Nat → Int32) (a b : Nat) (g : Int32) : ic_sp had a b g b = g := by unfold ic_sp; rw [if_pos rfl]
theorem ic_and_m1 (x : Int32) : x &&& (nI 0 ^^^ (-1)) = x := by
  apply b_ext
  intro i hi
  rw [b_and, b_xor, b_m1 i hi, show bt (nI 0) i = false from b_0 i, Bool.false_xor, Bool.and_true]
theorem ic_sp_0 (had : Nat → Int32) (a b : Nat) : ic_sp had a b (nI 0) = upd had b (nI 0) := by
  funext k
  unfold ic_sp upd
  by_cases e : k = b
  · rw [if_pos e, if_pos e]
  · rw [if_neg e, if_neg e]
    by_cases e2 : k = a
    · rw [if_pos e2, ic_and_m1, e2]
    · rw [if_neg e2]
theorem ic_sp_up (had : Nat → Int32) {a b : Nat} (g t : Int32) (h : ¬ a = b) : upd (upd (ic_sp had a b g) b (g ||| t)) a ((had a &&& (g ^^^ (-1))) &&& (t ^^^ (-1))) = ic_sp had a b (g ||| t) := by
  have e0 : (had a &&& (g ^^^ (-1))) &&& (t ^^^ (-1)) = had a &&& ((g ||| t) ^^^ (-1)) := by
    apply b_ext
    intro i hi
    rw [b_and, b_and, b_and, b_xor, b_xor, b_xor, b_or, b_m1 i hi]
    cases bt (had a) i <;> cases bt g i <;> cases bt t i <;> rfl
  rw [e0]
  funext k
  unfold upd ic_sp
  by_cases e : k = b
  · rw [if_neg (fun q => h (q.symm.trans e)), if_pos e, if_pos e]
  · by_cases e2 : k = a
    · rw [if_pos e2, if_neg e, if_pos e2]
    · rw [if_neg e2, if_neg e, if_neg e, if_neg e2, if_neg e, if_neg e2]
theorem ic_gv_cur (o : Int32) (kp : Nat) {i : Nat} (hi : i < 32) : bt (o &&& (ic_gv o kp i ^^^ (-1))) i = bt o i := by
  unfold ic_gv
  rw [b_and, b_xor, ic_bs_bt _ (by omega) hi, decide_eq_false (Nat.lt_irrefl i), Bool.false_and, b_m1 i hi, Bool.false_xor, Bool.and_true]
theorem ic_rest {a b : Nat} (ha : a < 2 ^ 30) (hb : b < 2 ^ 30) : nI a - nI b ≤ 0 ↔ a ≤ b := by
  rw [Int32.le_iff_toInt_le, pk_sub_toInt ha hb]
  show (a : Int) - b ≤ 0 ↔ _
  omega
theorem ic_rest_s (a b : Nat) : nI a - nI b + Int32.ofInt (-1) = nI a - nI (b + 1) := by
  rw [show Int32.ofInt (-1) = (-1 : Int32) by decide, nI_succ]
  grind
set_option maxHeartbeats 4000000 in
set_option maxRecDepth 100000 in
theorem mM_erase (l : Launch) (D : va_G) (g gT gL gH gD : Nat) (cZ cJ cG cD : ClassId) (T : Nat → Bool) (lo hh : Nat → Int64) (had : Nat → Int32) (n : Nat) (sz : Nat) (x : Int32) : Met l yX1_erase (ws_ yX1_erase cX1_erase 2 (some .boolean)) ic_R0 (ic_qM D g gT gL gH gD cZ cJ cG cD T lo hh had n sz [.int x]) (va_Qi (fun r v => (r, v) = ic_Merase T lo hh had n x) (ic_BM D g gT gL gH gD cZ cJ cG cD (ic_AM g gT gL gH gD cZ cJ cG cD T lo hh had n sz)) (ic_AM g gT gL gH gD cZ cJ cG cD T lo hh had n sz)) 0 0 (ic_AM g gT gL gH gD cZ cJ cG cD T lo hh had n sz) := by
  refine ic_uM (by decide) rfl (Nat.le_of_ble_eq_true rfl) (fun v u hv => ic_Merase_nar hv) ?_
  intro p e s m args below meth c ls Q A hx hb hml hown hts hK hP hD hA hS hl hfin
  have hl : lv_has ls 2 [(0, .ref g), (1, .int x)] := hl
  rcases pk_ix x (n := 8) (by decide) with z | z | ⟨j, hj, rfl⟩
  · skip
    refine lv_iload_n hx hb dX1_erase_0 rfl (lv_at hl 1 rfl) ?_
    refine lv_if_lt (tgt := 22) hx hb dX1_erase_1 (by decide) (fun _ => ?_) (fun c9 => absurd z c9)
    refine lv_iconst (v := nI 0) hx hb dX1_erase_22 (by decide) ?_
    exact hfin _ T lo hh had n 23 ls _ _ (ic_Merase_no (ic_in_neg z)).symm hP hD hS dX1_erase_23
  · have z2 : ¬ x < 0 := fun q => absurd (Int32.lt_of_le_of_lt z q) (by decide)
    refine lv_iload_n hx hb dX1_erase_0 rfl (lv_at hl 1 rfl) ?_
    refine lv_if_lt (tgt := 22) hx hb dX1_erase_1 (by decide) (fun c9 => absurd c9 z2) (fun _ => ?_)
    refine lv_iload_n hx hb dX1_erase_4 rfl (lv_at hl 1 rfl) ?_
    refine lv_bipush (v := nI 7) hx hb dX1_erase_5 (by decide) ?_
    refine lv_icmp_gt (tgt := 22) hx hb dX1_erase_7 (by decide) (fun _ => ?_) (fun c9 => absurd (Int32.lt_of_lt_of_le (show nI 7 < nI 8 by decide) z) c9)
    refine lv_iconst (v := nI 0) hx hb dX1_erase_22 (by decide) ?_
    exact hfin _ T lo hh had n 23 ls _ _ (ic_Merase_no (ic_in_big (by decide) z)).symm hP hD hS dX1_erase_23
  · skip
    refine lv_iload_n hx hb dX1_erase_0 rfl (lv_at hl 1 rfl) ?_
    refine lv_if_lt (tgt := 22) hx hb dX1_erase_1 (by decide) (fun c9 => absurd c9 (nI_pos (by omega))) (fun _ => ?_)
    refine lv_iload_n hx hb dX1_erase_4 rfl (lv_at hl 1 rfl) ?_
    refine lv_bipush (v := nI 7) hx hb dX1_erase_5 (by decide) ?_
    refine lv_icmp_gt (tgt := 22) hx hb dX1_erase_7 (by decide) (fun c9 => absurd c9 (nI_nlt (show j ≤ 7 by omega) (by decide))) (fun _ => ?_)
    refine lv_aload_n hx hb dX1_erase_10 rfl (lv_at hl 0 rfl) ?_
    refine mg_T hx hb hts hown hK hP dX1_erase_11 ?_
    refine lv_bipush (v := nI 8) hx hb dX1_erase_14 (by decide) ?_
    refine lv_iload_n hx hb dX1_erase_16 rfl (lv_at hl 1 rfl) ?_
    refine lv_iadd hx hb dX1_erase_17 ?_
    refine ic_top (nI_add _ _) ?_
    refine mT_ld hx hb hK hP (i := 8 + j) (by omega) dX1_erase_18 ?_
    rcases ic_bool (T (8 + j)) with q | q
    · skip
      refine lv_if_ne (tgt := 24) hx hb dX1_erase_19 (by decide) (fun c9 => absurd (ic_b_f q) c9) (fun _ => ?_)
      refine lv_iconst (v := nI 0) hx hb dX1_erase_22 (by decide) ?_
      exact hfin _ T lo hh had n 23 ls _ _ (ic_Merase_no (by rw [ic_in_nI hj (by decide)]; exact q)).symm hP hD hS dX1_erase_23
    · skip
      refine lv_if_ne (tgt := 24) hx hb dX1_erase_19 (by decide) (fun _ => ?_) (fun c9 => absurd c9 (ic_b_t q))
      refine lv_aload_n hx hb dX1_erase_24 rfl (lv_at hl 0 rfl) ?_
      refine mg_T hx hb hts hown hK hP dX1_erase_25 ?_
      refine lv_bipush (v := nI 8) hx hb dX1_erase_28 (by decide) ?_
      refine lv_iload_n hx hb dX1_erase_30 rfl (lv_at hl 1 rfl) ?_
      refine lv_iadd hx hb dX1_erase_31 ?_
      refine ic_top (nI_add _ _) ?_
      refine lv_iconst (v := nI 0) hx hb dX1_erase_32 (by decide) ?_
      refine ic_top (show nI 0 = ic_b false from rfl) ?_
      refine mT_st hx hb hK hP hD hS (i := 8 + j) (v := false) (by omega) dX1_erase_33 (fun H locs hP hD hS => ?_)
      refine lv_iconst (v := nI 1) hx hb dX1_erase_34 (by decide) ?_
      exact hfin _ (va_up T (8 + j) false) lo hh had n 35 ls _ _ (ic_Merase_ok hj q).symm hP hD hS dX1_erase_35
set_option maxHeartbeats 4000000 in
set_option maxRecDepth 100000 in
theorem mM_note (l : Launch) (D : va_G) (g gT gL gH gD : Nat) (cZ cJ cG cD : ClassId) (T : Nat → Bool) (lo hh : Nat → Int64) (had : Nat → Int32) (n : Nat) (sz : Nat) (x y : Int32) : Met l yX1_note (ws_ yX1_note cX1_note 3 (some .boolean)) ic_R1 (ic_qM D g gT gL gH gD cZ cJ cG cD T lo hh had n sz [.int x, .int y]) (va_Qi (fun r v => (r, v) = ic_Mnote T lo hh had n x y) (ic_BM D g gT gL gH gD cZ cJ cG cD (ic_AM g gT gL gH gD cZ cJ cG cD T lo hh had n sz)) (ic_AM g gT gL gH gD cZ cJ cG cD T lo hh had n sz)) 0 0 (ic_AM g gT gL gH gD cZ cJ cG cD T lo hh had n sz) := by
  refine ic_uM (by decide) rfl (Nat.le_of_ble_eq_true rfl) (fun v u hv => ic_Mnote_nar hv) ?_
  intro p e s m args below meth c ls Q A hx hb hml hown hts hK hP hD hA hS hl hfin
  have hl : lv_has ls 3 [(0, .ref g), (1, .int x), (2, .int y)] := hl
  refine lv_aload_n hx hb dX1_note_0 rfl (lv_at hl 0 rfl) ?_
  refine lv_iload_n hx hb dX1_note_1 rfl (lv_at hl 1 rfl) ?_
  refine mc_i ⟨hx, hb, hml, hown, hts⟩ (mM_party l D g gT gL gH gD cZ cJ cG cD T lo hh had n x) (cwM_party hts ⟨Nat.le_of_ble_eq_true rfl, Nat.le_of_ble_eq_true rfl⟩) hK hP rfl hl.1 rfl (Nat.le_of_ble_eq_true rfl) dX1_note_2 ⟨Nat.le_refl _, Nat.le_refl _⟩ (fun r er => ?_)
  subst er
  rcases ic_bool (ic_in T 8 x) with z | z
  · skip
    refine lv_if_eq (tgt := 18) hx hb dX1_note_5 (by decide) (fun _ => ?_) (fun c9 => absurd (ic_b_f z) c9)
    refine lv_iconst (v := nI 0) hx hb dX1_note_18 (by decide) ?_
    exact hfin _ T lo hh had n 19 ls _ _ (ic_Mnote_no (fun q => absurd q.1 (ic_nt z))).symm hP hD hS dX1_note_19
  · skip
    refine lv_if_eq (tgt := 18) hx hb dX1_note_5 (by decide) (fun c9 => absurd c9 (ic_b_t z)) (fun _ => ?_)
    refine lv_iload_n hx hb dX1_note_8 rfl (lv_at hl 2 rfl) ?_
    rcases pk_ix y (n := 8) (by decide) with z3 | z3 | ⟨j, hj, rfl⟩
    · skip
      refine lv_if_lt (tgt := 18) hx hb dX1_note_9 (by decide) (fun _ => ?_) (fun c9 => absurd z3 c9)
      refine lv_iconst (v := nI 0) hx hb dX1_note_18 (by decide) ?_
      exact hfin _ T lo hh had n 19 ls _ _ (ic_Mnote_no (fun q => absurd q.2 (ic_nt (ic_in_neg z3)))).symm hP hD hS dX1_note_19
    · have z2 : ¬ y < 0 := fun q => absurd (Int32.lt_of_le_of_lt z3 q) (by decide)
      refine lv_if_lt (tgt := 18) hx hb dX1_note_9 (by decide) (fun c9 => absurd c9 z2) (fun _ => ?_)
      refine lv_iload_n hx hb dX1_note_12 rfl (lv_at hl 2 rfl) ?_
      refine lv_bipush (v := nI 7) hx hb dX1_note_13 (by decide) ?_
      refine lv_icmp_le (tgt := 20) hx hb dX1_note_15 (by decide) (fun c9 => absurd c9 (fun q => absurd (Int32.le_trans z3 q) (by decide))) (fun _ => ?_)
      refine lv_iconst (v := nI 0) hx hb dX1_note_18 (by decide) ?_
      exact hfin _ T lo hh had n 19 ls _ _ (ic_Mnote_no (fun q => absurd q.2 (ic_nt (ic_in_big (by decide) z3)))).symm hP hD hS dX1_note_19
    · obtain ⟨i, hi, rfl, t1⟩ := ic_in_of (by decide) z
      refine lv_if_lt (tgt := 18) hx hb dX1_note_9 (by decide) (fun c9 => absurd c9 (nI_pos (by omega))) (fun _ => ?_)
      refine lv_iload_n hx hb dX1_note_12 rfl (lv_at hl 2 rfl) ?_
      refine lv_bipush (v := nI 7) hx hb dX1_note_13 (by decide) ?_
      refine lv_icmp_le (tgt := 20) hx hb dX1_note_15 (by decide) (fun _ => ?_) (fun c9 => absurd (nI_le (show j ≤ 7 by omega) (by decide)) c9)
      refine lv_aload_n hx hb dX1_note_20 rfl (lv_at hl 0 rfl) ?_
      refine mg_T hx hb hts hown hK hP dX1_note_21 ?_
      refine lv_bipush (v := nI 8) hx hb dX1_note_24 (by decide) ?_
      refine lv_iload_n hx hb dX1_note_26 rfl (lv_at hl 2 rfl) ?_
      refine lv_iadd hx hb dX1_note_27 ?_
      refine ic_top (nI_add _ _) ?_
      refine lv_iconst (v := nI 1) hx hb dX1_note_28 (by decide) ?_
      refine ic_top (show nI 1 = ic_b true from rfl) ?_
      refine mT_st hx hb hK hP hD hS (i := 8 + j) (v := true) (by omega) dX1_note_29 (fun H locs hP hD hS => ?_)
      refine lv_aload_n hx hb dX1_note_30 rfl (lv_at hl 0 rfl) ?_
      refine mg_lo hx hb hts hown hK hP dX1_note_31 ?_
      refine lv_bipush (v := nI 8) hx hb dX1_note_34 (by decide) ?_
      refine lv_iload_n hx hb dX1_note_36 rfl (lv_at hl 2 rfl) ?_
      refine lv_iadd hx hb dX1_note_37 ?_
      refine ic_top (nI_add _ _) ?_
      refine lv_aload_n hx hb dX1_note_38 rfl (lv_at hl 0 rfl) ?_
      refine mg_lo hx hb hts hown hK hP dX1_note_39 ?_
      refine lv_iload_n hx hb dX1_note_42 rfl (lv_at hl 1 rfl) ?_
      refine ml_ld hx hb hK hP (i := i) (by omega) dX1_note_43 ?_
      refine ml_st hx hb hK hP hD hS (i := 8 + j) (v := lo i) (by omega) dX1_note_44 (fun H locs hP hD hS => ?_)
      refine lv_aload_n hx hb dX1_note_45 rfl (lv_at hl 0 rfl) ?_
      refine mg_hi hx hb hts hown hK hP dX1_note_46 ?_
      refine lv_bipush (v := nI 8) hx hb dX1_note_49 (by decide) ?_
      refine lv_iload_n hx hb dX1_note_51 rfl (lv_at hl 2 rfl) ?_
      refine lv_iadd hx hb dX1_note_52 ?_
      refine ic_top (nI_add _ _) ?_
      refine lv_aload_n hx hb dX1_note_53 rfl (lv_at hl 0 rfl) ?_
      refine mg_hi hx hb hts hown hK hP dX1_note_54 ?_
      refine lv_iload_n hx hb dX1_note_57 rfl (lv_at hl 1 rfl) ?_
      refine mh_ld hx hb hK hP (i := i) (by omega) dX1_note_58 ?_
      refine mh_st hx hb hK hP hD hS (i := 8 + j) (v := hh i) (by omega) dX1_note_59 (fun H locs hP hD hS => ?_)
      refine lv_iconst (v := nI 1) hx hb dX1_note_60 (by decide) ?_
      exact hfin _ (va_up T (8 + j) true) (vp_updL lo (8 + j) (lo i)) (vp_updL hh (8 + j) (hh i)) had n 61 ls _ _ (ic_Mnote_ok hi hj t1).symm hP hD hS dX1_note_61
set_option maxHeartbeats 4000000 in
set_option maxRecDepth 100000 in
theorem mM_tell (l : Launch) (D : va_G) (g gT gL gH gD : Nat) (cZ cJ cG cD : ClassId) (T : Nat → Bool) (lo hh : Nat → Int64) (had : Nat → Int32) (n : Nat) (sz : Nat) (x y : Int32) : Met l yX1_tell (ws_ yX1_tell cX1_tell 4 (some .int)) ic_R1 (ic_qM D g gT gL gH gD cZ cJ cG cD T lo hh had n sz [.int x, .int y]) (va_Qi (fun r v => (r, v) = ic_Mtell T lo hh had n x y) (ic_BM D g gT gL gH gD cZ cJ cG cD (ic_AM g gT gL gH gD cZ cJ cG cD T lo hh had n sz)) (ic_AM g gT gL gH gD cZ cJ cG cD T lo hh had n sz)) 0 0 (ic_AM g gT gL gH gD cZ cJ cG cD T lo hh had n sz) := by
  refine ic_uM (by decide) rfl (Nat.le_of_ble_eq_true rfl) (fun v u hv => rfl) ?_
  intro p e s m args below meth c ls Q A hx hb hml hown hts hK hP hD hA hS hl hfin
  have hl : lv_has ls 4 [(0, .ref g), (1, .int x), (2, .int y)] := hl
  refine lv_iload_n hx hb dX1_tell_0 rfl (lv_at hl 1 rfl) ?_
  refine lv_iload_n hx hb dX1_tell_1 rfl (lv_at hl 2 rfl) ?_
  refine lv_icmp_eq (tgt := 21) hx hb dX1_tell_2 (by decide) (fun c1 => ?_) (fun c1 => ?_)
  · skip
    refine lv_iconst (v := (-1)) hx hb dX1_tell_21 (by decide) ?_
    exact hfin _ T lo hh had n 22 ls _ _ (ic_Mtell_no (fun q => q.2.2 c1)).symm hP hD hS dX1_tell_22
  · skip
    refine lv_aload_n hx hb dX1_tell_5 rfl (lv_at hl 0 rfl) ?_
    refine lv_iload_n hx hb dX1_tell_6 rfl (lv_at hl 1 rfl) ?_
    refine mc_i ⟨hx, hb, hml, hown, hts⟩ (mM_is l D g gT gL gH gD cZ cJ cG cD T lo hh had n x) (cwM_is hts ⟨Nat.le_of_ble_eq_true rfl, Nat.le_of_ble_eq_true rfl⟩) hK hP rfl hl.1 rfl (Nat.le_of_ble_eq_true rfl) dX1_tell_7 ⟨Nat.le_refl _, Nat.le_refl _⟩ (fun r er => ?_)
    subst er
    rcases ic_bool (ic_in T 16 x) with z | z
    · skip
      refine lv_if_eq (tgt := 21) hx hb dX1_tell_10 (by decide) (fun _ => ?_) (fun c9 => absurd (ic_b_f z) c9)
      refine lv_iconst (v := (-1)) hx hb dX1_tell_21 (by decide) ?_
      exact hfin _ T lo hh had n 22 ls _ _ (ic_Mtell_no (fun q => absurd q.1 (ic_nt z))).symm hP hD hS dX1_tell_22
    · skip
      refine lv_if_eq (tgt := 21) hx hb dX1_tell_10 (by decide) (fun c9 => absurd c9 (ic_b_t z)) (fun _ => ?_)
      refine lv_aload_n hx hb dX1_tell_13 rfl (lv_at hl 0 rfl) ?_
      refine lv_iload_n hx hb dX1_tell_14 rfl (lv_at hl 2 rfl) ?_
      refine mc_i ⟨hx, hb, hml, hown, hts⟩ (mM_party l D g gT gL gH gD cZ cJ cG cD T lo hh had n y) (cwM_party hts ⟨Nat.le_of_ble_eq_true rfl, Nat.le_of_ble_eq_true rfl⟩) hK hP rfl hl.1 rfl (Nat.le_of_ble_eq_true rfl) dX1_tell_15 ⟨Nat.le_refl _, Nat.le_refl _⟩ (fun r er => ?_)
      subst er
      rcases ic_bool (ic_in T 8 y) with z2 | z2
      · skip
        refine lv_if_ne (tgt := 23) hx hb dX1_tell_18 (by decide) (fun c9 => absurd (ic_b_f z2) c9) (fun _ => ?_)
        refine lv_iconst (v := (-1)) hx hb dX1_tell_21 (by decide) ?_
        exact hfin _ T lo hh had n 22 ls _ _ (ic_Mtell_no (fun q => absurd q.2.1 (ic_nt z2))).symm hP hD hS dX1_tell_22
      · skip
        refine lv_if_ne (tgt := 23) hx hb dX1_tell_18 (by decide) (fun _ => ?_) (fun c9 => absurd c9 (ic_b_t z2))
        obtain ⟨i, hi, rfl, t1⟩ := ic_in_of (by decide) z
        obtain ⟨j, hj, rfl, t2⟩ := ic_in_of (by decide) z2
        have hne : ¬ i = j := fun q => c1 (congrArg nI q)
        refine lv_aload_n hx hb dX1_tell_23 rfl (lv_at hl 0 rfl) ?_
        refine lv_iload_n hx hb dX1_tell_24 rfl (lv_at hl 1 rfl) ?_
        refine lv_iload_n hx hb dX1_tell_25 rfl (lv_at hl 2 rfl) ?_
        refine mc_i ⟨hx, hb, hml, hown, hts⟩ (mM_follows l D g gT gL gH gD cZ cJ cG cD T lo hh had n i j hi (show j < 16 by omega)) (cwM_follows hts ⟨Nat.le_of_ble_eq_true rfl, Nat.le_of_ble_eq_true rfl⟩) hK hP rfl hl.1 rfl (Nat.le_of_ble_eq_true rfl) dX1_tell_26 ⟨Nat.le_refl _, Nat.le_refl _⟩ (fun r er => ?_)
        subst er
        refine lv_istore_n (lv' := [(3, .int (ic_b (ic_fol lo hh i j))), (0, .ref g), (1, .int (nI i)), (2, .int (nI j))]) hx hb dX1_tell_29 rfl hl (by decide) rfl (fun ls hl => ?_)
        refine lv_aload_n hx hb dX1_tell_30 rfl (lv_at hl 1 rfl) ?_
        refine mg_lo hx hb hts hown hK hP dX1_tell_31 ?_
        refine lv_iload_n hx hb dX1_tell_34 rfl (lv_at hl 3 rfl) ?_
        refine lv_aload_n hx hb dX1_tell_35 rfl (lv_at hl 1 rfl) ?_
        refine mg_lo hx hb hts hown hK hP dX1_tell_36 ?_
        refine lv_iload_n hx hb dX1_tell_39 rfl (lv_at hl 3 rfl) ?_
        refine ml_ld hx hb hK hP (i := j) (by omega) dX1_tell_40 ?_
        refine lv_aload_n hx hb dX1_tell_41 rfl (lv_at hl 1 rfl) ?_
        refine mg_lo hx hb hts hown hK hP dX1_tell_42 ?_
        refine lv_iload_n hx hb dX1_tell_45 rfl (lv_at hl 2 rfl) ?_
        refine ml_ld hx hb hK hP (i := i) (by omega) dX1_tell_46 ?_
        refine lv_lor hx hb dX1_tell_47 ?_
        refine ml_st hx hb hK hP hD hS (i := j) (v := (lo j) ||| (lo i)) (by omega) dX1_tell_48 (fun H locs hP hD hS => ?_)
        refine lv_aload_n hx hb dX1_tell_49 rfl (lv_at hl 1 rfl) ?_
        refine mg_hi hx hb hts hown hK hP dX1_tell_50 ?_
        refine lv_iload_n hx hb dX1_tell_53 rfl (lv_at hl 3 rfl) ?_
        refine lv_aload_n hx hb dX1_tell_54 rfl (lv_at hl 1 rfl) ?_
        refine mg_hi hx hb hts hown hK hP dX1_tell_55 ?_
        refine lv_iload_n hx hb dX1_tell_58 rfl (lv_at hl 3 rfl) ?_
        refine mh_ld hx hb hK hP (i := j) (by omega) dX1_tell_59 ?_
        refine lv_aload_n hx hb dX1_tell_60 rfl (lv_at hl 1 rfl) ?_
        refine mg_hi hx hb hts hown hK hP dX1_tell_61 ?_
        refine lv_iload_n hx hb dX1_tell_64 rfl (lv_at hl 2 rfl) ?_
        refine mh_ld hx hb hK hP (i := i) (by omega) dX1_tell_65 ?_
        refine lv_lor hx hb dX1_tell_66 ?_
        refine mh_st hx hb hK hP hD hS (i := j) (v := (hh j) ||| (hh i)) (by omega) dX1_tell_67 (fun H locs hP hD hS => ?_)
        refine lv_iload_n hx hb dX1_tell_68 rfl (lv_at hl 0 rfl) ?_
        have e1 := (ic_Mtell_ok (lo := lo) (hi := hh) (had := had) (n := n) hi hj t1 t2 c1).symm
        rcases ic_bool (ic_fol lo hh i j) with q | q
        · rw [q] at e1
          refine lv_if_eq (tgt := 76) hx hb dX1_tell_69 (by decide) (fun _ => ?_) (fun c9 => absurd (ic_b_f q) c9)
          refine lv_iconst (v := nI 1) hx hb dX1_tell_76 (by decide) ?_
          exact hfin _ T (vp_updL lo j ((lo j) ||| (lo i))) (vp_updL hh j ((hh j) ||| (hh i))) had n 77 ls _ _ e1 hP hD hS dX1_tell_77
        · rw [q] at e1
          refine lv_if_eq (tgt := 76) hx hb dX1_tell_69 (by decide) (fun c9 => absurd c9 (ic_b_t q)) (fun _ => ?_)
          refine lv_iconst (v := nI 0) hx hb dX1_tell_72 (by decide) ?_
          refine lv_goto (tgt := 77) hx hb dX1_tell_73 (by decide) ?_
          exact hfin _ T (vp_updL lo j ((lo j) ||| (lo i))) (vp_updL hh j ((hh j) ||| (hh i))) had n 77 ls _ _ e1 hP hD hS dX1_tell_77
set_option maxHeartbeats 4000000 in
set_option maxRecDepth 100000 in
theorem mM_join (l : Launch) (D : va_G) (g gT gL gH gD : Nat) (cZ cJ cG cD : ClassId) (T : Nat → Bool) (lo hh : Nat → Int64) (had : Nat → Int32) (n : Nat) (sz : Nat) (x y : Int32) : Met l yX1_join (ws_ yX1_join cX1_join 3 (some .int)) ic_R1 (ic_qM D g gT gL gH gD cZ cJ cG cD T lo hh had n sz [.int x, .int y]) (va_Qi (fun r v => (r, v) = ic_Mjoin T lo hh had n x y) (ic_BM D g gT gL gH gD cZ cJ cG cD (ic_AM g gT gL gH gD cZ cJ cG cD T lo hh had n sz)) (ic_AM g gT gL gH gD cZ cJ cG cD T lo hh had n sz)) 0 0 (ic_AM g gT gL gH gD cZ cJ cG cD T lo hh had n sz) := by
  refine ic_uM (by decide) rfl (Nat.le_of_ble_eq_true rfl) (fun v u hv => rfl) ?_
  intro p e s m args below meth c ls Q A hx hb hml hown hts hK hP hD hA hS hl hfin
  have hl : lv_has ls 3 [(0, .ref g), (1, .int x), (2, .int y)] := hl
  refine lv_iload_n hx hb dX1_join_0 rfl (lv_at hl 1 rfl) ?_
  refine lv_iload_n hx hb dX1_join_1 rfl (lv_at hl 2 rfl) ?_
  refine lv_icmp_eq (tgt := 21) hx hb dX1_join_2 (by decide) (fun c1 => ?_) (fun c1 => ?_)
  · skip
    refine lv_iconst (v := (-1)) hx hb dX1_join_21 (by decide) ?_
    exact hfin _ T lo hh had n 22 ls _ _ (ic_Mjoin_no (fun q => q.2.2 c1)).symm hP hD hS dX1_join_22
  · skip
    refine lv_aload_n hx hb dX1_join_5 rfl (lv_at hl 0 rfl) ?_
    refine lv_iload_n hx hb dX1_join_6 rfl (lv_at hl 1 rfl) ?_
    refine mc_i ⟨hx, hb, hml, hown, hts⟩ (mM_party l D g gT gL gH gD cZ cJ cG cD T lo hh had n x) (cwM_party hts ⟨Nat.le_of_ble_eq_true rfl, Nat.le_of_ble_eq_true rfl⟩) hK hP rfl hl.1 rfl (Nat.le_of_ble_eq_true rfl) dX1_join_7 ⟨Nat.le_refl _, Nat.le_refl _⟩ (fun r er => ?_)
    subst er
    rcases ic_bool (ic_in T 8 x) with z | z
    · skip
      refine lv_if_eq (tgt := 21) hx hb dX1_join_10 (by decide) (fun _ => ?_) (fun c9 => absurd (ic_b_f z) c9)
      refine lv_iconst (v := (-1)) hx hb dX1_join_21 (by decide) ?_
      exact hfin _ T lo hh had n 22 ls _ _ (ic_Mjoin_no (fun q => absurd q.1 (ic_nt z))).symm hP hD hS dX1_join_22
    · skip
      refine lv_if_eq (tgt := 21) hx hb dX1_join_10 (by decide) (fun c9 => absurd c9 (ic_b_t z)) (fun _ => ?_)
      refine lv_aload_n hx hb dX1_join_13 rfl (lv_at hl 0 rfl) ?_
      refine lv_iload_n hx hb dX1_join_14 rfl (lv_at hl 2 rfl) ?_
      refine mc_i ⟨hx, hb, hml, hown, hts⟩ (mM_party l D g gT gL gH gD cZ cJ cG cD T lo hh had n y) (cwM_party hts ⟨Nat.le_of_ble_eq_true rfl, Nat.le_of_ble_eq_true rfl⟩) hK hP rfl hl.1 rfl (Nat.le_of_ble_eq_true rfl) dX1_join_15 ⟨Nat.le_refl _, Nat.le_refl _⟩ (fun r er => ?_)
      subst er
      rcases ic_bool (ic_in T 8 y) with z2 | z2
      · skip
        refine lv_if_ne (tgt := 23) hx hb dX1_join_18 (by decide) (fun c9 => absurd (ic_b_f z2) c9) (fun _ => ?_)
        refine lv_iconst (v := (-1)) hx hb dX1_join_21 (by decide) ?_
        exact hfin _ T lo hh had n 22 ls _ _ (ic_Mjoin_no (fun q => absurd q.2.1 (ic_nt z2))).symm hP hD hS dX1_join_22
      · skip
        refine lv_if_ne (tgt := 23) hx hb dX1_join_18 (by decide) (fun _ => ?_) (fun c9 => absurd c9 (ic_b_t z2))
        obtain ⟨i, hi, rfl, t1⟩ := ic_in_of (by decide) z
        obtain ⟨j, hj, rfl, t2⟩ := ic_in_of (by decide) z2
        have hne : ¬ i = j := fun q => c1 (congrArg nI q)
        refine lv_aload_n hx hb dX1_join_23 rfl (lv_at hl 0 rfl) ?_
        refine mg_lo hx hb hts hown hK hP dX1_join_24 ?_
        refine lv_iload_n hx hb dX1_join_27 rfl (lv_at hl 1 rfl) ?_
        refine lv_aload_n hx hb dX1_join_28 rfl (lv_at hl 0 rfl) ?_
        refine mg_lo hx hb hts hown hK hP dX1_join_29 ?_
        refine lv_iload_n hx hb dX1_join_32 rfl (lv_at hl 1 rfl) ?_
        refine ml_ld hx hb hK hP (i := i) (by omega) dX1_join_33 ?_
        refine lv_aload_n hx hb dX1_join_34 rfl (lv_at hl 0 rfl) ?_
        refine mg_lo hx hb hts hown hK hP dX1_join_35 ?_
        refine lv_iload_n hx hb dX1_join_38 rfl (lv_at hl 2 rfl) ?_
        refine ml_ld hx hb hK hP (i := j) (by omega) dX1_join_39 ?_
        refine lv_lor hx hb dX1_join_40 ?_
        refine ml_st hx hb hK hP hD hS (i := i) (v := (lo i) ||| (lo j)) (by omega) dX1_join_41 (fun H locs hP hD hS => ?_)
        refine lv_aload_n hx hb dX1_join_42 rfl (lv_at hl 0 rfl) ?_
        refine mg_hi hx hb hts hown hK hP dX1_join_43 ?_
        refine lv_iload_n hx hb dX1_join_46 rfl (lv_at hl 1 rfl) ?_
        refine lv_aload_n hx hb dX1_join_47 rfl (lv_at hl 0 rfl) ?_
        refine mg_hi hx hb hts hown hK hP dX1_join_48 ?_
        refine lv_iload_n hx hb dX1_join_51 rfl (lv_at hl 1 rfl) ?_
        refine mh_ld hx hb hK hP (i := i) (by omega) dX1_join_52 ?_
        refine lv_aload_n hx hb dX1_join_53 rfl (lv_at hl 0 rfl) ?_
        refine mg_hi hx hb hts hown hK hP dX1_join_54 ?_
        refine lv_iload_n hx hb dX1_join_57 rfl (lv_at hl 2 rfl) ?_
        refine mh_ld hx hb hK hP (i := j) (by omega) dX1_join_58 ?_
        refine lv_lor hx hb dX1_join_59 ?_
        refine mh_st hx hb hK hP hD hS (i := i) (v := (hh i) ||| (hh j)) (by omega) dX1_join_60 (fun H locs hP hD hS => ?_)
        refine lv_aload_n hx hb dX1_join_61 rfl (lv_at hl 0 rfl) ?_
        refine mg_had hx hb hts hown hK hP dX1_join_62 ?_
        refine lv_iload_n hx hb dX1_join_65 rfl (lv_at hl 1 rfl) ?_
        refine lv_aload_n hx hb dX1_join_66 rfl (lv_at hl 0 rfl) ?_
        refine mg_had hx hb hts hown hK hP dX1_join_67 ?_
        refine lv_iload_n hx hb dX1_join_70 rfl (lv_at hl 1 rfl) ?_
        refine md_ld hx hb hK hP (i := i) (by omega) dX1_join_71 ?_
        refine lv_aload_n hx hb dX1_join_72 rfl (lv_at hl 0 rfl) ?_
        refine mg_had hx hb hts hown hK hP dX1_join_73 ?_
        refine lv_iload_n hx hb dX1_join_76 rfl (lv_at hl 2 rfl) ?_
        refine md_ld hx hb hK hP (i := j) (by omega) dX1_join_77 ?_
        refine lv_ior hx hb dX1_join_78 ?_
        refine md_st hx hb hK hP hD hS (i := i) (v := (had i) ||| (had j)) (by omega) dX1_join_79 (fun H locs hP hD hS => ?_)
        refine lv_aload_n hx hb dX1_join_80 rfl (lv_at hl 0 rfl) ?_
        refine mg_T hx hb hts hown hK hP dX1_join_81 ?_
        refine lv_iload_n hx hb dX1_join_84 rfl (lv_at hl 2 rfl) ?_
        refine lv_iconst (v := nI 0) hx hb dX1_join_85 (by decide) ?_
        refine ic_top (show nI 0 = ic_b false from rfl) ?_
        refine mT_st hx hb hK hP hD hS (i := j) (v := false) (by omega) dX1_join_86 (fun H locs hP hD hS => ?_)
        refine lv_aload_n hx hb dX1_join_87 rfl (lv_at hl 0 rfl) ?_
        refine lv_aload_n hx hb dX1_join_88 rfl (lv_at hl 0 rfl) ?_
        refine mg_had hx hb hts hown hK hP dX1_join_89 ?_
        refine lv_iload_n hx hb dX1_join_92 rfl (lv_at hl 1 rfl) ?_
        refine md_ld hx hb hK hP (i := i) (by omega) dX1_join_93 ?_
        refine ic_top (show upd had i (had i ||| had j) i = had i ||| had j from pk_us) ?_
        refine mc_i ⟨hx, hb, hml, hown, hts⟩ (mM_count l D g gT gL gH gD cZ cJ cG cD (va_up T j false) (vp_updL lo i ((lo i) ||| (lo j))) (vp_updL hh i ((hh i) ||| (hh j))) (upd had i ((had i) ||| (had j))) n (had i ||| had j)) (cwM_count hts ⟨Nat.le_of_ble_eq_true rfl, Nat.le_of_ble_eq_true rfl⟩) hK hP rfl hl.1 rfl (Nat.le_of_ble_eq_true rfl) dX1_join_94 ⟨Nat.le_refl _, Nat.le_refl _⟩ (fun r er => ?_)
        subst er
        exact hfin _ (va_up T j false) (vp_updL lo i ((lo i) ||| (lo j))) (vp_updL hh i ((hh i) ||| (hh j))) (upd had i ((had i) ||| (had j))) n 97 ls _ _ (ic_Mjoin_ok hi hj t1 t2 c1).symm hP hD hS dX1_join_97
set_option maxHeartbeats 4000000 in
set_option maxRecDepth 100000 in
theorem mM_event (l : Launch) (D : va_G) (g gT gL gH gD : Nat) (cZ cJ cG cD : ClassId) (T : Nat → Bool) (lo hh : Nat → Int64) (had : Nat → Int32) (n : Nat) (sz : Nat) (x : Int32) (hn0 : n < 64) : Met l yX1_event (ws_ yX1_event cX1_event 2 (some .int)) ic_R1 (ic_qM D g gT gL gH gD cZ cJ cG cD T lo hh had n sz [.int x]) (va_Qi (fun r v => (r, v) = ic_Mevent T lo hh had n x) (ic_BM D g gT gL gH gD cZ cJ cG cD (ic_AM g gT gL gH gD cZ cJ cG cD T lo hh had n sz)) (ic_AM g gT gL gH gD cZ cJ cG cD T lo hh had n sz)) 0 0 (ic_AM g gT gL gH gD cZ cJ cG cD T lo hh had n sz) := by
  refine ic_uM (by decide) rfl (Nat.le_of_ble_eq_true rfl) (fun v u hv => rfl) ?_
  intro p e s m args below meth c ls Q A hx hb hml hown hts hK hP hD hA hS hl hfin
  have hl : lv_has ls 2 [(0, .ref g), (1, .int x)] := hl
  refine lv_aload_n hx hb dX1_event_0 rfl (lv_at hl 0 rfl) ?_
  refine lv_iload_n hx hb dX1_event_1 rfl (lv_at hl 1 rfl) ?_
  refine mc_i ⟨hx, hb, hml, hown, hts⟩ (mM_party l D g gT gL gH gD cZ cJ cG cD T lo hh had n x) (cwM_party hts ⟨Nat.le_of_ble_eq_true rfl, Nat.le_of_ble_eq_true rfl⟩) hK hP rfl hl.1 rfl (Nat.le_of_ble_eq_true rfl) dX1_event_2 ⟨Nat.le_refl _, Nat.le_refl _⟩ (fun r er => ?_)
  subst er
  rcases ic_bool (ic_in T 8 x) with z | z
  · skip
    refine lv_if_ne (tgt := 10) hx hb dX1_event_5 (by decide) (fun c9 => absurd (ic_b_f z) c9) (fun _ => ?_)
    refine lv_iconst (v := (-1)) hx hb dX1_event_8 (by decide) ?_
    exact hfin _ T lo hh had n 9 ls _ _ (ic_Mevent_no z).symm hP hD hS dX1_event_9
  · skip
    refine lv_if_ne (tgt := 10) hx hb dX1_event_5 (by decide) (fun _ => ?_) (fun c9 => absurd c9 (ic_b_t z))
    obtain ⟨j, hj, rfl, hT⟩ := ic_in_of (by decide) z
    refine lv_aload_n hx hb dX1_event_10 rfl (lv_at hl 0 rfl) ?_
    refine mg_n hx hb hts hown hK hP dX1_event_11 ?_
    refine lv_bipush (v := nI 100) hx hb dX1_event_14 (by decide) ?_
    refine lv_icmp_lt (tgt := 22) hx hb dX1_event_16 (by decide) (fun _ => ?_) (fun c9 => absurd (nI_lt (show n < 100 by omega) (by decide)) c9)
    refine lv_aload_n hx hb dX1_event_22 rfl (lv_at hl 0 rfl) ?_
    refine mg_n hx hb hts hown hK hP dX1_event_23 ?_
    refine lv_bipush (v := nI 64) hx hb dX1_event_26 (by decide) ?_
    refine lv_icmp_ge (tgt := 53) hx hb dX1_event_28 (by decide) (fun c9 => absurd c9 (nI_ge hn0 (by decide))) (fun _ => ?_)
    refine lv_aload_n hx hb dX1_event_31 rfl (lv_at hl 0 rfl) ?_
    refine mg_lo hx hb hts hown hK hP dX1_event_32 ?_
    refine lv_iload_n hx hb dX1_event_35 rfl (lv_at hl 1 rfl) ?_
    refine lv_aload_n hx hb dX1_event_36 rfl (lv_at hl 0 rfl) ?_
    refine mg_lo hx hb hts hown hK hP dX1_event_37 ?_
    refine lv_iload_n hx hb dX1_event_40 rfl (lv_at hl 1 rfl) ?_
    refine ml_ld hx hb hK hP (i := j) (by omega) dX1_event_41 ?_
    refine lv_lconst (v := 1) hx hb dX1_event_42 (by decide) ?_
    refine lv_aload_n hx hb dX1_event_43 rfl (lv_at hl 0 rfl) ?_
    refine mg_n hx hb hts hown hK hP dX1_event_44 ?_
    refine lv_lshl (v := ic_lb n) hx hb dX1_event_47 rfl ?_
    refine lv_lor hx hb dX1_event_48 ?_
    refine ml_st hx hb hK hP hD hS (i := j) (v := (lo j) ||| (ic_lb n)) (by omega) dX1_event_49 (fun H locs hP hD hS => ?_)
    refine lv_goto (tgt := 75) hx hb dX1_event_50 (by decide) ?_
    refine lv_aload_n hx hb dX1_event_75 rfl (lv_at hl 0 rfl) ?_
    refine lv_dup hx hb dX1_event_76 rfl ?_
    refine mg_n hx hb hts hown hK hP dX1_event_77 ?_
    refine lv_iconst (v := nI 1) hx hb dX1_event_80 (by decide) ?_
    refine lv_iadd hx hb dX1_event_81 ?_
    refine ic_top (nI_add _ _) ?_
    refine mp_n hx hb hts hown hK hP hD hS (v := n + 1) dX1_event_82 (fun H locs hP hD hS => ?_)
    refine lv_aload_n hx hb dX1_event_85 rfl (lv_at hl 0 rfl) ?_
    refine mg_n hx hb hts hown hK hP dX1_event_86 ?_
    exact hfin _ T (vp_updL lo j ((lo j) ||| (ic_lb n))) hh had (n + 1) 89 ls _ _ (ic_Mevent_ok hj hT).symm hP hD hS dX1_event_89
set_option maxHeartbeats 4000000 in
set_option maxRecDepth 100000 in
theorem mM_split (l : Launch) (D : va_G) (g gT gL gH gD : Nat) (cZ cJ cG cD : ClassId) (T : Nat → Bool) (lo hh : Nat → Int64) (had : Nat → Int32) (n : Nat) (sz : Nat) (x : Int32) : Met l yX1_split (ws_ yX1_split cX1_split 6 (some .int)) ic_R1 (ic_qM D g gT gL gH gD cZ cJ cG cD T lo hh had n sz [.int x]) (va_Qi (fun r v => (r, v) = ic_Msplit T lo hh had n x) (ic_BM D g gT gL gH gD cZ cJ cG cD (ic_AM g gT gL gH gD cZ cJ cG cD T lo hh had n sz)) (ic_AM g gT gL gH gD cZ cJ cG cD T lo hh had n sz)) 0 0 (ic_AM g gT gL gH gD cZ cJ cG cD T lo hh had n sz) := by
  refine ic_uM (by decide) rfl (Nat.le_of_ble_eq_true rfl) (fun v u hv => rfl) ?_
  intro p e s m args below meth c ls Q A hx hb hml hown hts hK hP hD hA hS hl hfin
  have hl : lv_has ls 6 [(0, .ref g), (1, .int x)] := hl
  refine lv_aload_n hx hb dX1_split_0 rfl (lv_at hl 0 rfl) ?_
  refine lv_iload_n hx hb dX1_split_1 rfl (lv_at hl 1 rfl) ?_
  refine mc_i ⟨hx, hb, hml, hown, hts⟩ (mM_party l D g gT gL gH gD cZ cJ cG cD T lo hh had n x) (cwM_party hts ⟨Nat.le_of_ble_eq_true rfl, Nat.le_of_ble_eq_true rfl⟩) hK hP rfl hl.1 rfl (Nat.le_of_ble_eq_true rfl) dX1_split_2 ⟨Nat.le_refl _, Nat.le_refl _⟩ (fun r er => ?_)
  subst er
  rcases ic_bool (ic_in T 8 x) with z | z
  · skip
    refine lv_if_ne (tgt := 10) hx hb dX1_split_5 (by decide) (fun c9 => absurd (ic_b_f z) c9) (fun _ => ?_)
    refine lv_iconst (v := (-1)) hx hb dX1_split_8 (by decide) ?_
    exact hfin _ T lo hh had n 9 ls _ _ (ic_Msplit_no z).symm hP hD hS dX1_split_9
  · skip
    refine lv_if_ne (tgt := 10) hx hb dX1_split_5 (by decide) (fun _ => ?_) (fun c9 => absurd c9 (ic_b_t z))
    obtain ⟨j, hj, rfl, hT⟩ := ic_in_of (by decide) z
    refine lv_aload_n hx hb dX1_split_10 rfl (lv_at hl 0 rfl) ?_
    refine lv_aload_n hx hb dX1_split_11 rfl (lv_at hl 0 rfl) ?_
    refine mg_had hx hb hts hown hK hP dX1_split_12 ?_
    refine lv_iload_n hx hb dX1_split_15 rfl (lv_at hl 1 rfl) ?_
    refine md_ld hx hb hK hP (i := j) (by omega) dX1_split_16 ?_
    refine mc_i ⟨hx, hb, hml, hown, hts⟩ (mM_count l D g gT gL gH gD cZ cJ cG cD T lo hh had n (had j)) (cwM_count hts ⟨Nat.le_of_ble_eq_true rfl, Nat.le_of_ble_eq_true rfl⟩) hK hP rfl hl.1 rfl (Nat.le_of_ble_eq_true rfl) dX1_split_17 ⟨Nat.le_refl _, Nat.le_refl _⟩ (fun r er => ?_)
    subst er
    refine lv_istore_n (lv' := [(2, .int (nI (ic_cn (had j)))), (0, .ref g), (1, .int (nI j))]) hx hb dX1_split_20 rfl hl (by decide) rfl (fun ls hl => ?_)
    refine lv_iconst (v := nI 0) hx hb dX1_split_21 (by decide) ?_
    refine lv_istore_n (lv' := [(3, .int (nI 0)), (2, .int (nI (ic_cn (had j)))), (0, .ref g), (1, .int (nI j))]) hx hb dX1_split_22 rfl hl (by decide) rfl (fun ls hl => ?_)
    have hcn := ic_cn_le (had j)
    have after : ∀ (b : Nat), b ≤ 8 → ic_fst T = b → ∀ (ls : Array Slot), lv_has ls 6 [(0, .ref g), (1, .int (nI j)), (2, .int (nI (ic_cn (had j)))), (3, .int (nI b))] → W p l e ic_R1 s m args below meth c s.heap [] 0 0 Q (F0 m 44 ls []) := by
      intro b hb8 hfst ls hl
      refine lv_iload_n hx hb dX1_split_44 rfl (lv_at hl 3 rfl) ?_
      refine lv_bipush (v := nI 8) hx hb dX1_split_45 (by decide) ?_
      rcases Nat.lt_or_ge b 8 with g1 | g1
      · skip
        refine lv_icmp_eq (tgt := 55) hx hb dX1_split_47 (by decide) (fun c9 => absurd c9 (fun q => absurd ((nI_eq (by omega) (by decide)).mp q) (by omega))) (fun _ => ?_)
        refine lv_iload_n hx hb dX1_split_50 rfl (lv_at hl 2 rfl) ?_
        refine lv_iconst (v := nI 1) hx hb dX1_split_51 (by decide) ?_
        rcases Decidable.em (ic_cn (had j) = 1) with g2 | g2
        · skip
          refine lv_icmp_ne (tgt := 58) hx hb dX1_split_52 (by decide) (fun c9 => absurd (congrArg nI g2) c9) (fun _ => ?_)
          refine lv_bipush (v := (-2)) hx hb dX1_split_55 (by decide) ?_
          exact hfin _ T lo hh had n 57 ls _ _ (ic_Msplit_full hj hT (Or.inr g2)).symm hP hD hS dX1_split_57
        · skip
          refine lv_icmp_ne (tgt := 58) hx hb dX1_split_52 (by decide) (fun _ => ?_) (fun c9 => absurd c9 (fun q => g2 ((nI_eq (by omega) (by decide)).mp q)))
          have hTb : T b = false := by have q := (ic_fst_free (T := T) (by omega)).2; rw [hfst] at q; exact q
          have hne : ¬ j = b := fun q => by rw [q, hTb] at hT; cases hT
          have hno : ¬ (ic_fst T = 8 ∨ ic_cn (had j) = 1) := by omega
          refine lv_aload_n hx hb dX1_split_58 rfl (lv_at hl 0 rfl) ?_
          refine mg_T hx hb hts hown hK hP dX1_split_59 ?_
          refine lv_iload_n hx hb dX1_split_62 rfl (lv_at hl 3 rfl) ?_
          refine lv_iconst (v := nI 1) hx hb dX1_split_63 (by decide) ?_
          refine ic_top (show nI 1 = ic_b true from rfl) ?_
          refine mT_st hx hb hK hP hD hS (i := b) (v := true) (by omega) dX1_split_64 (fun H locs hP hD hS => ?_)
          refine lv_aload_n hx hb dX1_split_65 rfl (lv_at hl 0 rfl) ?_
          refine mg_lo hx hb hts hown hK hP dX1_split_66 ?_
          refine lv_iload_n hx hb dX1_split_69 rfl (lv_at hl 3 rfl) ?_
          refine lv_aload_n hx hb dX1_split_70 rfl (lv_at hl 0 rfl) ?_
          refine mg_lo hx hb hts hown hK hP dX1_split_71 ?_
          refine lv_iload_n hx hb dX1_split_74 rfl (lv_at hl 1 rfl) ?_
          refine ml_ld hx hb hK hP (i := j) (by omega) dX1_split_75 ?_
          refine ml_st hx hb hK hP hD hS (i := b) (v := lo j) (by omega) dX1_split_76 (fun H locs hP hD hS => ?_)
          refine lv_aload_n hx hb dX1_split_77 rfl (lv_at hl 0 rfl) ?_
          refine mg_hi hx hb hts hown hK hP dX1_split_78 ?_
          refine lv_iload_n hx hb dX1_split_81 rfl (lv_at hl 3 rfl) ?_
          refine lv_aload_n hx hb dX1_split_82 rfl (lv_at hl 0 rfl) ?_
          refine mg_hi hx hb hts hown hK hP dX1_split_83 ?_
          refine lv_iload_n hx hb dX1_split_86 rfl (lv_at hl 1 rfl) ?_
          refine mh_ld hx hb hK hP (i := j) (by omega) dX1_split_87 ?_
          refine mh_st hx hb hK hP hD hS (i := b) (v := hh j) (by omega) dX1_split_88 (fun H locs hP hD hS => ?_)
          refine lv_aload_n hx hb dX1_split_89 rfl (lv_at hl 0 rfl) ?_
          refine mg_had hx hb hts hown hK hP dX1_split_90 ?_
          refine lv_iload_n hx hb dX1_split_93 rfl (lv_at hl 3 rfl) ?_
          refine lv_iconst (v := nI 0) hx hb dX1_split_94 (by decide) ?_
          refine md_st hx hb hK hP hD hS (i := b) (v := nI 0) (by omega) dX1_split_95 (fun H locs hP hD hS => ?_)
          refine lv_iload_n hx hb dX1_split_96 rfl (lv_at hl 2 rfl) ?_
          refine lv_iload_n hx hb dX1_split_97 rfl (lv_at hl 2 rfl) ?_
          refine lv_iconst (v := nI 2) hx hb dX1_split_98 (by decide) ?_
          refine lv_idiv hx hb dX1_split_99 (by decide) ?_
          refine ic_top (pk_div (by omega) (by decide) (by decide)) ?_
          refine lv_isub hx hb dX1_split_100 ?_
          refine ic_top (pk_sub (by omega)) ?_
          refine lv_istore (lv' := [(4, .int (nI (ic_cn (had j) - ic_cn (had j) / 2))), (0, .ref g), (1, .int (nI j)), (2, .int (nI (ic_cn (had j)))), (3, .int (nI b))]) hx hb dX1_split_101 hl (by decide) rfl (fun ls hl => ?_)
          refine lv_iconst (v := nI 0) hx hb dX1_split_103 (by decide) ?_
          refine lv_istore (lv' := [(5, .int (nI 0)), (4, .int (nI (ic_cn (had j) - ic_cn (had j) / 2))), (0, .ref g), (1, .int (nI j)), (2, .int (nI (ic_cn (had j)))), (3, .int (nI b))]) hx hb dX1_split_104 hl (by decide) rfl (fun ls hl => ?_)
          have hkp : (ic_cn (had j) - ic_cn (had j) / 2) ≤ 32 := by omega
          have loop : ∀ (k i : Nat), i + k = 32 → ∀ (ls : Array Slot) (H : Heap) (locs : List Loc), lv_has ls 6 [(0, .ref g), (1, .int (nI j)), (3, .int (nI b)), (4, .int (nI (ic_cn (had j) - ic_cn (had j) / 2) - nI (fb_ct (bt (had j)) i))), (5, .int (nI i))] → va_P D ic_cl (ic_wM g gT gL gH gD cZ cJ cG cD (va_up T b true) (vp_updL lo b (lo j)) (vp_updL hh b (hh j)) (ic_sp had j b (ic_gv (had j) (ic_cn (had j) - ic_cn (had j) / 2) i)) n) H → va_D A (ic_wM g gT gL gH gD cZ cJ cG cD (va_up T b true) (vp_updL lo b (lo j)) (vp_updL hh b (hh j)) (ic_sp had j b (ic_gv (had j) (ic_cn (had j) - ic_cn (had j) / 2) i)) n) → va_S A s.heap H locs → W p l e ic_R1 s m args below meth c H locs 0 0 Q (F0 m 106 ls []) := by
            intro k
            induction k with
            | zero =>
              intro i hi ls H locs hl hP hD hS
              obtain rfl : i = 32 := by omega
              refine lv_iload hx hb dX1_split_106 (lv_at hl 4 rfl) ?_
              refine lv_bipush (v := nI 32) hx hb dX1_split_108 (by decide) ?_
              refine lv_icmp_ge (tgt := 201) hx hb dX1_split_110 (by decide) (fun _ => ?_) (fun c9 => absurd (nI_le (Nat.le_refl 32) (by decide)) c9)
              refine lv_iload_n hx hb dX1_split_201 rfl (lv_at hl 2 rfl) ?_
              subst hfst
              exact hfin _ (va_up T (ic_fst T) true) (vp_updL lo (ic_fst T) (lo j)) (vp_updL hh (ic_fst T) (hh j)) (ic_sp had j (ic_fst T) (ic_gv (had j) (ic_cn (had j) - ic_cn (had j) / 2) 32)) n 202 ls _ _ (ic_Msplit_ok hj hT hno).symm hP hD hS dX1_split_202
            | succ k ih =>
              intro i hi ls H locs hl hP hD hS
              have hi0 : i < 32 := by omega
              refine lv_iload hx hb dX1_split_106 (lv_at hl 4 rfl) ?_
              refine lv_bipush (v := nI 32) hx hb dX1_split_108 (by decide) ?_
              refine lv_icmp_ge (tgt := 201) hx hb dX1_split_110 (by decide) (fun c9 => absurd c9 (nI_ge hi0 (by decide))) (fun _ => ?_)
              refine lv_aload_n hx hb dX1_split_113 rfl (lv_at hl 0 rfl) ?_
              refine mg_had hx hb hts hown hK hP dX1_split_114 ?_
              refine lv_iload_n hx hb dX1_split_117 rfl (lv_at hl 1 rfl) ?_
              refine md_ld hx hb hK hP (i := j) (by omega) dX1_split_118 ?_
              refine ic_top (ic_sp_a had (ic_gv (had j) (ic_cn (had j) - ic_cn (had j) / 2) i) hne) ?_
              refine lv_iload hx hb dX1_split_119 (lv_at hl 4 rfl) ?_
              refine lv_ishr hx hb dX1_split_121 ?_
              refine lv_iconst (v := nI 1) hx hb dX1_split_122 (by decide) ?_
              refine lv_iand hx hb dX1_split_123 ?_
              refine ic_top ((ic_bit_s _ hi0).trans (congrArg ic_b (ic_gv_cur (had j) (ic_cn (had j) - ic_cn (had j) / 2) hi0))) ?_
              refine lv_iconst (v := nI 1) hx hb dX1_split_124 (by decide) ?_
              have hct : fb_ct (bt (had j)) i ≤ i := fb_ct_le _ _
              rcases ic_bool (bt (had j) i) with f1 | f1
              · skip
                refine lv_icmp_ne (tgt := 195) hx hb dX1_split_125 (by decide) (fun _ => ?_) (fun c9 => absurd c9 (fun q9 => absurd q9 (by rw [f1]; decide)))
                refine lv_iinc (v := nI (i + 1)) (lv' := [(5, .int (nI (i + 1))), (0, .ref g), (1, .int (nI j)), (3, .int (nI b)), (4, .int (nI (ic_cn (had j) - ic_cn (had j) / 2) - nI (fb_ct (bt (had j)) i)))]) hx hb dX1_split_195 hl (k := 4) rfl (nI_1 _) (by decide) rfl (fun ls hl => ?_)
                refine lv_goto (tgt := 106) hx hb dX1_split_198 (by decide) ?_
                have e1 : ic_gv (had j) (ic_cn (had j) - ic_cn (had j) / 2) (i + 1) = ic_gv (had j) (ic_cn (had j) - ic_cn (had j) / 2) i := ic_bs_f (ic_gB_no f1)
                exact ih (i + 1) (by omega) ls _ _ (by rw [ic_ct_f f1]; exact (lv_sub hl [1, 2, 3, 4, 0] rfl)) (by rw [e1]; exact hP) (by rw [e1]; exact hD) hS
              · skip
                refine lv_icmp_ne (tgt := 195) hx hb dX1_split_125 (by decide) (fun c9 => absurd (by rw [f1]; rfl) c9) (fun _ => ?_)
                refine lv_aload_n hx hb dX1_split_128 rfl (lv_at hl 0 rfl) ?_
                refine mg_had hx hb hts hown hK hP dX1_split_129 ?_
                refine lv_iload_n hx hb dX1_split_132 rfl (lv_at hl 2 rfl) ?_
                refine lv_iload hx hb dX1_split_133 (lv_at hl 3 rfl) ?_
                rcases Nat.lt_or_ge (fb_ct (bt (had j)) i) (ic_cn (had j) - ic_cn (had j) / 2) with f2 | f2
                · have f3 : ¬ nI (ic_cn (had j) - ic_cn (had j) / 2) - nI (fb_ct (bt (had j)) i) ≤ 0 := fun q9 => absurd ((ic_rest (by omega) (by omega)).mp q9) (by omega)
                  refine lv_if_le (tgt := 147) hx hb dX1_split_135 (by decide) (fun c9 => absurd c9 f3) (fun _ => ?_)
                  refine lv_aload_n hx hb dX1_split_138 rfl (lv_at hl 0 rfl) ?_
                  refine mg_had hx hb hts hown hK hP dX1_split_139 ?_
                  refine lv_iload_n hx hb dX1_split_142 rfl (lv_at hl 2 rfl) ?_
                  refine md_ld hx hb hK hP (i := b) (by omega) dX1_split_143 ?_
                  refine ic_top (ic_sp_b had j b (ic_gv (had j) (ic_cn (had j) - ic_cn (had j) / 2) i)) ?_
                  refine lv_goto (tgt := 158) hx hb dX1_split_144 (by decide) ?_
                  refine md_st hx hb hK hP hD hS (i := b) (v := ic_gv (had j) (ic_cn (had j) - ic_cn (had j) / 2) i) (by omega) dX1_split_158 (fun H locs hP hD hS => ?_)
                  rw [fa_upd_same (ic_sp_b had j b (ic_gv (had j) (ic_cn (had j) - ic_cn (had j) / 2) i))] at hP hD
                  refine lv_aload_n hx hb dX1_split_159 rfl (lv_at hl 0 rfl) ?_
                  refine mg_had hx hb hts hown hK hP dX1_split_160 ?_
                  refine lv_iload_n hx hb dX1_split_163 rfl (lv_at hl 1 rfl) ?_
                  refine lv_iload hx hb dX1_split_164 (lv_at hl 3 rfl) ?_
                  refine lv_if_le (tgt := 178) hx hb dX1_split_166 (by decide) (fun c9 => absurd c9 f3) (fun _ => ?_)
                  refine lv_aload_n hx hb dX1_split_169 rfl (lv_at hl 0 rfl) ?_
                  refine mg_had hx hb hts hown hK hP dX1_split_170 ?_
                  refine lv_iload_n hx hb dX1_split_173 rfl (lv_at hl 1 rfl) ?_
                  refine md_ld hx hb hK hP (i := j) (by omega) dX1_split_174 ?_
                  refine ic_top (ic_sp_a had (ic_gv (had j) (ic_cn (had j) - ic_cn (had j) / 2) i) hne) ?_
                  refine lv_goto (tgt := 191) hx hb dX1_split_175 (by decide) ?_
                  refine md_st hx hb hK hP hD hS (i := j) (v := had j &&& (ic_gv (had j) (ic_cn (had j) - ic_cn (had j) / 2) i ^^^ (-1))) (by omega) dX1_split_191 (fun H locs hP hD hS => ?_)
                  rw [fa_upd_same (ic_sp_a had (ic_gv (had j) (ic_cn (had j) - ic_cn (had j) / 2) i) hne)] at hP hD
                  refine lv_iinc (v := nI (ic_cn (had j) - ic_cn (had j) / 2) - nI (fb_ct (bt (had j)) i + 1)) (lv' := [(4, .int (nI (ic_cn (had j) - ic_cn (had j) / 2) - nI (fb_ct (bt (had j)) i + 1))), (0, .ref g), (1, .int (nI j)), (3, .int (nI b)), (5, .int (nI i))]) hx hb dX1_split_192 hl (k := 3) rfl (ic_rest_s _ _) (by decide) rfl (fun ls hl => ?_)
                  refine lv_iinc (v := nI (i + 1)) (lv' := [(5, .int (nI (i + 1))), (4, .int (nI (ic_cn (had j) - ic_cn (had j) / 2) - nI (fb_ct (bt (had j)) i + 1))), (0, .ref g), (1, .int (nI j)), (3, .int (nI b))]) hx hb dX1_split_195 hl (k := 4) rfl (nI_1 _) (by decide) rfl (fun ls hl => ?_)
                  refine lv_goto (tgt := 106) hx hb dX1_split_198 (by decide) ?_
                  have e1 : ic_gv (had j) (ic_cn (had j) - ic_cn (had j) / 2) (i + 1) = ic_gv (had j) (ic_cn (had j) - ic_cn (had j) / 2) i := ic_bs_f (ic_gB_lt f2)
                  exact ih (i + 1) (by omega) ls _ _ (by rw [ic_ct_t f1]; exact (lv_sub hl [2, 3, 4, 1, 0] rfl)) (by rw [e1]; exact hP) (by rw [e1]; exact hD) hS
                · have f3 : nI (ic_cn (had j) - ic_cn (had j) / 2) - nI (fb_ct (bt (had j)) i) ≤ 0 := (ic_rest (by omega) (by omega)).mpr f2
                  refine lv_if_le (tgt := 147) hx hb dX1_split_135 (by decide) (fun _ => ?_) (fun c9 => absurd f3 c9)
                  refine lv_aload_n hx hb dX1_split_147 rfl (lv_at hl 0 rfl) ?_
                  refine mg_had hx hb hts hown hK hP dX1_split_148 ?_
                  refine lv_iload_n hx hb dX1_split_151 rfl (lv_at hl 2 rfl) ?_
                  refine md_ld hx hb hK hP (i := b) (by omega) dX1_split_152 ?_
                  refine ic_top (ic_sp_b had j b (ic_gv (had j) (ic_cn (had j) - ic_cn (had j) / 2) i)) ?_
                  refine lv_iconst (v := nI 1) hx hb dX1_split_153 (by decide) ?_
                  refine lv_iload hx hb dX1_split_154 (lv_at hl 4 rfl) ?_
                  refine lv_ishl hx hb dX1_split_156 ?_
                  refine ic_top (show _ = ic_sh i from rfl) ?_
                  refine lv_ior hx hb dX1_split_157 ?_
                  refine md_st hx hb hK hP hD hS (i := b) (v := (ic_gv (had j) (ic_cn (had j) - ic_cn (had j) / 2) i) ||| (ic_sh i)) (by omega) dX1_split_158 (fun H locs hP hD hS => ?_)
                  refine lv_aload_n hx hb dX1_split_159 rfl (lv_at hl 0 rfl) ?_
                  refine mg_had hx hb hts hown hK hP dX1_split_160 ?_
                  refine lv_iload_n hx hb dX1_split_163 rfl (lv_at hl 1 rfl) ?_
                  refine lv_iload hx hb dX1_split_164 (lv_at hl 3 rfl) ?_
                  refine lv_if_le (tgt := 178) hx hb dX1_split_166 (by decide) (fun _ => ?_) (fun c9 => absurd f3 c9)
                  refine lv_aload_n hx hb dX1_split_178 rfl (lv_at hl 0 rfl) ?_
                  refine mg_had hx hb hts hown hK hP dX1_split_179 ?_
                  refine lv_iload_n hx hb dX1_split_182 rfl (lv_at hl 1 rfl) ?_
                  refine md_ld hx hb hK hP (i := j) (by omega) dX1_split_183 ?_
                  refine ic_top ((pk_un hne).trans (ic_sp_a had (ic_gv (had j) (ic_cn (had j) - ic_cn (had j) / 2) i) hne)) ?_
                  refine lv_iconst (v := nI 1) hx hb dX1_split_184 (by decide) ?_
                  refine lv_iload hx hb dX1_split_185 (lv_at hl 4 rfl) ?_
                  refine lv_ishl hx hb dX1_split_187 ?_
                  refine ic_top (show _ = ic_sh i from rfl) ?_
                  refine lv_iconst (v := (-1)) hx hb dX1_split_188 (by decide) ?_
                  refine lv_ixor hx hb dX1_split_189 ?_
                  refine lv_iand hx hb dX1_split_190 ?_
                  refine md_st hx hb hK hP hD hS (i := j) (v := (had j &&& (ic_gv (had j) (ic_cn (had j) - ic_cn (had j) / 2) i ^^^ (-1))) &&& ((ic_sh i) ^^^ (-1))) (by omega) dX1_split_191 (fun H locs hP hD hS => ?_)
                  rw [ic_sp_up had (ic_gv (had j) (ic_cn (had j) - ic_cn (had j) / 2) i) (ic_sh i) hne] at hP hD
                  refine lv_iinc (v := nI (ic_cn (had j) - ic_cn (had j) / 2) - nI (fb_ct (bt (had j)) i + 1)) (lv' := [(4, .int (nI (ic_cn (had j) - ic_cn (had j) / 2) - nI (fb_ct (bt (had j)) i + 1))), (0, .ref g), (1, .int (nI j)), (3, .int (nI b)), (5, .int (nI i))]) hx hb dX1_split_192 hl (k := 3) rfl (ic_rest_s _ _) (by decide) rfl (fun ls hl => ?_)
                  refine lv_iinc (v := nI (i + 1)) (lv' := [(5, .int (nI (i + 1))), (4, .int (nI (ic_cn (had j) - ic_cn (had j) / 2) - nI (fb_ct (bt (had j)) i + 1))), (0, .ref g), (1, .int (nI j)), (3, .int (nI b))]) hx hb dX1_split_195 hl (k := 4) rfl (nI_1 _) (by decide) rfl (fun ls hl => ?_)
                  refine lv_goto (tgt := 106) hx hb dX1_split_198 (by decide) ?_
                  have e1 : ic_gv (had j) (ic_cn (had j) - ic_cn (had j) / 2) (i + 1) = ic_gv (had j) (ic_cn (had j) - ic_cn (had j) / 2) i ||| ic_sh i := ic_bs_t (ic_gB_ge f1 f2)
                  exact ih (i + 1) (by omega) ls _ _ (by rw [ic_ct_t f1]; exact (lv_sub hl [2, 3, 4, 1, 0] rfl)) (by rw [e1]; exact hP) (by rw [e1]; exact hD) hS
          rw [← ic_sp_0 had j b] at hP hD
          have e0 : nI (ic_cn (had j) - ic_cn (had j) / 2) = nI (ic_cn (had j) - ic_cn (had j) / 2) - nI (fb_ct (bt (had j)) 0) := by show _ = nI _ - nI 0; rw [pk_sub (Nat.zero_le _)]; rfl
          rw [e0] at hl
          exact loop 32 0 rfl ls _ _ (lv_sub hl [2, 3, 5, 1, 0] rfl) hP hD hS
      · obtain rfl : b = 8 := by omega
        refine lv_icmp_eq (tgt := 55) hx hb dX1_split_47 (by decide) (fun _ => ?_) (fun c9 => absurd rfl c9)
        refine lv_bipush (v := (-2)) hx hb dX1_split_55 (by decide) ?_
        exact hfin _ T lo hh had n 57 ls _ _ (ic_Msplit_full hj hT (Or.inl hfst)).symm hP hD hS dX1_split_57
    have loop : ∀ (k b : Nat), b + k = 8 → (∀ q, q < b → T q = true) → ∀ (ls : Array Slot), lv_has ls 6 [(0, .ref g), (1, .int (nI j)), (2, .int (nI (ic_cn (had j)))), (3, .int (nI b))] → W p l e ic_R1 s m args below meth c s.heap [] 0 0 Q (F0 m 23 ls []) := by
      intro k
      induction k with
      | zero =>
        intro b hi hu ls hl
        obtain rfl : b = 8 := by omega
        refine lv_iload_n hx hb dX1_split_23 rfl (lv_at hl 3 rfl) ?_
        refine lv_bipush (v := nI 8) hx hb dX1_split_24 (by decide) ?_
        refine lv_icmp_ge (tgt := 44) hx hb dX1_split_26 (by decide) (fun _ => ?_) (fun c9 => absurd (nI_le (Nat.le_refl 8) (by decide)) c9)
        exact after 8 (by decide) (ic_fst_is (by decide) hu (fun q => absurd q (by decide))) ls (lv_sub hl [0, 1, 2, 3] rfl)
      | succ k ih =>
        intro b hi hu ls hl
        refine lv_iload_n hx hb dX1_split_23 rfl (lv_at hl 3 rfl) ?_
        refine lv_bipush (v := nI 8) hx hb dX1_split_24 (by decide) ?_
        refine lv_icmp_ge (tgt := 44) hx hb dX1_split_26 (by decide) (fun c9 => absurd c9 (nI_ge (show b < 8 by omega) (by decide))) (fun _ => ?_)
        refine lv_aload_n hx hb dX1_split_29 rfl (lv_at hl 0 rfl) ?_
        refine mg_T hx hb hts hown hK hP dX1_split_30 ?_
        refine lv_iload_n hx hb dX1_split_33 rfl (lv_at hl 3 rfl) ?_
        refine mT_ld hx hb hK hP (i := b) (by omega) dX1_split_34 ?_
        rcases ic_bool (T b) with f1 | f1
        · skip
          refine lv_if_eq (tgt := 44) hx hb dX1_split_35 (by decide) (fun _ => ?_) (fun c9 => absurd (ic_b_f f1) c9)
          exact after b (by omega) (ic_fst_is (by omega) hu (fun _ => f1)) ls (lv_sub hl [0, 1, 2, 3] rfl)
        · skip
          refine lv_if_eq (tgt := 44) hx hb dX1_split_35 (by decide) (fun c9 => absurd c9 (ic_b_t f1)) (fun _ => ?_)
          refine lv_iinc (v := nI (b + 1)) (lv' := [(3, .int (nI (b + 1))), (0, .ref g), (1, .int (nI j)), (2, .int (nI (ic_cn (had j))))]) hx hb dX1_split_38 hl (k := 3) rfl (nI_1 _) (by decide) rfl (fun ls hl => ?_)
          refine lv_goto (tgt := 23) hx hb dX1_split_41 (by decide) ?_
          exact ih (b + 1) (by omega) (fun q hq => by
              by_cases e1 : q = b
              · rw [e1]; exact f1
              · exact hu q (by omega)) ls (lv_sub hl [1, 2, 3, 0] rfl)
    exact loop 8 0 rfl (fun q hq => absurd hq (Nat.not_lt_zero q)) ls (lv_sub hl [2, 3, 1, 0] rfl)
end
section
/-! events known against heights: the law of the clocks, with no program in sight -/
/-- K x e: holder x knows event e; Hh x c: x's height at cell c; O a c: party a is there and has cell c; n events -/
def ic_Gh (K : Nat → Nat → Prop) (Hh : Nat → Nat → Nat) (O : Nat → Nat → Prop) (n : Nat) : Prop :=
  ∃ (S : Nat → Nat → Prop) (v : Nat → Nat) (P : Nat → Nat → Prop),
    (∀ x e, x < 16 → K x e → e < n) ∧
    (∀ x e d, x < 16 → K x e → P e d → K x d) ∧
    (∀ x c e, x < 16 → c < 32 → K x e → S e c → v e ≤ Hh x c) ∧
    (∀ x c, x < 16 → c < 32 → 0 < Hh x c → ∃ e, K x e ∧ S e c ∧ v e = Hh x c) ∧
    (∀ e, e < n → 1 ≤ v e ∧ ∃ c, c < 32 ∧ S e c) ∧
    (∀ e d c, e < n → d < n → c < 32 → S e c → S d c → v e ≤ v d → d = e ∨ P d e) ∧
    (∀ a c e, a < 8 → c < 32 → O a c → e < n → S e c → K a e)
theorem ic_Gh_0 {K : Nat → Nat → Prop} {Hh : Nat → Nat → Nat} {O : Nat → Nat → Prop} (hK : ∀ x e, ¬ K x e) (hH : ∀ x c, Hh x c = 0) : ic_Gh K Hh O 0 := by
  refine ⟨fun _ _ => False, fun _ => 0, fun _ _ => False, ?_, ?_, ?_, ?_, ?_, ?_, ?_⟩
  · intro x e _ h; exact absurd h (hK x e)
  · intro x e d _ h; exact absurd h (hK x e)
  · intro x c e _ _ h; exact absurd h (hK x e)
  · intro x c _ _ h; rw [hH] at h; exact absurd h (Nat.lt_irrefl 0)
  · intro e h; exact absurd h (Nat.not_lt_zero e)
  · intro e d c h; exact absurd h (Nat.not_lt_zero e)
  · intro a c e _ _ _ h; exact absurd h (Nat.not_lt_zero e)
theorem ic_Gh_order {K : Nat → Nat → Prop} {Hh : Nat → Nat → Nat} {O : Nat → Nat → Prop} {n x y : Nat} (h : ic_Gh K Hh O n) (hx : x < 16) (hy : y < 16) : (∀ e, K x e → K y e) ↔ ∀ c, c < 32 → Hh x c ≤ Hh y c := by
  obtain ⟨S, v, P, h1, h2, h3, h4, h5, h6, h7⟩ := h
  constructor
  · intro q c hc
    rcases Nat.eq_zero_or_pos (Hh x c) with z | z
    · rw [z]; exact Nat.zero_le _
    · obtain ⟨e, a1, a2, a3⟩ := h4 x c hx hc z
      rw [← a3]
      exact h3 y c e hy hc (q e a1) a2
  · intro q e he
    have hen := h1 x e hx he
    obtain ⟨p1, c, hc, hs⟩ := h5 e hen
    have b1 := h3 x c e hx hc he hs
    have b2 := q c hc
    obtain ⟨d, a1, a2, a3⟩ := h4 y c hy hc (by omega)
    rcases h6 e d c hen (h1 y d hy a1) hc hs a2 (by omega) with z | z
    · rw [← z]; exact a1
    · exact h2 y d e hy a1 z
theorem ic_Gh_event {K K' : Nat → Nat → Prop} {Hh Hh' : Nat → Nat → Nat} {O : Nat → Nat → Prop} {n a t : Nat} (h : ic_Gh K Hh O n) (ha : a < 8) (hne : ∃ c, c < 32 ∧ O a c) (hdis : ∀ b c, b < 8 → c < 32 → O a c → O b c → b = a) (ht : ∀ c, c < 32 → O a c → Hh a c ≤ t) (hK : ∀ x e, x < 16 → (K' x e ↔ K x e ∨ (x = a ∧ e = n))) (hH1 : ∀ c, c < 32 → O a c → Hh' a c = t + 1) (hH2 : ∀ x c, x < 16 → c < 32 → ¬ (x = a ∧ O a c) → Hh' x c = Hh x c) : ic_Gh K' Hh' O (n + 1) := by
  obtain ⟨S, v, P, h1, h2, h3, h4, h5, h6, h7⟩ := h
  have ha16 : a < 16 := by omega
  have hold : ∀ x e, x < 16 → e < n → K' x e → K x e := by
    intro x e hx he q
    rcases (hK x e hx).mp q with z | z
    · exact z
    · omega
  have hnew : ∀ x, x < 16 → K' x n → x = a := by
    intro x hx q
    rcases (hK x n hx).mp q with z | z
    · exact absurd (h1 x n hx z) (Nat.lt_irrefl n)
    · exact z.1
  obtain ⟨v', hv1, hv2⟩ : ∃ v' : Nat → Nat, v' n = t + 1 ∧ ∀ e, ¬ e = n → v' e = v e := ⟨fun e => if e = n then t + 1 else v e, if_pos rfl, fun e he => if_neg he⟩
  refine ⟨fun e c => (e = n ∧ O a c) ∨ (e < n ∧ S e c), v', fun e d => (e = n ∧ K a d) ∨ (e < n ∧ P e d), ?_, ?_, ?_, ?_, ?_, ?_, ?_⟩
  · intro x e hx q
    rcases (hK x e hx).mp q with z | z
    · have := h1 x e hx z; omega
    · omega
  · intro x e d hx q p
    rcases p with ⟨p1, p2⟩ | ⟨p1, p2⟩
    · subst p1
      have hxa := hnew x hx q
      subst hxa
      exact (hK x d hx).mpr (Or.inl p2)
    · exact (hK x d hx).mpr (Or.inl (h2 x e d hx (hold x e hx p1 q) p2))
  · intro x c e hx hc q p
    rcases p with ⟨p1, p2⟩ | ⟨p1, p2⟩
    · subst p1
      have hxa := hnew x hx q
      subst hxa
      rw [hv1, hH1 c hc p2]
      exact Nat.le_refl _
    · have b1 := h3 x c e hx hc (hold x e hx p1 q) p2
      rw [hv2 e (by omega)]
      by_cases w : x = a ∧ O a c
      · obtain ⟨w1, w2⟩ := w
        subst w1
        have b2 := ht c hc w2
        rw [hH1 c hc w2]
        omega
      · rw [hH2 x c hx hc w]
        exact b1
  · intro x c hx hc q
    by_cases w : x = a ∧ O a c
    · obtain ⟨w1, w2⟩ := w
      subst w1
      exact ⟨n, (hK x n hx).mpr (Or.inr ⟨rfl, rfl⟩), Or.inl ⟨rfl, w2⟩, by rw [hv1, hH1 c hc w2]⟩
    · rw [hH2 x c hx hc w] at q ⊢
      obtain ⟨e, a1, a2, a3⟩ := h4 x c hx hc q
      have hen := h1 x e hx a1
      exact ⟨e, (hK x e hx).mpr (Or.inl a1), Or.inr ⟨hen, a2⟩, by rw [hv2 e (by omega)]; exact a3⟩
  · intro e he
    by_cases w : e = n
    · subst w
      obtain ⟨c, hc, ho⟩ := hne
      exact ⟨by rw [hv1]; omega, c, hc, Or.inl ⟨rfl, ho⟩⟩
    · obtain ⟨p1, c, hc, hs⟩ := h5 e (by omega)
      exact ⟨by rw [hv2 e w]; exact p1, c, hc, Or.inr ⟨by omega, hs⟩⟩
  · intro e d c he hd hc q p b
    rcases q with ⟨q1, q2⟩ | ⟨q1, q2⟩
    · subst q1
      rcases p with ⟨p1, p2⟩ | ⟨p1, p2⟩
      · exact Or.inl p1
      · exfalso
        have k1 := h7 a c d ha hc q2 p1 p2
        have k2 := h3 a c d ha16 hc k1 p2
        have k3 := ht c hc q2
        rw [hv1, hv2 d (by omega)] at b
        omega
    · rcases p with ⟨p1, p2⟩ | ⟨p1, p2⟩
      · exact Or.inr (Or.inl ⟨p1, h7 a c e ha hc p2 q1 q2⟩)
      · rw [hv2 e (by omega), hv2 d (by omega)] at b
        rcases h6 e d c q1 p1 hc q2 p2 b with z | z
        · exact Or.inl z
        · exact Or.inr (Or.inr ⟨p1, z⟩)
  · intro b c e hb hc ho he q
    rcases q with ⟨q1, q2⟩ | ⟨q1, q2⟩
    · exact (hK b e (by omega)).mpr (Or.inr ⟨hdis b c hb hc q2 ho, q1⟩)
    · exact (hK b e (by omega)).mpr (Or.inl (h7 b c e hb hc ho q1 q2))
theorem ic_Gh_merge {K K' : Nat → Nat → Prop} {Hh Hh' : Nat → Nat → Nat} {O O' : Nat → Nat → Prop} {n a f : Nat} (h : ic_Gh K Hh O n) (ha : a < 16) (hf : f < 16) (hK : ∀ x e, x < 16 → (K' x e ↔ K x e ∨ (x = a ∧ K f e))) (hH1 : ∀ c, c < 32 → Hh' a c = max (Hh a c) (Hh f c)) (hH2 : ∀ x c, x < 16 → c < 32 → ¬ x = a → Hh' x c = Hh x c) (hO : ∀ b c, b < 8 → c < 32 → O' b c → O b c ∨ (b = a ∧ f < 8 ∧ O f c)) : ic_Gh K' Hh' O' n := by
  obtain ⟨S, v, P, h1, h2, h3, h4, h5, h6, h7⟩ := h
  refine ⟨S, v, P, ?_, ?_, ?_, ?_, h5, h6, ?_⟩
  · intro x e hx q
    rcases (hK x e hx).mp q with z | z
    · exact h1 x e hx z
    · exact h1 f e hf z.2
  · intro x e d hx q p
    rcases (hK x e hx).mp q with z | z
    · exact (hK x d hx).mpr (Or.inl (h2 x e d hx z p))
    · exact (hK x d hx).mpr (Or.inr ⟨z.1, h2 f e d hf z.2 p⟩)
  · intro x c e hx hc q p
    by_cases w : x = a
    · subst w
      rw [hH1 c hc]
      rcases (hK x e hx).mp q with z | z
      · have := h3 x c e hx hc z p; omega
      · have := h3 f c e hf hc z.2 p; omega
    · rw [hH2 x c hx hc w]
      rcases (hK x e hx).mp q with z | z
      · exact h3 x c e hx hc z p
      · exact absurd z.1 w
  · intro x c hx hc q
    by_cases w : x = a
    · subst w
      rw [hH1 c hc] at q ⊢
      rcases Nat.lt_or_ge (Hh x c) (Hh f c) with g | g
      · obtain ⟨e, a1, a2, a3⟩ := h4 f c hf hc (by omega)
        exact ⟨e, (hK x e hx).mpr (Or.inr ⟨rfl, a1⟩), a2, by omega⟩
      · obtain ⟨e, a1, a2, a3⟩ := h4 x c hx hc (by omega)
        exact ⟨e, (hK x e hx).mpr (Or.inl a1), a2, by omega⟩
    · rw [hH2 x c hx hc w] at q ⊢
      obtain ⟨e, a1, a2, a3⟩ := h4 x c hx hc q
      exact ⟨e, (hK x e hx).mpr (Or.inl a1), a2, a3⟩
  · intro b c e hb hc ho he q
    rcases hO b c hb hc ho with z | z
    · exact (hK b e (by omega)).mpr (Or.inl (h7 b c e hb hc z he q))
    · exact (hK b e (by omega)).mpr (Or.inr ⟨z.1, h7 f c e z.2.1 hc z.2.2 he q⟩)
theorem ic_Gh_copy {K K' : Nat → Nat → Prop} {Hh Hh' : Nat → Nat → Nat} {O O' : Nat → Nat → Prop} {n a f : Nat} (h : ic_Gh K Hh O n) (hf : f < 16) (hK1 : ∀ e, K' a e ↔ K f e) (hK2 : ∀ x e, x < 16 → ¬ x = a → (K' x e ↔ K x e)) (hH1 : ∀ c, c < 32 → Hh' a c = Hh f c) (hH2 : ∀ x c, x < 16 → c < 32 → ¬ x = a → Hh' x c = Hh x c) (hO : ∀ b c, b < 8 → c < 32 → O' b c → (b = a ∧ f < 8 ∧ O f c) ∨ (¬ b = a ∧ O b c)) : ic_Gh K' Hh' O' n := by
  obtain ⟨S, v, P, h1, h2, h3, h4, h5, h6, h7⟩ := h
  refine ⟨S, v, P, ?_, ?_, ?_, ?_, h5, h6, ?_⟩
  · intro x e hx q
    by_cases w : x = a
    · subst w; exact h1 f e hf ((hK1 e).mp q)
    · exact h1 x e hx ((hK2 x e hx w).mp q)
  · intro x e d hx q p
    by_cases w : x = a
    · subst w; exact (hK1 d).mpr (h2 f e d hf ((hK1 e).mp q) p)
    · exact (hK2 x d hx w).mpr (h2 x e d hx ((hK2 x e hx w).mp q) p)
  · intro x c e hx hc q p
    by_cases w : x = a
    · subst w; rw [hH1 c hc]; exact h3 f c e hf hc ((hK1 e).mp q) p
    · rw [hH2 x c hx hc w]; exact h3 x c e hx hc ((hK2 x e hx w).mp q) p
  · intro x c hx hc q
    by_cases w : x = a
    · subst w
      rw [hH1 c hc] at q ⊢
      obtain ⟨e, a1, a2⟩ := h4 f c hf hc q
      exact ⟨e, (hK1 e).mpr a1, a2⟩
    · rw [hH2 x c hx hc w] at q ⊢
      obtain ⟨e, a1, a2⟩ := h4 x c hx hc q
      exact ⟨e, (hK2 x e hx w).mpr a1, a2⟩
  · intro b c e hb hc ho he q
    rcases hO b c hb hc ho with ⟨z1, z2, z3⟩ | ⟨z1, z2⟩
    · subst z1; exact (hK1 e).mpr (h7 f c e z2 hc z3 he q)
    · exact (hK2 b e (by omega) z1).mpr (h7 b c e hb hc z2 he q)
theorem ic_Gh_O {K : Nat → Nat → Prop} {Hh : Nat → Nat → Nat} {O O' : Nat → Nat → Prop} {n : Nat} (h : ic_Gh K Hh O n) (hO : ∀ b c, b < 8 → c < 32 → O' b c → O b c) : ic_Gh K Hh O' n := by
  obtain ⟨S, v, P, h1, h2, h3, h4, h5, h6, h7⟩ := h
  exact ⟨S, v, P, h1, h2, h3, h4, h5, h6, fun a c e ha hc ho he q => h7 a c e ha hc (hO a c ha hc ho) he q⟩
/-! bits of a long -/
def ic_bl (x : Int64) (e : Nat) : Bool := x.toBitVec.getLsbD e
theorem ic_bl_or (x y : Int64) (e : Nat) : ic_bl (x ||| y) e = (ic_bl x e || ic_bl y e) := by unfold ic_bl; rw [Int64.toBitVec_or, BitVec.getLsbD_or]
theorem ic_bl_and (x y : Int64) (e : Nat) : ic_bl (x &&& y) e = (ic_bl x e && ic_bl y e) := by unfold ic_bl; rw [Int64.toBitVec_and, BitVec.getLsbD_and]
theorem ic_bl_xor (x y : Int64) (e : Nat) : ic_bl (x ^^^ y) e = (ic_bl x e ^^ ic_bl y e) := by unfold ic_bl; rw [Int64.toBitVec_xor, BitVec.getLsbD_xor]
theorem ic_bl_0 (e : Nat) : ic_bl 0 e = false := BitVec.getLsbD_zero
theorem ic_bl_big {x : Int64} {e : Nat} (h : 64 ≤ e) : ic_bl x e = false := BitVec.getLsbD_of_ge _ _ h
theorem ic_bl_m1 : ∀ e, e < 64 → ic_bl (-1) e = true := by decide +kernel
theorem ic_bl_lb {n : Nat} (hn : n < 64) (e : Nat) : ic_bl (ic_lb n) e = decide (e = n) := by
  rcases Nat.lt_or_ge e 64 with h | h
  · exact (by decide +kernel : ∀ n, n < 64 → ∀ e, e < 64 → ic_bl (ic_lb n) e = decide (e = n)) n hn e h
  · rw [ic_bl_big h, decide_eq_false (by omega)]
theorem ic_bl_sub (a b : Int64) : a &&& (b ^^^ (-1)) = 0 ↔ ∀ e, ic_bl a e = true → ic_bl b e = true := by
  constructor
  · intro h e he
    rcases Nat.lt_or_ge e 64 with g | g
    · have q : ic_bl (a &&& (b ^^^ (-1))) e = ic_bl 0 e := by rw [h]
      rw [ic_bl_and, ic_bl_xor, ic_bl_m1 e g, ic_bl_0, he, Bool.true_and] at q
      cases hb : ic_bl b e
      · rw [hb] at q; cases q
      · rfl
    · rw [ic_bl_big g] at he; cases he
  · intro h
    apply Int64.toBitVec_inj.mp
    apply BitVec.eq_of_getLsbD_eq
    intro e he
    show ic_bl (a &&& (b ^^^ (-1))) e = ic_bl 0 e
    rw [ic_bl_and, ic_bl_xor, ic_bl_m1 e he, ic_bl_0]
    cases ha : ic_bl a e
    · rfl
    · rw [h e ha]; rfl
end
section
/-! the two states side by side -/
def ic_Inv (th : Int32) (own : Nat → Int32) (Hn : Nat → Nat) (n : Nat) (T : Nat → Bool) (lo hi : Nat → Int64) (had : Nat → Int32) (nm : Nat) : Prop :=
  T = bt th ∧ nm = n ∧ (∀ j, 16 ≤ j → bt th j = false) ∧ (∀ a, a < 8 → bt th a = true → had a = own a) ∧ (∀ x, x < 16 → hi x = 0) ∧ (∀ k, k < 512 → Hn k ≤ n) ∧
  (∀ a, a < 8 → bt th a = true → ∃ c, c < 32 ∧ bt (own a) c = true) ∧
  (∀ a b c, a < 8 → b < 8 → c < 32 → bt th a = true → bt th b = true → bt (own a) c = true → bt (own b) c = true → a = b) ∧
  ic_Gh (fun x e => ic_bl (lo x) e = true) (fun x c => Hn (x * 32 + c)) (fun a c => bt th a = true ∧ bt (own a) c = true) n
def ic_Inv2 (u : ic_X) (w : ic_M) : Prop := ic_Inv u.1 u.2.1 u.2.2.1 u.2.2.2 w.1 w.2.1 w.2.2.1 w.2.2.2.1 w.2.2.2.2
theorem ic_up_t {T : Nat → Bool} {b a : Nat} (h : va_up T b true a = true) : a = b ∨ (¬ a = b ∧ T a = true) := by
  unfold va_up at h
  by_cases e : a = b
  · exact Or.inl e
  · rw [if_neg e] at h; exact Or.inr ⟨e, h⟩
theorem ic_up_f {T : Nat → Bool} {b a : Nat} (h : va_up T b false a = true) : ¬ a = b ∧ T a = true := by
  unfold va_up at h
  by_cases e : a = b
  · rw [if_pos e] at h; cases h
  · rw [if_neg e] at h; exact ⟨e, h⟩
theorem ic_up_in {T : Nat → Bool} {b : Nat} {v : Bool} : va_up T b v b = v := if_pos rfl
theorem ic_up_out {T : Nat → Bool} {b a : Nat} {v : Bool} (h : ¬ a = b) : va_up T b v a = T a := if_neg h
theorem ic_uL_in {f : Nat → Int64} {k : Nat} {x : Int64} : vp_updL f k x k = x := if_pos rfl
theorem ic_uL_out {f : Nat → Int64} {k j : Nat} {x : Int64} (h : ¬ j = k) : vp_updL f k x j = f j := if_neg h
theorem ic_cp_in (Hn : Nat → Nat) (f t : Nat) {c : Nat} (hc : c < 32) : ic_cp Hn f t 32 (t * 32 + c) = Hn (f * 32 + c) := by
  unfold ic_cp
  rw [if_pos (by omega), Nat.add_sub_cancel_left]
theorem ic_cp_out (Hn : Nat → Nat) (f : Nat) {t x c : Nat} (hc : c < 32) (h : ¬ x = t) : ic_cp Hn f t 32 (x * 32 + c) = Hn (x * 32 + c) := if_neg (by omega)
theorem ic_cp_le {Hn : Nat → Nat} {f t n : Nat} (hf : f < 16) (h : ∀ k, k < 512 → Hn k ≤ n) : ∀ k, k < 512 → ic_cp Hn f t 32 k ≤ n := by
  intro k hk
  unfold ic_cp
  split
  · exact h _ (by omega)
  · exact h k hk
theorem ic_rs_in (Hn : Nat → Nat) (t f : Nat) {c : Nat} (hc : c < 32) : ic_rs Hn t f 32 (t * 32 + c) = max (Hn (t * 32 + c)) (Hn (f * 32 + c)) := by
  unfold ic_rs
  rw [if_pos (by omega), Nat.add_sub_cancel_left]
theorem ic_rs_out (Hn : Nat → Nat) (f : Nat) {t x c : Nat} (hc : c < 32) (h : ¬ x = t) : ic_rs Hn t f 32 (x * 32 + c) = Hn (x * 32 + c) := if_neg (by omega)
theorem ic_rs_le {Hn : Nat → Nat} {f t n : Nat} (hf : f < 16) (h : ∀ k, k < 512 → Hn k ≤ n) : ∀ k, k < 512 → ic_rs Hn t f 32 k ≤ n := by
  intro k hk
  unfold ic_rs
  split
  · have h1 := h k hk
    have h2 := h (f * 32 + (k - t * 32)) (by omega)
    omega
  · exact h k hk
theorem ic_fol_iff {lo hi : Nat → Int64} {x y : Nat} (hx : hi x = 0) : ic_fol lo hi x y = true ↔ ∀ e, ic_bl (lo x) e = true → ic_bl (lo y) e = true := by
  have h2 : hi x &&& (hi y ^^^ (-1)) = 0 := by
    rw [hx]
    exact (ic_bl_sub 0 (hi y)).mpr (fun e he => by rw [ic_bl_0] at he; cases he)
  unfold ic_fol
  rw [decide_eq_true h2, Bool.and_true, decide_eq_true_iff]
  exact ic_bl_sub _ _
theorem ic_or64_0 (x : Int64) (h : x = 0) (y : Int64) (h2 : y = 0) : x ||| y = 0 := by rw [h, h2]; decide
section ICI
variable {th : Int32} {own : Nat → Int32} {Hn : Nat → Nat} {n : Nat} {T : Nat → Bool} {lo hi : Nat → Int64} {had : Nat → Int32} {nm : Nat}
theorem ic_Inv_F (h : ic_Inv th own Hn n T lo hi had nm) : ∀ x y, x < 16 → y < 16 → ic_fol lo hi x y = ic_F Hn x y := by
  obtain ⟨-, -, -, -, h5, -, -, -, hG⟩ := h
  intro x y hx hy
  have k1 := ic_fol_iff (lo := lo) (hi := hi) (y := y) (h5 x hx)
  have k2 := ic_un_iff Hn x y 32
  have k3 := ic_Gh_order hG hx hy
  have k4 : ic_fol lo hi x y = true ↔ ic_F Hn x y = true := k1.trans (k3.trans k2.symm)
  cases a1 : ic_fol lo hi x y
  · cases a2 : ic_F Hn x y
    · rfl
    · exact absurd (k4.mpr a2) (ic_nt a1)
  · exact (k4.mp a1).symm
theorem ic_Inv_cel (h : ic_Inv th own Hn n T lo hi had nm) (a : Int32) : ic_cel (bt th) own a = ic_cel T had a := by
  obtain ⟨rfl, -, -, h4, -⟩ := h
  rcases ic_bool (ic_in (bt th) 8 a) with z | z
  · rw [ic_cel_no z, ic_cel_no z]
  · obtain ⟨j, hj, rfl, hT⟩ := ic_in_of (by decide) z
    rw [ic_cel_ok hj hT, ic_cel_ok hj hT, h4 j hj hT]
theorem ic_Inv_par (h : ic_Inv th own Hn n T lo hi had nm) : th &&& nI 255 = ic_bs (fun i => T (0 + i)) 8 := by
  obtain ⟨rfl, -⟩ := h
  apply b_ext
  intro i hi
  rw [b_and, show bt (nI 255) i = decide (i < 8) from b_255 i, ic_bs_bt _ (by decide) hi, Nat.zero_add, Bool.and_comm]
theorem ic_Inv_not (h : ic_Inv th own Hn n T lo hi had nm) : th >>> (nI 8 &&& 31) = ic_bs (fun i => T (8 + i)) 8 := by
  obtain ⟨rfl, -, h3, -⟩ := h
  apply b_ext
  intro i hi
  rw [b_sshr 8 (by decide) th hi, ic_bs_bt _ (by decide) hi]
  by_cases e : i < 8
  · rw [if_pos (by omega), decide_eq_true e, Bool.true_and]
  · rw [decide_eq_false e, Bool.false_and]
    split
    · exact h3 _ (by omega)
    · exact h3 31 (by decide)
theorem ic_step_erase (h : ic_Inv th own Hn n T lo hi had nm) (x : Int32) : (ic_Xerase th own Hn n x).1 = (ic_Merase T lo hi had nm x).1 ∧ ic_Inv2 (ic_Xerase th own Hn n x).2 (ic_Merase T lo hi had nm x).2 ∧ (ic_Xerase th own Hn n x).2.2.2.2 ≤ n + 1 := by
  have h0 := h
  obtain ⟨rfl, rfl, h3, h4, h5, h6, h7, h8, hG⟩ := h
  rcases ic_bool (ic_in (fun j => bt th (8 + j)) 8 x) with z | z
  · rw [ic_Xerase_no z, ic_Merase_no z]
    exact ⟨rfl, h0, Nat.le_succ _⟩
  · obtain ⟨j, hj, rfl, hT⟩ := ic_in_of (by decide) z
    rw [ic_Xerase_ok hj hT, ic_Merase_ok hj hT]
    have e1 := ic_clr_sh th (show 8 + j < 32 by omega)
    refine ⟨rfl, ⟨e1.symm, rfl, ?_, ?_, h5, h6, ?_, ?_, ?_⟩, Nat.le_succ _⟩
    · intro k hk
      show bt (th &&& (ic_sh (8 + j) ^^^ (-1))) k = false
      rw [e1, ic_up_out (by omega)]
      exact h3 k hk
    · intro a ha q
      have q : bt (th &&& (ic_sh (8 + j) ^^^ (-1))) a = true := q
      rw [e1] at q
      exact h4 a ha (ic_up_f q).2
    · intro a ha q
      have q : bt (th &&& (ic_sh (8 + j) ^^^ (-1))) a = true := q
      rw [e1] at q
      exact h7 a ha (ic_up_f q).2
    · intro a b c ha hb hc q1 q2
      have q1 : bt (th &&& (ic_sh (8 + j) ^^^ (-1))) a = true := q1
      have q2 : bt (th &&& (ic_sh (8 + j) ^^^ (-1))) b = true := q2
      rw [e1] at q1 q2
      exact h8 a b c ha hb hc (ic_up_f q1).2 (ic_up_f q2).2
    · refine ic_Gh_O hG ?_
      intro b c hb hc q
      obtain ⟨q1, q2⟩ := q
      have q1 : bt (th &&& (ic_sh (8 + j) ^^^ (-1))) b = true := q1
      rw [e1] at q1
      exact ⟨(ic_up_f q1).2, q2⟩
theorem ic_step_note (h : ic_Inv th own Hn n T lo hi had nm) (x y : Int32) : (ic_Xnote th own Hn n x y).1 = (ic_Mnote T lo hi had nm x y).1 ∧ ic_Inv2 (ic_Xnote th own Hn n x y).2 (ic_Mnote T lo hi had nm x y).2 ∧ (ic_Xnote th own Hn n x y).2.2.2.2 ≤ n + 1 := by
  have h0 := h
  obtain ⟨rfl, rfl, h3, h4, h5, h6, h7, h8, hG⟩ := h
  by_cases z : ic_in (bt th) 8 x = true ∧ ic_in (fun _ => true) 8 y = true
  · obtain ⟨i, hi0, rfl, t1⟩ := ic_in_of (by decide) z.1
    obtain ⟨j, hj, rfl, -⟩ := ic_in_of (by decide) z.2
    rw [ic_Xnote_ok hi0 hj t1, ic_Mnote_ok hi0 hj t1]
    have e1 := ic_or_sh th (show 8 + j < 32 by omega)
    have e2 : ∀ a, a < 8 → bt (th ||| ic_sh (8 + j)) a = true → bt th a = true := by
      intro a ha q
      rw [e1] at q
      rcases ic_up_t q with w | w
      · omega
      · exact w.2
    refine ⟨rfl, ⟨e1.symm, rfl, ?_, ?_, ?_, ?_, ?_, ?_, ?_⟩, Nat.le_succ _⟩
    · intro k hk
      show bt (th ||| ic_sh (8 + j)) k = false
      rw [e1, ic_up_out (by omega)]
      exact h3 k hk
    · intro a ha q
      exact h4 a ha (e2 a ha q)
    · intro k hk
      show vp_updL hi (8 + j) (hi i) k = 0
      by_cases w : k = 8 + j
      · rw [w, ic_uL_in]; exact h5 i (by omega)
      · rw [ic_uL_out w]; exact h5 k hk
    · exact ic_cp_le (by omega) h6
    · intro a ha q
      exact h7 a ha (e2 a ha q)
    · intro a b c ha hb hc q1 q2
      exact h8 a b c ha hb hc (e2 a ha q1) (e2 b hb q2)
    · refine ic_Gh_copy (a := 8 + j) (f := i) hG (by omega) ?_ ?_ ?_ ?_ ?_
      · intro e
        show ic_bl (vp_updL lo (8 + j) (lo i) (8 + j)) e = true ↔ _
        rw [ic_uL_in]
      · intro a e ha w
        show ic_bl (vp_updL lo (8 + j) (lo i) a) e = true ↔ _
        rw [ic_uL_out w]
      · intro c hc
        exact ic_cp_in Hn i (8 + j) hc
      · intro a c ha hc w
        exact ic_cp_out Hn i hc w
      · intro b c hb hc q
        exact Or.inr ⟨by omega, e2 b hb q.1, q.2⟩
  · rw [ic_Xnote_no z, ic_Mnote_no z]
    exact ⟨rfl, h0, Nat.le_succ _⟩
theorem ic_step_tell (h : ic_Inv th own Hn n T lo hi had nm) (x y : Int32) : (ic_Xtell th own Hn n x y).1 = (ic_Mtell T lo hi had nm x y).1 ∧ ic_Inv2 (ic_Xtell th own Hn n x y).2 (ic_Mtell T lo hi had nm x y).2 ∧ (ic_Xtell th own Hn n x y).2.2.2.2 ≤ n + 1 := by
  have h0 := h
  have hF := ic_Inv_F h
  obtain ⟨rfl, rfl, h3, h4, h5, h6, h7, h8, hG⟩ := h
  by_cases z : ic_in (bt th) 16 x = true ∧ ic_in (bt th) 8 y = true ∧ ¬ x = y
  · obtain ⟨i, hi0, rfl, t1⟩ := ic_in_of (by decide) z.1
    obtain ⟨j, hj, rfl, t2⟩ := ic_in_of (by decide) z.2.1
    rw [ic_Xtell_ok hi0 hj t1 t2 z.2.2, ic_Mtell_ok hi0 hj t1 t2 z.2.2]
    refine ⟨by show ic_b (!ic_F Hn i j) = ic_b (!ic_fol lo hi i j); rw [hF i j hi0 (by omega)], ⟨rfl, rfl, h3, h4, ?_, ?_, h7, h8, ?_⟩, Nat.le_succ _⟩
    · intro k hk
      show vp_updL hi j (hi j ||| hi i) k = 0
      by_cases w : k = j
      · rw [w, ic_uL_in]; exact ic_or64_0 _ (h5 j (by omega)) _ (h5 i hi0)
      · rw [ic_uL_out w]; exact h5 k hk
    · exact ic_rs_le hi0 h6
    · refine ic_Gh_merge (a := j) (f := i) hG (by omega) hi0 ?_ ?_ ?_ ?_
      · intro a e ha
        show ic_bl (vp_updL lo j (lo j ||| lo i) a) e = true ↔ _
        by_cases w : a = j
        · subst w
          rw [ic_uL_in, ic_bl_or, Bool.or_eq_true]
          exact ⟨fun q => q.elim Or.inl (fun q => Or.inr ⟨rfl, q⟩), fun q => q.elim Or.inl (fun q => Or.inr q.2)⟩
        · rw [ic_uL_out w]
          exact ⟨Or.inl, fun q => q.elim id (fun q => absurd q.1 w)⟩
      · intro c hc
        exact ic_rs_in Hn j i hc
      · intro a c ha hc w
        exact ic_rs_out Hn i hc w
      · intro b c hb hc q
        exact Or.inl q
  · rw [ic_Xtell_no z, ic_Mtell_no z]
    exact ⟨rfl, h0, Nat.le_succ _⟩
theorem ic_step_join (h : ic_Inv th own Hn n T lo hi had nm) (x y : Int32) : (ic_Xjoin th own Hn n x y).1 = (ic_Mjoin T lo hi had nm x y).1 ∧ ic_Inv2 (ic_Xjoin th own Hn n x y).2 (ic_Mjoin T lo hi had nm x y).2 ∧ (ic_Xjoin th own Hn n x y).2.2.2.2 ≤ n + 1 := by
  have h0 := h
  obtain ⟨rfl, rfl, h3, h4, h5, h6, h7, h8, hG⟩ := h
  by_cases z : ic_in (bt th) 8 x = true ∧ ic_in (bt th) 8 y = true ∧ ¬ x = y
  · obtain ⟨i, hi0, rfl, t1⟩ := ic_in_of (by decide) z.1
    obtain ⟨j, hj, rfl, t2⟩ := ic_in_of (by decide) z.2.1
    have hne : ¬ i = j := fun q => z.2.2 (congrArg nI q)
    rw [ic_Xjoin_ok hi0 hj t1 t2 z.2.2, ic_Mjoin_ok hi0 hj t1 t2 z.2.2]
    have e1 := ic_clr_sh th (show j < 32 by omega)
    have e2 : ∀ a, bt (th &&& (ic_sh j ^^^ (-1))) a = true → ¬ a = j ∧ bt th a = true := by
      intro a q
      rw [e1] at q
      exact ic_up_f q
    have o1 : ∀ a, ¬ a = j → ¬ a = i → upd (upd own i (own i ||| own j)) j (nI 0) a = own a := by
      intro a w1 w2
      rw [pk_un w1, pk_un w2]
    have o2 : upd (upd own i (own i ||| own j)) j (nI 0) i = own i ||| own j := by rw [pk_un hne, pk_us]
    have o3 : ∀ a c, ¬ a = j → bt (upd (upd own i (own i ||| own j)) j (nI 0) a) c = true → bt (own a) c = true ∨ (a = i ∧ bt (own j) c = true) := by
      intro a c w q
      by_cases w2 : a = i
      · subst w2
        rw [o2, b_or, Bool.or_eq_true] at q
        exact q.elim Or.inl (fun q => Or.inr ⟨rfl, q⟩)
      · rw [o1 a w w2] at q
        exact Or.inl q
    refine ⟨by show nI (ic_cn (own i ||| own j)) = nI (ic_cn (had i ||| had j)); rw [h4 i hi0 t1, h4 j hj t2], ⟨e1.symm, rfl, ?_, ?_, ?_, ?_, ?_, ?_, ?_⟩, Nat.le_succ _⟩
    · intro k hk
      show bt (th &&& (ic_sh j ^^^ (-1))) k = false
      rw [e1, ic_up_out (by omega)]
      exact h3 k hk
    · intro a ha q
      obtain ⟨q1, q2⟩ := e2 a q
      show upd had i (had i ||| had j) a = upd (upd own i (own i ||| own j)) j (nI 0) a
      by_cases w : a = i
      · subst w
        rw [pk_us, o2, h4 a hi0 t1, h4 j hj t2]
      · rw [pk_un w, o1 a q1 w, h4 a ha q2]
    · intro k hk
      show vp_updL hi i (hi i ||| hi j) k = 0
      by_cases w : k = i
      · rw [w, ic_uL_in]; exact ic_or64_0 _ (h5 i (by omega)) _ (h5 j (by omega))
      · rw [ic_uL_out w]; exact h5 k hk
    · exact ic_rs_le (by omega) h6
    · intro a ha q
      obtain ⟨q1, q2⟩ := e2 a q
      obtain ⟨c, hc, hb⟩ := h7 a ha q2
      refine ⟨c, hc, ?_⟩
      show bt (upd (upd own i (own i ||| own j)) j (nI 0) a) c = true
      by_cases w : a = i
      · subst w
        rw [o2, b_or, hb]; rfl
      · rw [o1 a q1 w]; exact hb
    · intro a b c ha hb hc q1 q2 p1 p2
      obtain ⟨q1, q3⟩ := e2 a q1
      obtain ⟨q2, q4⟩ := e2 b q2
      rcases o3 a c q1 p1 with r1 | r1
      · rcases o3 b c q2 p2 with r2 | r2
        · exact h8 a b c ha hb hc q3 q4 r1 r2
        · exact absurd (h8 a j c ha hj hc q3 t2 r1 r2.2) q1
      · rcases o3 b c q2 p2 with r2 | r2
        · exact absurd (h8 b j c hb hj hc q4 t2 r2 r1.2) q2
        · rw [r1.1, r2.1]
    · refine ic_Gh_merge (a := i) (f := j) hG (by omega) (by omega) ?_ ?_ ?_ ?_
      · intro a e ha
        show ic_bl (vp_updL lo i (lo i ||| lo j) a) e = true ↔ _
        by_cases w : a = i
        · subst w
          rw [ic_uL_in, ic_bl_or, Bool.or_eq_true]
          exact ⟨fun q => q.elim Or.inl (fun q => Or.inr ⟨rfl, q⟩), fun q => q.elim Or.inl (fun q => Or.inr q.2)⟩
        · rw [ic_uL_out w]
          exact ⟨Or.inl, fun q => q.elim id (fun q => absurd q.1 w)⟩
      · intro c hc
        exact ic_rs_in Hn i j hc
      · intro a c ha hc w
        exact ic_rs_out Hn j hc w
      · intro b c hb hc q
        obtain ⟨q1, q2⟩ := e2 b q.1
        rcases o3 b c q1 q.2 with r | r
        · exact Or.inl ⟨q2, r⟩
        · exact Or.inr ⟨r.1, hj, t2, r.2⟩
  · rw [ic_Xjoin_no z, ic_Mjoin_no z]
    exact ⟨rfl, h0, Nat.le_succ _⟩
theorem ic_step_event (h : ic_Inv th own Hn n T lo hi had nm) (hn : n < 64) (x : Int32) : (ic_Xevent th own Hn n x).1 = (ic_Mevent T lo hi had nm x).1 ∧ ic_Inv2 (ic_Xevent th own Hn n x).2 (ic_Mevent T lo hi had nm x).2 ∧ (ic_Xevent th own Hn n x).2.2.2.2 ≤ n + 1 := by
  have h0 := h
  obtain ⟨rfl, rfl, h3, h4, h5, h6, h7, h8, hG⟩ := h
  rcases ic_bool (ic_in (bt th) 8 x) with z | z
  · rw [ic_Xevent_no z, ic_Mevent_no z]
    exact ⟨rfl, h0, Nat.le_succ _⟩
  · obtain ⟨j, hj, rfl, hT⟩ := ic_in_of (by decide) z
    rw [ic_Xevent_ok hj hT, ic_Mevent_ok hj hT]
    have htp := ic_tp_le (o := own j) h6 (show j < 16 by omega) 32 (Nat.le_refl 32)
    have v1 : ∀ c, c < 32 → bt (own j) c = true → ic_ev Hn (own j) j (ic_tp Hn (own j) j 32 + 1) 32 (j * 32 + c) = ic_tp Hn (own j) j 32 + 1 := by
      intro c hc q
      unfold ic_ev
      rw [if_pos ⟨by omega, by omega, by rw [Nat.add_sub_cancel_left]; exact q⟩]
    have v2 : ∀ a c, c < 32 → ¬ (a = j ∧ bt (own j) c = true) → ic_ev Hn (own j) j (ic_tp Hn (own j) j 32 + 1) 32 (a * 32 + c) = Hn (a * 32 + c) := by
      intro a c hc w
      unfold ic_ev
      rw [if_neg]
      rintro ⟨q1, q2, q3⟩
      have ea : a = j := by omega
      subst ea
      rw [Nat.add_sub_cancel_left] at q3
      exact w ⟨rfl, q3⟩
    refine ⟨rfl, ⟨rfl, rfl, h3, h4, h5, ?_, h7, h8, ?_⟩, Nat.le_refl _⟩
    · intro k hk
      show ic_ev Hn (own j) j (ic_tp Hn (own j) j 32 + 1) 32 k ≤ nm + 1
      have := h6 k hk
      unfold ic_ev
      split <;> omega
    · obtain ⟨c0, hc0, hb0⟩ := h7 j hj hT
      refine ic_Gh_event (a := j) (t := ic_tp Hn (own j) j 32) hG hj ⟨c0, hc0, hT, hb0⟩ ?_ ?_ ?_ ?_ ?_
      · intro b c hb hc q1 q2
        exact h8 b j c hb hj hc q2.1 hT q2.2 q1.2
      · intro c hc q
        exact ic_tp_ge 32 hc q.2
      · intro a e ha
        show ic_bl (vp_updL lo j (lo j ||| ic_lb nm) a) e = true ↔ _
        by_cases w : a = j
        · subst w
          rw [ic_uL_in, ic_bl_or, ic_bl_lb hn, Bool.or_eq_true, decide_eq_true_iff]
          exact ⟨fun q => q.elim Or.inl (fun q => Or.inr ⟨rfl, q⟩), fun q => q.elim Or.inl (fun q => Or.inr q.2)⟩
        · rw [ic_uL_out w]
          exact ⟨Or.inl, fun q => q.elim id (fun q => absurd q.1 w)⟩
      · intro c hc q
        exact v1 c hc q.2
      · intro a c ha hc w
        exact v2 a c hc (fun q => w ⟨q.1, hT, q.2⟩)
theorem ic_gg_in {o : Int32} {c : Nat} (hc : c < 32) : bt (ic_gg o) c = ic_gB o (ic_cn o - ic_cn o / 2) c := by
  unfold ic_gg ic_gv
  rw [ic_bs_bt _ (by decide) hc, decide_eq_true hc, Bool.true_and]
theorem ic_gg_sub {o : Int32} {c : Nat} (hc : c < 32) (h : bt (ic_gg o) c = true) : bt o c = true := by
  rw [ic_gg_in hc] at h
  unfold ic_gB at h
  rw [Bool.and_eq_true] at h
  exact h.1
theorem ic_gg_some {o : Int32} (h : 2 ≤ ic_cn o) : ∃ c, c < 32 ∧ bt (ic_gg o) c = true := by
  have hk : ic_cn o - ic_cn o / 2 < fb_ct (bt o) 32 := by
    show ic_cn o - ic_cn o / 2 < ic_cn o
    omega
  obtain ⟨c, hc, h1, h2⟩ := fb_ct_kth hk
  refine ⟨c, hc, ?_⟩
  rw [ic_gg_in hc]
  exact ic_gB_ge h1 (by omega)
theorem ic_gg_left {o : Int32} (h : 2 ≤ ic_cn o) : ∃ c, c < 32 ∧ bt (o &&& (ic_gg o ^^^ (-1))) c = true := by
  have hk : 0 < fb_ct (bt o) 32 := by
    show 0 < ic_cn o
    omega
  obtain ⟨c, hc, h1, h2⟩ := fb_ct_kth hk
  refine ⟨c, hc, ?_⟩
  rw [b_and, b_xor, b_m1 c hc, ic_gg_in hc, ic_gB_lt (by omega), h1]
  rfl
theorem ic_gg_not {o : Int32} {c : Nat} (hc : c < 32) (h : bt (o &&& (ic_gg o ^^^ (-1))) c = true) : bt o c = true ∧ bt (ic_gg o) c = false := by
  rw [b_and, b_xor, b_m1 c hc, Bool.and_eq_true] at h
  refine ⟨h.1, ?_⟩
  cases q : bt (ic_gg o) c
  · rfl
  · rw [q] at h; exact absurd h.2 (by decide)
theorem ic_step_split (h : ic_Inv th own Hn n T lo hi had nm) (x : Int32) : (ic_Xsplit th own Hn n x).1 = (ic_Msplit T lo hi had nm x).1 ∧ ic_Inv2 (ic_Xsplit th own Hn n x).2 (ic_Msplit T lo hi had nm x).2 ∧ (ic_Xsplit th own Hn n x).2.2.2.2 ≤ n + 1 := by
  have h0 := h
  obtain ⟨rfl, rfl, h3, h4, h5, h6, h7, h8, hG⟩ := h
  rcases ic_bool (ic_in (bt th) 8 x) with z | z
  · rw [ic_Xsplit_no z, ic_Msplit_no z]
    exact ⟨rfl, h0, Nat.le_succ _⟩
  · obtain ⟨j, hj, rfl, hT⟩ := ic_in_of (by decide) z
    have hoj := h4 j hj hT
    have hpos : 0 < ic_cn (own j) := fb_ct_pos.mpr (h7 j hj hT)
    by_cases w : ic_fst (bt th) = 8 ∨ ic_cn (own j) < 2
    · have w2 : ic_fst (bt th) = 8 ∨ ic_cn (had j) = 1 := by
        rw [hoj]
        omega
      rw [ic_Xsplit_full hj hT w, ic_Msplit_full hj hT w2]
      exact ⟨rfl, h0, Nat.le_succ _⟩
    · have w2 : ¬ (ic_fst (bt th) = 8 ∨ ic_cn (had j) = 1) := by
        rw [hoj]
        omega
      have hc2 : 2 ≤ ic_cn (own j) := by omega
      obtain ⟨hb8, hTb⟩ := ic_fst_free (T := bt th) (fun q => w (Or.inl q))
      rw [ic_Xsplit_ok hj hT w, ic_Msplit_ok hj hT w2, hoj]
      generalize ic_fst (bt th) = b at hb8 hTb ⊢
      have hne : ¬ j = b := fun q => by rw [q, hTb] at hT; cases hT
      have e1 := ic_or_sh th (show b < 32 by omega)
      have e2 : ∀ a, bt (th ||| ic_sh b) a = true → a = b ∨ (¬ a = b ∧ bt th a = true) := by
        intro a q
        rw [e1] at q
        exact ic_up_t q
      have ob : upd (upd own b (ic_gg (own j))) j (own j &&& (ic_gg (own j) ^^^ (-1))) b = ic_gg (own j) := by rw [pk_un (fun q => hne q.symm), pk_us]
      have oj : upd (upd own b (ic_gg (own j))) j (own j &&& (ic_gg (own j) ^^^ (-1))) j = own j &&& (ic_gg (own j) ^^^ (-1)) := pk_us
      have oo : ∀ a, ¬ a = b → ¬ a = j → upd (upd own b (ic_gg (own j))) j (own j &&& (ic_gg (own j) ^^^ (-1))) a = own a := by
        intro a q1 q2
        rw [pk_un q2, pk_un q1]
      have src : ∀ a c, c < 32 → ¬ a = b → bt (upd (upd own b (ic_gg (own j))) j (own j &&& (ic_gg (own j) ^^^ (-1))) a) c = true → bt (own a) c = true := by
        intro a c hc q1 q
        by_cases q2 : a = j
        · subst q2
          rw [oj] at q
          exact (ic_gg_not hc q).1
        · rw [oo a q1 q2] at q
          exact q
      have srcb : ∀ c, c < 32 → bt (upd (upd own b (ic_gg (own j))) j (own j &&& (ic_gg (own j) ^^^ (-1))) b) c = true → bt (own j) c = true := by
        intro c hc q
        rw [ob] at q
        exact ic_gg_sub hc q
      refine ⟨rfl, ⟨e1.symm, rfl, ?_, ?_, ?_, ?_, ?_, ?_, ?_⟩, Nat.le_succ _⟩
      · intro k hk
        show bt (th ||| ic_sh b) k = false
        rw [e1, ic_up_out (by omega)]
        exact h3 k hk
      · intro a ha q
        show ic_sp had j b (ic_gg (own j)) a = upd (upd own b (ic_gg (own j))) j (own j &&& (ic_gg (own j) ^^^ (-1))) a
        rcases e2 a q with q1 | ⟨q1, q2⟩
        · rw [q1, ob, ic_sp_b]
        · by_cases q3 : a = j
          · rw [q3, oj, ic_sp_a had _ hne, hoj]
          · rw [oo a q1 q3]
            unfold ic_sp
            rw [if_neg q1, if_neg q3]
            exact h4 a ha q2
      · intro k hk
        show vp_updL hi b (hi j) k = 0
        by_cases q : k = b
        · rw [q, ic_uL_in]; exact h5 j (by omega)
        · rw [ic_uL_out q]; exact h5 k hk
      · exact ic_cp_le (by omega) h6
      · intro a ha q
        show ∃ c, c < 32 ∧ bt (upd (upd own b (ic_gg (own j))) j (own j &&& (ic_gg (own j) ^^^ (-1))) a) c = true
        rcases e2 a q with q1 | ⟨q1, q2⟩
        · rw [q1, ob]; exact ic_gg_some hc2
        · by_cases q3 : a = j
          · rw [q3, oj]; exact ic_gg_left hc2
          · rw [oo a q1 q3]; exact h7 a ha q2
      · intro a a2 c ha ha2 hc q q' p1 p2
        rcases e2 a q with q1 | ⟨q1, q2⟩
        · rcases e2 a2 q' with r1 | ⟨r1, r2⟩
          · rw [q1, r1]
          · exfalso
            subst q1
            have k1 := srcb c hc p1
            have k2 := src a2 c hc r1 p2
            have k3 := h8 a2 j c ha2 hj hc r2 hT k2 k1
            subst k3
            have p2 : bt (upd (upd own a (ic_gg (own a2))) a2 (own a2 &&& (ic_gg (own a2) ^^^ (-1))) a2) c = true := p2
            have p1 : bt (upd (upd own a (ic_gg (own a2))) a2 (own a2 &&& (ic_gg (own a2) ^^^ (-1))) a) c = true := p1
            rw [oj] at p2
            rw [ob] at p1
            exact absurd p1 (ic_nt (ic_gg_not hc p2).2)
        · rcases e2 a2 q' with r1 | ⟨r1, r2⟩
          · exfalso
            subst r1
            have k1 := srcb c hc p2
            have k2 := src a c hc q1 p1
            have k3 := h8 a j c ha hj hc q2 hT k2 k1
            subst k3
            have p1 : bt (upd (upd own a2 (ic_gg (own a))) a (own a &&& (ic_gg (own a) ^^^ (-1))) a) c = true := p1
            have p2 : bt (upd (upd own a2 (ic_gg (own a))) a (own a &&& (ic_gg (own a) ^^^ (-1))) a2) c = true := p2
            rw [oj] at p1
            rw [ob] at p2
            exact absurd p2 (ic_nt (ic_gg_not hc p1).2)
          · exact h8 a a2 c ha ha2 hc q2 r2 (src a c hc q1 p1) (src a2 c hc r1 p2)
      · refine ic_Gh_copy (a := b) (f := j) hG (by omega) ?_ ?_ ?_ ?_ ?_
        · intro e
          show ic_bl (vp_updL lo b (lo j) b) e = true ↔ _
          rw [ic_uL_in]
        · intro a e ha q
          show ic_bl (vp_updL lo b (lo j) a) e = true ↔ _
          rw [ic_uL_out q]
        · intro c hc
          exact ic_cp_in Hn j b hc
        · intro a c ha hc q
          exact ic_cp_out Hn j hc q
        · intro a c ha hc q
          rcases e2 a q.1 with q1 | ⟨q1, q2⟩
          · refine Or.inl ⟨q1, hj, hT, srcb c hc ?_⟩
            have q3 : bt (upd (upd own b (ic_gg (own j))) j (own j &&& (ic_gg (own j) ^^^ (-1))) a) c = true := q.2
            rw [q1] at q3
            exact q3
          · exact Or.inr ⟨q1, q2, src a c hc q1 q.2⟩
end ICI
theorem ic_Inv_0 : ic_Inv (nI 1) ic_own0 (fun _ => 0) 0 (va_up (fun _ => false) 0 true) (fun _ => 0) (fun _ => 0) ic_own0 0 := by
  have e1 : bt (nI 1) = va_up (fun _ => false) 0 true := by
    funext i
    unfold va_up
    rcases Nat.lt_or_ge i 32 with h | h
    · rw [ic_b_1 i h]
      by_cases e : i = 0
      · rw [if_pos e, decide_eq_true e]
      · rw [if_neg e, decide_eq_false e]
    · rw [b_big h, if_neg (by omega)]
  have e2 : ∀ a, bt (nI 1) a = true → a = 0 := by
    intro a q
    rw [e1] at q
    rcases ic_up_t q with w | w
    · exact w
    · exact absurd w.2 (by decide)
  have e3 : ic_own0 0 = -1 := rfl
  refine ⟨e1.symm, rfl, ?_, fun _ _ _ => rfl, fun _ _ => rfl, fun _ _ => Nat.le_refl 0, ?_, ?_, ?_⟩
  · intro j hj
    rw [e1, ic_up_out (by omega)]
  · intro a ha q
    rw [e2 a q, e3]
    exact ⟨0, by decide, b_m1 0 (by decide)⟩
  · intro a b c _ _ _ q1 q2 _ _
    rw [e2 a q1, e2 b q2]
  · exact ic_Gh_0 (fun x e q => by rw [ic_bl_0] at q; cases q) (fun _ _ => rfl)
end
section
/-! THE CLAIM OUT OF ONE WALK OF THE LAW'S BODY. Your part is whole_start (and what it stands on); all else here is the same for every law, but numbers. -/
def R_law : String := "IntervalClocksLaw"
def lw_P (b : Addr) (xs : List Int32) (args : Array Value) (s : State) : Prop := args = #[.ref b] ∧ s.IntsAt b xs ∧ xs.length ≤ 192 ∧ (Jvm.Cond.and given_1 narrow_1).before args s = true
def lw_Q (_ : Array Value) (s : State) (o : Outcome) (t : State) : Prop := o = .returned (some (.int 1)) ∧ Framed s o t [] 600000 7290000
def lw_Z (below : List Frame) (a : Array Value) (s : State) : State → Prop := fun t => ∃ o, t.status = .running ∧ Ended t below o ∧ lw_Q a s o t
/-- the law's own end, with 1 on the stack, nothing written that was there before, its room as the claim has it -/
theorem lw_ret {p : Program} {l : Launch} {e : Env} {s : State} {m : MethodId} {below : List Frame} {meth : Method} {c : Code} {b : Nat} (hx : p.tables.exec = Jvm.exec) (hb : c.code = code) (hr : meth.sig.returnType = ret) (hlocks : meth.locks = false) {pc : Nat} {H : Heap} {ls : Array Slot} (hdg : decode code pc = .ok (.ireturn, 1)) : W p l e room_1 s m #[Value.ref b] below meth c H [] 600000 7290000 (lw_Z below #[Value.ref b] s) (F0 m pc ls [.int 1]) := by
  intro T hT X
  obtain ⟨fs, hret, hrun, hended, hW, hframe⟩ := X.leave (v := some (.int 1)) (hlocks := hlocks) (fun h => by rw [hr] at h; cases h)
  have hmeth' : T.vm.method? m = some meth := X.method'
  refine ⟨T.setFrames fs, ?_, .returned (some (.int 1)), hrun, hended, rfl, ⟨_, rfl⟩, hW, hframe⟩
  jvm_step X.here [X.here.top, hx, hb, hdg, hmeth', hr, ret, narrow_b1]
  (try refine ⟨rfl, ?_⟩); (try refine ⟨rfl, ?_⟩)
  first | (intro acts; rw [hret _ acts rfl rfl rfl]) | rw [hret _ _ rfl rfl rfl]
  exact Steps.refl _
/-- what holds at the law's entry: the machine, the code, the tables' words (any of lw_tbl by 'hts w (by decide +kernel)'), the script of L ints xs at the cell b, what the Statement gives of the start (any of its parts by flat_of_before) -/
def lw_At (p : Program) (s : State) (m : MethodId) (meth : Method) (c : Code) (b L : Nat) (xs : Nat → Int32) : Prop :=
  p.tables.exec = Jvm.exec ∧ c.code = code ∧ meth.sig.returnType = ret ∧ c.maxLocals = 4 ∧ s.vm.findClass R_law = some m.cls ∧ (∀ w ∈ lw_tbl, w.before #[Value.ref b] s = true) ∧ va_X b L xs s s.heap ∧ b < s.heap.size ∧ meth.locks = false ∧ (Jvm.Cond.and given_1 narrow_1).before #[Value.ref b] s = true
set_option maxRecDepth 100000
section ICL
variable {p : Program} {l : Launch} {e : Env} {R : Room} {s : State} {m : MethodId} {args : Array Value} {below : List Frame} {meth : Method} {c : Code} {H : Heap} {locs : List Loc} {cells slots : Nat} {Q : State → Prop}
variable {cc : ByteArray} {pc : Nat} {ls : Array Slot} {rest st0 : List Value} {D : va_G} {A : Nat → Prop} {H0 : Heap}
variable {h hO hH : Nat} {cI cB : ClassId} {th : Int32} {own : Nat → Int32} {Hn : Nat → Nat} {n : Nat}
variable {g gT gL gH gD : Nat} {cZ cJ cG cD : ClassId} {T : Nat → Bool} {lo hh : Nat → Int64} {had : Nat → Int32} {nm : Nat}
variable {y : MethodName} {bytes : ByteArray} {maxL nL nn index : Nat} {ret : Option FieldType} {ws : List Cond} {rm : Room} {As : List Value} {ow : String}
theorem lx_ld (hx : p.tables.exec = Jvm.exec) (hb : c.code = cc) {b L : Nat} {xs : Nat → Int32} (hX : va_X b L xs s H0) (hbl : b < H0.size) (hbA : ¬ A b) (hS : va_S A H0 H locs) {i : Nat} (hi : i < L) (hL : L < 2 ^ 31) (hdg : decode cc pc = .ok (.iaload, 1))
    (k : W p l e R s m args below meth c H locs cells slots Q (F0 m (pc + 1) ls (.int (xs i) :: rest))) : W p l e R s m args below meth c H locs cells slots Q (F0 m pc ls (.int (nI i) :: .ref b :: rest)) := by
  refine va_sld hx hb hX hbl hbA hS (vp_in_nI hi hL) hdg ?_
  rw [nI_clamp (by omega)]
  exact k
theorem ic_cond {L i : Nat} (hL : L < 2 ^ 30) (hi : i < 2 ^ 30) : nI L - nI 3 < nI i ↔ L < i + 3 := by
  rw [Int32.lt_iff_toInt_lt, pk_sub_toInt hL (by decide), nI_toInt (by omega)]
  omega
theorem lc_X {pst : Int32 → ic_X → Prop} (S : CallFix p m c cc nL s args lw_all ow) (hM : Met l y ws rm (ic_qX D h hO hH cI cB th own Hn n H.size As) (va_Qi pst (ic_BX D h hO hH cI cB (ic_AX h hO hH cI cB th own Hn n H.size)) (ic_AX h hO hH cI cB th own Hn n H.size)) 0 0 (ic_AX h hO hH cI cB th own Hn n H.size)) (cw : CallW R s args ow RX0 index y bytes maxL ret ws rm 0 0 nn) (hK : va_K D ic_cl (ic_tX cI cB ++ ic_tM cZ cJ cG cD) s) (hP : va_P D ic_cl (ic_wX h hO hH cI cB th own Hn n ++ ic_wM g gT gL gH gD cZ cJ cG cD T lo hh had nm) H) (hD : va_D A (ic_wX h hO hH cI cB th own Hn n ++ ic_wM g gT gL gH gD cZ cJ cG cD T lo hh had nm)) (hS : va_S A H0 H locs) (hA : ∀ q : Nat, H0.size ≤ q → A q) (hn : As.length = nn) (hsize : ls.size = nL) (hst : st0 = As.reverse ++ .ref h :: rest) (hroom : (rest.map fun v => v.category).sum ≤ 8) (hdg : decode cc pc = .ok (.invokevirtual index, 3)) (hf : cells + 0 ≤ R.cells ∧ slots + 0 ≤ R.slots)
    (k : ∀ (r : Int32) (v : ic_X) (H1 : Heap) (locs1 : List Loc), pst r v → va_P D ic_cl (ic_wX h hO hH cI cB v.1 v.2.1 v.2.2.1 v.2.2.2 ++ ic_wM g gT gL gH gD cZ cJ cG cD T lo hh had nm) H1 → va_D A (ic_wX h hO hH cI cB v.1 v.2.1 v.2.2.1 v.2.2.2 ++ ic_wM g gT gL gH gD cZ cJ cG cD T lo hh had nm) → va_S A H0 H1 locs1 → W p l e R s m args below meth c H1 locs1 cells slots Q (F0 m (pc + 3) ls (.int r :: rest))) : W p l e R s m args below meth c H locs cells slots Q (F0 m pc ls st0) := by
  have hPc := hP.sub (ws' := ic_wX h hO hH cI cB th own Hn n) [0, 1, 2] rfl
  have hDc := hD.sub (ws' := ic_wX h hO hH cI cB th own Hn n) [0, 1, 2] (by decide) rfl
  have hKc := hK.sub (tys' := ic_tX cI cB) [0, 1] rfl
  have hF : ∀ q, ic_AX h hO hH cI cB th own Hn n H.size q → A q := va_free (wc := ic_wX h hO hH cI cB th own Hn n) hD hS hA [0, 1, 2] rfl
  refine va_calli (va_runV (As := As) (rest := rest) S hM cw ⟨fun a U g mk q => by
    obtain ⟨q0, q1, qP, qK, qD⟩ := q
    exact ⟨q0, q1, qP, va_K.moved (u := U) (U := U.calling g mk a) (Vm.Alike.refl U.vm) qK, qD⟩, va_recv hKc hPc (ci := 0) (q0 := 0) rfl rfl, fun U hU hW => ⟨rfl, by rw [hU], by rw [hU]; exact hPc, va_K.moved hW.alike hKc, hDc.weaken (fun _ _ _ _ => trivial)⟩⟩ rfl hn hsize hst (lv_room hroom) hdg hf) hS (fun q _ hq => hF q hq) hF (fun r v t H1 locs1 ht hvm hp hB hz hk hS1 => ?_)
  obtain ⟨hP1, hK1, hD1⟩ := hB
  rw [ht] at hP1
  obtain ⟨hP2, hD2⟩ := va_join (wr := ic_wM g gT gL gH gD cZ cJ cG cD T lo hh had nm) (w1 := ic_wX h hO hH cI cB v.1 v.2.1 v.2.2.1 v.2.2.2) hP hD [0, 1, 2] [3, 4, 5, 6, 7] rfl rfl (by decide) (by decide) hk hF hP1 hD1
  exact k r v H1 locs1 hp (hP2.sub [5, 6, 7, 0, 1, 2, 3, 4] rfl) (hD2.sub [5, 6, 7, 0, 1, 2, 3, 4] (by decide) rfl) hS1
theorem lc_M {pst : Int32 → ic_M → Prop} (S : CallFix p m c cc nL s args lw_all ow) (hM : Met l y ws rm (ic_qM D g gT gL gH gD cZ cJ cG cD T lo hh had nm H.size As) (va_Qi pst (ic_BM D g gT gL gH gD cZ cJ cG cD (ic_AM g gT gL gH gD cZ cJ cG cD T lo hh had nm H.size)) (ic_AM g gT gL gH gD cZ cJ cG cD T lo hh had nm H.size)) 0 0 (ic_AM g gT gL gH gD cZ cJ cG cD T lo hh had nm H.size)) (cw : CallW R s args ow RX1 index y bytes maxL ret ws rm 0 0 nn) (hK : va_K D ic_cl (ic_tX cI cB ++ ic_tM cZ cJ cG cD) s) (hP : va_P D ic_cl (ic_wX h hO hH cI cB th own Hn n ++ ic_wM g gT gL gH gD cZ cJ cG cD T lo hh had nm) H) (hD : va_D A (ic_wX h hO hH cI cB th own Hn n ++ ic_wM g gT gL gH gD cZ cJ cG cD T lo hh had nm)) (hS : va_S A H0 H locs) (hA : ∀ q : Nat, H0.size ≤ q → A q) (hn : As.length = nn) (hsize : ls.size = nL) (hst : st0 = As.reverse ++ .ref g :: rest) (hroom : (rest.map fun v => v.category).sum ≤ 8) (hdg : decode cc pc = .ok (.invokevirtual index, 3)) (hf : cells + 0 ≤ R.cells ∧ slots + 0 ≤ R.slots)
    (k : ∀ (r : Int32) (v : ic_M) (H1 : Heap) (locs1 : List Loc), pst r v → va_P D ic_cl (ic_wX h hO hH cI cB th own Hn n ++ ic_wM g gT gL gH gD cZ cJ cG cD v.1 v.2.1 v.2.2.1 v.2.2.2.1 v.2.2.2.2) H1 → va_D A (ic_wX h hO hH cI cB th own Hn n ++ ic_wM g gT gL gH gD cZ cJ cG cD v.1 v.2.1 v.2.2.1 v.2.2.2.1 v.2.2.2.2) → va_S A H0 H1 locs1 → W p l e R s m args below meth c H1 locs1 cells slots Q (F0 m (pc + 3) ls (.int r :: rest))) : W p l e R s m args below meth c H locs cells slots Q (F0 m pc ls st0) := by
  have hPc := hP.sub (ws' := ic_wM g gT gL gH gD cZ cJ cG cD T lo hh had nm) [3, 4, 5, 6, 7] rfl
  have hDc := hD.sub (ws' := ic_wM g gT gL gH gD cZ cJ cG cD T lo hh had nm) [3, 4, 5, 6, 7] (by decide) rfl
  have hKc := hK.sub (tys' := ic_tM cZ cJ cG cD) [2, 3, 4, 5] rfl
  have hF : ∀ q, ic_AM g gT gL gH gD cZ cJ cG cD T lo hh had nm H.size q → A q := va_free (wc := ic_wM g gT gL gH gD cZ cJ cG cD T lo hh had nm) hD hS hA [3, 4, 5, 6, 7] rfl
  refine va_calli (va_runV (As := As) (rest := rest) S hM cw ⟨fun a U g mk q => by
    obtain ⟨q0, q1, qP, qK, qD⟩ := q
    exact ⟨q0, q1, qP, va_K.moved (u := U) (U := U.calling g mk a) (Vm.Alike.refl U.vm) qK, qD⟩, va_recv hKc hPc (ci := 1) (q0 := 0) rfl rfl, fun U hU hW => ⟨rfl, by rw [hU], by rw [hU]; exact hPc, va_K.moved hW.alike hKc, hDc.weaken (fun _ _ _ _ => trivial)⟩⟩ rfl hn hsize hst (lv_room hroom) hdg hf) hS (fun q _ hq => hF q hq) hF (fun r v t H1 locs1 ht hvm hp hB hz hk hS1 => ?_)
  obtain ⟨hP1, hK1, hD1⟩ := hB
  rw [ht] at hP1
  obtain ⟨hP2, hD2⟩ := va_join (wr := ic_wX h hO hH cI cB th own Hn n) (w1 := ic_wM g gT gL gH gD cZ cJ cG cD v.1 v.2.1 v.2.2.1 v.2.2.2.1 v.2.2.2.2) hP hD [3, 4, 5, 6, 7] [0, 1, 2] rfl rfl (by decide) (by decide) hk hF hP1 hD1
  exact k r v H1 locs1 hp (hP2.sub [0, 1, 2, 3, 4, 5, 6, 7] rfl) (hD2.sub [0, 1, 2, 3, 4, 5, 6, 7] (by decide) rfl) hS1
end ICL
theorem cwX_splitL {R : Room} {s : State} {args : Array Value} (hts : ∀ w ∈ lw_all, w.before args s = true) (hR : ic_R2.frames + 1 ≤ R.frames ∧ 8 + (8 + 11) + ic_R2.locals ≤ R.locals) : CallW R s args "IntervalClocksLaw" RX0 13 yX0_split cX0_split 8 (some .int) (ws_ yX0_split cX0_split 8 (some .int)) ic_R2 0 0 1 := cwV 1 hts (lw_V q37 q38 q39 q12 q40) rfl rfl rfl (by decide +kernel) hR
theorem cwM_splitL {R : Room} {s : State} {args : Array Value} (hts : ∀ w ∈ lw_all, w.before args s = true) (hR : ic_R1.frames + 1 ≤ R.frames ∧ 8 + (6 + 11) + ic_R1.locals ≤ R.locals) : CallW R s args "IntervalClocksLaw" RX1 17 yX1_split cX1_split 6 (some .int) (ws_ yX1_split cX1_split 6 (some .int)) ic_R1 0 0 1 := cwV 1 hts (lw_V q152 q153 q154 q13 q155) rfl rfl rfl (by decide +kernel) hR
theorem cwX_joinL {R : Room} {s : State} {args : Array Value} (hts : ∀ w ∈ lw_all, w.before args s = true) (hR : ic_R2.frames + 1 ≤ R.frames ∧ 8 + (3 + 11) + ic_R2.locals ≤ R.locals) : CallW R s args "IntervalClocksLaw" RX0 18 yX0_join cX0_join 3 (some .int) (ws_ yX0_join cX0_join 3 (some .int)) ic_R2 0 0 2 := cwV 2 hts (lw_V q60 q61 q62 q12 q63) rfl rfl rfl (by decide +kernel) hR
theorem cwM_joinL {R : Room} {s : State} {args : Array Value} (hts : ∀ w ∈ lw_all, w.before args s = true) (hR : ic_R1.frames + 1 ≤ R.frames ∧ 8 + (3 + 11) + ic_R1.locals ≤ R.locals) : CallW R s args "IntervalClocksLaw" RX1 22 yX1_join cX1_join 3 (some .int) (ws_ yX1_join cX1_join 3 (some .int)) ic_R1 0 0 2 := cwV 2 hts (lw_V q164 q165 q166 q13 q167) rfl rfl rfl (by decide +kernel) hR
theorem cwX_eventL {R : Room} {s : State} {args : Array Value} (hts : ∀ w ∈ lw_all, w.before args s = true) (hR : ic_R2.frames + 1 ≤ R.frames ∧ 8 + (5 + 11) + ic_R2.locals ≤ R.locals) : CallW R s args "IntervalClocksLaw" RX0 23 yX0_event cX0_event 5 (some .int) (ws_ yX0_event cX0_event 5 (some .int)) ic_R2 0 0 1 := cwV 1 hts (lw_V q68 q69 q70 q12 q71) rfl rfl rfl (by decide +kernel) hR
theorem cwM_eventL {R : Room} {s : State} {args : Array Value} (hts : ∀ w ∈ lw_all, w.before args s = true) (hR : ic_R1.frames + 1 ≤ R.frames ∧ 8 + (2 + 11) + ic_R1.locals ≤ R.locals) : CallW R s args "IntervalClocksLaw" RX1 26 yX1_event cX1_event 2 (some .int) (ws_ yX1_event cX1_event 2 (some .int)) ic_R1 0 0 1 := cwV 1 hts (lw_V q168 q169 q170 q13 q171) rfl rfl rfl (by decide +kernel) hR
theorem cwX_tellL {R : Room} {s : State} {args : Array Value} (hts : ∀ w ∈ lw_all, w.before args s = true) (hR : ic_R2.frames + 1 ≤ R.frames ∧ 8 + (3 + 11) + ic_R2.locals ≤ R.locals) : CallW R s args "IntervalClocksLaw" RX0 27 yX0_tell cX0_tell 3 (some .int) (ws_ yX0_tell cX0_tell 3 (some .int)) ic_R2 0 0 2 := cwV 2 hts (lw_V q72 q73 q74 q12 q75) rfl rfl rfl (by decide +kernel) hR
theorem cwM_tellL {R : Room} {s : State} {args : Array Value} (hts : ∀ w ∈ lw_all, w.before args s = true) (hR : ic_R1.frames + 1 ≤ R.frames ∧ 8 + (4 + 11) + ic_R1.locals ≤ R.locals) : CallW R s args "IntervalClocksLaw" RX1 30 yX1_tell cX1_tell 4 (some .int) (ws_ yX1_tell cX1_tell 4 (some .int)) ic_R1 0 0 2 := cwV 2 hts (lw_V q172 q173 q174 q13 q175) rfl rfl rfl (by decide +kernel) hR
theorem cwX_noteL {R : Room} {s : State} {args : Array Value} (hts : ∀ w ∈ lw_all, w.before args s = true) (hR : ic_R2.frames + 1 ≤ R.frames ∧ 8 + (3 + 11) + ic_R2.locals ≤ R.locals) : CallW R s args "IntervalClocksLaw" RX0 31 yX0_note cX0_note 3 (some .boolean) (ws_ yX0_note cX0_note 3 (some .boolean)) ic_R2 0 0 2 := cwV 2 hts (lw_V q76 q77 q78 q12 q79) rfl rfl rfl (by decide +kernel) hR
theorem cwM_noteL {R : Room} {s : State} {args : Array Value} (hts : ∀ w ∈ lw_all, w.before args s = true) (hR : ic_R1.frames + 1 ≤ R.frames ∧ 8 + (3 + 11) + ic_R1.locals ≤ R.locals) : CallW R s args "IntervalClocksLaw" RX1 35 yX1_note cX1_note 3 (some .boolean) (ws_ yX1_note cX1_note 3 (some .boolean)) ic_R1 0 0 2 := cwV 2 hts (lw_V q185 q186 q187 q13 q188) rfl rfl rfl (by decide +kernel) hR
theorem cwX_eraseL {R : Room} {s : State} {args : Array Value} (hts : ∀ w ∈ lw_all, w.before args s = true) (hR : ic_R1.frames + 1 ≤ R.frames ∧ 8 + (2 + 11) + ic_R1.locals ≤ R.locals) : CallW R s args "IntervalClocksLaw" RX0 36 yX0_erase cX0_erase 2 (some .boolean) (ws_ yX0_erase cX0_erase 2 (some .boolean)) ic_R1 0 0 1 := cwV 1 hts (lw_V q83 q84 q85 q12 q86) rfl rfl rfl (by decide +kernel) hR
theorem cwM_eraseL {R : Room} {s : State} {args : Array Value} (hts : ∀ w ∈ lw_all, w.before args s = true) (hR : ic_R0.frames + 1 ≤ R.frames ∧ 8 + (2 + 11) + ic_R0.locals ≤ R.locals) : CallW R s args "IntervalClocksLaw" RX1 40 yX1_erase cX1_erase 2 (some .boolean) (ws_ yX1_erase cX1_erase 2 (some .boolean)) ic_R0 0 0 1 := cwV 1 hts (lw_V q189 q190 q191 q13 q192) rfl rfl rfl (by decide +kernel) hR
theorem cwX_partiesL {R : Room} {s : State} {args : Array Value} (hts : ∀ w ∈ lw_all, w.before args s = true) (hR : ic_R0.frames + 1 ≤ R.frames ∧ 8 + (1 + 11) + ic_R0.locals ≤ R.locals) : CallW R s args "IntervalClocksLaw" RX0 41 yX0_parties cX0_parties 1 (some .int) (ws_ yX0_parties cX0_parties 1 (some .int)) ic_R0 0 0 0 := cwV 0 hts (lw_V q87 q88 q89 q12 q90) rfl rfl rfl (by decide +kernel) hR
theorem cwM_partiesL {R : Room} {s : State} {args : Array Value} (hts : ∀ w ∈ lw_all, w.before args s = true) (hR : ic_R1.frames + 1 ≤ R.frames ∧ 8 + (1 + 11) + ic_R1.locals ≤ R.locals) : CallW R s args "IntervalClocksLaw" RX1 45 yX1_parties cX1_parties 1 (some .int) (ws_ yX1_parties cX1_parties 1 (some .int)) ic_R1 0 0 0 := cwV 0 hts (lw_V q193 q194 q195 q13 q196) rfl rfl rfl (by decide +kernel) hR
theorem cwX_notesL {R : Room} {s : State} {args : Array Value} (hts : ∀ w ∈ lw_all, w.before args s = true) (hR : ic_R0.frames + 1 ≤ R.frames ∧ 8 + (1 + 11) + ic_R0.locals ≤ R.locals) : CallW R s args "IntervalClocksLaw" RX0 46 yX0_notes cX0_notes 1 (some .int) (ws_ yX0_notes cX0_notes 1 (some .int)) ic_R0 0 0 0 := cwV 0 hts (lw_V q91 q92 q93 q12 q94) rfl rfl rfl (by decide +kernel) hR
theorem cwM_notesL {R : Room} {s : State} {args : Array Value} (hts : ∀ w ∈ lw_all, w.before args s = true) (hR : ic_R1.frames + 1 ≤ R.frames ∧ 8 + (1 + 11) + ic_R1.locals ≤ R.locals) : CallW R s args "IntervalClocksLaw" RX1 49 yX1_notes cX1_notes 1 (some .int) (ws_ yX1_notes cX1_notes 1 (some .int)) ic_R1 0 0 0 := cwV 0 hts (lw_V q201 q202 q203 q13 q204) rfl rfl rfl (by decide +kernel) hR
theorem cwX_eventsL {R : Room} {s : State} {args : Array Value} (hts : ∀ w ∈ lw_all, w.before args s = true) (hR : ic_R0.frames + 1 ≤ R.frames ∧ 8 + (1 + 11) + ic_R0.locals ≤ R.locals) : CallW R s args "IntervalClocksLaw" RX0 50 yX0_events cX0_events 1 (some .int) (ws_ yX0_events cX0_events 1 (some .int)) ic_R0 0 0 0 := cwV 0 hts (lw_V q95 q96 q97 q12 q98) rfl rfl rfl (by decide +kernel) hR
theorem cwM_eventsL {R : Room} {s : State} {args : Array Value} (hts : ∀ w ∈ lw_all, w.before args s = true) (hR : ic_R0.frames + 1 ≤ R.frames ∧ 8 + (1 + 11) + ic_R0.locals ≤ R.locals) : CallW R s args "IntervalClocksLaw" RX1 53 yX1_events cX1_events 1 (some .int) (ws_ yX1_events cX1_events 1 (some .int)) ic_R0 0 0 0 := cwV 0 hts (lw_V q205 q206 q207 q13 q208) rfl rfl rfl (by decide +kernel) hR
theorem cwX_cellsL {R : Room} {s : State} {args : Array Value} (hts : ∀ w ∈ lw_all, w.before args s = true) (hR : ic_R2.frames + 1 ≤ R.frames ∧ 8 + (2 + 11) + ic_R2.locals ≤ R.locals) : CallW R s args "IntervalClocksLaw" RX0 54 yX0_cells cX0_cells 2 (some .int) (ws_ yX0_cells cX0_cells 2 (some .int)) ic_R2 0 0 1 := cwV 1 hts (lw_V q99 q100 q101 q12 q102) rfl rfl rfl (by decide +kernel) hR
theorem cwM_cellsL {R : Room} {s : State} {args : Array Value} (hts : ∀ w ∈ lw_all, w.before args s = true) (hR : ic_R1.frames + 1 ≤ R.frames ∧ 8 + (2 + 11) + ic_R1.locals ≤ R.locals) : CallW R s args "IntervalClocksLaw" RX1 57 yX1_cells cX1_cells 2 (some .int) (ws_ yX1_cells cX1_cells 2 (some .int)) ic_R1 0 0 1 := cwV 1 hts (lw_V q209 q210 q211 q13 q212) rfl rfl rfl (by decide +kernel) hR
theorem cwX_compareL {R : Room} {s : State} {args : Array Value} (hts : ∀ w ∈ lw_all, w.before args s = true) (hR : ic_R1.frames + 1 ≤ R.frames ∧ 8 + (5 + 11) + ic_R1.locals ≤ R.locals) : CallW R s args "IntervalClocksLaw" RX0 58 yX0_compare cX0_compare 5 (some .int) (ws_ yX0_compare cX0_compare 5 (some .int)) ic_R1 0 0 2 := cwV 2 hts (lw_V q103 q104 q105 q12 q106) rfl rfl rfl (by decide +kernel) hR
theorem cwM_compareL {R : Room} {s : State} {args : Array Value} (hts : ∀ w ∈ lw_all, w.before args s = true) (hR : ic_R1.frames + 1 ≤ R.frames ∧ 8 + (5 + 11) + ic_R1.locals ≤ R.locals) : CallW R s args "IntervalClocksLaw" RX1 61 yX1_compare cX1_compare 5 (some .int) (ws_ yX1_compare cX1_compare 5 (some .int)) ic_R1 0 0 2 := cwV 2 hts (lw_V q213 q214 q215 q13 q216) rfl rfl rfl (by decide +kernel) hR
theorem cwX_behindL {R : Room} {s : State} {args : Array Value} (hts : ∀ w ∈ lw_all, w.before args s = true) (hR : ic_R1.frames + 1 ≤ R.frames ∧ 8 + (4 + 11) + ic_R1.locals ≤ R.locals) : CallW R s args "IntervalClocksLaw" RX0 62 yX0_behind cX0_behind 4 (some .int) (ws_ yX0_behind cX0_behind 4 (some .int)) ic_R1 0 0 1 := cwV 1 hts (lw_V q111 q112 q113 q12 q114) rfl rfl rfl (by decide +kernel) hR
theorem cwM_behindL {R : Room} {s : State} {args : Array Value} (hts : ∀ w ∈ lw_all, w.before args s = true) (hR : ic_R1.frames + 1 ≤ R.frames ∧ 8 + (4 + 11) + ic_R1.locals ≤ R.locals) : CallW R s args "IntervalClocksLaw" RX1 65 yX1_behind cX1_behind 4 (some .int) (ws_ yX1_behind cX1_behind 4 (some .int)) ic_R1 0 0 1 := cwV 1 hts (lw_V q217 q218 q219 q13 q220) rfl rfl rfl (by decide +kernel) hR
theorem cwX_newestL {R : Room} {s : State} {args : Array Value} (hts : ∀ w ∈ lw_all, w.before args s = true) (hR : ic_R2.frames + 1 ≤ R.frames ∧ 8 + (4 + 11) + ic_R2.locals ≤ R.locals) : CallW R s args "IntervalClocksLaw" RX0 66 yX0_newest cX0_newest 4 (some .int) (ws_ yX0_newest cX0_newest 4 (some .int)) ic_R2 0 0 0 := cwV 0 hts (lw_V q115 q116 q117 q12 q118) rfl rfl rfl (by decide +kernel) hR
theorem cwM_newestL {R : Room} {s : State} {args : Array Value} (hts : ∀ w ∈ lw_all, w.before args s = true) (hR : ic_R1.frames + 1 ≤ R.frames ∧ 8 + (5 + 11) + ic_R1.locals ≤ R.locals) : CallW R s args "IntervalClocksLaw" RX1 69 yX1_newest cX1_newest 5 (some .int) (ws_ yX1_newest cX1_newest 5 (some .int)) ic_R1 0 0 0 := cwV 0 hts (lw_V q221 q222 q223 q13 q224) rfl rfl rfl (by decide +kernel) hR
theorem cwX_everywhereL {R : Room} {s : State} {args : Array Value} (hts : ∀ w ∈ lw_all, w.before args s = true) (hR : ic_R1.frames + 1 ≤ R.frames ∧ 8 + (3 + 11) + ic_R1.locals ≤ R.locals) : CallW R s args "IntervalClocksLaw" RX0 70 yX0_everywhere cX0_everywhere 3 (some .boolean) (ws_ yX0_everywhere cX0_everywhere 3 (some .boolean)) ic_R1 0 0 1 := cwV 1 hts (lw_V q120 q121 q122 q12 q123) rfl rfl rfl (by decide +kernel) hR
theorem cwM_everywhereL {R : Room} {s : State} {args : Array Value} (hts : ∀ w ∈ lw_all, w.before args s = true) (hR : ic_R1.frames + 1 ≤ R.frames ∧ 8 + (4 + 11) + ic_R1.locals ≤ R.locals) : CallW R s args "IntervalClocksLaw" RX1 73 yX1_everywhere cX1_everywhere 4 (some .boolean) (ws_ yX1_everywhere cX1_everywhere 4 (some .boolean)) ic_R1 0 0 1 := cwV 1 hts (lw_V q225 q226 q227 q13 q228) rfl rfl rfl (by decide +kernel) hR
theorem cwX_apartPairsL {R : Room} {s : State} {args : Array Value} (hts : ∀ w ∈ lw_all, w.before args s = true) (hR : ic_R2.frames + 1 ≤ R.frames ∧ 8 + (4 + 11) + ic_R2.locals ≤ R.locals) : CallW R s args "IntervalClocksLaw" RX0 74 yX0_apartPairs cX0_apartPairs 4 (some .int) (ws_ yX0_apartPairs cX0_apartPairs 4 (some .int)) ic_R2 0 0 0 := cwV 0 hts (lw_V q124 q125 q126 q12 q127) rfl rfl rfl (by decide +kernel) hR
theorem cwM_apartPairsL {R : Room} {s : State} {args : Array Value} (hts : ∀ w ∈ lw_all, w.before args s = true) (hR : ic_R2.frames + 1 ≤ R.frames ∧ 8 + (3 + 11) + ic_R2.locals ≤ R.locals) : CallW R s args "IntervalClocksLaw" RX1 77 yX1_apartPairs cX1_apartPairs 3 (some .int) (ws_ yX1_apartPairs cX1_apartPairs 3 (some .int)) ic_R2 0 0 0 := cwV 0 hts (lw_V q229 q230 q231 q13 q232) rfl rfl rfl (by decide +kernel) hR
end
section
set_option maxRecDepth 100000
set_option maxHeartbeats 8000000 in
/-- the law's loop at its head: i ints read, the two states side by side, at most i / 3 events -/
theorem law_loop {p : Program} {l : Launch} {e : Env} {s : State} {m : MethodId} {below : List Frame} {meth : Method} {c : Code} {b L : Nat} {xs : Nat → Int32} {D : va_G} {A : Nat → Prop} {h hO hH : Nat} {cI cB : ClassId} {g gT gL gH gD : Nat} {cZ cJ cG cD : ClassId} (hL : L ≤ 192) (hx : p.tables.exec = Jvm.exec) (hb : c.code = cL_law) (hr : meth.sig.returnType = ret) (hml : c.maxLocals = 4) (hown : s.vm.findClass "IntervalClocksLaw" = some m.cls) (hts : ∀ w ∈ lw_all, w.before #[Value.ref b] s = true) (hX : va_X b L xs s s.heap) (hbl : b < s.heap.size) (hlocks : meth.locks = false) (hbA : ¬ A b) (hA : ∀ q : Nat, s.heap.size ≤ q → A q) (hA2 : ∀ q : Nat, A q → s.heap.size ≤ q) (hK : va_K D ic_cl (ic_tX cI cB ++ ic_tM cZ cJ cG cD) s) :
    ∀ (k i : Nat), L < i + k → ∀ (th : Int32) (own : Nat → Int32) (Hn : Nat → Nat) (n : Nat) (T : Nat → Bool) (lo hh : Nat → Int64) (had : Nat → Int32) (nm : Nat), ic_Inv th own Hn n T lo hh had nm → 3 * n ≤ i → i ≤ 200 → ∀ (H : Heap) (locs : List Loc) (ls : Array Slot), lv_has ls 4 [(0, .ref b), (1, .ref h), (2, .ref g), (3, .int (nI i))] → va_P D ic_cl (ic_wX h hO hH cI cB th own Hn n ++ ic_wM g gT gL gH gD cZ cJ cG cD T lo hh had nm) H → va_D A (ic_wX h hO hH cI cB th own Hn n ++ ic_wM g gT gL gH gD cZ cJ cG cD T lo hh had nm) → va_S A s.heap H locs → W p l e room_1 s m #[Value.ref b] below meth c H locs 8 585 (lw_Z below #[Value.ref b] s) (F0 m 18 ls []) := by
  have hKX := hK.sub (tys' := ic_tX cI cB) [0, 1] rfl
  have hKM := hK.sub (tys' := ic_tM cZ cJ cG cD) [2, 3, 4, 5] rfl
  have exit : ∀ (i : Nat), L < i + 3 → i ≤ 200 → ∀ (H : Heap) (locs : List Loc) (ls : Array Slot), lv_has ls 4 [(0, .ref b), (1, .ref h), (2, .ref g), (3, .int (nI i))] → va_S A s.heap H locs → W p l e room_1 s m #[Value.ref b] below meth c H locs 8 585 (lw_Z below #[Value.ref b] s) (F0 m 18 ls []) := by
    intro i hi hi2 H locs ls hl hS
    refine lv_iload_n hx hb dL_law_18 rfl (lv_at hl 3 rfl) ?_
    refine lv_aload_n hx hb dL_law_19 rfl (lv_at hl 0 rfl) ?_
    refine va_slen hx hb hX hbl hbA hS dL_law_20 ?_
    refine ic_top (show _ = nI L from rfl) ?_
    refine lv_iconst (v := nI 3) hx hb dL_law_21 (by decide) ?_
    refine lv_isub hx hb dL_law_22 ?_
    refine lv_icmp_gt (tgt := 449) hx hb dL_law_23 (by decide) (fun _ => ?_) (fun c9 => absurd ((ic_cond (by omega) (by omega)).mpr hi) c9)
    refine lv_iconst (v := 1) hx hb dL_law_449 (by decide) ?_
    refine va_forget (fun q hq => hA2 _ (hS.2.2 q hq)) ?_
    refine W.widen (k := 600000) (n := 7290000) (by decide) (by decide) ?_
    exact lw_ret hx hb hr hlocks dL_law_450
  intro k
  induction k with
  | zero =>
    intro i hi th own Hn n T lo hh had nm hI hn3 hi2 H locs ls hl hP hD hS
    exact exit i (by omega) hi2 H locs ls hl hS
  | succ k ih =>
    intro i hi th own Hn n T lo hh had nm hI hn3 hi2 H locs ls hl hP hD hS
    rcases Nat.lt_or_ge L (i + 3) with g0 | g0
    · exact exit i g0 hi2 H locs ls hl hS
    · skip
      have next : ∀ (th : Int32) (own : Nat → Int32) (Hn : Nat → Nat) (n : Nat) (T : Nat → Bool) (lo hh : Nat → Int64) (had : Nat → Int32) (nm : Nat), ic_Inv th own Hn n T lo hh had nm → 3 * n ≤ i + 3 → ∀ (H : Heap) (locs : List Loc) (ls : Array Slot), lv_has ls 4 [(0, .ref b), (1, .ref h), (2, .ref g), (3, .int (nI i))] → va_P D ic_cl (ic_wX h hO hH cI cB th own Hn n ++ ic_wM g gT gL gH gD cZ cJ cG cD T lo hh had nm) H → va_D A (ic_wX h hO hH cI cB th own Hn n ++ ic_wM g gT gL gH gD cZ cJ cG cD T lo hh had nm) → va_S A s.heap H locs → W p l e room_1 s m #[Value.ref b] below meth c H locs 8 585 (lw_Z below #[Value.ref b] s) (F0 m 443 ls []) := by
        intro th own Hn n T lo hh had nm hI hn3 H locs ls hl hP hD hS
        refine lv_iinc (v := nI (i + 3)) (lv' := [(3, .int (nI (i + 3))), (0, .ref b), (1, .ref h), (2, .ref g)]) hx hb dL_law_443 hl (k := 3) rfl (nI_add i 3) (by decide) rfl (fun ls hl => ?_)
        refine lv_goto (tgt := 18) hx hb dL_law_446 (by decide) ?_
        exact ih (i + 3) (by omega) th own Hn n T lo hh had nm hI hn3 (by omega) H locs ls (lv_sub hl [1, 2, 3, 0] rfl) hP hD hS
      have hT0 := hI.1
      subst hT0
      have hn0 : n = nm := hI.2.1.symm
      subst hn0
      have hF := ic_Inv_F hI
      have hHn : ∀ k, k < 512 → Hn k ≤ n := hI.2.2.2.2.2.1
      have hH1 : ∀ k, k < 512 → Hn k < 128 := fun k hk => by have := hHn k hk; omega
      have hth := hI.2.2.1
      refine lv_iload_n hx hb dL_law_18 rfl (lv_at hl 3 rfl) ?_
      refine lv_aload_n hx hb dL_law_19 rfl (lv_at hl 0 rfl) ?_
      refine va_slen hx hb hX hbl hbA hS dL_law_20 ?_
      refine ic_top (show _ = nI L from rfl) ?_
      refine lv_iconst (v := nI 3) hx hb dL_law_21 (by decide) ?_
      refine lv_isub hx hb dL_law_22 ?_
      refine lv_icmp_gt (tgt := 449) hx hb dL_law_23 (by decide) (fun c9 => absurd c9 (fun q => absurd ((ic_cond (by omega) (by omega)).mp q) (by omega))) (fun _ => ?_)
      refine lv_aload_n hx hb dL_law_26 rfl (lv_at hl 0 rfl) ?_
      refine lv_iload_n hx hb dL_law_27 rfl (lv_at hl 3 rfl) ?_
      refine lx_ld hx hb hX hbl hbA hS (i := i) (by omega) (by omega) dL_law_28 ?_
      refine lv_bipush (v := nI 15) hx hb dL_law_29 (by decide) ?_
      refine lv_iand hx hb dL_law_31 ?_
      obtain ⟨j, hj, ej⟩ := pk_andE (xs i) (m := nI 15) 4 (by decide)
      refine ic_top ej ?_
      rcases (show j = 0 ∨ j = 1 ∨ j = 2 ∨ j = 3 ∨ j = 4 ∨ j = 5 ∨ j = 6 ∨ j = 7 ∨ j = 8 ∨ j = 9 ∨ j = 10 ∨ j = 11 ∨ j = 12 ∨ j = 13 ∨ j = 14 ∨ j = 15 by omega) with rfl | rfl | rfl | rfl | rfl | rfl | rfl | rfl | rfl | rfl | rfl | rfl | rfl | rfl | rfl | rfl
      · skip
        refine lv_tableIn (off := 76) (tgt := 108) hx hb dL_law_32 (by decide) (by decide) (by decide) (by decide) ?_
        refine lv_aload_n hx hb dL_law_108 rfl (lv_at hl 1 rfl) ?_
        refine lv_aload_n hx hb dL_law_109 rfl (lv_at hl 0 rfl) ?_
        refine lv_iload_n hx hb dL_law_110 rfl (lv_at hl 3 rfl) ?_
        refine lv_iconst (v := nI 1) hx hb dL_law_111 (by decide) ?_
        refine lv_iadd hx hb dL_law_112 ?_
        refine ic_top (nI_add _ _) ?_
        refine lx_ld hx hb hX hbl hbA hS (i := i + 1) (by omega) (by omega) dL_law_113 ?_
        refine lc_X ⟨hx, hb, hml, hown, hts⟩ (mX_split l D h hO hH cI cB th own Hn n H.size (xs (i + 1)) hH1) (cwX_splitL hts ⟨Nat.le_of_ble_eq_true rfl, Nat.le_of_ble_eq_true rfl⟩) hK hP hD hS hA rfl hl.1 rfl (Nat.le_of_ble_eq_true rfl) dL_law_114 ⟨Nat.le_of_ble_eq_true rfl, Nat.le_of_ble_eq_true rfl⟩ (fun r v H locs ev hP hD hS => ?_)
        obtain rfl : r = _ := congrArg Prod.fst ev
        obtain rfl : v = _ := congrArg Prod.snd ev
        refine lv_aload_n hx hb dL_law_117 rfl (lv_at hl 2 rfl) ?_
        refine lv_aload_n hx hb dL_law_118 rfl (lv_at hl 0 rfl) ?_
        refine lv_iload_n hx hb dL_law_119 rfl (lv_at hl 3 rfl) ?_
        refine lv_iconst (v := nI 1) hx hb dL_law_120 (by decide) ?_
        refine lv_iadd hx hb dL_law_121 ?_
        refine ic_top (nI_add _ _) ?_
        refine lx_ld hx hb hX hbl hbA hS (i := i + 1) (by omega) (by omega) dL_law_122 ?_
        refine lc_M ⟨hx, hb, hml, hown, hts⟩ (mM_split l D g gT gL gH gD cZ cJ cG cD (bt th) lo hh had n H.size (xs (i + 1)) ) (cwM_splitL hts ⟨Nat.le_of_ble_eq_true rfl, Nat.le_of_ble_eq_true rfl⟩) hK hP hD hS hA rfl hl.1 rfl (Nat.le_of_ble_eq_true rfl) dL_law_123 ⟨Nat.le_of_ble_eq_true rfl, Nat.le_of_ble_eq_true rfl⟩ (fun r v H locs ev hP hD hS => ?_)
        obtain rfl : r = _ := congrArg Prod.fst ev
        obtain rfl : v = _ := congrArg Prod.snd ev
        have st := ic_step_split hI (xs (i + 1))
        refine lv_icmp_eq (tgt := 443) hx hb dL_law_126 (by decide) (fun _ => ?_) (fun c9 => absurd st.1 c9)
        exact next _ _ _ _ _ _ _ _ _ st.2.1 (by have := st.2.2; omega) H locs ls hl hP hD hS
      · skip
        refine lv_tableIn (off := 99) (tgt := 131) hx hb dL_law_32 (by decide) (by decide) (by decide) (by decide) ?_
        refine lv_aload_n hx hb dL_law_131 rfl (lv_at hl 1 rfl) ?_
        refine lv_aload_n hx hb dL_law_132 rfl (lv_at hl 0 rfl) ?_
        refine lv_iload_n hx hb dL_law_133 rfl (lv_at hl 3 rfl) ?_
        refine lv_iconst (v := nI 1) hx hb dL_law_134 (by decide) ?_
        refine lv_iadd hx hb dL_law_135 ?_
        refine ic_top (nI_add _ _) ?_
        refine lx_ld hx hb hX hbl hbA hS (i := i + 1) (by omega) (by omega) dL_law_136 ?_
        refine lv_aload_n hx hb dL_law_137 rfl (lv_at hl 0 rfl) ?_
        refine lv_iload_n hx hb dL_law_138 rfl (lv_at hl 3 rfl) ?_
        refine lv_iconst (v := nI 2) hx hb dL_law_139 (by decide) ?_
        refine lv_iadd hx hb dL_law_140 ?_
        refine ic_top (nI_add _ _) ?_
        refine lx_ld hx hb hX hbl hbA hS (i := i + 2) (by omega) (by omega) dL_law_141 ?_
        refine lc_X ⟨hx, hb, hml, hown, hts⟩ (mX_join l D h hO hH cI cB th own Hn n H.size (xs (i + 1)) (xs (i + 2)) hH1) (cwX_joinL hts ⟨Nat.le_of_ble_eq_true rfl, Nat.le_of_ble_eq_true rfl⟩) hK hP hD hS hA rfl hl.1 rfl (Nat.le_of_ble_eq_true rfl) dL_law_142 ⟨Nat.le_of_ble_eq_true rfl, Nat.le_of_ble_eq_true rfl⟩ (fun r v H locs ev hP hD hS => ?_)
        obtain rfl : r = _ := congrArg Prod.fst ev
        obtain rfl : v = _ := congrArg Prod.snd ev
        refine lv_aload_n hx hb dL_law_145 rfl (lv_at hl 2 rfl) ?_
        refine lv_aload_n hx hb dL_law_146 rfl (lv_at hl 0 rfl) ?_
        refine lv_iload_n hx hb dL_law_147 rfl (lv_at hl 3 rfl) ?_
        refine lv_iconst (v := nI 1) hx hb dL_law_148 (by decide) ?_
        refine lv_iadd hx hb dL_law_149 ?_
        refine ic_top (nI_add _ _) ?_
        refine lx_ld hx hb hX hbl hbA hS (i := i + 1) (by omega) (by omega) dL_law_150 ?_
        refine lv_aload_n hx hb dL_law_151 rfl (lv_at hl 0 rfl) ?_
        refine lv_iload_n hx hb dL_law_152 rfl (lv_at hl 3 rfl) ?_
        refine lv_iconst (v := nI 2) hx hb dL_law_153 (by decide) ?_
        refine lv_iadd hx hb dL_law_154 ?_
        refine ic_top (nI_add _ _) ?_
        refine lx_ld hx hb hX hbl hbA hS (i := i + 2) (by omega) (by omega) dL_law_155 ?_
        refine lc_M ⟨hx, hb, hml, hown, hts⟩ (mM_join l D g gT gL gH gD cZ cJ cG cD (bt th) lo hh had n H.size (xs (i + 1)) (xs (i + 2)) ) (cwM_joinL hts ⟨Nat.le_of_ble_eq_true rfl, Nat.le_of_ble_eq_true rfl⟩) hK hP hD hS hA rfl hl.1 rfl (Nat.le_of_ble_eq_true rfl) dL_law_156 ⟨Nat.le_of_ble_eq_true rfl, Nat.le_of_ble_eq_true rfl⟩ (fun r v H locs ev hP hD hS => ?_)
        obtain rfl : r = _ := congrArg Prod.fst ev
        obtain rfl : v = _ := congrArg Prod.snd ev
        have st := ic_step_join hI (xs (i + 1)) (xs (i + 2))
        refine lv_icmp_eq (tgt := 443) hx hb dL_law_159 (by decide) (fun _ => ?_) (fun c9 => absurd st.1 c9)
        exact next _ _ _ _ _ _ _ _ _ st.2.1 (by have := st.2.2; omega) H locs ls hl hP hD hS
      · skip
        refine lv_tableIn (off := 132) (tgt := 164) hx hb dL_law_32 (by decide) (by decide) (by decide) (by decide) ?_
        refine lv_aload_n hx hb dL_law_164 rfl (lv_at hl 1 rfl) ?_
        refine lv_aload_n hx hb dL_law_165 rfl (lv_at hl 0 rfl) ?_
        refine lv_iload_n hx hb dL_law_166 rfl (lv_at hl 3 rfl) ?_
        refine lv_iconst (v := nI 1) hx hb dL_law_167 (by decide) ?_
        refine lv_iadd hx hb dL_law_168 ?_
        refine ic_top (nI_add _ _) ?_
        refine lx_ld hx hb hX hbl hbA hS (i := i + 1) (by omega) (by omega) dL_law_169 ?_
        refine lc_X ⟨hx, hb, hml, hown, hts⟩ (mX_event l D h hO hH cI cB th own Hn n H.size (xs (i + 1)) (by omega) hHn) (cwX_eventL hts ⟨Nat.le_of_ble_eq_true rfl, Nat.le_of_ble_eq_true rfl⟩) hK hP hD hS hA rfl hl.1 rfl (Nat.le_of_ble_eq_true rfl) dL_law_170 ⟨Nat.le_of_ble_eq_true rfl, Nat.le_of_ble_eq_true rfl⟩ (fun r v H locs ev hP hD hS => ?_)
        obtain rfl : r = _ := congrArg Prod.fst ev
        obtain rfl : v = _ := congrArg Prod.snd ev
        refine lv_aload_n hx hb dL_law_173 rfl (lv_at hl 2 rfl) ?_
        refine lv_aload_n hx hb dL_law_174 rfl (lv_at hl 0 rfl) ?_
        refine lv_iload_n hx hb dL_law_175 rfl (lv_at hl 3 rfl) ?_
        refine lv_iconst (v := nI 1) hx hb dL_law_176 (by decide) ?_
        refine lv_iadd hx hb dL_law_177 ?_
        refine ic_top (nI_add _ _) ?_
        refine lx_ld hx hb hX hbl hbA hS (i := i + 1) (by omega) (by omega) dL_law_178 ?_
        refine lc_M ⟨hx, hb, hml, hown, hts⟩ (mM_event l D g gT gL gH gD cZ cJ cG cD (bt th) lo hh had n H.size (xs (i + 1)) (by omega)) (cwM_eventL hts ⟨Nat.le_of_ble_eq_true rfl, Nat.le_of_ble_eq_true rfl⟩) hK hP hD hS hA rfl hl.1 rfl (Nat.le_of_ble_eq_true rfl) dL_law_179 ⟨Nat.le_of_ble_eq_true rfl, Nat.le_of_ble_eq_true rfl⟩ (fun r v H locs ev hP hD hS => ?_)
        obtain rfl : r = _ := congrArg Prod.fst ev
        obtain rfl : v = _ := congrArg Prod.snd ev
        have st := ic_step_event hI (by omega) (xs (i + 1))
        refine lv_icmp_eq (tgt := 443) hx hb dL_law_182 (by decide) (fun _ => ?_) (fun c9 => absurd st.1 c9)
        exact next _ _ _ _ _ _ _ _ _ st.2.1 (by have := st.2.2; omega) H locs ls hl hP hD hS
      · skip
        refine lv_tableIn (off := 155) (tgt := 187) hx hb dL_law_32 (by decide) (by decide) (by decide) (by decide) ?_
        refine lv_aload_n hx hb dL_law_187 rfl (lv_at hl 1 rfl) ?_
        refine lv_aload_n hx hb dL_law_188 rfl (lv_at hl 0 rfl) ?_
        refine lv_iload_n hx hb dL_law_189 rfl (lv_at hl 3 rfl) ?_
        refine lv_iconst (v := nI 1) hx hb dL_law_190 (by decide) ?_
        refine lv_iadd hx hb dL_law_191 ?_
        refine ic_top (nI_add _ _) ?_
        refine lx_ld hx hb hX hbl hbA hS (i := i + 1) (by omega) (by omega) dL_law_192 ?_
        refine lv_aload_n hx hb dL_law_193 rfl (lv_at hl 0 rfl) ?_
        refine lv_iload_n hx hb dL_law_194 rfl (lv_at hl 3 rfl) ?_
        refine lv_iconst (v := nI 2) hx hb dL_law_195 (by decide) ?_
        refine lv_iadd hx hb dL_law_196 ?_
        refine ic_top (nI_add _ _) ?_
        refine lx_ld hx hb hX hbl hbA hS (i := i + 2) (by omega) (by omega) dL_law_197 ?_
        refine lc_X ⟨hx, hb, hml, hown, hts⟩ (mX_tell l D h hO hH cI cB th own Hn n H.size (xs (i + 1)) (xs (i + 2)) hH1) (cwX_tellL hts ⟨Nat.le_of_ble_eq_true rfl, Nat.le_of_ble_eq_true rfl⟩) hK hP hD hS hA rfl hl.1 rfl (Nat.le_of_ble_eq_true rfl) dL_law_198 ⟨Nat.le_of_ble_eq_true rfl, Nat.le_of_ble_eq_true rfl⟩ (fun r v H locs ev hP hD hS => ?_)
        obtain rfl : r = _ := congrArg Prod.fst ev
        obtain rfl : v = _ := congrArg Prod.snd ev
        refine lv_aload_n hx hb dL_law_201 rfl (lv_at hl 2 rfl) ?_
        refine lv_aload_n hx hb dL_law_202 rfl (lv_at hl 0 rfl) ?_
        refine lv_iload_n hx hb dL_law_203 rfl (lv_at hl 3 rfl) ?_
        refine lv_iconst (v := nI 1) hx hb dL_law_204 (by decide) ?_
        refine lv_iadd hx hb dL_law_205 ?_
        refine ic_top (nI_add _ _) ?_
        refine lx_ld hx hb hX hbl hbA hS (i := i + 1) (by omega) (by omega) dL_law_206 ?_
        refine lv_aload_n hx hb dL_law_207 rfl (lv_at hl 0 rfl) ?_
        refine lv_iload_n hx hb dL_law_208 rfl (lv_at hl 3 rfl) ?_
        refine lv_iconst (v := nI 2) hx hb dL_law_209 (by decide) ?_
        refine lv_iadd hx hb dL_law_210 ?_
        refine ic_top (nI_add _ _) ?_
        refine lx_ld hx hb hX hbl hbA hS (i := i + 2) (by omega) (by omega) dL_law_211 ?_
        refine lc_M ⟨hx, hb, hml, hown, hts⟩ (mM_tell l D g gT gL gH gD cZ cJ cG cD (bt th) lo hh had n H.size (xs (i + 1)) (xs (i + 2)) ) (cwM_tellL hts ⟨Nat.le_of_ble_eq_true rfl, Nat.le_of_ble_eq_true rfl⟩) hK hP hD hS hA rfl hl.1 rfl (Nat.le_of_ble_eq_true rfl) dL_law_212 ⟨Nat.le_of_ble_eq_true rfl, Nat.le_of_ble_eq_true rfl⟩ (fun r v H locs ev hP hD hS => ?_)
        obtain rfl : r = _ := congrArg Prod.fst ev
        obtain rfl : v = _ := congrArg Prod.snd ev
        have st := ic_step_tell hI (xs (i + 1)) (xs (i + 2))
        refine lv_icmp_eq (tgt := 443) hx hb dL_law_215 (by decide) (fun _ => ?_) (fun c9 => absurd st.1 c9)
        exact next _ _ _ _ _ _ _ _ _ st.2.1 (by have := st.2.2; omega) H locs ls hl hP hD hS
      · skip
        refine lv_tableIn (off := 188) (tgt := 220) hx hb dL_law_32 (by decide) (by decide) (by decide) (by decide) ?_
        refine lv_aload_n hx hb dL_law_220 rfl (lv_at hl 1 rfl) ?_
        refine lv_aload_n hx hb dL_law_221 rfl (lv_at hl 0 rfl) ?_
        refine lv_iload_n hx hb dL_law_222 rfl (lv_at hl 3 rfl) ?_
        refine lv_iconst (v := nI 1) hx hb dL_law_223 (by decide) ?_
        refine lv_iadd hx hb dL_law_224 ?_
        refine ic_top (nI_add _ _) ?_
        refine lx_ld hx hb hX hbl hbA hS (i := i + 1) (by omega) (by omega) dL_law_225 ?_
        refine lv_aload_n hx hb dL_law_226 rfl (lv_at hl 0 rfl) ?_
        refine lv_iload_n hx hb dL_law_227 rfl (lv_at hl 3 rfl) ?_
        refine lv_iconst (v := nI 2) hx hb dL_law_228 (by decide) ?_
        refine lv_iadd hx hb dL_law_229 ?_
        refine ic_top (nI_add _ _) ?_
        refine lx_ld hx hb hX hbl hbA hS (i := i + 2) (by omega) (by omega) dL_law_230 ?_
        refine lc_X ⟨hx, hb, hml, hown, hts⟩ (mX_note l D h hO hH cI cB th own Hn n H.size (xs (i + 1)) (xs (i + 2)) hH1) (cwX_noteL hts ⟨Nat.le_of_ble_eq_true rfl, Nat.le_of_ble_eq_true rfl⟩) hK hP hD hS hA rfl hl.1 rfl (Nat.le_of_ble_eq_true rfl) dL_law_231 ⟨Nat.le_of_ble_eq_true rfl, Nat.le_of_ble_eq_true rfl⟩ (fun r v H locs ev hP hD hS => ?_)
        obtain rfl : r = _ := congrArg Prod.fst ev
        obtain rfl : v = _ := congrArg Prod.snd ev
        refine lv_aload_n hx hb dL_law_234 rfl (lv_at hl 2 rfl) ?_
        refine lv_aload_n hx hb dL_law_235 rfl (lv_at hl 0 rfl) ?_
        refine lv_iload_n hx hb dL_law_236 rfl (lv_at hl 3 rfl) ?_
        refine lv_iconst (v := nI 1) hx hb dL_law_237 (by decide) ?_
        refine lv_iadd hx hb dL_law_238 ?_
        refine ic_top (nI_add _ _) ?_
        refine lx_ld hx hb hX hbl hbA hS (i := i + 1) (by omega) (by omega) dL_law_239 ?_
        refine lv_aload_n hx hb dL_law_240 rfl (lv_at hl 0 rfl) ?_
        refine lv_iload_n hx hb dL_law_241 rfl (lv_at hl 3 rfl) ?_
        refine lv_iconst (v := nI 2) hx hb dL_law_242 (by decide) ?_
        refine lv_iadd hx hb dL_law_243 ?_
        refine ic_top (nI_add _ _) ?_
        refine lx_ld hx hb hX hbl hbA hS (i := i + 2) (by omega) (by omega) dL_law_244 ?_
        refine lc_M ⟨hx, hb, hml, hown, hts⟩ (mM_note l D g gT gL gH gD cZ cJ cG cD (bt th) lo hh had n H.size (xs (i + 1)) (xs (i + 2)) ) (cwM_noteL hts ⟨Nat.le_of_ble_eq_true rfl, Nat.le_of_ble_eq_true rfl⟩) hK hP hD hS hA rfl hl.1 rfl (Nat.le_of_ble_eq_true rfl) dL_law_245 ⟨Nat.le_of_ble_eq_true rfl, Nat.le_of_ble_eq_true rfl⟩ (fun r v H locs ev hP hD hS => ?_)
        obtain rfl : r = _ := congrArg Prod.fst ev
        obtain rfl : v = _ := congrArg Prod.snd ev
        have st := ic_step_note hI (xs (i + 1)) (xs (i + 2))
        refine lv_icmp_eq (tgt := 443) hx hb dL_law_248 (by decide) (fun _ => ?_) (fun c9 => absurd st.1 c9)
        exact next _ _ _ _ _ _ _ _ _ st.2.1 (by have := st.2.2; omega) H locs ls hl hP hD hS
      · skip
        refine lv_tableIn (off := 221) (tgt := 253) hx hb dL_law_32 (by decide) (by decide) (by decide) (by decide) ?_
        refine lv_aload_n hx hb dL_law_253 rfl (lv_at hl 1 rfl) ?_
        refine lv_aload_n hx hb dL_law_254 rfl (lv_at hl 0 rfl) ?_
        refine lv_iload_n hx hb dL_law_255 rfl (lv_at hl 3 rfl) ?_
        refine lv_iconst (v := nI 1) hx hb dL_law_256 (by decide) ?_
        refine lv_iadd hx hb dL_law_257 ?_
        refine ic_top (nI_add _ _) ?_
        refine lx_ld hx hb hX hbl hbA hS (i := i + 1) (by omega) (by omega) dL_law_258 ?_
        refine lc_X ⟨hx, hb, hml, hown, hts⟩ (mX_erase l D h hO hH cI cB th own Hn n H.size (xs (i + 1)) ) (cwX_eraseL hts ⟨Nat.le_of_ble_eq_true rfl, Nat.le_of_ble_eq_true rfl⟩) hK hP hD hS hA rfl hl.1 rfl (Nat.le_of_ble_eq_true rfl) dL_law_259 ⟨Nat.le_of_ble_eq_true rfl, Nat.le_of_ble_eq_true rfl⟩ (fun r v H locs ev hP hD hS => ?_)
        obtain rfl : r = _ := congrArg Prod.fst ev
        obtain rfl : v = _ := congrArg Prod.snd ev
        refine lv_aload_n hx hb dL_law_262 rfl (lv_at hl 2 rfl) ?_
        refine lv_aload_n hx hb dL_law_263 rfl (lv_at hl 0 rfl) ?_
        refine lv_iload_n hx hb dL_law_264 rfl (lv_at hl 3 rfl) ?_
        refine lv_iconst (v := nI 1) hx hb dL_law_265 (by decide) ?_
        refine lv_iadd hx hb dL_law_266 ?_
        refine ic_top (nI_add _ _) ?_
        refine lx_ld hx hb hX hbl hbA hS (i := i + 1) (by omega) (by omega) dL_law_267 ?_
        refine lc_M ⟨hx, hb, hml, hown, hts⟩ (mM_erase l D g gT gL gH gD cZ cJ cG cD (bt th) lo hh had n H.size (xs (i + 1)) ) (cwM_eraseL hts ⟨Nat.le_of_ble_eq_true rfl, Nat.le_of_ble_eq_true rfl⟩) hK hP hD hS hA rfl hl.1 rfl (Nat.le_of_ble_eq_true rfl) dL_law_268 ⟨Nat.le_of_ble_eq_true rfl, Nat.le_of_ble_eq_true rfl⟩ (fun r v H locs ev hP hD hS => ?_)
        obtain rfl : r = _ := congrArg Prod.fst ev
        obtain rfl : v = _ := congrArg Prod.snd ev
        have st := ic_step_erase hI (xs (i + 1))
        refine lv_icmp_eq (tgt := 443) hx hb dL_law_271 (by decide) (fun _ => ?_) (fun c9 => absurd st.1 c9)
        exact next _ _ _ _ _ _ _ _ _ st.2.1 (by have := st.2.2; omega) H locs ls hl hP hD hS
      · skip
        refine lv_tableIn (off := 244) (tgt := 276) hx hb dL_law_32 (by decide) (by decide) (by decide) (by decide) ?_
        refine lv_aload_n hx hb dL_law_276 rfl (lv_at hl 1 rfl) ?_
        have hPX := hP.sub (ws' := ic_wX h hO hH cI cB th own Hn n) [0, 1, 2] rfl
        have hPM := hP.sub (ws' := ic_wM g gT gL gH gD cZ cJ cG cD (bt th) lo hh had n) [3, 4, 5, 6, 7] rfl
        refine xc_i ⟨hx, hb, hml, hown, hts⟩ (mX_parties l D h hO hH cI cB th own Hn n  ) (cwX_partiesL hts ⟨Nat.le_of_ble_eq_true rfl, Nat.le_of_ble_eq_true rfl⟩) hKX hPX rfl hl.1 rfl (Nat.le_of_ble_eq_true rfl) dL_law_277 ⟨Nat.le_of_ble_eq_true rfl, Nat.le_of_ble_eq_true rfl⟩ (fun r er => ?_)
        subst er
        refine lv_aload_n hx hb dL_law_280 rfl (lv_at hl 2 rfl) ?_
        refine mc_i ⟨hx, hb, hml, hown, hts⟩ (mM_parties l D g gT gL gH gD cZ cJ cG cD (bt th) lo hh had n  ) (cwM_partiesL hts ⟨Nat.le_of_ble_eq_true rfl, Nat.le_of_ble_eq_true rfl⟩) hKM hPM rfl hl.1 rfl (Nat.le_of_ble_eq_true rfl) dL_law_281 ⟨Nat.le_of_ble_eq_true rfl, Nat.le_of_ble_eq_true rfl⟩ (fun r er => ?_)
        subst er
        refine lv_icmp_eq (tgt := 443) hx hb dL_law_284 (by decide) (fun _ => ?_) (fun c9 => absurd (ic_Inv_par hI) c9)
        exact next th own Hn n (bt th) lo hh had n hI (by omega) H locs ls hl hP hD hS
      · skip
        refine lv_tableIn (off := 257) (tgt := 289) hx hb dL_law_32 (by decide) (by decide) (by decide) (by decide) ?_
        refine lv_aload_n hx hb dL_law_289 rfl (lv_at hl 1 rfl) ?_
        have hPX := hP.sub (ws' := ic_wX h hO hH cI cB th own Hn n) [0, 1, 2] rfl
        have hPM := hP.sub (ws' := ic_wM g gT gL gH gD cZ cJ cG cD (bt th) lo hh had n) [3, 4, 5, 6, 7] rfl
        refine xc_i ⟨hx, hb, hml, hown, hts⟩ (mX_notes l D h hO hH cI cB th own Hn n  ) (cwX_notesL hts ⟨Nat.le_of_ble_eq_true rfl, Nat.le_of_ble_eq_true rfl⟩) hKX hPX rfl hl.1 rfl (Nat.le_of_ble_eq_true rfl) dL_law_290 ⟨Nat.le_of_ble_eq_true rfl, Nat.le_of_ble_eq_true rfl⟩ (fun r er => ?_)
        subst er
        refine lv_aload_n hx hb dL_law_293 rfl (lv_at hl 2 rfl) ?_
        refine mc_i ⟨hx, hb, hml, hown, hts⟩ (mM_notes l D g gT gL gH gD cZ cJ cG cD (bt th) lo hh had n  ) (cwM_notesL hts ⟨Nat.le_of_ble_eq_true rfl, Nat.le_of_ble_eq_true rfl⟩) hKM hPM rfl hl.1 rfl (Nat.le_of_ble_eq_true rfl) dL_law_294 ⟨Nat.le_of_ble_eq_true rfl, Nat.le_of_ble_eq_true rfl⟩ (fun r er => ?_)
        subst er
        refine lv_icmp_eq (tgt := 443) hx hb dL_law_297 (by decide) (fun _ => ?_) (fun c9 => absurd (ic_Inv_not hI) c9)
        exact next th own Hn n (bt th) lo hh had n hI (by omega) H locs ls hl hP hD hS
      · skip
        refine lv_tableIn (off := 270) (tgt := 302) hx hb dL_law_32 (by decide) (by decide) (by decide) (by decide) ?_
        refine lv_aload_n hx hb dL_law_302 rfl (lv_at hl 1 rfl) ?_
        have hPX := hP.sub (ws' := ic_wX h hO hH cI cB th own Hn n) [0, 1, 2] rfl
        have hPM := hP.sub (ws' := ic_wM g gT gL gH gD cZ cJ cG cD (bt th) lo hh had n) [3, 4, 5, 6, 7] rfl
        refine xc_i ⟨hx, hb, hml, hown, hts⟩ (mX_events l D h hO hH cI cB th own Hn n  ) (cwX_eventsL hts ⟨Nat.le_of_ble_eq_true rfl, Nat.le_of_ble_eq_true rfl⟩) hKX hPX rfl hl.1 rfl (Nat.le_of_ble_eq_true rfl) dL_law_303 ⟨Nat.le_of_ble_eq_true rfl, Nat.le_of_ble_eq_true rfl⟩ (fun r er => ?_)
        subst er
        refine lv_aload_n hx hb dL_law_306 rfl (lv_at hl 2 rfl) ?_
        refine mc_i ⟨hx, hb, hml, hown, hts⟩ (mM_events l D g gT gL gH gD cZ cJ cG cD (bt th) lo hh had n  ) (cwM_eventsL hts ⟨Nat.le_of_ble_eq_true rfl, Nat.le_of_ble_eq_true rfl⟩) hKM hPM rfl hl.1 rfl (Nat.le_of_ble_eq_true rfl) dL_law_307 ⟨Nat.le_of_ble_eq_true rfl, Nat.le_of_ble_eq_true rfl⟩ (fun r er => ?_)
        subst er
        refine lv_icmp_eq (tgt := 443) hx hb dL_law_310 (by decide) (fun _ => ?_) (fun c9 => absurd rfl c9)
        exact next th own Hn n (bt th) lo hh had n hI (by omega) H locs ls hl hP hD hS
      · skip
        refine lv_tableIn (off := 283) (tgt := 315) hx hb dL_law_32 (by decide) (by decide) (by decide) (by decide) ?_
        refine lv_aload_n hx hb dL_law_315 rfl (lv_at hl 1 rfl) ?_
        refine lv_aload_n hx hb dL_law_316 rfl (lv_at hl 0 rfl) ?_
        refine lv_iload_n hx hb dL_law_317 rfl (lv_at hl 3 rfl) ?_
        refine lv_iconst (v := nI 1) hx hb dL_law_318 (by decide) ?_
        refine lv_iadd hx hb dL_law_319 ?_
        refine ic_top (nI_add _ _) ?_
        refine lx_ld hx hb hX hbl hbA hS (i := i + 1) (by omega) (by omega) dL_law_320 ?_
        have hPX := hP.sub (ws' := ic_wX h hO hH cI cB th own Hn n) [0, 1, 2] rfl
        have hPM := hP.sub (ws' := ic_wM g gT gL gH gD cZ cJ cG cD (bt th) lo hh had n) [3, 4, 5, 6, 7] rfl
        refine xc_i ⟨hx, hb, hml, hown, hts⟩ (mX_cells l D h hO hH cI cB th own Hn n (xs (i + 1)) ) (cwX_cellsL hts ⟨Nat.le_of_ble_eq_true rfl, Nat.le_of_ble_eq_true rfl⟩) hKX hPX rfl hl.1 rfl (Nat.le_of_ble_eq_true rfl) dL_law_321 ⟨Nat.le_of_ble_eq_true rfl, Nat.le_of_ble_eq_true rfl⟩ (fun r er => ?_)
        subst er
        refine lv_aload_n hx hb dL_law_324 rfl (lv_at hl 2 rfl) ?_
        refine lv_aload_n hx hb dL_law_325 rfl (lv_at hl 0 rfl) ?_
        refine lv_iload_n hx hb dL_law_326 rfl (lv_at hl 3 rfl) ?_
        refine lv_iconst (v := nI 1) hx hb dL_law_327 (by decide) ?_
        refine lv_iadd hx hb dL_law_328 ?_
        refine ic_top (nI_add _ _) ?_
        refine lx_ld hx hb hX hbl hbA hS (i := i + 1) (by omega) (by omega) dL_law_329 ?_
        refine mc_i ⟨hx, hb, hml, hown, hts⟩ (mM_cells l D g gT gL gH gD cZ cJ cG cD (bt th) lo hh had n (xs (i + 1)) ) (cwM_cellsL hts ⟨Nat.le_of_ble_eq_true rfl, Nat.le_of_ble_eq_true rfl⟩) hKM hPM rfl hl.1 rfl (Nat.le_of_ble_eq_true rfl) dL_law_330 ⟨Nat.le_of_ble_eq_true rfl, Nat.le_of_ble_eq_true rfl⟩ (fun r er => ?_)
        subst er
        refine lv_icmp_eq (tgt := 443) hx hb dL_law_333 (by decide) (fun _ => ?_) (fun c9 => absurd (ic_Inv_cel hI _) c9)
        exact next th own Hn n (bt th) lo hh had n hI (by omega) H locs ls hl hP hD hS
      · skip
        refine lv_tableIn (off := 306) (tgt := 338) hx hb dL_law_32 (by decide) (by decide) (by decide) (by decide) ?_
        refine lv_aload_n hx hb dL_law_338 rfl (lv_at hl 1 rfl) ?_
        refine lv_aload_n hx hb dL_law_339 rfl (lv_at hl 0 rfl) ?_
        refine lv_iload_n hx hb dL_law_340 rfl (lv_at hl 3 rfl) ?_
        refine lv_iconst (v := nI 1) hx hb dL_law_341 (by decide) ?_
        refine lv_iadd hx hb dL_law_342 ?_
        refine ic_top (nI_add _ _) ?_
        refine lx_ld hx hb hX hbl hbA hS (i := i + 1) (by omega) (by omega) dL_law_343 ?_
        refine lv_aload_n hx hb dL_law_344 rfl (lv_at hl 0 rfl) ?_
        refine lv_iload_n hx hb dL_law_345 rfl (lv_at hl 3 rfl) ?_
        refine lv_iconst (v := nI 2) hx hb dL_law_346 (by decide) ?_
        refine lv_iadd hx hb dL_law_347 ?_
        refine ic_top (nI_add _ _) ?_
        refine lx_ld hx hb hX hbl hbA hS (i := i + 2) (by omega) (by omega) dL_law_348 ?_
        have hPX := hP.sub (ws' := ic_wX h hO hH cI cB th own Hn n) [0, 1, 2] rfl
        have hPM := hP.sub (ws' := ic_wM g gT gL gH gD cZ cJ cG cD (bt th) lo hh had n) [3, 4, 5, 6, 7] rfl
        refine xc_i ⟨hx, hb, hml, hown, hts⟩ (mX_compare l D h hO hH cI cB th own Hn n (xs (i + 1)) (xs (i + 2)) hH1) (cwX_compareL hts ⟨Nat.le_of_ble_eq_true rfl, Nat.le_of_ble_eq_true rfl⟩) hKX hPX rfl hl.1 rfl (Nat.le_of_ble_eq_true rfl) dL_law_349 ⟨Nat.le_of_ble_eq_true rfl, Nat.le_of_ble_eq_true rfl⟩ (fun r er => ?_)
        subst er
        refine lv_aload_n hx hb dL_law_352 rfl (lv_at hl 2 rfl) ?_
        refine lv_aload_n hx hb dL_law_353 rfl (lv_at hl 0 rfl) ?_
        refine lv_iload_n hx hb dL_law_354 rfl (lv_at hl 3 rfl) ?_
        refine lv_iconst (v := nI 1) hx hb dL_law_355 (by decide) ?_
        refine lv_iadd hx hb dL_law_356 ?_
        refine ic_top (nI_add _ _) ?_
        refine lx_ld hx hb hX hbl hbA hS (i := i + 1) (by omega) (by omega) dL_law_357 ?_
        refine lv_aload_n hx hb dL_law_358 rfl (lv_at hl 0 rfl) ?_
        refine lv_iload_n hx hb dL_law_359 rfl (lv_at hl 3 rfl) ?_
        refine lv_iconst (v := nI 2) hx hb dL_law_360 (by decide) ?_
        refine lv_iadd hx hb dL_law_361 ?_
        refine ic_top (nI_add _ _) ?_
        refine lx_ld hx hb hX hbl hbA hS (i := i + 2) (by omega) (by omega) dL_law_362 ?_
        refine mc_i ⟨hx, hb, hml, hown, hts⟩ (mM_compare l D g gT gL gH gD cZ cJ cG cD (bt th) lo hh had n (xs (i + 1)) (xs (i + 2)) (ic_F Hn) hF) (cwM_compareL hts ⟨Nat.le_of_ble_eq_true rfl, Nat.le_of_ble_eq_true rfl⟩) hKM hPM rfl hl.1 rfl (Nat.le_of_ble_eq_true rfl) dL_law_363 ⟨Nat.le_of_ble_eq_true rfl, Nat.le_of_ble_eq_true rfl⟩ (fun r er => ?_)
        subst er
        refine lv_icmp_eq (tgt := 443) hx hb dL_law_366 (by decide) (fun _ => ?_) (fun c9 => absurd rfl c9)
        exact next th own Hn n (bt th) lo hh had n hI (by omega) H locs ls hl hP hD hS
      · skip
        refine lv_tableIn (off := 339) (tgt := 371) hx hb dL_law_32 (by decide) (by decide) (by decide) (by decide) ?_
        refine lv_aload_n hx hb dL_law_371 rfl (lv_at hl 1 rfl) ?_
        refine lv_aload_n hx hb dL_law_372 rfl (lv_at hl 0 rfl) ?_
        refine lv_iload_n hx hb dL_law_373 rfl (lv_at hl 3 rfl) ?_
        refine lv_iconst (v := nI 1) hx hb dL_law_374 (by decide) ?_
        refine lv_iadd hx hb dL_law_375 ?_
        refine ic_top (nI_add _ _) ?_
        refine lx_ld hx hb hX hbl hbA hS (i := i + 1) (by omega) (by omega) dL_law_376 ?_
        have hPX := hP.sub (ws' := ic_wX h hO hH cI cB th own Hn n) [0, 1, 2] rfl
        have hPM := hP.sub (ws' := ic_wM g gT gL gH gD cZ cJ cG cD (bt th) lo hh had n) [3, 4, 5, 6, 7] rfl
        refine xc_i ⟨hx, hb, hml, hown, hts⟩ (mX_behind l D h hO hH cI cB th own Hn n (xs (i + 1)) hH1) (cwX_behindL hts ⟨Nat.le_of_ble_eq_true rfl, Nat.le_of_ble_eq_true rfl⟩) hKX hPX rfl hl.1 rfl (Nat.le_of_ble_eq_true rfl) dL_law_377 ⟨Nat.le_of_ble_eq_true rfl, Nat.le_of_ble_eq_true rfl⟩ (fun r er => ?_)
        subst er
        refine lv_aload_n hx hb dL_law_380 rfl (lv_at hl 2 rfl) ?_
        refine lv_aload_n hx hb dL_law_381 rfl (lv_at hl 0 rfl) ?_
        refine lv_iload_n hx hb dL_law_382 rfl (lv_at hl 3 rfl) ?_
        refine lv_iconst (v := nI 1) hx hb dL_law_383 (by decide) ?_
        refine lv_iadd hx hb dL_law_384 ?_
        refine ic_top (nI_add _ _) ?_
        refine lx_ld hx hb hX hbl hbA hS (i := i + 1) (by omega) (by omega) dL_law_385 ?_
        refine mc_i ⟨hx, hb, hml, hown, hts⟩ (mM_behind l D g gT gL gH gD cZ cJ cG cD (bt th) lo hh had n (xs (i + 1)) (ic_F Hn) hF) (cwM_behindL hts ⟨Nat.le_of_ble_eq_true rfl, Nat.le_of_ble_eq_true rfl⟩) hKM hPM rfl hl.1 rfl (Nat.le_of_ble_eq_true rfl) dL_law_386 ⟨Nat.le_of_ble_eq_true rfl, Nat.le_of_ble_eq_true rfl⟩ (fun r er => ?_)
        subst er
        refine lv_icmp_eq (tgt := 443) hx hb dL_law_389 (by decide) (fun _ => ?_) (fun c9 => absurd rfl c9)
        exact next th own Hn n (bt th) lo hh had n hI (by omega) H locs ls hl hP hD hS
      · skip
        refine lv_tableIn (off := 362) (tgt := 394) hx hb dL_law_32 (by decide) (by decide) (by decide) (by decide) ?_
        refine lv_aload_n hx hb dL_law_394 rfl (lv_at hl 1 rfl) ?_
        have hPX := hP.sub (ws' := ic_wX h hO hH cI cB th own Hn n) [0, 1, 2] rfl
        have hPM := hP.sub (ws' := ic_wM g gT gL gH gD cZ cJ cG cD (bt th) lo hh had n) [3, 4, 5, 6, 7] rfl
        refine xc_i ⟨hx, hb, hml, hown, hts⟩ (mX_newest l D h hO hH cI cB th own Hn n  hH1 hth) (cwX_newestL hts ⟨Nat.le_of_ble_eq_true rfl, Nat.le_of_ble_eq_true rfl⟩) hKX hPX rfl hl.1 rfl (Nat.le_of_ble_eq_true rfl) dL_law_395 ⟨Nat.le_of_ble_eq_true rfl, Nat.le_of_ble_eq_true rfl⟩ (fun r er => ?_)
        subst er
        refine lv_aload_n hx hb dL_law_398 rfl (lv_at hl 2 rfl) ?_
        refine mc_i ⟨hx, hb, hml, hown, hts⟩ (mM_newest l D g gT gL gH gD cZ cJ cG cD (bt th) lo hh had n  (ic_F Hn) hF) (cwM_newestL hts ⟨Nat.le_of_ble_eq_true rfl, Nat.le_of_ble_eq_true rfl⟩) hKM hPM rfl hl.1 rfl (Nat.le_of_ble_eq_true rfl) dL_law_399 ⟨Nat.le_of_ble_eq_true rfl, Nat.le_of_ble_eq_true rfl⟩ (fun r er => ?_)
        subst er
        refine lv_icmp_eq (tgt := 443) hx hb dL_law_402 (by decide) (fun _ => ?_) (fun c9 => absurd rfl c9)
        exact next th own Hn n (bt th) lo hh had n hI (by omega) H locs ls hl hP hD hS
      · skip
        refine lv_tableIn (off := 375) (tgt := 407) hx hb dL_law_32 (by decide) (by decide) (by decide) (by decide) ?_
        refine lv_aload_n hx hb dL_law_407 rfl (lv_at hl 1 rfl) ?_
        refine lv_aload_n hx hb dL_law_408 rfl (lv_at hl 0 rfl) ?_
        refine lv_iload_n hx hb dL_law_409 rfl (lv_at hl 3 rfl) ?_
        refine lv_iconst (v := nI 1) hx hb dL_law_410 (by decide) ?_
        refine lv_iadd hx hb dL_law_411 ?_
        refine ic_top (nI_add _ _) ?_
        refine lx_ld hx hb hX hbl hbA hS (i := i + 1) (by omega) (by omega) dL_law_412 ?_
        have hPX := hP.sub (ws' := ic_wX h hO hH cI cB th own Hn n) [0, 1, 2] rfl
        have hPM := hP.sub (ws' := ic_wM g gT gL gH gD cZ cJ cG cD (bt th) lo hh had n) [3, 4, 5, 6, 7] rfl
        refine xc_i ⟨hx, hb, hml, hown, hts⟩ (mX_everywhere l D h hO hH cI cB th own Hn n (xs (i + 1)) hH1) (cwX_everywhereL hts ⟨Nat.le_of_ble_eq_true rfl, Nat.le_of_ble_eq_true rfl⟩) hKX hPX rfl hl.1 rfl (Nat.le_of_ble_eq_true rfl) dL_law_413 ⟨Nat.le_of_ble_eq_true rfl, Nat.le_of_ble_eq_true rfl⟩ (fun r er => ?_)
        subst er
        refine lv_aload_n hx hb dL_law_416 rfl (lv_at hl 2 rfl) ?_
        refine lv_aload_n hx hb dL_law_417 rfl (lv_at hl 0 rfl) ?_
        refine lv_iload_n hx hb dL_law_418 rfl (lv_at hl 3 rfl) ?_
        refine lv_iconst (v := nI 1) hx hb dL_law_419 (by decide) ?_
        refine lv_iadd hx hb dL_law_420 ?_
        refine ic_top (nI_add _ _) ?_
        refine lx_ld hx hb hX hbl hbA hS (i := i + 1) (by omega) (by omega) dL_law_421 ?_
        refine mc_i ⟨hx, hb, hml, hown, hts⟩ (mM_everywhere l D g gT gL gH gD cZ cJ cG cD (bt th) lo hh had n (xs (i + 1)) (ic_F Hn) hF) (cwM_everywhereL hts ⟨Nat.le_of_ble_eq_true rfl, Nat.le_of_ble_eq_true rfl⟩) hKM hPM rfl hl.1 rfl (Nat.le_of_ble_eq_true rfl) dL_law_422 ⟨Nat.le_of_ble_eq_true rfl, Nat.le_of_ble_eq_true rfl⟩ (fun r er => ?_)
        subst er
        refine lv_icmp_eq (tgt := 443) hx hb dL_law_425 (by decide) (fun _ => ?_) (fun c9 => absurd rfl c9)
        exact next th own Hn n (bt th) lo hh had n hI (by omega) H locs ls hl hP hD hS
      · skip
        refine lv_tableIn (off := 398) (tgt := 430) hx hb dL_law_32 (by decide) (by decide) (by decide) (by decide) ?_
        refine lv_aload_n hx hb dL_law_430 rfl (lv_at hl 1 rfl) ?_
        have hPX := hP.sub (ws' := ic_wX h hO hH cI cB th own Hn n) [0, 1, 2] rfl
        have hPM := hP.sub (ws' := ic_wM g gT gL gH gD cZ cJ cG cD (bt th) lo hh had n) [3, 4, 5, 6, 7] rfl
        refine xc_i ⟨hx, hb, hml, hown, hts⟩ (mX_apartPairs l D h hO hH cI cB th own Hn n  hH1) (cwX_apartPairsL hts ⟨Nat.le_of_ble_eq_true rfl, Nat.le_of_ble_eq_true rfl⟩) hKX hPX rfl hl.1 rfl (Nat.le_of_ble_eq_true rfl) dL_law_431 ⟨Nat.le_of_ble_eq_true rfl, Nat.le_of_ble_eq_true rfl⟩ (fun r er => ?_)
        subst er
        refine lv_aload_n hx hb dL_law_434 rfl (lv_at hl 2 rfl) ?_
        refine mc_i ⟨hx, hb, hml, hown, hts⟩ (mM_apartPairs l D g gT gL gH gD cZ cJ cG cD (bt th) lo hh had n  (ic_F Hn) hF) (cwM_apartPairsL hts ⟨Nat.le_of_ble_eq_true rfl, Nat.le_of_ble_eq_true rfl⟩) hKM hPM rfl hl.1 rfl (Nat.le_of_ble_eq_true rfl) dL_law_435 ⟨Nat.le_of_ble_eq_true rfl, Nat.le_of_ble_eq_true rfl⟩ (fun r er => ?_)
        subst er
        refine lv_icmp_eq (tgt := 443) hx hb dL_law_438 (by decide) (fun _ => ?_) (fun c9 => absurd rfl c9)
        exact next th own Hn n (bt th) lo hh had n hI (by omega) H locs ls hl hP hD hS
      · skip
        refine lv_tableOut (tgt := 443) hx hb dL_law_32 (by decide) (by decide) ?_
        exact next th own Hn n (bt th) lo hh had n hI (by omega) H locs ls hl hP hD hS
end
section
set_option maxRecDepth 100000
set_option maxHeartbeats 4000000 in
theorem whole_start {p : Program} {e : Env} {s : State} {m : MethodId} {below : List Frame} {meth : Method} {c : Code} (l : Launch) {b L : Nat} {xs : Nat → Int32} (hL : L ≤ 192) (C0 : lw_At p s m meth c b L xs) : W p l e room_1 s m #[Value.ref b] below meth c s.heap [] 0 0 (lw_Z below #[Value.ref b] s) (entryFrame m ([Value.ref b] : List Value).toArray 4) := by
  obtain ⟨hx, hb, hr, hml, hown, hts0, hX, hbl, hlocks, -⟩ := C0
  have hb : c.code = cL_law := hb
  have hown : s.vm.findClass "IntervalClocksLaw" = some m.cls := hown
  have hts : ∀ w ∈ lw_all, w.before #[Value.ref b] s = true := fun w h => hts0 w (lw_all_tbl h)
  obtain ⟨c0_, iS0, hKn0⟩ := u_known (C := RX0) (T := TX0) (N := 4) (n := 4) hts0 (fun w h => lw_all_tbl (in_X0 w h)) (hts0 _ (lw_all_tbl q15))
  obtain ⟨c1_, iS1, hKn1⟩ := u_known (C := RX1) (T := TX1) (N := 5) (n := 5) hts0 (fun w h => lw_all_tbl (in_X1 w h)) (hts0 _ (lw_all_tbl q129))
  obtain ⟨D, hD0⟩ : ∃ D : va_G, ∀ (k : Nat) (q : vw_C), ic_cl[k]? = some q → u_Kn s q.1 q.2.1 q.2.2 (D.1 k) (D.2 k) := by
    refine ⟨(fun k => if k = 0 then c0_ else c1_, fun k => if k = 0 then iS0 else iS1), ?_⟩
    intro k q hq
    match k, hq with
    | 0, hq => cases hq; exact hKn0
    | 1, hq => cases hq; exact hKn1
    | k + 2, hq => simp [ic_cl] at hq
  have hK : va_K D ic_cl [] s := ⟨hD0, fun k q hk => by simp at hk⟩
  obtain ⟨A, hAe⟩ : ∃ A : Nat → Prop, A = fun q => s.heap.size ≤ q := ⟨_, rfl⟩
  have hA : ∀ q : Nat, s.heap.size ≤ q → A q := fun q h => by rw [hAe]; exact h
  have hA2 : ∀ q : Nat, A q → s.heap.size ≤ q := fun q h => by rw [hAe] at h; exact h
  have hbA : ¬ A b := fun q => absurd (hA2 b q) (by omega)
  have hP : va_P D ic_cl [] s.heap := fun k q hk => by simp at hk
  have hD : va_D A [] := ⟨fun i j p q hp => by simp at hp, fun k q hk => by simp at hk⟩
  have hS : va_S A s.heap s.heap [] := va_S.rf
  have hl := lv_entry ([.ref b]) (n := 4) (Nat.le_of_ble_eq_true rfl)
  rw [lg_entry_eq]
  generalize (lg_sl ([.ref b]) ++ List.replicate (4 - (lg_sl ([.ref b])).length) Slot.unset).toArray = ls at hl ⊢
  have hl : lv_has ls 4 [(0, .ref b)] := hl
  refine va_new (ci := 0) (fs := [.int 0, .null, .null, .int 0]) (C := RX0) (T := TX0) (N := 4) hx hb hts in_X0 tyX0 tyX0_ok hown (hts _ q14) (hts _ q15) (hts _ q12) hK hP hD hS hA rfl (fun j hj => by rcases (show j = 0 ∨ j = 1 ∨ j = 2 ∨ j = 3 by omega) with rfl | rfl | rfl | rfl <;> rfl) (Nat.le_of_ble_eq_true rfl) (Nat.le_of_ble_eq_true rfl) dL_law_0 (fun h H hP hD hS => ?_)
  have hP : va_P D ic_cl (ic_x0 h) H := hP
  have hD : va_D A (ic_x0 h) := hD
  refine lv_dup hx hb dL_law_3 rfl ?_
  have hFc := va_free (wc := ic_x0 h) hD hS hA [0] rfl
  refine va_callv (va_runI (As := []) (rest := [.ref h]) ⟨hx, hb, hml, hown, hts⟩ (mX_init l D h H.size) (cwI 0 hts (lw_meth q18) rfl rfl rfl (hts _ q12) (hts _ q16) (hts _ q17) rfl (by decide +kernel) ⟨Nat.le_of_ble_eq_true rfl, Nat.le_of_ble_eq_true rfl⟩) ⟨fun a U g mk q => by obtain ⟨q0, q1, qP, qK, qD⟩ := q; exact ⟨q0, q1, qP, va_K.moved (u := U) (U := U.calling g mk a) (Vm.Alike.refl U.vm) qK, qD⟩, fun U hU hW => ⟨rfl, by rw [hU], by rw [hU]; exact hP, va_K.moved hW.alike hK, hD.weaken (fun _ _ _ _ => trivial)⟩⟩ rfl rfl hl.1 rfl (lv_room (Nat.le_of_ble_eq_true rfl)) dL_law_4 ⟨Nat.le_of_ble_eq_true rfl, Nat.le_of_ble_eq_true rfl⟩) hS (fun q _ h => hFc q h) hFc (fun u t H1 locs ht hvm _ hB hz1 hk1 hS => ?_)
  obtain ⟨hO, hH, cI, cB⟩ := u
  obtain ⟨hP1, hK1, hD1⟩ := hB
  rw [ht] at hP1
  have hK := va_K.moved hvm.symm hK1
  have hD := hD1.weaken (fun _ q _ hq => hFc q.1 hq)
  generalize H1 = H at hP1 hS ⊢
  have hP : va_P D ic_cl (ic_wX h hO hH cI cB (nI 1) ic_own0 (fun _ => 0) 0) H := hP1
  have hD : va_D A (ic_wX h hO hH cI cB (nI 1) ic_own0 (fun _ => 0) 0) := hD
  have hK : va_K D ic_cl (ic_tX cI cB) s := hK
  refine lv_astore_n (lv' := [(1, .ref h), (0, .ref b)]) hx hb dL_law_7 rfl hl (by decide) rfl (fun ls hl => ?_)
  refine va_new (ci := 1) (fs := [.null, .null, .null, .null, .int 0]) (C := RX1) (T := TX1) (N := 5) hx hb hts in_X1 tyX1 tyX1_ok hown (hts _ q128) (hts _ q129) (hts _ q13) hK hP hD hS hA rfl (fun j hj => by rcases (show j = 0 ∨ j = 1 ∨ j = 2 ∨ j = 3 ∨ j = 4 by omega) with rfl | rfl | rfl | rfl | rfl <;> rfl) (Nat.le_of_ble_eq_true rfl) (Nat.le_of_ble_eq_true rfl) dL_law_8 (fun g H hP hD hS => ?_)
  have hP : va_P D ic_cl (ic_wX h hO hH cI cB (nI 1) ic_own0 (fun _ => 0) 0 ++ ic_m0 g) H := hP
  have hD : va_D A (ic_wX h hO hH cI cB (nI 1) ic_own0 (fun _ => 0) 0 ++ ic_m0 g) := hD
  refine lv_dup hx hb dL_law_11 rfl ?_
  have hPc := hP.sub (ws' := ic_m0 g) [3] rfl
  have hDc := hD.sub (ws' := ic_m0 g) [3] (by decide) rfl
  have hKc := hK.sub (tys' := []) [] rfl
  have hFc := va_free (wc := ic_m0 g) hD hS hA [3] rfl
  refine va_callv (va_runI (As := []) (rest := [.ref g]) ⟨hx, hb, hml, hown, hts⟩ (mM_init l D g H.size) (cwI 0 hts (lw_meth q132) rfl rfl rfl (hts _ q13) (hts _ q130) (hts _ q131) rfl (by decide +kernel) ⟨Nat.le_of_ble_eq_true rfl, Nat.le_of_ble_eq_true rfl⟩) ⟨fun a U g mk q => by obtain ⟨q0, q1, qP, qK, qD⟩ := q; exact ⟨q0, q1, qP, va_K.moved (u := U) (U := U.calling g mk a) (Vm.Alike.refl U.vm) qK, qD⟩, fun U hU hW => ⟨rfl, by rw [hU], by rw [hU]; exact hPc, va_K.moved hW.alike hKc, hDc.weaken (fun _ _ _ _ => trivial)⟩⟩ rfl rfl hl.1 rfl (lv_room (Nat.le_of_ble_eq_true rfl)) dL_law_12 ⟨Nat.le_of_ble_eq_true rfl, Nat.le_of_ble_eq_true rfl⟩) hS (fun q _ h => hFc q h) hFc (fun u t H1 locs ht hvm _ hB hz1 hk1 hS => ?_)
  obtain ⟨gT, gL, gH, gD, cZ, cJ, cG, cD⟩ := u
  obtain ⟨hP1, hK1, hD1⟩ := hB
  rw [ht] at hP1
  have hK1 := va_K.moved hvm.symm hK1
  obtain ⟨hP, hD⟩ := va_join (wr := ic_wX h hO hH cI cB (nI 1) ic_own0 (fun _ => 0) 0) (w1 := ic_wM g gT gL gH gD cZ cJ cG cD (va_up (fun _ => false) 0 true) (fun _ => 0) (fun _ => 0) ic_own0 0) hP hD [3] [0, 1, 2] rfl rfl (by decide) (by decide) hk1 hFc hP1 hD1
  have hK : va_K D ic_cl (ic_tX cI cB ++ ic_tM cZ cJ cG cD) s := hK.app hK1
  generalize H1 = H at hP hS ⊢
  refine lv_astore_n (lv' := [(2, .ref g), (1, .ref h), (0, .ref b)]) hx hb dL_law_15 rfl hl (by decide) rfl (fun ls hl => ?_)
  refine lv_iconst (v := nI 0) hx hb dL_law_16 (by decide) ?_
  refine lv_istore_n (lv' := [(3, .int (nI 0)), (2, .ref g), (1, .ref h), (0, .ref b)]) hx hb dL_law_17 rfl hl (by decide) rfl (fun ls hl => ?_)
  refine W.widen (k := 8) (n := 585) (Nat.le_of_ble_eq_true rfl) (Nat.le_of_ble_eq_true rfl) ?_
  exact law_loop hL hx hb hr hml hown hts hX hbl hlocks hbA hA hA2 hK (L + 1) 0 (by omega) _ _ _ _ _ _ _ _ _ ic_Inv_0 (by decide) (by decide) H locs ls (lv_sub hl [3, 2, 1, 0] rfl) hP hD hS
set_option maxHeartbeats 4000000 in
theorem lw_walk (l : Launch) (b : Addr) (xs : List Int32) : MetFree l x (headSpec (Jvm.Cond.code x code maxLocals ret :: tables_1) room_1) (lw_P b xs) (fun _ _ _ _ _ => True) lw_Q := by
  refine MetFree.of_bodyS (code := code) (maxLocals := maxLocals) (ret := ret) (by decide) ?_ ?_
  · intro args s m h hn
    obtain ⟨meth, c, h1, h2, h3, h4, h5, h6, -, -⟩ := Cond.code_spec hn (atoms_spec (ws := Jvm.Cond.code x code maxLocals ret :: tables_1) h _ List.mem_cons_self)
    exact ⟨meth, c, h1, h2, h3, h4, h5, h6⟩
  · intro p e s m args below meth c s₁ B hml0 hP _
    obtain ⟨rfl, hx, hbd, hgv⟩ := hP
    obtain ⟨scr, harrAt, hlist, hof, hsmall⟩ := hx
    obtain ⟨hcb, hkn, -, -⟩ := State.arrayAt?_spec harrAt
    have hown : s.vm.findClass R_law = some m.cls := findClass_of_methodNamed B.named
    have hts0 : ∀ c ∈ (Jvm.Cond.code x code maxLocals ret :: tables_1), c.before #[Value.ref b] s = true := atoms_spec (ws := Jvm.Cond.code x code maxLocals ret :: tables_1) B.pre
    have hts : ∀ w ∈ lw_tbl, w.before #[Value.ref b] s = true := k2_hts_sels lw_privs (fun w hw => hts0 w (List.mem_cons_of_mem _ hw)) lw_privs_ok
    have hml : c.maxLocals = 4 := B.maxLocals_eq (hts0 _ List.mem_cons_self)
    have X₀ : Stand p l e room_1 s m #[Value.ref b] below meth c s₁ [] 0 0 := Stand.of_body B
    have hh0 : s₁.heap = s.heap := by rw [B.state]; rfl
    have hsz : scr.slots.size = xs.length := by rw [← Array.length_toList, hlist, List.length_map]
    have hval : ∀ j : Nat, j < xs.length → scr.slots[j]? = some (.int (xs.getD j 0)) := fun j hj => by
      rw [← Array.getElem?_toList, hlist]
      simp [hj]
    have hbl : b < s.heap.size := (Array.getElem?_eq_some_iff.mp hcb).1
    have hX : va_X b xs.length (fun j => xs.getD j 0) s s.heap := ⟨scr, hcb, hof, hkn, hsz, hval⟩
    have K : W p l e room_1 s m #[Value.ref b] below meth c s₁.heap [] 0 0 (lw_Z below #[Value.ref b] s) (entryFrame m ([Value.ref b] : List Value).toArray 4) := by
      rw [hh0]
      exact whole_start l hbd ⟨B.exec, B.bytes, B.returns, hml, hown, hts, hX, hbl, B.notSynchronized, hgv⟩
    obtain ⟨t, a1, o, b1, b2, b3⟩ := K s₁ rfl X₀
    exact ⟨t, o, a1, b1, b2, b3⟩
theorem lw_pre_spec {args : Array Value} {s : State} (h : (Jvm.Cond.and given_1 narrow_1).before args s = true) (hr : rest_1_c.before args s = true) : ∃ (b : Addr) (xs : List Int32), lw_P b xs args s := by
  have hs := flat_of_before _ h
  have hq := flat_of_before _ hr
  have hc : (Cond.count 1).before args s = true := hs _ (by decide +kernel)
  have harr : (Cond.arrayOf (.arg 0) .int).before args s = true := hs _ (by decide +kernel)
  have hle : (Cond.le (.length (.arg 0)) (.int 192)).before args s = true := hs _ (by decide +kernel)
  have hlen : (Cond.isInt (.length (.arg 0))).before args s = true := hq _ (by decide +kernel)
  have hall : (Cond.all (.arg 0) (.isInt (.elem (.arg 0) (.index 0)))).before args s = true := hq _ (by decide +kernel)
  obtain ⟨b, xs, hb, hx⟩ := State.ints_of_pre rfl harr hlen hall
  have hsm : xs.length < 2 ^ 31 := hx.choose_spec.2.2.2
  have hev : (Term.length (.arg 0)).eval args s none [] s = some (.int xs.length.toInt32) := hx.length_eval hb
  have hv := Cond.le_ints hev (show (Term.int 192).eval args s none [] s = some (.int 192) from rfl)
  have hd : xs.length.toInt32 ≤ 192 := by
    simpa [Cond.before, Cond.holds, hv] using hle
  have hN : xs.length ≤ 192 := (Int32.ofNat_le_ofNat hsm (by decide)).mp (show Int32.ofNat xs.length ≤ Int32.ofNat 192 from hd)
  exact ⟨b, xs, Cond.one_arg hc (show args[0]? = some (.ref b) from hb), hx, hN, h⟩
theorem lw_comes (l : Launch) : Comes l x (Jvm.Cond.code x code maxLocals ret :: tables_1) room_1 (fun tb e args s => Calls_1 tb e args s ∧ rest_1 tb e args s ∧ Pre_1 tb e args s)
    (fun _ _ args s o t => lw_Q args s o t) := by
  intro p e ha hc hk s m args below hf hfit hheap happ hpre
  obtain ⟨b, xs, hP⟩ := lw_pre_spec hpre.2.2 hpre.2.1
  obtain ⟨k, o, h1, h2, h3, hQ⟩ := lw_walk l b xs p e ha hc hk s m args below hf ((Spec.applies_iff_loose hf).mp happ).1 hP trivial
  exact ⟨k, o, h1, h2, h3, hQ⟩
theorem lw_frame {s t : State} {o : Outcome} {args : Array Value} (h : Framed s o t [] 600000 7290000) :
    Framed s o t (fieldLocs frame_1_writes args s ++ arrayLocs frame_1_arrays args s ++ staticLocs frame_1_statics s) 600000 7290000 := h
theorem lw_limb (L : Cond) (hL : ∀ (args : Array Value) (s t : State), L.after args s (.returned (some (.int 1))) t = true) :
    ArmFor flags0 classFile x code maxLocals ret World_1 tables_1 room_1 Calls_1 rest_1 Pre_1
      (fun tb e a s o t => postC L tb e a s o t ∧ Framed s o t (fieldLocs frame_1_writes a s ++ arrayLocs frame_1_arrays a s ++ staticLocs frame_1_statics s) 600000 7290000) := by
  intro l _ _ _ p e ha hc hk s m args below hf hfit hheap happ hpre
  obtain ⟨k, o, h1, h2, h3, rfl, hF⟩ := lw_comes l p e ha hc hk s m args below hf hfit hheap happ hpre
  exact ⟨k, _, h1, h2, h3, hL args s _, lw_frame hF⟩
theorem i_vc : Claimed_1_1 ∧ Claimed_1_2 := ⟨lw_limb limb_1_1 (fun args s t => by simp [limb_1_1, Cond.after, Cond.holds, Cond.value]), lw_limb limb_1_2 (fun args s t => Cond.after_iff.mpr (by
  first | (rw [show limb_1_2 = Cond.eq .result (.int 1) from rfl, Cond.eq_ints (x := 1) (y := 1) rfl rfl]; simp; done) | (simp [limb_1_2, Cond.value, Term.eval]; done)))⟩
end
