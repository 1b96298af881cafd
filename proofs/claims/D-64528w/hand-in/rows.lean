section
-- ===== PART A: goes FIRST, ahead of the names: the tables' words, and 'selects' of the private methods out of them =====
/-- a private method of a class that the tables say can be made, by its rows of tables_1 -/
def lw_okq (q : MethodName × Nat) : Prop := (q.1.cls ≠ "java/lang/invoke/MethodHandle" ∧ q.1.cls ≠ "java/lang/invoke/VarHandle") ∧ Cond.instantiable q.1.cls q.2 ∈ tables_1 ∧ Cond.privateMethod q.1 ∈ tables_1 ∧ Cond.instanceMethod q.1 ∈ tables_1
set_option maxRecDepth 100000
theorem lw_p0 : lw_okq (⟨"QbfDesk", "isWon", "(I)Z"⟩, 7) := ⟨⟨by decide +kernel, by decide +kernel⟩, List.mem_of_getElem? (i := 4) rfl, List.mem_of_getElem? (i := 52) rfl, List.mem_of_getElem? (i := 53) rfl⟩
theorem lw_p1 : lw_okq (⟨"QbfDesk", "derive", "(I)V"⟩, 7) := ⟨⟨by decide +kernel, by decide +kernel⟩, List.mem_of_getElem? (i := 4) rfl, List.mem_of_getElem? (i := 59) rfl, List.mem_of_getElem? (i := 60) rfl⟩
theorem lw_p2 : lw_okq (⟨"QbfDesk", "isOpen", "(I[I)Z"⟩, 7) := ⟨⟨by decide +kernel, by decide +kernel⟩, List.mem_of_getElem? (i := 4) rfl, List.mem_of_getElem? (i := 63) rfl, List.mem_of_getElem? (i := 64) rfl⟩
theorem lw_p3 : lw_okq (⟨"QbfDesk", "force", "(I)Z"⟩, 7) := ⟨⟨by decide +kernel, by decide +kernel⟩, List.mem_of_getElem? (i := 4) rfl, List.mem_of_getElem? (i := 67) rfl, List.mem_of_getElem? (i := 68) rfl⟩
theorem lw_p4 : lw_okq (⟨"QbfDesk", "isMakers", "(I)Z"⟩, 7) := ⟨⟨by decide +kernel, by decide +kernel⟩, List.mem_of_getElem? (i := 4) rfl, List.mem_of_getElem? (i := 71) rfl, List.mem_of_getElem? (i := 72) rfl⟩
theorem lw_p5 : lw_okq (⟨"QbfDesk", "firstValue", "(I)I"⟩, 7) := ⟨⟨by decide +kernel, by decide +kernel⟩, List.mem_of_getElem? (i := 4) rfl, List.mem_of_getElem? (i := 75) rfl, List.mem_of_getElem? (i := 76) rfl⟩
theorem lw_p6 : lw_okq (⟨"QbfDesk", "needsBoth", "(I)Z"⟩, 7) := ⟨⟨by decide +kernel, by decide +kernel⟩, List.mem_of_getElem? (i := 4) rfl, List.mem_of_getElem? (i := 79) rfl, List.mem_of_getElem? (i := 80) rfl⟩
theorem lw_p7 : lw_okq (⟨"QbfDesk", "occurs", "(I)Z"⟩, 7) := ⟨⟨by decide +kernel, by decide +kernel⟩, List.mem_of_getElem? (i := 4) rfl, List.mem_of_getElem? (i := 83) rfl, List.mem_of_getElem? (i := 84) rfl⟩
theorem lw_p8 : lw_okq (⟨"QbfDeskModel", "work", "(II)V"⟩, 4) := ⟨⟨by decide +kernel, by decide +kernel⟩, List.mem_of_getElem? (i := 103) rfl, List.mem_of_getElem? (i := 140) rfl, List.mem_of_getElem? (i := 141) rfl⟩
theorem lw_p9 : lw_okq (⟨"QbfDeskModel", "allHold", "(II)Z"⟩, 4) := ⟨⟨by decide +kernel, by decide +kernel⟩, List.mem_of_getElem? (i := 103) rfl, List.mem_of_getElem? (i := 147) rfl, List.mem_of_getElem? (i := 148) rfl⟩
def lw_privs_1 : List (MethodName × Nat) := [(⟨"QbfDesk", "isWon", "(I)Z"⟩, 7), (⟨"QbfDesk", "derive", "(I)V"⟩, 7), (⟨"QbfDesk", "isOpen", "(I[I)Z"⟩, 7), (⟨"QbfDesk", "force", "(I)Z"⟩, 7), (⟨"QbfDesk", "isMakers", "(I)Z"⟩, 7), (⟨"QbfDesk", "firstValue", "(I)I"⟩, 7), (⟨"QbfDesk", "needsBoth", "(I)Z"⟩, 7), (⟨"QbfDesk", "occurs", "(I)Z"⟩, 7), (⟨"QbfDeskModel", "work", "(II)V"⟩, 4), (⟨"QbfDeskModel", "allHold", "(II)Z"⟩, 4)]
theorem lw_r1 : ∀ q ∈ lw_privs_1, lw_okq q := List.forall_mem_cons.mpr ⟨lw_p0, List.forall_mem_cons.mpr ⟨lw_p1, List.forall_mem_cons.mpr ⟨lw_p2, List.forall_mem_cons.mpr ⟨lw_p3, List.forall_mem_cons.mpr ⟨lw_p4, List.forall_mem_cons.mpr ⟨lw_p5, List.forall_mem_cons.mpr ⟨lw_p6, List.forall_mem_cons.mpr ⟨lw_p7, List.forall_mem_cons.mpr ⟨lw_p8, List.forall_mem_cons.mpr ⟨lw_p9, fun _ h => absurd h List.not_mem_nil⟩⟩⟩⟩⟩⟩⟩⟩⟩⟩
def lw_privs : List (MethodName × Nat) := lw_privs_1
def lw_tbl : List Cond := k2_sels lw_privs ++ tables_1
theorem lw_privs_ok : ∀ q ∈ lw_privs, lw_okq q := lw_r1
-- ===== ONE list of words for every method: the tables' words that hold all through a run =====
def lw_all : List Cond := lw_tbl.filter goodWord
/-- a word of the tables by its place: claim/WORDS.tsv -/
theorem lw_w {w : Cond} (i : Nat) (h : lw_tbl[i]? = some w) (g : goodWord w = true) : w ∈ lw_all := List.mem_filter.mpr ⟨List.mem_of_getElem? h, g⟩
theorem lw_all_tbl {w : Cond} (h : w ∈ lw_all) : w ∈ lw_tbl := (List.mem_filter.mp h).1
theorem lw_self : GoodIn lw_all lw_all := fun w h => ⟨h, good_of_word (List.mem_filter.mp h).2⟩
/-- a class's field words, by their places -/
theorem lw_in (ws : List Cond) (ps : List Nat) (hp : ws = ps.filterMap (fun i => lw_tbl[i]?)) (hg : ws.all goodWord = true) : ∀ w ∈ ws, w ∈ lw_all := by
  intro w h
  have h1 := List.all_eq_true.mp hg w h
  rw [hp] at h
  obtain ⟨i, -, hi⟩ := List.mem_filterMap.mp h
  exact lw_w i hi h1
/-- the words of a contract for the method y with code b, L locals, answer r -/
abbrev ws_ (y : MethodName) (b : ByteArray) (L : Nat) (r : Option FieldType) : List Cond := Cond.code y b L r :: lw_all
theorem lw_meth {y : MethodName} {b : ByteArray} {L : Nat} {r : Option FieldType} (h : Cond.code y b L r ∈ lw_all) : GoodIn lw_all (ws_ y b L r) := by
  intro w hw
  rcases List.mem_cons.mp hw with e | e
  · rw [e]
    exact lw_self _ h
  · exact lw_self _ e
theorem lw_app {a c : List Cond} (ha : ∀ w ∈ a, w ∈ lw_all) (hc : GoodIn lw_all c) : GoodIn lw_all (a ++ c) := by
  intro w hw
  rcases List.mem_append.mp hw with e | e
  · exact lw_self w (ha w e)
  · exact hc w e
/-- what a call through an object asks: cwV n hts (lw_V ..) -/
theorem lw_V {own : String} {idx : Nat} {C : String} {y : MethodName} {b : ByteArray} {L : Nat} {r : Option FieldType} (h1 : Cond.methodLink own idx y ∈ lw_all) (h2 : Cond.instanceMethod y ∈ lw_all) (h3 : Cond.selects C y y ∈ lw_all) (h4 : Cond.initialized C ∈ lw_all) (h5 : Cond.code y b L r ∈ lw_all) : GoodIn lw_all (wsV own idx C y (ws_ y b L r)) := by
  refine lw_app ?_ (lw_meth h5)
  intro w hw
  simp only [List.mem_cons, List.not_mem_nil, or_false] at hw
  rcases hw with e | e | e | e
  · rw [e]; exact h1
  · rw [e]; exact h2
  · rw [e]; exact h3
  · rw [e]; exact h4
/-- what a static call asks: va_cwS n hts (lw_S ..) -/
theorem lw_S {own : String} {idx : Nat} {y : MethodName} {b : ByteArray} {L : Nat} {r : Option FieldType} (h1 : Cond.methodLink own idx y ∈ lw_all) (h2 : Cond.static y ∈ lw_all) (h3 : Cond.initialized y.cls ∈ lw_all) (h4 : Cond.code y b L r ∈ lw_all) : GoodIn lw_all (va_wsS own idx y (ws_ y b L r)) := by
  refine lw_app ?_ (lw_meth h4)
  intro w hw
  simp only [List.mem_cons, List.not_mem_nil, or_false] at hw
  rcases hw with e | e | e
  · rw [e]; exact h1
  · rw [e]; exact h2
  · rw [e]; exact h3
/-- the words of a contract for a method WITH HANDLERS (hh: its table) -/
abbrev wsW_ (y : MethodName) (b : ByteArray) (L : Nat) (r : Option FieldType) (hh : List (Nat × Nat × Nat × Nat)) : List Cond := Cond.codeWith y b L r hh :: lw_all
theorem lw_methW {y : MethodName} {b : ByteArray} {L : Nat} {r : Option FieldType} {hh : List (Nat × Nat × Nat × Nat)} (h : Cond.codeWith y b L r hh ∈ lw_all) : GoodIn lw_all (wsW_ y b L r hh) := by
  intro w hw
  rcases List.mem_cons.mp hw with e | e
  · rw [e]
    exact lw_self _ h
  · exact lw_self _ e
/-- any list of words by their places (lw_in), good -/
theorem lw_good {ws : List Cond} (h : ∀ w ∈ ws, w ∈ lw_all) : GoodIn lw_all ws := fun w hw => lw_self w (h w hw)
/-- what a call of a method with handlers asks: vx_cwVW n hts (lw_VW ..), vx_cwSW n hts (lw_SW ..) -/
theorem lw_VW {own : String} {idx : Nat} {C : String} {y : MethodName} {b : ByteArray} {L : Nat} {r : Option FieldType} {hh : List (Nat × Nat × Nat × Nat)} (h1 : Cond.methodLink own idx y ∈ lw_all) (h2 : Cond.instanceMethod y ∈ lw_all) (h3 : Cond.selects C y y ∈ lw_all) (h4 : Cond.initialized C ∈ lw_all) (h5 : Cond.codeWith y b L r hh ∈ lw_all) : GoodIn lw_all (wsV own idx C y (wsW_ y b L r hh)) := by
  refine lw_app ?_ (lw_methW h5)
  intro w hw
  simp only [List.mem_cons, List.not_mem_nil, or_false] at hw
  rcases hw with e | e | e | e
  · rw [e]; exact h1
  · rw [e]; exact h2
  · rw [e]; exact h3
  · rw [e]; exact h4
theorem lw_SW {own : String} {idx : Nat} {y : MethodName} {b : ByteArray} {L : Nat} {r : Option FieldType} {hh : List (Nat × Nat × Nat × Nat)} (h1 : Cond.methodLink own idx y ∈ lw_all) (h2 : Cond.static y ∈ lw_all) (h3 : Cond.initialized y.cls ∈ lw_all) (h4 : Cond.codeWith y b L r hh ∈ lw_all) : GoodIn lw_all (va_wsS own idx y (wsW_ y b L r hh)) := by
  refine lw_app ?_ (lw_methW h4)
  intro w hw
  simp only [List.mem_cons, List.not_mem_nil, or_false] at hw
  rcases hw with e | e | e
  · rw [e]; exact h1
  · rw [e]; exact h2
  · rw [e]; exact h3
/-- a word by its place in its run of the tables -/
theorem lw_at {r : List Cond} (hr : ∀ w ∈ r, w ∈ lw_tbl) {w : Cond} (i : Nat) (h : r[i]? = some w) : w ∈ lw_tbl := hr w (List.mem_of_getElem? h)
theorem lw_g {w : Cond} (h : w ∈ lw_tbl) (g : goodWord w = true) : w ∈ lw_all := List.mem_filter.mpr ⟨h, g⟩
theorem lw_ms : ∀ w ∈ k2_sels lw_privs, w ∈ lw_tbl := fun w h => show w ∈ k2_sels lw_privs ++ tables_1 from List.mem_append_left _ h
theorem lw_m0 : ∀ w ∈ tables_1, w ∈ lw_tbl := fun w h => show w ∈ k2_sels lw_privs ++ tables_1 from List.mem_append_right (k2_sels lw_privs) h
theorem qs0 : (Cond.selects "QbfDesk" ⟨"QbfDesk", "isWon", "(I)Z"⟩ ⟨"QbfDesk", "isWon", "(I)Z"⟩) ∈ lw_all := lw_g (lw_at lw_ms 0 rfl) rfl
theorem qs1 : (Cond.selects "QbfDesk" ⟨"QbfDesk", "derive", "(I)V"⟩ ⟨"QbfDesk", "derive", "(I)V"⟩) ∈ lw_all := lw_g (lw_at lw_ms 1 rfl) rfl
theorem qs2 : (Cond.selects "QbfDesk" ⟨"QbfDesk", "isOpen", "(I[I)Z"⟩ ⟨"QbfDesk", "isOpen", "(I[I)Z"⟩) ∈ lw_all := lw_g (lw_at lw_ms 2 rfl) rfl
theorem qs3 : (Cond.selects "QbfDesk" ⟨"QbfDesk", "force", "(I)Z"⟩ ⟨"QbfDesk", "force", "(I)Z"⟩) ∈ lw_all := lw_g (lw_at lw_ms 3 rfl) rfl
theorem qs4 : (Cond.selects "QbfDesk" ⟨"QbfDesk", "isMakers", "(I)Z"⟩ ⟨"QbfDesk", "isMakers", "(I)Z"⟩) ∈ lw_all := lw_g (lw_at lw_ms 4 rfl) rfl
theorem qs5 : (Cond.selects "QbfDesk" ⟨"QbfDesk", "firstValue", "(I)I"⟩ ⟨"QbfDesk", "firstValue", "(I)I"⟩) ∈ lw_all := lw_g (lw_at lw_ms 5 rfl) rfl
theorem qs6 : (Cond.selects "QbfDesk" ⟨"QbfDesk", "needsBoth", "(I)Z"⟩ ⟨"QbfDesk", "needsBoth", "(I)Z"⟩) ∈ lw_all := lw_g (lw_at lw_ms 6 rfl) rfl
theorem qs7 : (Cond.selects "QbfDesk" ⟨"QbfDesk", "occurs", "(I)Z"⟩ ⟨"QbfDesk", "occurs", "(I)Z"⟩) ∈ lw_all := lw_g (lw_at lw_ms 7 rfl) rfl
theorem qs8 : (Cond.selects "QbfDeskModel" ⟨"QbfDeskModel", "work", "(II)V"⟩ ⟨"QbfDeskModel", "work", "(II)V"⟩) ∈ lw_all := lw_g (lw_at lw_ms 8 rfl) rfl
theorem qs9 : (Cond.selects "QbfDeskModel" ⟨"QbfDeskModel", "allHold", "(II)Z"⟩ ⟨"QbfDeskModel", "allHold", "(II)Z"⟩) ∈ lw_all := lw_g (lw_at lw_ms 9 rfl) rfl
end
section
/-! QbfDesk -/
set_option maxRecDepth 100000
def RX0 : String := "QbfDesk"
def TX0 : u_T := fun k => match k with
  | 0 => ("QbfDesk", "makers", "I", false)
  | 1 => ("QbfDesk", "clauses", "I", false)
  | 2 => ("QbfDesk", "literals", "[I", true)
  | 3 => ("QbfDesk", "leftOut", "I", false)
  | 4 => ("QbfDesk", "value", "[I", true)
  | 5 => ("QbfDesk", "follows", "[I", true)
  | _ => ("QbfDesk", "lost", "Z", false)
def tyX0 : Nat → FieldType := fun k => match k with
  | 0 => .int
  | 1 => .int
  | 2 => .array .int
  | 3 => .int
  | 4 => .array .int
  | 5 => .array .int
  | _ => .boolean
abbrev wsX00 : List Cond := u_ws RX0 TX0 7
theorem nmX0 : ∀ a, a < 7 → ∀ b, b < 7 → a ≠ b → (TX0 a).2.1 ≠ (TX0 b).2.1 := by decide +kernel
theorem tyX0_ok : ∀ k, k < 7 → parseFieldDescriptor (TX0 k).2.2.1 = some (tyX0 k) := by decide +kernel
abbrev cX0_init : ByteArray := prog_1_method_1_code
def yX0_init : MethodName := ⟨RX0, "<init>", "()V"⟩
theorem dX0_init_0 : decode cX0_init 0 = .ok (.aload_n 0, 1) := by decide +kernel
theorem dX0_init_1 : decode cX0_init 1 = .ok (.invokespecial 1, 3) := by decide +kernel
theorem dX0_init_4 : decode cX0_init 4 = .ok (.aload_n 0, 1) := by decide +kernel
theorem dX0_init_5 : decode cX0_init 5 = .ok (.sipush 255, 3) := by decide +kernel
theorem dX0_init_8 : decode cX0_init 8 = .ok (.putfield 7, 3) := by decide +kernel
theorem dX0_init_11 : decode cX0_init 11 = .ok (.aload_n 0, 1) := by decide +kernel
theorem dX0_init_12 : decode cX0_init 12 = .ok (.bipush 20, 2) := by decide +kernel
theorem dX0_init_14 : decode cX0_init 14 = .ok (.newarray .int, 2) := by decide +kernel
theorem dX0_init_16 : decode cX0_init 16 = .ok (.putfield 13, 3) := by decide +kernel
theorem dX0_init_19 : decode cX0_init 19 = .ok (.aload_n 0, 1) := by decide +kernel
theorem dX0_init_20 : decode cX0_init 20 = .ok (.bipush 8, 2) := by decide +kernel
theorem dX0_init_22 : decode cX0_init 22 = .ok (.newarray .int, 2) := by decide +kernel
theorem dX0_init_24 : decode cX0_init 24 = .ok (.putfield 17, 3) := by decide +kernel
theorem dX0_init_27 : decode cX0_init 27 = .ok (.aload_n 0, 1) := by decide +kernel
theorem dX0_init_28 : decode cX0_init 28 = .ok (.bipush 8, 2) := by decide +kernel
theorem dX0_init_30 : decode cX0_init 30 = .ok (.newarray .int, 2) := by decide +kernel
theorem dX0_init_32 : decode cX0_init 32 = .ok (.putfield 20, 3) := by decide +kernel
theorem dX0_init_35 : decode cX0_init 35 = .ok (.aload_n 0, 1) := by decide +kernel
theorem dX0_init_36 : decode cX0_init 36 = .ok (.iconst (-1), 1) := by decide +kernel
theorem dX0_init_37 : decode cX0_init 37 = .ok (.putfield 23, 3) := by decide +kernel
theorem dX0_init_40 : decode cX0_init 40 = .ok (.return_, 1) := by decide +kernel
abbrev cX0_give : ByteArray := prog_1_method_2_code
def yX0_give : MethodName := ⟨RX0, "give", "(IZ)V"⟩
theorem dX0_give_0 : decode cX0_give 0 = .ok (.iconst 1, 1) := by decide +kernel
theorem dX0_give_1 : decode cX0_give 1 = .ok (.iload_n 1, 1) := by decide +kernel
theorem dX0_give_2 : decode cX0_give 2 = .ok (.bipush 7, 2) := by decide +kernel
theorem dX0_give_4 : decode cX0_give 4 = .ok (.iand, 1) := by decide +kernel
theorem dX0_give_5 : decode cX0_give 5 = .ok (.ishl, 1) := by decide +kernel
theorem dX0_give_6 : decode cX0_give 6 = .ok (.istore_n 3, 1) := by decide +kernel
theorem dX0_give_7 : decode cX0_give 7 = .ok (.aload_n 0, 1) := by decide +kernel
theorem dX0_give_8 : decode cX0_give 8 = .ok (.iload_n 2, 1) := by decide +kernel
theorem dX0_give_9 : decode cX0_give 9 = .ok (.ifCond .eq 12, 3) := by decide +kernel
theorem dX0_give_12 : decode cX0_give 12 = .ok (.aload_n 0, 1) := by decide +kernel
theorem dX0_give_13 : decode cX0_give 13 = .ok (.getfield 7, 3) := by decide +kernel
theorem dX0_give_16 : decode cX0_give 16 = .ok (.iload_n 3, 1) := by decide +kernel
theorem dX0_give_17 : decode cX0_give 17 = .ok (.ior, 1) := by decide +kernel
theorem dX0_give_18 : decode cX0_give 18 = .ok (.goto 11, 3) := by decide +kernel
theorem dX0_give_21 : decode cX0_give 21 = .ok (.aload_n 0, 1) := by decide +kernel
theorem dX0_give_22 : decode cX0_give 22 = .ok (.getfield 7, 3) := by decide +kernel
theorem dX0_give_25 : decode cX0_give 25 = .ok (.iload_n 3, 1) := by decide +kernel
theorem dX0_give_26 : decode cX0_give 26 = .ok (.iconst (-1), 1) := by decide +kernel
theorem dX0_give_27 : decode cX0_give 27 = .ok (.ixor, 1) := by decide +kernel
theorem dX0_give_28 : decode cX0_give 28 = .ok (.iand, 1) := by decide +kernel
theorem dX0_give_29 : decode cX0_give 29 = .ok (.putfield 7, 3) := by decide +kernel
theorem dX0_give_32 : decode cX0_give 32 = .ok (.return_, 1) := by decide +kernel
abbrev cX0_add : ByteArray := prog_1_method_3_code
def yX0_add : MethodName := ⟨RX0, "add", "(I)I"⟩
theorem dX0_add_0 : decode cX0_add 0 = .ok (.aload_n 0, 1) := by decide +kernel
theorem dX0_add_1 : decode cX0_add 1 = .ok (.getfield 26, 3) := by decide +kernel
theorem dX0_add_4 : decode cX0_add 4 = .ok (.bipush 20, 2) := by decide +kernel
theorem dX0_add_6 : decode cX0_add 6 = .ok (.if_icmp .lt 5, 3) := by decide +kernel
theorem dX0_add_9 : decode cX0_add 9 = .ok (.iconst (-1), 1) := by decide +kernel
theorem dX0_add_10 : decode cX0_add 10 = .ok (.ireturn, 1) := by decide +kernel
theorem dX0_add_11 : decode cX0_add 11 = .ok (.aload_n 0, 1) := by decide +kernel
theorem dX0_add_12 : decode cX0_add 12 = .ok (.getfield 13, 3) := by decide +kernel
theorem dX0_add_15 : decode cX0_add 15 = .ok (.aload_n 0, 1) := by decide +kernel
theorem dX0_add_16 : decode cX0_add 16 = .ok (.getfield 26, 3) := by decide +kernel
theorem dX0_add_19 : decode cX0_add 19 = .ok (.iload_n 1, 1) := by decide +kernel
theorem dX0_add_20 : decode cX0_add 20 = .ok (.ldc 29, 2) := by decide +kernel
theorem dX0_add_22 : decode cX0_add 22 = .ok (.iand, 1) := by decide +kernel
theorem dX0_add_23 : decode cX0_add 23 = .ok (.iastore, 1) := by decide +kernel
theorem dX0_add_24 : decode cX0_add 24 = .ok (.aload_n 0, 1) := by decide +kernel
theorem dX0_add_25 : decode cX0_add 25 = .ok (.dup, 1) := by decide +kernel
theorem dX0_add_26 : decode cX0_add 26 = .ok (.getfield 26, 3) := by decide +kernel
theorem dX0_add_29 : decode cX0_add 29 = .ok (.iconst 1, 1) := by decide +kernel
theorem dX0_add_30 : decode cX0_add 30 = .ok (.iadd, 1) := by decide +kernel
theorem dX0_add_31 : decode cX0_add 31 = .ok (.putfield 26, 3) := by decide +kernel
theorem dX0_add_34 : decode cX0_add 34 = .ok (.aload_n 0, 1) := by decide +kernel
theorem dX0_add_35 : decode cX0_add 35 = .ok (.getfield 26, 3) := by decide +kernel
theorem dX0_add_38 : decode cX0_add 38 = .ok (.ireturn, 1) := by decide +kernel
abbrev cX0_drop : ByteArray := prog_1_method_4_code
def yX0_drop : MethodName := ⟨RX0, "drop", "(I)I"⟩
theorem dX0_drop_0 : decode cX0_drop 0 = .ok (.iload_n 1, 1) := by decide +kernel
theorem dX0_drop_1 : decode cX0_drop 1 = .ok (.ifCond .lt 11, 3) := by decide +kernel
theorem dX0_drop_4 : decode cX0_drop 4 = .ok (.iload_n 1, 1) := by decide +kernel
theorem dX0_drop_5 : decode cX0_drop 5 = .ok (.aload_n 0, 1) := by decide +kernel
theorem dX0_drop_6 : decode cX0_drop 6 = .ok (.getfield 26, 3) := by decide +kernel
theorem dX0_drop_9 : decode cX0_drop 9 = .ok (.if_icmp .lt 5, 3) := by decide +kernel
theorem dX0_drop_12 : decode cX0_drop 12 = .ok (.iconst (-1), 1) := by decide +kernel
theorem dX0_drop_13 : decode cX0_drop 13 = .ok (.ireturn, 1) := by decide +kernel
theorem dX0_drop_14 : decode cX0_drop 14 = .ok (.aload_n 0, 1) := by decide +kernel
theorem dX0_drop_15 : decode cX0_drop 15 = .ok (.dup, 1) := by decide +kernel
theorem dX0_drop_16 : decode cX0_drop 16 = .ok (.getfield 26, 3) := by decide +kernel
theorem dX0_drop_19 : decode cX0_drop 19 = .ok (.iconst 1, 1) := by decide +kernel
theorem dX0_drop_20 : decode cX0_drop 20 = .ok (.isub, 1) := by decide +kernel
theorem dX0_drop_21 : decode cX0_drop 21 = .ok (.putfield 26, 3) := by decide +kernel
theorem dX0_drop_24 : decode cX0_drop 24 = .ok (.iload_n 1, 1) := by decide +kernel
theorem dX0_drop_25 : decode cX0_drop 25 = .ok (.istore_n 2, 1) := by decide +kernel
theorem dX0_drop_26 : decode cX0_drop 26 = .ok (.iload_n 2, 1) := by decide +kernel
theorem dX0_drop_27 : decode cX0_drop 27 = .ok (.aload_n 0, 1) := by decide +kernel
theorem dX0_drop_28 : decode cX0_drop 28 = .ok (.getfield 26, 3) := by decide +kernel
theorem dX0_drop_31 : decode cX0_drop 31 = .ok (.if_icmp .ge 23, 3) := by decide +kernel
theorem dX0_drop_34 : decode cX0_drop 34 = .ok (.aload_n 0, 1) := by decide +kernel
theorem dX0_drop_35 : decode cX0_drop 35 = .ok (.getfield 13, 3) := by decide +kernel
theorem dX0_drop_38 : decode cX0_drop 38 = .ok (.iload_n 2, 1) := by decide +kernel
theorem dX0_drop_39 : decode cX0_drop 39 = .ok (.aload_n 0, 1) := by decide +kernel
theorem dX0_drop_40 : decode cX0_drop 40 = .ok (.getfield 13, 3) := by decide +kernel
theorem dX0_drop_43 : decode cX0_drop 43 = .ok (.iload_n 2, 1) := by decide +kernel
theorem dX0_drop_44 : decode cX0_drop 44 = .ok (.iconst 1, 1) := by decide +kernel
theorem dX0_drop_45 : decode cX0_drop 45 = .ok (.iadd, 1) := by decide +kernel
theorem dX0_drop_46 : decode cX0_drop 46 = .ok (.iaload, 1) := by decide +kernel
theorem dX0_drop_47 : decode cX0_drop 47 = .ok (.iastore, 1) := by decide +kernel
theorem dX0_drop_48 : decode cX0_drop 48 = .ok (.iinc 2 1, 3) := by decide +kernel
theorem dX0_drop_51 : decode cX0_drop 51 = .ok (.goto (-25), 3) := by decide +kernel
theorem dX0_drop_54 : decode cX0_drop 54 = .ok (.aload_n 0, 1) := by decide +kernel
theorem dX0_drop_55 : decode cX0_drop 55 = .ok (.getfield 26, 3) := by decide +kernel
theorem dX0_drop_58 : decode cX0_drop 58 = .ok (.ireturn, 1) := by decide +kernel
abbrev cX0_won : ByteArray := prog_1_method_5_code
def yX0_won : MethodName := ⟨RX0, "won", "(I)I"⟩
theorem dX0_won_0 : decode cX0_won 0 = .ok (.iload_n 1, 1) := by decide +kernel
theorem dX0_won_1 : decode cX0_won 1 = .ok (.iconst 1, 1) := by decide +kernel
theorem dX0_won_2 : decode cX0_won 2 = .ok (.if_icmp .lt 10, 3) := by decide +kernel
theorem dX0_won_5 : decode cX0_won 5 = .ok (.iload_n 1, 1) := by decide +kernel
theorem dX0_won_6 : decode cX0_won 6 = .ok (.sipush 511, 3) := by decide +kernel
theorem dX0_won_9 : decode cX0_won 9 = .ok (.if_icmp .le 5, 3) := by decide +kernel
theorem dX0_won_12 : decode cX0_won 12 = .ok (.iconst (-1), 1) := by decide +kernel
theorem dX0_won_13 : decode cX0_won 13 = .ok (.ireturn, 1) := by decide +kernel
theorem dX0_won_14 : decode cX0_won 14 = .ok (.aload_n 0, 1) := by decide +kernel
theorem dX0_won_15 : decode cX0_won 15 = .ok (.iload_n 1, 1) := by decide +kernel
theorem dX0_won_16 : decode cX0_won 16 = .ok (.invokevirtual 30, 3) := by decide +kernel
theorem dX0_won_19 : decode cX0_won 19 = .ok (.ifCond .eq 7, 3) := by decide +kernel
theorem dX0_won_22 : decode cX0_won 22 = .ok (.iconst 1, 1) := by decide +kernel
theorem dX0_won_23 : decode cX0_won 23 = .ok (.goto 4, 3) := by decide +kernel
theorem dX0_won_26 : decode cX0_won 26 = .ok (.iconst 0, 1) := by decide +kernel
theorem dX0_won_27 : decode cX0_won 27 = .ok (.ireturn, 1) := by decide +kernel
abbrev cX0_isWon : ByteArray := prog_1_method_12_code
def yX0_isWon : MethodName := ⟨RX0, "isWon", "(I)Z"⟩
theorem dX0_isWon_0 : decode cX0_isWon 0 = .ok (.iload_n 1, 1) := by decide +kernel
theorem dX0_isWon_1 : decode cX0_isWon 1 = .ok (.invokestatic 34, 3) := by decide +kernel
theorem dX0_isWon_4 : decode cX0_isWon 4 = .ok (.istore_n 2, 1) := by decide +kernel
theorem dX0_isWon_5 : decode cX0_isWon 5 = .ok (.iconst 0, 1) := by decide +kernel
theorem dX0_isWon_6 : decode cX0_isWon 6 = .ok (.istore_n 3, 1) := by decide +kernel
theorem dX0_isWon_7 : decode cX0_isWon 7 = .ok (.iload_n 3, 1) := by decide +kernel
theorem dX0_isWon_8 : decode cX0_isWon 8 = .ok (.bipush 8, 2) := by decide +kernel
theorem dX0_isWon_10 : decode cX0_isWon 10 = .ok (.if_icmp .ge 33, 3) := by decide +kernel
theorem dX0_isWon_13 : decode cX0_isWon 13 = .ok (.aload_n 0, 1) := by decide +kernel
theorem dX0_isWon_14 : decode cX0_isWon 14 = .ok (.getfield 17, 3) := by decide +kernel
theorem dX0_isWon_17 : decode cX0_isWon 17 = .ok (.iload_n 3, 1) := by decide +kernel
theorem dX0_isWon_18 : decode cX0_isWon 18 = .ok (.iload_n 3, 1) := by decide +kernel
theorem dX0_isWon_19 : decode cX0_isWon 19 = .ok (.iload_n 2, 1) := by decide +kernel
theorem dX0_isWon_20 : decode cX0_isWon 20 = .ok (.if_icmp .ge 15, 3) := by decide +kernel
theorem dX0_isWon_23 : decode cX0_isWon 23 = .ok (.iload_n 1, 1) := by decide +kernel
theorem dX0_isWon_24 : decode cX0_isWon 24 = .ok (.iload_n 2, 1) := by decide +kernel
theorem dX0_isWon_25 : decode cX0_isWon 25 = .ok (.iconst 1, 1) := by decide +kernel
theorem dX0_isWon_26 : decode cX0_isWon 26 = .ok (.isub, 1) := by decide +kernel
theorem dX0_isWon_27 : decode cX0_isWon 27 = .ok (.iload_n 3, 1) := by decide +kernel
theorem dX0_isWon_28 : decode cX0_isWon 28 = .ok (.isub, 1) := by decide +kernel
theorem dX0_isWon_29 : decode cX0_isWon 29 = .ok (.iushr, 1) := by decide +kernel
theorem dX0_isWon_30 : decode cX0_isWon 30 = .ok (.iconst 1, 1) := by decide +kernel
theorem dX0_isWon_31 : decode cX0_isWon 31 = .ok (.iand, 1) := by decide +kernel
theorem dX0_isWon_32 : decode cX0_isWon 32 = .ok (.goto 4, 3) := by decide +kernel
theorem dX0_isWon_35 : decode cX0_isWon 35 = .ok (.iconst (-1), 1) := by decide +kernel
theorem dX0_isWon_36 : decode cX0_isWon 36 = .ok (.iastore, 1) := by decide +kernel
theorem dX0_isWon_37 : decode cX0_isWon 37 = .ok (.iinc 3 1, 3) := by decide +kernel
theorem dX0_isWon_40 : decode cX0_isWon 40 = .ok (.goto (-33), 3) := by decide +kernel
theorem dX0_isWon_43 : decode cX0_isWon 43 = .ok (.iload_n 2, 1) := by decide +kernel
theorem dX0_isWon_44 : decode cX0_isWon 44 = .ok (.istore_n 3, 1) := by decide +kernel
theorem dX0_isWon_45 : decode cX0_isWon 45 = .ok (.iconst 1, 1) := by decide +kernel
theorem dX0_isWon_46 : decode cX0_isWon 46 = .ok (.istore 4, 2) := by decide +kernel
theorem dX0_isWon_48 : decode cX0_isWon 48 = .ok (.iconst 0, 1) := by decide +kernel
theorem dX0_isWon_49 : decode cX0_isWon 49 = .ok (.istore 5, 2) := by decide +kernel
theorem dX0_isWon_51 : decode cX0_isWon 51 = .ok (.iconst 0, 1) := by decide +kernel
theorem dX0_isWon_52 : decode cX0_isWon 52 = .ok (.istore 6, 2) := by decide +kernel
theorem dX0_isWon_54 : decode cX0_isWon 54 = .ok (.iload 6, 2) := by decide +kernel
theorem dX0_isWon_56 : decode cX0_isWon 56 = .ok (.sipush 2000, 3) := by decide +kernel
theorem dX0_isWon_59 : decode cX0_isWon 59 = .ok (.if_icmp .ge 147, 3) := by decide +kernel
theorem dX0_isWon_62 : decode cX0_isWon 62 = .ok (.iload 4, 2) := by decide +kernel
theorem dX0_isWon_64 : decode cX0_isWon 64 = .ok (.ifCond .eq 58, 3) := by decide +kernel
theorem dX0_isWon_67 : decode cX0_isWon 67 = .ok (.aload_n 0, 1) := by decide +kernel
theorem dX0_isWon_68 : decode cX0_isWon 68 = .ok (.iload_n 3, 1) := by decide +kernel
theorem dX0_isWon_69 : decode cX0_isWon 69 = .ok (.invokevirtual 41, 3) := by decide +kernel
theorem dX0_isWon_72 : decode cX0_isWon 72 = .ok (.aload_n 0, 1) := by decide +kernel
theorem dX0_isWon_73 : decode cX0_isWon 73 = .ok (.getfield 45, 3) := by decide +kernel
theorem dX0_isWon_76 : decode cX0_isWon 76 = .ok (.ifCond .ne 9, 3) := by decide +kernel
theorem dX0_isWon_79 : decode cX0_isWon 79 = .ok (.iload_n 3, 1) := by decide +kernel
theorem dX0_isWon_80 : decode cX0_isWon 80 = .ok (.bipush 8, 2) := by decide +kernel
theorem dX0_isWon_82 : decode cX0_isWon 82 = .ok (.if_icmp .ne 23, 3) := by decide +kernel
theorem dX0_isWon_85 : decode cX0_isWon 85 = .ok (.aload_n 0, 1) := by decide +kernel
theorem dX0_isWon_86 : decode cX0_isWon 86 = .ok (.getfield 45, 3) := by decide +kernel
theorem dX0_isWon_89 : decode cX0_isWon 89 = .ok (.ifCond .ne 7, 3) := by decide +kernel
theorem dX0_isWon_92 : decode cX0_isWon 92 = .ok (.iconst 1, 1) := by decide +kernel
theorem dX0_isWon_93 : decode cX0_isWon 93 = .ok (.goto 4, 3) := by decide +kernel
theorem dX0_isWon_96 : decode cX0_isWon 96 = .ok (.iconst 0, 1) := by decide +kernel
theorem dX0_isWon_97 : decode cX0_isWon 97 = .ok (.istore 5, 2) := by decide +kernel
theorem dX0_isWon_99 : decode cX0_isWon 99 = .ok (.iconst 0, 1) := by decide +kernel
theorem dX0_isWon_100 : decode cX0_isWon 100 = .ok (.istore 4, 2) := by decide +kernel
theorem dX0_isWon_102 : decode cX0_isWon 102 = .ok (.goto 98, 3) := by decide +kernel
theorem dX0_isWon_105 : decode cX0_isWon 105 = .ok (.aload_n 0, 1) := by decide +kernel
theorem dX0_isWon_106 : decode cX0_isWon 106 = .ok (.getfield 17, 3) := by decide +kernel
theorem dX0_isWon_109 : decode cX0_isWon 109 = .ok (.iload_n 3, 1) := by decide +kernel
theorem dX0_isWon_110 : decode cX0_isWon 110 = .ok (.aload_n 0, 1) := by decide +kernel
theorem dX0_isWon_111 : decode cX0_isWon 111 = .ok (.iload_n 3, 1) := by decide +kernel
theorem dX0_isWon_112 : decode cX0_isWon 112 = .ok (.invokevirtual 49, 3) := by decide +kernel
theorem dX0_isWon_115 : decode cX0_isWon 115 = .ok (.iastore, 1) := by decide +kernel
theorem dX0_isWon_116 : decode cX0_isWon 116 = .ok (.iinc 3 1, 3) := by decide +kernel
theorem dX0_isWon_119 : decode cX0_isWon 119 = .ok (.goto 81, 3) := by decide +kernel
theorem dX0_isWon_122 : decode cX0_isWon 122 = .ok (.iload_n 3, 1) := by decide +kernel
theorem dX0_isWon_123 : decode cX0_isWon 123 = .ok (.iload_n 2, 1) := by decide +kernel
theorem dX0_isWon_124 : decode cX0_isWon 124 = .ok (.if_icmp .ne 6, 3) := by decide +kernel
theorem dX0_isWon_127 : decode cX0_isWon 127 = .ok (.iload 5, 2) := by decide +kernel
theorem dX0_isWon_129 : decode cX0_isWon 129 = .ok (.ireturn, 1) := by decide +kernel
theorem dX0_isWon_130 : decode cX0_isWon 130 = .ok (.iinc 3 (-1), 3) := by decide +kernel
theorem dX0_isWon_133 : decode cX0_isWon 133 = .ok (.aload_n 0, 1) := by decide +kernel
theorem dX0_isWon_134 : decode cX0_isWon 134 = .ok (.getfield 17, 3) := by decide +kernel
theorem dX0_isWon_137 : decode cX0_isWon 137 = .ok (.iload_n 3, 1) := by decide +kernel
theorem dX0_isWon_138 : decode cX0_isWon 138 = .ok (.iaload, 1) := by decide +kernel
theorem dX0_isWon_139 : decode cX0_isWon 139 = .ok (.ifCond .ne 25, 3) := by decide +kernel
theorem dX0_isWon_142 : decode cX0_isWon 142 = .ok (.iload 5, 2) := by decide +kernel
theorem dX0_isWon_144 : decode cX0_isWon 144 = .ok (.aload_n 0, 1) := by decide +kernel
theorem dX0_isWon_145 : decode cX0_isWon 145 = .ok (.iload_n 3, 1) := by decide +kernel
theorem dX0_isWon_146 : decode cX0_isWon 146 = .ok (.invokevirtual 38, 3) := by decide +kernel
theorem dX0_isWon_149 : decode cX0_isWon 149 = .ok (.if_icmp .eq 15, 3) := by decide +kernel
theorem dX0_isWon_152 : decode cX0_isWon 152 = .ok (.aload_n 0, 1) := by decide +kernel
theorem dX0_isWon_153 : decode cX0_isWon 153 = .ok (.iload_n 3, 1) := by decide +kernel
theorem dX0_isWon_154 : decode cX0_isWon 154 = .ok (.invokevirtual 52, 3) := by decide +kernel
theorem dX0_isWon_157 : decode cX0_isWon 157 = .ok (.ifCond .eq 7, 3) := by decide +kernel
theorem dX0_isWon_160 : decode cX0_isWon 160 = .ok (.iconst 1, 1) := by decide +kernel
theorem dX0_isWon_161 : decode cX0_isWon 161 = .ok (.goto 4, 3) := by decide +kernel
theorem dX0_isWon_164 : decode cX0_isWon 164 = .ok (.iconst 0, 1) := by decide +kernel
theorem dX0_isWon_165 : decode cX0_isWon 165 = .ok (.istore 7, 2) := by decide +kernel
theorem dX0_isWon_167 : decode cX0_isWon 167 = .ok (.aload_n 0, 1) := by decide +kernel
theorem dX0_isWon_168 : decode cX0_isWon 168 = .ok (.getfield 17, 3) := by decide +kernel
theorem dX0_isWon_171 : decode cX0_isWon 171 = .ok (.iload_n 3, 1) := by decide +kernel
theorem dX0_isWon_172 : decode cX0_isWon 172 = .ok (.iload 7, 2) := by decide +kernel
theorem dX0_isWon_174 : decode cX0_isWon 174 = .ok (.ifCond .eq 7, 3) := by decide +kernel
theorem dX0_isWon_177 : decode cX0_isWon 177 = .ok (.iconst 1, 1) := by decide +kernel
theorem dX0_isWon_178 : decode cX0_isWon 178 = .ok (.goto 4, 3) := by decide +kernel
theorem dX0_isWon_181 : decode cX0_isWon 181 = .ok (.iconst (-1), 1) := by decide +kernel
theorem dX0_isWon_182 : decode cX0_isWon 182 = .ok (.iastore, 1) := by decide +kernel
theorem dX0_isWon_183 : decode cX0_isWon 183 = .ok (.iload_n 3, 1) := by decide +kernel
theorem dX0_isWon_184 : decode cX0_isWon 184 = .ok (.iload 7, 2) := by decide +kernel
theorem dX0_isWon_186 : decode cX0_isWon 186 = .ok (.ifCond .eq 7, 3) := by decide +kernel
theorem dX0_isWon_189 : decode cX0_isWon 189 = .ok (.iconst 1, 1) := by decide +kernel
theorem dX0_isWon_190 : decode cX0_isWon 190 = .ok (.goto 4, 3) := by decide +kernel
theorem dX0_isWon_193 : decode cX0_isWon 193 = .ok (.iconst 0, 1) := by decide +kernel
theorem dX0_isWon_194 : decode cX0_isWon 194 = .ok (.iadd, 1) := by decide +kernel
theorem dX0_isWon_195 : decode cX0_isWon 195 = .ok (.istore_n 3, 1) := by decide +kernel
theorem dX0_isWon_196 : decode cX0_isWon 196 = .ok (.iload 7, 2) := by decide +kernel
theorem dX0_isWon_198 : decode cX0_isWon 198 = .ok (.istore 4, 2) := by decide +kernel
theorem dX0_isWon_200 : decode cX0_isWon 200 = .ok (.iinc 6 1, 3) := by decide +kernel
theorem dX0_isWon_203 : decode cX0_isWon 203 = .ok (.goto (-149), 3) := by decide +kernel
theorem dX0_isWon_206 : decode cX0_isWon 206 = .ok (.iload 5, 2) := by decide +kernel
theorem dX0_isWon_208 : decode cX0_isWon 208 = .ok (.ireturn, 1) := by decide +kernel
abbrev cX0_lengthOf : ByteArray := prog_1_method_11_code
def yX0_lengthOf : MethodName := ⟨RX0, "lengthOf", "(I)I"⟩
theorem dX0_lengthOf_0 : decode cX0_lengthOf 0 = .ok (.iconst 0, 1) := by decide +kernel
theorem dX0_lengthOf_1 : decode cX0_lengthOf 1 = .ok (.istore_n 1, 1) := by decide +kernel
theorem dX0_lengthOf_2 : decode cX0_lengthOf 2 = .ok (.iconst 1, 1) := by decide +kernel
theorem dX0_lengthOf_3 : decode cX0_lengthOf 3 = .ok (.istore_n 2, 1) := by decide +kernel
theorem dX0_lengthOf_4 : decode cX0_lengthOf 4 = .ok (.iload_n 2, 1) := by decide +kernel
theorem dX0_lengthOf_5 : decode cX0_lengthOf 5 = .ok (.bipush 9, 2) := by decide +kernel
theorem dX0_lengthOf_7 : decode cX0_lengthOf 7 = .ok (.if_icmp .ge 21, 3) := by decide +kernel
theorem dX0_lengthOf_10 : decode cX0_lengthOf 10 = .ok (.iload_n 0, 1) := by decide +kernel
theorem dX0_lengthOf_11 : decode cX0_lengthOf 11 = .ok (.iload_n 2, 1) := by decide +kernel
theorem dX0_lengthOf_12 : decode cX0_lengthOf 12 = .ok (.iushr, 1) := by decide +kernel
theorem dX0_lengthOf_13 : decode cX0_lengthOf 13 = .ok (.ifCond .eq 7, 3) := by decide +kernel
theorem dX0_lengthOf_16 : decode cX0_lengthOf 16 = .ok (.iload_n 2, 1) := by decide +kernel
theorem dX0_lengthOf_17 : decode cX0_lengthOf 17 = .ok (.goto 4, 3) := by decide +kernel
theorem dX0_lengthOf_20 : decode cX0_lengthOf 20 = .ok (.iload_n 1, 1) := by decide +kernel
theorem dX0_lengthOf_21 : decode cX0_lengthOf 21 = .ok (.istore_n 1, 1) := by decide +kernel
theorem dX0_lengthOf_22 : decode cX0_lengthOf 22 = .ok (.iinc 2 1, 3) := by decide +kernel
theorem dX0_lengthOf_25 : decode cX0_lengthOf 25 = .ok (.goto (-21), 3) := by decide +kernel
theorem dX0_lengthOf_28 : decode cX0_lengthOf 28 = .ok (.iload_n 1, 1) := by decide +kernel
theorem dX0_lengthOf_29 : decode cX0_lengthOf 29 = .ok (.ireturn, 1) := by decide +kernel
abbrev cX0_derive : ByteArray := prog_1_method_17_code
def yX0_derive : MethodName := ⟨RX0, "derive", "(I)V"⟩
theorem dX0_derive_0 : decode cX0_derive 0 = .ok (.aload_n 0, 1) := by decide +kernel
theorem dX0_derive_1 : decode cX0_derive 1 = .ok (.iconst 0, 1) := by decide +kernel
theorem dX0_derive_2 : decode cX0_derive 2 = .ok (.putfield 45, 3) := by decide +kernel
theorem dX0_derive_5 : decode cX0_derive 5 = .ok (.iconst 0, 1) := by decide +kernel
theorem dX0_derive_6 : decode cX0_derive 6 = .ok (.istore_n 2, 1) := by decide +kernel
theorem dX0_derive_7 : decode cX0_derive 7 = .ok (.iload_n 2, 1) := by decide +kernel
theorem dX0_derive_8 : decode cX0_derive 8 = .ok (.bipush 8, 2) := by decide +kernel
theorem dX0_derive_10 : decode cX0_derive 10 = .ok (.if_icmp .ge 21, 3) := by decide +kernel
theorem dX0_derive_13 : decode cX0_derive 13 = .ok (.aload_n 0, 1) := by decide +kernel
theorem dX0_derive_14 : decode cX0_derive 14 = .ok (.getfield 20, 3) := by decide +kernel
theorem dX0_derive_17 : decode cX0_derive 17 = .ok (.iload_n 2, 1) := by decide +kernel
theorem dX0_derive_18 : decode cX0_derive 18 = .ok (.aload_n 0, 1) := by decide +kernel
theorem dX0_derive_19 : decode cX0_derive 19 = .ok (.getfield 17, 3) := by decide +kernel
theorem dX0_derive_22 : decode cX0_derive 22 = .ok (.iload_n 2, 1) := by decide +kernel
theorem dX0_derive_23 : decode cX0_derive 23 = .ok (.iaload, 1) := by decide +kernel
theorem dX0_derive_24 : decode cX0_derive 24 = .ok (.iastore, 1) := by decide +kernel
theorem dX0_derive_25 : decode cX0_derive 25 = .ok (.iinc 2 1, 3) := by decide +kernel
theorem dX0_derive_28 : decode cX0_derive 28 = .ok (.goto (-21), 3) := by decide +kernel
theorem dX0_derive_31 : decode cX0_derive 31 = .ok (.iconst 1, 1) := by decide +kernel
theorem dX0_derive_32 : decode cX0_derive 32 = .ok (.istore_n 2, 1) := by decide +kernel
theorem dX0_derive_33 : decode cX0_derive 33 = .ok (.iconst 0, 1) := by decide +kernel
theorem dX0_derive_34 : decode cX0_derive 34 = .ok (.istore_n 3, 1) := by decide +kernel
theorem dX0_derive_35 : decode cX0_derive 35 = .ok (.iload_n 3, 1) := by decide +kernel
theorem dX0_derive_36 : decode cX0_derive 36 = .ok (.bipush 10, 2) := by decide +kernel
theorem dX0_derive_38 : decode cX0_derive 38 = .ok (.if_icmp .ge 88, 3) := by decide +kernel
theorem dX0_derive_41 : decode cX0_derive 41 = .ok (.iload_n 2, 1) := by decide +kernel
theorem dX0_derive_42 : decode cX0_derive 42 = .ok (.ifCond .eq 84, 3) := by decide +kernel
theorem dX0_derive_45 : decode cX0_derive 45 = .ok (.aload_n 0, 1) := by decide +kernel
theorem dX0_derive_46 : decode cX0_derive 46 = .ok (.getfield 45, 3) := by decide +kernel
theorem dX0_derive_49 : decode cX0_derive 49 = .ok (.ifCond .ne 77, 3) := by decide +kernel
theorem dX0_derive_52 : decode cX0_derive 52 = .ok (.iconst 0, 1) := by decide +kernel
theorem dX0_derive_53 : decode cX0_derive 53 = .ok (.istore_n 2, 1) := by decide +kernel
theorem dX0_derive_54 : decode cX0_derive 54 = .ok (.iconst 0, 1) := by decide +kernel
theorem dX0_derive_55 : decode cX0_derive 55 = .ok (.istore 4, 2) := by decide +kernel
theorem dX0_derive_57 : decode cX0_derive 57 = .ok (.iload 4, 2) := by decide +kernel
theorem dX0_derive_59 : decode cX0_derive 59 = .ok (.aload_n 0, 1) := by decide +kernel
theorem dX0_derive_60 : decode cX0_derive 60 = .ok (.getfield 26, 3) := by decide +kernel
theorem dX0_derive_63 : decode cX0_derive 63 = .ok (.if_icmp .ge 57, 3) := by decide +kernel
theorem dX0_derive_66 : decode cX0_derive 66 = .ok (.aload_n 0, 1) := by decide +kernel
theorem dX0_derive_67 : decode cX0_derive 67 = .ok (.getfield 45, 3) := by decide +kernel
theorem dX0_derive_70 : decode cX0_derive 70 = .ok (.ifCond .ne 50, 3) := by decide +kernel
theorem dX0_derive_73 : decode cX0_derive 73 = .ok (.iload 4, 2) := by decide +kernel
theorem dX0_derive_75 : decode cX0_derive 75 = .ok (.aload_n 0, 1) := by decide +kernel
theorem dX0_derive_76 : decode cX0_derive 76 = .ok (.getfield 23, 3) := by decide +kernel
theorem dX0_derive_79 : decode cX0_derive 79 = .ok (.if_icmp .eq 35, 3) := by decide +kernel
theorem dX0_derive_82 : decode cX0_derive 82 = .ok (.aload_n 0, 1) := by decide +kernel
theorem dX0_derive_83 : decode cX0_derive 83 = .ok (.iload 4, 2) := by decide +kernel
theorem dX0_derive_85 : decode cX0_derive 85 = .ok (.aload_n 0, 1) := by decide +kernel
theorem dX0_derive_86 : decode cX0_derive 86 = .ok (.getfield 20, 3) := by decide +kernel
theorem dX0_derive_89 : decode cX0_derive 89 = .ok (.invokevirtual 58, 3) := by decide +kernel
theorem dX0_derive_92 : decode cX0_derive 92 = .ok (.ifCond .eq 22, 3) := by decide +kernel
theorem dX0_derive_95 : decode cX0_derive 95 = .ok (.aload_n 0, 1) := by decide +kernel
theorem dX0_derive_96 : decode cX0_derive 96 = .ok (.iload 4, 2) := by decide +kernel
theorem dX0_derive_98 : decode cX0_derive 98 = .ok (.invokevirtual 62, 3) := by decide +kernel
theorem dX0_derive_101 : decode cX0_derive 101 = .ok (.ifCond .ne 7, 3) := by decide +kernel
theorem dX0_derive_104 : decode cX0_derive 104 = .ok (.iload_n 2, 1) := by decide +kernel
theorem dX0_derive_105 : decode cX0_derive 105 = .ok (.ifCond .eq 7, 3) := by decide +kernel
theorem dX0_derive_108 : decode cX0_derive 108 = .ok (.iconst 1, 1) := by decide +kernel
theorem dX0_derive_109 : decode cX0_derive 109 = .ok (.goto 4, 3) := by decide +kernel
theorem dX0_derive_112 : decode cX0_derive 112 = .ok (.iconst 0, 1) := by decide +kernel
theorem dX0_derive_113 : decode cX0_derive 113 = .ok (.istore_n 2, 1) := by decide +kernel
theorem dX0_derive_114 : decode cX0_derive 114 = .ok (.iinc 4 1, 3) := by decide +kernel
theorem dX0_derive_117 : decode cX0_derive 117 = .ok (.goto (-60), 3) := by decide +kernel
theorem dX0_derive_120 : decode cX0_derive 120 = .ok (.iinc 3 1, 3) := by decide +kernel
theorem dX0_derive_123 : decode cX0_derive 123 = .ok (.goto (-88), 3) := by decide +kernel
theorem dX0_derive_126 : decode cX0_derive 126 = .ok (.return_, 1) := by decide +kernel
abbrev cX0_isOpen : ByteArray := prog_1_method_16_code
def yX0_isOpen : MethodName := ⟨RX0, "isOpen", "(I[I)Z"⟩
theorem dX0_isOpen_0 : decode cX0_isOpen 0 = .ok (.iconst 0, 1) := by decide +kernel
theorem dX0_isOpen_1 : decode cX0_isOpen 1 = .ok (.istore_n 3, 1) := by decide +kernel
theorem dX0_isOpen_2 : decode cX0_isOpen 2 = .ok (.iload_n 3, 1) := by decide +kernel
theorem dX0_isOpen_3 : decode cX0_isOpen 3 = .ok (.bipush 8, 2) := by decide +kernel
theorem dX0_isOpen_5 : decode cX0_isOpen 5 = .ok (.if_icmp .ge 70, 3) := by decide +kernel
theorem dX0_isOpen_8 : decode cX0_isOpen 8 = .ok (.aload_n 0, 1) := by decide +kernel
theorem dX0_isOpen_9 : decode cX0_isOpen 9 = .ok (.getfield 13, 3) := by decide +kernel
theorem dX0_isOpen_12 : decode cX0_isOpen 12 = .ok (.iload_n 1, 1) := by decide +kernel
theorem dX0_isOpen_13 : decode cX0_isOpen 13 = .ok (.iaload, 1) := by decide +kernel
theorem dX0_isOpen_14 : decode cX0_isOpen 14 = .ok (.iconst 2, 1) := by decide +kernel
theorem dX0_isOpen_15 : decode cX0_isOpen 15 = .ok (.iload_n 3, 1) := by decide +kernel
theorem dX0_isOpen_16 : decode cX0_isOpen 16 = .ok (.imul, 1) := by decide +kernel
theorem dX0_isOpen_17 : decode cX0_isOpen 17 = .ok (.iushr, 1) := by decide +kernel
theorem dX0_isOpen_18 : decode cX0_isOpen 18 = .ok (.iconst 3, 1) := by decide +kernel
theorem dX0_isOpen_19 : decode cX0_isOpen 19 = .ok (.iand, 1) := by decide +kernel
theorem dX0_isOpen_20 : decode cX0_isOpen 20 = .ok (.istore 4, 2) := by decide +kernel
theorem dX0_isOpen_22 : decode cX0_isOpen 22 = .ok (.aload_n 2, 1) := by decide +kernel
theorem dX0_isOpen_23 : decode cX0_isOpen 23 = .ok (.iload_n 3, 1) := by decide +kernel
theorem dX0_isOpen_24 : decode cX0_isOpen 24 = .ok (.iaload, 1) := by decide +kernel
theorem dX0_isOpen_25 : decode cX0_isOpen 25 = .ok (.iconst 1, 1) := by decide +kernel
theorem dX0_isOpen_26 : decode cX0_isOpen 26 = .ok (.if_icmp .ne 10, 3) := by decide +kernel
theorem dX0_isOpen_29 : decode cX0_isOpen 29 = .ok (.iload 4, 2) := by decide +kernel
theorem dX0_isOpen_31 : decode cX0_isOpen 31 = .ok (.iconst 1, 1) := by decide +kernel
theorem dX0_isOpen_32 : decode cX0_isOpen 32 = .ok (.iand, 1) := by decide +kernel
theorem dX0_isOpen_33 : decode cX0_isOpen 33 = .ok (.ifCond .ne 16, 3) := by decide +kernel
theorem dX0_isOpen_36 : decode cX0_isOpen 36 = .ok (.aload_n 2, 1) := by decide +kernel
theorem dX0_isOpen_37 : decode cX0_isOpen 37 = .ok (.iload_n 3, 1) := by decide +kernel
theorem dX0_isOpen_38 : decode cX0_isOpen 38 = .ok (.iaload, 1) := by decide +kernel
theorem dX0_isOpen_39 : decode cX0_isOpen 39 = .ok (.ifCond .ne 14, 3) := by decide +kernel
theorem dX0_isOpen_42 : decode cX0_isOpen 42 = .ok (.iload 4, 2) := by decide +kernel
theorem dX0_isOpen_44 : decode cX0_isOpen 44 = .ok (.iconst 2, 1) := by decide +kernel
theorem dX0_isOpen_45 : decode cX0_isOpen 45 = .ok (.iand, 1) := by decide +kernel
theorem dX0_isOpen_46 : decode cX0_isOpen 46 = .ok (.ifCond .eq 7, 3) := by decide +kernel
theorem dX0_isOpen_49 : decode cX0_isOpen 49 = .ok (.iconst 1, 1) := by decide +kernel
theorem dX0_isOpen_50 : decode cX0_isOpen 50 = .ok (.goto 4, 3) := by decide +kernel
theorem dX0_isOpen_53 : decode cX0_isOpen 53 = .ok (.iconst 0, 1) := by decide +kernel
theorem dX0_isOpen_54 : decode cX0_isOpen 54 = .ok (.istore 5, 2) := by decide +kernel
theorem dX0_isOpen_56 : decode cX0_isOpen 56 = .ok (.iload 5, 2) := by decide +kernel
theorem dX0_isOpen_58 : decode cX0_isOpen 58 = .ok (.ifCond .ne 9, 3) := by decide +kernel
theorem dX0_isOpen_61 : decode cX0_isOpen 61 = .ok (.iload 4, 2) := by decide +kernel
theorem dX0_isOpen_63 : decode cX0_isOpen 63 = .ok (.iconst 3, 1) := by decide +kernel
theorem dX0_isOpen_64 : decode cX0_isOpen 64 = .ok (.if_icmp .ne 5, 3) := by decide +kernel
theorem dX0_isOpen_67 : decode cX0_isOpen 67 = .ok (.iconst 0, 1) := by decide +kernel
theorem dX0_isOpen_68 : decode cX0_isOpen 68 = .ok (.ireturn, 1) := by decide +kernel
theorem dX0_isOpen_69 : decode cX0_isOpen 69 = .ok (.iinc 3 1, 3) := by decide +kernel
theorem dX0_isOpen_72 : decode cX0_isOpen 72 = .ok (.goto (-70), 3) := by decide +kernel
theorem dX0_isOpen_75 : decode cX0_isOpen 75 = .ok (.iconst 1, 1) := by decide +kernel
theorem dX0_isOpen_76 : decode cX0_isOpen 76 = .ok (.ireturn, 1) := by decide +kernel
abbrev cX0_force : ByteArray := prog_1_method_18_code
def yX0_force : MethodName := ⟨RX0, "force", "(I)Z"⟩
theorem dX0_force_0 : decode cX0_force 0 = .ok (.iconst 0, 1) := by decide +kernel
theorem dX0_force_1 : decode cX0_force 1 = .ok (.istore_n 2, 1) := by decide +kernel
theorem dX0_force_2 : decode cX0_force 2 = .ok (.iconst (-1), 1) := by decide +kernel
theorem dX0_force_3 : decode cX0_force 3 = .ok (.istore_n 3, 1) := by decide +kernel
theorem dX0_force_4 : decode cX0_force 4 = .ok (.bipush 8, 2) := by decide +kernel
theorem dX0_force_6 : decode cX0_force 6 = .ok (.istore 4, 2) := by decide +kernel
theorem dX0_force_8 : decode cX0_force 8 = .ok (.bipush 7, 2) := by decide +kernel
theorem dX0_force_10 : decode cX0_force 10 = .ok (.istore 5, 2) := by decide +kernel
theorem dX0_force_12 : decode cX0_force 12 = .ok (.iload 5, 2) := by decide +kernel
theorem dX0_force_14 : decode cX0_force 14 = .ok (.ifCond .lt 74, 3) := by decide +kernel
theorem dX0_force_17 : decode cX0_force 17 = .ok (.aload_n 0, 1) := by decide +kernel
theorem dX0_force_18 : decode cX0_force 18 = .ok (.getfield 20, 3) := by decide +kernel
theorem dX0_force_21 : decode cX0_force 21 = .ok (.iload 5, 2) := by decide +kernel
theorem dX0_force_23 : decode cX0_force 23 = .ok (.iaload, 1) := by decide +kernel
theorem dX0_force_24 : decode cX0_force 24 = .ok (.ifCond .ge 23, 3) := by decide +kernel
theorem dX0_force_27 : decode cX0_force 27 = .ok (.aload_n 0, 1) := by decide +kernel
theorem dX0_force_28 : decode cX0_force 28 = .ok (.getfield 13, 3) := by decide +kernel
theorem dX0_force_31 : decode cX0_force 31 = .ok (.iload_n 1, 1) := by decide +kernel
theorem dX0_force_32 : decode cX0_force 32 = .ok (.iaload, 1) := by decide +kernel
theorem dX0_force_33 : decode cX0_force 33 = .ok (.iconst 2, 1) := by decide +kernel
theorem dX0_force_34 : decode cX0_force 34 = .ok (.iload 5, 2) := by decide +kernel
theorem dX0_force_36 : decode cX0_force 36 = .ok (.imul, 1) := by decide +kernel
theorem dX0_force_37 : decode cX0_force 37 = .ok (.iushr, 1) := by decide +kernel
theorem dX0_force_38 : decode cX0_force 38 = .ok (.iconst 3, 1) := by decide +kernel
theorem dX0_force_39 : decode cX0_force 39 = .ok (.iand, 1) := by decide +kernel
theorem dX0_force_40 : decode cX0_force 40 = .ok (.ifCond .eq 7, 3) := by decide +kernel
theorem dX0_force_43 : decode cX0_force 43 = .ok (.iconst 1, 1) := by decide +kernel
theorem dX0_force_44 : decode cX0_force 44 = .ok (.goto 4, 3) := by decide +kernel
theorem dX0_force_47 : decode cX0_force 47 = .ok (.iconst 0, 1) := by decide +kernel
theorem dX0_force_48 : decode cX0_force 48 = .ok (.istore 6, 2) := by decide +kernel
theorem dX0_force_50 : decode cX0_force 50 = .ok (.iload 6, 2) := by decide +kernel
theorem dX0_force_52 : decode cX0_force 52 = .ok (.ifCond .eq 21, 3) := by decide +kernel
theorem dX0_force_55 : decode cX0_force 55 = .ok (.aload_n 0, 1) := by decide +kernel
theorem dX0_force_56 : decode cX0_force 56 = .ok (.iload 5, 2) := by decide +kernel
theorem dX0_force_58 : decode cX0_force 58 = .ok (.invokevirtual 38, 3) := by decide +kernel
theorem dX0_force_61 : decode cX0_force 61 = .ok (.ifCond .eq 12, 3) := by decide +kernel
theorem dX0_force_64 : decode cX0_force 64 = .ok (.iinc 2 1, 3) := by decide +kernel
theorem dX0_force_67 : decode cX0_force 67 = .ok (.iload 5, 2) := by decide +kernel
theorem dX0_force_69 : decode cX0_force 69 = .ok (.istore_n 3, 1) := by decide +kernel
theorem dX0_force_70 : decode cX0_force 70 = .ok (.goto 12, 3) := by decide +kernel
theorem dX0_force_73 : decode cX0_force 73 = .ok (.iload 6, 2) := by decide +kernel
theorem dX0_force_75 : decode cX0_force 75 = .ok (.ifCond .eq 7, 3) := by decide +kernel
theorem dX0_force_78 : decode cX0_force 78 = .ok (.iload 5, 2) := by decide +kernel
theorem dX0_force_80 : decode cX0_force 80 = .ok (.istore 4, 2) := by decide +kernel
theorem dX0_force_82 : decode cX0_force 82 = .ok (.iinc 5 (-1), 3) := by decide +kernel
theorem dX0_force_85 : decode cX0_force 85 = .ok (.goto (-73), 3) := by decide +kernel
theorem dX0_force_88 : decode cX0_force 88 = .ok (.aload_n 0, 1) := by decide +kernel
theorem dX0_force_89 : decode cX0_force 89 = .ok (.iload_n 2, 1) := by decide +kernel
theorem dX0_force_90 : decode cX0_force 90 = .ok (.ifCond .ne 7, 3) := by decide +kernel
theorem dX0_force_93 : decode cX0_force 93 = .ok (.iconst 1, 1) := by decide +kernel
theorem dX0_force_94 : decode cX0_force 94 = .ok (.goto 4, 3) := by decide +kernel
theorem dX0_force_97 : decode cX0_force 97 = .ok (.iconst 0, 1) := by decide +kernel
theorem dX0_force_98 : decode cX0_force 98 = .ok (.putfield 45, 3) := by decide +kernel
theorem dX0_force_101 : decode cX0_force 101 = .ok (.iload_n 2, 1) := by decide +kernel
theorem dX0_force_102 : decode cX0_force 102 = .ok (.iconst 1, 1) := by decide +kernel
theorem dX0_force_103 : decode cX0_force 103 = .ok (.if_icmp .ne 9, 3) := by decide +kernel
theorem dX0_force_106 : decode cX0_force 106 = .ok (.iload 4, 2) := by decide +kernel
theorem dX0_force_108 : decode cX0_force 108 = .ok (.iload_n 3, 1) := by decide +kernel
theorem dX0_force_109 : decode cX0_force 109 = .ok (.if_icmp .ge 5, 3) := by decide +kernel
theorem dX0_force_112 : decode cX0_force 112 = .ok (.iconst 0, 1) := by decide +kernel
theorem dX0_force_113 : decode cX0_force 113 = .ok (.ireturn, 1) := by decide +kernel
theorem dX0_force_114 : decode cX0_force 114 = .ok (.aload_n 0, 1) := by decide +kernel
theorem dX0_force_115 : decode cX0_force 115 = .ok (.getfield 20, 3) := by decide +kernel
theorem dX0_force_118 : decode cX0_force 118 = .ok (.iload_n 3, 1) := by decide +kernel
theorem dX0_force_119 : decode cX0_force 119 = .ok (.aload_n 0, 1) := by decide +kernel
theorem dX0_force_120 : decode cX0_force 120 = .ok (.getfield 13, 3) := by decide +kernel
theorem dX0_force_123 : decode cX0_force 123 = .ok (.iload_n 1, 1) := by decide +kernel
theorem dX0_force_124 : decode cX0_force 124 = .ok (.iaload, 1) := by decide +kernel
theorem dX0_force_125 : decode cX0_force 125 = .ok (.iconst 2, 1) := by decide +kernel
theorem dX0_force_126 : decode cX0_force 126 = .ok (.iload_n 3, 1) := by decide +kernel
theorem dX0_force_127 : decode cX0_force 127 = .ok (.imul, 1) := by decide +kernel
theorem dX0_force_128 : decode cX0_force 128 = .ok (.iushr, 1) := by decide +kernel
theorem dX0_force_129 : decode cX0_force 129 = .ok (.iconst 1, 1) := by decide +kernel
theorem dX0_force_130 : decode cX0_force 130 = .ok (.iand, 1) := by decide +kernel
theorem dX0_force_131 : decode cX0_force 131 = .ok (.ifCond .eq 7, 3) := by decide +kernel
theorem dX0_force_134 : decode cX0_force 134 = .ok (.iconst 1, 1) := by decide +kernel
theorem dX0_force_135 : decode cX0_force 135 = .ok (.goto 4, 3) := by decide +kernel
theorem dX0_force_138 : decode cX0_force 138 = .ok (.iconst 0, 1) := by decide +kernel
theorem dX0_force_139 : decode cX0_force 139 = .ok (.iastore, 1) := by decide +kernel
theorem dX0_force_140 : decode cX0_force 140 = .ok (.iconst 1, 1) := by decide +kernel
theorem dX0_force_141 : decode cX0_force 141 = .ok (.ireturn, 1) := by decide +kernel
end
section
set_option maxRecDepth 100000
abbrev cX0_isMakers : ByteArray := prog_1_method_10_code
def yX0_isMakers : MethodName := ⟨RX0, "isMakers", "(I)Z"⟩
theorem dX0_isMakers_0 : decode cX0_isMakers 0 = .ok (.aload_n 0, 1) := by decide +kernel
theorem dX0_isMakers_1 : decode cX0_isMakers 1 = .ok (.getfield 7, 3) := by decide +kernel
theorem dX0_isMakers_4 : decode cX0_isMakers 4 = .ok (.iload_n 1, 1) := by decide +kernel
theorem dX0_isMakers_5 : decode cX0_isMakers 5 = .ok (.iushr, 1) := by decide +kernel
theorem dX0_isMakers_6 : decode cX0_isMakers 6 = .ok (.iconst 1, 1) := by decide +kernel
theorem dX0_isMakers_7 : decode cX0_isMakers 7 = .ok (.iand, 1) := by decide +kernel
theorem dX0_isMakers_8 : decode cX0_isMakers 8 = .ok (.ifCond .eq 7, 3) := by decide +kernel
theorem dX0_isMakers_11 : decode cX0_isMakers 11 = .ok (.iconst 1, 1) := by decide +kernel
theorem dX0_isMakers_12 : decode cX0_isMakers 12 = .ok (.goto 4, 3) := by decide +kernel
theorem dX0_isMakers_15 : decode cX0_isMakers 15 = .ok (.iconst 0, 1) := by decide +kernel
theorem dX0_isMakers_16 : decode cX0_isMakers 16 = .ok (.ireturn, 1) := by decide +kernel
abbrev cX0_firstValue : ByteArray := prog_1_method_13_code
def yX0_firstValue : MethodName := ⟨RX0, "firstValue", "(I)I"⟩
theorem dX0_firstValue_0 : decode cX0_firstValue 0 = .ok (.aload_n 0, 1) := by decide +kernel
theorem dX0_firstValue_1 : decode cX0_firstValue 1 = .ok (.iload_n 1, 1) := by decide +kernel
theorem dX0_firstValue_2 : decode cX0_firstValue 2 = .ok (.invokevirtual 38, 3) := by decide +kernel
theorem dX0_firstValue_5 : decode cX0_firstValue 5 = .ok (.ifCond .eq 17, 3) := by decide +kernel
theorem dX0_firstValue_8 : decode cX0_firstValue 8 = .ok (.aload_n 0, 1) := by decide +kernel
theorem dX0_firstValue_9 : decode cX0_firstValue 9 = .ok (.getfield 20, 3) := by decide +kernel
theorem dX0_firstValue_12 : decode cX0_firstValue 12 = .ok (.iload_n 1, 1) := by decide +kernel
theorem dX0_firstValue_13 : decode cX0_firstValue 13 = .ok (.iaload, 1) := by decide +kernel
theorem dX0_firstValue_14 : decode cX0_firstValue 14 = .ok (.iconst 1, 1) := by decide +kernel
theorem dX0_firstValue_15 : decode cX0_firstValue 15 = .ok (.if_icmp .ne 7, 3) := by decide +kernel
theorem dX0_firstValue_18 : decode cX0_firstValue 18 = .ok (.iconst 1, 1) := by decide +kernel
theorem dX0_firstValue_19 : decode cX0_firstValue 19 = .ok (.goto 4, 3) := by decide +kernel
theorem dX0_firstValue_22 : decode cX0_firstValue 22 = .ok (.iconst 0, 1) := by decide +kernel
theorem dX0_firstValue_23 : decode cX0_firstValue 23 = .ok (.ireturn, 1) := by decide +kernel
abbrev cX0_needsBoth : ByteArray := prog_1_method_14_code
def yX0_needsBoth : MethodName := ⟨RX0, "needsBoth", "(I)Z"⟩
theorem dX0_needsBoth_0 : decode cX0_needsBoth 0 = .ok (.aload_n 0, 1) := by decide +kernel
theorem dX0_needsBoth_1 : decode cX0_needsBoth 1 = .ok (.getfield 17, 3) := by decide +kernel
theorem dX0_needsBoth_4 : decode cX0_needsBoth 4 = .ok (.iload_n 1, 1) := by decide +kernel
theorem dX0_needsBoth_5 : decode cX0_needsBoth 5 = .ok (.iconst (-1), 1) := by decide +kernel
theorem dX0_needsBoth_6 : decode cX0_needsBoth 6 = .ok (.iastore, 1) := by decide +kernel
theorem dX0_needsBoth_7 : decode cX0_needsBoth 7 = .ok (.aload_n 0, 1) := by decide +kernel
theorem dX0_needsBoth_8 : decode cX0_needsBoth 8 = .ok (.iload_n 1, 1) := by decide +kernel
theorem dX0_needsBoth_9 : decode cX0_needsBoth 9 = .ok (.invokevirtual 41, 3) := by decide +kernel
theorem dX0_needsBoth_12 : decode cX0_needsBoth 12 = .ok (.aload_n 0, 1) := by decide +kernel
theorem dX0_needsBoth_13 : decode cX0_needsBoth 13 = .ok (.iload_n 1, 1) := by decide +kernel
theorem dX0_needsBoth_14 : decode cX0_needsBoth 14 = .ok (.invokevirtual 55, 3) := by decide +kernel
theorem dX0_needsBoth_17 : decode cX0_needsBoth 17 = .ok (.istore_n 2, 1) := by decide +kernel
theorem dX0_needsBoth_18 : decode cX0_needsBoth 18 = .ok (.aload_n 0, 1) := by decide +kernel
theorem dX0_needsBoth_19 : decode cX0_needsBoth 19 = .ok (.getfield 17, 3) := by decide +kernel
theorem dX0_needsBoth_22 : decode cX0_needsBoth 22 = .ok (.iload_n 1, 1) := by decide +kernel
theorem dX0_needsBoth_23 : decode cX0_needsBoth 23 = .ok (.iconst 0, 1) := by decide +kernel
theorem dX0_needsBoth_24 : decode cX0_needsBoth 24 = .ok (.iastore, 1) := by decide +kernel
theorem dX0_needsBoth_25 : decode cX0_needsBoth 25 = .ok (.aload_n 0, 1) := by decide +kernel
theorem dX0_needsBoth_26 : decode cX0_needsBoth 26 = .ok (.iload_n 1, 1) := by decide +kernel
theorem dX0_needsBoth_27 : decode cX0_needsBoth 27 = .ok (.invokevirtual 38, 3) := by decide +kernel
theorem dX0_needsBoth_30 : decode cX0_needsBoth 30 = .ok (.ifCond .eq 16, 3) := by decide +kernel
theorem dX0_needsBoth_33 : decode cX0_needsBoth 33 = .ok (.aload_n 0, 1) := by decide +kernel
theorem dX0_needsBoth_34 : decode cX0_needsBoth 34 = .ok (.getfield 20, 3) := by decide +kernel
theorem dX0_needsBoth_37 : decode cX0_needsBoth 37 = .ok (.iload_n 1, 1) := by decide +kernel
theorem dX0_needsBoth_38 : decode cX0_needsBoth 38 = .ok (.iaload, 1) := by decide +kernel
theorem dX0_needsBoth_39 : decode cX0_needsBoth 39 = .ok (.ifCond .ne 7, 3) := by decide +kernel
theorem dX0_needsBoth_42 : decode cX0_needsBoth 42 = .ok (.iconst 1, 1) := by decide +kernel
theorem dX0_needsBoth_43 : decode cX0_needsBoth 43 = .ok (.goto 4, 3) := by decide +kernel
theorem dX0_needsBoth_46 : decode cX0_needsBoth 46 = .ok (.iconst 0, 1) := by decide +kernel
theorem dX0_needsBoth_47 : decode cX0_needsBoth 47 = .ok (.istore_n 3, 1) := by decide +kernel
theorem dX0_needsBoth_48 : decode cX0_needsBoth 48 = .ok (.iload_n 2, 1) := by decide +kernel
theorem dX0_needsBoth_49 : decode cX0_needsBoth 49 = .ok (.ifCond .eq 11, 3) := by decide +kernel
theorem dX0_needsBoth_52 : decode cX0_needsBoth 52 = .ok (.iload_n 3, 1) := by decide +kernel
theorem dX0_needsBoth_53 : decode cX0_needsBoth 53 = .ok (.ifCond .ne 7, 3) := by decide +kernel
theorem dX0_needsBoth_56 : decode cX0_needsBoth 56 = .ok (.iconst 1, 1) := by decide +kernel
theorem dX0_needsBoth_57 : decode cX0_needsBoth 57 = .ok (.goto 4, 3) := by decide +kernel
theorem dX0_needsBoth_60 : decode cX0_needsBoth 60 = .ok (.iconst 0, 1) := by decide +kernel
theorem dX0_needsBoth_61 : decode cX0_needsBoth 61 = .ok (.ireturn, 1) := by decide +kernel
abbrev cX0_occurs : ByteArray := prog_1_method_15_code
def yX0_occurs : MethodName := ⟨RX0, "occurs", "(I)Z"⟩
theorem dX0_occurs_0 : decode cX0_occurs 0 = .ok (.iconst 0, 1) := by decide +kernel
theorem dX0_occurs_1 : decode cX0_occurs 1 = .ok (.istore_n 2, 1) := by decide +kernel
theorem dX0_occurs_2 : decode cX0_occurs 2 = .ok (.iload_n 2, 1) := by decide +kernel
theorem dX0_occurs_3 : decode cX0_occurs 3 = .ok (.aload_n 0, 1) := by decide +kernel
theorem dX0_occurs_4 : decode cX0_occurs 4 = .ok (.getfield 26, 3) := by decide +kernel
theorem dX0_occurs_7 : decode cX0_occurs 7 = .ok (.if_icmp .ge 46, 3) := by decide +kernel
theorem dX0_occurs_10 : decode cX0_occurs 10 = .ok (.iload_n 2, 1) := by decide +kernel
theorem dX0_occurs_11 : decode cX0_occurs 11 = .ok (.aload_n 0, 1) := by decide +kernel
theorem dX0_occurs_12 : decode cX0_occurs 12 = .ok (.getfield 23, 3) := by decide +kernel
theorem dX0_occurs_15 : decode cX0_occurs 15 = .ok (.if_icmp .eq 32, 3) := by decide +kernel
theorem dX0_occurs_18 : decode cX0_occurs 18 = .ok (.aload_n 0, 1) := by decide +kernel
theorem dX0_occurs_19 : decode cX0_occurs 19 = .ok (.iload_n 2, 1) := by decide +kernel
theorem dX0_occurs_20 : decode cX0_occurs 20 = .ok (.aload_n 0, 1) := by decide +kernel
theorem dX0_occurs_21 : decode cX0_occurs 21 = .ok (.getfield 17, 3) := by decide +kernel
theorem dX0_occurs_24 : decode cX0_occurs 24 = .ok (.invokevirtual 58, 3) := by decide +kernel
theorem dX0_occurs_27 : decode cX0_occurs 27 = .ok (.ifCond .eq 20, 3) := by decide +kernel
theorem dX0_occurs_30 : decode cX0_occurs 30 = .ok (.aload_n 0, 1) := by decide +kernel
theorem dX0_occurs_31 : decode cX0_occurs 31 = .ok (.getfield 13, 3) := by decide +kernel
theorem dX0_occurs_34 : decode cX0_occurs 34 = .ok (.iload_n 2, 1) := by decide +kernel
theorem dX0_occurs_35 : decode cX0_occurs 35 = .ok (.iaload, 1) := by decide +kernel
theorem dX0_occurs_36 : decode cX0_occurs 36 = .ok (.iconst 2, 1) := by decide +kernel
theorem dX0_occurs_37 : decode cX0_occurs 37 = .ok (.iload_n 1, 1) := by decide +kernel
theorem dX0_occurs_38 : decode cX0_occurs 38 = .ok (.imul, 1) := by decide +kernel
theorem dX0_occurs_39 : decode cX0_occurs 39 = .ok (.iushr, 1) := by decide +kernel
theorem dX0_occurs_40 : decode cX0_occurs 40 = .ok (.iconst 3, 1) := by decide +kernel
theorem dX0_occurs_41 : decode cX0_occurs 41 = .ok (.iand, 1) := by decide +kernel
theorem dX0_occurs_42 : decode cX0_occurs 42 = .ok (.ifCond .eq 5, 3) := by decide +kernel
theorem dX0_occurs_45 : decode cX0_occurs 45 = .ok (.iconst 1, 1) := by decide +kernel
theorem dX0_occurs_46 : decode cX0_occurs 46 = .ok (.ireturn, 1) := by decide +kernel
theorem dX0_occurs_47 : decode cX0_occurs 47 = .ok (.iinc 2 1, 3) := by decide +kernel
theorem dX0_occurs_50 : decode cX0_occurs 50 = .ok (.goto (-48), 3) := by decide +kernel
theorem dX0_occurs_53 : decode cX0_occurs 53 = .ok (.iconst 0, 1) := by decide +kernel
theorem dX0_occurs_54 : decode cX0_occurs 54 = .ok (.ireturn, 1) := by decide +kernel
abbrev cX0_choice : ByteArray := prog_1_method_6_code
def yX0_choice : MethodName := ⟨RX0, "choice", "(I)I"⟩
theorem dX0_choice_0 : decode cX0_choice 0 = .ok (.iload_n 1, 1) := by decide +kernel
theorem dX0_choice_1 : decode cX0_choice 1 = .ok (.iconst 1, 1) := by decide +kernel
theorem dX0_choice_2 : decode cX0_choice 2 = .ok (.if_icmp .lt 10, 3) := by decide +kernel
theorem dX0_choice_5 : decode cX0_choice 5 = .ok (.iload_n 1, 1) := by decide +kernel
theorem dX0_choice_6 : decode cX0_choice 6 = .ok (.sipush 255, 3) := by decide +kernel
theorem dX0_choice_9 : decode cX0_choice 9 = .ok (.if_icmp .le 5, 3) := by decide +kernel
theorem dX0_choice_12 : decode cX0_choice 12 = .ok (.iconst (-1), 1) := by decide +kernel
theorem dX0_choice_13 : decode cX0_choice 13 = .ok (.ireturn, 1) := by decide +kernel
theorem dX0_choice_14 : decode cX0_choice 14 = .ok (.aload_n 0, 1) := by decide +kernel
theorem dX0_choice_15 : decode cX0_choice 15 = .ok (.iload_n 1, 1) := by decide +kernel
theorem dX0_choice_16 : decode cX0_choice 16 = .ok (.invokestatic 34, 3) := by decide +kernel
theorem dX0_choice_19 : decode cX0_choice 19 = .ok (.invokevirtual 38, 3) := by decide +kernel
theorem dX0_choice_22 : decode cX0_choice 22 = .ok (.istore_n 2, 1) := by decide +kernel
theorem dX0_choice_23 : decode cX0_choice 23 = .ok (.iconst 0, 1) := by decide +kernel
theorem dX0_choice_24 : decode cX0_choice 24 = .ok (.istore_n 3, 1) := by decide +kernel
theorem dX0_choice_25 : decode cX0_choice 25 = .ok (.iload_n 3, 1) := by decide +kernel
theorem dX0_choice_26 : decode cX0_choice 26 = .ok (.iconst 2, 1) := by decide +kernel
theorem dX0_choice_27 : decode cX0_choice 27 = .ok (.if_icmp .ge 28, 3) := by decide +kernel
theorem dX0_choice_30 : decode cX0_choice 30 = .ok (.aload_n 0, 1) := by decide +kernel
theorem dX0_choice_31 : decode cX0_choice 31 = .ok (.iconst 2, 1) := by decide +kernel
theorem dX0_choice_32 : decode cX0_choice 32 = .ok (.iload_n 1, 1) := by decide +kernel
theorem dX0_choice_33 : decode cX0_choice 33 = .ok (.imul, 1) := by decide +kernel
theorem dX0_choice_34 : decode cX0_choice 34 = .ok (.iload_n 3, 1) := by decide +kernel
theorem dX0_choice_35 : decode cX0_choice 35 = .ok (.iadd, 1) := by decide +kernel
theorem dX0_choice_36 : decode cX0_choice 36 = .ok (.invokevirtual 30, 3) := by decide +kernel
theorem dX0_choice_39 : decode cX0_choice 39 = .ok (.istore 4, 2) := by decide +kernel
theorem dX0_choice_41 : decode cX0_choice 41 = .ok (.iload 4, 2) := by decide +kernel
theorem dX0_choice_43 : decode cX0_choice 43 = .ok (.iload_n 2, 1) := by decide +kernel
theorem dX0_choice_44 : decode cX0_choice 44 = .ok (.if_icmp .ne 5, 3) := by decide +kernel
theorem dX0_choice_47 : decode cX0_choice 47 = .ok (.iload_n 3, 1) := by decide +kernel
theorem dX0_choice_48 : decode cX0_choice 48 = .ok (.ireturn, 1) := by decide +kernel
theorem dX0_choice_49 : decode cX0_choice 49 = .ok (.iinc 3 1, 3) := by decide +kernel
theorem dX0_choice_52 : decode cX0_choice 52 = .ok (.goto (-27), 3) := by decide +kernel
theorem dX0_choice_55 : decode cX0_choice 55 = .ok (.iconst 2, 1) := by decide +kernel
theorem dX0_choice_56 : decode cX0_choice 56 = .ok (.ireturn, 1) := by decide +kernel
abbrev cX0_count : ByteArray := prog_1_method_7_code
def yX0_count : MethodName := ⟨RX0, "count", "(I)I"⟩
theorem dX0_count_0 : decode cX0_count 0 = .ok (.iload_n 1, 1) := by decide +kernel
theorem dX0_count_1 : decode cX0_count 1 = .ok (.ifCond .lt 9, 3) := by decide +kernel
theorem dX0_count_4 : decode cX0_count 4 = .ok (.iload_n 1, 1) := by decide +kernel
theorem dX0_count_5 : decode cX0_count 5 = .ok (.bipush 8, 2) := by decide +kernel
theorem dX0_count_7 : decode cX0_count 7 = .ok (.if_icmp .le 5, 3) := by decide +kernel
theorem dX0_count_10 : decode cX0_count 10 = .ok (.iconst (-1), 1) := by decide +kernel
theorem dX0_count_11 : decode cX0_count 11 = .ok (.ireturn, 1) := by decide +kernel
theorem dX0_count_12 : decode cX0_count 12 = .ok (.iconst 0, 1) := by decide +kernel
theorem dX0_count_13 : decode cX0_count 13 = .ok (.istore_n 2, 1) := by decide +kernel
theorem dX0_count_14 : decode cX0_count 14 = .ok (.iconst 1, 1) := by decide +kernel
theorem dX0_count_15 : decode cX0_count 15 = .ok (.iload_n 1, 1) := by decide +kernel
theorem dX0_count_16 : decode cX0_count 16 = .ok (.ishl, 1) := by decide +kernel
theorem dX0_count_17 : decode cX0_count 17 = .ok (.istore_n 3, 1) := by decide +kernel
theorem dX0_count_18 : decode cX0_count 18 = .ok (.iload_n 3, 1) := by decide +kernel
theorem dX0_count_19 : decode cX0_count 19 = .ok (.iconst 2, 1) := by decide +kernel
theorem dX0_count_20 : decode cX0_count 20 = .ok (.iload_n 1, 1) := by decide +kernel
theorem dX0_count_21 : decode cX0_count 21 = .ok (.ishl, 1) := by decide +kernel
theorem dX0_count_22 : decode cX0_count 22 = .ok (.if_icmp .ge 25, 3) := by decide +kernel
theorem dX0_count_25 : decode cX0_count 25 = .ok (.iload_n 2, 1) := by decide +kernel
theorem dX0_count_26 : decode cX0_count 26 = .ok (.aload_n 0, 1) := by decide +kernel
theorem dX0_count_27 : decode cX0_count 27 = .ok (.iload_n 3, 1) := by decide +kernel
theorem dX0_count_28 : decode cX0_count 28 = .ok (.invokevirtual 30, 3) := by decide +kernel
theorem dX0_count_31 : decode cX0_count 31 = .ok (.ifCond .eq 7, 3) := by decide +kernel
theorem dX0_count_34 : decode cX0_count 34 = .ok (.iconst 1, 1) := by decide +kernel
theorem dX0_count_35 : decode cX0_count 35 = .ok (.goto 4, 3) := by decide +kernel
theorem dX0_count_38 : decode cX0_count 38 = .ok (.iconst 0, 1) := by decide +kernel
theorem dX0_count_39 : decode cX0_count 39 = .ok (.iadd, 1) := by decide +kernel
theorem dX0_count_40 : decode cX0_count 40 = .ok (.istore_n 2, 1) := by decide +kernel
theorem dX0_count_41 : decode cX0_count 41 = .ok (.iinc 3 1, 3) := by decide +kernel
theorem dX0_count_44 : decode cX0_count 44 = .ok (.goto (-26), 3) := by decide +kernel
theorem dX0_count_47 : decode cX0_count 47 = .ok (.iload_n 2, 1) := by decide +kernel
theorem dX0_count_48 : decode cX0_count 48 = .ok (.ireturn, 1) := by decide +kernel
abbrev cX0_spare : ByteArray := prog_1_method_8_code
def yX0_spare : MethodName := ⟨RX0, "spare", "(I)I"⟩
theorem dX0_spare_0 : decode cX0_spare 0 = .ok (.iload_n 1, 1) := by decide +kernel
theorem dX0_spare_1 : decode cX0_spare 1 = .ok (.ifCond .lt 11, 3) := by decide +kernel
theorem dX0_spare_4 : decode cX0_spare 4 = .ok (.iload_n 1, 1) := by decide +kernel
theorem dX0_spare_5 : decode cX0_spare 5 = .ok (.aload_n 0, 1) := by decide +kernel
theorem dX0_spare_6 : decode cX0_spare 6 = .ok (.getfield 26, 3) := by decide +kernel
theorem dX0_spare_9 : decode cX0_spare 9 = .ok (.if_icmp .lt 5, 3) := by decide +kernel
theorem dX0_spare_12 : decode cX0_spare 12 = .ok (.iconst (-1), 1) := by decide +kernel
theorem dX0_spare_13 : decode cX0_spare 13 = .ok (.ireturn, 1) := by decide +kernel
theorem dX0_spare_14 : decode cX0_spare 14 = .ok (.aload_n 0, 1) := by decide +kernel
theorem dX0_spare_15 : decode cX0_spare 15 = .ok (.iload_n 1, 1) := by decide +kernel
theorem dX0_spare_16 : decode cX0_spare 16 = .ok (.putfield 23, 3) := by decide +kernel
theorem dX0_spare_19 : decode cX0_spare 19 = .ok (.aload_n 0, 1) := by decide +kernel
theorem dX0_spare_20 : decode cX0_spare 20 = .ok (.iconst 1, 1) := by decide +kernel
theorem dX0_spare_21 : decode cX0_spare 21 = .ok (.invokevirtual 30, 3) := by decide +kernel
theorem dX0_spare_24 : decode cX0_spare 24 = .ok (.istore_n 2, 1) := by decide +kernel
theorem dX0_spare_25 : decode cX0_spare 25 = .ok (.aload_n 0, 1) := by decide +kernel
theorem dX0_spare_26 : decode cX0_spare 26 = .ok (.iconst (-1), 1) := by decide +kernel
theorem dX0_spare_27 : decode cX0_spare 27 = .ok (.putfield 23, 3) := by decide +kernel
theorem dX0_spare_30 : decode cX0_spare 30 = .ok (.iload_n 2, 1) := by decide +kernel
theorem dX0_spare_31 : decode cX0_spare 31 = .ok (.ifCond .eq 7, 3) := by decide +kernel
theorem dX0_spare_34 : decode cX0_spare 34 = .ok (.iconst 1, 1) := by decide +kernel
theorem dX0_spare_35 : decode cX0_spare 35 = .ok (.goto 4, 3) := by decide +kernel
theorem dX0_spare_38 : decode cX0_spare 38 = .ok (.iconst 0, 1) := by decide +kernel
theorem dX0_spare_39 : decode cX0_spare 39 = .ok (.ireturn, 1) := by decide +kernel
abbrev cX0_swapped : ByteArray := prog_1_method_9_code
def yX0_swapped : MethodName := ⟨RX0, "swapped", "(I)I"⟩
theorem dX0_swapped_0 : decode cX0_swapped 0 = .ok (.aload_n 0, 1) := by decide +kernel
theorem dX0_swapped_1 : decode cX0_swapped 1 = .ok (.dup, 1) := by decide +kernel
theorem dX0_swapped_2 : decode cX0_swapped 2 = .ok (.getfield 7, 3) := by decide +kernel
theorem dX0_swapped_5 : decode cX0_swapped 5 = .ok (.iconst 1, 1) := by decide +kernel
theorem dX0_swapped_6 : decode cX0_swapped 6 = .ok (.iload_n 1, 1) := by decide +kernel
theorem dX0_swapped_7 : decode cX0_swapped 7 = .ok (.bipush 7, 2) := by decide +kernel
theorem dX0_swapped_9 : decode cX0_swapped 9 = .ok (.iand, 1) := by decide +kernel
theorem dX0_swapped_10 : decode cX0_swapped 10 = .ok (.ishl, 1) := by decide +kernel
theorem dX0_swapped_11 : decode cX0_swapped 11 = .ok (.ixor, 1) := by decide +kernel
theorem dX0_swapped_12 : decode cX0_swapped 12 = .ok (.putfield 7, 3) := by decide +kernel
theorem dX0_swapped_15 : decode cX0_swapped 15 = .ok (.aload_n 0, 1) := by decide +kernel
theorem dX0_swapped_16 : decode cX0_swapped 16 = .ok (.iconst 1, 1) := by decide +kernel
theorem dX0_swapped_17 : decode cX0_swapped 17 = .ok (.invokevirtual 30, 3) := by decide +kernel
theorem dX0_swapped_20 : decode cX0_swapped 20 = .ok (.istore_n 2, 1) := by decide +kernel
theorem dX0_swapped_21 : decode cX0_swapped 21 = .ok (.aload_n 0, 1) := by decide +kernel
theorem dX0_swapped_22 : decode cX0_swapped 22 = .ok (.dup, 1) := by decide +kernel
theorem dX0_swapped_23 : decode cX0_swapped 23 = .ok (.getfield 7, 3) := by decide +kernel
theorem dX0_swapped_26 : decode cX0_swapped 26 = .ok (.iconst 1, 1) := by decide +kernel
theorem dX0_swapped_27 : decode cX0_swapped 27 = .ok (.iload_n 1, 1) := by decide +kernel
theorem dX0_swapped_28 : decode cX0_swapped 28 = .ok (.bipush 7, 2) := by decide +kernel
theorem dX0_swapped_30 : decode cX0_swapped 30 = .ok (.iand, 1) := by decide +kernel
theorem dX0_swapped_31 : decode cX0_swapped 31 = .ok (.ishl, 1) := by decide +kernel
theorem dX0_swapped_32 : decode cX0_swapped 32 = .ok (.ixor, 1) := by decide +kernel
theorem dX0_swapped_33 : decode cX0_swapped 33 = .ok (.putfield 7, 3) := by decide +kernel
theorem dX0_swapped_36 : decode cX0_swapped 36 = .ok (.iload_n 2, 1) := by decide +kernel
theorem dX0_swapped_37 : decode cX0_swapped 37 = .ok (.ifCond .eq 7, 3) := by decide +kernel
theorem dX0_swapped_40 : decode cX0_swapped 40 = .ok (.iconst 1, 1) := by decide +kernel
theorem dX0_swapped_41 : decode cX0_swapped 41 = .ok (.goto 4, 3) := by decide +kernel
theorem dX0_swapped_44 : decode cX0_swapped 44 = .ok (.iconst 0, 1) := by decide +kernel
theorem dX0_swapped_45 : decode cX0_swapped 45 = .ok (.ireturn, 1) := by decide +kernel
end
section
set_option maxRecDepth 100000
theorem q11 : (Jvm.Cond.initialized "QbfDesk") ∈ lw_all := lw_g (lw_at lw_m0 1 rfl) rfl
theorem q14 : (Jvm.Cond.instantiable "QbfDesk" (7 : Nat)) ∈ lw_all := lw_g (lw_at lw_m0 4 rfl) rfl
theorem q16 : (Jvm.Cond.instanceMethod ({ cls := "QbfDesk", name := "<init>", desc := "()V" } : Jvm.MethodName)) ∈ lw_all := lw_g (lw_at lw_m0 6 rfl) rfl
theorem q17 : (Jvm.Cond.code ({ cls := "QbfDesk", name := "<init>", desc := "()V" } : Jvm.MethodName) prog_1_method_1_code (1 : Nat) (Option.none : Option Jvm.ClassFile.FieldType)) ∈ lw_all := lw_g (lw_at lw_m0 7 rfl) rfl
theorem q18 : (Jvm.Cond.methodLink "QbfDesk" (1 : Nat) ({ cls := "java/lang/Object", name := "<init>", desc := "()V" } : Jvm.MethodName)) ∈ lw_all := lw_g (lw_at lw_m0 8 rfl) rfl
theorem q21 : (Jvm.Cond.fieldLink "QbfDesk" (7 : Nat) "QbfDesk" "makers" "I") ∈ lw_all := lw_g (lw_at lw_m0 11 rfl) rfl
theorem q22 : (Jvm.Cond.fieldLink "QbfDesk" (26 : Nat) "QbfDesk" "clauses" "I") ∈ lw_all := lw_g (lw_at lw_m0 12 rfl) rfl
theorem q23 : (Jvm.Cond.fieldLink "QbfDesk" (13 : Nat) "QbfDesk" "literals" "[I") ∈ lw_all := lw_g (lw_at lw_m0 13 rfl) rfl
theorem q24 : (Jvm.Cond.fieldLink "QbfDesk" (23 : Nat) "QbfDesk" "leftOut" "I") ∈ lw_all := lw_g (lw_at lw_m0 14 rfl) rfl
theorem q25 : (Jvm.Cond.fieldLink "QbfDesk" (17 : Nat) "QbfDesk" "value" "[I") ∈ lw_all := lw_g (lw_at lw_m0 15 rfl) rfl
theorem q26 : (Jvm.Cond.fieldLink "QbfDesk" (20 : Nat) "QbfDesk" "follows" "[I") ∈ lw_all := lw_g (lw_at lw_m0 16 rfl) rfl
theorem q27 : (Jvm.Cond.fieldLink "QbfDesk" (45 : Nat) "QbfDesk" "lost" "Z") ∈ lw_all := lw_g (lw_at lw_m0 17 rfl) rfl
theorem q28 : (Jvm.Cond.lays "QbfDesk" "QbfDesk" "makers" "I") ∈ lw_all := lw_g (lw_at lw_m0 18 rfl) rfl
theorem q29 : (Jvm.Cond.soleField "QbfDesk" "makers") ∈ lw_all := lw_g (lw_at lw_m0 19 rfl) rfl
theorem q30 : (Jvm.Cond.lays "QbfDesk" "QbfDesk" "clauses" "I") ∈ lw_all := lw_g (lw_at lw_m0 20 rfl) rfl
theorem q31 : (Jvm.Cond.soleField "QbfDesk" "clauses") ∈ lw_all := lw_g (lw_at lw_m0 21 rfl) rfl
theorem q32 : (Jvm.Cond.laysFinal "QbfDesk" "QbfDesk" "literals" "[I") ∈ lw_all := lw_g (lw_at lw_m0 22 rfl) rfl
theorem q33 : (Jvm.Cond.soleField "QbfDesk" "literals") ∈ lw_all := lw_g (lw_at lw_m0 23 rfl) rfl
theorem q34 : (Jvm.Cond.lays "QbfDesk" "QbfDesk" "leftOut" "I") ∈ lw_all := lw_g (lw_at lw_m0 24 rfl) rfl
theorem q35 : (Jvm.Cond.soleField "QbfDesk" "leftOut") ∈ lw_all := lw_g (lw_at lw_m0 25 rfl) rfl
theorem q36 : (Jvm.Cond.laysFinal "QbfDesk" "QbfDesk" "value" "[I") ∈ lw_all := lw_g (lw_at lw_m0 26 rfl) rfl
theorem q37 : (Jvm.Cond.soleField "QbfDesk" "value") ∈ lw_all := lw_g (lw_at lw_m0 27 rfl) rfl
theorem q38 : (Jvm.Cond.laysFinal "QbfDesk" "QbfDesk" "follows" "[I") ∈ lw_all := lw_g (lw_at lw_m0 28 rfl) rfl
theorem q39 : (Jvm.Cond.soleField "QbfDesk" "follows") ∈ lw_all := lw_g (lw_at lw_m0 29 rfl) rfl
theorem q40 : (Jvm.Cond.lays "QbfDesk" "QbfDesk" "lost" "Z") ∈ lw_all := lw_g (lw_at lw_m0 30 rfl) rfl
theorem q41 : (Jvm.Cond.soleField "QbfDesk" "lost") ∈ lw_all := lw_g (lw_at lw_m0 31 rfl) rfl
theorem q42 : (Jvm.Cond.superclass "QbfDesk" "java/lang/Object") ∈ lw_all := lw_g (lw_at lw_m0 32 rfl) rfl
theorem q45 : (Jvm.Cond.instanceMethod ({ cls := "QbfDesk", name := "give", desc := "(IZ)V" } : Jvm.MethodName)) ∈ lw_all := lw_g (lw_at lw_m0 35 rfl) rfl
theorem q46 : (Jvm.Cond.selects "QbfDesk" ({ cls := "QbfDesk", name := "give", desc := "(IZ)V" } : Jvm.MethodName) ({ cls := "QbfDesk", name := "give", desc := "(IZ)V" } : Jvm.MethodName)) ∈ lw_all := lw_g (lw_at lw_m0 36 rfl) rfl
theorem q47 : (Jvm.Cond.code ({ cls := "QbfDesk", name := "give", desc := "(IZ)V" } : Jvm.MethodName) prog_1_method_2_code (4 : Nat) (Option.none : Option Jvm.ClassFile.FieldType)) ∈ lw_all := lw_g (lw_at lw_m0 37 rfl) rfl
theorem q49 : (Jvm.Cond.instanceMethod ({ cls := "QbfDesk", name := "add", desc := "(I)I" } : Jvm.MethodName)) ∈ lw_all := lw_g (lw_at lw_m0 39 rfl) rfl
theorem q50 : (Jvm.Cond.selects "QbfDesk" ({ cls := "QbfDesk", name := "add", desc := "(I)I" } : Jvm.MethodName) ({ cls := "QbfDesk", name := "add", desc := "(I)I" } : Jvm.MethodName)) ∈ lw_all := lw_g (lw_at lw_m0 40 rfl) rfl
theorem q51 : (Jvm.Cond.code ({ cls := "QbfDesk", name := "add", desc := "(I)I" } : Jvm.MethodName) prog_1_method_3_code (2 : Nat) (Option.some Jvm.ClassFile.FieldType.int)) ∈ lw_all := lw_g (lw_at lw_m0 41 rfl) rfl
theorem q52 : (Jvm.Cond.constant "QbfDesk" (29 : Nat) (65535 : Int32)) ∈ lw_all := lw_g (lw_at lw_m0 42 rfl) rfl
theorem q54 : (Jvm.Cond.instanceMethod ({ cls := "QbfDesk", name := "drop", desc := "(I)I" } : Jvm.MethodName)) ∈ lw_all := lw_g (lw_at lw_m0 44 rfl) rfl
theorem q55 : (Jvm.Cond.selects "QbfDesk" ({ cls := "QbfDesk", name := "drop", desc := "(I)I" } : Jvm.MethodName) ({ cls := "QbfDesk", name := "drop", desc := "(I)I" } : Jvm.MethodName)) ∈ lw_all := lw_g (lw_at lw_m0 45 rfl) rfl
theorem q56 : (Jvm.Cond.code ({ cls := "QbfDesk", name := "drop", desc := "(I)I" } : Jvm.MethodName) prog_1_method_4_code (3 : Nat) (Option.some Jvm.ClassFile.FieldType.int)) ∈ lw_all := lw_g (lw_at lw_m0 46 rfl) rfl
theorem q58 : (Jvm.Cond.instanceMethod ({ cls := "QbfDesk", name := "won", desc := "(I)I" } : Jvm.MethodName)) ∈ lw_all := lw_g (lw_at lw_m0 48 rfl) rfl
theorem q59 : (Jvm.Cond.selects "QbfDesk" ({ cls := "QbfDesk", name := "won", desc := "(I)I" } : Jvm.MethodName) ({ cls := "QbfDesk", name := "won", desc := "(I)I" } : Jvm.MethodName)) ∈ lw_all := lw_g (lw_at lw_m0 49 rfl) rfl
theorem q60 : (Jvm.Cond.code ({ cls := "QbfDesk", name := "won", desc := "(I)I" } : Jvm.MethodName) prog_1_method_5_code (2 : Nat) (Option.some Jvm.ClassFile.FieldType.int)) ∈ lw_all := lw_g (lw_at lw_m0 50 rfl) rfl
theorem q61 : (Jvm.Cond.methodLink "QbfDesk" (30 : Nat) ({ cls := "QbfDesk", name := "isWon", desc := "(I)Z" } : Jvm.MethodName)) ∈ lw_all := lw_g (lw_at lw_m0 51 rfl) rfl
theorem q62 : (Jvm.Cond.privateMethod ({ cls := "QbfDesk", name := "isWon", desc := "(I)Z" } : Jvm.MethodName)) ∈ lw_tbl := lw_at lw_m0 52 rfl
theorem q63 : (Jvm.Cond.instanceMethod ({ cls := "QbfDesk", name := "isWon", desc := "(I)Z" } : Jvm.MethodName)) ∈ lw_all := lw_g (lw_at lw_m0 53 rfl) rfl
theorem q64 : (Jvm.Cond.code ({ cls := "QbfDesk", name := "isWon", desc := "(I)Z" } : Jvm.MethodName) prog_1_method_12_code (8 : Nat) (Option.some Jvm.ClassFile.FieldType.boolean)) ∈ lw_all := lw_g (lw_at lw_m0 54 rfl) rfl
theorem q65 : (Jvm.Cond.methodLink "QbfDesk" (34 : Nat) ({ cls := "QbfDesk", name := "lengthOf", desc := "(I)I" } : Jvm.MethodName)) ∈ lw_all := lw_g (lw_at lw_m0 55 rfl) rfl
theorem q66 : (Jvm.Cond.static ({ cls := "QbfDesk", name := "lengthOf", desc := "(I)I" } : Jvm.MethodName)) ∈ lw_all := lw_g (lw_at lw_m0 56 rfl) rfl
theorem q67 : (Jvm.Cond.code ({ cls := "QbfDesk", name := "lengthOf", desc := "(I)I" } : Jvm.MethodName) prog_1_method_11_code (3 : Nat) (Option.some Jvm.ClassFile.FieldType.int)) ∈ lw_all := lw_g (lw_at lw_m0 57 rfl) rfl
theorem q68 : (Jvm.Cond.methodLink "QbfDesk" (41 : Nat) ({ cls := "QbfDesk", name := "derive", desc := "(I)V" } : Jvm.MethodName)) ∈ lw_all := lw_g (lw_at lw_m0 58 rfl) rfl
theorem q69 : (Jvm.Cond.privateMethod ({ cls := "QbfDesk", name := "derive", desc := "(I)V" } : Jvm.MethodName)) ∈ lw_tbl := lw_at lw_m0 59 rfl
theorem q70 : (Jvm.Cond.instanceMethod ({ cls := "QbfDesk", name := "derive", desc := "(I)V" } : Jvm.MethodName)) ∈ lw_all := lw_g (lw_at lw_m0 60 rfl) rfl
theorem q71 : (Jvm.Cond.code ({ cls := "QbfDesk", name := "derive", desc := "(I)V" } : Jvm.MethodName) prog_1_method_17_code (5 : Nat) (Option.none : Option Jvm.ClassFile.FieldType)) ∈ lw_all := lw_g (lw_at lw_m0 61 rfl) rfl
theorem q72 : (Jvm.Cond.methodLink "QbfDesk" (58 : Nat) ({ cls := "QbfDesk", name := "isOpen", desc := "(I[I)Z" } : Jvm.MethodName)) ∈ lw_all := lw_g (lw_at lw_m0 62 rfl) rfl
theorem q73 : (Jvm.Cond.privateMethod ({ cls := "QbfDesk", name := "isOpen", desc := "(I[I)Z" } : Jvm.MethodName)) ∈ lw_tbl := lw_at lw_m0 63 rfl
theorem q74 : (Jvm.Cond.instanceMethod ({ cls := "QbfDesk", name := "isOpen", desc := "(I[I)Z" } : Jvm.MethodName)) ∈ lw_all := lw_g (lw_at lw_m0 64 rfl) rfl
theorem q75 : (Jvm.Cond.code ({ cls := "QbfDesk", name := "isOpen", desc := "(I[I)Z" } : Jvm.MethodName) prog_1_method_16_code (6 : Nat) (Option.some Jvm.ClassFile.FieldType.boolean)) ∈ lw_all := lw_g (lw_at lw_m0 65 rfl) rfl
theorem q76 : (Jvm.Cond.methodLink "QbfDesk" (62 : Nat) ({ cls := "QbfDesk", name := "force", desc := "(I)Z" } : Jvm.MethodName)) ∈ lw_all := lw_g (lw_at lw_m0 66 rfl) rfl
theorem q77 : (Jvm.Cond.privateMethod ({ cls := "QbfDesk", name := "force", desc := "(I)Z" } : Jvm.MethodName)) ∈ lw_tbl := lw_at lw_m0 67 rfl
theorem q78 : (Jvm.Cond.instanceMethod ({ cls := "QbfDesk", name := "force", desc := "(I)Z" } : Jvm.MethodName)) ∈ lw_all := lw_g (lw_at lw_m0 68 rfl) rfl
theorem q79 : (Jvm.Cond.code ({ cls := "QbfDesk", name := "force", desc := "(I)Z" } : Jvm.MethodName) prog_1_method_18_code (7 : Nat) (Option.some Jvm.ClassFile.FieldType.boolean)) ∈ lw_all := lw_g (lw_at lw_m0 69 rfl) rfl
theorem q80 : (Jvm.Cond.methodLink "QbfDesk" (38 : Nat) ({ cls := "QbfDesk", name := "isMakers", desc := "(I)Z" } : Jvm.MethodName)) ∈ lw_all := lw_g (lw_at lw_m0 70 rfl) rfl
theorem q81 : (Jvm.Cond.privateMethod ({ cls := "QbfDesk", name := "isMakers", desc := "(I)Z" } : Jvm.MethodName)) ∈ lw_tbl := lw_at lw_m0 71 rfl
theorem q82 : (Jvm.Cond.instanceMethod ({ cls := "QbfDesk", name := "isMakers", desc := "(I)Z" } : Jvm.MethodName)) ∈ lw_all := lw_g (lw_at lw_m0 72 rfl) rfl
theorem q83 : (Jvm.Cond.code ({ cls := "QbfDesk", name := "isMakers", desc := "(I)Z" } : Jvm.MethodName) prog_1_method_10_code (2 : Nat) (Option.some Jvm.ClassFile.FieldType.boolean)) ∈ lw_all := lw_g (lw_at lw_m0 73 rfl) rfl
theorem q84 : (Jvm.Cond.methodLink "QbfDesk" (49 : Nat) ({ cls := "QbfDesk", name := "firstValue", desc := "(I)I" } : Jvm.MethodName)) ∈ lw_all := lw_g (lw_at lw_m0 74 rfl) rfl
theorem q85 : (Jvm.Cond.privateMethod ({ cls := "QbfDesk", name := "firstValue", desc := "(I)I" } : Jvm.MethodName)) ∈ lw_tbl := lw_at lw_m0 75 rfl
theorem q86 : (Jvm.Cond.instanceMethod ({ cls := "QbfDesk", name := "firstValue", desc := "(I)I" } : Jvm.MethodName)) ∈ lw_all := lw_g (lw_at lw_m0 76 rfl) rfl
theorem q87 : (Jvm.Cond.code ({ cls := "QbfDesk", name := "firstValue", desc := "(I)I" } : Jvm.MethodName) prog_1_method_13_code (2 : Nat) (Option.some Jvm.ClassFile.FieldType.int)) ∈ lw_all := lw_g (lw_at lw_m0 77 rfl) rfl
theorem q88 : (Jvm.Cond.methodLink "QbfDesk" (52 : Nat) ({ cls := "QbfDesk", name := "needsBoth", desc := "(I)Z" } : Jvm.MethodName)) ∈ lw_all := lw_g (lw_at lw_m0 78 rfl) rfl
theorem q89 : (Jvm.Cond.privateMethod ({ cls := "QbfDesk", name := "needsBoth", desc := "(I)Z" } : Jvm.MethodName)) ∈ lw_tbl := lw_at lw_m0 79 rfl
theorem q90 : (Jvm.Cond.instanceMethod ({ cls := "QbfDesk", name := "needsBoth", desc := "(I)Z" } : Jvm.MethodName)) ∈ lw_all := lw_g (lw_at lw_m0 80 rfl) rfl
theorem q91 : (Jvm.Cond.code ({ cls := "QbfDesk", name := "needsBoth", desc := "(I)Z" } : Jvm.MethodName) prog_1_method_14_code (4 : Nat) (Option.some Jvm.ClassFile.FieldType.boolean)) ∈ lw_all := lw_g (lw_at lw_m0 81 rfl) rfl
theorem q92 : (Jvm.Cond.methodLink "QbfDesk" (55 : Nat) ({ cls := "QbfDesk", name := "occurs", desc := "(I)Z" } : Jvm.MethodName)) ∈ lw_all := lw_g (lw_at lw_m0 82 rfl) rfl
theorem q93 : (Jvm.Cond.privateMethod ({ cls := "QbfDesk", name := "occurs", desc := "(I)Z" } : Jvm.MethodName)) ∈ lw_tbl := lw_at lw_m0 83 rfl
theorem q94 : (Jvm.Cond.instanceMethod ({ cls := "QbfDesk", name := "occurs", desc := "(I)Z" } : Jvm.MethodName)) ∈ lw_all := lw_g (lw_at lw_m0 84 rfl) rfl
theorem q95 : (Jvm.Cond.code ({ cls := "QbfDesk", name := "occurs", desc := "(I)Z" } : Jvm.MethodName) prog_1_method_15_code (3 : Nat) (Option.some Jvm.ClassFile.FieldType.boolean)) ∈ lw_all := lw_g (lw_at lw_m0 85 rfl) rfl
theorem q97 : (Jvm.Cond.instanceMethod ({ cls := "QbfDesk", name := "choice", desc := "(I)I" } : Jvm.MethodName)) ∈ lw_all := lw_g (lw_at lw_m0 87 rfl) rfl
theorem q98 : (Jvm.Cond.selects "QbfDesk" ({ cls := "QbfDesk", name := "choice", desc := "(I)I" } : Jvm.MethodName) ({ cls := "QbfDesk", name := "choice", desc := "(I)I" } : Jvm.MethodName)) ∈ lw_all := lw_g (lw_at lw_m0 88 rfl) rfl
theorem q99 : (Jvm.Cond.code ({ cls := "QbfDesk", name := "choice", desc := "(I)I" } : Jvm.MethodName) prog_1_method_6_code (5 : Nat) (Option.some Jvm.ClassFile.FieldType.int)) ∈ lw_all := lw_g (lw_at lw_m0 89 rfl) rfl
theorem q101 : (Jvm.Cond.instanceMethod ({ cls := "QbfDesk", name := "count", desc := "(I)I" } : Jvm.MethodName)) ∈ lw_all := lw_g (lw_at lw_m0 91 rfl) rfl
theorem q102 : (Jvm.Cond.selects "QbfDesk" ({ cls := "QbfDesk", name := "count", desc := "(I)I" } : Jvm.MethodName) ({ cls := "QbfDesk", name := "count", desc := "(I)I" } : Jvm.MethodName)) ∈ lw_all := lw_g (lw_at lw_m0 92 rfl) rfl
theorem q103 : (Jvm.Cond.code ({ cls := "QbfDesk", name := "count", desc := "(I)I" } : Jvm.MethodName) prog_1_method_7_code (4 : Nat) (Option.some Jvm.ClassFile.FieldType.int)) ∈ lw_all := lw_g (lw_at lw_m0 93 rfl) rfl
theorem q105 : (Jvm.Cond.instanceMethod ({ cls := "QbfDesk", name := "spare", desc := "(I)I" } : Jvm.MethodName)) ∈ lw_all := lw_g (lw_at lw_m0 95 rfl) rfl
theorem q106 : (Jvm.Cond.selects "QbfDesk" ({ cls := "QbfDesk", name := "spare", desc := "(I)I" } : Jvm.MethodName) ({ cls := "QbfDesk", name := "spare", desc := "(I)I" } : Jvm.MethodName)) ∈ lw_all := lw_g (lw_at lw_m0 96 rfl) rfl
theorem q107 : (Jvm.Cond.code ({ cls := "QbfDesk", name := "spare", desc := "(I)I" } : Jvm.MethodName) prog_1_method_8_code (3 : Nat) (Option.some Jvm.ClassFile.FieldType.int)) ∈ lw_all := lw_g (lw_at lw_m0 97 rfl) rfl
theorem q109 : (Jvm.Cond.instanceMethod ({ cls := "QbfDesk", name := "swapped", desc := "(I)I" } : Jvm.MethodName)) ∈ lw_all := lw_g (lw_at lw_m0 99 rfl) rfl
theorem q110 : (Jvm.Cond.selects "QbfDesk" ({ cls := "QbfDesk", name := "swapped", desc := "(I)I" } : Jvm.MethodName) ({ cls := "QbfDesk", name := "swapped", desc := "(I)I" } : Jvm.MethodName)) ∈ lw_all := lw_g (lw_at lw_m0 100 rfl) rfl
theorem q111 : (Jvm.Cond.code ({ cls := "QbfDesk", name := "swapped", desc := "(I)I" } : Jvm.MethodName) prog_1_method_9_code (3 : Nat) (Option.some Jvm.ClassFile.FieldType.int)) ∈ lw_all := lw_g (lw_at lw_m0 101 rfl) rfl
theorem in_X0 : ∀ w ∈ wsX00, w ∈ lw_all := lw_in wsX00 [28, 30, 32, 34, 36, 38, 40] (by decide +kernel) (by decide +kernel)
end
section
/-! java/lang/Object -/
set_option maxRecDepth 100000
def RJ0 : String := "java/lang/Object"
abbrev cJ0_init : ByteArray := object_method_1_code
def yJ0_init : MethodName := ⟨RJ0, "<init>", "()V"⟩
theorem dJ0_init_0 : decode cJ0_init 0 = .ok (.return_, 1) := by decide +kernel
theorem q19 : (Jvm.Cond.instanceMethod ({ cls := "java/lang/Object", name := "<init>", desc := "()V" } : Jvm.MethodName)) ∈ lw_all := lw_g (lw_at lw_m0 9 rfl) rfl
theorem q20 : (Jvm.Cond.code ({ cls := "java/lang/Object", name := "<init>", desc := "()V" } : Jvm.MethodName) object_method_1_code (1 : Nat) (Option.none : Option Jvm.ClassFile.FieldType)) ∈ lw_all := lw_g (lw_at lw_m0 10 rfl) rfl
theorem q43 : (Jvm.Cond.arrayClass Jvm.ClassFile.FieldType.int) ∈ lw_all := lw_g (lw_at lw_m0 33 rfl) rfl
set_option maxRecDepth 100000
theorem q131 : (Jvm.Cond.arrayClass Jvm.ClassFile.FieldType.boolean) ∈ lw_all := lw_g (lw_at lw_m0 121 rfl) rfl
theorem q10 : (Jvm.Cond.initialized "QbfDeskLaw") ∈ lw_all := lw_g (lw_at lw_m0 0 rfl) rfl
set_option maxRecDepth 100000
theorem q13 : (Jvm.Cond.classLink "QbfDeskLaw" (7 : Nat) "QbfDesk") ∈ lw_all := lw_g (lw_at lw_m0 3 rfl) rfl
theorem q15 : (Jvm.Cond.methodLink "QbfDeskLaw" (9 : Nat) ({ cls := "QbfDesk", name := "<init>", desc := "()V" } : Jvm.MethodName)) ∈ lw_all := lw_g (lw_at lw_m0 5 rfl) rfl
theorem q44 : (Jvm.Cond.methodLink "QbfDeskLaw" (13 : Nat) ({ cls := "QbfDesk", name := "give", desc := "(IZ)V" } : Jvm.MethodName)) ∈ lw_all := lw_g (lw_at lw_m0 34 rfl) rfl
theorem q48 : (Jvm.Cond.methodLink "QbfDeskLaw" (18 : Nat) ({ cls := "QbfDesk", name := "add", desc := "(I)I" } : Jvm.MethodName)) ∈ lw_all := lw_g (lw_at lw_m0 38 rfl) rfl
theorem q53 : (Jvm.Cond.methodLink "QbfDeskLaw" (23 : Nat) ({ cls := "QbfDesk", name := "drop", desc := "(I)I" } : Jvm.MethodName)) ∈ lw_all := lw_g (lw_at lw_m0 43 rfl) rfl
theorem q57 : (Jvm.Cond.methodLink "QbfDeskLaw" (27 : Nat) ({ cls := "QbfDesk", name := "won", desc := "(I)I" } : Jvm.MethodName)) ∈ lw_all := lw_g (lw_at lw_m0 47 rfl) rfl
theorem q96 : (Jvm.Cond.methodLink "QbfDeskLaw" (31 : Nat) ({ cls := "QbfDesk", name := "choice", desc := "(I)I" } : Jvm.MethodName)) ∈ lw_all := lw_g (lw_at lw_m0 86 rfl) rfl
theorem q100 : (Jvm.Cond.methodLink "QbfDeskLaw" (35 : Nat) ({ cls := "QbfDesk", name := "count", desc := "(I)I" } : Jvm.MethodName)) ∈ lw_all := lw_g (lw_at lw_m0 90 rfl) rfl
theorem q104 : (Jvm.Cond.methodLink "QbfDeskLaw" (39 : Nat) ({ cls := "QbfDesk", name := "spare", desc := "(I)I" } : Jvm.MethodName)) ∈ lw_all := lw_g (lw_at lw_m0 94 rfl) rfl
theorem q108 : (Jvm.Cond.methodLink "QbfDeskLaw" (43 : Nat) ({ cls := "QbfDesk", name := "swapped", desc := "(I)I" } : Jvm.MethodName)) ∈ lw_all := lw_g (lw_at lw_m0 98 rfl) rfl
theorem q112 : (Jvm.Cond.classLink "QbfDeskLaw" (10 : Nat) "QbfDeskModel") ∈ lw_all := lw_g (lw_at lw_m0 102 rfl) rfl
theorem q114 : (Jvm.Cond.methodLink "QbfDeskLaw" (12 : Nat) ({ cls := "QbfDeskModel", name := "<init>", desc := "()V" } : Jvm.MethodName)) ∈ lw_all := lw_g (lw_at lw_m0 104 rfl) rfl
theorem q132 : (Jvm.Cond.methodLink "QbfDeskLaw" (17 : Nat) ({ cls := "QbfDeskModel", name := "give", desc := "(IZ)V" } : Jvm.MethodName)) ∈ lw_all := lw_g (lw_at lw_m0 122 rfl) rfl
theorem q136 : (Jvm.Cond.methodLink "QbfDeskLaw" (22 : Nat) ({ cls := "QbfDeskModel", name := "add", desc := "(I)I" } : Jvm.MethodName)) ∈ lw_all := lw_g (lw_at lw_m0 126 rfl) rfl
theorem q141 : (Jvm.Cond.methodLink "QbfDeskLaw" (26 : Nat) ({ cls := "QbfDeskModel", name := "drop", desc := "(I)I" } : Jvm.MethodName)) ∈ lw_all := lw_g (lw_at lw_m0 131 rfl) rfl
theorem q145 : (Jvm.Cond.methodLink "QbfDeskLaw" (30 : Nat) ({ cls := "QbfDeskModel", name := "won", desc := "(I)I" } : Jvm.MethodName)) ∈ lw_all := lw_g (lw_at lw_m0 135 rfl) rfl
theorem q163 : (Jvm.Cond.methodLink "QbfDeskLaw" (34 : Nat) ({ cls := "QbfDeskModel", name := "choice", desc := "(I)I" } : Jvm.MethodName)) ∈ lw_all := lw_g (lw_at lw_m0 153 rfl) rfl
theorem q167 : (Jvm.Cond.methodLink "QbfDeskLaw" (38 : Nat) ({ cls := "QbfDeskModel", name := "count", desc := "(I)I" } : Jvm.MethodName)) ∈ lw_all := lw_g (lw_at lw_m0 157 rfl) rfl
theorem q171 : (Jvm.Cond.methodLink "QbfDeskLaw" (42 : Nat) ({ cls := "QbfDeskModel", name := "spare", desc := "(I)I" } : Jvm.MethodName)) ∈ lw_all := lw_g (lw_at lw_m0 161 rfl) rfl
theorem q175 : (Jvm.Cond.methodLink "QbfDeskLaw" (46 : Nat) ({ cls := "QbfDeskModel", name := "swapped", desc := "(I)I" } : Jvm.MethodName)) ∈ lw_all := lw_g (lw_at lw_m0 165 rfl) rfl
end
section
/-! QbfDeskModel -/
set_option maxRecDepth 100000
def RX1 : String := "QbfDeskModel"
def TX1 : u_T := fun k => match k with
  | 0 => ("QbfDeskModel", "breaker", "[Z", true)
  | 1 => ("QbfDeskModel", "held", "I", false)
  | 2 => ("QbfDeskModel", "clauses", "[I", true)
  | _ => ("QbfDeskModel", "won", "[Z", true)
def tyX1 : Nat → FieldType := fun k => match k with
  | 0 => .array .boolean
  | 1 => .int
  | 2 => .array .int
  | _ => .array .boolean
abbrev wsX10 : List Cond := u_ws RX1 TX1 4
theorem nmX1 : ∀ a, a < 4 → ∀ b, b < 4 → a ≠ b → (TX1 a).2.1 ≠ (TX1 b).2.1 := by decide +kernel
theorem tyX1_ok : ∀ k, k < 4 → parseFieldDescriptor (TX1 k).2.2.1 = some (tyX1 k) := by decide +kernel
abbrev cX1_init : ByteArray := prog_3_method_1_code
def yX1_init : MethodName := ⟨RX1, "<init>", "()V"⟩
theorem dX1_init_0 : decode cX1_init 0 = .ok (.aload_n 0, 1) := by decide +kernel
theorem dX1_init_1 : decode cX1_init 1 = .ok (.invokespecial 1, 3) := by decide +kernel
theorem dX1_init_4 : decode cX1_init 4 = .ok (.aload_n 0, 1) := by decide +kernel
theorem dX1_init_5 : decode cX1_init 5 = .ok (.bipush 8, 2) := by decide +kernel
theorem dX1_init_7 : decode cX1_init 7 = .ok (.newarray .boolean, 2) := by decide +kernel
theorem dX1_init_9 : decode cX1_init 9 = .ok (.putfield 7, 3) := by decide +kernel
theorem dX1_init_12 : decode cX1_init 12 = .ok (.aload_n 0, 1) := by decide +kernel
theorem dX1_init_13 : decode cX1_init 13 = .ok (.bipush 20, 2) := by decide +kernel
theorem dX1_init_15 : decode cX1_init 15 = .ok (.newarray .int, 2) := by decide +kernel
theorem dX1_init_17 : decode cX1_init 17 = .ok (.putfield 13, 3) := by decide +kernel
theorem dX1_init_20 : decode cX1_init 20 = .ok (.aload_n 0, 1) := by decide +kernel
theorem dX1_init_21 : decode cX1_init 21 = .ok (.sipush 512, 3) := by decide +kernel
theorem dX1_init_24 : decode cX1_init 24 = .ok (.newarray .boolean, 2) := by decide +kernel
theorem dX1_init_26 : decode cX1_init 26 = .ok (.putfield 17, 3) := by decide +kernel
theorem dX1_init_29 : decode cX1_init 29 = .ok (.return_, 1) := by decide +kernel
abbrev cX1_give : ByteArray := prog_3_method_2_code
def yX1_give : MethodName := ⟨RX1, "give", "(IZ)V"⟩
theorem dX1_give_0 : decode cX1_give 0 = .ok (.aload_n 0, 1) := by decide +kernel
theorem dX1_give_1 : decode cX1_give 1 = .ok (.getfield 7, 3) := by decide +kernel
theorem dX1_give_4 : decode cX1_give 4 = .ok (.iload_n 1, 1) := by decide +kernel
theorem dX1_give_5 : decode cX1_give 5 = .ok (.bipush 7, 2) := by decide +kernel
theorem dX1_give_7 : decode cX1_give 7 = .ok (.iand, 1) := by decide +kernel
theorem dX1_give_8 : decode cX1_give 8 = .ok (.iload_n 2, 1) := by decide +kernel
theorem dX1_give_9 : decode cX1_give 9 = .ok (.ifCond .ne 7, 3) := by decide +kernel
theorem dX1_give_12 : decode cX1_give 12 = .ok (.iconst 1, 1) := by decide +kernel
theorem dX1_give_13 : decode cX1_give 13 = .ok (.goto 4, 3) := by decide +kernel
theorem dX1_give_16 : decode cX1_give 16 = .ok (.iconst 0, 1) := by decide +kernel
theorem dX1_give_17 : decode cX1_give 17 = .ok (.bastore, 1) := by decide +kernel
theorem dX1_give_18 : decode cX1_give 18 = .ok (.return_, 1) := by decide +kernel
abbrev cX1_add : ByteArray := prog_3_method_3_code
def yX1_add : MethodName := ⟨RX1, "add", "(I)I"⟩
theorem dX1_add_0 : decode cX1_add 0 = .ok (.aload_n 0, 1) := by decide +kernel
theorem dX1_add_1 : decode cX1_add 1 = .ok (.getfield 20, 3) := by decide +kernel
theorem dX1_add_4 : decode cX1_add 4 = .ok (.bipush 20, 2) := by decide +kernel
theorem dX1_add_6 : decode cX1_add 6 = .ok (.if_icmp .ne 5, 3) := by decide +kernel
theorem dX1_add_9 : decode cX1_add 9 = .ok (.iconst (-1), 1) := by decide +kernel
theorem dX1_add_10 : decode cX1_add 10 = .ok (.ireturn, 1) := by decide +kernel
theorem dX1_add_11 : decode cX1_add 11 = .ok (.aload_n 0, 1) := by decide +kernel
theorem dX1_add_12 : decode cX1_add 12 = .ok (.getfield 13, 3) := by decide +kernel
theorem dX1_add_15 : decode cX1_add 15 = .ok (.aload_n 0, 1) := by decide +kernel
theorem dX1_add_16 : decode cX1_add 16 = .ok (.getfield 20, 3) := by decide +kernel
theorem dX1_add_19 : decode cX1_add 19 = .ok (.iload_n 1, 1) := by decide +kernel
theorem dX1_add_20 : decode cX1_add 20 = .ok (.ldc 24, 2) := by decide +kernel
theorem dX1_add_22 : decode cX1_add 22 = .ok (.iand, 1) := by decide +kernel
theorem dX1_add_23 : decode cX1_add 23 = .ok (.iastore, 1) := by decide +kernel
theorem dX1_add_24 : decode cX1_add 24 = .ok (.aload_n 0, 1) := by decide +kernel
theorem dX1_add_25 : decode cX1_add 25 = .ok (.dup, 1) := by decide +kernel
theorem dX1_add_26 : decode cX1_add 26 = .ok (.getfield 20, 3) := by decide +kernel
theorem dX1_add_29 : decode cX1_add 29 = .ok (.iconst 1, 1) := by decide +kernel
theorem dX1_add_30 : decode cX1_add 30 = .ok (.iadd, 1) := by decide +kernel
theorem dX1_add_31 : decode cX1_add 31 = .ok (.putfield 20, 3) := by decide +kernel
theorem dX1_add_34 : decode cX1_add 34 = .ok (.aload_n 0, 1) := by decide +kernel
theorem dX1_add_35 : decode cX1_add 35 = .ok (.getfield 20, 3) := by decide +kernel
theorem dX1_add_38 : decode cX1_add 38 = .ok (.ireturn, 1) := by decide +kernel
abbrev cX1_drop : ByteArray := prog_3_method_4_code
def yX1_drop : MethodName := ⟨RX1, "drop", "(I)I"⟩
theorem dX1_drop_0 : decode cX1_drop 0 = .ok (.iload_n 1, 1) := by decide +kernel
theorem dX1_drop_1 : decode cX1_drop 1 = .ok (.ifCond .lt 11, 3) := by decide +kernel
theorem dX1_drop_4 : decode cX1_drop 4 = .ok (.iload_n 1, 1) := by decide +kernel
theorem dX1_drop_5 : decode cX1_drop 5 = .ok (.aload_n 0, 1) := by decide +kernel
theorem dX1_drop_6 : decode cX1_drop 6 = .ok (.getfield 20, 3) := by decide +kernel
theorem dX1_drop_9 : decode cX1_drop 9 = .ok (.if_icmp .lt 5, 3) := by decide +kernel
theorem dX1_drop_12 : decode cX1_drop 12 = .ok (.iconst (-1), 1) := by decide +kernel
theorem dX1_drop_13 : decode cX1_drop 13 = .ok (.ireturn, 1) := by decide +kernel
theorem dX1_drop_14 : decode cX1_drop 14 = .ok (.aload_n 0, 1) := by decide +kernel
theorem dX1_drop_15 : decode cX1_drop 15 = .ok (.dup, 1) := by decide +kernel
theorem dX1_drop_16 : decode cX1_drop 16 = .ok (.getfield 20, 3) := by decide +kernel
theorem dX1_drop_19 : decode cX1_drop 19 = .ok (.iconst 1, 1) := by decide +kernel
theorem dX1_drop_20 : decode cX1_drop 20 = .ok (.isub, 1) := by decide +kernel
theorem dX1_drop_21 : decode cX1_drop 21 = .ok (.putfield 20, 3) := by decide +kernel
theorem dX1_drop_24 : decode cX1_drop 24 = .ok (.iload_n 1, 1) := by decide +kernel
theorem dX1_drop_25 : decode cX1_drop 25 = .ok (.istore_n 2, 1) := by decide +kernel
theorem dX1_drop_26 : decode cX1_drop 26 = .ok (.iload_n 2, 1) := by decide +kernel
theorem dX1_drop_27 : decode cX1_drop 27 = .ok (.aload_n 0, 1) := by decide +kernel
theorem dX1_drop_28 : decode cX1_drop 28 = .ok (.getfield 20, 3) := by decide +kernel
theorem dX1_drop_31 : decode cX1_drop 31 = .ok (.if_icmp .ge 23, 3) := by decide +kernel
theorem dX1_drop_34 : decode cX1_drop 34 = .ok (.aload_n 0, 1) := by decide +kernel
theorem dX1_drop_35 : decode cX1_drop 35 = .ok (.getfield 13, 3) := by decide +kernel
theorem dX1_drop_38 : decode cX1_drop 38 = .ok (.iload_n 2, 1) := by decide +kernel
theorem dX1_drop_39 : decode cX1_drop 39 = .ok (.aload_n 0, 1) := by decide +kernel
theorem dX1_drop_40 : decode cX1_drop 40 = .ok (.getfield 13, 3) := by decide +kernel
theorem dX1_drop_43 : decode cX1_drop 43 = .ok (.iload_n 2, 1) := by decide +kernel
theorem dX1_drop_44 : decode cX1_drop 44 = .ok (.iconst 1, 1) := by decide +kernel
theorem dX1_drop_45 : decode cX1_drop 45 = .ok (.iadd, 1) := by decide +kernel
theorem dX1_drop_46 : decode cX1_drop 46 = .ok (.iaload, 1) := by decide +kernel
theorem dX1_drop_47 : decode cX1_drop 47 = .ok (.iastore, 1) := by decide +kernel
theorem dX1_drop_48 : decode cX1_drop 48 = .ok (.iinc 2 1, 3) := by decide +kernel
theorem dX1_drop_51 : decode cX1_drop 51 = .ok (.goto (-25), 3) := by decide +kernel
theorem dX1_drop_54 : decode cX1_drop 54 = .ok (.aload_n 0, 1) := by decide +kernel
theorem dX1_drop_55 : decode cX1_drop 55 = .ok (.getfield 20, 3) := by decide +kernel
theorem dX1_drop_58 : decode cX1_drop 58 = .ok (.ireturn, 1) := by decide +kernel
abbrev cX1_won : ByteArray := prog_3_method_9_code
def yX1_won : MethodName := ⟨RX1, "won", "(I)I"⟩
theorem dX1_won_0 : decode cX1_won 0 = .ok (.iload_n 1, 1) := by decide +kernel
theorem dX1_won_1 : decode cX1_won 1 = .ok (.iconst 1, 1) := by decide +kernel
theorem dX1_won_2 : decode cX1_won 2 = .ok (.if_icmp .lt 10, 3) := by decide +kernel
theorem dX1_won_5 : decode cX1_won 5 = .ok (.iload_n 1, 1) := by decide +kernel
theorem dX1_won_6 : decode cX1_won 6 = .ok (.sipush 511, 3) := by decide +kernel
theorem dX1_won_9 : decode cX1_won 9 = .ok (.if_icmp .le 5, 3) := by decide +kernel
theorem dX1_won_12 : decode cX1_won 12 = .ok (.iconst (-1), 1) := by decide +kernel
theorem dX1_won_13 : decode cX1_won 13 = .ok (.ireturn, 1) := by decide +kernel
theorem dX1_won_14 : decode cX1_won 14 = .ok (.aload_n 0, 1) := by decide +kernel
theorem dX1_won_15 : decode cX1_won 15 = .ok (.iconst (-1), 1) := by decide +kernel
theorem dX1_won_16 : decode cX1_won 16 = .ok (.iconst (-1), 1) := by decide +kernel
theorem dX1_won_17 : decode cX1_won 17 = .ok (.invokevirtual 36, 3) := by decide +kernel
theorem dX1_won_20 : decode cX1_won 20 = .ok (.aload_n 0, 1) := by decide +kernel
theorem dX1_won_21 : decode cX1_won 21 = .ok (.getfield 17, 3) := by decide +kernel
theorem dX1_won_24 : decode cX1_won 24 = .ok (.iload_n 1, 1) := by decide +kernel
theorem dX1_won_25 : decode cX1_won 25 = .ok (.baload, 1) := by decide +kernel
theorem dX1_won_26 : decode cX1_won 26 = .ok (.ifCond .eq 7, 3) := by decide +kernel
theorem dX1_won_29 : decode cX1_won 29 = .ok (.iconst 1, 1) := by decide +kernel
theorem dX1_won_30 : decode cX1_won 30 = .ok (.goto 4, 3) := by decide +kernel
theorem dX1_won_33 : decode cX1_won 33 = .ok (.iconst 0, 1) := by decide +kernel
theorem dX1_won_34 : decode cX1_won 34 = .ok (.ireturn, 1) := by decide +kernel
abbrev cX1_work : ByteArray := prog_3_method_8_code
def yX1_work : MethodName := ⟨RX1, "work", "(II)V"⟩
theorem dX1_work_0 : decode cX1_work 0 = .ok (.sipush 511, 3) := by decide +kernel
theorem dX1_work_3 : decode cX1_work 3 = .ok (.istore_n 3, 1) := by decide +kernel
theorem dX1_work_4 : decode cX1_work 4 = .ok (.iload_n 3, 1) := by decide +kernel
theorem dX1_work_5 : decode cX1_work 5 = .ok (.iconst 1, 1) := by decide +kernel
theorem dX1_work_6 : decode cX1_work 6 = .ok (.if_icmp .lt 131, 3) := by decide +kernel
theorem dX1_work_9 : decode cX1_work 9 = .ok (.iload_n 3, 1) := by decide +kernel
theorem dX1_work_10 : decode cX1_work 10 = .ok (.invokestatic 29, 3) := by decide +kernel
theorem dX1_work_13 : decode cX1_work 13 = .ok (.istore 4, 2) := by decide +kernel
theorem dX1_work_15 : decode cX1_work 15 = .ok (.iload 4, 2) := by decide +kernel
theorem dX1_work_17 : decode cX1_work 17 = .ok (.bipush 8, 2) := by decide +kernel
theorem dX1_work_19 : decode cX1_work 19 = .ok (.if_icmp .ne 18, 3) := by decide +kernel
theorem dX1_work_22 : decode cX1_work 22 = .ok (.aload_n 0, 1) := by decide +kernel
theorem dX1_work_23 : decode cX1_work 23 = .ok (.getfield 17, 3) := by decide +kernel
theorem dX1_work_26 : decode cX1_work 26 = .ok (.iload_n 3, 1) := by decide +kernel
theorem dX1_work_27 : decode cX1_work 27 = .ok (.aload_n 0, 1) := by decide +kernel
theorem dX1_work_28 : decode cX1_work 28 = .ok (.iload_n 3, 1) := by decide +kernel
theorem dX1_work_29 : decode cX1_work 29 = .ok (.iload_n 1, 1) := by decide +kernel
theorem dX1_work_30 : decode cX1_work 30 = .ok (.invokevirtual 33, 3) := by decide +kernel
theorem dX1_work_33 : decode cX1_work 33 = .ok (.bastore, 1) := by decide +kernel
theorem dX1_work_34 : decode cX1_work 34 = .ok (.goto 97, 3) := by decide +kernel
theorem dX1_work_37 : decode cX1_work 37 = .ok (.aload_n 0, 1) := by decide +kernel
theorem dX1_work_38 : decode cX1_work 38 = .ok (.getfield 7, 3) := by decide +kernel
theorem dX1_work_41 : decode cX1_work 41 = .ok (.iload 4, 2) := by decide +kernel
theorem dX1_work_43 : decode cX1_work 43 = .ok (.baload, 1) := by decide +kernel
theorem dX1_work_44 : decode cX1_work 44 = .ok (.iload 4, 2) := by decide +kernel
theorem dX1_work_46 : decode cX1_work 46 = .ok (.iload_n 2, 1) := by decide +kernel
theorem dX1_work_47 : decode cX1_work 47 = .ok (.if_icmp .ne 7, 3) := by decide +kernel
theorem dX1_work_50 : decode cX1_work 50 = .ok (.iconst 1, 1) := by decide +kernel
theorem dX1_work_51 : decode cX1_work 51 = .ok (.goto 4, 3) := by decide +kernel
theorem dX1_work_54 : decode cX1_work 54 = .ok (.iconst 0, 1) := by decide +kernel
theorem dX1_work_55 : decode cX1_work 55 = .ok (.if_icmp .eq 7, 3) := by decide +kernel
theorem dX1_work_58 : decode cX1_work 58 = .ok (.iconst 1, 1) := by decide +kernel
theorem dX1_work_59 : decode cX1_work 59 = .ok (.goto 4, 3) := by decide +kernel
theorem dX1_work_62 : decode cX1_work 62 = .ok (.iconst 0, 1) := by decide +kernel
theorem dX1_work_63 : decode cX1_work 63 = .ok (.istore 5, 2) := by decide +kernel
theorem dX1_work_65 : decode cX1_work 65 = .ok (.aload_n 0, 1) := by decide +kernel
theorem dX1_work_66 : decode cX1_work 66 = .ok (.getfield 17, 3) := by decide +kernel
theorem dX1_work_69 : decode cX1_work 69 = .ok (.iconst 2, 1) := by decide +kernel
theorem dX1_work_70 : decode cX1_work 70 = .ok (.iload_n 3, 1) := by decide +kernel
theorem dX1_work_71 : decode cX1_work 71 = .ok (.imul, 1) := by decide +kernel
theorem dX1_work_72 : decode cX1_work 72 = .ok (.baload, 1) := by decide +kernel
theorem dX1_work_73 : decode cX1_work 73 = .ok (.istore 6, 2) := by decide +kernel
theorem dX1_work_75 : decode cX1_work 75 = .ok (.aload_n 0, 1) := by decide +kernel
theorem dX1_work_76 : decode cX1_work 76 = .ok (.getfield 17, 3) := by decide +kernel
theorem dX1_work_79 : decode cX1_work 79 = .ok (.iconst 2, 1) := by decide +kernel
theorem dX1_work_80 : decode cX1_work 80 = .ok (.iload_n 3, 1) := by decide +kernel
theorem dX1_work_81 : decode cX1_work 81 = .ok (.imul, 1) := by decide +kernel
theorem dX1_work_82 : decode cX1_work 82 = .ok (.iconst 1, 1) := by decide +kernel
theorem dX1_work_83 : decode cX1_work 83 = .ok (.iadd, 1) := by decide +kernel
theorem dX1_work_84 : decode cX1_work 84 = .ok (.baload, 1) := by decide +kernel
theorem dX1_work_85 : decode cX1_work 85 = .ok (.istore 7, 2) := by decide +kernel
theorem dX1_work_87 : decode cX1_work 87 = .ok (.aload_n 0, 1) := by decide +kernel
theorem dX1_work_88 : decode cX1_work 88 = .ok (.getfield 17, 3) := by decide +kernel
theorem dX1_work_91 : decode cX1_work 91 = .ok (.iload_n 3, 1) := by decide +kernel
theorem dX1_work_92 : decode cX1_work 92 = .ok (.iload 5, 2) := by decide +kernel
theorem dX1_work_94 : decode cX1_work 94 = .ok (.ifCond .eq 21, 3) := by decide +kernel
theorem dX1_work_97 : decode cX1_work 97 = .ok (.iload 6, 2) := by decide +kernel
theorem dX1_work_99 : decode cX1_work 99 = .ok (.ifCond .eq 12, 3) := by decide +kernel
theorem dX1_work_102 : decode cX1_work 102 = .ok (.iload 7, 2) := by decide +kernel
theorem dX1_work_104 : decode cX1_work 104 = .ok (.ifCond .eq 7, 3) := by decide +kernel
theorem dX1_work_107 : decode cX1_work 107 = .ok (.iconst 1, 1) := by decide +kernel
theorem dX1_work_108 : decode cX1_work 108 = .ok (.goto 22, 3) := by decide +kernel
theorem dX1_work_111 : decode cX1_work 111 = .ok (.iconst 0, 1) := by decide +kernel
theorem dX1_work_112 : decode cX1_work 112 = .ok (.goto 18, 3) := by decide +kernel
theorem dX1_work_115 : decode cX1_work 115 = .ok (.iload 6, 2) := by decide +kernel
theorem dX1_work_117 : decode cX1_work 117 = .ok (.ifCond .ne 8, 3) := by decide +kernel
theorem dX1_work_120 : decode cX1_work 120 = .ok (.iload 7, 2) := by decide +kernel
theorem dX1_work_122 : decode cX1_work 122 = .ok (.ifCond .eq 7, 3) := by decide +kernel
theorem dX1_work_125 : decode cX1_work 125 = .ok (.iconst 1, 1) := by decide +kernel
theorem dX1_work_126 : decode cX1_work 126 = .ok (.goto 4, 3) := by decide +kernel
theorem dX1_work_129 : decode cX1_work 129 = .ok (.iconst 0, 1) := by decide +kernel
theorem dX1_work_130 : decode cX1_work 130 = .ok (.bastore, 1) := by decide +kernel
theorem dX1_work_131 : decode cX1_work 131 = .ok (.iinc 3 (-1), 3) := by decide +kernel
theorem dX1_work_134 : decode cX1_work 134 = .ok (.goto (-130), 3) := by decide +kernel
theorem dX1_work_137 : decode cX1_work 137 = .ok (.return_, 1) := by decide +kernel
abbrev cX1_length : ByteArray := prog_3_method_7_code
def yX1_length : MethodName := ⟨RX1, "length", "(I)I"⟩
theorem dX1_length_0 : decode cX1_length 0 = .ok (.iconst 0, 1) := by decide +kernel
theorem dX1_length_1 : decode cX1_length 1 = .ok (.istore_n 1, 1) := by decide +kernel
theorem dX1_length_2 : decode cX1_length 2 = .ok (.iload_n 1, 1) := by decide +kernel
theorem dX1_length_3 : decode cX1_length 3 = .ok (.bipush 8, 2) := by decide +kernel
theorem dX1_length_5 : decode cX1_length 5 = .ok (.if_icmp .ge 16, 3) := by decide +kernel
theorem dX1_length_8 : decode cX1_length 8 = .ok (.iconst 2, 1) := by decide +kernel
theorem dX1_length_9 : decode cX1_length 9 = .ok (.iload_n 1, 1) := by decide +kernel
theorem dX1_length_10 : decode cX1_length 10 = .ok (.ishl, 1) := by decide +kernel
theorem dX1_length_11 : decode cX1_length 11 = .ok (.iload_n 0, 1) := by decide +kernel
theorem dX1_length_12 : decode cX1_length 12 = .ok (.if_icmp .gt 9, 3) := by decide +kernel
theorem dX1_length_15 : decode cX1_length 15 = .ok (.iinc 1 1, 3) := by decide +kernel
theorem dX1_length_18 : decode cX1_length 18 = .ok (.goto (-16), 3) := by decide +kernel
theorem dX1_length_21 : decode cX1_length 21 = .ok (.iload_n 1, 1) := by decide +kernel
theorem dX1_length_22 : decode cX1_length 22 = .ok (.ireturn, 1) := by decide +kernel
abbrev cX1_allHold : ByteArray := prog_3_method_6_code
def yX1_allHold : MethodName := ⟨RX1, "allHold", "(II)Z"⟩
theorem dX1_allHold_0 : decode cX1_allHold 0 = .ok (.iconst 0, 1) := by decide +kernel
theorem dX1_allHold_1 : decode cX1_allHold 1 = .ok (.istore_n 3, 1) := by decide +kernel
theorem dX1_allHold_2 : decode cX1_allHold 2 = .ok (.iload_n 3, 1) := by decide +kernel
theorem dX1_allHold_3 : decode cX1_allHold 3 = .ok (.aload_n 0, 1) := by decide +kernel
theorem dX1_allHold_4 : decode cX1_allHold 4 = .ok (.getfield 20, 3) := by decide +kernel
theorem dX1_allHold_7 : decode cX1_allHold 7 = .ok (.if_icmp .ge 29, 3) := by decide +kernel
theorem dX1_allHold_10 : decode cX1_allHold 10 = .ok (.iload_n 3, 1) := by decide +kernel
theorem dX1_allHold_11 : decode cX1_allHold 11 = .ok (.iload_n 2, 1) := by decide +kernel
theorem dX1_allHold_12 : decode cX1_allHold 12 = .ok (.if_icmp .eq 18, 3) := by decide +kernel
theorem dX1_allHold_15 : decode cX1_allHold 15 = .ok (.aload_n 0, 1) := by decide +kernel
theorem dX1_allHold_16 : decode cX1_allHold 16 = .ok (.getfield 13, 3) := by decide +kernel
theorem dX1_allHold_19 : decode cX1_allHold 19 = .ok (.iload_n 3, 1) := by decide +kernel
theorem dX1_allHold_20 : decode cX1_allHold 20 = .ok (.iaload, 1) := by decide +kernel
theorem dX1_allHold_21 : decode cX1_allHold 21 = .ok (.iload_n 1, 1) := by decide +kernel
theorem dX1_allHold_22 : decode cX1_allHold 22 = .ok (.invokestatic 25, 3) := by decide +kernel
theorem dX1_allHold_25 : decode cX1_allHold 25 = .ok (.ifCond .ne 5, 3) := by decide +kernel
theorem dX1_allHold_28 : decode cX1_allHold 28 = .ok (.iconst 0, 1) := by decide +kernel
theorem dX1_allHold_29 : decode cX1_allHold 29 = .ok (.ireturn, 1) := by decide +kernel
theorem dX1_allHold_30 : decode cX1_allHold 30 = .ok (.iinc 3 1, 3) := by decide +kernel
theorem dX1_allHold_33 : decode cX1_allHold 33 = .ok (.goto (-31), 3) := by decide +kernel
theorem dX1_allHold_36 : decode cX1_allHold 36 = .ok (.iconst 1, 1) := by decide +kernel
theorem dX1_allHold_37 : decode cX1_allHold 37 = .ok (.ireturn, 1) := by decide +kernel
abbrev cX1_holds : ByteArray := prog_3_method_5_code
def yX1_holds : MethodName := ⟨RX1, "holds", "(II)Z"⟩
theorem dX1_holds_0 : decode cX1_holds 0 = .ok (.iconst 0, 1) := by decide +kernel
theorem dX1_holds_1 : decode cX1_holds 1 = .ok (.istore_n 2, 1) := by decide +kernel
theorem dX1_holds_2 : decode cX1_holds 2 = .ok (.iload_n 2, 1) := by decide +kernel
theorem dX1_holds_3 : decode cX1_holds 3 = .ok (.bipush 8, 2) := by decide +kernel
theorem dX1_holds_5 : decode cX1_holds 5 = .ok (.if_icmp .ge 35, 3) := by decide +kernel
theorem dX1_holds_8 : decode cX1_holds 8 = .ok (.iconst 2, 1) := by decide +kernel
theorem dX1_holds_9 : decode cX1_holds 9 = .ok (.iload_n 2, 1) := by decide +kernel
theorem dX1_holds_10 : decode cX1_holds 10 = .ok (.imul, 1) := by decide +kernel
theorem dX1_holds_11 : decode cX1_holds 11 = .ok (.iconst 1, 1) := by decide +kernel
theorem dX1_holds_12 : decode cX1_holds 12 = .ok (.iadd, 1) := by decide +kernel
theorem dX1_holds_13 : decode cX1_holds 13 = .ok (.iload_n 1, 1) := by decide +kernel
theorem dX1_holds_14 : decode cX1_holds 14 = .ok (.bipush 7, 2) := by decide +kernel
theorem dX1_holds_16 : decode cX1_holds 16 = .ok (.iload_n 2, 1) := by decide +kernel
theorem dX1_holds_17 : decode cX1_holds 17 = .ok (.isub, 1) := by decide +kernel
theorem dX1_holds_18 : decode cX1_holds 18 = .ok (.ishr, 1) := by decide +kernel
theorem dX1_holds_19 : decode cX1_holds 19 = .ok (.iconst 1, 1) := by decide +kernel
theorem dX1_holds_20 : decode cX1_holds 20 = .ok (.iand, 1) := by decide +kernel
theorem dX1_holds_21 : decode cX1_holds 21 = .ok (.isub, 1) := by decide +kernel
theorem dX1_holds_22 : decode cX1_holds 22 = .ok (.istore_n 3, 1) := by decide +kernel
theorem dX1_holds_23 : decode cX1_holds 23 = .ok (.iload_n 0, 1) := by decide +kernel
theorem dX1_holds_24 : decode cX1_holds 24 = .ok (.iload_n 3, 1) := by decide +kernel
theorem dX1_holds_25 : decode cX1_holds 25 = .ok (.ishr, 1) := by decide +kernel
theorem dX1_holds_26 : decode cX1_holds 26 = .ok (.iconst 1, 1) := by decide +kernel
theorem dX1_holds_27 : decode cX1_holds 27 = .ok (.iand, 1) := by decide +kernel
theorem dX1_holds_28 : decode cX1_holds 28 = .ok (.iconst 1, 1) := by decide +kernel
theorem dX1_holds_29 : decode cX1_holds 29 = .ok (.if_icmp .ne 5, 3) := by decide +kernel
theorem dX1_holds_32 : decode cX1_holds 32 = .ok (.iconst 1, 1) := by decide +kernel
theorem dX1_holds_33 : decode cX1_holds 33 = .ok (.ireturn, 1) := by decide +kernel
theorem dX1_holds_34 : decode cX1_holds 34 = .ok (.iinc 2 1, 3) := by decide +kernel
theorem dX1_holds_37 : decode cX1_holds 37 = .ok (.goto (-35), 3) := by decide +kernel
theorem dX1_holds_40 : decode cX1_holds 40 = .ok (.iconst 0, 1) := by decide +kernel
theorem dX1_holds_41 : decode cX1_holds 41 = .ok (.ireturn, 1) := by decide +kernel
abbrev cX1_choice : ByteArray := prog_3_method_10_code
def yX1_choice : MethodName := ⟨RX1, "choice", "(I)I"⟩
theorem dX1_choice_0 : decode cX1_choice 0 = .ok (.iload_n 1, 1) := by decide +kernel
theorem dX1_choice_1 : decode cX1_choice 1 = .ok (.iconst 1, 1) := by decide +kernel
theorem dX1_choice_2 : decode cX1_choice 2 = .ok (.if_icmp .lt 10, 3) := by decide +kernel
theorem dX1_choice_5 : decode cX1_choice 5 = .ok (.iload_n 1, 1) := by decide +kernel
theorem dX1_choice_6 : decode cX1_choice 6 = .ok (.sipush 255, 3) := by decide +kernel
theorem dX1_choice_9 : decode cX1_choice 9 = .ok (.if_icmp .le 5, 3) := by decide +kernel
theorem dX1_choice_12 : decode cX1_choice 12 = .ok (.iconst (-1), 1) := by decide +kernel
theorem dX1_choice_13 : decode cX1_choice 13 = .ok (.ireturn, 1) := by decide +kernel
theorem dX1_choice_14 : decode cX1_choice 14 = .ok (.aload_n 0, 1) := by decide +kernel
theorem dX1_choice_15 : decode cX1_choice 15 = .ok (.iconst (-1), 1) := by decide +kernel
theorem dX1_choice_16 : decode cX1_choice 16 = .ok (.iconst (-1), 1) := by decide +kernel
theorem dX1_choice_17 : decode cX1_choice 17 = .ok (.invokevirtual 36, 3) := by decide +kernel
theorem dX1_choice_20 : decode cX1_choice 20 = .ok (.iload_n 1, 1) := by decide +kernel
theorem dX1_choice_21 : decode cX1_choice 21 = .ok (.invokestatic 29, 3) := by decide +kernel
theorem dX1_choice_24 : decode cX1_choice 24 = .ok (.istore_n 2, 1) := by decide +kernel
theorem dX1_choice_25 : decode cX1_choice 25 = .ok (.iconst 0, 1) := by decide +kernel
theorem dX1_choice_26 : decode cX1_choice 26 = .ok (.istore_n 3, 1) := by decide +kernel
theorem dX1_choice_27 : decode cX1_choice 27 = .ok (.iload_n 3, 1) := by decide +kernel
theorem dX1_choice_28 : decode cX1_choice 28 = .ok (.iconst 2, 1) := by decide +kernel
theorem dX1_choice_29 : decode cX1_choice 29 = .ok (.if_icmp .ge 30, 3) := by decide +kernel
theorem dX1_choice_32 : decode cX1_choice 32 = .ok (.aload_n 0, 1) := by decide +kernel
theorem dX1_choice_33 : decode cX1_choice 33 = .ok (.getfield 17, 3) := by decide +kernel
theorem dX1_choice_36 : decode cX1_choice 36 = .ok (.iconst 2, 1) := by decide +kernel
theorem dX1_choice_37 : decode cX1_choice 37 = .ok (.iload_n 1, 1) := by decide +kernel
theorem dX1_choice_38 : decode cX1_choice 38 = .ok (.imul, 1) := by decide +kernel
theorem dX1_choice_39 : decode cX1_choice 39 = .ok (.iload_n 3, 1) := by decide +kernel
theorem dX1_choice_40 : decode cX1_choice 40 = .ok (.iadd, 1) := by decide +kernel
theorem dX1_choice_41 : decode cX1_choice 41 = .ok (.baload, 1) := by decide +kernel
theorem dX1_choice_42 : decode cX1_choice 42 = .ok (.aload_n 0, 1) := by decide +kernel
theorem dX1_choice_43 : decode cX1_choice 43 = .ok (.getfield 7, 3) := by decide +kernel
theorem dX1_choice_46 : decode cX1_choice 46 = .ok (.iload_n 2, 1) := by decide +kernel
theorem dX1_choice_47 : decode cX1_choice 47 = .ok (.baload, 1) := by decide +kernel
theorem dX1_choice_48 : decode cX1_choice 48 = .ok (.if_icmp .eq 5, 3) := by decide +kernel
theorem dX1_choice_51 : decode cX1_choice 51 = .ok (.iload_n 3, 1) := by decide +kernel
theorem dX1_choice_52 : decode cX1_choice 52 = .ok (.ireturn, 1) := by decide +kernel
theorem dX1_choice_53 : decode cX1_choice 53 = .ok (.iinc 3 1, 3) := by decide +kernel
theorem dX1_choice_56 : decode cX1_choice 56 = .ok (.goto (-29), 3) := by decide +kernel
theorem dX1_choice_59 : decode cX1_choice 59 = .ok (.iconst 2, 1) := by decide +kernel
theorem dX1_choice_60 : decode cX1_choice 60 = .ok (.ireturn, 1) := by decide +kernel
abbrev cX1_count : ByteArray := prog_3_method_11_code
def yX1_count : MethodName := ⟨RX1, "count", "(I)I"⟩
theorem dX1_count_0 : decode cX1_count 0 = .ok (.iload_n 1, 1) := by decide +kernel
theorem dX1_count_1 : decode cX1_count 1 = .ok (.ifCond .lt 9, 3) := by decide +kernel
theorem dX1_count_4 : decode cX1_count 4 = .ok (.iload_n 1, 1) := by decide +kernel
theorem dX1_count_5 : decode cX1_count 5 = .ok (.bipush 8, 2) := by decide +kernel
theorem dX1_count_7 : decode cX1_count 7 = .ok (.if_icmp .le 5, 3) := by decide +kernel
theorem dX1_count_10 : decode cX1_count 10 = .ok (.iconst (-1), 1) := by decide +kernel
theorem dX1_count_11 : decode cX1_count 11 = .ok (.ireturn, 1) := by decide +kernel
theorem dX1_count_12 : decode cX1_count 12 = .ok (.aload_n 0, 1) := by decide +kernel
theorem dX1_count_13 : decode cX1_count 13 = .ok (.iconst (-1), 1) := by decide +kernel
theorem dX1_count_14 : decode cX1_count 14 = .ok (.iconst (-1), 1) := by decide +kernel
theorem dX1_count_15 : decode cX1_count 15 = .ok (.invokevirtual 36, 3) := by decide +kernel
theorem dX1_count_18 : decode cX1_count 18 = .ok (.iconst 0, 1) := by decide +kernel
theorem dX1_count_19 : decode cX1_count 19 = .ok (.istore_n 2, 1) := by decide +kernel
theorem dX1_count_20 : decode cX1_count 20 = .ok (.iconst 1, 1) := by decide +kernel
theorem dX1_count_21 : decode cX1_count 21 = .ok (.iload_n 1, 1) := by decide +kernel
theorem dX1_count_22 : decode cX1_count 22 = .ok (.ishl, 1) := by decide +kernel
theorem dX1_count_23 : decode cX1_count 23 = .ok (.istore_n 3, 1) := by decide +kernel
theorem dX1_count_24 : decode cX1_count 24 = .ok (.iload_n 3, 1) := by decide +kernel
theorem dX1_count_25 : decode cX1_count 25 = .ok (.iconst 2, 1) := by decide +kernel
theorem dX1_count_26 : decode cX1_count 26 = .ok (.iload_n 1, 1) := by decide +kernel
theorem dX1_count_27 : decode cX1_count 27 = .ok (.ishl, 1) := by decide +kernel
theorem dX1_count_28 : decode cX1_count 28 = .ok (.if_icmp .ge 21, 3) := by decide +kernel
theorem dX1_count_31 : decode cX1_count 31 = .ok (.aload_n 0, 1) := by decide +kernel
theorem dX1_count_32 : decode cX1_count 32 = .ok (.getfield 17, 3) := by decide +kernel
theorem dX1_count_35 : decode cX1_count 35 = .ok (.iload_n 3, 1) := by decide +kernel
theorem dX1_count_36 : decode cX1_count 36 = .ok (.baload, 1) := by decide +kernel
theorem dX1_count_37 : decode cX1_count 37 = .ok (.ifCond .eq 6, 3) := by decide +kernel
theorem dX1_count_40 : decode cX1_count 40 = .ok (.iinc 2 1, 3) := by decide +kernel
theorem dX1_count_43 : decode cX1_count 43 = .ok (.iinc 3 1, 3) := by decide +kernel
theorem dX1_count_46 : decode cX1_count 46 = .ok (.goto (-22), 3) := by decide +kernel
theorem dX1_count_49 : decode cX1_count 49 = .ok (.iload_n 2, 1) := by decide +kernel
theorem dX1_count_50 : decode cX1_count 50 = .ok (.ireturn, 1) := by decide +kernel
abbrev cX1_spare : ByteArray := prog_3_method_12_code
def yX1_spare : MethodName := ⟨RX1, "spare", "(I)I"⟩
theorem dX1_spare_0 : decode cX1_spare 0 = .ok (.iload_n 1, 1) := by decide +kernel
theorem dX1_spare_1 : decode cX1_spare 1 = .ok (.ifCond .lt 11, 3) := by decide +kernel
theorem dX1_spare_4 : decode cX1_spare 4 = .ok (.iload_n 1, 1) := by decide +kernel
theorem dX1_spare_5 : decode cX1_spare 5 = .ok (.aload_n 0, 1) := by decide +kernel
theorem dX1_spare_6 : decode cX1_spare 6 = .ok (.getfield 20, 3) := by decide +kernel
theorem dX1_spare_9 : decode cX1_spare 9 = .ok (.if_icmp .lt 5, 3) := by decide +kernel
theorem dX1_spare_12 : decode cX1_spare 12 = .ok (.iconst (-1), 1) := by decide +kernel
theorem dX1_spare_13 : decode cX1_spare 13 = .ok (.ireturn, 1) := by decide +kernel
theorem dX1_spare_14 : decode cX1_spare 14 = .ok (.aload_n 0, 1) := by decide +kernel
theorem dX1_spare_15 : decode cX1_spare 15 = .ok (.iconst (-1), 1) := by decide +kernel
theorem dX1_spare_16 : decode cX1_spare 16 = .ok (.iconst (-1), 1) := by decide +kernel
theorem dX1_spare_17 : decode cX1_spare 17 = .ok (.invokevirtual 36, 3) := by decide +kernel
theorem dX1_spare_20 : decode cX1_spare 20 = .ok (.aload_n 0, 1) := by decide +kernel
theorem dX1_spare_21 : decode cX1_spare 21 = .ok (.getfield 17, 3) := by decide +kernel
theorem dX1_spare_24 : decode cX1_spare 24 = .ok (.iconst 1, 1) := by decide +kernel
theorem dX1_spare_25 : decode cX1_spare 25 = .ok (.baload, 1) := by decide +kernel
theorem dX1_spare_26 : decode cX1_spare 26 = .ok (.istore_n 2, 1) := by decide +kernel
theorem dX1_spare_27 : decode cX1_spare 27 = .ok (.aload_n 0, 1) := by decide +kernel
theorem dX1_spare_28 : decode cX1_spare 28 = .ok (.iload_n 1, 1) := by decide +kernel
theorem dX1_spare_29 : decode cX1_spare 29 = .ok (.iconst (-1), 1) := by decide +kernel
theorem dX1_spare_30 : decode cX1_spare 30 = .ok (.invokevirtual 36, 3) := by decide +kernel
theorem dX1_spare_33 : decode cX1_spare 33 = .ok (.iload_n 2, 1) := by decide +kernel
theorem dX1_spare_34 : decode cX1_spare 34 = .ok (.ifCond .ne 12, 3) := by decide +kernel
theorem dX1_spare_37 : decode cX1_spare 37 = .ok (.aload_n 0, 1) := by decide +kernel
theorem dX1_spare_38 : decode cX1_spare 38 = .ok (.getfield 17, 3) := by decide +kernel
theorem dX1_spare_41 : decode cX1_spare 41 = .ok (.iconst 1, 1) := by decide +kernel
theorem dX1_spare_42 : decode cX1_spare 42 = .ok (.baload, 1) := by decide +kernel
theorem dX1_spare_43 : decode cX1_spare 43 = .ok (.ifCond .eq 7, 3) := by decide +kernel
theorem dX1_spare_46 : decode cX1_spare 46 = .ok (.iconst 1, 1) := by decide +kernel
theorem dX1_spare_47 : decode cX1_spare 47 = .ok (.goto 4, 3) := by decide +kernel
theorem dX1_spare_50 : decode cX1_spare 50 = .ok (.iconst 0, 1) := by decide +kernel
theorem dX1_spare_51 : decode cX1_spare 51 = .ok (.ireturn, 1) := by decide +kernel
abbrev cX1_swapped : ByteArray := prog_3_method_13_code
def yX1_swapped : MethodName := ⟨RX1, "swapped", "(I)I"⟩
theorem dX1_swapped_0 : decode cX1_swapped 0 = .ok (.aload_n 0, 1) := by decide +kernel
theorem dX1_swapped_1 : decode cX1_swapped 1 = .ok (.iconst (-1), 1) := by decide +kernel
theorem dX1_swapped_2 : decode cX1_swapped 2 = .ok (.iload_n 1, 1) := by decide +kernel
theorem dX1_swapped_3 : decode cX1_swapped 3 = .ok (.bipush 7, 2) := by decide +kernel
theorem dX1_swapped_5 : decode cX1_swapped 5 = .ok (.iand, 1) := by decide +kernel
theorem dX1_swapped_6 : decode cX1_swapped 6 = .ok (.invokevirtual 36, 3) := by decide +kernel
theorem dX1_swapped_9 : decode cX1_swapped 9 = .ok (.aload_n 0, 1) := by decide +kernel
theorem dX1_swapped_10 : decode cX1_swapped 10 = .ok (.getfield 17, 3) := by decide +kernel
theorem dX1_swapped_13 : decode cX1_swapped 13 = .ok (.iconst 1, 1) := by decide +kernel
theorem dX1_swapped_14 : decode cX1_swapped 14 = .ok (.baload, 1) := by decide +kernel
theorem dX1_swapped_15 : decode cX1_swapped 15 = .ok (.ifCond .eq 7, 3) := by decide +kernel
theorem dX1_swapped_18 : decode cX1_swapped 18 = .ok (.iconst 1, 1) := by decide +kernel
theorem dX1_swapped_19 : decode cX1_swapped 19 = .ok (.goto 4, 3) := by decide +kernel
theorem dX1_swapped_22 : decode cX1_swapped 22 = .ok (.iconst 0, 1) := by decide +kernel
theorem dX1_swapped_23 : decode cX1_swapped 23 = .ok (.ireturn, 1) := by decide +kernel
theorem q12 : (Jvm.Cond.initialized "QbfDeskModel") ∈ lw_all := lw_g (lw_at lw_m0 2 rfl) rfl
theorem q113 : (Jvm.Cond.instantiable "QbfDeskModel" (4 : Nat)) ∈ lw_all := lw_g (lw_at lw_m0 103 rfl) rfl
theorem q115 : (Jvm.Cond.instanceMethod ({ cls := "QbfDeskModel", name := "<init>", desc := "()V" } : Jvm.MethodName)) ∈ lw_all := lw_g (lw_at lw_m0 105 rfl) rfl
theorem q116 : (Jvm.Cond.code ({ cls := "QbfDeskModel", name := "<init>", desc := "()V" } : Jvm.MethodName) prog_3_method_1_code (1 : Nat) (Option.none : Option Jvm.ClassFile.FieldType)) ∈ lw_all := lw_g (lw_at lw_m0 106 rfl) rfl
theorem q117 : (Jvm.Cond.methodLink "QbfDeskModel" (1 : Nat) ({ cls := "java/lang/Object", name := "<init>", desc := "()V" } : Jvm.MethodName)) ∈ lw_all := lw_g (lw_at lw_m0 107 rfl) rfl
theorem q118 : (Jvm.Cond.fieldLink "QbfDeskModel" (7 : Nat) "QbfDeskModel" "breaker" "[Z") ∈ lw_all := lw_g (lw_at lw_m0 108 rfl) rfl
theorem q119 : (Jvm.Cond.fieldLink "QbfDeskModel" (20 : Nat) "QbfDeskModel" "held" "I") ∈ lw_all := lw_g (lw_at lw_m0 109 rfl) rfl
theorem q120 : (Jvm.Cond.fieldLink "QbfDeskModel" (13 : Nat) "QbfDeskModel" "clauses" "[I") ∈ lw_all := lw_g (lw_at lw_m0 110 rfl) rfl
theorem q121 : (Jvm.Cond.fieldLink "QbfDeskModel" (17 : Nat) "QbfDeskModel" "won" "[Z") ∈ lw_all := lw_g (lw_at lw_m0 111 rfl) rfl
theorem q122 : (Jvm.Cond.laysFinal "QbfDeskModel" "QbfDeskModel" "breaker" "[Z") ∈ lw_all := lw_g (lw_at lw_m0 112 rfl) rfl
theorem q123 : (Jvm.Cond.soleField "QbfDeskModel" "breaker") ∈ lw_all := lw_g (lw_at lw_m0 113 rfl) rfl
theorem q124 : (Jvm.Cond.lays "QbfDeskModel" "QbfDeskModel" "held" "I") ∈ lw_all := lw_g (lw_at lw_m0 114 rfl) rfl
theorem q125 : (Jvm.Cond.soleField "QbfDeskModel" "held") ∈ lw_all := lw_g (lw_at lw_m0 115 rfl) rfl
theorem q126 : (Jvm.Cond.laysFinal "QbfDeskModel" "QbfDeskModel" "clauses" "[I") ∈ lw_all := lw_g (lw_at lw_m0 116 rfl) rfl
theorem q127 : (Jvm.Cond.soleField "QbfDeskModel" "clauses") ∈ lw_all := lw_g (lw_at lw_m0 117 rfl) rfl
theorem q128 : (Jvm.Cond.laysFinal "QbfDeskModel" "QbfDeskModel" "won" "[Z") ∈ lw_all := lw_g (lw_at lw_m0 118 rfl) rfl
theorem q129 : (Jvm.Cond.soleField "QbfDeskModel" "won") ∈ lw_all := lw_g (lw_at lw_m0 119 rfl) rfl
theorem q130 : (Jvm.Cond.superclass "QbfDeskModel" "java/lang/Object") ∈ lw_all := lw_g (lw_at lw_m0 120 rfl) rfl
theorem q133 : (Jvm.Cond.instanceMethod ({ cls := "QbfDeskModel", name := "give", desc := "(IZ)V" } : Jvm.MethodName)) ∈ lw_all := lw_g (lw_at lw_m0 123 rfl) rfl
theorem q134 : (Jvm.Cond.selects "QbfDeskModel" ({ cls := "QbfDeskModel", name := "give", desc := "(IZ)V" } : Jvm.MethodName) ({ cls := "QbfDeskModel", name := "give", desc := "(IZ)V" } : Jvm.MethodName)) ∈ lw_all := lw_g (lw_at lw_m0 124 rfl) rfl
theorem q135 : (Jvm.Cond.code ({ cls := "QbfDeskModel", name := "give", desc := "(IZ)V" } : Jvm.MethodName) prog_3_method_2_code (3 : Nat) (Option.none : Option Jvm.ClassFile.FieldType)) ∈ lw_all := lw_g (lw_at lw_m0 125 rfl) rfl
theorem q137 : (Jvm.Cond.instanceMethod ({ cls := "QbfDeskModel", name := "add", desc := "(I)I" } : Jvm.MethodName)) ∈ lw_all := lw_g (lw_at lw_m0 127 rfl) rfl
theorem q138 : (Jvm.Cond.selects "QbfDeskModel" ({ cls := "QbfDeskModel", name := "add", desc := "(I)I" } : Jvm.MethodName) ({ cls := "QbfDeskModel", name := "add", desc := "(I)I" } : Jvm.MethodName)) ∈ lw_all := lw_g (lw_at lw_m0 128 rfl) rfl
theorem q139 : (Jvm.Cond.code ({ cls := "QbfDeskModel", name := "add", desc := "(I)I" } : Jvm.MethodName) prog_3_method_3_code (2 : Nat) (Option.some Jvm.ClassFile.FieldType.int)) ∈ lw_all := lw_g (lw_at lw_m0 129 rfl) rfl
theorem q140 : (Jvm.Cond.constant "QbfDeskModel" (24 : Nat) (65535 : Int32)) ∈ lw_all := lw_g (lw_at lw_m0 130 rfl) rfl
theorem q142 : (Jvm.Cond.instanceMethod ({ cls := "QbfDeskModel", name := "drop", desc := "(I)I" } : Jvm.MethodName)) ∈ lw_all := lw_g (lw_at lw_m0 132 rfl) rfl
theorem q143 : (Jvm.Cond.selects "QbfDeskModel" ({ cls := "QbfDeskModel", name := "drop", desc := "(I)I" } : Jvm.MethodName) ({ cls := "QbfDeskModel", name := "drop", desc := "(I)I" } : Jvm.MethodName)) ∈ lw_all := lw_g (lw_at lw_m0 133 rfl) rfl
theorem q144 : (Jvm.Cond.code ({ cls := "QbfDeskModel", name := "drop", desc := "(I)I" } : Jvm.MethodName) prog_3_method_4_code (3 : Nat) (Option.some Jvm.ClassFile.FieldType.int)) ∈ lw_all := lw_g (lw_at lw_m0 134 rfl) rfl
theorem q146 : (Jvm.Cond.instanceMethod ({ cls := "QbfDeskModel", name := "won", desc := "(I)I" } : Jvm.MethodName)) ∈ lw_all := lw_g (lw_at lw_m0 136 rfl) rfl
theorem q147 : (Jvm.Cond.selects "QbfDeskModel" ({ cls := "QbfDeskModel", name := "won", desc := "(I)I" } : Jvm.MethodName) ({ cls := "QbfDeskModel", name := "won", desc := "(I)I" } : Jvm.MethodName)) ∈ lw_all := lw_g (lw_at lw_m0 137 rfl) rfl
theorem q148 : (Jvm.Cond.code ({ cls := "QbfDeskModel", name := "won", desc := "(I)I" } : Jvm.MethodName) prog_3_method_9_code (2 : Nat) (Option.some Jvm.ClassFile.FieldType.int)) ∈ lw_all := lw_g (lw_at lw_m0 138 rfl) rfl
theorem q149 : (Jvm.Cond.methodLink "QbfDeskModel" (36 : Nat) ({ cls := "QbfDeskModel", name := "work", desc := "(II)V" } : Jvm.MethodName)) ∈ lw_all := lw_g (lw_at lw_m0 139 rfl) rfl
theorem q150 : (Jvm.Cond.privateMethod ({ cls := "QbfDeskModel", name := "work", desc := "(II)V" } : Jvm.MethodName)) ∈ lw_tbl := lw_at lw_m0 140 rfl
theorem q151 : (Jvm.Cond.instanceMethod ({ cls := "QbfDeskModel", name := "work", desc := "(II)V" } : Jvm.MethodName)) ∈ lw_all := lw_g (lw_at lw_m0 141 rfl) rfl
theorem q152 : (Jvm.Cond.code ({ cls := "QbfDeskModel", name := "work", desc := "(II)V" } : Jvm.MethodName) prog_3_method_8_code (8 : Nat) (Option.none : Option Jvm.ClassFile.FieldType)) ∈ lw_all := lw_g (lw_at lw_m0 142 rfl) rfl
theorem q153 : (Jvm.Cond.methodLink "QbfDeskModel" (29 : Nat) ({ cls := "QbfDeskModel", name := "length", desc := "(I)I" } : Jvm.MethodName)) ∈ lw_all := lw_g (lw_at lw_m0 143 rfl) rfl
theorem q154 : (Jvm.Cond.static ({ cls := "QbfDeskModel", name := "length", desc := "(I)I" } : Jvm.MethodName)) ∈ lw_all := lw_g (lw_at lw_m0 144 rfl) rfl
theorem q155 : (Jvm.Cond.code ({ cls := "QbfDeskModel", name := "length", desc := "(I)I" } : Jvm.MethodName) prog_3_method_7_code (2 : Nat) (Option.some Jvm.ClassFile.FieldType.int)) ∈ lw_all := lw_g (lw_at lw_m0 145 rfl) rfl
theorem q156 : (Jvm.Cond.methodLink "QbfDeskModel" (33 : Nat) ({ cls := "QbfDeskModel", name := "allHold", desc := "(II)Z" } : Jvm.MethodName)) ∈ lw_all := lw_g (lw_at lw_m0 146 rfl) rfl
theorem q157 : (Jvm.Cond.privateMethod ({ cls := "QbfDeskModel", name := "allHold", desc := "(II)Z" } : Jvm.MethodName)) ∈ lw_tbl := lw_at lw_m0 147 rfl
theorem q158 : (Jvm.Cond.instanceMethod ({ cls := "QbfDeskModel", name := "allHold", desc := "(II)Z" } : Jvm.MethodName)) ∈ lw_all := lw_g (lw_at lw_m0 148 rfl) rfl
theorem q159 : (Jvm.Cond.code ({ cls := "QbfDeskModel", name := "allHold", desc := "(II)Z" } : Jvm.MethodName) prog_3_method_6_code (4 : Nat) (Option.some Jvm.ClassFile.FieldType.boolean)) ∈ lw_all := lw_g (lw_at lw_m0 149 rfl) rfl
theorem q160 : (Jvm.Cond.methodLink "QbfDeskModel" (25 : Nat) ({ cls := "QbfDeskModel", name := "holds", desc := "(II)Z" } : Jvm.MethodName)) ∈ lw_all := lw_g (lw_at lw_m0 150 rfl) rfl
theorem q161 : (Jvm.Cond.static ({ cls := "QbfDeskModel", name := "holds", desc := "(II)Z" } : Jvm.MethodName)) ∈ lw_all := lw_g (lw_at lw_m0 151 rfl) rfl
theorem q162 : (Jvm.Cond.code ({ cls := "QbfDeskModel", name := "holds", desc := "(II)Z" } : Jvm.MethodName) prog_3_method_5_code (4 : Nat) (Option.some Jvm.ClassFile.FieldType.boolean)) ∈ lw_all := lw_g (lw_at lw_m0 152 rfl) rfl
theorem q164 : (Jvm.Cond.instanceMethod ({ cls := "QbfDeskModel", name := "choice", desc := "(I)I" } : Jvm.MethodName)) ∈ lw_all := lw_g (lw_at lw_m0 154 rfl) rfl
theorem q165 : (Jvm.Cond.selects "QbfDeskModel" ({ cls := "QbfDeskModel", name := "choice", desc := "(I)I" } : Jvm.MethodName) ({ cls := "QbfDeskModel", name := "choice", desc := "(I)I" } : Jvm.MethodName)) ∈ lw_all := lw_g (lw_at lw_m0 155 rfl) rfl
theorem q166 : (Jvm.Cond.code ({ cls := "QbfDeskModel", name := "choice", desc := "(I)I" } : Jvm.MethodName) prog_3_method_10_code (4 : Nat) (Option.some Jvm.ClassFile.FieldType.int)) ∈ lw_all := lw_g (lw_at lw_m0 156 rfl) rfl
theorem q168 : (Jvm.Cond.instanceMethod ({ cls := "QbfDeskModel", name := "count", desc := "(I)I" } : Jvm.MethodName)) ∈ lw_all := lw_g (lw_at lw_m0 158 rfl) rfl
theorem q169 : (Jvm.Cond.selects "QbfDeskModel" ({ cls := "QbfDeskModel", name := "count", desc := "(I)I" } : Jvm.MethodName) ({ cls := "QbfDeskModel", name := "count", desc := "(I)I" } : Jvm.MethodName)) ∈ lw_all := lw_g (lw_at lw_m0 159 rfl) rfl
theorem q170 : (Jvm.Cond.code ({ cls := "QbfDeskModel", name := "count", desc := "(I)I" } : Jvm.MethodName) prog_3_method_11_code (4 : Nat) (Option.some Jvm.ClassFile.FieldType.int)) ∈ lw_all := lw_g (lw_at lw_m0 160 rfl) rfl
theorem q172 : (Jvm.Cond.instanceMethod ({ cls := "QbfDeskModel", name := "spare", desc := "(I)I" } : Jvm.MethodName)) ∈ lw_all := lw_g (lw_at lw_m0 162 rfl) rfl
theorem q173 : (Jvm.Cond.selects "QbfDeskModel" ({ cls := "QbfDeskModel", name := "spare", desc := "(I)I" } : Jvm.MethodName) ({ cls := "QbfDeskModel", name := "spare", desc := "(I)I" } : Jvm.MethodName)) ∈ lw_all := lw_g (lw_at lw_m0 163 rfl) rfl
theorem q174 : (Jvm.Cond.code ({ cls := "QbfDeskModel", name := "spare", desc := "(I)I" } : Jvm.MethodName) prog_3_method_12_code (3 : Nat) (Option.some Jvm.ClassFile.FieldType.int)) ∈ lw_all := lw_g (lw_at lw_m0 164 rfl) rfl
theorem q176 : (Jvm.Cond.instanceMethod ({ cls := "QbfDeskModel", name := "swapped", desc := "(I)I" } : Jvm.MethodName)) ∈ lw_all := lw_g (lw_at lw_m0 166 rfl) rfl
theorem q177 : (Jvm.Cond.selects "QbfDeskModel" ({ cls := "QbfDeskModel", name := "swapped", desc := "(I)I" } : Jvm.MethodName) ({ cls := "QbfDeskModel", name := "swapped", desc := "(I)I" } : Jvm.MethodName)) ∈ lw_all := lw_g (lw_at lw_m0 167 rfl) rfl
theorem q178 : (Jvm.Cond.code ({ cls := "QbfDeskModel", name := "swapped", desc := "(I)I" } : Jvm.MethodName) prog_3_method_13_code (2 : Nat) (Option.some Jvm.ClassFile.FieldType.int)) ∈ lw_all := lw_g (lw_at lw_m0 168 rfl) rfl
theorem in_X1 : ∀ w ∈ wsX10, w ∈ lw_all := lw_in wsX10 [122, 124, 126, 128] (by decide +kernel) (by decide +kernel)
end
section
/-! the law's own entry -/
set_option maxRecDepth 100000
abbrev cL_law : ByteArray := code
theorem dL_law_0 : decode cL_law 0 = .ok (.new 7, 3) := by decide +kernel
theorem dL_law_3 : decode cL_law 3 = .ok (.dup, 1) := by decide +kernel
theorem dL_law_4 : decode cL_law 4 = .ok (.invokespecial 9, 3) := by decide +kernel
theorem dL_law_7 : decode cL_law 7 = .ok (.astore_n 1, 1) := by decide +kernel
theorem dL_law_8 : decode cL_law 8 = .ok (.new 10, 3) := by decide +kernel
theorem dL_law_11 : decode cL_law 11 = .ok (.dup, 1) := by decide +kernel
theorem dL_law_12 : decode cL_law 12 = .ok (.invokespecial 12, 3) := by decide +kernel
theorem dL_law_15 : decode cL_law 15 = .ok (.astore_n 2, 1) := by decide +kernel
theorem dL_law_16 : decode cL_law 16 = .ok (.iconst 0, 1) := by decide +kernel
theorem dL_law_17 : decode cL_law 17 = .ok (.istore_n 3, 1) := by decide +kernel
theorem dL_law_18 : decode cL_law 18 = .ok (.iload_n 3, 1) := by decide +kernel
theorem dL_law_19 : decode cL_law 19 = .ok (.aload_n 0, 1) := by decide +kernel
theorem dL_law_20 : decode cL_law 20 = .ok (.arraylength, 1) := by decide +kernel
theorem dL_law_21 : decode cL_law 21 = .ok (.iconst 3, 1) := by decide +kernel
theorem dL_law_22 : decode cL_law 22 = .ok (.isub, 1) := by decide +kernel
theorem dL_law_23 : decode cL_law 23 = .ok (.if_icmp .gt 271, 3) := by decide +kernel
theorem dL_law_26 : decode cL_law 26 = .ok (.aload_n 0, 1) := by decide +kernel
theorem dL_law_27 : decode cL_law 27 = .ok (.iload_n 3, 1) := by decide +kernel
theorem dL_law_28 : decode cL_law 28 = .ok (.iaload, 1) := by decide +kernel
theorem dL_law_29 : decode cL_law 29 = .ok (.bipush 7, 2) := by decide +kernel
theorem dL_law_31 : decode cL_law 31 = .ok (.iand, 1) := by decide +kernel
theorem dL_law_32 : decode cL_law 32 = .ok (.tableswitch 256 0 7 #[48, 95, 118, 141, 164, 187, 210, 233], 48) := by decide +kernel
theorem dL_law_80 : decode cL_law 80 = .ok (.aload_n 1, 1) := by decide +kernel
theorem dL_law_81 : decode cL_law 81 = .ok (.aload_n 0, 1) := by decide +kernel
theorem dL_law_82 : decode cL_law 82 = .ok (.iload_n 3, 1) := by decide +kernel
theorem dL_law_83 : decode cL_law 83 = .ok (.iconst 1, 1) := by decide +kernel
theorem dL_law_84 : decode cL_law 84 = .ok (.iadd, 1) := by decide +kernel
theorem dL_law_85 : decode cL_law 85 = .ok (.iaload, 1) := by decide +kernel
theorem dL_law_86 : decode cL_law 86 = .ok (.aload_n 0, 1) := by decide +kernel
theorem dL_law_87 : decode cL_law 87 = .ok (.iload_n 3, 1) := by decide +kernel
theorem dL_law_88 : decode cL_law 88 = .ok (.iconst 2, 1) := by decide +kernel
theorem dL_law_89 : decode cL_law 89 = .ok (.iadd, 1) := by decide +kernel
theorem dL_law_90 : decode cL_law 90 = .ok (.iaload, 1) := by decide +kernel
theorem dL_law_91 : decode cL_law 91 = .ok (.ifCond .eq 7, 3) := by decide +kernel
theorem dL_law_94 : decode cL_law 94 = .ok (.iconst 1, 1) := by decide +kernel
theorem dL_law_95 : decode cL_law 95 = .ok (.goto 4, 3) := by decide +kernel
theorem dL_law_98 : decode cL_law 98 = .ok (.iconst 0, 1) := by decide +kernel
theorem dL_law_99 : decode cL_law 99 = .ok (.invokevirtual 13, 3) := by decide +kernel
theorem dL_law_102 : decode cL_law 102 = .ok (.aload_n 2, 1) := by decide +kernel
theorem dL_law_103 : decode cL_law 103 = .ok (.aload_n 0, 1) := by decide +kernel
theorem dL_law_104 : decode cL_law 104 = .ok (.iload_n 3, 1) := by decide +kernel
theorem dL_law_105 : decode cL_law 105 = .ok (.iconst 1, 1) := by decide +kernel
theorem dL_law_106 : decode cL_law 106 = .ok (.iadd, 1) := by decide +kernel
theorem dL_law_107 : decode cL_law 107 = .ok (.iaload, 1) := by decide +kernel
theorem dL_law_108 : decode cL_law 108 = .ok (.aload_n 0, 1) := by decide +kernel
theorem dL_law_109 : decode cL_law 109 = .ok (.iload_n 3, 1) := by decide +kernel
theorem dL_law_110 : decode cL_law 110 = .ok (.iconst 2, 1) := by decide +kernel
theorem dL_law_111 : decode cL_law 111 = .ok (.iadd, 1) := by decide +kernel
theorem dL_law_112 : decode cL_law 112 = .ok (.iaload, 1) := by decide +kernel
theorem dL_law_113 : decode cL_law 113 = .ok (.ifCond .eq 7, 3) := by decide +kernel
theorem dL_law_116 : decode cL_law 116 = .ok (.iconst 1, 1) := by decide +kernel
theorem dL_law_117 : decode cL_law 117 = .ok (.goto 4, 3) := by decide +kernel
theorem dL_law_120 : decode cL_law 120 = .ok (.iconst 0, 1) := by decide +kernel
theorem dL_law_121 : decode cL_law 121 = .ok (.invokevirtual 17, 3) := by decide +kernel
theorem dL_law_124 : decode cL_law 124 = .ok (.goto 164, 3) := by decide +kernel
theorem dL_law_127 : decode cL_law 127 = .ok (.aload_n 1, 1) := by decide +kernel
theorem dL_law_128 : decode cL_law 128 = .ok (.aload_n 0, 1) := by decide +kernel
theorem dL_law_129 : decode cL_law 129 = .ok (.iload_n 3, 1) := by decide +kernel
theorem dL_law_130 : decode cL_law 130 = .ok (.iconst 1, 1) := by decide +kernel
theorem dL_law_131 : decode cL_law 131 = .ok (.iadd, 1) := by decide +kernel
theorem dL_law_132 : decode cL_law 132 = .ok (.iaload, 1) := by decide +kernel
theorem dL_law_133 : decode cL_law 133 = .ok (.invokevirtual 18, 3) := by decide +kernel
theorem dL_law_136 : decode cL_law 136 = .ok (.aload_n 2, 1) := by decide +kernel
theorem dL_law_137 : decode cL_law 137 = .ok (.aload_n 0, 1) := by decide +kernel
theorem dL_law_138 : decode cL_law 138 = .ok (.iload_n 3, 1) := by decide +kernel
theorem dL_law_139 : decode cL_law 139 = .ok (.iconst 1, 1) := by decide +kernel
theorem dL_law_140 : decode cL_law 140 = .ok (.iadd, 1) := by decide +kernel
theorem dL_law_141 : decode cL_law 141 = .ok (.iaload, 1) := by decide +kernel
theorem dL_law_142 : decode cL_law 142 = .ok (.invokevirtual 22, 3) := by decide +kernel
theorem dL_law_145 : decode cL_law 145 = .ok (.if_icmp .eq 143, 3) := by decide +kernel
theorem dL_law_148 : decode cL_law 148 = .ok (.iconst 0, 1) := by decide +kernel
theorem dL_law_149 : decode cL_law 149 = .ok (.ireturn, 1) := by decide +kernel
theorem dL_law_150 : decode cL_law 150 = .ok (.aload_n 1, 1) := by decide +kernel
theorem dL_law_151 : decode cL_law 151 = .ok (.aload_n 0, 1) := by decide +kernel
theorem dL_law_152 : decode cL_law 152 = .ok (.iload_n 3, 1) := by decide +kernel
theorem dL_law_153 : decode cL_law 153 = .ok (.iconst 1, 1) := by decide +kernel
theorem dL_law_154 : decode cL_law 154 = .ok (.iadd, 1) := by decide +kernel
theorem dL_law_155 : decode cL_law 155 = .ok (.iaload, 1) := by decide +kernel
theorem dL_law_156 : decode cL_law 156 = .ok (.invokevirtual 23, 3) := by decide +kernel
theorem dL_law_159 : decode cL_law 159 = .ok (.aload_n 2, 1) := by decide +kernel
theorem dL_law_160 : decode cL_law 160 = .ok (.aload_n 0, 1) := by decide +kernel
theorem dL_law_161 : decode cL_law 161 = .ok (.iload_n 3, 1) := by decide +kernel
theorem dL_law_162 : decode cL_law 162 = .ok (.iconst 1, 1) := by decide +kernel
theorem dL_law_163 : decode cL_law 163 = .ok (.iadd, 1) := by decide +kernel
theorem dL_law_164 : decode cL_law 164 = .ok (.iaload, 1) := by decide +kernel
theorem dL_law_165 : decode cL_law 165 = .ok (.invokevirtual 26, 3) := by decide +kernel
theorem dL_law_168 : decode cL_law 168 = .ok (.if_icmp .eq 120, 3) := by decide +kernel
theorem dL_law_171 : decode cL_law 171 = .ok (.iconst 0, 1) := by decide +kernel
theorem dL_law_172 : decode cL_law 172 = .ok (.ireturn, 1) := by decide +kernel
theorem dL_law_173 : decode cL_law 173 = .ok (.aload_n 1, 1) := by decide +kernel
theorem dL_law_174 : decode cL_law 174 = .ok (.aload_n 0, 1) := by decide +kernel
theorem dL_law_175 : decode cL_law 175 = .ok (.iload_n 3, 1) := by decide +kernel
theorem dL_law_176 : decode cL_law 176 = .ok (.iconst 1, 1) := by decide +kernel
theorem dL_law_177 : decode cL_law 177 = .ok (.iadd, 1) := by decide +kernel
theorem dL_law_178 : decode cL_law 178 = .ok (.iaload, 1) := by decide +kernel
theorem dL_law_179 : decode cL_law 179 = .ok (.invokevirtual 27, 3) := by decide +kernel
theorem dL_law_182 : decode cL_law 182 = .ok (.aload_n 2, 1) := by decide +kernel
theorem dL_law_183 : decode cL_law 183 = .ok (.aload_n 0, 1) := by decide +kernel
theorem dL_law_184 : decode cL_law 184 = .ok (.iload_n 3, 1) := by decide +kernel
theorem dL_law_185 : decode cL_law 185 = .ok (.iconst 1, 1) := by decide +kernel
theorem dL_law_186 : decode cL_law 186 = .ok (.iadd, 1) := by decide +kernel
theorem dL_law_187 : decode cL_law 187 = .ok (.iaload, 1) := by decide +kernel
theorem dL_law_188 : decode cL_law 188 = .ok (.invokevirtual 30, 3) := by decide +kernel
theorem dL_law_191 : decode cL_law 191 = .ok (.if_icmp .eq 97, 3) := by decide +kernel
theorem dL_law_194 : decode cL_law 194 = .ok (.iconst 0, 1) := by decide +kernel
theorem dL_law_195 : decode cL_law 195 = .ok (.ireturn, 1) := by decide +kernel
theorem dL_law_196 : decode cL_law 196 = .ok (.aload_n 1, 1) := by decide +kernel
theorem dL_law_197 : decode cL_law 197 = .ok (.aload_n 0, 1) := by decide +kernel
theorem dL_law_198 : decode cL_law 198 = .ok (.iload_n 3, 1) := by decide +kernel
theorem dL_law_199 : decode cL_law 199 = .ok (.iconst 1, 1) := by decide +kernel
theorem dL_law_200 : decode cL_law 200 = .ok (.iadd, 1) := by decide +kernel
theorem dL_law_201 : decode cL_law 201 = .ok (.iaload, 1) := by decide +kernel
theorem dL_law_202 : decode cL_law 202 = .ok (.invokevirtual 31, 3) := by decide +kernel
theorem dL_law_205 : decode cL_law 205 = .ok (.aload_n 2, 1) := by decide +kernel
theorem dL_law_206 : decode cL_law 206 = .ok (.aload_n 0, 1) := by decide +kernel
theorem dL_law_207 : decode cL_law 207 = .ok (.iload_n 3, 1) := by decide +kernel
theorem dL_law_208 : decode cL_law 208 = .ok (.iconst 1, 1) := by decide +kernel
theorem dL_law_209 : decode cL_law 209 = .ok (.iadd, 1) := by decide +kernel
theorem dL_law_210 : decode cL_law 210 = .ok (.iaload, 1) := by decide +kernel
theorem dL_law_211 : decode cL_law 211 = .ok (.invokevirtual 34, 3) := by decide +kernel
theorem dL_law_214 : decode cL_law 214 = .ok (.if_icmp .eq 74, 3) := by decide +kernel
theorem dL_law_217 : decode cL_law 217 = .ok (.iconst 0, 1) := by decide +kernel
theorem dL_law_218 : decode cL_law 218 = .ok (.ireturn, 1) := by decide +kernel
theorem dL_law_219 : decode cL_law 219 = .ok (.aload_n 1, 1) := by decide +kernel
theorem dL_law_220 : decode cL_law 220 = .ok (.aload_n 0, 1) := by decide +kernel
theorem dL_law_221 : decode cL_law 221 = .ok (.iload_n 3, 1) := by decide +kernel
theorem dL_law_222 : decode cL_law 222 = .ok (.iconst 1, 1) := by decide +kernel
theorem dL_law_223 : decode cL_law 223 = .ok (.iadd, 1) := by decide +kernel
theorem dL_law_224 : decode cL_law 224 = .ok (.iaload, 1) := by decide +kernel
theorem dL_law_225 : decode cL_law 225 = .ok (.invokevirtual 35, 3) := by decide +kernel
theorem dL_law_228 : decode cL_law 228 = .ok (.aload_n 2, 1) := by decide +kernel
theorem dL_law_229 : decode cL_law 229 = .ok (.aload_n 0, 1) := by decide +kernel
theorem dL_law_230 : decode cL_law 230 = .ok (.iload_n 3, 1) := by decide +kernel
theorem dL_law_231 : decode cL_law 231 = .ok (.iconst 1, 1) := by decide +kernel
theorem dL_law_232 : decode cL_law 232 = .ok (.iadd, 1) := by decide +kernel
theorem dL_law_233 : decode cL_law 233 = .ok (.iaload, 1) := by decide +kernel
theorem dL_law_234 : decode cL_law 234 = .ok (.invokevirtual 38, 3) := by decide +kernel
theorem dL_law_237 : decode cL_law 237 = .ok (.if_icmp .eq 51, 3) := by decide +kernel
theorem dL_law_240 : decode cL_law 240 = .ok (.iconst 0, 1) := by decide +kernel
theorem dL_law_241 : decode cL_law 241 = .ok (.ireturn, 1) := by decide +kernel
theorem dL_law_242 : decode cL_law 242 = .ok (.aload_n 1, 1) := by decide +kernel
theorem dL_law_243 : decode cL_law 243 = .ok (.aload_n 0, 1) := by decide +kernel
theorem dL_law_244 : decode cL_law 244 = .ok (.iload_n 3, 1) := by decide +kernel
theorem dL_law_245 : decode cL_law 245 = .ok (.iconst 1, 1) := by decide +kernel
theorem dL_law_246 : decode cL_law 246 = .ok (.iadd, 1) := by decide +kernel
theorem dL_law_247 : decode cL_law 247 = .ok (.iaload, 1) := by decide +kernel
theorem dL_law_248 : decode cL_law 248 = .ok (.invokevirtual 39, 3) := by decide +kernel
theorem dL_law_251 : decode cL_law 251 = .ok (.aload_n 2, 1) := by decide +kernel
theorem dL_law_252 : decode cL_law 252 = .ok (.aload_n 0, 1) := by decide +kernel
theorem dL_law_253 : decode cL_law 253 = .ok (.iload_n 3, 1) := by decide +kernel
theorem dL_law_254 : decode cL_law 254 = .ok (.iconst 1, 1) := by decide +kernel
theorem dL_law_255 : decode cL_law 255 = .ok (.iadd, 1) := by decide +kernel
theorem dL_law_256 : decode cL_law 256 = .ok (.iaload, 1) := by decide +kernel
theorem dL_law_257 : decode cL_law 257 = .ok (.invokevirtual 42, 3) := by decide +kernel
theorem dL_law_260 : decode cL_law 260 = .ok (.if_icmp .eq 28, 3) := by decide +kernel
theorem dL_law_263 : decode cL_law 263 = .ok (.iconst 0, 1) := by decide +kernel
theorem dL_law_264 : decode cL_law 264 = .ok (.ireturn, 1) := by decide +kernel
theorem dL_law_265 : decode cL_law 265 = .ok (.aload_n 1, 1) := by decide +kernel
theorem dL_law_266 : decode cL_law 266 = .ok (.aload_n 0, 1) := by decide +kernel
theorem dL_law_267 : decode cL_law 267 = .ok (.iload_n 3, 1) := by decide +kernel
theorem dL_law_268 : decode cL_law 268 = .ok (.iconst 1, 1) := by decide +kernel
theorem dL_law_269 : decode cL_law 269 = .ok (.iadd, 1) := by decide +kernel
theorem dL_law_270 : decode cL_law 270 = .ok (.iaload, 1) := by decide +kernel
theorem dL_law_271 : decode cL_law 271 = .ok (.invokevirtual 43, 3) := by decide +kernel
theorem dL_law_274 : decode cL_law 274 = .ok (.aload_n 2, 1) := by decide +kernel
theorem dL_law_275 : decode cL_law 275 = .ok (.aload_n 0, 1) := by decide +kernel
theorem dL_law_276 : decode cL_law 276 = .ok (.iload_n 3, 1) := by decide +kernel
theorem dL_law_277 : decode cL_law 277 = .ok (.iconst 1, 1) := by decide +kernel
theorem dL_law_278 : decode cL_law 278 = .ok (.iadd, 1) := by decide +kernel
theorem dL_law_279 : decode cL_law 279 = .ok (.iaload, 1) := by decide +kernel
theorem dL_law_280 : decode cL_law 280 = .ok (.invokevirtual 46, 3) := by decide +kernel
theorem dL_law_283 : decode cL_law 283 = .ok (.if_icmp .eq 5, 3) := by decide +kernel
theorem dL_law_286 : decode cL_law 286 = .ok (.iconst 0, 1) := by decide +kernel
theorem dL_law_287 : decode cL_law 287 = .ok (.ireturn, 1) := by decide +kernel
theorem dL_law_288 : decode cL_law 288 = .ok (.iinc 3 3, 3) := by decide +kernel
theorem dL_law_291 : decode cL_law 291 = .ok (.goto (-273), 3) := by decide +kernel
theorem dL_law_294 : decode cL_law 294 = .ok (.iconst 1, 1) := by decide +kernel
theorem dL_law_295 : decode cL_law 295 = .ok (.ireturn, 1) := by decide +kernel
end
section
/-! ===== Int32 by its bits: bt x i ===== -/
def bt (x : Int32) (i : Nat) : Bool := x.toBitVec.getLsbD i
theorem b_ext {x y : Int32} (h : ∀ i, i < 32 → bt x i = bt y i) : x = y := Int32.toBitVec_inj.mp (BitVec.eq_of_getLsbD_eq (fun i hi => h i hi))
theorem b_or (x y : Int32) (i : Nat) : bt (x ||| y) i = (bt x i || bt y i) := by unfold bt; rw [Int32.toBitVec_or, BitVec.getLsbD_or]
theorem b_and (x y : Int32) (i : Nat) : bt (x &&& y) i = (bt x i && bt y i) := by unfold bt; rw [Int32.toBitVec_and, BitVec.getLsbD_and]
theorem b_xor (x y : Int32) (i : Nat) : bt (x ^^^ y) i = (bt x i ^^ bt y i) := by unfold bt; rw [Int32.toBitVec_xor, BitVec.getLsbD_xor]
theorem b_big {x : Int32} {i : Nat} (h : 32 ≤ i) : bt x i = false := BitVec.getLsbD_of_ge _ _ h
theorem b_255 (i : Nat) : bt 255 i = decide (i < 8) := by
  rcases Nat.lt_or_ge i 32 with h | h
  · exact (by decide +kernel : ∀ i, i < 32 → bt 255 i = decide (i < 8)) i h
  · rw [b_big h, decide_eq_false (by omega)]
theorem b_65535 (i : Nat) : bt 65535 i = decide (i < 16) := by
  rcases Nat.lt_or_ge i 32 with h | h
  · exact (by decide +kernel : ∀ i, i < 32 → bt 65535 i = decide (i < 16)) i h
  · rw [b_big h, decide_eq_false (by omega)]
theorem b_m1 : ∀ i, i < 32 → bt (-1) i = true := by decide +kernel
theorem b_0 (i : Nat) : bt 0 i = false := BitVec.getLsbD_zero
theorem s_l : ∀ n, n < 32 → ((nI n &&& 31).toBitVec.smod 32).toNat = n := by decide +kernel
theorem s_u : ∀ n, n < 32 → (((nI n).toUInt32 &&& Int32.toUInt32 31).toBitVec % 32).toNat = n := by decide +kernel
theorem b_shl (n : Nat) (hn : n < 32) (x : Int32) {i : Nat} (hi : i < 32) : bt (x <<< (nI n &&& 31)) i = (decide (n ≤ i) && bt x (i - n)) := by
  unfold bt
  rw [Int32.toBitVec_shiftLeft]
  show (x.toBitVec <<< ((nI n &&& 31).toBitVec.smod 32).toNat).getLsbD i = _
  rw [s_l n hn, BitVec.getLsbD_shiftLeft]
  rcases Nat.lt_or_ge i n with h | h
  · simp [h, Nat.not_le.mpr h]
  · simp [hi, h, Nat.not_lt.mpr h]
theorem b_ushr (n : Nat) (hn : n < 32) (x : Int32) (i : Nat) : bt ((x.toUInt32 >>> ((nI n).toUInt32 &&& Int32.toUInt32 31)).toInt32) i = bt x (n + i) := by
  show (x.toUInt32 >>> ((nI n).toUInt32 &&& Int32.toUInt32 31)).toBitVec.getLsbD i = x.toUInt32.toBitVec.getLsbD (n + i)
  rw [UInt32.toBitVec_shiftRight]
  show (x.toUInt32.toBitVec >>> (((nI n).toUInt32 &&& Int32.toUInt32 31).toBitVec % 32).toNat).getLsbD i = _
  rw [s_u n hn, BitVec.getLsbD_ushiftRight]
theorem b_sshr (n : Nat) (hn : n < 32) (x : Int32) {i : Nat} (hi : i < 32) : bt (x >>> (nI n &&& 31)) i = if n + i < 32 then bt x (n + i) else bt x 31 := by
  unfold bt
  rw [Int32.toBitVec_shiftRight]
  show (x.toBitVec.sshiftRight ((nI n &&& 31).toBitVec.smod 32).toNat).getLsbD i = _
  rw [s_l n hn, BitVec.getLsbD_sshiftRight, BitVec.msb_eq_getLsbD_last]
  simp [hi]
theorem b_shl8 (x : Int32) {i : Nat} (hi : i < 32) : bt (x <<< ((8 : Int32) &&& 31)) i = (decide (8 ≤ i) && bt x (i - 8)) := b_shl 8 (by omega) x hi
theorem b_shl16 (x : Int32) {i : Nat} (hi : i < 32) : bt (x <<< ((16 : Int32) &&& 31)) i = (decide (16 ≤ i) && bt x (i - 16)) := b_shl 16 (by omega) x hi
theorem b_shl24 (x : Int32) {i : Nat} (hi : i < 32) : bt (x <<< ((24 : Int32) &&& 31)) i = (decide (24 ≤ i) && bt x (i - 24)) := b_shl 24 (by omega) x hi
theorem b_sshr8 (x : Int32) {i : Nat} (hi : i < 32) : bt (x >>> ((8 : Int32) &&& 31)) i = if 8 + i < 32 then bt x (8 + i) else bt x 31 := b_sshr 8 (by omega) x hi
end
section
/-! THE PLAIN LAW: a game of eight variables in order, maker's or breaker's; what forced steps keep; no program in sight -/
def bI (b : Bool) : Int32 := match b with
  | true => 1
  | false => 0
def eI (o : Option Bool) : Int32 := match o with
  | none => -1
  | some false => 0
  | some true => 1
/-- the literal 'variable v has the value x' stands in the clause w -/
def lit (w : Int32) (v : Nat) (x : Bool) : Bool := match x with
  | true => bt w (2 * v)
  | false => bt w (2 * v + 1)
def hold (w : Int32) (a : Nat → Bool) : Prop := ∃ v, v < 8 ∧ lit w v (a v) = true
def allH (n : Nat) (lo : Int32) (L : Nat → Int32) (a : Nat → Bool) : Prop := ∀ k, k < n → nI k ≠ lo → hold (L k) a
/-- MAKER wins from a, r variables to come -/
def win (M : Nat → Bool) (P : (Nat → Bool) → Prop) : Nat → (Nat → Bool) → Prop
  | 0, a => P a
  | r + 1, a => if M (7 - r) = true then win M P r (va_up a (7 - r) false) ∨ win M P r (va_up a (7 - r) true) else win M P r (va_up a (7 - r) false) ∧ win M P r (va_up a (7 - r) true)
theorem win_s {M : Nat → Bool} {P : (Nat → Bool) → Prop} {r : Nat} {a : Nat → Bool} : win M P (r + 1) a = if M (7 - r) = true then win M P r (va_up a (7 - r) false) ∨ win M P r (va_up a (7 - r) true) else win M P r (va_up a (7 - r) false) ∧ win M P r (va_up a (7 - r) true) := rfl
theorem win_m {M : Nat → Bool} {P : (Nat → Bool) → Prop} {r : Nat} {a : Nat → Bool} (h : M (7 - r) = true) : win M P (r + 1) a ↔ win M P r (va_up a (7 - r) false) ∨ win M P r (va_up a (7 - r) true) := by rw [win_s, if_pos h]
theorem win_b {M : Nat → Bool} {P : (Nat → Bool) → Prop} {r : Nat} {a : Nat → Bool} (h : ¬ M (7 - r) = true) : win M P (r + 1) a ↔ win M P r (va_up a (7 - r) false) ∧ win M P r (va_up a (7 - r) true) := by rw [win_s, if_neg h]
/-- x is a play that goes on from a, k values given -/
def ext (k : Nat) (a x : Nat → Bool) : Prop := ∀ u, u < k → x u = a u
theorem ext_up {r : Nat} (hr : r < 8) {a x : Nat → Bool} {y : Bool} (h : ext (8 - r) (va_up a (7 - r) y) x) : ext (8 - (r + 1)) a x ∧ x (7 - r) = y := by
  constructor
  · intro u hu
    rw [h u (by omega), va_up_ne _ _ (by omega)]
  · rw [h (7 - r) (by omega), va_up_self]
theorem win_mono {M : Nat → Bool} {P P' : (Nat → Bool) → Prop} : ∀ (r : Nat) (a : Nat → Bool), r ≤ 8 → (∀ x, ext (8 - r) a x → P x → P' x) → win M P r a → win M P' r a := by
  intro r
  induction r with
  | zero => intro a _ h hw; exact h a (fun _ _ => rfl) hw
  | succ r ih =>
    intro a hr h hw
    have k : ∀ y, win M P r (va_up a (7 - r) y) → win M P' r (va_up a (7 - r) y) := fun y => ih _ (by omega) (fun x hx => h x (ext_up (by omega) hx).1)
    by_cases hM : M (7 - r) = true
    · rw [win_m hM] at hw ⊢
      exact hw.imp (k _) (k _)
    · rw [win_b hM] at hw ⊢
      exact hw.imp (k _) (k _)
theorem win_ex {M : Nat → Bool} {P : (Nat → Bool) → Prop} : ∀ (r : Nat) (a : Nat → Bool), r ≤ 8 → win M P r a → ∃ x, ext (8 - r) a x ∧ P x := by
  intro r
  induction r with
  | zero => intro a _ hw; exact ⟨a, fun _ _ => rfl, hw⟩
  | succ r ih =>
    intro a hr hw
    have k : ∀ y, win M P r (va_up a (7 - r) y) → ∃ x, ext (8 - (r + 1)) a x ∧ P x := fun y hy => by
      obtain ⟨x, h1, h2⟩ := ih _ (by omega) hy
      exact ⟨x, (ext_up (by omega) h1).1, h2⟩
    by_cases hM : M (7 - r) = true
    · rw [win_m hM] at hw
      exact hw.elim (k _) (k _)
    · rw [win_b hM] at hw
      exact k _ hw.1
/-- who may choose against every way that is left wins: no variable of MAKER's among them -/
theorem win_no {M : Nat → Bool} {P : (Nat → Bool) → Prop} (sg : Nat → Bool) : ∀ (r : Nat) (a : Nat → Bool), r ≤ 8 → (∀ x, ext (8 - r) a x → P x → ∃ u, 8 - r ≤ u ∧ u < 8 ∧ M u = false ∧ x u = sg u) → ¬ win M P r a := by
  intro r
  induction r with
  | zero =>
    intro a _ h hw
    obtain ⟨u, h1, h2, -⟩ := h a (fun _ _ => rfl) hw
    omega
  | succ r ih =>
    intro a hr h hw
    by_cases hM : M (7 - r) = true
    · have k : ∀ y, ¬ win M P r (va_up a (7 - r) y) := fun y => ih _ (by omega) (fun x hx hp => by
        obtain ⟨u, h1, h2, h3, h4⟩ := h x (ext_up (by omega) hx).1 hp
        refine ⟨u, ?_, h2, h3, h4⟩
        have : u ≠ 7 - r := fun q => by rw [q, hM] at h3; cases h3
        omega)
      rw [win_m hM] at hw
      exact hw.elim (k _) (k _)
    · have k : ¬ win M P r (va_up a (7 - r) (!sg (7 - r))) := ih _ (by omega) (fun x hx hp => by
        obtain ⟨h5, h6⟩ := ext_up (by omega) hx
        obtain ⟨u, h1, h2, h3, h4⟩ := h x h5 hp
        refine ⟨u, ?_, h2, h3, h4⟩
        have : u ≠ 7 - r := fun q => by rw [q, h6] at h4; revert h4; cases sg (7 - r) <;> simp
        omega)
      rw [win_b hM] at hw
      cases hs : sg (7 - r) with
      | true => rw [hs] at k; exact k hw.1
      | false => rw [hs] at k; exact k hw.2
/-- a value of MAKER's that every way but BREAKER's later ones asks for -/
theorem win_forced {M : Nat → Bool} {P : (Nat → Bool) → Prop} (sg : Nat → Bool) {t : Nat} {y : Bool} (ht : t < 8) (hM : M t = true) : ∀ (r : Nat) (a : Nat → Bool), r ≤ 8 → 8 - r ≤ t → (∀ x, ext (8 - r) a x → P x → x t = y ∨ ∃ u, t < u ∧ u < 8 ∧ M u = false ∧ x u = sg u) → win M P r a → win M (fun x => P x ∧ x t = y) r a := by
  intro r
  induction r with
  | zero => intro a _ h1; omega
  | succ r ih =>
    intro a hr h1 h hw
    by_cases hv : t = 7 - r
    · subst hv
      have k : ∀ z, win M P r (va_up a (7 - r) z) → win M (fun x => P x ∧ x (7 - r) = y) r (va_up a (7 - r) z) := by
        intro z hz
        by_cases hzy : z = y
        · exact win_mono r _ (by omega) (fun x hx hp => ⟨hp, by rw [(ext_up (by omega) hx).2, hzy]⟩) hz
        · refine absurd hz (win_no sg r _ (by omega) (fun x hx hp => ?_))
          obtain ⟨h5, h6⟩ := ext_up (by omega) hx
          rcases h x h5 hp with h7 | ⟨u, h7, h8, h9, h10⟩
          · exact absurd (h6.symm.trans h7) hzy
          · exact ⟨u, by omega, h8, h9, h10⟩
      rw [win_m hM] at hw ⊢
      exact hw.imp (k _) (k _)
    · have k : ∀ z, win M P r (va_up a (7 - r) z) → win M (fun x => P x ∧ x t = y) r (va_up a (7 - r) z) := fun z => ih _ (by omega) (by omega) (fun x hx hp => h x (ext_up (by omega) hx).1 hp)
      by_cases hM2 : M (7 - r) = true
      · rw [win_m hM2] at hw ⊢
        exact hw.imp (k _) (k _)
      · rw [win_b hM2] at hw ⊢
        exact hw.imp (k _) (k _)
/-- the values F stand in the play x -/
def agr (F : Nat → Option Bool) (x : Nat → Bool) : Prop := ∀ u, u < 8 → ∀ y, F u = some y → x u = y
/-- the clause w is open under F: no literal that is so, no variable with both -/
def opn (w : Int32) (F : Nat → Option Bool) : Prop := ∀ u, u < 8 → (∀ y, F u = some y → lit w u y = false) ∧ ¬ (lit w u true = true ∧ lit w u false = true)
/-- an open variable of the clause -/
def fre (w : Int32) (F : Nat → Option Bool) (u : Nat) : Prop := F u = none ∧ (lit w u true = true ∨ lit w u false = true)
theorem opn_hold {w : Int32} {F : Nat → Option Bool} {x : Nat → Bool} (ho : opn w F) (ha : agr F x) (hh : hold w x) : ∃ u, u < 8 ∧ fre w F u ∧ x u = lit w u true := by
  obtain ⟨u, hu, hl⟩ := hh
  obtain ⟨h1, h2⟩ := ho u hu
  refine ⟨u, hu, ⟨?_, ?_⟩, ?_⟩
  · cases hF : F u with
    | none => rfl
    | some y =>
      have h3 := h1 y hF
      rw [ha u hu y hF, h3] at hl
      cases hl
  · cases hx : x u with
    | true => rw [hx] at hl; exact Or.inl hl
    | false => rw [hx] at hl; exact Or.inr hl
  · cases hx : x u with
    | true => rw [hx] at hl; exact hl.symm
    | false =>
      rw [hx] at hl
      cases ht : lit w u true with
      | false => rfl
      | true => exact absurd ⟨ht, hl⟩ h2
/-- what forced steps keep -/
def Der (M : Nat → Bool) (P : (Nat → Bool) → Prop) (v : Nat) (a : Nat → Bool) (b : Bool) (F : Nat → Option Bool) : Prop :=
  (∀ u, u < v → F u = some (a u)) ∧ (b = true → ¬ win M P (8 - v) a) ∧ (b = false → win M P (8 - v) a → win M (fun x => P x ∧ agr F x) (8 - v) a)
theorem Der_0 {M : Nat → Bool} {P : (Nat → Bool) → Prop} {v : Nat} {a : Nat → Bool} {V : Nat → Option Bool} (hv : v ≤ 8) (hV : ∀ u, u < 8 → V u = if u < v then some (a u) else none) : Der M P v a false V := by
  refine ⟨fun u hu => by rw [hV u (by omega), if_pos hu], fun h => (by cases h), fun _ hw => win_mono _ _ (by omega) (fun x hx hp => ⟨hp, fun u hu y hy => ?_⟩) hw⟩
  rw [hV u hu] at hy
  by_cases huv : u < v
  · rw [if_pos huv] at hy
    rw [hx u (by omega)]
    exact Option.some.inj hy
  · rw [if_neg huv] at hy
    cases hy
theorem Der_lost {M : Nat → Bool} {P : (Nat → Bool) → Prop} {v : Nat} {a : Nat → Bool} {F : Nat → Option Bool} {w : Int32} (hv : v ≤ 8) (hD : Der M P v a false F) (hP : ∀ x, P x → hold w x) (ho : opn w F) (hn : ∀ u, u < 8 → fre w F u → M u = false) : Der M P v a true F := by
  refine ⟨hD.1, fun _ hw => ?_, fun h => by cases h⟩
  refine win_no (fun u => lit w u true) (8 - v) a (by omega) (fun x hx hp => ?_) (hD.2.2 rfl hw)
  obtain ⟨u, h1, h2, h3⟩ := opn_hold ho hp.2 (hP x hp.1)
  refine ⟨u, ?_, h1, hn u h1 h2, h3⟩
  rcases Nat.lt_or_ge u v with q | q
  · have := hD.1 u q
    rw [h2.1] at this
    cases this
  · omega
theorem Der_force {M : Nat → Bool} {P : (Nat → Bool) → Prop} {v : Nat} {a : Nat → Bool} {F : Nat → Option Bool} {w : Int32} {t : Nat} (hv : v ≤ 8) (hD : Der M P v a false F) (hP : ∀ x, P x → hold w x) (ho : opn w F) (ht : t < 8) (hMt : M t = true) (hft : fre w F t) (hn : ∀ u, u < 8 → fre w F u → u = t ∨ (t < u ∧ M u = false)) : Der M P v a false (va_up F t (some (lit w t true))) := by
  have hvt : v ≤ t := by
    rcases Nat.lt_or_ge t v with q | q
    · have := hD.1 t q
      rw [hft.1] at this
      cases this
    · exact q
  refine ⟨fun u hu => by rw [va_up_ne _ _ (by omega)]; exact hD.1 u hu, fun h => (by cases h), fun _ hw => ?_⟩
  have h1 := win_forced (fun u => lit w u true) (y := lit w t true) ht hMt (8 - v) a (by omega) (by omega) (fun x hx hp => by
    obtain ⟨u, h1, h2, h3⟩ := opn_hold ho hp.2 (hP x hp.1)
    rcases hn u h1 h2 with rfl | ⟨h4, h5⟩
    · exact Or.inl h3
    · exact Or.inr ⟨u, h4, h1, h5, h3⟩) (hD.2.2 rfl hw)
  refine win_mono _ _ (by omega) (fun x _ hp => ⟨hp.1.1, fun u hu y hy => ?_⟩) h1
  by_cases hut : u = t
  · subst hut
    rw [va_up_self] at hy
    rw [hp.2]
    exact Option.some.inj hy
  · rw [va_up_ne _ _ hut] at hy
    exact hp.1.2 u hu y hy
/-- a value that follows for MAKER's next variable settles it -/
theorem Der_next {M : Nat → Bool} {P : (Nat → Bool) → Prop} {v : Nat} {a : Nat → Bool} {b : Bool} {F : Nat → Option Bool} {y : Bool} (hv : v < 8) (hD : Der M P v a b F) (hM : M v = true) (hF : F v = some y) : win M P (8 - v) a ↔ win M P (7 - v) (va_up a v y) := by
  obtain ⟨r, hr⟩ : ∃ r, r = 7 - v := ⟨_, rfl⟩
  have e1 : 8 - v = r + 1 := by omega
  have e2 : v = 7 - r := by omega
  rw [← hr]
  constructor
  · intro hw
    cases b with
    | true => exact absurd hw (hD.2.1 rfl)
    | false =>
      have h1 := hD.2.2 rfl hw
      rw [e1] at h1
      rw [e2] at hM hF ⊢
      rw [win_m hM] at h1
      have k : ∀ z, win M (fun x => P x ∧ agr F x) r (va_up a (7 - r) z) → win M P r (va_up a (7 - r) y) := by
        intro z hz
        by_cases hzy : z = y
        · subst hzy
          exact win_mono r _ (by omega) (fun x _ hp => hp.1) hz
        · obtain ⟨x, h2, h3, h4⟩ := win_ex r _ (by omega) hz
          exact absurd ((ext_up (by omega) h2).2.symm.trans (h4 (7 - r) (by omega) y hF)) hzy
      exact h1.elim (k _) (k _)
  · intro hw
    rw [e1]
    rw [e2] at hM hw
    rw [win_m hM]
    cases y
    · exact Or.inl hw
    · exact Or.inr hw
/-- one step of the game at v, by the two values' results -/
theorem win_at {M : Nat → Bool} {P : (Nat → Bool) → Prop} {v : Nat} {a : Nat → Bool} (hv : v < 8) : win M P (8 - v) a ↔ if M v = true then win M P (7 - v) (va_up a v false) ∨ win M P (7 - v) (va_up a v true) else win M P (7 - v) (va_up a v false) ∧ win M P (7 - v) (va_up a v true) := by
  obtain ⟨r, hr⟩ : ∃ r, r = 7 - v := ⟨_, rfl⟩
  have e1 : 8 - v = r + 1 := by omega
  have e2 : v = 7 - r := by omega
  rw [← hr, e1, e2, win_s]
/-- two plays that differ in v alone -/
theorem win_sim {M : Nat → Bool} {P : (Nat → Bool) → Prop} {v : Nat} {a0 : Nat → Bool} (hP : ∀ x x', ext v a0 x → (∀ u, u ≠ v → x u = x' u) → P x → P x') : ∀ r, r ≤ 7 - v → ∀ a a' : Nat → Bool, ext v a0 a → (∀ u, u ≠ v → a u = a' u) → win M P r a → win M P r a' := by
  intro r
  induction r with
  | zero => intro _ a a' h1 h2; exact hP a a' h1 h2
  | succ r ih =>
    intro hr a a' h1 h2 hw
    have k : ∀ z, win M P r (va_up a (7 - r) z) → win M P r (va_up a' (7 - r) z) := fun z => ih (by omega) _ _ (fun u hu => by rw [va_up_ne _ _ (by omega)]; exact h1 u hu) (fun u hu => by
      by_cases hq : u = 7 - r
      · rw [hq, va_up_self, va_up_self]
      · rw [va_up_ne _ _ hq, va_up_ne _ _ hq]; exact h2 u hu)
    by_cases hM : M (7 - r) = true
    · rw [win_m hM] at hw ⊢
      exact hw.imp (k _) (k _)
    · rw [win_b hM] at hw ⊢
      exact hw.imp (k _) (k _)
theorem play_idle {n : Nat} {lo : Int32} {L : Nat → Int32} {V : Nat → Option Bool} {v : Nat} {a : Nat → Bool} (hV : ∀ u, u < 8 → V u = if u < v then some (a u) else none) (hn : ∀ k, k < n → nI k ≠ lo → opn (L k) V → lit (L k) v true = false ∧ lit (L k) v false = false) (x x' : Nat → Bool) (hx : ext v a x) (hs : ∀ u, u ≠ v → x u = x' u) : allH n lo L x → allH n lo L x' := by
  intro h k hk hlo
  by_cases ho : opn (L k) V
  · obtain ⟨u, hu, hl⟩ := h k hk hlo
    have huv : u ≠ v := by
      intro q
      subst q
      obtain ⟨h1, h2⟩ := hn k hk hlo ho
      cases hxu : x u with
      | true => rw [hxu, h1] at hl; cases hl
      | false => rw [hxu, h2] at hl; cases hl
    exact ⟨u, hu, by rw [← hs u huv]; exact hl⟩
  · refine Classical.byContradiction fun hc => ho fun u hu => ⟨fun y hy => ?_, fun hb => ?_⟩
    · cases hl : lit (L k) u y with
      | false => rfl
      | true =>
        refine absurd ⟨u, hu, ?_⟩ hc
        rw [hV u hu] at hy
        by_cases huv : u < v
        · rw [if_pos huv] at hy
          rw [← hs u (by omega), hx u huv, Option.some.inj hy]
          exact hl
        · rw [if_neg huv] at hy
          cases hy
    · refine hc ⟨u, hu, ?_⟩
      cases x' u with
      | true => exact hb.1
      | false => exact hb.2
/-- a variable that no open clause has: both values are alike -/
theorem win_idle {M : Nat → Bool} {n : Nat} {lo : Int32} {L : Nat → Int32} {V : Nat → Option Bool} {v : Nat} {a : Nat → Bool} (hv : v < 8) (hV : ∀ u, u < 8 → V u = if u < v then some (a u) else none) (hn : ∀ k, k < n → nI k ≠ lo → opn (L k) V → lit (L k) v true = false ∧ lit (L k) v false = false) : win M (allH n lo L) (8 - v) a ↔ win M (allH n lo L) (7 - v) (va_up a v false) := by
  have k : ∀ y z, win M (allH n lo L) (7 - v) (va_up a v y) → win M (allH n lo L) (7 - v) (va_up a v z) := fun y z => win_sim (v := v) (a0 := a) (play_idle hV hn) (7 - v) (Nat.le_refl _) _ _ (fun u hu => va_up_ne _ _ (by omega)) (fun u hu => by rw [va_up_ne _ _ hu, va_up_ne _ _ hu])
  rw [win_at hv]
  by_cases hM : M v = true
  · rw [if_pos hM]
    exact ⟨fun h => h.elim id (k _ _), Or.inl⟩
  · rw [if_neg hM]
    exact ⟨fun h => h.1, fun h => ⟨h, k _ _ h⟩⟩
theorem allH_ext {n : Nat} {lo : Int32} {L : Nat → Int32} (x x' : Nat → Bool) (h : ext 8 x x') : allH n lo L x → allH n lo L x' := by
  intro ha k hk hlo
  obtain ⟨v, hv, hl⟩ := ha k hk hlo
  exact ⟨v, hv, by rw [h v hv]; exact hl⟩
/-- the same game by the numbers of its positions -/
def winq (M : Nat → Bool) (P : (Nat → Bool) → Prop) : Nat → Nat → Prop
  | 0, q => P (fun v => q.testBit (7 - v))
  | r + 1, q => if M (7 - r) = true then winq M P r (2 * q) ∨ winq M P r (2 * q + 1) else winq M P r (2 * q) ∧ winq M P r (2 * q + 1)
theorem winq_s {M : Nat → Bool} {P : (Nat → Bool) → Prop} {r q : Nat} : winq M P (r + 1) q = if M (7 - r) = true then winq M P r (2 * q) ∨ winq M P r (2 * q + 1) else winq M P r (2 * q) ∧ winq M P r (2 * q + 1) := rfl
theorem tb_e0 (q : Nat) : (2 * q).testBit 0 = false := by
  rw [Nat.testBit_zero]
  exact decide_eq_false (by omega)
theorem tb_o0 (q : Nat) : (2 * q + 1).testBit 0 = true := by
  rw [Nat.testBit_zero]
  exact decide_eq_true (by omega)
theorem tb_es (q i : Nat) : (2 * q).testBit (i + 1) = q.testBit i := by rw [Nat.testBit_succ, show 2 * q / 2 = q by omega]
theorem tb_os (q i : Nat) : (2 * q + 1).testBit (i + 1) = q.testBit i := by rw [Nat.testBit_succ, show (2 * q + 1) / 2 = q by omega]
theorem win_q {M : Nat → Bool} {P : (Nat → Bool) → Prop} (hP : ∀ x x', ext 8 x x' → P x → P x') : ∀ (r q : Nat) (a : Nat → Bool), r ≤ 8 → (∀ v, v < 8 - r → a v = q.testBit (7 - r - v)) → (win M P r a ↔ winq M P r q) := by
  intro r
  induction r with
  | zero =>
    intro q a _ h
    exact ⟨hP _ _ (fun u hu => (h u hu).symm), hP _ _ (fun u hu => h u hu)⟩
  | succ r ih =>
    intro q a hr h
    have k0 : win M P r (va_up a (7 - r) false) ↔ winq M P r (2 * q) := ih _ _ (by omega) (fun v hv => by
      by_cases hv7 : v = 7 - r
      · rw [hv7, va_up_self, Nat.sub_self, tb_e0]
      · rw [va_up_ne _ _ hv7, h v (by omega), show 7 - r - v = (7 - (r + 1) - v) + 1 by omega, tb_es])
    have k1 : win M P r (va_up a (7 - r) true) ↔ winq M P r (2 * q + 1) := ih _ _ (by omega) (fun v hv => by
      by_cases hv7 : v = 7 - r
      · rw [hv7, va_up_self, Nat.sub_self, tb_o0]
      · rw [va_up_ne _ _ hv7, h v (by omega), show 7 - r - v = (7 - (r + 1) - v) + 1 by omega, tb_os])
    rw [win_s, winq_s, k0, k1]
theorem winq_iff {M M' : Nat → Bool} {P P' : (Nat → Bool) → Prop} (hM : ∀ k, k < 8 → M k = M' k) (hP : ∀ x, P x ↔ P' x) : ∀ r q : Nat, winq M P r q ↔ winq M' P' r q := by
  intro r
  induction r with
  | zero => intro q; exact hP _
  | succ r ih =>
    intro q
    rw [winq_s, winq_s, hM (7 - r) (by omega), ih, ih]
theorem winq_mono {M : Nat → Bool} {P P' : (Nat → Bool) → Prop} (hP : ∀ x, P x → P' x) : ∀ r q : Nat, winq M P r q → winq M P' r q := by
  intro r
  induction r with
  | zero => intro q; exact hP _
  | succ r ih =>
    intro q h
    rw [winq_s] at h ⊢
    by_cases hM : M (7 - r) = true
    · rw [if_pos hM] at h ⊢
      exact h.imp (ih _) (ih _)
    · rw [if_neg hM] at h ⊢
      exact h.imp (ih _) (ih _)
/-- the position q is won for MAKER -/
def WON (M : Nat → Bool) (n : Nat) (lo : Int32) (L : Nat → Int32) (q : Nat) : Prop := winq M (allH n lo L) (8 - Nat.log2 q) q
theorem lg_is : ∀ q, q < 512 → ∀ k, k < 9 → 2 ^ k ≤ q → q < 2 ^ (k + 1) → Nat.log2 q = k := by decide +kernel
theorem lg_lt : ∀ q, q < 512 → Nat.log2 q < 9 := by decide +kernel
theorem lg_lo : ∀ q, q < 512 → 1 ≤ q → 2 ^ Nat.log2 q ≤ q ∧ q < 2 ^ (Nat.log2 q + 1) := by decide +kernel
theorem lg_2 : ∀ q, q < 256 → 1 ≤ q → Nat.log2 (2 * q) = Nat.log2 q + 1 ∧ Nat.log2 (2 * q + 1) = Nat.log2 q + 1 ∧ Nat.log2 q < 8 := by decide +kernel
theorem lg_8 : ∀ q, q < 512 → Nat.log2 q ≠ 8 → q < 256 := by decide +kernel
/-- what QbfDesk.lengthOf has counted before it looks at k -/
def lenK (q : Nat) : Nat → Nat
  | 0 => 0
  | k + 1 => if q / 2 ^ (k + 1) = 0 then lenK q k else k + 1
theorem lenK_8 : ∀ q, q < 512 → lenK q 8 = Nat.log2 q := by decide +kernel
theorem WON_won {M : Nat → Bool} {n : Nat} {lo : Int32} {L : Nat → Int32} {q : Nat} (h1 : q < 512) : win M (allH n lo L) (8 - Nat.log2 q) (fun v => q.testBit (Nat.log2 q - 1 - v)) ↔ WON M n lo L q := by
  have := lg_lt q h1
  refine win_q allH_ext _ _ _ (by omega) (fun v hv => ?_)
  show q.testBit (Nat.log2 q - 1 - v) = _
  congr 1
  omega
theorem WON_iff {M M' : Nat → Bool} {n : Nat} {lo : Int32} {L L' : Nat → Int32} (hM : ∀ k, k < 8 → M k = M' k) (hL : ∀ k, k < n → L k = L' k) (q : Nat) : WON M n lo L q ↔ WON M' n lo L' q := by
  refine winq_iff hM (fun x => ⟨fun h k hk hlo => ?_, fun h k hk hlo => ?_⟩) _ _
  · rw [← hL k hk]; exact h k hk hlo
  · rw [hL k hk]; exact h k hk hlo
/-- a position that is won stays so without a clause -/
theorem WON_spare {M : Nat → Bool} {n : Nat} {lo : Int32} {L : Nat → Int32} {q : Nat} (hn : n < 1000) (h : WON M n (-1) L q) : WON M n lo L q := by
  refine winq_mono (fun x h k hk _ => h k hk ?_) _ _ h
  intro e
  have h2 := nI_pos (n := k) (by omega)
  rw [e] at h2
  exact h2 (by decide)
theorem WON_last {M : Nat → Bool} {n : Nat} {lo : Int32} {L : Nat → Int32} {q : Nat} (h : Nat.log2 q = 8) : WON M n lo L q ↔ allH n lo L (fun v => q.testBit (7 - v)) := by
  unfold WON
  rw [h]
  exact Iff.rfl
theorem WON_step {M : Nat → Bool} {n : Nat} {lo : Int32} {L : Nat → Int32} {q : Nat} (h1 : 1 ≤ q) (h2 : q < 256) : WON M n lo L q ↔ if M (Nat.log2 q) = true then WON M n lo L (2 * q) ∨ WON M n lo L (2 * q + 1) else WON M n lo L (2 * q) ∧ WON M n lo L (2 * q + 1) := by
  obtain ⟨e1, e2, e3⟩ := lg_2 q h2 h1
  unfold WON
  rw [e1, e2]
  generalize Nat.log2 q = k at e3
  obtain ⟨r, hr⟩ : ∃ r, r = 7 - k := ⟨_, rfl⟩
  rw [show 8 - k = r + 1 by omega, show 8 - (k + 1) = r by omega, show k = 7 - r by omega, winq_s]
end
section
/-! Int32 words of this program: one bit, two bits of a clause, a bit set or cleared -/
theorem bI_0 {b : Bool} : bI b = 0 ↔ b = false := by cases b <;> decide
theorem bI_1 {b : Bool} : bI b = 1 ↔ b = true := by cases b <;> decide
theorem bI_n0 {b : Bool} : ¬ bI b = 0 ↔ b = true := by cases b <;> decide
theorem bI_inj {a b : Bool} : bI a = bI b ↔ a = b := by cases a <;> cases b <;> decide
theorem eI_0 {o : Option Bool} : eI o = 0 ↔ o = some false := by
  match o with
  | none => decide
  | some false => decide
  | some true => decide
theorem eI_1 {o : Option Bool} : eI o = 1 ↔ o = some true := by
  match o with
  | none => decide
  | some false => decide
  | some true => decide
theorem eI_neg {o : Option Bool} : eI o < 0 ↔ o = none := by
  match o with
  | none => decide
  | some false => decide
  | some true => decide
theorem eI_b (b : Bool) : eI (some b) = bI b := by cases b <;> rfl
theorem nar_b (b : Bool) : narrow .boolean (.int (bI b)) = .int (bI b) := by cases b <;> rfl
theorem fit_b (b : Bool) : fits .boolean (.int (bI b)) = true := by cases b <;> rfl
theorem vnar_b (b : Bool) : vp_nar .boolean (bI b) = bI b := by cases b <;> rfl
theorem bt_nI (q : Nat) {i : Nat} (h : i < 32) : bt (nI q) i = q.testBit i := by
  show (BitVec.ofNat 32 q).getLsbD i = _
  rw [BitVec.getLsbD_ofNat, decide_eq_true h, Bool.true_and]
theorem bt_one : ∀ i, i < 32 → bt 1 i = decide (i = 0) := by decide +kernel
theorem bt_bI : ∀ b : Bool, ∀ i, i < 32 → bt (bI b) i = (decide (i = 0) && b) := by decide +kernel
/-- one bit by an unsigned shift -/
theorem sh_u1 (w : Int32) {j : Nat} (hj : j < 32) : ((w.toUInt32 >>> ((nI j).toUInt32 &&& Int32.toUInt32 31)).toInt32 &&& 1) = bI (bt w j) := by
  refine b_ext fun i hi => ?_
  rw [b_and, b_ushr j hj w i, bt_one i hi, bt_bI _ i hi]
  by_cases h : i = 0
  · subst h
    simp
  · simp [h]
/-- one bit by a signed shift -/
theorem sh_s1 (w : Int32) {j : Nat} (hj : j < 32) : ((w >>> (nI j &&& 31)) &&& 1) = bI (bt w j) := by
  refine b_ext fun i hi => ?_
  rw [b_and, b_sshr j hj w hi, bt_one i hi, bt_bI _ i hi]
  by_cases h : i = 0
  · subst h
    simp [hj]
  · simp [h]
/-- the two bits of a variable in a clause -/
def hN (p q : Bool) : Int32 := match p, q with
  | false, false => 0
  | true, false => 1
  | false, true => 2
  | true, true => 3
theorem hN_bt : ∀ p q : Bool, ∀ i, i < 32 → bt (hN p q) i = ((decide (i = 0) && p) || (decide (i = 1) && q)) := by decide +kernel
theorem bt_three : ∀ i, i < 32 → bt 3 i = decide (i < 2) := by decide +kernel
theorem sh_u3 (w : Int32) {v : Nat} (hv : v < 8) : ((w.toUInt32 >>> ((nI (2 * v)).toUInt32 &&& Int32.toUInt32 31)).toInt32 &&& 3) = hN (lit w v true) (lit w v false) := by
  refine b_ext fun i hi => ?_
  rw [b_and, b_ushr (2 * v) (by omega) w i, bt_three i hi, hN_bt _ _ i hi]
  show (bt w (2 * v + i) && _) = ((_ && bt w (2 * v)) || (_ && bt w (2 * v + 1)))
  by_cases h : i = 0
  · subst h
    simp
  · by_cases h1 : i = 1
    · subst h1
      simp
    · have h2 : ¬ i < 2 := by omega
      simp [h, h1, h2]
theorem hN_a1 (p q : Bool) : (hN p q &&& 1) = bI p := by cases p <;> cases q <;> decide
theorem hN_a2 (p q : Bool) : (hN p q &&& 2) = 0 ↔ q = false := by cases p <;> cases q <;> decide
theorem hN_0 (p q : Bool) : hN p q = 0 ↔ p = false ∧ q = false := by cases p <;> cases q <;> decide
theorem hN_3 (p q : Bool) : hN p q = 3 ↔ p = true ∧ q = true := by cases p <;> cases q <;> decide
/-- the bit of a variable's number -/
def bit1 (j : Nat) : Int32 := (1 : Int32) <<< (nI j &&& 31)
theorem bt_bit1 : ∀ j, j < 8 → ∀ i, i < 32 → bt (bit1 j) i = decide (i = j) := by decide +kernel
theorem and7 (x : Int32) : ∃ j : Nat, j < 8 ∧ x &&& 7 = nI j := pk_andE x (m := 7) 3 (by decide)
theorem bt_set (mk : Int32) {j i : Nat} (hj : j < 8) (hi : i < 8) : bt (mk ||| bit1 j) i = if i = j then true else bt mk i := by
  rw [b_or, bt_bit1 j hj i (by omega)]
  by_cases h : i = j
  · simp [h]
  · simp [h]
theorem bt_clr (mk : Int32) {j i : Nat} (hj : j < 8) (hi : i < 8) : bt (mk &&& (bit1 j ^^^ (-1))) i = if i = j then false else bt mk i := by
  rw [b_and, b_xor, bt_bit1 j hj i (by omega), b_m1 i (by omega)]
  by_cases h : i = j
  · simp [h]
  · simp [h]
theorem bt_flip (mk : Int32) {j i : Nat} (hj : j < 8) (hi : i < 8) : bt (mk ^^^ bit1 j) i = if i = j then !bt mk i else bt mk i := by
  rw [b_xor, bt_bit1 j hj i (by omega)]
  by_cases h : i = j
  · simp [h]
  · simp [h]
theorem xor_back (mk x : Int32) : (mk ^^^ x) ^^^ x = mk := by
  refine b_ext fun i _ => ?_
  rw [b_xor, b_xor]
  cases bt mk i <;> cases bt x i <;> rfl
theorem mul2 (v : Nat) : (2 : Int32) * nI v = nI (2 * v) := pk_mul 2 v
theorem upd_nI {f : Nat → Int32} {k : Nat} (hk : k < 2 ^ 31) (x : Int32) : upd f (nI k).toNatClampNeg x = va_up f k x := by
  rw [nI_clamp hk]
  rfl
theorem upd_e {V : Nat → Option Bool} {k : Nat} (hk : k < 2 ^ 31) (o : Option Bool) : upd (fun j => eI (V j)) (nI k).toNatClampNeg (eI o) = fun j => eI (va_up V k o j) := by
  rw [nI_clamp hk]
  funext j
  by_cases h : j = k
  · subst h
    simp [upd, va_up]
  · simp [upd, va_up, h]
theorem upd_b {V : Nat → Bool} {k : Nat} (hk : k < 2 ^ 31) (o : Bool) : upd (fun j => bI (V j)) (nI k).toNatClampNeg (vp_nar .boolean (bI o)) = fun j => bI (va_up V k o j) := by
  rw [nI_clamp hk, vnar_b]
  funext j
  by_cases h : j = k
  · subst h
    simp [upd, va_up]
  · simp [upd, va_up, h]
theorem up_same {α : Type} {f : Nat → α} {k : Nat} {x : α} (h : f k = x) : va_up f k x = f := by
  funext j
  by_cases hj : j = k
  · rw [hj, va_up_self, h]
  · rw [va_up_ne _ _ hj]
theorem up_up {α : Type} (f : Nat → α) (k : Nat) (x y : α) : va_up (va_up f k x) k y = va_up f k y := by
  funext j
  by_cases hj : j = k
  · rw [hj, va_up_self, va_up_self]
  · rw [va_up_ne _ _ hj, va_up_ne _ _ hj, va_up_ne _ _ hj]
end
section
/-! what the two desks answer, as functions of the one state: makers M, n clauses L -/
noncomputable def wonB (M : Nat → Bool) (n : Nat) (lo : Int32) (L : Nat → Int32) (q : Nat) : Bool := @decide (WON M n lo L q) (Classical.propDecidable _)
theorem wonB_iff {M : Nat → Bool} {n : Nat} {lo : Int32} {L : Nat → Int32} {q : Nat} : wonB M n lo L q = true ↔ WON M n lo L q := by
  unfold wonB
  exact @decide_eq_true_iff _ (Classical.propDecidable _)
theorem wonB_of {M : Nat → Bool} {n : Nat} {lo : Int32} {L : Nat → Int32} {q : Nat} {w : Bool} (h : w = true ↔ WON M n lo L q) : w = wonB M n lo L q := by
  rw [← wonB_iff] at h
  exact Bool.eq_iff_iff.mpr h
theorem wonB_congr {M M' : Nat → Bool} {n : Nat} {lo : Int32} {L L' : Nat → Int32} (hM : ∀ k, k < 8 → M k = M' k) (hL : ∀ k, k < n → L k = L' k) : wonB M n lo L = wonB M' n lo L' := by
  funext q
  exact wonB_of (by rw [wonB_iff]; exact WON_iff hM hL q)
def cntN (f : Nat → Bool) (a : Nat) : Nat → Nat
  | 0 => 0
  | d + 1 => cntN f a d + (match f (a + d) with | true => 1 | false => 0)
theorem cntN_le (f : Nat → Bool) (a : Nat) : ∀ d, cntN f a d ≤ d
  | 0 => Nat.le_refl _
  | d + 1 => by
    have := cntN_le f a d
    show cntN f a d + (match f (a + d) with | true => 1 | false => 0) ≤ d + 1
    cases f (a + d) <;> dsimp only <;> omega
noncomputable def ansWon (M : Nat → Bool) (n : Nat) (L : Nat → Int32) (x : Int32) : Int32 := if x < 1 ∨ 511 < x then -1 else bI (wonB M n (-1) L x.toNatClampNeg)
def choB (f : Nat → Bool) (y : Bool) (q : Nat) : Int32 := if f (2 * q) = y then 0 else if f (2 * q + 1) = y then 1 else 2
noncomputable def ansCho (M : Nat → Bool) (n : Nat) (L : Nat → Int32) (x : Int32) : Int32 := if x < 1 ∨ 255 < x then -1 else choB (wonB M n (-1) L) (M (Nat.log2 x.toNatClampNeg)) x.toNatClampNeg
noncomputable def ansCnt (M : Nat → Bool) (n : Nat) (L : Nat → Int32) (x : Int32) : Int32 := if x < 0 ∨ 8 < x then -1 else nI (cntN (wonB M n (-1) L) (2 ^ x.toNatClampNeg) (2 ^ x.toNatClampNeg))
noncomputable def ansSpa (M : Nat → Bool) (n : Nat) (L : Nat → Int32) (x : Int32) : Int32 := if x < 0 ∨ ¬ x < nI n then -1 else bI (wonB M n x L 1)
def flipM (M : Nat → Bool) (j : Nat) : Nat → Bool := fun k => if k = j then !M k else M k
theorem rg_of {x N : Int32} {n : Nat} (hN : N.toInt = n) (h1 : ¬ x < 1) (h2 : x ≤ N) : ∃ j : Nat, 1 ≤ j ∧ j ≤ n ∧ x = nI j := by
  rw [Int32.lt_iff_toInt_lt, show (1 : Int32).toInt = 1 by decide] at h1
  obtain ⟨j, h3, rfl⟩ := nI_of2 hN (by rw [Int32.lt_iff_toInt_lt, Int32.toInt_zero]; omega) h2
  refine ⟨j, ?_, h3, rfl⟩
  rcases Nat.eq_zero_or_pos j with z | z
  · rw [z, nI_0, Int32.toInt_zero] at h1
    omega
  · exact z
theorem rg_gt {x N : Int32} (h : x ≤ N) : ¬ N < x := by
  rw [Int32.le_iff_toInt_le] at h
  rw [Int32.lt_iff_toInt_lt]
  omega
theorem rg_ng {x N : Int32} (h : ¬ x ≤ N) : N < x := by
  rw [Int32.le_iff_toInt_le] at h
  rw [Int32.lt_iff_toInt_lt]
  omega
theorem rg_nl {x N : Int32} (h : ¬ x < N) : N ≤ x := by
  rw [Int32.lt_iff_toInt_lt] at h
  rw [Int32.le_iff_toInt_le]
  omega
theorem ansWon_out {M : Nat → Bool} {n : Nat} {L : Nat → Int32} {x : Int32} (h : x < 1 ∨ 511 < x) : ansWon M n L x = -1 := if_pos h
theorem ansWon_in {M : Nat → Bool} {n : Nat} {L : Nat → Int32} {q : Nat} (h1 : ¬ nI q < 1) (h2 : nI q ≤ 511) (hq : q < 512) : ansWon M n L (nI q) = bI (wonB M n (-1) L q) := by
  unfold ansWon
  rw [if_neg (fun h => h.elim h1 (rg_gt h2)), nI_clamp (by omega)]
theorem ansCho_out {M : Nat → Bool} {n : Nat} {L : Nat → Int32} {x : Int32} (h : x < 1 ∨ 255 < x) : ansCho M n L x = -1 := if_pos h
theorem ansCho_in {M : Nat → Bool} {n : Nat} {L : Nat → Int32} {q : Nat} (h1 : ¬ nI q < 1) (h2 : nI q ≤ 255) (hq : q < 512) : ansCho M n L (nI q) = choB (wonB M n (-1) L) (M (Nat.log2 q)) q := by
  unfold ansCho
  rw [if_neg (fun h => h.elim h1 (rg_gt h2)), nI_clamp (by omega)]
theorem ansCnt_out {M : Nat → Bool} {n : Nat} {L : Nat → Int32} {x : Int32} (h : x < 0 ∨ 8 < x) : ansCnt M n L x = -1 := if_pos h
theorem ansCnt_in {M : Nat → Bool} {n : Nat} {L : Nat → Int32} {k : Nat} (h1 : ¬ nI k < 0) (h2 : nI k ≤ 8) (hk : k < 512) : ansCnt M n L (nI k) = nI (cntN (wonB M n (-1) L) (2 ^ k) (2 ^ k)) := by
  unfold ansCnt
  rw [if_neg (fun h => h.elim h1 (rg_gt h2)), nI_clamp (by omega)]
theorem ansSpa_out {M : Nat → Bool} {n : Nat} {L : Nat → Int32} {x : Int32} (h : x < 0 ∨ ¬ x < nI n) : ansSpa M n L x = -1 := if_pos h
theorem ansSpa_in {M : Nat → Bool} {n : Nat} {L : Nat → Int32} {x : Int32} (h1 : ¬ x < 0) (h2 : x < nI n) : ansSpa M n L x = bI (wonB M n x L 1) := if_neg (fun h => h.elim h1 (fun q => q h2))
theorem sh_1k : ∀ k, k < 9 → (1 : Int32) <<< (nI k &&& 31) = nI (2 ^ k) := by decide +kernel
theorem sh_2k : ∀ k, k < 9 → (2 : Int32) <<< (nI k &&& 31) = nI (2 ^ (k + 1)) := by decide +kernel
/-- the clauses behind a drop -/
def drp (L : Nat → Int32) (j : Nat) : Nat → Int32 := fun k => if k < j then L k else L (k + 1)
end
section
theorem rg_le {x N : Int32} (h : ¬ N < x) : x ≤ N := by
  rw [Int32.lt_iff_toInt_lt] at h
  rw [Int32.le_iff_toInt_le]
  omega
end
section
/-! QbfDesk: its world, its rows, its calls. A state: makers, clauses, leftOut, literals, lost, value, follows -/
abbrev vwCl : List vw_C := [(RX0, TX0, 7), (RX1, TX1, 4)]
abbrev DkS : Type := Int32 × Nat × Int32 × (Nat → Int32) × Bool × (Nat → Option Bool) × (Nat → Option Bool)
abbrev dkW (h hl hv hf : Nat) (cA : ClassId) (u : DkS) : va_W := [(h, .inr (0, [.int u.1, .int (nI u.2.1), .ref hl, .int u.2.2.1, .ref hv, .ref hf, .int (bI u.2.2.2.2.1)])), (hl, .inl (cA, 20, .inl u.2.2.2.1)), (hv, .inl (cA, 8, .inl (fun j => eI (u.2.2.2.2.2.1 j)))), (hf, .inl (cA, 8, .inl (fun j => eI (u.2.2.2.2.2.2 j))))]
/-- the desk's cells hold the state u; nothing outside A has changed -/
def dkI (D : va_G) (A : Nat → Prop) (h hl hv hf : Nat) (cA : ClassId) (s : State) (H : Heap) (locs : List Loc) (u : DkS) : Prop :=
  va_K D vwCl [(cA, .int)] s ∧ va_P D vwCl (dkW h hl hv hf cA u) H ∧ va_D A (dkW h hl hv hf cA u) ∧ va_S A s.heap H locs ∧ ∀ q : Nat, s.heap.size ≤ q → A q
def dkB (D : va_G) (A : Nat → Prop) (h hl hv hf : Nat) (cA : ClassId) (u : DkS) (t : State) : Prop := va_P D vwCl (dkW h hl hv hf cA u) t.heap ∧ va_K D vwCl [(cA, .int)] t ∧ va_D A (dkW h hl hv hf cA u)
def dkPre (D : va_G) (h hl hv hf : Nat) (cA : ClassId) (sz : Nat) (u : DkS) (U : State) : Prop := U.heap.size = sz ∧ va_P D vwCl (dkW h hl hv hf cA u) U.heap ∧ va_K D vwCl [(cA, .int)] U ∧ va_D (fun _ => True) (dkW h hl hv hf cA u)
abbrev dkA (h hl hv hf : Nat) (cA : ClassId) (u : DkS) (sz : Nat) : Nat → Prop := va_A (dkW h hl hv hf cA u) sz
/-- a contract of the desk's: an int or a boolean comes back -/
def dkMi (l : Launch) (y : MethodName) (ws : List Cond) (rm : Room) (D : va_G) (h hl hv hf : Nat) (cA : ClassId) (As : List Value) (sz : Nat) (u : DkS) (post : Int32 → DkS → Prop) : Prop :=
  Met l y ws rm (va_Pc (.ref h :: As) (dkPre D h hl hv hf cA sz u)) (va_Qi post (dkB D (dkA h hl hv hf cA u sz) h hl hv hf cA) (dkA h hl hv hf cA u sz)) 0 0 (dkA h hl hv hf cA u sz)
/-- nothing comes back -/
def dkMv (l : Launch) (y : MethodName) (ws : List Cond) (rm : Room) (D : va_G) (h hl hv hf : Nat) (cA : ClassId) (As : List Value) (sz : Nat) (u : DkS) (post : DkS → Prop) : Prop :=
  Met l y ws rm (va_Pc (.ref h :: As) (dkPre D h hl hv hf cA sz u)) (va_Qv post (dkB D (dkA h hl hv hf cA u sz) h hl hv hf cA) (dkA h hl hv hf cA u sz)) 0 0 (dkA h hl hv hf cA u sz)
section DkMet
variable {l : Launch} {y : MethodName} {cc : ByteArray} {maxL : Nat} {rt : Option FieldType} {rm : Room} {D : va_G} {h hl hv hf : Nat} {cA : ClassId} {As : List Value} {sz : Nat} {u : DkS}
theorem dk_metI {post : Int32 → DkS → Prop} (hy : plainName y.cls = true) (hc : y.cls = RX0) (hle : (lg_sl (.ref h :: As)).length ≤ maxL)
    (body : ∀ (p : Program) (e : Env) (s : State) (m : MethodId) (args : Array Value) (below : List Frame) (meth : Method) (c : Code) (A : Nat → Prop) (ls : Array Slot), CallFix p m c cc maxL s args lw_all RX0 → meth.sig.returnType = rt → meth.locks = false → dkI D A h hl hv hf cA s s.heap [] u → lv_has ls maxL (lv_args 0 (.ref h :: As)) →
      W p l e rm s m args below meth c s.heap [] 0 0 (MQ below (va_Qi post (dkB D A h hl hv hf cA) A) args s 0 0 A) (F0 m 0 ls [])) : dkMi l y (ws_ y cc maxL rt) rm D h hl hv hf cA As sz u post := by
  refine Met.ofW (cc := cc) (maxL := maxL) (ret := rt) hy rfl ?_
  intro p e s m args below meth c s₁ B hml hv
  obtain ⟨rfl, hsz, hP, hK, hD0⟩ := hv
  have hts := atoms_spec (ws := ws_ y cc maxL rt) B.pre
  have hts : ∀ w ∈ lw_all, w.before _ s = true := fun w h => hts w (List.mem_cons_of_mem _ h)
  have hown : s.vm.findClass RX0 = some m.cls := by rw [← hc]; exact findClass_of_methodNamed B.named
  subst hsz
  have hD := hD0.self (sz := s.heap.size)
  have hA : ∀ q : Nat, s.heap.size ≤ q → dkA h hl hv hf cA u s.heap.size q := fun q h => Or.inr h
  have hl := lv_entry (.ref h :: As) (n := maxL) hle
  rw [lg_entry_eq]
  exact body p e s m _ below meth c _ _ ⟨B.exec, B.bytes, hml, hown, hts⟩ B.returns B.notSynchronized ⟨hK, hP, hD, va_S.rf, hA⟩ hl
theorem dk_metV {post : DkS → Prop} (hy : plainName y.cls = true) (hc : y.cls = RX0) (hle : (lg_sl (.ref h :: As)).length ≤ maxL)
    (body : ∀ (p : Program) (e : Env) (s : State) (m : MethodId) (args : Array Value) (below : List Frame) (meth : Method) (c : Code) (A : Nat → Prop) (ls : Array Slot), CallFix p m c cc maxL s args lw_all RX0 → meth.sig.returnType = rt → meth.locks = false → dkI D A h hl hv hf cA s s.heap [] u → lv_has ls maxL (lv_args 0 (.ref h :: As)) →
      W p l e rm s m args below meth c s.heap [] 0 0 (MQ below (va_Qv post (dkB D A h hl hv hf cA) A) args s 0 0 A) (F0 m 0 ls [])) : dkMv l y (ws_ y cc maxL rt) rm D h hl hv hf cA As sz u post := by
  refine Met.ofW (cc := cc) (maxL := maxL) (ret := rt) hy rfl ?_
  intro p e s m args below meth c s₁ B hml hv
  obtain ⟨rfl, hsz, hP, hK, hD0⟩ := hv
  have hts := atoms_spec (ws := ws_ y cc maxL rt) B.pre
  have hts : ∀ w ∈ lw_all, w.before _ s = true := fun w h => hts w (List.mem_cons_of_mem _ h)
  have hown : s.vm.findClass RX0 = some m.cls := by rw [← hc]; exact findClass_of_methodNamed B.named
  subst hsz
  have hD := hD0.self (sz := s.heap.size)
  have hA : ∀ q : Nat, s.heap.size ≤ q → dkA h hl hv hf cA u s.heap.size q := fun q h => Or.inr h
  have hl := lv_entry (.ref h :: As) (n := maxL) hle
  rw [lg_entry_eq]
  exact body p e s m _ below meth c _ _ ⟨B.exec, B.bytes, hml, hown, hts⟩ B.returns B.notSynchronized ⟨hK, hP, hD, va_S.rf, hA⟩ hl
end DkMet
section DkRows
variable {p : Program} {l : Launch} {e : Env} {R : Room} {s : State} {m : MethodId} {args : Array Value} {below : List Frame} {meth : Method} {c : Code} {H : Heap} {locs : List Loc} {cells slots : Nat} {Q : State → Prop} {cc : ByteArray} {nL pc : Nat} {ls : Array Slot} {rest : List Value} {D : va_G} {A : Nat → Prop} {h hl hv hf : Nat} {cA : ClassId} {mk : Int32} {n : Nat} {lo : Int32} {L : Nat → Int32} {b : Bool} {V F : Nat → Option Bool}
/-- the number on top under another name -/
theorem w_top {x y : Int32} (hxy : x = y) (k : W p l e R s m args below meth c H locs cells slots Q (F0 m pc ls (.int y :: rest))) : W p l e R s m args below meth c H locs cells slots Q (F0 m pc ls (.int x :: rest)) := by rw [hxy]; exact k
theorem dk_makers (S : CallFix p m c cc nL s args lw_all RX0) (I : dkI D A h hl hv hf cA s H locs (mk, n, lo, L, b, V, F)) (hdg : decode cc pc = .ok (.getfield 7, 3)) (kk : W p l e R s m args below meth c H locs cells slots Q (F0 m (pc + 3) ls (.int mk :: rest))) : W p l e R s m args below meth c H locs cells slots Q (F0 m pc ls (.ref h :: rest)) :=
  va_get (D := D) (ci := 0) (v := .int mk) (C := RX0) (T := TX0) (N := 7) S.1 S.2.1 S.2.2.2.2 in_X0 S.2.2.2.1 I.1 I.2.1 0 rfl rfl 0 (by decide) (S.2.2.2.2 _ q21) (fun _ h9 => h9) rfl hdg kk
theorem dk_clauses (S : CallFix p m c cc nL s args lw_all RX0) (I : dkI D A h hl hv hf cA s H locs (mk, n, lo, L, b, V, F)) (hdg : decode cc pc = .ok (.getfield 26, 3)) (kk : W p l e R s m args below meth c H locs cells slots Q (F0 m (pc + 3) ls (.int (nI n) :: rest))) : W p l e R s m args below meth c H locs cells slots Q (F0 m pc ls (.ref h :: rest)) :=
  va_get (D := D) (ci := 0) (v := .int (nI n)) (C := RX0) (T := TX0) (N := 7) S.1 S.2.1 S.2.2.2.2 in_X0 S.2.2.2.1 I.1 I.2.1 0 rfl rfl 1 (by decide) (S.2.2.2.2 _ q22) (fun _ h9 => h9) rfl hdg kk
theorem dk_literals (S : CallFix p m c cc nL s args lw_all RX0) (I : dkI D A h hl hv hf cA s H locs (mk, n, lo, L, b, V, F)) (hdg : decode cc pc = .ok (.getfield 13, 3)) (kk : W p l e R s m args below meth c H locs cells slots Q (F0 m (pc + 3) ls (.ref hl :: rest))) : W p l e R s m args below meth c H locs cells slots Q (F0 m pc ls (.ref h :: rest)) :=
  va_get (D := D) (ci := 0) (v := .ref hl) (C := RX0) (T := TX0) (N := 7) S.1 S.2.1 S.2.2.2.2 in_X0 S.2.2.2.1 I.1 I.2.1 0 rfl rfl 2 (by decide) (S.2.2.2.2 _ q23) (fun _ h9 => h9) rfl hdg kk
theorem dk_leftOut (S : CallFix p m c cc nL s args lw_all RX0) (I : dkI D A h hl hv hf cA s H locs (mk, n, lo, L, b, V, F)) (hdg : decode cc pc = .ok (.getfield 23, 3)) (kk : W p l e R s m args below meth c H locs cells slots Q (F0 m (pc + 3) ls (.int lo :: rest))) : W p l e R s m args below meth c H locs cells slots Q (F0 m pc ls (.ref h :: rest)) :=
  va_get (D := D) (ci := 0) (v := .int lo) (C := RX0) (T := TX0) (N := 7) S.1 S.2.1 S.2.2.2.2 in_X0 S.2.2.2.1 I.1 I.2.1 0 rfl rfl 3 (by decide) (S.2.2.2.2 _ q24) (fun _ h9 => h9) rfl hdg kk
theorem dk_value (S : CallFix p m c cc nL s args lw_all RX0) (I : dkI D A h hl hv hf cA s H locs (mk, n, lo, L, b, V, F)) (hdg : decode cc pc = .ok (.getfield 17, 3)) (kk : W p l e R s m args below meth c H locs cells slots Q (F0 m (pc + 3) ls (.ref hv :: rest))) : W p l e R s m args below meth c H locs cells slots Q (F0 m pc ls (.ref h :: rest)) :=
  va_get (D := D) (ci := 0) (v := .ref hv) (C := RX0) (T := TX0) (N := 7) S.1 S.2.1 S.2.2.2.2 in_X0 S.2.2.2.1 I.1 I.2.1 0 rfl rfl 4 (by decide) (S.2.2.2.2 _ q25) (fun _ h9 => h9) rfl hdg kk
theorem dk_follows (S : CallFix p m c cc nL s args lw_all RX0) (I : dkI D A h hl hv hf cA s H locs (mk, n, lo, L, b, V, F)) (hdg : decode cc pc = .ok (.getfield 20, 3)) (kk : W p l e R s m args below meth c H locs cells slots Q (F0 m (pc + 3) ls (.ref hf :: rest))) : W p l e R s m args below meth c H locs cells slots Q (F0 m pc ls (.ref h :: rest)) :=
  va_get (D := D) (ci := 0) (v := .ref hf) (C := RX0) (T := TX0) (N := 7) S.1 S.2.1 S.2.2.2.2 in_X0 S.2.2.2.1 I.1 I.2.1 0 rfl rfl 5 (by decide) (S.2.2.2.2 _ q26) (fun _ h9 => h9) rfl hdg kk
theorem dk_lost (S : CallFix p m c cc nL s args lw_all RX0) (I : dkI D A h hl hv hf cA s H locs (mk, n, lo, L, b, V, F)) (hdg : decode cc pc = .ok (.getfield 45, 3)) (kk : W p l e R s m args below meth c H locs cells slots Q (F0 m (pc + 3) ls (.int (bI b) :: rest))) : W p l e R s m args below meth c H locs cells slots Q (F0 m pc ls (.ref h :: rest)) :=
  va_get (D := D) (ci := 0) (v := .int (bI b)) (C := RX0) (T := TX0) (N := 7) S.1 S.2.1 S.2.2.2.2 in_X0 S.2.2.2.1 I.1 I.2.1 0 rfl rfl 6 (by decide) (S.2.2.2.2 _ q27) (fun _ h9 => h9) rfl hdg kk
theorem dk_put_makers {x : Int32} (S : CallFix p m c cc nL s args lw_all RX0) (I : dkI D A h hl hv hf cA s H locs (mk, n, lo, L, b, V, F)) (hdg : decode cc pc = .ok (.putfield 7, 3)) (kk : ∀ (H1 : Heap) (locs1 : List Loc), dkI D A h hl hv hf cA s H1 locs1 (x, n, lo, L, b, V, F) → W p l e R s m args below meth c H1 locs1 cells slots Q (F0 m (pc + 3) ls rest)) : W p l e R s m args below meth c H locs cells slots Q (F0 m pc ls (.int x :: .ref h :: rest)) :=
  va_put (D := D) (ci := 0) (v := .int x) (ty := .int) (C := RX0) (T := TX0) (N := 7) S.1 S.2.1 S.2.2.2.2 in_X0 tyX0 tyX0_ok nmX0 S.2.2.2.1 I.1 I.2.1 I.2.2.1 I.2.2.2.1 0 rfl rfl 0 (by decide) (S.2.2.2.2 _ q21) (fun _ h9 => h9) rfl (by decide +kernel) rfl rfl (Nat.le_of_ble_eq_true rfl) hdg (fun H1 locs1 hP hD hS => kk H1 locs1 ⟨I.1, hP, hD, hS, I.2.2.2.2⟩)
theorem dk_put_clauses {k : Nat} (S : CallFix p m c cc nL s args lw_all RX0) (I : dkI D A h hl hv hf cA s H locs (mk, n, lo, L, b, V, F)) (hdg : decode cc pc = .ok (.putfield 26, 3)) (kk : ∀ (H1 : Heap) (locs1 : List Loc), dkI D A h hl hv hf cA s H1 locs1 (mk, k, lo, L, b, V, F) → W p l e R s m args below meth c H1 locs1 cells slots Q (F0 m (pc + 3) ls rest)) : W p l e R s m args below meth c H locs cells slots Q (F0 m pc ls (.int (nI k) :: .ref h :: rest)) :=
  va_put (D := D) (ci := 0) (v := .int (nI k)) (ty := .int) (C := RX0) (T := TX0) (N := 7) S.1 S.2.1 S.2.2.2.2 in_X0 tyX0 tyX0_ok nmX0 S.2.2.2.1 I.1 I.2.1 I.2.2.1 I.2.2.2.1 0 rfl rfl 1 (by decide) (S.2.2.2.2 _ q22) (fun _ h9 => h9) rfl (by decide +kernel) rfl rfl (Nat.le_of_ble_eq_true rfl) hdg (fun H1 locs1 hP hD hS => kk H1 locs1 ⟨I.1, hP, hD, hS, I.2.2.2.2⟩)
theorem dk_put_leftOut {x : Int32} (S : CallFix p m c cc nL s args lw_all RX0) (I : dkI D A h hl hv hf cA s H locs (mk, n, lo, L, b, V, F)) (hdg : decode cc pc = .ok (.putfield 23, 3)) (kk : ∀ (H1 : Heap) (locs1 : List Loc), dkI D A h hl hv hf cA s H1 locs1 (mk, n, x, L, b, V, F) → W p l e R s m args below meth c H1 locs1 cells slots Q (F0 m (pc + 3) ls rest)) : W p l e R s m args below meth c H locs cells slots Q (F0 m pc ls (.int x :: .ref h :: rest)) :=
  va_put (D := D) (ci := 0) (v := .int x) (ty := .int) (C := RX0) (T := TX0) (N := 7) S.1 S.2.1 S.2.2.2.2 in_X0 tyX0 tyX0_ok nmX0 S.2.2.2.1 I.1 I.2.1 I.2.2.1 I.2.2.2.1 0 rfl rfl 3 (by decide) (S.2.2.2.2 _ q24) (fun _ h9 => h9) rfl (by decide +kernel) rfl rfl (Nat.le_of_ble_eq_true rfl) hdg (fun H1 locs1 hP hD hS => kk H1 locs1 ⟨I.1, hP, hD, hS, I.2.2.2.2⟩)
theorem dk_put_lost {x : Bool} (S : CallFix p m c cc nL s args lw_all RX0) (I : dkI D A h hl hv hf cA s H locs (mk, n, lo, L, b, V, F)) (hdg : decode cc pc = .ok (.putfield 45, 3)) (kk : ∀ (H1 : Heap) (locs1 : List Loc), dkI D A h hl hv hf cA s H1 locs1 (mk, n, lo, L, x, V, F) → W p l e R s m args below meth c H1 locs1 cells slots Q (F0 m (pc + 3) ls rest)) : W p l e R s m args below meth c H locs cells slots Q (F0 m pc ls (.int (bI x) :: .ref h :: rest)) :=
  va_put (D := D) (ci := 0) (v := .int (bI x)) (ty := .boolean) (C := RX0) (T := TX0) (N := 7) S.1 S.2.1 S.2.2.2.2 in_X0 tyX0 tyX0_ok nmX0 S.2.2.2.1 I.1 I.2.1 I.2.2.1 I.2.2.2.1 0 rfl rfl 6 (by decide) (S.2.2.2.2 _ q27) (fun _ h9 => h9) rfl (by decide +kernel) (nar_b x) (fit_b x) (Nat.le_of_ble_eq_true rfl) hdg (fun H1 locs1 hP hD hS => kk H1 locs1 ⟨I.1, hP, hD, hS, I.2.2.2.2⟩)
theorem dk_aldL {k : Nat} (hk : k < 20) (S : CallFix p m c cc nL s args lw_all RX0) (I : dkI D A h hl hv hf cA s H locs (mk, n, lo, L, b, V, F)) (hdg : decode cc pc = .ok (.iaload, 1)) (kk : W p l e R s m args below meth c H locs cells slots Q (F0 m (pc + 1) ls (.int (L k) :: rest))) : W p l e R s m args below meth c H locs cells slots Q (F0 m pc ls (.int (nI k) :: .ref hl :: rest)) := by
  refine va_iald S.1 S.2.1 I.1 I.2.1 1 0 rfl rfl (vp_in_nI hk (by omega)) hdg ?_
  rw [nI_clamp (by omega)]
  exact kk
theorem dk_aldV {k : Nat} (hk : k < 8) (S : CallFix p m c cc nL s args lw_all RX0) (I : dkI D A h hl hv hf cA s H locs (mk, n, lo, L, b, V, F)) (hdg : decode cc pc = .ok (.iaload, 1)) (kk : W p l e R s m args below meth c H locs cells slots Q (F0 m (pc + 1) ls (.int (eI (V k)) :: rest))) : W p l e R s m args below meth c H locs cells slots Q (F0 m pc ls (.int (nI k) :: .ref hv :: rest)) := by
  refine va_iald S.1 S.2.1 I.1 I.2.1 2 0 rfl rfl (vp_in_nI hk (by omega)) hdg ?_
  rw [nI_clamp (by omega)]
  exact kk
theorem dk_aldF {k : Nat} (hk : k < 8) (S : CallFix p m c cc nL s args lw_all RX0) (I : dkI D A h hl hv hf cA s H locs (mk, n, lo, L, b, V, F)) (hdg : decode cc pc = .ok (.iaload, 1)) (kk : W p l e R s m args below meth c H locs cells slots Q (F0 m (pc + 1) ls (.int (eI (F k)) :: rest))) : W p l e R s m args below meth c H locs cells slots Q (F0 m pc ls (.int (nI k) :: .ref hf :: rest)) := by
  refine va_iald S.1 S.2.1 I.1 I.2.1 3 0 rfl rfl (vp_in_nI hk (by omega)) hdg ?_
  rw [nI_clamp (by omega)]
  exact kk
theorem dk_astL {k : Nat} {x : Int32} (hk : k < 20) (S : CallFix p m c cc nL s args lw_all RX0) (I : dkI D A h hl hv hf cA s H locs (mk, n, lo, L, b, V, F)) (hdg : decode cc pc = .ok (.iastore, 1)) (kk : ∀ (H1 : Heap) (locs1 : List Loc), dkI D A h hl hv hf cA s H1 locs1 (mk, n, lo, va_up L k x, b, V, F) → W p l e R s m args below meth c H1 locs1 cells slots Q (F0 m (pc + 1) ls rest)) : W p l e R s m args below meth c H locs cells slots Q (F0 m pc ls (.int x :: .int (nI k) :: .ref hl :: rest)) := by
  refine va_iast S.1 S.2.1 I.1 I.2.1 I.2.2.1 I.2.2.2.1 1 0 rfl rfl (vp_in_nI hk (by omega)) hdg (fun H1 locs1 hP hD hS => ?_)
  rw [upd_nI (by omega)] at hP hD
  exact kk H1 locs1 ⟨I.1, hP, hD, hS, I.2.2.2.2⟩
theorem dk_astV {k : Nat} (o : Option Bool) (hk : k < 8) (S : CallFix p m c cc nL s args lw_all RX0) (I : dkI D A h hl hv hf cA s H locs (mk, n, lo, L, b, V, F)) (hdg : decode cc pc = .ok (.iastore, 1)) (kk : ∀ (H1 : Heap) (locs1 : List Loc), dkI D A h hl hv hf cA s H1 locs1 (mk, n, lo, L, b, va_up V k o, F) → W p l e R s m args below meth c H1 locs1 cells slots Q (F0 m (pc + 1) ls rest)) : W p l e R s m args below meth c H locs cells slots Q (F0 m pc ls (.int (eI o) :: .int (nI k) :: .ref hv :: rest)) := by
  refine va_iast S.1 S.2.1 I.1 I.2.1 I.2.2.1 I.2.2.2.1 2 0 rfl rfl (vp_in_nI hk (by omega)) hdg (fun H1 locs1 hP hD hS => ?_)
  rw [upd_e (by omega)] at hP hD
  exact kk H1 locs1 ⟨I.1, hP, hD, hS, I.2.2.2.2⟩
theorem dk_astF {k : Nat} (o : Option Bool) (hk : k < 8) (S : CallFix p m c cc nL s args lw_all RX0) (I : dkI D A h hl hv hf cA s H locs (mk, n, lo, L, b, V, F)) (hdg : decode cc pc = .ok (.iastore, 1)) (kk : ∀ (H1 : Heap) (locs1 : List Loc), dkI D A h hl hv hf cA s H1 locs1 (mk, n, lo, L, b, V, va_up F k o) → W p l e R s m args below meth c H1 locs1 cells slots Q (F0 m (pc + 1) ls rest)) : W p l e R s m args below meth c H locs cells slots Q (F0 m pc ls (.int (eI o) :: .int (nI k) :: .ref hf :: rest)) := by
  refine va_iast S.1 S.2.1 I.1 I.2.1 I.2.2.1 I.2.2.2.1 3 0 rfl rfl (vp_in_nI hk (by omega)) hdg (fun H1 locs1 hP hD hS => ?_)
  rw [upd_e (by omega)] at hP hD
  exact kk H1 locs1 ⟨I.1, hP, hD, hS, I.2.2.2.2⟩
theorem dk_iret {u : DkS} {v : Int32} {post : Int32 → DkS → Prop} (S : CallFix p m c cc nL s args lw_all RX0) (hr : meth.sig.returnType = some .int) (hlk : meth.locks = false) (I : dkI D A h hl hv hf cA s H locs u) (hp : post v u) (hdg : decode cc pc = .ok (.ireturn, 1)) : W p l e R s m args below meth c H locs 0 0 (MQ below (va_Qi post (dkB D A h hl hv hf cA) A) args s 0 0 A) (F0 m pc ls [.int v]) :=
  W.iret (v := v) S.1 S.2.1 hr (fun t ht hW => ⟨⟨v, u, rfl, hp, by rw [ht]; exact I.2.1, va_K.moved hW.alike I.1, I.2.2.1⟩, I.2.2.2.1.F ht⟩) I.2.2.2.1.2.2 hdg hlk
theorem dk_zret {u : DkS} {v : Bool} {post : Int32 → DkS → Prop} (S : CallFix p m c cc nL s args lw_all RX0) (hr : meth.sig.returnType = some .boolean) (hlk : meth.locks = false) (I : dkI D A h hl hv hf cA s H locs u) (hp : post (bI v) u) (hdg : decode cc pc = .ok (.ireturn, 1)) : W p l e R s m args below meth c H locs 0 0 (MQ below (va_Qi post (dkB D A h hl hv hf cA) A) args s 0 0 A) (F0 m pc ls [.int (bI v)]) :=
  W.zret (v := bI v) S.1 S.2.1 hr (nar_b v) (fun t ht hW => ⟨⟨bI v, u, rfl, hp, by rw [ht]; exact I.2.1, va_K.moved hW.alike I.1, I.2.2.1⟩, I.2.2.2.1.F ht⟩) I.2.2.2.1.2.2 hdg hlk
theorem dk_vret {u : DkS} {post : DkS → Prop} (S : CallFix p m c cc nL s args lw_all RX0) (hr : meth.sig.returnType = none) (hlk : meth.locks = false) (I : dkI D A h hl hv hf cA s H locs u) (hp : post u) (hdg : decode cc pc = .ok (.return_, 1)) : W p l e R s m args below meth c H locs 0 0 (MQ below (va_Qv post (dkB D A h hl hv hf cA) A) args s 0 0 A) (F0 m pc ls []) :=
  W.vret S.1 S.2.1 hr (fun t ht hW => ⟨⟨u, rfl, hp, by rw [ht]; exact I.2.1, va_K.moved hW.alike I.1, I.2.2.1⟩, I.2.2.2.1.F ht⟩) I.2.2.2.1.2.2 hdg hlk
/-- the desk calls a method of its own -/
theorem dk_calli {u : DkS} {y : MethodName} {bytes : ByteArray} {maxL index na : Nat} {rt : Option FieldType} {rm : Room} {As st0 : List Value} {post : Int32 → DkS → Prop} (S : CallFix p m c cc nL s args lw_all RX0) (I : dkI D A h hl hv hf cA s H locs u) (hM : dkMi l y (ws_ y bytes maxL rt) rm D h hl hv hf cA As H.size u post) (cw : CallW R s args RX0 RX0 index y bytes maxL rt (ws_ y bytes maxL rt) rm 0 0 na) (hn : As.length = na) (hsz : ls.size = nL) (hro : (rest.map fun v => v.category).sum ≤ 8) (hst : st0 = As.reverse ++ .ref h :: rest) (hdg : decode cc pc = .ok (.invokevirtual index, 3))
    (kk : ∀ (r : Int32) (u' : DkS) (H1 : Heap) (locs1 : List Loc), post r u' → dkI D A h hl hv hf cA s H1 locs1 u' → W p l e R s m args below meth c H1 locs1 0 0 Q (F0 m (pc + 3) ls (.int r :: rest))) : W p l e R s m args below meth c H locs 0 0 Q (F0 m pc ls st0) := by
  obtain ⟨hK, hP, hD, hS, hA⟩ := I
  have hFc := va_free (wc := dkW h hl hv hf cA u) hD hS hA [0, 1, 2, 3] rfl
  refine va_calli (va_runV (As := As) (rest := rest) S hM cw ⟨fun a U g mk q => by obtain ⟨q0, q1, qP, qK, qD⟩ := q; exact ⟨q0, q1, qP, va_K.moved (u := U) (U := U.calling g mk a) (Vm.Alike.refl U.vm) qK, qD⟩, va_recv hK hP (ci := 0) (q0 := 0) rfl rfl, fun U hU hW => ⟨rfl, by rw [hU], by rw [hU]; exact hP, va_K.moved hW.alike hK, hD.weaken (fun _ _ _ _ => trivial)⟩⟩ rfl hn hsz hst (lv_room hro) hdg ⟨Nat.zero_le _, Nat.zero_le _⟩) hS (fun q _ h => hFc q h) hFc (fun r u' t H1 locs1 ht hvm hw hB hz1 hk1 hS => ?_)
  obtain ⟨hP1, hK1, hD1⟩ := hB
  rw [ht] at hP1
  exact kk r u' H1 locs1 hw ⟨va_K.moved hvm.symm hK1, hP1, hD1.weaken (fun k q _ h => hFc q.1 h), hS, hA⟩
theorem dk_callv {u : DkS} {y : MethodName} {bytes : ByteArray} {maxL index na : Nat} {rt : Option FieldType} {rm : Room} {As st0 : List Value} {post : DkS → Prop} (S : CallFix p m c cc nL s args lw_all RX0) (I : dkI D A h hl hv hf cA s H locs u) (hM : dkMv l y (ws_ y bytes maxL rt) rm D h hl hv hf cA As H.size u post) (cw : CallW R s args RX0 RX0 index y bytes maxL rt (ws_ y bytes maxL rt) rm 0 0 na) (hn : As.length = na) (hsz : ls.size = nL) (hro : (rest.map fun v => v.category).sum ≤ 8) (hst : st0 = As.reverse ++ .ref h :: rest) (hdg : decode cc pc = .ok (.invokevirtual index, 3))
    (kk : ∀ (u' : DkS) (H1 : Heap) (locs1 : List Loc), post u' → dkI D A h hl hv hf cA s H1 locs1 u' → W p l e R s m args below meth c H1 locs1 0 0 Q (F0 m (pc + 3) ls rest)) : W p l e R s m args below meth c H locs 0 0 Q (F0 m pc ls st0) := by
  obtain ⟨hK, hP, hD, hS, hA⟩ := I
  have hFc := va_free (wc := dkW h hl hv hf cA u) hD hS hA [0, 1, 2, 3] rfl
  refine va_callv (va_runV (As := As) (rest := rest) S hM cw ⟨fun a U g mk q => by obtain ⟨q0, q1, qP, qK, qD⟩ := q; exact ⟨q0, q1, qP, va_K.moved (u := U) (U := U.calling g mk a) (Vm.Alike.refl U.vm) qK, qD⟩, va_recv hK hP (ci := 0) (q0 := 0) rfl rfl, fun U hU hW => ⟨rfl, by rw [hU], by rw [hU]; exact hP, va_K.moved hW.alike hK, hD.weaken (fun _ _ _ _ => trivial)⟩⟩ rfl hn hsz hst (lv_room hro) hdg ⟨Nat.zero_le _, Nat.zero_le _⟩) hS (fun q _ h => hFc q h) hFc (fun u' t H1 locs1 ht hvm hw hB hz1 hk1 hS => ?_)
  obtain ⟨hP1, hK1, hD1⟩ := hB
  rw [ht] at hP1
  exact kk u' H1 locs1 hw ⟨va_K.moved hvm.symm hK1, hP1, hD1.weaken (fun k q _ h => hFc q.1 h), hS, hA⟩
end DkRows
section DkG
variable {p : Program} {l : Launch} {e : Env} {R : Room} {s : State} {m : MethodId} {args : Array Value} {below : List Frame} {meth : Method} {c : Code} {H : Heap} {locs : List Loc} {cells slots : Nat} {Q : State → Prop} {cc : ByteArray} {nL pc : Nat} {ls : Array Slot} {rest : List Value} {D : va_G} {A : Nat → Prop} {h hl hv hf : Nat} {cA : ClassId} {mk : Int32} {n : Nat} {lo : Int32} {L : Nat → Int32} {b : Bool} {V F : Nat → Option Bool}
theorem dk_aldG {kG : Nat} {G : Nat → Option Bool} (hG : (kG = hv ∧ G = V) ∨ (kG = hf ∧ G = F)) {k : Nat} (hk : k < 8) (S : CallFix p m c cc nL s args lw_all RX0) (I : dkI D A h hl hv hf cA s H locs (mk, n, lo, L, b, V, F)) (hdg : decode cc pc = .ok (.iaload, 1)) (kk : W p l e R s m args below meth c H locs cells slots Q (F0 m (pc + 1) ls (.int (eI (G k)) :: rest))) : W p l e R s m args below meth c H locs cells slots Q (F0 m pc ls (.int (nI k) :: .ref kG :: rest)) := by
  rcases hG with ⟨rfl, rfl⟩ | ⟨rfl, rfl⟩
  · exact dk_aldV hk S I hdg kk
  · exact dk_aldF hk S I hdg kk
end DkG
end
section
/-! methods that only read, and static ones -/
abbrev rmm (f k : Nat) : Room := { frames := f, cells := 0, slots := 0, locals := k }
theorem inc1 (k : Nat) : nI k + Int32.ofInt 1 = nI (k + 1) := by rw [show Int32.ofInt 1 = 1 by decide]; exact nI_1 k
theorem dec1 (k : Nat) : nI (k + 1) + Int32.ofInt (-1) = nI k := by rw [show Int32.ofInt (-1) = -1 by decide]; exact pk_m1 k
theorem inc3 (k : Nat) : nI k + Int32.ofInt 3 = nI (k + 3) := by rw [show Int32.ofInt 3 = nI 3 by decide]; exact nI_add k 3
theorem decm : nI 0 + Int32.ofInt (-1) = -1 := by decide
def dkPr (D : va_G) (h hl hv hf : Nat) (cA : ClassId) (u : DkS) (U : State) : Prop := va_P D vwCl (dkW h hl hv hf cA u) U.heap ∧ va_K D vwCl [(cA, .int)] U ∧ va_D (fun _ => True) (dkW h hl hv hf cA u)
/-- a contract of the desk's that only reads -/
def dkMr (l : Launch) (y : MethodName) (ws : List Cond) (rm : Room) (D : va_G) (h hl hv hf : Nat) (cA : ClassId) (As : List Value) (u : DkS) (post : Int32 → Prop) : Prop :=
  Met l y ws rm (va_Pc (.ref h :: As) (dkPr D h hl hv hf cA u)) (vp_Si post) 0 0 (fun _ => False)
/-- a contract of a static method of numbers -/
def stM (l : Launch) (y : MethodName) (ws : List Cond) (rm : Room) (As : List Value) (post : Int32 → Prop) : Prop :=
  Met l y ws rm (fun v _ => v = As.toArray) (vp_Si post) 0 0 (fun _ => False)
section StMet
variable {l : Launch} {y : MethodName} {cc : ByteArray} {maxL : Nat} {rt : Option FieldType} {rm : Room} {D : va_G} {h hl hv hf : Nat} {cA : ClassId} {As : List Value} {u : DkS} {own : String}
theorem dk_metR {post : Int32 → Prop} (hy : plainName y.cls = true) (hc : y.cls = RX0) (hle : (lg_sl (.ref h :: As)).length ≤ maxL)
    (body : ∀ (p : Program) (e : Env) (s : State) (m : MethodId) (args : Array Value) (below : List Frame) (meth : Method) (c : Code) (ls : Array Slot), CallFix p m c cc maxL s args lw_all RX0 → meth.sig.returnType = rt → meth.locks = false → dkI D (fun _ => True) h hl hv hf cA s s.heap [] u → lv_has ls maxL (lv_args 0 (.ref h :: As)) →
      W p l e rm s m args below meth c s.heap [] 0 0 (MQ below (vp_Si post) args s 0 0 (fun _ => False)) (F0 m 0 ls [])) : dkMr l y (ws_ y cc maxL rt) rm D h hl hv hf cA As u post := by
  refine Met.ofW (cc := cc) (maxL := maxL) (ret := rt) hy rfl ?_
  intro p e s m args below meth c s₁ B hml hv
  obtain ⟨rfl, hP, hK, hD⟩ := hv
  have hts := atoms_spec (ws := ws_ y cc maxL rt) B.pre
  have hts : ∀ w ∈ lw_all, w.before _ s = true := fun w h => hts w (List.mem_cons_of_mem _ h)
  have hown : s.vm.findClass RX0 = some m.cls := by rw [← hc]; exact findClass_of_methodNamed B.named
  have hl := lv_entry (.ref h :: As) (n := maxL) hle
  rw [lg_entry_eq]
  exact body p e s m _ below meth c _ ⟨B.exec, B.bytes, hml, hown, hts⟩ B.returns B.notSynchronized ⟨hK, hP, hD, va_S.rf, fun _ _ => trivial⟩ hl
theorem st_met {post : Int32 → Prop} (hy : plainName y.cls = true) (hc : y.cls = own) (hle : (lg_sl As).length ≤ maxL)
    (body : ∀ (p : Program) (e : Env) (s : State) (m : MethodId) (args : Array Value) (below : List Frame) (meth : Method) (c : Code) (ls : Array Slot), CallFix p m c cc maxL s args lw_all own → meth.sig.returnType = rt → meth.locks = false → lv_has ls maxL (lv_args 0 As) →
      W p l e rm s m args below meth c s.heap [] 0 0 (MQ below (vp_Si post) args s 0 0 (fun _ => False)) (F0 m 0 ls [])) : stM l y (ws_ y cc maxL rt) rm As post := by
  refine Met.ofW (cc := cc) (maxL := maxL) (ret := rt) hy rfl ?_
  intro p e s m args below meth c s₁ B hml hv
  subst hv
  have hts := atoms_spec (ws := ws_ y cc maxL rt) B.pre
  have hts : ∀ w ∈ lw_all, w.before _ s = true := fun w h => hts w (List.mem_cons_of_mem _ h)
  have hown : s.vm.findClass own = some m.cls := by rw [← hc]; exact findClass_of_methodNamed B.named
  have hl := lv_entry As (n := maxL) hle
  rw [lg_entry_eq]
  exact body p e s m _ below meth c _ ⟨B.exec, B.bytes, hml, hown, hts⟩ B.returns B.notSynchronized hl
end StMet
section StRows
variable {p : Program} {l : Launch} {e : Env} {R : Room} {s : State} {m : MethodId} {args : Array Value} {below : List Frame} {meth : Method} {c : Code} {H : Heap} {locs : List Loc} {Q : State → Prop} {cc : ByteArray} {nL pc : Nat} {ls : Array Slot} {rest : List Value} {D : va_G} {A : Nat → Prop} {h hl hv hf : Nat} {cA : ClassId} {own : String}
theorem st_iret {v : Int32} {post : Int32 → Prop} (S : CallFix p m c cc nL s args lw_all own) (hr : meth.sig.returnType = some .int) (hlk : meth.locks = false) (hp : post v) (hdg : decode cc pc = .ok (.ireturn, 1)) : W p l e R s m args below meth c s.heap [] 0 0 (MQ below (vp_Si post) args s 0 0 (fun _ => False)) (F0 m pc ls [.int v]) :=
  W.iret (v := v) S.1 S.2.1 hr (fun t ht _ => ⟨v, rfl, hp, ht⟩) (fun _ h => by cases h) hdg hlk
theorem st_zret {v : Bool} {post : Int32 → Prop} (S : CallFix p m c cc nL s args lw_all own) (hr : meth.sig.returnType = some .boolean) (hlk : meth.locks = false) (hp : post (bI v)) (hdg : decode cc pc = .ok (.ireturn, 1)) : W p l e R s m args below meth c s.heap [] 0 0 (MQ below (vp_Si post) args s 0 0 (fun _ => False)) (F0 m pc ls [.int (bI v)]) :=
  W.zret (v := bI v) S.1 S.2.1 hr (nar_b v) (fun t ht _ => ⟨bI v, rfl, hp, ht⟩) (fun _ h => by cases h) hdg hlk
/-- a static method of numbers is called -/
theorem st_call {y : MethodName} {bytes : ByteArray} {maxL index na : Nat} {rt : Option FieldType} {rm : Room} {As st0 : List Value} {post : Int32 → Prop} (S : CallFix p m c cc nL s args lw_all own) (hM : stM l y (ws_ y bytes maxL rt) rm As post) (cw : CallB R s args own index y bytes maxL rt (ws_ y bytes maxL rt) rm 0 0 na ∧ (Cond.static y).before args s = true) (hn : As.length = na) (hsz : ls.size = nL) (hro : (rest.map fun v => v.category).sum ≤ 8) (hst : st0 = As.reverse ++ rest) (hdg : decode cc pc = .ok (.invokestatic index, 3))
    (kk : ∀ r : Int32, post r → W p l e R s m args below meth c H locs 0 0 Q (F0 m (pc + 3) ls (.int r :: rest))) : W p l e R s m args below meth c H locs 0 0 Q (F0 m pc ls st0) :=
  vp_callSi (W.runS (As := As) (rest := rest) S hM cw preEq rfl hn hsz hst (lv_room hro) hdg ⟨Nat.zero_le _, Nat.zero_le _⟩) kk
/-- the desk calls a method of its own that only reads -/
theorem dk_callR {u : DkS} {y : MethodName} {bytes : ByteArray} {maxL index na : Nat} {rt : Option FieldType} {rm : Room} {As st0 : List Value} {post : Int32 → Prop} (S : CallFix p m c cc nL s args lw_all RX0) (I : dkI D A h hl hv hf cA s H locs u) (hM : dkMr l y (ws_ y bytes maxL rt) rm D h hl hv hf cA As u post) (cw : CallW R s args RX0 RX0 index y bytes maxL rt (ws_ y bytes maxL rt) rm 0 0 na) (hn : As.length = na) (hsz : ls.size = nL) (hro : (rest.map fun v => v.category).sum ≤ 8) (hst : st0 = As.reverse ++ .ref h :: rest) (hdg : decode cc pc = .ok (.invokevirtual index, 3))
    (kk : ∀ r : Int32, post r → W p l e R s m args below meth c H locs 0 0 Q (F0 m (pc + 3) ls (.int r :: rest))) : W p l e R s m args below meth c H locs 0 0 Q (F0 m pc ls st0) := by
  obtain ⟨hK, hP, hD, hS, hA⟩ := I
  refine vp_callSi (W.runV (As := As) (rest := rest) S hM cw ⟨fun a U g mk q => by obtain ⟨q0, qP, qK, qD⟩ := q; exact ⟨q0, qP, va_K.moved (u := U) (U := U.calling g mk a) (Vm.Alike.refl U.vm) qK, qD⟩, va_recv hK hP (ci := 0) (q0 := 0) rfl rfl, fun U hU hW => ⟨rfl, by rw [hU]; exact hP, va_K.moved hW.alike hK, hD.weaken (fun _ _ _ _ => trivial)⟩⟩ rfl hn hsz hst (lv_room hro) hdg ⟨Nat.zero_le _, Nat.zero_le _⟩) kk
end StRows
section Mets
variable {l : Launch} {y : MethodName} {cc : ByteArray} {maxL : Nat} {rm : Room} {D : va_G} {h hl hv hf : Nat} {cA : ClassId} {As : List Value} {sz : Nat} {u : DkS} {own : String}
/-- the end behind a name: what a body may use of it is 'ret' -/
theorem dk_mI {post : Int32 → DkS → Prop} (hy : plainName y.cls = true) (hc : y.cls = RX0) (hle : (lg_sl (.ref h :: As)).length ≤ maxL)
    (body : ∀ (p : Program) (e : Env) (s : State) (m : MethodId) (args : Array Value) (below : List Frame) (meth : Method) (c : Code) (A : Nat → Prop) (Q : State → Prop) (ls : Array Slot), CallFix p m c cc maxL s args lw_all RX0 → dkI D A h hl hv hf cA s s.heap [] u →
      (∀ (v : Int32) (u' : DkS) (pc : Nat) (ls : Array Slot) (H : Heap) (locs : List Loc), decode cc pc = .ok (.ireturn, 1) → dkI D A h hl hv hf cA s H locs u' → post v u' → W p l e rm s m args below meth c H locs 0 0 Q (F0 m pc ls [.int v])) →
      lv_has ls maxL (lv_args 0 (.ref h :: As)) → W p l e rm s m args below meth c s.heap [] 0 0 Q (F0 m 0 ls [])) : dkMi l y (ws_ y cc maxL (some .int)) rm D h hl hv hf cA As sz u post :=
  dk_metI hy hc hle (fun p e s m args below meth c A ls S hr hlk I hl => body p e s m args below meth c A _ ls S I (fun _ _ _ _ _ _ hd I hp => dk_iret S hr hlk I hp hd) hl)
theorem dk_mZ {post : Int32 → DkS → Prop} (hy : plainName y.cls = true) (hc : y.cls = RX0) (hle : (lg_sl (.ref h :: As)).length ≤ maxL)
    (body : ∀ (p : Program) (e : Env) (s : State) (m : MethodId) (args : Array Value) (below : List Frame) (meth : Method) (c : Code) (A : Nat → Prop) (Q : State → Prop) (ls : Array Slot), CallFix p m c cc maxL s args lw_all RX0 → dkI D A h hl hv hf cA s s.heap [] u →
      (∀ (v : Bool) (u' : DkS) (pc : Nat) (ls : Array Slot) (H : Heap) (locs : List Loc), decode cc pc = .ok (.ireturn, 1) → dkI D A h hl hv hf cA s H locs u' → post (bI v) u' → W p l e rm s m args below meth c H locs 0 0 Q (F0 m pc ls [.int (bI v)])) →
      lv_has ls maxL (lv_args 0 (.ref h :: As)) → W p l e rm s m args below meth c s.heap [] 0 0 Q (F0 m 0 ls [])) : dkMi l y (ws_ y cc maxL (some .boolean)) rm D h hl hv hf cA As sz u post :=
  dk_metI hy hc hle (fun p e s m args below meth c A ls S hr hlk I hl => body p e s m args below meth c A _ ls S I (fun _ _ _ _ _ _ hd I hp => dk_zret S hr hlk I hp hd) hl)
theorem dk_mV {post : DkS → Prop} (hy : plainName y.cls = true) (hc : y.cls = RX0) (hle : (lg_sl (.ref h :: As)).length ≤ maxL)
    (body : ∀ (p : Program) (e : Env) (s : State) (m : MethodId) (args : Array Value) (below : List Frame) (meth : Method) (c : Code) (A : Nat → Prop) (Q : State → Prop) (ls : Array Slot), CallFix p m c cc maxL s args lw_all RX0 → dkI D A h hl hv hf cA s s.heap [] u →
      (∀ (u' : DkS) (pc : Nat) (ls : Array Slot) (H : Heap) (locs : List Loc), decode cc pc = .ok (.return_, 1) → dkI D A h hl hv hf cA s H locs u' → post u' → W p l e rm s m args below meth c H locs 0 0 Q (F0 m pc ls [])) →
      lv_has ls maxL (lv_args 0 (.ref h :: As)) → W p l e rm s m args below meth c s.heap [] 0 0 Q (F0 m 0 ls [])) : dkMv l y (ws_ y cc maxL none) rm D h hl hv hf cA As sz u post :=
  dk_metV hy hc hle (fun p e s m args below meth c A ls S hr hlk I hl => body p e s m args below meth c A _ ls S I (fun _ _ _ _ _ hd I hp => dk_vret S hr hlk I hp hd) hl)
theorem dk_mR {post : Int32 → Prop} (hy : plainName y.cls = true) (hc : y.cls = RX0) (hle : (lg_sl (.ref h :: As)).length ≤ maxL)
    (body : ∀ (p : Program) (e : Env) (s : State) (m : MethodId) (args : Array Value) (below : List Frame) (meth : Method) (c : Code) (Q : State → Prop) (ls : Array Slot), CallFix p m c cc maxL s args lw_all RX0 → dkI D (fun _ => True) h hl hv hf cA s s.heap [] u →
      (∀ (v : Int32) (pc : Nat) (ls : Array Slot), decode cc pc = .ok (.ireturn, 1) → post v → W p l e rm s m args below meth c s.heap [] 0 0 Q (F0 m pc ls [.int v])) →
      lv_has ls maxL (lv_args 0 (.ref h :: As)) → W p l e rm s m args below meth c s.heap [] 0 0 Q (F0 m 0 ls [])) : dkMr l y (ws_ y cc maxL (some .int)) rm D h hl hv hf cA As u post :=
  dk_metR hy hc hle (fun p e s m args below meth c ls S hr hlk I hl => body p e s m args below meth c _ ls S I (fun _ _ _ hd hp => st_iret S hr hlk hp hd) hl)
theorem dk_mRz {post : Int32 → Prop} (hy : plainName y.cls = true) (hc : y.cls = RX0) (hle : (lg_sl (.ref h :: As)).length ≤ maxL)
    (body : ∀ (p : Program) (e : Env) (s : State) (m : MethodId) (args : Array Value) (below : List Frame) (meth : Method) (c : Code) (Q : State → Prop) (ls : Array Slot), CallFix p m c cc maxL s args lw_all RX0 → dkI D (fun _ => True) h hl hv hf cA s s.heap [] u →
      (∀ (v : Bool) (pc : Nat) (ls : Array Slot), decode cc pc = .ok (.ireturn, 1) → post (bI v) → W p l e rm s m args below meth c s.heap [] 0 0 Q (F0 m pc ls [.int (bI v)])) →
      lv_has ls maxL (lv_args 0 (.ref h :: As)) → W p l e rm s m args below meth c s.heap [] 0 0 Q (F0 m 0 ls [])) : dkMr l y (ws_ y cc maxL (some .boolean)) rm D h hl hv hf cA As u post :=
  dk_metR hy hc hle (fun p e s m args below meth c ls S hr hlk I hl => body p e s m args below meth c _ ls S I (fun _ _ _ hd hp => st_zret S hr hlk hp hd) hl)
theorem st_mI {post : Int32 → Prop} (hy : plainName y.cls = true) (hc : y.cls = own) (hle : (lg_sl As).length ≤ maxL)
    (body : ∀ (p : Program) (e : Env) (s : State) (m : MethodId) (args : Array Value) (below : List Frame) (meth : Method) (c : Code) (Q : State → Prop) (ls : Array Slot), CallFix p m c cc maxL s args lw_all own →
      (∀ (v : Int32) (pc : Nat) (ls : Array Slot), decode cc pc = .ok (.ireturn, 1) → post v → W p l e rm s m args below meth c s.heap [] 0 0 Q (F0 m pc ls [.int v])) →
      lv_has ls maxL (lv_args 0 As) → W p l e rm s m args below meth c s.heap [] 0 0 Q (F0 m 0 ls [])) : stM l y (ws_ y cc maxL (some .int)) rm As post :=
  st_met hy hc hle (fun p e s m args below meth c ls S hr hlk hl => body p e s m args below meth c _ ls S (fun _ _ _ hd hp => st_iret S hr hlk hp hd) hl)
theorem st_mZ {post : Int32 → Prop} (hy : plainName y.cls = true) (hc : y.cls = own) (hle : (lg_sl As).length ≤ maxL)
    (body : ∀ (p : Program) (e : Env) (s : State) (m : MethodId) (args : Array Value) (below : List Frame) (meth : Method) (c : Code) (Q : State → Prop) (ls : Array Slot), CallFix p m c cc maxL s args lw_all own →
      (∀ (v : Bool) (pc : Nat) (ls : Array Slot), decode cc pc = .ok (.ireturn, 1) → post (bI v) → W p l e rm s m args below meth c s.heap [] 0 0 Q (F0 m pc ls [.int (bI v)])) →
      lv_has ls maxL (lv_args 0 As) → W p l e rm s m args below meth c s.heap [] 0 0 Q (F0 m 0 ls [])) : stM l y (ws_ y cc maxL (some .boolean)) rm As post :=
  st_met hy hc hle (fun p e s m args below meth c ls S hr hlk hl => body p e s m args below meth c _ ls S (fun _ _ _ hd hp => st_zret S hr hlk hp hd) hl)
end Mets
end
section
/-! QbfDesk: isMakers, lengthOf, isOpen, firstValue -/
set_option maxHeartbeats 4000000 in
set_option maxRecDepth 100000 in
theorem met_isMakers (l : Launch) (D : va_G) (h kL kV kF : Nat) (cA : ClassId) (mk : Int32) (n : Nat) (lo : Int32) (L : Nat → Int32) (b : Bool) (V F : Nat → Option Bool) (v : Nat) (hv : v < 32) : dkMr l yX0_isMakers (ws_ yX0_isMakers cX0_isMakers 2 (some .boolean)) (rmm 0 0) D h kL kV kF cA [.int (nI v)] (mk, n, lo, L, b, V, F) (fun r => r = bI (bt mk v)) := by
  refine dk_mRz (by decide) rfl (Nat.le_of_ble_eq_true rfl) ?_
  intro p e s m args below meth c Q ls S I ret hl
  have hx := S.1
  have hb := S.2.1
  have hl : lv_has ls 2 [(0, .ref h), (1, .int (nI v))] := hl
  refine lv_aload_n hx hb dX0_isMakers_0 rfl (lv_at hl 0 rfl) ?_
  refine dk_makers S I dX0_isMakers_1 ?_
  refine lv_iload_n hx hb dX0_isMakers_4 rfl (lv_at hl 1 rfl) ?_
  refine lv_iushr hx hb dX0_isMakers_5 rfl ?_
  refine lv_iconst (v := 1) hx hb dX0_isMakers_6 (by decide) ?_
  refine lv_iand hx hb dX0_isMakers_7 ?_
  refine w_top (y := bI (bt mk v)) (sh_u1 mk hv) ?_
  refine lv_if_eq (tgt := 15) hx hb dX0_isMakers_8 (by decide) (fun c1 => ?_) (fun c1 => ?_)
  · refine lv_iconst (v := 0) hx hb dX0_isMakers_15 (by decide) ?_
    exact ret false 16 ls dX0_isMakers_16 (by rw [bI_0.mp c1])
  · refine lv_iconst (v := 1) hx hb dX0_isMakers_11 (by decide) ?_
    refine lv_goto (tgt := 16) hx hb dX0_isMakers_12 (by decide) ?_
    exact ret true 16 ls dX0_isMakers_16 (by rw [bI_n0.mp c1])
set_option maxHeartbeats 4000000 in
set_option maxRecDepth 100000 in
/-- the level of a position -/
theorem met_lengthOf (l : Launch) (q : Nat) (hq : q < 512) : stM l yX0_lengthOf (ws_ yX0_lengthOf cX0_lengthOf 3 (some .int)) (rmm 0 0) [.int (nI q)] (fun r => r = nI (Nat.log2 q)) := by
  refine st_mI (own := RX0) (by decide) rfl (Nat.le_of_ble_eq_true rfl) ?_
  intro p e s m args below meth c Q ls S ret hl
  have hx := S.1
  have hb := S.2.1
  have hl : lv_has ls 3 [(0, .int (nI q))] := hl
  refine lv_iconst (v := 0) hx hb dX0_lengthOf_0 (by decide) ?_
  refine lv_istore_n (lv' := [(1, .int 0), (0, .int (nI q))]) hx hb dX0_lengthOf_1 rfl hl (by decide) rfl (fun ls hl => ?_)
  refine lv_iconst (v := 1) hx hb dX0_lengthOf_2 (by decide) ?_
  refine lv_istore_n (lv' := [(2, .int 1), (1, .int 0), (0, .int (nI q))]) hx hb dX0_lengthOf_3 rfl hl (by decide) rfl (fun ls hl => ?_)
  have loop : ∀ (d k : Nat) (ls : Array Slot), k + d = 8 → lv_has ls 3 [(0, .int (nI q)), (1, .int (nI (lenK q k))), (2, .int (nI (k + 1)))] → W p l e (rmm 0 0) s m args below meth c s.heap [] 0 0 Q (F0 m 4 ls []) := by
    intro d
    induction d with
    | zero =>
      intro k ls hk hl
      refine lv_iload_n hx hb dX0_lengthOf_4 rfl (lv_at hl 2 rfl) ?_
      refine lv_bipush (v := 9) hx hb dX0_lengthOf_5 (by decide) ?_
      refine lv_icmp_ge (tgt := 28) hx hb dX0_lengthOf_7 (by decide) (fun c1 => ?_) (fun c1 => ?_)
      · refine lv_iload_n hx hb dX0_lengthOf_28 rfl (lv_at hl 1 rfl) ?_
        exact ret _ 29 ls dX0_lengthOf_29 (by rw [show k = 8 by omega, lenK_8 q hq])
      · exact absurd (show (9 : Int32) ≤ nI (k + 1) by rw [show k = 8 by omega]; decide) c1
    | succ d ih =>
      intro k ls hk hl
      refine lv_iload_n hx hb dX0_lengthOf_4 rfl (lv_at hl 2 rfl) ?_
      refine lv_bipush (v := 9) hx hb dX0_lengthOf_5 (by decide) ?_
      refine lv_icmp_ge (tgt := 28) hx hb dX0_lengthOf_7 (by decide) (fun c1 => ?_) (fun c1 => ?_)
      · exact absurd c1 (nI_ge (a := k + 1) (b := 9) (by omega) (by omega))
      · refine lv_iload_n hx hb dX0_lengthOf_10 rfl (lv_at hl 0 rfl) ?_
        refine lv_iload_n hx hb dX0_lengthOf_11 rfl (lv_at hl 2 rfl) ?_
        refine lv_iushr hx hb dX0_lengthOf_12 rfl ?_
        refine w_top (y := nI (q / 2 ^ (k + 1))) (pk_ushrN (by omega) _ (k + 1) (s_u (k + 1) (by omega))) ?_
        refine lv_if_eq (tgt := 20) hx hb dX0_lengthOf_13 (by decide) (fun c2 => ?_) (fun c2 => ?_)
        · refine lv_iload_n hx hb dX0_lengthOf_20 rfl (lv_at hl 1 rfl) ?_
          refine lv_istore_n (lv' := [(1, .int (nI (lenK q k))), (0, .int (nI q)), (2, .int (nI (k + 1)))]) hx hb dX0_lengthOf_21 rfl hl (by decide) rfl (fun ls hl => ?_)
          refine lv_iinc (v := nI (k + 1 + 1)) (lv' := [(2, .int (nI (k + 1 + 1))), (1, .int (nI (lenK q k))), (0, .int (nI q))]) hx hb dX0_lengthOf_22 hl (k := 2) rfl (inc1 (k + 1)) (by decide) rfl (fun ls hl => ?_)
          refine lv_goto (tgt := 4) hx hb dX0_lengthOf_25 (by decide) ?_
          refine ih (k + 1) ls (by omega) ?_
          have e1 : lenK q (k + 1) = lenK q k := by
            show (if q / 2 ^ (k + 1) = 0 then lenK q k else k + 1) = _
            rw [if_pos]
            exact (nI_eq (by have := Nat.div_le_self q (2 ^ (k + 1)); omega) (by omega)).mp (c2.trans nI_0.symm)
          rw [e1]
          have hl := lv_sub hl [2, 1, 0] rfl
          exact hl
        · refine lv_iload_n hx hb dX0_lengthOf_16 rfl (lv_at hl 2 rfl) ?_
          refine lv_goto (tgt := 21) hx hb dX0_lengthOf_17 (by decide) ?_
          refine lv_istore_n (lv' := [(1, .int (nI (k + 1))), (0, .int (nI q)), (2, .int (nI (k + 1)))]) hx hb dX0_lengthOf_21 rfl hl (by decide) rfl (fun ls hl => ?_)
          refine lv_iinc (v := nI (k + 1 + 1)) (lv' := [(2, .int (nI (k + 1 + 1))), (1, .int (nI (k + 1))), (0, .int (nI q))]) hx hb dX0_lengthOf_22 hl (k := 2) rfl (inc1 (k + 1)) (by decide) rfl (fun ls hl => ?_)
          refine lv_goto (tgt := 4) hx hb dX0_lengthOf_25 (by decide) ?_
          refine ih (k + 1) ls (by omega) ?_
          have e1 : lenK q (k + 1) = k + 1 := by
            show (if q / 2 ^ (k + 1) = 0 then lenK q k else k + 1) = _
            rw [if_neg]
            intro q0
            exact c2 (by rw [q0]; exact nI_0)
          rw [e1]
          have hl := lv_sub hl [2, 1, 0] rfl
          exact hl
  have hl := lv_sub hl [2, 1, 0] rfl
  exact loop 8 0 ls rfl hl
set_option maxHeartbeats 4000000 in
set_option maxRecDepth 100000 in
/-- 1 only if the next value follows as 1 -/
theorem met_firstValue (l : Launch) (D : va_G) (h kL kV kF : Nat) (cA : ClassId) (mk : Int32) (n : Nat) (lo : Int32) (L : Nat → Int32) (b : Bool) (V F : Nat → Option Bool) (v : Nat) (hv : v < 8) : dkMr l yX0_firstValue (ws_ yX0_firstValue cX0_firstValue 2 (some .int)) (rmm 1 21) D h kL kV kF cA [.int (nI v)] (mk, n, lo, L, b, V, F) (fun r => ∃ y : Bool, r = eI (some y) ∧ (y = true → bt mk v = true ∧ F v = some true)) := by
  refine dk_mR (by decide) rfl (Nat.le_of_ble_eq_true rfl) ?_
  intro p e s m args below meth c Q ls S I ret hl
  have hx := S.1
  have hb := S.2.1
  have hts := S.2.2.2.2
  have hl : lv_has ls 2 [(0, .ref h), (1, .int (nI v))] := hl
  refine lv_aload_n hx hb dX0_firstValue_0 rfl (lv_at hl 0 rfl) ?_
  refine lv_iload_n hx hb dX0_firstValue_1 rfl (lv_at hl 1 rfl) ?_
  refine dk_callR (As := [.int (nI v)]) (rest := []) S I (met_isMakers l D h kL kV kF cA mk n lo L b V F v (by omega)) (cwV 1 hts (lw_V q80 q82 qs4 q11 q83) rfl rfl rfl (by decide +kernel) ⟨Nat.le_of_ble_eq_true rfl, Nat.le_of_ble_eq_true rfl⟩) rfl hl.1 (Nat.le_of_ble_eq_true rfl) rfl dX0_firstValue_2 (fun r hr1 => ?_)
  subst hr1
  refine lv_if_eq (tgt := 22) hx hb dX0_firstValue_5 (by decide) (fun c1 => ?_) (fun c1 => ?_)
  · refine lv_iconst (v := 0) hx hb dX0_firstValue_22 (by decide) ?_
    exact ret _ 23 ls dX0_firstValue_23 ⟨false, rfl, fun h => (by cases h)⟩
  · refine lv_aload_n hx hb dX0_firstValue_8 rfl (lv_at hl 0 rfl) ?_
    refine dk_follows S I dX0_firstValue_9 ?_
    refine lv_iload_n hx hb dX0_firstValue_12 rfl (lv_at hl 1 rfl) ?_
    refine dk_aldF (k := v) hv S I dX0_firstValue_13 ?_
    refine lv_iconst (v := 1) hx hb dX0_firstValue_14 (by decide) ?_
    refine lv_icmp_ne (tgt := 22) hx hb dX0_firstValue_15 (by decide) (fun c2 => ?_) (fun c2 => ?_)
    · refine lv_iconst (v := 0) hx hb dX0_firstValue_22 (by decide) ?_
      exact ret _ 23 ls dX0_firstValue_23 ⟨false, rfl, fun h => (by cases h)⟩
    · refine lv_iconst (v := 1) hx hb dX0_firstValue_18 (by decide) ?_
      refine lv_goto (tgt := 23) hx hb dX0_firstValue_19 (by decide) ?_
      exact ret _ 23 ls dX0_firstValue_23 ⟨true, rfl, fun _ => ⟨bI_n0.mp c1, eI_1.mp c2⟩⟩

set_option maxHeartbeats 4000000 in
set_option maxRecDepth 100000 in
/-- whether the clause k is open under G, the values or what follows -/
theorem met_isOpen (l : Launch) (D : va_G) (h kL kV kF : Nat) (cA : ClassId) (mk : Int32) (n : Nat) (lo : Int32) (L : Nat → Int32) (b : Bool) (V F : Nat → Option Bool) (k : Nat) (hk : k < 20) (kG : Nat) (G : Nat → Option Bool) (hG : (kG = kV ∧ G = V) ∨ (kG = kF ∧ G = F)) : dkMr l yX0_isOpen (ws_ yX0_isOpen cX0_isOpen 6 (some .boolean)) (rmm 0 0) D h kL kV kF cA [.int (nI k), .ref kG] (mk, n, lo, L, b, V, F) (fun r => ∃ w : Bool, r = bI w ∧ (w = true ↔ opn (L k) G)) := by
  refine dk_mRz (by decide) rfl (Nat.le_of_ble_eq_true rfl) ?_
  intro p e s m args below meth c Q ls S I ret hl
  have hx := S.1
  have hb := S.2.1
  have hl : lv_has ls 6 [(0, .ref h), (1, .int (nI k)), (2, .ref kG)] := hl
  refine lv_iconst (v := 0) hx hb dX0_isOpen_0 (by decide) ?_
  refine lv_istore_n (lv' := [(3, .int 0), (0, .ref h), (1, .int (nI k)), (2, .ref kG)]) hx hb dX0_isOpen_1 rfl hl (by decide) rfl (fun ls hl => ?_)
  have loop : ∀ (d v : Nat) (ls : Array Slot), v + d = 8 → (∀ u, u < v → (∀ y, G u = some y → lit (L k) u y = false) ∧ ¬ (lit (L k) u true = true ∧ lit (L k) u false = true)) → lv_has ls 6 [(0, .ref h), (1, .int (nI k)), (2, .ref kG), (3, .int (nI v))] → W p l e (rmm 0 0) s m args below meth c s.heap [] 0 0 Q (F0 m 2 ls []) := by
    intro d
    induction d with
    | zero =>
      intro v ls hd hn hl
      refine lv_iload_n hx hb dX0_isOpen_2 rfl (lv_at hl 3 rfl) ?_
      refine lv_bipush (v := 8) hx hb dX0_isOpen_3 (by decide) ?_
      refine lv_icmp_ge (tgt := 75) hx hb dX0_isOpen_5 (by decide) (fun c1 => ?_) (fun c1 => ?_)
      · refine lv_iconst (v := 1) hx hb dX0_isOpen_75 (by decide) ?_
        exact ret true 76 ls dX0_isOpen_76 ⟨true, rfl, fun _ u hu => hn u (by omega), fun _ => rfl⟩
      · exact absurd (show (8 : Int32) ≤ nI v by rw [show v = 8 by omega]; decide) c1
    | succ d ih =>
      intro v ls hd hn hl
      have hv : v < 8 := by omega
      refine lv_iload_n hx hb dX0_isOpen_2 rfl (lv_at hl 3 rfl) ?_
      refine lv_bipush (v := 8) hx hb dX0_isOpen_3 (by decide) ?_
      refine lv_icmp_ge (tgt := 75) hx hb dX0_isOpen_5 (by decide) (fun c1 => ?_) (fun c1 => ?_)
      · exact absurd c1 (nI_ge (a := v) (b := 8) (by omega) (by omega))
      · refine lv_aload_n hx hb dX0_isOpen_8 rfl (lv_at hl 0 rfl) ?_
        refine dk_literals S I dX0_isOpen_9 ?_
        refine lv_iload_n hx hb dX0_isOpen_12 rfl (lv_at hl 1 rfl) ?_
        refine dk_aldL (k := k) hk S I dX0_isOpen_13 ?_
        refine lv_iconst (v := 2) hx hb dX0_isOpen_14 (by decide) ?_
        refine lv_iload_n hx hb dX0_isOpen_15 rfl (lv_at hl 3 rfl) ?_
        refine lv_imul hx hb dX0_isOpen_16 ?_
        refine w_top (y := nI (2 * v)) (mul2 v) ?_
        refine lv_iushr hx hb dX0_isOpen_17 rfl ?_
        refine lv_iconst (v := 3) hx hb dX0_isOpen_18 (by decide) ?_
        refine lv_iand hx hb dX0_isOpen_19 ?_
        refine w_top (y := hN (lit (L k) v true) (lit (L k) v false)) (sh_u3 (L k) hv) ?_
        refine lv_istore (lv' := [(4, .int (hN (lit (L k) v true) (lit (L k) v false))), (0, .ref h), (1, .int (nI k)), (2, .ref kG), (3, .int (nI v))]) hx hb dX0_isOpen_20 hl (by decide) rfl (fun ls hl => ?_)
        have J : ∀ so : Bool, (so = true ↔ ∃ y, G v = some y ∧ lit (L k) v y = true) → W p l e (rmm 0 0) s m args below meth c s.heap [] 0 0 Q (F0 m 54 ls [.int (bI so)]) := by
          intro so hso
          refine lv_istore (lv' := [(5, .int (bI so)), (4, .int (hN (lit (L k) v true) (lit (L k) v false))), (0, .ref h), (1, .int (nI k)), (2, .ref kG), (3, .int (nI v))]) hx hb dX0_isOpen_54 hl (by decide) rfl (fun ls hl => ?_)
          refine lv_iload hx hb dX0_isOpen_56 (lv_at hl 0 rfl) ?_
          refine lv_if_ne (tgt := 67) hx hb dX0_isOpen_58 (by decide) (fun c2 => ?_) (fun c2 => ?_)
          · refine lv_iconst (v := 0) hx hb dX0_isOpen_67 (by decide) ?_
            refine ret false 68 ls dX0_isOpen_68 ⟨false, rfl, fun h => (by cases h), fun ho => ?_⟩
            obtain ⟨y, h1, h2⟩ := hso.mp (bI_n0.mp c2)
            exact absurd h2 (by rw [(ho v hv).1 y h1]; decide)
          · refine lv_iload hx hb dX0_isOpen_61 (lv_at hl 1 rfl) ?_
            refine lv_iconst (v := 3) hx hb dX0_isOpen_63 (by decide) ?_
            refine lv_icmp_ne (tgt := 69) hx hb dX0_isOpen_64 (by decide) (fun c3 => ?_) (fun c3 => ?_)
            · refine lv_iinc (v := nI (v + 1)) (lv' := [(3, .int (nI (v + 1))), (5, .int (bI so)), (4, .int (hN (lit (L k) v true) (lit (L k) v false))), (0, .ref h), (1, .int (nI k)), (2, .ref kG)]) hx hb dX0_isOpen_69 hl (k := 5) rfl (inc1 v) (by decide) rfl (fun ls hl => ?_)
              refine lv_goto (tgt := 2) hx hb dX0_isOpen_72 (by decide) ?_
              refine ih (v + 1) ls (by omega) (fun u hu => ?_) ?_
              · rcases Nat.lt_or_ge u v with q | q
                · exact hn u q
                · rw [show u = v by omega]
                  refine ⟨fun y hy => ?_, fun hb2 => c3 ((hN_3 _ _).mpr hb2)⟩
                  cases hl2 : lit (L k) v y with
                  | false => rfl
                  | true =>
                    have := hso.mpr ⟨y, hy, hl2⟩
                    rw [bI_0.mp c2] at this
                    cases this
              · have hl := lv_sub hl [3, 4, 5, 0] rfl
                exact hl
            · refine lv_iconst (v := 0) hx hb dX0_isOpen_67 (by decide) ?_
              refine ret false 68 ls dX0_isOpen_68 ⟨false, rfl, fun h => (by cases h), fun ho => ?_⟩
              exact absurd ((hN_3 _ _).mp c3) (ho v hv).2
        have Jf : ¬ eI (G v) = 1 → W p l e (rmm 0 0) s m args below meth c s.heap [] 0 0 Q (F0 m 36 ls []) := by
          intro c2
          refine lv_aload_n hx hb dX0_isOpen_36 rfl (lv_at hl 3 rfl) ?_
          refine lv_iload_n hx hb dX0_isOpen_37 rfl (lv_at hl 4 rfl) ?_
          refine dk_aldG hG (k := v) hv S I dX0_isOpen_38 ?_
          refine lv_if_ne (tgt := 53) hx hb dX0_isOpen_39 (by decide) (fun c3 => ?_) (fun c3 => ?_)
          · refine lv_iconst (v := 0) hx hb dX0_isOpen_53 (by decide) ?_
            refine J false ⟨fun h => (by cases h), fun ⟨y, h1, h2⟩ => ?_⟩
            cases y with
            | true => exact absurd (eI_1.mpr h1) c2
            | false => exact absurd (eI_0.mpr h1) c3
          · refine lv_iload hx hb dX0_isOpen_42 (lv_at hl 0 rfl) ?_
            refine lv_iconst (v := 2) hx hb dX0_isOpen_44 (by decide) ?_
            refine lv_iand hx hb dX0_isOpen_45 ?_
            refine lv_if_eq (tgt := 53) hx hb dX0_isOpen_46 (by decide) (fun c4 => ?_) (fun c4 => ?_)
            · refine lv_iconst (v := 0) hx hb dX0_isOpen_53 (by decide) ?_
              refine J false ⟨fun h => (by cases h), fun ⟨y, h1, h2⟩ => ?_⟩
              cases y with
              | true => exact absurd (eI_1.mpr h1) c2
              | false => rw [(hN_a2 _ _).mp c4] at h2; exact h2
            · refine lv_iconst (v := 1) hx hb dX0_isOpen_49 (by decide) ?_
              refine lv_goto (tgt := 54) hx hb dX0_isOpen_50 (by decide) ?_
              refine J true ⟨fun _ => ⟨false, eI_0.mp c3, ?_⟩, fun _ => rfl⟩
              cases hl2 : lit (L k) v false with
              | true => rfl
              | false => exact absurd ((hN_a2 _ _).mpr hl2) c4
        refine lv_aload_n hx hb dX0_isOpen_22 rfl (lv_at hl 3 rfl) ?_
        refine lv_iload_n hx hb dX0_isOpen_23 rfl (lv_at hl 4 rfl) ?_
        refine dk_aldG hG (k := v) hv S I dX0_isOpen_24 ?_
        refine lv_iconst (v := 1) hx hb dX0_isOpen_25 (by decide) ?_
        refine lv_icmp_ne (tgt := 36) hx hb dX0_isOpen_26 (by decide) (fun c2 => ?_) (fun c2 => ?_)
        · exact Jf c2
        · refine lv_iload hx hb dX0_isOpen_29 (lv_at hl 0 rfl) ?_
          refine lv_iconst (v := 1) hx hb dX0_isOpen_31 (by decide) ?_
          refine lv_iand hx hb dX0_isOpen_32 ?_
          refine w_top (y := bI (lit (L k) v true)) (hN_a1 _ _) ?_
          refine lv_if_ne (tgt := 49) hx hb dX0_isOpen_33 (by decide) (fun c3 => ?_) (fun c3 => ?_)
          · refine lv_iconst (v := 1) hx hb dX0_isOpen_49 (by decide) ?_
            refine lv_goto (tgt := 54) hx hb dX0_isOpen_50 (by decide) ?_
            exact J true ⟨fun _ => ⟨true, eI_1.mp c2, bI_n0.mp c3⟩, fun _ => rfl⟩
          · refine lv_aload_n hx hb dX0_isOpen_36 rfl (lv_at hl 3 rfl) ?_
            refine lv_iload_n hx hb dX0_isOpen_37 rfl (lv_at hl 4 rfl) ?_
            refine dk_aldG hG (k := v) hv S I dX0_isOpen_38 ?_
            refine lv_if_ne (tgt := 53) hx hb dX0_isOpen_39 (by decide) (fun c4 => ?_) (fun c4 => ?_)
            · refine lv_iconst (v := 0) hx hb dX0_isOpen_53 (by decide) ?_
              refine J false ⟨fun h => (by cases h), fun ⟨y, h1, h2⟩ => ?_⟩
              rw [eI_1.mp c2] at h1
              cases h1
              rw [bI_0.mp c3] at h2
              exact h2
            · exact absurd (c2.symm.trans c4) (by decide)
  have hl := lv_sub hl [1, 2, 3, 0] rfl
  exact loop 8 0 ls rfl (fun u hu => by omega) hl
end
section
/-! QbfDesk.force: one step that a clause asks for -/
def lv5 (i : Nat) : Int32 := match i with
  | 0 => -1
  | i + 1 => nI i
/-- what force has counted of the variables from i on: c of MAKER's, the first of them la; BREAKER's from f on -/
def fInv (w : Int32) (M : Nat → Bool) (F : Nat → Option Bool) (i c : Nat) (la : Int32) (f : Nat) : Prop :=
  f ≤ 8 ∧ c + i ≤ 8 ∧ (c = 0 → ∀ u, i ≤ u → u < 8 → fre w F u → M u = false) ∧ (1 ≤ c → ∃ t, i ≤ t ∧ t < 8 ∧ la = nI t ∧ fre w F t ∧ M t = true ∧ (c = 1 → ∀ u, i ≤ u → u < 8 → fre w F u → M u = true → u = t)) ∧ ∀ u, i ≤ u → u < 8 → fre w F u → M u = false → f ≤ u
theorem fInv_0 {w : Int32} {M : Nat → Bool} {F : Nat → Option Bool} {la : Int32} : fInv w M F 8 0 la 8 :=
  ⟨Nat.le_refl _, Nat.le_refl _, fun _ u h1 h2 => by omega, fun h => by omega, fun u h1 h2 => by omega⟩
theorem fInv_skip {w : Int32} {M : Nat → Bool} {F : Nat → Option Bool} {i c : Nat} {la : Int32} {f : Nat} (h : fInv w M F (i + 1) c la f) (hf : ¬ fre w F i) : fInv w M F i c la f := by
  obtain ⟨h1, h2, h3, h4, h5⟩ := h
  have k : ∀ u, i ≤ u → fre w F u → i + 1 ≤ u := fun u a b => by
    rcases Nat.lt_or_ge i u with q | q
    · exact q
    · rw [show u = i by omega] at b
      exact absurd b hf
  refine ⟨h1, by omega, fun hc u a b d => h3 hc u (k u a d) b d, fun hc => ?_, fun u a b d => h5 u (k u a d) b d⟩
  obtain ⟨t, t1, t2, t3, t4, t5, t6⟩ := h4 hc
  exact ⟨t, by omega, t2, t3, t4, t5, fun hc u a b d => t6 hc u (k u a d) b d⟩
theorem fInv_b {w : Int32} {M : Nat → Bool} {F : Nat → Option Bool} {i c : Nat} {la : Int32} {f : Nat} (h : fInv w M F (i + 1) c la f) (hM : M i = false) : fInv w M F i c la i := by
  obtain ⟨h1, h2, h3, h4, h5⟩ := h
  refine ⟨by omega, by omega, fun hc u a b d => ?_, fun hc => ?_, fun u a _ _ _ => a⟩
  · rcases Nat.lt_or_ge i u with q | q
    · exact h3 hc u q b d
    · rw [show u = i by omega]
      exact hM
  · obtain ⟨t, t1, t2, t3, t4, t5, t6⟩ := h4 hc
    refine ⟨t, by omega, t2, t3, t4, t5, fun hc u a b d e => ?_⟩
    rcases Nat.lt_or_ge i u with q | q
    · exact t6 hc u q b d e
    · rw [show u = i by omega, hM] at e
      cases e
theorem fInv_m {w : Int32} {M : Nat → Bool} {F : Nat → Option Bool} {i c : Nat} {la : Int32} {f : Nat} (h : fInv w M F (i + 1) c la f) (hi : i < 8) (hf : fre w F i) (hM : M i = true) : fInv w M F i (c + 1) (nI i) f := by
  obtain ⟨h1, h2, h3, h4, h5⟩ := h
  refine ⟨h1, by omega, fun hc => by omega, fun _ => ⟨i, Nat.le_refl _, hi, rfl, hf, hM, fun hc u a b d e => ?_⟩, fun u a b d e => ?_⟩
  · rcases Nat.lt_or_ge i u with q | q
    · rw [h3 (by omega) u q b d] at e
      cases e
    · omega
  · rcases Nat.lt_or_ge i u with q | q
    · exact h5 u q b d e
    · rw [show u = i by omega, hM] at e
      cases e
def fPost (w : Int32) (M : Nat → Bool) (F : Nat → Option Bool) (b' : Bool) (F' : Nat → Option Bool) : Prop :=
  (b' = true → F' = F ∧ ∀ u, u < 8 → fre w F u → M u = false) ∧ (b' = false → (∃ u, u < 8 ∧ fre w F u) ∧ (F' = F ∨ ∃ t, t < 8 ∧ M t = true ∧ fre w F t ∧ (∀ u, u < 8 → fre w F u → u = t ∨ (t < u ∧ M u = false)) ∧ F' = va_up F t (some (lit w t true))))
theorem fPost_0 {w : Int32} {M : Nat → Bool} {F : Nat → Option Bool} {c : Nat} {la : Int32} {f : Nat} {bb : Bool} (h : fInv w M F 0 c la f) (hb : bb = true ↔ c = 0) : fPost w M F bb F := by
  obtain ⟨h1, h2, h3, h4, h5⟩ := h
  refine ⟨fun q => ⟨rfl, fun u a b => h3 (hb.mp q) u (Nat.zero_le _) a b⟩, fun q => ⟨?_, Or.inl rfl⟩⟩
  have hc : 1 ≤ c := by
    rcases Nat.eq_zero_or_pos c with z | z
    · rw [hb.mpr z] at q
      cases q
    · exact z
  obtain ⟨t, t1, t2, t3, t4, t5, t6⟩ := h4 hc
  exact ⟨t, t2, t4⟩
theorem fPost_1 {w : Int32} {M : Nat → Bool} {F : Nat → Option Bool} {t f : Nat} (h : fInv w M F 0 1 (nI t) f) (ht : t < 8) (htf : t ≤ f) : fPost w M F false (va_up F t (some (lit w t true))) ∧ fre w F t := by
  obtain ⟨h1, h2, h3, h4, h5⟩ := h
  obtain ⟨t', t1, t2, t3, t4, t5, t6⟩ := h4 (Nat.le_refl _)
  have e := (nI_eq (by omega) (by omega)).mp t3
  subst e
  refine ⟨⟨fun q => (by cases q), fun _ => ⟨⟨t, t2, t4⟩, Or.inr ⟨t, t2, t5, t4, fun u a b => ?_, rfl⟩⟩⟩, t4⟩
  cases hM : M u with
  | true => exact Or.inl (t6 rfl u (Nat.zero_le _) a b hM)
  | false =>
    have := h5 u (Nat.zero_le _) a b hM
    refine Or.inr ⟨?_, rfl⟩
    have : u ≠ t := fun q => by rw [q, t5] at hM; cases hM
    omega
set_option maxHeartbeats 4000000 in
set_option maxRecDepth 100000 in
theorem met_force (l : Launch) (D : va_G) (h kL kV kF : Nat) (cA : ClassId) (sz : Nat) (mk : Int32) (n : Nat) (lo : Int32) (L : Nat → Int32) (b : Bool) (V F : Nat → Option Bool) (k : Nat) (hk : k < 20) : dkMi l yX0_force (ws_ yX0_force cX0_force 7 (some .boolean)) (rmm 1 21) D h kL kV kF cA [.int (nI k)] sz (mk, n, lo, L, b, V, F) (fun r u' => ∃ b' F', u' = (mk, n, lo, L, b', V, F') ∧ (∃ x : Bool, r = bI x) ∧ fPost (L k) (bt mk) F b' F') := by
  refine dk_mZ (by decide) rfl (Nat.le_of_ble_eq_true rfl) ?_
  intro p e s m args below meth c A Q ls S I ret hl
  have hx := S.1
  have hb := S.2.1
  have hts := S.2.2.2.2
  have hl : lv_has ls 7 [(0, .ref h), (1, .int (nI k))] := hl
  refine lv_iconst (v := 0) hx hb dX0_force_0 (by decide) ?_
  refine lv_istore_n (lv' := [(2, .int 0), (0, .ref h), (1, .int (nI k))]) hx hb dX0_force_1 rfl hl (by decide) rfl (fun ls hl => ?_)
  refine lv_iconst (v := -1) hx hb dX0_force_2 (by decide) ?_
  refine lv_istore_n (lv' := [(3, .int (-1)), (2, .int 0), (0, .ref h), (1, .int (nI k))]) hx hb dX0_force_3 rfl hl (by decide) rfl (fun ls hl => ?_)
  refine lv_bipush (v := 8) hx hb dX0_force_4 (by decide) ?_
  refine lv_istore (lv' := [(4, .int 8), (3, .int (-1)), (2, .int 0), (0, .ref h), (1, .int (nI k))]) hx hb dX0_force_6 hl (by decide) rfl (fun ls hl => ?_)
  refine lv_bipush (v := 7) hx hb dX0_force_8 (by decide) ?_
  refine lv_istore (lv' := [(5, .int 7), (4, .int 8), (3, .int (-1)), (2, .int 0), (0, .ref h), (1, .int (nI k))]) hx hb dX0_force_10 hl (by decide) rfl (fun ls hl => ?_)
  have loop : ∀ (i cn : Nat) (la : Int32) (f : Nat) (ls : Array Slot), i ≤ 8 → fInv (L k) (bt mk) F i cn la f → lv_has ls 7 [(0, .ref h), (1, .int (nI k)), (2, .int (nI cn)), (3, .int la), (4, .int (nI f)), (5, .int (lv5 i))] → W p l e (rmm 1 21) s m args below meth c s.heap [] 0 0 Q (F0 m 12 ls []) := by
    intro i
    induction i with
    | zero =>
      intro cn la f ls hi hv hl
      refine lv_iload hx hb dX0_force_12 (lv_at hl 5 rfl) ?_
      refine lv_if_lt (tgt := 88) hx hb dX0_force_14 (by decide) (fun c1 => ?_) (fun c1 => ?_)
      · have J : ∀ bb : Bool, (bb = true ↔ cn = 0) → W p l e (rmm 1 21) s m args below meth c s.heap [] 0 0 Q (F0 m 98 ls [.int (bI bb), .ref h]) := by
          intro bb hbb
          refine dk_put_lost (x := bb) S I dX0_force_98 (fun H locs I => ?_)
          refine lv_iload_n hx hb dX0_force_101 rfl (lv_at hl 2 rfl) ?_
          refine lv_iconst (v := 1) hx hb dX0_force_102 (by decide) ?_
          refine lv_icmp_ne (tgt := 112) hx hb dX0_force_103 (by decide) (fun c2 => ?_) (fun c2 => ?_)
          · refine lv_iconst (v := 0) hx hb dX0_force_112 (by decide) ?_
            exact ret false _ 113 ls H locs dX0_force_113 I ⟨bb, F, rfl, ⟨false, rfl⟩, fPost_0 hv hbb⟩
          · have hc1 : cn = 1 := (nI_eq (by have := hv.2.1; omega) (by omega)).mp (c2 : nI cn = nI 1)
            subst hc1
            obtain ⟨t, t1, t2, t3, -⟩ := hv.2.2.2.1 (Nat.le_refl _)
            subst t3
            refine lv_iload hx hb dX0_force_106 (lv_at hl 4 rfl) ?_
            refine lv_iload_n hx hb dX0_force_108 rfl (lv_at hl 3 rfl) ?_
            refine lv_icmp_ge (tgt := 114) hx hb dX0_force_109 (by decide) (fun c3 => ?_) (fun c3 => ?_)
            · have htf : t ≤ f := (nI_leI (by omega) (by have := hv.1; omega)).mp c3
              obtain ⟨hp, hft⟩ := fPost_1 hv t2 htf
              have hbf : bb = false := by
                cases bb with
                | false => rfl
                | true => exact absurd (hbb.mp rfl) (by decide)
              subst hbf
              have K : W p l e (rmm 1 21) s m args below meth c H locs 0 0 Q (F0 m 139 ls [.int (eI (some (lit (L k) t true))), .int (nI t), .ref kF]) := by
                refine dk_astF (k := t) (some (lit (L k) t true)) t2 S I dX0_force_139 (fun H locs I => ?_)
                refine lv_iconst (v := 1) hx hb dX0_force_140 (by decide) ?_
                exact ret true _ 141 ls H locs dX0_force_141 I ⟨false, _, rfl, ⟨true, rfl⟩, hp⟩
              refine lv_aload_n hx hb dX0_force_114 rfl (lv_at hl 0 rfl) ?_
              refine dk_follows S I dX0_force_115 ?_
              refine lv_iload_n hx hb dX0_force_118 rfl (lv_at hl 3 rfl) ?_
              refine lv_aload_n hx hb dX0_force_119 rfl (lv_at hl 0 rfl) ?_
              refine dk_literals S I dX0_force_120 ?_
              refine lv_iload_n hx hb dX0_force_123 rfl (lv_at hl 1 rfl) ?_
              refine dk_aldL (k := k) hk S I dX0_force_124 ?_
              refine lv_iconst (v := 2) hx hb dX0_force_125 (by decide) ?_
              refine lv_iload_n hx hb dX0_force_126 rfl (lv_at hl 3 rfl) ?_
              refine lv_imul hx hb dX0_force_127 ?_
              refine w_top (y := nI (2 * t)) (mul2 t) ?_
              refine lv_iushr hx hb dX0_force_128 rfl ?_
              refine lv_iconst (v := 1) hx hb dX0_force_129 (by decide) ?_
              refine lv_iand hx hb dX0_force_130 ?_
              refine w_top (y := bI (lit (L k) t true)) (sh_u1 (L k) (by omega)) ?_
              refine lv_if_eq (tgt := 138) hx hb dX0_force_131 (by decide) (fun c4 => ?_) (fun c4 => ?_)
              · refine lv_iconst (v := 0) hx hb dX0_force_138 (by decide) ?_
                rw [bI_0.mp c4] at K
                exact K
              · refine lv_iconst (v := 1) hx hb dX0_force_134 (by decide) ?_
                refine lv_goto (tgt := 139) hx hb dX0_force_135 (by decide) ?_
                rw [bI_n0.mp c4] at K
                exact K
            · refine lv_iconst (v := 0) hx hb dX0_force_112 (by decide) ?_
              exact ret false _ 113 ls H locs dX0_force_113 I ⟨bb, F, rfl, ⟨false, rfl⟩, fPost_0 hv hbb⟩
        refine lv_aload_n hx hb dX0_force_88 rfl (lv_at hl 0 rfl) ?_
        refine lv_iload_n hx hb dX0_force_89 rfl (lv_at hl 2 rfl) ?_
        refine lv_if_ne (tgt := 97) hx hb dX0_force_90 (by decide) (fun c2 => ?_) (fun c2 => ?_)
        · refine lv_iconst (v := 0) hx hb dX0_force_97 (by decide) ?_
          exact J false ⟨fun q => (by cases q), fun q => absurd (by rw [q]; exact nI_0) c2⟩
        · refine lv_iconst (v := 1) hx hb dX0_force_93 (by decide) ?_
          refine lv_goto (tgt := 98) hx hb dX0_force_94 (by decide) ?_
          exact J true ⟨fun _ => (nI_eq (by have := hv.2.1; omega) (by omega)).mp (c2.trans nI_0.symm), fun _ => rfl⟩
      · exact absurd (by decide) c1
    | succ i ih =>
      intro cn la f ls hi1 hv hl
      have hi : i < 8 := by omega
      have hl : lv_has ls 7 [(0, .ref h), (1, .int (nI k)), (2, .int (nI cn)), (3, .int la), (4, .int (nI f)), (5, .int (nI i))] := hl
      have K : ∀ (cn : Nat) (la : Int32) (f : Nat) (ls : Array Slot), fInv (L k) (bt mk) F i cn la f → lv_has ls 7 [(0, .ref h), (1, .int (nI k)), (2, .int (nI cn)), (3, .int la), (4, .int (nI f)), (5, .int (nI i))] → W p l e (rmm 1 21) s m args below meth c s.heap [] 0 0 Q (F0 m 82 ls []) := by
        intro cn la f ls hv hl
        refine lv_iinc (v := lv5 i) (lv' := [(5, .int (lv5 i)), (0, .ref h), (1, .int (nI k)), (2, .int (nI cn)), (3, .int la), (4, .int (nI f))]) hx hb dX0_force_82 hl (k := 5) rfl ((by cases i with | zero => exact decm | succ i => exact dec1 i)) (by decide) rfl (fun ls hl => ?_)
        refine lv_goto (tgt := 12) hx hb dX0_force_85 (by decide) ?_
        have hl := lv_sub hl [1, 2, 3, 4, 5, 0] rfl
        exact ih cn la f ls (by omega) hv hl
      have J : ∀ op : Bool, (op = true ↔ fre (L k) F i) → W p l e (rmm 1 21) s m args below meth c s.heap [] 0 0 Q (F0 m 48 ls [.int (bI op)]) := by
        intro op hop
        refine lv_istore (lv' := [(6, .int (bI op)), (0, .ref h), (1, .int (nI k)), (2, .int (nI cn)), (3, .int la), (4, .int (nI f)), (5, .int (nI i))]) hx hb dX0_force_48 hl (by decide) rfl (fun ls hl => ?_)
        refine lv_iload hx hb dX0_force_50 (lv_at hl 0 rfl) ?_
        refine lv_if_eq (tgt := 73) hx hb dX0_force_52 (by decide) (fun c2 => ?_) (fun c2 => ?_)
        · refine lv_iload hx hb dX0_force_73 (lv_at hl 0 rfl) ?_
          refine lv_if_eq (tgt := 82) hx hb dX0_force_75 (by decide) (fun c3 => ?_) (fun c3 => ?_)
          · have hl := lv_sub hl [1, 2, 3, 4, 5, 6] rfl
            exact K cn la f ls (fInv_skip hv (fun q => by rw [hop.mpr q] at c2; exact absurd c2 (by decide))) hl
          · exact absurd c2 c3
        · refine lv_aload_n hx hb dX0_force_55 rfl (lv_at hl 1 rfl) ?_
          refine lv_iload hx hb dX0_force_56 (lv_at hl 6 rfl) ?_
          refine dk_callR (As := [.int (nI i)]) (rest := []) S I (met_isMakers l D h kL kV kF cA mk n lo L b V F i (by omega)) (cwV 1 hts (lw_V q80 q82 qs4 q11 q83) rfl rfl rfl (by decide +kernel) ⟨Nat.le_of_ble_eq_true rfl, Nat.le_of_ble_eq_true rfl⟩) rfl hl.1 (Nat.le_of_ble_eq_true rfl) rfl dX0_force_58 (fun r hr1 => ?_)
          subst hr1
          refine lv_if_eq (tgt := 73) hx hb dX0_force_61 (by decide) (fun c3 => ?_) (fun c3 => ?_)
          · refine lv_iload hx hb dX0_force_73 (lv_at hl 0 rfl) ?_
            refine lv_if_eq (tgt := 82) hx hb dX0_force_75 (by decide) (fun c4 => ?_) (fun c4 => ?_)
            · exact absurd c4 c2
            · refine lv_iload hx hb dX0_force_78 (lv_at hl 6 rfl) ?_
              refine lv_istore (lv' := [(4, .int (nI i)), (6, .int (bI op)), (0, .ref h), (1, .int (nI k)), (2, .int (nI cn)), (3, .int la), (5, .int (nI i))]) hx hb dX0_force_80 hl (by decide) rfl (fun ls hl => ?_)
              have hl := lv_sub hl [2, 3, 4, 5, 0, 6] rfl
              exact K cn la i ls (fInv_b hv (bI_0.mp c3)) hl
          · refine lv_iinc (v := nI (cn + 1)) (lv' := [(2, .int (nI (cn + 1))), (6, .int (bI op)), (0, .ref h), (1, .int (nI k)), (3, .int la), (4, .int (nI f)), (5, .int (nI i))]) hx hb dX0_force_64 hl (k := 3) rfl (inc1 cn) (by decide) rfl (fun ls hl => ?_)
            refine lv_iload hx hb dX0_force_67 (lv_at hl 6 rfl) ?_
            refine lv_istore_n (lv' := [(3, .int (nI i)), (2, .int (nI (cn + 1))), (6, .int (bI op)), (0, .ref h), (1, .int (nI k)), (4, .int (nI f)), (5, .int (nI i))]) hx hb dX0_force_69 rfl hl (by decide) rfl (fun ls hl => ?_)
            refine lv_goto (tgt := 82) hx hb dX0_force_70 (by decide) ?_
            have hl := lv_sub hl [3, 4, 1, 0, 5, 6] rfl
            exact K (cn + 1) (nI i) f ls (fInv_m hv hi (hop.mp (bI_n0.mp c2)) (bI_n0.mp c3)) hl
      refine lv_iload hx hb dX0_force_12 (lv_at hl 5 rfl) ?_
      refine lv_if_lt (tgt := 88) hx hb dX0_force_14 (by decide) (fun c1 => ?_) (fun c1 => ?_)
      · exact absurd c1 (nI_pos (by omega))
      · refine lv_aload_n hx hb dX0_force_17 rfl (lv_at hl 0 rfl) ?_
        refine dk_follows S I dX0_force_18 ?_
        refine lv_iload hx hb dX0_force_21 (lv_at hl 5 rfl) ?_
        refine dk_aldF (k := i) hi S I dX0_force_23 ?_
        refine lv_if_ge (tgt := 47) hx hb dX0_force_24 (by decide) (fun c2 => ?_) (fun c2 => ?_)
        · refine lv_iconst (v := 0) hx hb dX0_force_47 (by decide) ?_
          refine J false ⟨fun q => (by cases q), fun q => ?_⟩
          rw [q.1] at c2
          exact absurd c2 (by decide)
        · have hFn : F i = none := by
            match hF : F i with
            | none => rfl
            | some false => rw [hF] at c2; exact absurd (by decide) c2
            | some true => rw [hF] at c2; exact absurd (by decide) c2
          refine lv_aload_n hx hb dX0_force_27 rfl (lv_at hl 0 rfl) ?_
          refine dk_literals S I dX0_force_28 ?_
          refine lv_iload_n hx hb dX0_force_31 rfl (lv_at hl 1 rfl) ?_
          refine dk_aldL (k := k) hk S I dX0_force_32 ?_
          refine lv_iconst (v := 2) hx hb dX0_force_33 (by decide) ?_
          refine lv_iload hx hb dX0_force_34 (lv_at hl 5 rfl) ?_
          refine lv_imul hx hb dX0_force_36 ?_
          refine w_top (y := nI (2 * i)) (mul2 i) ?_
          refine lv_iushr hx hb dX0_force_37 rfl ?_
          refine lv_iconst (v := 3) hx hb dX0_force_38 (by decide) ?_
          refine lv_iand hx hb dX0_force_39 ?_
          refine w_top (y := hN (lit (L k) i true) (lit (L k) i false)) (sh_u3 (L k) hi) ?_
          refine lv_if_eq (tgt := 47) hx hb dX0_force_40 (by decide) (fun c3 => ?_) (fun c3 => ?_)
          · refine lv_iconst (v := 0) hx hb dX0_force_47 (by decide) ?_
            refine J false ⟨fun q => (by cases q), fun q => ?_⟩
            obtain ⟨e1, e2⟩ := (hN_0 _ _).mp c3
            rcases q.2 with z | z
            · rw [e1] at z; exact z
            · rw [e2] at z; exact z
          · refine lv_iconst (v := 1) hx hb dX0_force_43 (by decide) ?_
            refine lv_goto (tgt := 48) hx hb dX0_force_44 (by decide) ?_
            refine J true ⟨fun _ => ⟨hFn, ?_⟩, fun _ => rfl⟩
            cases e1 : lit (L k) i true with
            | true => exact Or.inl rfl
            | false =>
              cases e2 : lit (L k) i false with
              | true => exact Or.inr rfl
              | false => exact absurd ((hN_0 _ _).mpr ⟨e1, e2⟩) c3
  have hl := lv_sub hl [4, 5, 3, 2, 1, 0] rfl
  exact loop 8 0 (-1) 8 ls (Nat.le_refl _) fInv_0 hl
end
section
/-! QbfDesk.derive: forced steps until none is left, or the position is lost -/
theorem nopn_hold {w : Int32} {F : Nat → Option Bool} {a : Nat → Bool} (hF : ∀ u, u < 8 → F u = some (a u)) (h : ¬ opn w F) : hold w a := by
  refine Classical.byContradiction fun hc => h fun u hu => ⟨fun y hy => ?_, fun hb => ?_⟩
  · cases hl : lit w u y with
    | false => rfl
    | true =>
      refine absurd ⟨u, hu, ?_⟩ hc
      rw [hF u hu] at hy
      rw [Option.some.inj hy]
      exact hl
  · refine hc ⟨u, hu, ?_⟩
    cases a u with
    | true => exact hb.1
    | false => exact hb.2
theorem Der_fPost {M : Nat → Bool} {P : (Nat → Bool) → Prop} {v : Nat} {a : Nat → Bool} {F F' : Nat → Option Bool} {w : Int32} {b' : Bool} (hv : v ≤ 8) (hD : Der M P v a false F) (hP : ∀ x, P x → hold w x) (ho : opn w F) (hp : fPost w M F b' F') : Der M P v a b' F' ∧ (v = 8 → b' = true) := by
  cases b' with
  | true =>
    obtain ⟨rfl, h2⟩ := hp.1 rfl
    exact ⟨Der_lost hv hD hP ho h2, fun _ => rfl⟩
  | false =>
    obtain ⟨⟨u, hu, hf⟩, h2⟩ := hp.2 rfl
    refine ⟨?_, fun q => ?_⟩
    · rcases h2 with rfl | ⟨t, t1, t2, t3, t4, rfl⟩
      · exact hD
      · exact Der_force hv hD hP ho t1 t2 t3 t4
    · have := hD.1 u (by omega)
      rw [hf.1] at this
      cases this
set_option maxHeartbeats 4000000 in
set_option maxRecDepth 100000 in
theorem met_derive (l : Launch) (D : va_G) (h kL kV kF : Nat) (cA : ClassId) (sz : Nat) (mk : Int32) (n : Nat) (lo : Int32) (L : Nat → Int32) (b : Bool) (V F : Nat → Option Bool) (nx : Int32) (v : Nat) (a : Nat → Bool) (hn : n ≤ 20) (hv8 : v ≤ 8) (hV : ∀ u, u < 8 → V u = if u < v then some (a u) else none) : dkMv l yX0_derive (ws_ yX0_derive cX0_derive 5 none) (rmm 2 47) D h kL kV kF cA [.int nx] sz (mk, n, lo, L, b, V, F) (fun u' => ∃ b' F', u' = (mk, n, lo, L, b', V, F') ∧ Der (bt mk) (allH n lo L) v a b' F' ∧ (b' = false → v = 8 → allH n lo L a)) := by
  refine dk_mV (by decide) rfl (Nat.le_of_ble_eq_true rfl) ?_
  intro p e s m args below meth c A Q ls S I ret hl
  have hx := S.1
  have hb := S.2.1
  have hts := S.2.2.2.2
  have hl : lv_has ls 5 [(0, .ref h), (1, .int nx)] := hl
  have R : ∀ (b : Bool) (F : Nat → Option Bool) (H : Heap) (locs : List Loc) (ls : Array Slot), Der (bt mk) (allH n lo L) v a b F → (b = false → v = 8 → allH n lo L a) → dkI D A h kL kV kF cA s H locs (mk, n, lo, L, b, V, F) → W p l e (rmm 2 47) s m args below meth c H locs 0 0 Q (F0 m 126 ls []) :=
    fun b F H locs ls h1 h2 I => ret _ 126 ls H locs dX0_derive_126 I ⟨b, F, rfl, h1, h2⟩
  have outer : ∀ (d ro : Nat) (ch b : Bool) (F : Nat → Option Bool) (H : Heap) (locs : List Loc) (ls : Array Slot), ro + d = 10 → Der (bt mk) (allH n lo L) v a b F → (1 ≤ ro → b = false → v = 8 → allH n lo L a) → (ro = 0 → ch = true ∧ b = false) → dkI D A h kL kV kF cA s H locs (mk, n, lo, L, b, V, F) → lv_has ls 5 [(0, .ref h), (1, .int nx), (2, .int (bI ch)), (3, .int (nI ro))] → W p l e (rmm 2 47) s m args below meth c H locs 0 0 Q (F0 m 35 ls []) := by
    intro d
    induction d with
    | zero =>
      intro ro ch b F H locs ls hd hD h1 h2 I hl
      refine lv_iload_n hx hb dX0_derive_35 rfl (lv_at hl 3 rfl) ?_
      refine lv_bipush (v := 10) hx hb dX0_derive_36 (by decide) ?_
      refine lv_icmp_ge (tgt := 126) hx hb dX0_derive_38 (by decide) (fun c1 => ?_) (fun c1 => ?_)
      · exact R b F H locs ls hD (h1 (by omega)) I
      · exact absurd (show (10 : Int32) ≤ nI ro by rw [show ro = 10 by omega]; decide) c1
    | succ d ih =>
      intro ro ch b F H locs ls hd hD h1 h2 I hl
      refine lv_iload_n hx hb dX0_derive_35 rfl (lv_at hl 3 rfl) ?_
      refine lv_bipush (v := 10) hx hb dX0_derive_36 (by decide) ?_
      refine lv_icmp_ge (tgt := 126) hx hb dX0_derive_38 (by decide) (fun c1 => ?_) (fun c1 => ?_)
      · exact absurd c1 (nI_ge (a := ro) (b := 10) (by omega) (by omega))
      · refine lv_iload_n hx hb dX0_derive_41 rfl (lv_at hl 2 rfl) ?_
        refine lv_if_eq (tgt := 126) hx hb dX0_derive_42 (by decide) (fun c2 => ?_) (fun c2 => ?_)
        · refine R b F H locs ls hD (h1 ?_) I
          rcases Nat.eq_zero_or_pos ro with z | z
          · have := (h2 z).1
            rw [bI_0.mp c2] at this
            cases this
          · exact z
        · refine lv_aload_n hx hb dX0_derive_45 rfl (lv_at hl 0 rfl) ?_
          refine dk_lost S I dX0_derive_46 ?_
          refine lv_if_ne (tgt := 126) hx hb dX0_derive_49 (by decide) (fun c3 => ?_) (fun c3 => ?_)
          · refine R b F H locs ls hD (fun q => ?_) I
            rw [q] at c3
            exact absurd rfl c3
          · have hbf := bI_0.mp c3
            subst hbf
            refine lv_iconst (v := 0) hx hb dX0_derive_52 (by decide) ?_
            refine lv_istore_n (lv' := [(2, .int 0), (0, .ref h), (1, .int nx), (3, .int (nI ro))]) hx hb dX0_derive_53 rfl hl (by decide) rfl (fun ls hl => ?_)
            refine lv_iconst (v := 0) hx hb dX0_derive_54 (by decide) ?_
            refine lv_istore (lv' := [(4, .int 0), (2, .int 0), (0, .ref h), (1, .int nx), (3, .int (nI ro))]) hx hb dX0_derive_55 hl (by decide) rfl (fun ls hl => ?_)
            have inner : ∀ (d k : Nat) (ch b : Bool) (F : Nat → Option Bool) (H : Heap) (locs : List Loc) (ls : Array Slot), k + d = n → Der (bt mk) (allH n lo L) v a b F → (v = 8 → b = false → ∀ j, j < k → nI j ≠ lo → hold (L j) a) → dkI D A h kL kV kF cA s H locs (mk, n, lo, L, b, V, F) → lv_has ls 5 [(0, .ref h), (1, .int nx), (2, .int (bI ch)), (3, .int (nI ro)), (4, .int (nI k))] → W p l e (rmm 2 47) s m args below meth c H locs 0 0 Q (F0 m 57 ls []) := by
              have X : ∀ (k : Nat) (ch b : Bool) (F : Nat → Option Bool) (H : Heap) (locs : List Loc) (ls : Array Slot), Der (bt mk) (allH n lo L) v a b F → (b = false → v = 8 → allH n lo L a) → dkI D A h kL kV kF cA s H locs (mk, n, lo, L, b, V, F) → lv_has ls 5 [(0, .ref h), (1, .int nx), (2, .int (bI ch)), (3, .int (nI ro)), (4, .int (nI k))] → W p l e (rmm 2 47) s m args below meth c H locs 0 0 Q (F0 m 120 ls []) := by
                intro k ch b F H locs ls hD h1 I hl
                refine lv_iinc (v := nI (ro + 1)) (lv' := [(3, .int (nI (ro + 1))), (0, .ref h), (1, .int nx), (2, .int (bI ch)), (4, .int (nI k))]) hx hb dX0_derive_120 hl (k := 3) rfl (inc1 ro) (by decide) rfl (fun ls hl => ?_)
                refine lv_goto (tgt := 35) hx hb dX0_derive_123 (by decide) ?_
                have hl := lv_sub hl [1, 2, 3, 0] rfl
                exact ih (ro + 1) ch b F H locs ls (by omega) hD (fun _ => h1) (fun q => by omega) I hl
              intro d
              induction d with
              | zero =>
                intro k ch b F H locs ls hd hD h1 I hl
                refine lv_iload hx hb dX0_derive_57 (lv_at hl 4 rfl) ?_
                refine lv_aload_n hx hb dX0_derive_59 rfl (lv_at hl 0 rfl) ?_
                refine dk_clauses S I dX0_derive_60 ?_
                refine lv_icmp_ge (tgt := 120) hx hb dX0_derive_63 (by decide) (fun c4 => ?_) (fun c4 => ?_)
                · exact X k ch b F H locs ls hD (fun q1 q2 j hj => h1 q2 q1 j (by omega)) I hl
                · exact absurd (nI_le (show n ≤ k by omega) (by omega)) c4
              | succ d ih2 =>
                intro k ch b F H locs ls hd hD h1 I hl
                have hk : k < 20 := by omega
                refine lv_iload hx hb dX0_derive_57 (lv_at hl 4 rfl) ?_
                refine lv_aload_n hx hb dX0_derive_59 rfl (lv_at hl 0 rfl) ?_
                refine dk_clauses S I dX0_derive_60 ?_
                refine lv_icmp_ge (tgt := 120) hx hb dX0_derive_63 (by decide) (fun c4 => ?_) (fun c4 => ?_)
                · exact absurd c4 (nI_ge (show k < n by omega) (by omega))
                · refine lv_aload_n hx hb dX0_derive_66 rfl (lv_at hl 0 rfl) ?_
                  refine dk_lost S I dX0_derive_67 ?_
                  refine lv_if_ne (tgt := 120) hx hb dX0_derive_70 (by decide) (fun c5 => ?_) (fun c5 => ?_)
                  · exact X k ch b F H locs ls hD (fun q => by rw [q] at c5; exact absurd rfl c5) I hl
                  · have hbf := bI_0.mp c5
                    subst hbf
                    have N : ∀ (ch b : Bool) (F : Nat → Option Bool) (H : Heap) (locs : List Loc) (ls : Array Slot), Der (bt mk) (allH n lo L) v a b F → (v = 8 → b = false → ∀ j, j < k + 1 → nI j ≠ lo → hold (L j) a) → dkI D A h kL kV kF cA s H locs (mk, n, lo, L, b, V, F) → lv_has ls 5 [(0, .ref h), (1, .int nx), (2, .int (bI ch)), (3, .int (nI ro)), (4, .int (nI k))] → W p l e (rmm 2 47) s m args below meth c H locs 0 0 Q (F0 m 114 ls []) := by
                      intro ch b F H locs ls hD h1 I hl
                      refine lv_iinc (v := nI (k + 1)) (lv' := [(4, .int (nI (k + 1))), (0, .ref h), (1, .int nx), (2, .int (bI ch)), (3, .int (nI ro))]) hx hb dX0_derive_114 hl (k := 4) rfl (inc1 k) (by decide) rfl (fun ls hl => ?_)
                      refine lv_goto (tgt := 57) hx hb dX0_derive_117 (by decide) ?_
                      have hl := lv_sub hl [1, 2, 3, 4, 0] rfl
                      exact ih2 (k + 1) ch b F H locs ls (by omega) hD h1 I hl
                    refine lv_iload hx hb dX0_derive_73 (lv_at hl 4 rfl) ?_
                    refine lv_aload_n hx hb dX0_derive_75 rfl (lv_at hl 0 rfl) ?_
                    refine dk_leftOut S I dX0_derive_76 ?_
                    refine lv_icmp_eq (tgt := 114) hx hb dX0_derive_79 (by decide) (fun c6 => ?_) (fun c6 => ?_)
                    · refine N ch false F H locs ls hD (fun q1 q2 j hj hlo => ?_) I hl
                      rcases Nat.lt_or_ge j k with q | q
                      · exact h1 q1 q2 j q hlo
                      · rw [show j = k by omega] at hlo
                        exact absurd c6 hlo
                    · refine lv_aload_n hx hb dX0_derive_82 rfl (lv_at hl 0 rfl) ?_
                      refine lv_iload hx hb dX0_derive_83 (lv_at hl 4 rfl) ?_
                      refine lv_aload_n hx hb dX0_derive_85 rfl (lv_at hl 0 rfl) ?_
                      refine dk_follows S I dX0_derive_86 ?_
                      refine dk_callR (As := [.int (nI k), .ref kF]) (rest := []) S I (met_isOpen l D h kL kV kF cA mk n lo L false V F k hk kF F (Or.inr ⟨rfl, rfl⟩)) (cwV 2 hts (lw_V q72 q74 qs2 q11 q75) rfl rfl rfl (by decide +kernel) ⟨Nat.le_of_ble_eq_true rfl, Nat.le_of_ble_eq_true rfl⟩) rfl hl.1 (Nat.le_of_ble_eq_true rfl) rfl dX0_derive_89 (fun r hr1 => ?_)
                      obtain ⟨w, rfl, hw⟩ := hr1
                      refine lv_if_eq (tgt := 114) hx hb dX0_derive_92 (by decide) (fun c7 => ?_) (fun c7 => ?_)
                      · refine N ch false F H locs ls hD (fun q1 q2 j hj hlo => ?_) I hl
                        rcases Nat.lt_or_ge j k with q | q
                        · exact h1 q1 q2 j q hlo
                        · rw [show j = k by omega]
                          refine nopn_hold (F := F) (fun u hu => hD.1 u (by omega)) (fun q => ?_)
                          rw [hw.mpr q] at c7
                          exact absurd c7 (by decide)
                      · have ho := hw.mp (bI_n0.mp c7)
                        refine lv_aload_n hx hb dX0_derive_95 rfl (lv_at hl 0 rfl) ?_
                        refine lv_iload hx hb dX0_derive_96 (lv_at hl 4 rfl) ?_
                        refine dk_calli (As := [.int (nI k)]) (rest := []) S I (met_force l D h kL kV kF cA H.size mk n lo L false V F k hk) (cwV 1 hts (lw_V q76 q78 qs3 q11 q79) rfl rfl rfl (by decide +kernel) ⟨Nat.le_of_ble_eq_true rfl, Nat.le_of_ble_eq_true rfl⟩) rfl hl.1 (Nat.le_of_ble_eq_true rfl) rfl dX0_derive_98 (fun r u' H locs hp I => ?_)
                        obtain ⟨b', F', rfl, ⟨x, rfl⟩, hp⟩ := hp
                        obtain ⟨hD', h8⟩ := Der_fPost hv8 hD (fun y hy => hy k (by omega) c6) ho hp
                        have J : ∀ (ch : Bool), W p l e (rmm 2 47) s m args below meth c H locs 0 0 Q (F0 m 113 ls [.int (bI ch)]) := by
                          intro ch
                          refine lv_istore_n (lv' := [(2, .int (bI ch)), (0, .ref h), (1, .int nx), (3, .int (nI ro)), (4, .int (nI k))]) hx hb dX0_derive_113 rfl hl (by decide) rfl (fun ls hl => ?_)
                          have hl := lv_sub hl [1, 2, 0, 3, 4] rfl
                          refine N ch b' F' H locs ls hD' (fun q1 q2 => ?_) I hl
                          rw [h8 q1] at q2
                          cases q2
                        refine lv_if_ne (tgt := 108) hx hb dX0_derive_101 (by decide) (fun c8 => ?_) (fun c8 => ?_)
                        · refine lv_iconst (v := 1) hx hb dX0_derive_108 (by decide) ?_
                          refine lv_goto (tgt := 113) hx hb dX0_derive_109 (by decide) ?_
                          exact J true
                        · refine lv_iload_n hx hb dX0_derive_104 rfl (lv_at hl 2 rfl) ?_
                          refine lv_if_eq (tgt := 112) hx hb dX0_derive_105 (by decide) (fun c9 => ?_) (fun c9 => ?_)
                          · refine lv_iconst (v := 0) hx hb dX0_derive_112 (by decide) ?_
                            exact J false
                          · refine lv_iconst (v := 1) hx hb dX0_derive_108 (by decide) ?_
                            refine lv_goto (tgt := 113) hx hb dX0_derive_109 (by decide) ?_
                            exact J true
            have hl := lv_sub hl [2, 3, 1, 4, 0] rfl
            exact inner n 0 false false F H locs ls (by omega) hD (fun _ _ j hj => by omega) I hl
  have copy : ∀ (d j : Nat) (F : Nat → Option Bool) (H : Heap) (locs : List Loc) (ls : Array Slot), j + d = 8 → (∀ u, u < j → F u = V u) → dkI D A h kL kV kF cA s H locs (mk, n, lo, L, false, V, F) → lv_has ls 5 [(0, .ref h), (1, .int nx), (2, .int (nI j))] → W p l e (rmm 2 47) s m args below meth c H locs 0 0 Q (F0 m 7 ls []) := by
    intro d
    induction d with
    | zero =>
      intro j F H locs ls hd hF I hl
      refine lv_iload_n hx hb dX0_derive_7 rfl (lv_at hl 2 rfl) ?_
      refine lv_bipush (v := 8) hx hb dX0_derive_8 (by decide) ?_
      refine lv_icmp_ge (tgt := 31) hx hb dX0_derive_10 (by decide) (fun c1 => ?_) (fun c1 => ?_)
      · refine lv_iconst (v := 1) hx hb dX0_derive_31 (by decide) ?_
        refine lv_istore_n (lv' := [(2, .int 1), (0, .ref h), (1, .int nx)]) hx hb dX0_derive_32 rfl hl (by decide) rfl (fun ls hl => ?_)
        refine lv_iconst (v := 0) hx hb dX0_derive_33 (by decide) ?_
        refine lv_istore_n (lv' := [(3, .int 0), (2, .int 1), (0, .ref h), (1, .int nx)]) hx hb dX0_derive_34 rfl hl (by decide) rfl (fun ls hl => ?_)
        have hl := lv_sub hl [2, 3, 1, 0] rfl
        exact outer 10 0 true false F H locs ls rfl (Der_0 hv8 (fun u hu => (hF u (by omega)).trans (hV u hu))) (fun q => by omega) (fun _ => ⟨rfl, rfl⟩) I hl
      · exact absurd (show (8 : Int32) ≤ nI j by rw [show j = 8 by omega]; decide) c1
    | succ d ih =>
      intro j F H locs ls hd hF I hl
      have hj : j < 8 := by omega
      refine lv_iload_n hx hb dX0_derive_7 rfl (lv_at hl 2 rfl) ?_
      refine lv_bipush (v := 8) hx hb dX0_derive_8 (by decide) ?_
      refine lv_icmp_ge (tgt := 31) hx hb dX0_derive_10 (by decide) (fun c1 => ?_) (fun c1 => ?_)
      · exact absurd c1 (nI_ge (a := j) (b := 8) (by omega) (by omega))
      · refine lv_aload_n hx hb dX0_derive_13 rfl (lv_at hl 0 rfl) ?_
        refine dk_follows S I dX0_derive_14 ?_
        refine lv_iload_n hx hb dX0_derive_17 rfl (lv_at hl 2 rfl) ?_
        refine lv_aload_n hx hb dX0_derive_18 rfl (lv_at hl 0 rfl) ?_
        refine dk_value S I dX0_derive_19 ?_
        refine lv_iload_n hx hb dX0_derive_22 rfl (lv_at hl 2 rfl) ?_
        refine dk_aldV (k := j) hj S I dX0_derive_23 ?_
        refine dk_astF (k := j) (V j) hj S I dX0_derive_24 (fun H locs I => ?_)
        refine lv_iinc (v := nI (j + 1)) (lv' := [(2, .int (nI (j + 1))), (0, .ref h), (1, .int nx)]) hx hb dX0_derive_25 hl (k := 2) rfl (inc1 j) (by decide) rfl (fun ls hl => ?_)
        refine lv_goto (tgt := 7) hx hb dX0_derive_28 (by decide) ?_
        have hl := lv_sub hl [1, 2, 0] rfl
        refine ih (j + 1) _ H locs ls (by omega) (fun u hu => ?_) I hl
        by_cases q : u = j
        · rw [q, va_up_self]
        · rw [va_up_ne _ _ q]
          exact hF u (by omega)
  refine lv_aload_n hx hb dX0_derive_0 rfl (lv_at hl 0 rfl) ?_
  refine lv_iconst (v := 0) hx hb dX0_derive_1 (by decide) ?_
  refine dk_put_lost (x := false) S I dX0_derive_2 (fun H locs I => ?_)
  refine lv_iconst (v := 0) hx hb dX0_derive_5 (by decide) ?_
  refine lv_istore_n (lv' := [(2, .int 0), (0, .ref h), (1, .int nx)]) hx hb dX0_derive_6 rfl hl (by decide) rfl (fun ls hl => ?_)
  have hl := lv_sub hl [1, 2, 0] rfl
  exact copy 8 0 F H locs ls rfl (fun u hu => by omega) I hl
end
section
/-! QbfDesk.occurs, needsBoth -/
set_option maxHeartbeats 4000000 in
set_option maxRecDepth 100000 in
theorem met_occurs (l : Launch) (D : va_G) (h kL kV kF : Nat) (cA : ClassId) (mk : Int32) (n : Nat) (lo : Int32) (L : Nat → Int32) (b : Bool) (V F : Nat → Option Bool) (v : Nat) (hv : v < 8) (hn : n ≤ 20) : dkMr l yX0_occurs (ws_ yX0_occurs cX0_occurs 3 (some .boolean)) (rmm 1 25) D h kL kV kF cA [.int (nI v)] (mk, n, lo, L, b, V, F) (fun r => ∃ w : Bool, r = bI w ∧ (w = false → ∀ k, k < n → nI k ≠ lo → opn (L k) V → lit (L k) v true = false ∧ lit (L k) v false = false)) := by
  refine dk_mRz (by decide) rfl (Nat.le_of_ble_eq_true rfl) ?_
  intro p e s m args below meth c Q ls S I ret hl
  have hx := S.1
  have hb := S.2.1
  have hts := S.2.2.2.2
  have hl : lv_has ls 3 [(0, .ref h), (1, .int (nI v))] := hl
  refine lv_iconst (v := 0) hx hb dX0_occurs_0 (by decide) ?_
  refine lv_istore_n (lv' := [(2, .int 0), (0, .ref h), (1, .int (nI v))]) hx hb dX0_occurs_1 rfl hl (by decide) rfl (fun ls hl => ?_)
  have loop : ∀ (d k : Nat) (ls : Array Slot), k + d = n → (∀ j, j < k → nI j ≠ lo → opn (L j) V → lit (L j) v true = false ∧ lit (L j) v false = false) → lv_has ls 3 [(0, .ref h), (1, .int (nI v)), (2, .int (nI k))] → W p l e (rmm 1 25) s m args below meth c s.heap [] 0 0 Q (F0 m 2 ls []) := by
    intro d
    induction d with
    | zero =>
      intro k ls hd hk hl
      refine lv_iload_n hx hb dX0_occurs_2 rfl (lv_at hl 2 rfl) ?_
      refine lv_aload_n hx hb dX0_occurs_3 rfl (lv_at hl 0 rfl) ?_
      refine dk_clauses S I dX0_occurs_4 ?_
      refine lv_icmp_ge (tgt := 53) hx hb dX0_occurs_7 (by decide) (fun c1 => ?_) (fun c1 => ?_)
      · refine lv_iconst (v := 0) hx hb dX0_occurs_53 (by decide) ?_
        exact ret false 54 ls dX0_occurs_54 ⟨false, rfl, fun _ j hj => hk j (by omega)⟩
      · exact absurd (nI_le (show n ≤ k by omega) (by omega)) c1
    | succ d ih =>
      intro k ls hd hI hl
      have hk : k < 20 := by omega
      have N : (nI k ≠ lo → opn (L k) V → lit (L k) v true = false ∧ lit (L k) v false = false) → W p l e (rmm 1 25) s m args below meth c s.heap [] 0 0 Q (F0 m 47 ls []) := by
        intro hN
        refine lv_iinc (v := nI (k + 1)) (lv' := [(2, .int (nI (k + 1))), (0, .ref h), (1, .int (nI v))]) hx hb dX0_occurs_47 hl (k := 2) rfl (inc1 k) (by decide) rfl (fun ls hl => ?_)
        refine lv_goto (tgt := 2) hx hb dX0_occurs_50 (by decide) ?_
        have hl := lv_sub hl [1, 2, 0] rfl
        refine ih (k + 1) ls (by omega) (fun j hj => ?_) hl
        rcases Nat.lt_or_ge j k with q | q
        · exact hI j q
        · rw [show j = k by omega]
          exact hN
      refine lv_iload_n hx hb dX0_occurs_2 rfl (lv_at hl 2 rfl) ?_
      refine lv_aload_n hx hb dX0_occurs_3 rfl (lv_at hl 0 rfl) ?_
      refine dk_clauses S I dX0_occurs_4 ?_
      refine lv_icmp_ge (tgt := 53) hx hb dX0_occurs_7 (by decide) (fun c1 => ?_) (fun c1 => ?_)
      · exact absurd c1 (nI_ge (show k < n by omega) (by omega))
      · refine lv_iload_n hx hb dX0_occurs_10 rfl (lv_at hl 2 rfl) ?_
        refine lv_aload_n hx hb dX0_occurs_11 rfl (lv_at hl 0 rfl) ?_
        refine dk_leftOut S I dX0_occurs_12 ?_
        refine lv_icmp_eq (tgt := 47) hx hb dX0_occurs_15 (by decide) (fun c2 => ?_) (fun c2 => ?_)
        · exact N (fun q => absurd c2 q)
        · refine lv_aload_n hx hb dX0_occurs_18 rfl (lv_at hl 0 rfl) ?_
          refine lv_iload_n hx hb dX0_occurs_19 rfl (lv_at hl 2 rfl) ?_
          refine lv_aload_n hx hb dX0_occurs_20 rfl (lv_at hl 0 rfl) ?_
          refine dk_value S I dX0_occurs_21 ?_
          refine dk_callR (As := [.int (nI k), .ref kV]) (rest := []) S I (met_isOpen l D h kL kV kF cA mk n lo L b V F k hk kV V (Or.inl ⟨rfl, rfl⟩)) (cwV 2 hts (lw_V q72 q74 qs2 q11 q75) rfl rfl rfl (by decide +kernel) ⟨Nat.le_of_ble_eq_true rfl, Nat.le_of_ble_eq_true rfl⟩) rfl hl.1 (Nat.le_of_ble_eq_true rfl) rfl dX0_occurs_24 (fun r hr1 => ?_)
          obtain ⟨w, rfl, hw⟩ := hr1
          refine lv_if_eq (tgt := 47) hx hb dX0_occurs_27 (by decide) (fun c3 => ?_) (fun c3 => ?_)
          · refine N (fun _ q => ?_)
            rw [hw.mpr q] at c3
            exact absurd c3 (by decide)
          · refine lv_aload_n hx hb dX0_occurs_30 rfl (lv_at hl 0 rfl) ?_
            refine dk_literals S I dX0_occurs_31 ?_
            refine lv_iload_n hx hb dX0_occurs_34 rfl (lv_at hl 2 rfl) ?_
            refine dk_aldL (k := k) hk S I dX0_occurs_35 ?_
            refine lv_iconst (v := 2) hx hb dX0_occurs_36 (by decide) ?_
            refine lv_iload_n hx hb dX0_occurs_37 rfl (lv_at hl 1 rfl) ?_
            refine lv_imul hx hb dX0_occurs_38 ?_
            refine w_top (y := nI (2 * v)) (mul2 v) ?_
            refine lv_iushr hx hb dX0_occurs_39 rfl ?_
            refine lv_iconst (v := 3) hx hb dX0_occurs_40 (by decide) ?_
            refine lv_iand hx hb dX0_occurs_41 ?_
            refine w_top (y := hN (lit (L k) v true) (lit (L k) v false)) (sh_u3 (L k) hv) ?_
            refine lv_if_eq (tgt := 47) hx hb dX0_occurs_42 (by decide) (fun c4 => ?_) (fun c4 => ?_)
            · exact N (fun _ _ => (hN_0 _ _).mp c4)
            · refine lv_iconst (v := 1) hx hb dX0_occurs_45 (by decide) ?_
              exact ret true 46 ls dX0_occurs_46 ⟨true, rfl, fun q => (by cases q)⟩
  have hl := lv_sub hl [1, 2, 0] rfl
  exact loop n 0 ls (by omega) (fun j hj => by omega) hl
set_option maxHeartbeats 4000000 in
set_option maxRecDepth 100000 in
/-- whether the value 1 must be looked at behind 0 -/
theorem met_needsBoth (l : Launch) (D : va_G) (h kL kV kF : Nat) (cA : ClassId) (sz : Nat) (mk : Int32) (n : Nat) (lo : Int32) (L : Nat → Int32) (b : Bool) (V F : Nat → Option Bool) (v : Nat) (a : Nat → Bool) (hn : n ≤ 20) (hv : v < 8) (hV : ∀ u, u < 8 → va_up V v none u = if u < v then some (a u) else none) (hVv : V v = some false) : dkMi l yX0_needsBoth (ws_ yX0_needsBoth cX0_needsBoth 4 (some .boolean)) (rmm 3 71) D h kL kV kF cA [.int (nI v)] sz (mk, n, lo, L, b, V, F) (fun r u' => ∃ b' F', u' = (mk, n, lo, L, b', V, F') ∧ ∃ x : Bool, r = bI x ∧ (x = false → (win (bt mk) (allH n lo L) (8 - v) a ↔ win (bt mk) (allH n lo L) (7 - v) (va_up a v false)))) := by
  refine dk_mZ (by decide) rfl (Nat.le_of_ble_eq_true rfl) ?_
  intro p e s m args below meth c A Q ls S I ret hl
  have hx := S.1
  have hb := S.2.1
  have hts := S.2.2.2.2
  have hl : lv_has ls 4 [(0, .ref h), (1, .int (nI v))] := hl
  refine lv_aload_n hx hb dX0_needsBoth_0 rfl (lv_at hl 0 rfl) ?_
  refine dk_value S I dX0_needsBoth_1 ?_
  refine lv_iload_n hx hb dX0_needsBoth_4 rfl (lv_at hl 1 rfl) ?_
  refine lv_iconst (v := -1) hx hb dX0_needsBoth_5 (by decide) ?_
  refine dk_astV (k := v) none hv S I dX0_needsBoth_6 (fun H locs I => ?_)
  refine lv_aload_n hx hb dX0_needsBoth_7 rfl (lv_at hl 0 rfl) ?_
  refine lv_iload_n hx hb dX0_needsBoth_8 rfl (lv_at hl 1 rfl) ?_
  refine dk_callv (As := [.int (nI v)]) (rest := []) S I (met_derive l D h kL kV kF cA H.size mk n lo L b (va_up V v none) F (nI v) v a hn (by omega) hV) (cwV 1 hts (lw_V q68 q70 qs1 q11 q71) rfl rfl rfl (by decide +kernel) ⟨Nat.le_of_ble_eq_true rfl, Nat.le_of_ble_eq_true rfl⟩) rfl hl.1 (Nat.le_of_ble_eq_true rfl) rfl dX0_needsBoth_9 (fun u' H locs hp I => ?_)
  obtain ⟨b1, F1, rfl, hD, -⟩ := hp
  refine lv_aload_n hx hb dX0_needsBoth_12 rfl (lv_at hl 0 rfl) ?_
  refine lv_iload_n hx hb dX0_needsBoth_13 rfl (lv_at hl 1 rfl) ?_
  refine dk_callR (As := [.int (nI v)]) (rest := []) S I (met_occurs l D h kL kV kF cA mk n lo L b1 (va_up V v none) F1 v hv hn) (cwV 1 hts (lw_V q92 q94 qs7 q11 q95) rfl rfl rfl (by decide +kernel) ⟨Nat.le_of_ble_eq_true rfl, Nat.le_of_ble_eq_true rfl⟩) rfl hl.1 (Nat.le_of_ble_eq_true rfl) rfl dX0_needsBoth_14 (fun r hr1 => ?_)
  obtain ⟨w, rfl, hw⟩ := hr1
  refine lv_istore_n (lv' := [(2, .int (bI w)), (0, .ref h), (1, .int (nI v))]) hx hb dX0_needsBoth_17 rfl hl (by decide) rfl (fun ls hl => ?_)
  refine lv_aload_n hx hb dX0_needsBoth_18 rfl (lv_at hl 1 rfl) ?_
  refine dk_value S I dX0_needsBoth_19 ?_
  refine lv_iload_n hx hb dX0_needsBoth_22 rfl (lv_at hl 2 rfl) ?_
  refine lv_iconst (v := 0) hx hb dX0_needsBoth_23 (by decide) ?_
  refine dk_astV (k := v) (some false) hv S I dX0_needsBoth_24 (fun H locs I => ?_)
  rw [up_up, up_same hVv] at I
  have J : ∀ fo : Bool, (fo = true → bt mk v = true ∧ F1 v = some false) → W p l e (rmm 3 71) s m args below meth c H locs 0 0 Q (F0 m 47 ls [.int (bI fo)]) := by
    intro fo hfo
    refine lv_istore_n (lv' := [(3, .int (bI fo)), (2, .int (bI w)), (0, .ref h), (1, .int (nI v))]) hx hb dX0_needsBoth_47 rfl hl (by decide) rfl (fun ls hl => ?_)
    refine lv_iload_n hx hb dX0_needsBoth_48 rfl (lv_at hl 1 rfl) ?_
    refine lv_if_eq (tgt := 60) hx hb dX0_needsBoth_49 (by decide) (fun c1 => ?_) (fun c1 => ?_)
    · refine lv_iconst (v := 0) hx hb dX0_needsBoth_60 (by decide) ?_
      exact ret false _ 61 ls H locs dX0_needsBoth_61 I ⟨b1, F1, rfl, false, rfl, fun _ => win_idle hv hV (hw (bI_0.mp c1))⟩
    · refine lv_iload_n hx hb dX0_needsBoth_52 rfl (lv_at hl 0 rfl) ?_
      refine lv_if_ne (tgt := 60) hx hb dX0_needsBoth_53 (by decide) (fun c2 => ?_) (fun c2 => ?_)
      · refine lv_iconst (v := 0) hx hb dX0_needsBoth_60 (by decide) ?_
        obtain ⟨h1, h2⟩ := hfo (bI_n0.mp c2)
        exact ret false _ 61 ls H locs dX0_needsBoth_61 I ⟨b1, F1, rfl, false, rfl, fun _ => Der_next hv hD h1 h2⟩
      · refine lv_iconst (v := 1) hx hb dX0_needsBoth_56 (by decide) ?_
        refine lv_goto (tgt := 61) hx hb dX0_needsBoth_57 (by decide) ?_
        exact ret true _ 61 ls H locs dX0_needsBoth_61 I ⟨b1, F1, rfl, true, rfl, fun q => (by cases q)⟩
  refine lv_aload_n hx hb dX0_needsBoth_25 rfl (lv_at hl 1 rfl) ?_
  refine lv_iload_n hx hb dX0_needsBoth_26 rfl (lv_at hl 2 rfl) ?_
  refine dk_callR (As := [.int (nI v)]) (rest := []) S I (met_isMakers l D h kL kV kF cA mk n lo L b1 V F1 v (by omega)) (cwV 1 hts (lw_V q80 q82 qs4 q11 q83) rfl rfl rfl (by decide +kernel) ⟨Nat.le_of_ble_eq_true rfl, Nat.le_of_ble_eq_true rfl⟩) rfl hl.1 (Nat.le_of_ble_eq_true rfl) rfl dX0_needsBoth_27 (fun r hr1 => ?_)
  subst hr1
  refine lv_if_eq (tgt := 46) hx hb dX0_needsBoth_30 (by decide) (fun c1 => ?_) (fun c1 => ?_)
  · refine lv_iconst (v := 0) hx hb dX0_needsBoth_46 (by decide) ?_
    exact J false (fun q => (by cases q))
  · refine lv_aload_n hx hb dX0_needsBoth_33 rfl (lv_at hl 1 rfl) ?_
    refine dk_follows S I dX0_needsBoth_34 ?_
    refine lv_iload_n hx hb dX0_needsBoth_37 rfl (lv_at hl 2 rfl) ?_
    refine dk_aldF (k := v) hv S I dX0_needsBoth_38 ?_
    refine lv_if_ne (tgt := 46) hx hb dX0_needsBoth_39 (by decide) (fun c2 => ?_) (fun c2 => ?_)
    · refine lv_iconst (v := 0) hx hb dX0_needsBoth_46 (by decide) ?_
      exact J false (fun q => (by cases q))
    · refine lv_iconst (v := 1) hx hb dX0_needsBoth_42 (by decide) ?_
      refine lv_goto (tgt := 47) hx hb dX0_needsBoth_43 (by decide) ?_
      exact J true (fun _ => ⟨bI_n0.mp c1, eI_0.mp c2⟩)
end
section
/-! QbfDesk.isWon: the search. Entered at v, it comes back to v with the result of the game from there -/
def cst : Nat → Nat
  | 0 => 1
  | r + 1 => 2 * cst r + 3
theorem wn_set1 {M : Nat → Bool} {P : (Nat → Bool) → Prop} {v : Nat} {a : Nat → Bool} {y res : Bool} (hv : v < 8) (h1 : y = true → (win M P (8 - v) a ↔ win M P (7 - v) (va_up a v true))) (h2 : res = true ↔ win M P (7 - v) (va_up a v y)) (h3 : y = true ∨ res = M v ∨ (win M P (8 - v) a ↔ win M P (7 - v) (va_up a v false))) : res = true ↔ win M P (8 - v) a := by
  cases y with
  | true => rw [h1 rfl]; exact h2
  | false =>
    rcases h3 with h3 | h3 | h3
    · cases h3
    · rw [win_at hv]
      by_cases hM : M v = true
      · rw [if_pos hM]
        rw [hM] at h3
        exact ⟨fun q => Or.inl (h2.mp q), fun _ => h3⟩
      · rw [if_neg hM]
        exact ⟨fun q => absurd (h3.symm.trans q) hM, fun q => h2.mpr q.1⟩
    · rw [h3]; exact h2
theorem wn_set2 {M : Nat → Bool} {P : (Nat → Bool) → Prop} {v : Nat} {a : Nat → Bool} {res res2 : Bool} (hv : v < 8) (h1 : res = true ↔ win M P (7 - v) (va_up a v false)) (h2 : res ≠ M v) (h3 : res2 = true ↔ win M P (7 - v) (va_up a v true)) : res2 = true ↔ win M P (8 - v) a := by
  rw [win_at hv]
  by_cases hM : M v = true
  · rw [if_pos hM]
    have hf : ¬ win M P (7 - v) (va_up a v false) := fun q => h2 ((h1.mpr q).trans hM.symm)
    exact ⟨fun q => Or.inr (h3.mp q), fun q => q.elim (fun z => absurd z hf) h3.mpr⟩
  · rw [if_neg hM]
    have hr : res = true := by
      cases hres : res with
      | true => rfl
      | false =>
        cases hMv : M v with
        | true => exact absurd hMv hM
        | false => exact absurd (hres.trans hMv.symm) h2
    exact ⟨fun q => ⟨h1.mp hr, h3.mp q⟩, fun q => h3.mpr q.2⟩
/-- the values in V are those of the play a before v -/
def mat (V : Nat → Option Bool) (v : Nat) (a : Nat → Bool) : Prop := ∀ u, u < 8 → V u = if u < v then some (a u) else none
theorem mat_up {V : Nat → Option Bool} {v : Nat} {a : Nat → Bool} (h : mat V v a) (y : Bool) : mat (va_up V v (some y)) (v + 1) (va_up a v y) := by
  intro u hu
  by_cases q : u = v
  · rw [q, va_up_self, va_up_self, if_pos (by omega)]
  · rw [va_up_ne _ _ q, va_up_ne _ _ q, h u hu]
    by_cases z : u < v
    · rw [if_pos z, if_pos (by omega)]
    · rw [if_neg z, if_neg (by omega)]
theorem mat_dn {V : Nat → Option Bool} {v : Nat} {a : Nat → Bool} {y : Bool} (hv : v < 8) (h : mat V (v + 1) (va_up a v y)) : mat (va_up V v none) v a ∧ V v = some y := by
  refine ⟨fun u hu => ?_, by rw [h v hv, if_pos (by omega), va_up_self]⟩
  by_cases q : u = v
  · rw [q, va_up_self, if_neg (by omega)]
  · rw [va_up_ne _ _ q, h u hu, va_up_ne _ _ q]
    by_cases z : u < v
    · rw [if_pos z, if_pos (by omega)]
    · rw [if_neg z, if_neg (by omega)]
theorem mat_re {V : Nat → Option Bool} {v : Nat} {a : Nat → Bool} {y : Bool} (hv : v < 8) (h : mat V (v + 1) (va_up a v y)) (z : Bool) : mat (va_up V v (some z)) (v + 1) (va_up a v z) := by
  have := mat_up (mat_dn hv h).1 z
  rw [up_up] at this
  exact this
set_option maxHeartbeats 8000000 in
set_option maxRecDepth 100000 in
theorem met_isWon (l : Launch) (D : va_G) (h kL kV kF : Nat) (cA : ClassId) (sz : Nat) (mk : Int32) (n : Nat) (lo : Int32) (L : Nat → Int32) (b : Bool) (V F : Nat → Option Bool) (q : Nat) (hn : n ≤ 20) (hq : q < 512) : dkMi l yX0_isWon (ws_ yX0_isWon cX0_isWon 8 (some .boolean)) (rmm 4 94) D h kL kV kF cA [.int (nI q)] sz (mk, n, lo, L, b, V, F) (fun r u' => ∃ b' V' F', u' = (mk, n, lo, L, b', V', F') ∧ ∃ w : Bool, r = bI w ∧ (w = true ↔ WON (bt mk) n lo L q)) := by
  refine dk_mZ (by decide) rfl (Nat.le_of_ble_eq_true rfl) ?_
  intro p e s m args below meth c A Q ls S I ret hl
  have hx := S.1
  have hb := S.2.1
  have hts := S.2.2.2.2
  have hl : lv_has ls 8 [(0, .ref h), (1, .int (nI q))] := hl
  refine lv_iload_n hx hb dX0_isWon_0 rfl (lv_at hl 1 rfl) ?_
  refine st_call (As := [.int (nI q)]) (rest := []) S (met_lengthOf l q hq) (va_cwS 1 hts (lw_S q65 q66 q11 q67) rfl rfl rfl (by decide +kernel) ⟨Nat.le_of_ble_eq_true rfl, Nat.le_of_ble_eq_true rfl⟩) rfl hl.1 (Nat.le_of_ble_eq_true rfl) rfl dX0_isWon_1 (fun r hr1 => ?_)
  subst hr1
  have hst := lg_lt q hq
  have hfin := WON_won (M := bt mk) (n := n) (lo := lo) (L := L) hq
  obtain ⟨st, est⟩ : ∃ st, st = Nat.log2 q := ⟨_, rfl⟩
  rw [← est] at hst hfin ⊢
  refine lv_istore_n (lv' := [(2, .int (nI st)), (0, .ref h), (1, .int (nI q))]) hx hb dX0_isWon_4 rfl hl (by decide) rfl (fun ls hl => ?_)
  refine lv_iconst (v := 0) hx hb dX0_isWon_5 (by decide) ?_
  refine lv_istore_n (lv' := [(3, .int 0), (2, .int (nI st)), (0, .ref h), (1, .int (nI q))]) hx hb dX0_isWon_6 rfl hl (by decide) rfl (fun ls hl => ?_)
  have enter : ∀ (v stp : Nat) (a : Nat → Bool) (res b : Bool) (V F : Nat → Option Bool) (H : Heap) (locs : List Loc) (ls : Array Slot), v ≤ 8 → stp < 2000 → mat V v a → dkI D A h kL kV kF cA s H locs (mk, n, lo, L, b, V, F) → lv_has ls 8 [(0, .ref h), (1, .int (nI q)), (2, .int (nI st)), (3, .int (nI v)), (4, .int (bI true)), (5, .int (bI res)), (6, .int (nI stp))] →
      (∀ (res' b' : Bool) (F' : Nat → Option Bool) (H : Heap) (locs : List Loc) (ls : Array Slot), (res' = true ↔ win (bt mk) (allH n lo L) (8 - v) a) → dkI D A h kL kV kF cA s H locs (mk, n, lo, L, b', V, F') → lv_has ls 8 [(0, .ref h), (1, .int (nI q)), (2, .int (nI st)), (3, .int (nI v)), (4, .int (bI false)), (5, .int (bI res')), (6, .int (nI (stp + 1)))] → W p l e (rmm 4 94) s m args below meth c H locs 0 0 Q (F0 m 54 ls [])) →
      (v < 8 → ∀ (y b' : Bool) (F' : Nat → Option Bool) (H : Heap) (locs : List Loc) (ls : Array Slot), (y = true → (win (bt mk) (allH n lo L) (8 - v) a ↔ win (bt mk) (allH n lo L) (7 - v) (va_up a v true))) → dkI D A h kL kV kF cA s H locs (mk, n, lo, L, b', va_up V v (some y), F') → lv_has ls 8 [(0, .ref h), (1, .int (nI q)), (2, .int (nI st)), (3, .int (nI (v + 1))), (4, .int (bI true)), (5, .int (bI res)), (6, .int (nI (stp + 1)))] → W p l e (rmm 4 94) s m args below meth c H locs 0 0 Q (F0 m 54 ls [])) →
      W p l e (rmm 4 94) s m args below meth c H locs 0 0 Q (F0 m 54 ls []) := by
    intro v stp a res b V F H locs ls hv8 hstp hV I hl K1 K2
    refine lv_iload hx hb dX0_isWon_54 (lv_at hl 6 rfl) ?_
    refine lv_sipush (v := 2000) hx hb dX0_isWon_56 (by decide) ?_
    refine lv_icmp_ge (tgt := 206) hx hb dX0_isWon_59 (by decide) (fun c1 => ?_) (fun c1 => ?_)
    · exact absurd c1 (nI_ge (a := stp) (b := 2000) (by omega) (by omega))
    · refine lv_iload hx hb dX0_isWon_62 (lv_at hl 4 rfl) ?_
      refine lv_if_eq (tgt := 122) hx hb dX0_isWon_64 (by decide) (fun c2 => ?_) (fun c2 => ?_)
      · exact absurd c2 (by decide)
      · refine lv_aload_n hx hb dX0_isWon_67 rfl (lv_at hl 0 rfl) ?_
        refine lv_iload_n hx hb dX0_isWon_68 rfl (lv_at hl 3 rfl) ?_
        refine dk_callv (As := [.int (nI v)]) (rest := []) S I (met_derive l D h kL kV kF cA H.size mk n lo L b V F (nI v) v a hn hv8 hV) (cwV 1 hts (lw_V q68 q70 qs1 q11 q71) rfl rfl rfl (by decide +kernel) ⟨Nat.le_of_ble_eq_true rfl, Nat.le_of_ble_eq_true rfl⟩) rfl hl.1 (Nat.le_of_ble_eq_true rfl) rfl dX0_isWon_69 (fun u' H locs hp I => ?_)
        obtain ⟨b1, F1, rfl, hD, h8⟩ := hp
        have T : ∀ res' : Bool, (res' = true ↔ win (bt mk) (allH n lo L) (8 - v) a) → W p l e (rmm 4 94) s m args below meth c H locs 0 0 Q (F0 m 97 ls [.int (bI res')]) := by
          intro res' hres
          refine lv_istore (lv' := [(5, .int (bI res')), (0, .ref h), (1, .int (nI q)), (2, .int (nI st)), (3, .int (nI v)), (4, .int (bI true)), (6, .int (nI stp))]) hx hb dX0_isWon_97 hl (by decide) rfl (fun ls hl => ?_)
          refine lv_iconst (v := 0) hx hb dX0_isWon_99 (by decide) ?_
          refine lv_istore (lv' := [(4, .int 0), (5, .int (bI res')), (0, .ref h), (1, .int (nI q)), (2, .int (nI st)), (3, .int (nI v)), (6, .int (nI stp))]) hx hb dX0_isWon_100 hl (by decide) rfl (fun ls hl => ?_)
          refine lv_goto (tgt := 200) hx hb dX0_isWon_102 (by decide) ?_
          refine lv_iinc (v := nI (stp + 1)) (lv' := [(6, .int (nI (stp + 1))), (4, .int 0), (5, .int (bI res')), (0, .ref h), (1, .int (nI q)), (2, .int (nI st)), (3, .int (nI v))]) hx hb dX0_isWon_200 hl (k := 6) rfl (inc1 stp) (by decide) rfl (fun ls hl => ?_)
          refine lv_goto (tgt := 54) hx hb dX0_isWon_203 (by decide) ?_
          have hl := lv_sub hl [3, 4, 5, 6, 1, 2, 0] rfl
          exact K1 res' b1 F1 H locs ls hres I hl
        have E : b1 = true ∨ v = 8 → W p l e (rmm 4 94) s m args below meth c H locs 0 0 Q (F0 m 85 ls []) := by
          intro hE
          refine lv_aload_n hx hb dX0_isWon_85 rfl (lv_at hl 0 rfl) ?_
          refine dk_lost S I dX0_isWon_86 ?_
          refine lv_if_ne (tgt := 96) hx hb dX0_isWon_89 (by decide) (fun c3 => ?_) (fun c3 => ?_)
          · refine lv_iconst (v := 0) hx hb dX0_isWon_96 (by decide) ?_
            exact T false ⟨fun z => (by cases z), fun z => absurd z (hD.2.1 (bI_n0.mp c3))⟩
          · refine lv_iconst (v := 1) hx hb dX0_isWon_92 (by decide) ?_
            refine lv_goto (tgt := 97) hx hb dX0_isWon_93 (by decide) ?_
            have hb1 := bI_0.mp c3
            refine T true ⟨fun _ => ?_, fun _ => rfl⟩
            rcases hE with z | z
            · rw [hb1] at z; cases z
            · have := h8 hb1 z
              subst z
              exact this
        refine lv_aload_n hx hb dX0_isWon_72 rfl (lv_at hl 0 rfl) ?_
        refine dk_lost S I dX0_isWon_73 ?_
        refine lv_if_ne (tgt := 85) hx hb dX0_isWon_76 (by decide) (fun c3 => ?_) (fun c3 => ?_)
        · exact E (Or.inl (bI_n0.mp c3))
        · refine lv_iload_n hx hb dX0_isWon_79 rfl (lv_at hl 3 rfl) ?_
          refine lv_bipush (v := 8) hx hb dX0_isWon_80 (by decide) ?_
          refine lv_icmp_ne (tgt := 105) hx hb dX0_isWon_82 (by decide) (fun c4 => ?_) (fun c4 => ?_)
          · have hv : v < 8 := by
              rcases Nat.lt_or_ge v 8 with z | z
              · exact z
              · exact absurd (by rw [show v = 8 by omega]; rfl) c4
            refine lv_aload_n hx hb dX0_isWon_105 rfl (lv_at hl 0 rfl) ?_
            refine dk_value S I dX0_isWon_106 ?_
            refine lv_iload_n hx hb dX0_isWon_109 rfl (lv_at hl 3 rfl) ?_
            refine lv_aload_n hx hb dX0_isWon_110 rfl (lv_at hl 0 rfl) ?_
            refine lv_iload_n hx hb dX0_isWon_111 rfl (lv_at hl 3 rfl) ?_
            refine dk_callR (As := [.int (nI v)]) (rest := [.int (nI v), .ref kV]) S I (met_firstValue l D h kL kV kF cA mk n lo L b1 V F1 v hv) (cwV 1 hts (lw_V q84 q86 qs5 q11 q87) rfl rfl rfl (by decide +kernel) ⟨Nat.le_of_ble_eq_true rfl, Nat.le_of_ble_eq_true rfl⟩) rfl hl.1 (Nat.le_of_ble_eq_true rfl) rfl dX0_isWon_112 (fun r hr1 => ?_)
            obtain ⟨y, rfl, hy⟩ := hr1
            refine dk_astV (k := v) (some y) hv S I dX0_isWon_115 (fun H locs I => ?_)
            refine lv_iinc (v := nI (v + 1)) (lv' := [(3, .int (nI (v + 1))), (0, .ref h), (1, .int (nI q)), (2, .int (nI st)), (4, .int (bI true)), (5, .int (bI res)), (6, .int (nI stp))]) hx hb dX0_isWon_116 hl (k := 3) rfl (inc1 v) (by decide) rfl (fun ls hl => ?_)
            refine lv_goto (tgt := 200) hx hb dX0_isWon_119 (by decide) ?_
            refine lv_iinc (v := nI (stp + 1)) (lv' := [(6, .int (nI (stp + 1))), (3, .int (nI (v + 1))), (0, .ref h), (1, .int (nI q)), (2, .int (nI st)), (4, .int (bI true)), (5, .int (bI res))]) hx hb dX0_isWon_200 hl (k := 6) rfl (inc1 stp) (by decide) rfl (fun ls hl => ?_)
            refine lv_goto (tgt := 54) hx hb dX0_isWon_203 (by decide) ?_
            have hl := lv_sub hl [2, 3, 4, 1, 5, 6, 0] rfl
            exact K2 hv y b1 F1 H locs ls (fun z => Der_next hv hD (hy z).1 (hy z).2) I hl
          · exact E (Or.inr ((nI_eq (by omega) (by omega)).mp (c4 : nI v = nI 8)))
  have leave : ∀ (v stp : Nat) (a : Nat → Bool) (y res b : Bool) (V F : Nat → Option Bool) (H : Heap) (locs : List Loc) (ls : Array Slot), v < 8 → st ≤ v → stp < 2000 → mat (va_up V v none) v a → V v = some y → dkI D A h kL kV kF cA s H locs (mk, n, lo, L, b, V, F) → lv_has ls 8 [(0, .ref h), (1, .int (nI q)), (2, .int (nI st)), (3, .int (nI (v + 1))), (4, .int (bI false)), (5, .int (bI res)), (6, .int (nI stp))] →
      (y = true ∨ res = bt mk v ∨ (win (bt mk) (allH n lo L) (8 - v) a ↔ win (bt mk) (allH n lo L) (7 - v) (va_up a v false)) → ∀ (b' : Bool) (F' : Nat → Option Bool) (H : Heap) (locs : List Loc) (ls : Array Slot), dkI D A h kL kV kF cA s H locs (mk, n, lo, L, b', va_up V v none, F') → lv_has ls 8 [(0, .ref h), (1, .int (nI q)), (2, .int (nI st)), (3, .int (nI v)), (4, .int (bI false)), (5, .int (bI res)), (6, .int (nI (stp + 1)))] → W p l e (rmm 4 94) s m args below meth c H locs 0 0 Q (F0 m 54 ls [])) →
      (y = false → res ≠ bt mk v → ∀ (b' : Bool) (F' : Nat → Option Bool) (H : Heap) (locs : List Loc) (ls : Array Slot), dkI D A h kL kV kF cA s H locs (mk, n, lo, L, b', va_up V v (some true), F') → lv_has ls 8 [(0, .ref h), (1, .int (nI q)), (2, .int (nI st)), (3, .int (nI (v + 1))), (4, .int (bI true)), (5, .int (bI res)), (6, .int (nI (stp + 1)))] → W p l e (rmm 4 94) s m args below meth c H locs 0 0 Q (F0 m 54 ls [])) →
      W p l e (rmm 4 94) s m args below meth c H locs 0 0 Q (F0 m 54 ls []) := by
    intro v stp a y res b V F H locs ls hv hsv hstp hV hVv I hl K1 K2
    refine lv_iload hx hb dX0_isWon_54 (lv_at hl 6 rfl) ?_
    refine lv_sipush (v := 2000) hx hb dX0_isWon_56 (by decide) ?_
    refine lv_icmp_ge (tgt := 206) hx hb dX0_isWon_59 (by decide) (fun c1 => ?_) (fun c1 => ?_)
    · exact absurd c1 (nI_ge (a := stp) (b := 2000) (by omega) (by omega))
    · refine lv_iload hx hb dX0_isWon_62 (lv_at hl 4 rfl) ?_
      refine lv_if_eq (tgt := 122) hx hb dX0_isWon_64 (by decide) (fun c2 => ?_) (fun c2 => ?_)
      · refine lv_iload_n hx hb dX0_isWon_122 rfl (lv_at hl 3 rfl) ?_
        refine lv_iload_n hx hb dX0_isWon_123 rfl (lv_at hl 2 rfl) ?_
        refine lv_icmp_ne (tgt := 130) hx hb dX0_isWon_124 (by decide) (fun c3 => ?_) (fun c3 => ?_)
        · refine lv_iinc (v := nI v) (lv' := [(3, .int (nI v)), (0, .ref h), (1, .int (nI q)), (2, .int (nI st)), (4, .int (bI false)), (5, .int (bI res)), (6, .int (nI stp))]) hx hb dX0_isWon_130 hl (k := 3) rfl (dec1 v) (by decide) rfl (fun ls hl => ?_)
          have Jf : (y = true ∨ res = bt mk v ∨ (win (bt mk) (allH n lo L) (8 - v) a ↔ win (bt mk) (allH n lo L) (7 - v) (va_up a v false))) → ∀ (b : Bool) (F : Nat → Option Bool) (H : Heap) (locs : List Loc), dkI D A h kL kV kF cA s H locs (mk, n, lo, L, b, V, F) → W p l e (rmm 4 94) s m args below meth c H locs 0 0 Q (F0 m 165 ls [.int (bI false)]) := by
            intro hc b F H locs I
            refine lv_istore (lv' := [(7, .int (bI false)), (3, .int (nI v)), (0, .ref h), (1, .int (nI q)), (2, .int (nI st)), (4, .int (bI false)), (5, .int (bI res)), (6, .int (nI stp))]) hx hb dX0_isWon_165 hl (by decide) rfl (fun ls hl => ?_)
            refine lv_aload_n hx hb dX0_isWon_167 rfl (lv_at hl 2 rfl) ?_
            refine dk_value S I dX0_isWon_168 ?_
            refine lv_iload_n hx hb dX0_isWon_171 rfl (lv_at hl 1 rfl) ?_
            refine lv_iload hx hb dX0_isWon_172 (lv_at hl 0 rfl) ?_
            refine lv_if_eq (tgt := 181) hx hb dX0_isWon_174 (by decide) (fun c5 => ?_) (fun c5 => ?_)
            · refine lv_iconst (v := -1) hx hb dX0_isWon_181 (by decide) ?_
              refine dk_astV (k := v) none hv S I dX0_isWon_182 (fun H locs I => ?_)
              refine lv_iload_n hx hb dX0_isWon_183 rfl (lv_at hl 1 rfl) ?_
              refine lv_iload hx hb dX0_isWon_184 (lv_at hl 0 rfl) ?_
              refine lv_if_eq (tgt := 193) hx hb dX0_isWon_186 (by decide) (fun c6 => ?_) (fun c6 => ?_)
              · refine lv_iconst (v := 0) hx hb dX0_isWon_193 (by decide) ?_
                refine lv_iadd hx hb dX0_isWon_194 ?_
                refine w_top (y := nI v) (Int32.add_zero _) ?_
                refine lv_istore_n (lv' := [(3, .int (nI v)), (7, .int (bI false)), (0, .ref h), (1, .int (nI q)), (2, .int (nI st)), (4, .int (bI false)), (5, .int (bI res)), (6, .int (nI stp))]) hx hb dX0_isWon_195 rfl hl (by decide) rfl (fun ls hl => ?_)
                refine lv_iload hx hb dX0_isWon_196 (lv_at hl 1 rfl) ?_
                refine lv_istore (lv' := [(4, .int (bI false)), (3, .int (nI v)), (7, .int (bI false)), (0, .ref h), (1, .int (nI q)), (2, .int (nI st)), (5, .int (bI res)), (6, .int (nI stp))]) hx hb dX0_isWon_198 hl (by decide) rfl (fun ls hl => ?_)
                refine lv_iinc (v := nI (stp + 1)) (lv' := [(6, .int (nI (stp + 1))), (4, .int (bI false)), (3, .int (nI v)), (7, .int (bI false)), (0, .ref h), (1, .int (nI q)), (2, .int (nI st)), (5, .int (bI res))]) hx hb dX0_isWon_200 hl (k := 7) rfl (inc1 stp) (by decide) rfl (fun ls hl => ?_)
                refine lv_goto (tgt := 54) hx hb dX0_isWon_203 (by decide) ?_
                have hl := lv_sub hl [4, 5, 6, 2, 1, 7, 0] rfl
                exact K1 hc b F H locs ls I hl
              · exact absurd rfl c6
            · exact absurd rfl c5
          have Jt : y = false → res ≠ bt mk v → ∀ (b : Bool) (F : Nat → Option Bool) (H : Heap) (locs : List Loc), dkI D A h kL kV kF cA s H locs (mk, n, lo, L, b, V, F) → W p l e (rmm 4 94) s m args below meth c H locs 0 0 Q (F0 m 165 ls [.int (bI true)]) := by
            intro hc1 hc2 b F H locs I
            refine lv_istore (lv' := [(7, .int (bI true)), (3, .int (nI v)), (0, .ref h), (1, .int (nI q)), (2, .int (nI st)), (4, .int (bI false)), (5, .int (bI res)), (6, .int (nI stp))]) hx hb dX0_isWon_165 hl (by decide) rfl (fun ls hl => ?_)
            refine lv_aload_n hx hb dX0_isWon_167 rfl (lv_at hl 2 rfl) ?_
            refine dk_value S I dX0_isWon_168 ?_
            refine lv_iload_n hx hb dX0_isWon_171 rfl (lv_at hl 1 rfl) ?_
            refine lv_iload hx hb dX0_isWon_172 (lv_at hl 0 rfl) ?_
            refine lv_if_eq (tgt := 181) hx hb dX0_isWon_174 (by decide) (fun c5 => ?_) (fun c5 => ?_)
            · exact absurd c5 (by decide)
            · refine lv_iconst (v := 1) hx hb dX0_isWon_177 (by decide) ?_
              refine lv_goto (tgt := 182) hx hb dX0_isWon_178 (by decide) ?_
              refine dk_astV (k := v) (some true) hv S I dX0_isWon_182 (fun H locs I => ?_)
              refine lv_iload_n hx hb dX0_isWon_183 rfl (lv_at hl 1 rfl) ?_
              refine lv_iload hx hb dX0_isWon_184 (lv_at hl 0 rfl) ?_
              refine lv_if_eq (tgt := 193) hx hb dX0_isWon_186 (by decide) (fun c6 => ?_) (fun c6 => ?_)
              · exact absurd c6 (by decide)
              · refine lv_iconst (v := 1) hx hb dX0_isWon_189 (by decide) ?_
                refine lv_goto (tgt := 194) hx hb dX0_isWon_190 (by decide) ?_
                refine lv_iadd hx hb dX0_isWon_194 ?_
                refine w_top (y := nI (v + 1)) (nI_1 v) ?_
                refine lv_istore_n (lv' := [(3, .int (nI (v + 1))), (7, .int (bI true)), (0, .ref h), (1, .int (nI q)), (2, .int (nI st)), (4, .int (bI false)), (5, .int (bI res)), (6, .int (nI stp))]) hx hb dX0_isWon_195 rfl hl (by decide) rfl (fun ls hl => ?_)
                refine lv_iload hx hb dX0_isWon_196 (lv_at hl 1 rfl) ?_
                refine lv_istore (lv' := [(4, .int (bI true)), (3, .int (nI (v + 1))), (7, .int (bI true)), (0, .ref h), (1, .int (nI q)), (2, .int (nI st)), (5, .int (bI res)), (6, .int (nI stp))]) hx hb dX0_isWon_198 hl (by decide) rfl (fun ls hl => ?_)
                refine lv_iinc (v := nI (stp + 1)) (lv' := [(6, .int (nI (stp + 1))), (4, .int (bI true)), (3, .int (nI (v + 1))), (7, .int (bI true)), (0, .ref h), (1, .int (nI q)), (2, .int (nI st)), (5, .int (bI res))]) hx hb dX0_isWon_200 hl (k := 7) rfl (inc1 stp) (by decide) rfl (fun ls hl => ?_)
                refine lv_goto (tgt := 54) hx hb dX0_isWon_203 (by decide) ?_
                have hl := lv_sub hl [4, 5, 6, 2, 1, 7, 0] rfl
                exact K2 hc1 hc2 b F H locs ls I hl
          refine lv_aload_n hx hb dX0_isWon_133 rfl (lv_at hl 1 rfl) ?_
          refine dk_value S I dX0_isWon_134 ?_
          refine lv_iload_n hx hb dX0_isWon_137 rfl (lv_at hl 0 rfl) ?_
          refine dk_aldV (k := v) hv S I dX0_isWon_138 ?_
          rw [hVv]
          refine lv_if_ne (tgt := 164) hx hb dX0_isWon_139 (by decide) (fun c4 => ?_) (fun c4 => ?_)
          · refine lv_iconst (v := 0) hx hb dX0_isWon_164 (by decide) ?_
            refine Jf (Or.inl ?_) b F H locs I
            cases y with
            | true => rfl
            | false => exact absurd rfl c4
          · have hy : y = false := by
              cases y with
              | true => exact absurd c4 (by decide)
              | false => rfl
            refine lv_iload hx hb dX0_isWon_142 (lv_at hl 5 rfl) ?_
            refine lv_aload_n hx hb dX0_isWon_144 rfl (lv_at hl 1 rfl) ?_
            refine lv_iload_n hx hb dX0_isWon_145 rfl (lv_at hl 0 rfl) ?_
            refine dk_callR (As := [.int (nI v)]) (rest := [.int (bI res)]) S I (met_isMakers l D h kL kV kF cA mk n lo L b V F v (by omega)) (cwV 1 hts (lw_V q80 q82 qs4 q11 q83) rfl rfl rfl (by decide +kernel) ⟨Nat.le_of_ble_eq_true rfl, Nat.le_of_ble_eq_true rfl⟩) rfl hl.1 (Nat.le_of_ble_eq_true rfl) rfl dX0_isWon_146 (fun r hr1 => ?_)
            subst hr1
            refine lv_icmp_eq (tgt := 164) hx hb dX0_isWon_149 (by decide) (fun c5 => ?_) (fun c5 => ?_)
            · refine lv_iconst (v := 0) hx hb dX0_isWon_164 (by decide) ?_
              exact Jf (Or.inr (Or.inl (bI_inj.mp c5))) b F H locs I
            · refine lv_aload_n hx hb dX0_isWon_152 rfl (lv_at hl 1 rfl) ?_
              refine lv_iload_n hx hb dX0_isWon_153 rfl (lv_at hl 0 rfl) ?_
              refine dk_calli (As := [.int (nI v)]) (rest := []) S I (met_needsBoth l D h kL kV kF cA H.size mk n lo L b V F v a hn hv hV (hVv.trans (by rw [hy]))) (cwV 1 hts (lw_V q88 q90 qs6 q11 q91) rfl rfl rfl (by decide +kernel) ⟨Nat.le_of_ble_eq_true rfl, Nat.le_of_ble_eq_true rfl⟩) rfl hl.1 (Nat.le_of_ble_eq_true rfl) rfl dX0_isWon_154 (fun r u' H locs hp I => ?_)
              obtain ⟨b1, F1, rfl, x, rfl, hx1⟩ := hp
              refine lv_if_eq (tgt := 164) hx hb dX0_isWon_157 (by decide) (fun c6 => ?_) (fun c6 => ?_)
              · refine lv_iconst (v := 0) hx hb dX0_isWon_164 (by decide) ?_
                exact Jf (Or.inr (Or.inr (hx1 (bI_0.mp c6)))) b1 F1 H locs I
              · refine lv_iconst (v := 1) hx hb dX0_isWon_160 (by decide) ?_
                refine lv_goto (tgt := 165) hx hb dX0_isWon_161 (by decide) ?_
                exact Jt hy (fun z => c5 (bI_inj.mpr z)) b1 F1 H locs I
        · exact absurd ((nI_eq (by omega) (by omega)).mp c3) (by omega)
      · exact absurd rfl c2
  have go : ∀ (r v : Nat) (a : Nat → Bool) (stp : Nat) (res b : Bool) (V F : Nat → Option Bool) (H : Heap) (locs : List Loc) (ls : Array Slot), v + r = 8 → st ≤ v → stp + cst r < 2000 → mat V v a → dkI D A h kL kV kF cA s H locs (mk, n, lo, L, b, V, F) → lv_has ls 8 [(0, .ref h), (1, .int (nI q)), (2, .int (nI st)), (3, .int (nI v)), (4, .int (bI true)), (5, .int (bI res)), (6, .int (nI stp))] →
      (∀ (stp' : Nat) (res' b' : Bool) (V' F' : Nat → Option Bool) (H : Heap) (locs : List Loc) (ls : Array Slot), stp' ≤ stp + cst r → mat V' v a → (res' = true ↔ win (bt mk) (allH n lo L) (8 - v) a) → dkI D A h kL kV kF cA s H locs (mk, n, lo, L, b', V', F') → lv_has ls 8 [(0, .ref h), (1, .int (nI q)), (2, .int (nI st)), (3, .int (nI v)), (4, .int (bI false)), (5, .int (bI res')), (6, .int (nI stp'))] → W p l e (rmm 4 94) s m args below meth c H locs 0 0 Q (F0 m 54 ls [])) →
      W p l e (rmm 4 94) s m args below meth c H locs 0 0 Q (F0 m 54 ls []) := by
    intro r
    induction r with
    | zero =>
      intro v a stp res b V F H locs ls hvr hsv hstp hV I hl K
      refine enter v stp a res b V F H locs ls (by omega) (by omega) hV I hl (fun res' b' F' H locs ls h1 I hl => K (stp + 1) res' b' V F' H locs ls (Nat.le_refl _) hV h1 I hl) (fun z => by omega)
    | succ r ih =>
      intro v a stp res b V F H locs ls hvr hsv hstp hV I hl K
      have hv : v < 8 := by omega
      have ec : cst (r + 1) = 2 * cst r + 3 := rfl
      refine enter v stp a res b V F H locs ls (by omega) (by omega) hV I hl (fun res' b' F' H locs ls h1 I hl => K (stp + 1) res' b' V F' H locs ls (by omega) hV h1 I hl) (fun _ y b' F' H locs ls hy I hl => ?_)
      refine ih (v + 1) (va_up a v y) (stp + 1) res b' _ F' H locs ls (by omega) (by omega) (by omega) (mat_up hV y) I hl (fun stp1 res1 b1 V1 F1 H locs ls hs1 hV1 hr1 I hl => ?_)
      obtain ⟨hV2, hVv⟩ := mat_dn hv hV1
      rw [show 8 - (v + 1) = 7 - v by omega] at hr1
      refine leave v stp1 a y res1 b1 V1 F1 H locs ls hv hsv (by omega) hV2 hVv I hl (fun hc b2 F2 H locs ls I hl => ?_) (fun hc1 hc2 b2 F2 H locs ls I hl => ?_)
      · exact K (stp1 + 1) res1 b2 _ F2 H locs ls (by omega) hV2 (wn_set1 hv hy hr1 hc) I hl
      · rw [hc1] at hr1
        refine ih (v + 1) (va_up a v true) (stp1 + 1) res1 b2 _ F2 H locs ls (by omega) (by omega) (by omega) (mat_re hv hV1 true) I hl (fun stp2 res2 b3 V3 F3 H locs ls hs2 hV3 hr2 I hl => ?_)
        obtain ⟨hV4, hVv4⟩ := mat_dn hv hV3
        rw [show 8 - (v + 1) = 7 - v by omega] at hr2
        refine leave v stp2 a true res2 b3 V3 F3 H locs ls hv hsv (by omega) hV4 hVv4 I hl (fun hc b4 F4 H locs ls I hl => ?_) (fun hc1 => (by cases hc1))
        exact K (stp2 + 1) res2 b4 _ F4 H locs ls (by omega) hV4 (wn_set2 hv hr1 hc2 hr2) I hl
  have hcst : ∀ r, r < 9 → cst r < 1900 := by decide
  have fill : ∀ (d j : Nat) (V : Nat → Option Bool) (H : Heap) (locs : List Loc) (ls : Array Slot), j + d = 8 → (∀ u, u < j → V u = if u < st then some (q.testBit (st - 1 - u)) else none) → dkI D A h kL kV kF cA s H locs (mk, n, lo, L, b, V, F) → lv_has ls 8 [(0, .ref h), (1, .int (nI q)), (2, .int (nI st)), (3, .int (nI j))] → W p l e (rmm 4 94) s m args below meth c H locs 0 0 Q (F0 m 7 ls []) := by
    intro d
    induction d with
    | zero =>
      intro j V H locs ls hd hV I hl
      refine lv_iload_n hx hb dX0_isWon_7 rfl (lv_at hl 3 rfl) ?_
      refine lv_bipush (v := 8) hx hb dX0_isWon_8 (by decide) ?_
      refine lv_icmp_ge (tgt := 43) hx hb dX0_isWon_10 (by decide) (fun c1 => ?_) (fun c1 => ?_)
      · refine lv_iload_n hx hb dX0_isWon_43 rfl (lv_at hl 2 rfl) ?_
        refine lv_istore_n (lv' := [(3, .int (nI st)), (0, .ref h), (1, .int (nI q)), (2, .int (nI st))]) hx hb dX0_isWon_44 rfl hl (by decide) rfl (fun ls hl => ?_)
        refine lv_iconst (v := 1) hx hb dX0_isWon_45 (by decide) ?_
        refine lv_istore (lv' := [(4, .int 1), (3, .int (nI st)), (0, .ref h), (1, .int (nI q)), (2, .int (nI st))]) hx hb dX0_isWon_46 hl (by decide) rfl (fun ls hl => ?_)
        refine lv_iconst (v := 0) hx hb dX0_isWon_48 (by decide) ?_
        refine lv_istore (lv' := [(5, .int 0), (4, .int 1), (3, .int (nI st)), (0, .ref h), (1, .int (nI q)), (2, .int (nI st))]) hx hb dX0_isWon_49 hl (by decide) rfl (fun ls hl => ?_)
        refine lv_iconst (v := 0) hx hb dX0_isWon_51 (by decide) ?_
        refine lv_istore (lv' := [(6, .int 0), (5, .int 0), (4, .int 1), (3, .int (nI st)), (0, .ref h), (1, .int (nI q)), (2, .int (nI st))]) hx hb dX0_isWon_52 hl (by decide) rfl (fun ls hl => ?_)
        have hl := lv_sub hl [4, 5, 6, 3, 2, 1, 0] rfl
        refine go (8 - st) st (fun u => q.testBit (st - 1 - u)) 0 false b V F H locs ls (by omega) (Nat.le_refl _) (by have := hcst (8 - st) (by omega); omega) (fun u hu => hV u (by omega)) I hl (fun stp res b V F H locs ls h1 h2 h3 I hl => ?_)
        have hs2 : stp < 2000 := by have := hcst (8 - st) (by omega); omega
        refine lv_iload hx hb dX0_isWon_54 (lv_at hl 6 rfl) ?_
        refine lv_sipush (v := 2000) hx hb dX0_isWon_56 (by decide) ?_
        refine lv_icmp_ge (tgt := 206) hx hb dX0_isWon_59 (by decide) (fun c2 => ?_) (fun c2 => ?_)
        · exact absurd c2 (nI_ge (a := stp) (b := 2000) (by omega) (by omega))
        · refine lv_iload hx hb dX0_isWon_62 (lv_at hl 4 rfl) ?_
          refine lv_if_eq (tgt := 122) hx hb dX0_isWon_64 (by decide) (fun c3 => ?_) (fun c3 => ?_)
          · refine lv_iload_n hx hb dX0_isWon_122 rfl (lv_at hl 3 rfl) ?_
            refine lv_iload_n hx hb dX0_isWon_123 rfl (lv_at hl 2 rfl) ?_
            refine lv_icmp_ne (tgt := 130) hx hb dX0_isWon_124 (by decide) (fun c4 => ?_) (fun c4 => ?_)
            · exact absurd rfl c4
            · refine lv_iload hx hb dX0_isWon_127 (lv_at hl 5 rfl) ?_
              exact ret res _ 129 ls H locs dX0_isWon_129 I ⟨b, V, F, rfl, res, rfl, h3.trans hfin⟩
          · exact absurd rfl c3
      · exact absurd (show (8 : Int32) ≤ nI j by rw [show j = 8 by omega]; decide) c1
    | succ d ih =>
      intro j V H locs ls hd hV I hl
      have hj : j < 8 := by omega
      refine lv_iload_n hx hb dX0_isWon_7 rfl (lv_at hl 3 rfl) ?_
      refine lv_bipush (v := 8) hx hb dX0_isWon_8 (by decide) ?_
      refine lv_icmp_ge (tgt := 43) hx hb dX0_isWon_10 (by decide) (fun c1 => ?_) (fun c1 => ?_)
      · exact absurd c1 (nI_ge (a := j) (b := 8) (by omega) (by omega))
      · have J : ∀ o : Option Bool, o = (if j < st then some (q.testBit (st - 1 - j)) else none) → W p l e (rmm 4 94) s m args below meth c H locs 0 0 Q (F0 m 36 ls [.int (eI o), .int (nI j), .ref kV]) := by
          intro o ho
          refine dk_astV (k := j) o hj S I dX0_isWon_36 (fun H locs I => ?_)
          refine lv_iinc (v := nI (j + 1)) (lv' := [(3, .int (nI (j + 1))), (0, .ref h), (1, .int (nI q)), (2, .int (nI st))]) hx hb dX0_isWon_37 hl (k := 3) rfl (inc1 j) (by decide) rfl (fun ls hl => ?_)
          refine lv_goto (tgt := 7) hx hb dX0_isWon_40 (by decide) ?_
          have hl := lv_sub hl [1, 2, 3, 0] rfl
          refine ih (j + 1) _ H locs ls (by omega) (fun u hu => ?_) I hl
          by_cases z : u = j
          · rw [z, va_up_self]
            exact ho
          · rw [va_up_ne _ _ z]
            exact hV u (by omega)
        refine lv_aload_n hx hb dX0_isWon_13 rfl (lv_at hl 0 rfl) ?_
        refine dk_value S I dX0_isWon_14 ?_
        refine lv_iload_n hx hb dX0_isWon_17 rfl (lv_at hl 3 rfl) ?_
        refine lv_iload_n hx hb dX0_isWon_18 rfl (lv_at hl 3 rfl) ?_
        refine lv_iload_n hx hb dX0_isWon_19 rfl (lv_at hl 2 rfl) ?_
        refine lv_icmp_ge (tgt := 35) hx hb dX0_isWon_20 (by decide) (fun c2 => ?_) (fun c2 => ?_)
        · refine lv_iconst (v := -1) hx hb dX0_isWon_35 (by decide) ?_
          refine J none ?_
          rw [if_neg]
          have := (nI_leI (by omega) (by omega)).mp c2
          omega
        · have hjs : j < st := by
            rcases Nat.lt_or_ge j st with z | z
            · exact z
            · exact absurd (nI_le z (by omega)) c2
          refine lv_iload_n hx hb dX0_isWon_23 rfl (lv_at hl 1 rfl) ?_
          refine lv_iload_n hx hb dX0_isWon_24 rfl (lv_at hl 2 rfl) ?_
          refine lv_iconst (v := 1) hx hb dX0_isWon_25 (by decide) ?_
          refine lv_isub hx hb dX0_isWon_26 ?_
          refine w_top (y := nI (st - 1)) (pk_sub (a := st) (b := 1) (by omega)) ?_
          refine lv_iload_n hx hb dX0_isWon_27 rfl (lv_at hl 3 rfl) ?_
          refine lv_isub hx hb dX0_isWon_28 ?_
          refine w_top (y := nI (st - 1 - j)) (pk_sub (by omega)) ?_
          refine lv_iushr hx hb dX0_isWon_29 rfl ?_
          refine lv_iconst (v := 1) hx hb dX0_isWon_30 (by decide) ?_
          refine lv_iand hx hb dX0_isWon_31 ?_
          refine w_top (y := eI (some (q.testBit (st - 1 - j)))) (by rw [sh_u1 _ (by omega), bt_nI q (by omega), eI_b]) ?_
          refine lv_goto (tgt := 36) hx hb dX0_isWon_32 (by decide) ?_
          exact J _ (by rw [if_pos hjs])
  have hl := lv_sub hl [2, 3, 1, 0] rfl
  exact fill 8 0 V s.heap [] ls rfl (fun u hu => by omega) I hl
end
section
/-! QbfDesk: the public methods -/
set_option maxHeartbeats 4000000 in
set_option maxRecDepth 100000 in
theorem met_give (l : Launch) (D : va_G) (h kL kV kF : Nat) (cA : ClassId) (sz : Nat) (mk : Int32) (n : Nat) (lo : Int32) (L : Nat → Int32) (b : Bool) (V F : Nat → Option Bool) (x : Int32) (g : Bool) (j : Nat) (hxj : x &&& 7 = nI j) : dkMv l yX0_give (ws_ yX0_give cX0_give 4 none) (rmm 0 0) D h kL kV kF cA [.int x, .int (bI g)] sz (mk, n, lo, L, b, V, F) (fun u' => ∃ mk', u' = (mk', n, lo, L, b, V, F) ∧ (g = true → mk' = mk ||| bit1 j) ∧ (g = false → mk' = mk &&& (bit1 j ^^^ (-1)))) := by
  refine dk_mV (by decide) rfl (Nat.le_of_ble_eq_true rfl) ?_
  intro p e s m args below meth c A Q ls S I ret hl
  have hx := S.1
  have hb := S.2.1
  have hl : lv_has ls 4 [(0, .ref h), (1, .int x), (2, .int (bI g))] := hl
  refine lv_iconst (v := 1) hx hb dX0_give_0 (by decide) ?_
  refine lv_iload_n hx hb dX0_give_1 rfl (lv_at hl 1 rfl) ?_
  refine lv_bipush (v := 7) hx hb dX0_give_2 (by decide) ?_
  refine lv_iand hx hb dX0_give_4 ?_
  refine w_top (y := nI j) (hxj) ?_
  refine lv_ishl hx hb dX0_give_5 ?_
  refine w_top (y := bit1 j) (rfl) ?_
  refine lv_istore_n (lv' := [(3, .int (bit1 j)), (0, .ref h), (1, .int x), (2, .int (bI g))]) hx hb dX0_give_6 rfl hl (by decide) rfl (fun ls hl => ?_)
  refine lv_aload_n hx hb dX0_give_7 rfl (lv_at hl 1 rfl) ?_
  refine lv_iload_n hx hb dX0_give_8 rfl (lv_at hl 3 rfl) ?_
  refine lv_if_eq (tgt := 21) hx hb dX0_give_9 (by decide) (fun c1 => ?_) (fun c1 => ?_)
  · refine lv_aload_n hx hb dX0_give_21 rfl (lv_at hl 1 rfl) ?_
    refine dk_makers S I dX0_give_22 ?_
    refine lv_iload_n hx hb dX0_give_25 rfl (lv_at hl 0 rfl) ?_
    refine lv_iconst (v := -1) hx hb dX0_give_26 (by decide) ?_
    refine lv_ixor hx hb dX0_give_27 ?_
    refine lv_iand hx hb dX0_give_28 ?_
    refine dk_put_makers S I dX0_give_29 (fun H locs I => ?_)
    exact ret _ 32 ls H locs dX0_give_32 I ⟨_, rfl, fun z => (by rw [z] at c1; exact absurd c1 (by decide)), fun _ => rfl⟩
  · refine lv_aload_n hx hb dX0_give_12 rfl (lv_at hl 1 rfl) ?_
    refine dk_makers S I dX0_give_13 ?_
    refine lv_iload_n hx hb dX0_give_16 rfl (lv_at hl 0 rfl) ?_
    refine lv_ior hx hb dX0_give_17 ?_
    refine lv_goto (tgt := 29) hx hb dX0_give_18 (by decide) ?_
    refine dk_put_makers S I dX0_give_29 (fun H locs I => ?_)
    exact ret _ 32 ls H locs dX0_give_32 I ⟨_, rfl, fun _ => rfl, fun z => (by rw [z] at c1; exact absurd rfl c1)⟩
set_option maxHeartbeats 4000000 in
set_option maxRecDepth 100000 in
theorem met_add (l : Launch) (D : va_G) (h kL kV kF : Nat) (cA : ClassId) (sz : Nat) (mk : Int32) (n : Nat) (lo : Int32) (L : Nat → Int32) (b : Bool) (V F : Nat → Option Bool) (x : Int32) (hn : n ≤ 20) : dkMi l yX0_add (ws_ yX0_add cX0_add 2 (some .int)) (rmm 0 0) D h kL kV kF cA [.int x] sz (mk, n, lo, L, b, V, F) (fun r u' => (n = 20 ∧ r = -1 ∧ u' = (mk, n, lo, L, b, V, F)) ∨ (n < 20 ∧ r = nI (n + 1) ∧ u' = (mk, n + 1, lo, va_up L n (x &&& 65535), b, V, F))) := by
  refine dk_mI (by decide) rfl (Nat.le_of_ble_eq_true rfl) ?_
  intro p e s m args below meth c A Q ls S I ret hl
  have hx := S.1
  have hb := S.2.1
  have hl : lv_has ls 2 [(0, .ref h), (1, .int x)] := hl
  refine lv_aload_n hx hb dX0_add_0 rfl (lv_at hl 0 rfl) ?_
  refine dk_clauses S I dX0_add_1 ?_
  refine lv_bipush (v := 20) hx hb dX0_add_4 (by decide) ?_
  refine lv_icmp_lt (tgt := 11) hx hb dX0_add_6 (by decide) (fun c1 => ?_) (fun c1 => ?_)
  · have hk : n < 20 := (nI_ltI (by omega) (by omega)).mp (c1 : nI n < nI 20)
    refine lv_aload_n hx hb dX0_add_11 rfl (lv_at hl 0 rfl) ?_
    refine dk_literals S I dX0_add_12 ?_
    refine lv_aload_n hx hb dX0_add_15 rfl (lv_at hl 0 rfl) ?_
    refine dk_clauses S I dX0_add_16 ?_
    refine lv_iload_n hx hb dX0_add_19 rfl (lv_at hl 1 rfl) ?_
    refine lv_ldc (v := 65535) hx hb S.2.2.2.1 (S.2.2.2.2 _ q52) dX0_add_20 ?_
    refine lv_iand hx hb dX0_add_22 ?_
    refine dk_astL (k := n) hk S I dX0_add_23 (fun H locs I => ?_)
    refine lv_aload_n hx hb dX0_add_24 rfl (lv_at hl 0 rfl) ?_
    refine lv_dup hx hb dX0_add_25 rfl ?_
    refine dk_clauses S I dX0_add_26 ?_
    refine lv_iconst (v := 1) hx hb dX0_add_29 (by decide) ?_
    refine lv_iadd hx hb dX0_add_30 ?_
    refine w_top (y := nI (n + 1)) (nI_1 n) ?_
    refine dk_put_clauses (k := n + 1) S I dX0_add_31 (fun H locs I => ?_)
    refine lv_aload_n hx hb dX0_add_34 rfl (lv_at hl 0 rfl) ?_
    refine dk_clauses S I dX0_add_35 ?_
    exact ret _ _ 38 ls H locs dX0_add_38 I (Or.inr ⟨hk, rfl, rfl⟩)
  · refine lv_iconst (v := -1) hx hb dX0_add_9 (by decide) ?_
    refine ret _ _ 10 ls s.heap [] dX0_add_10 I (Or.inl ⟨?_, rfl, rfl⟩)
    rcases Nat.lt_or_ge n 20 with z | z
    · exact absurd (nI_lt z (by omega) : nI n < nI 20) c1
    · omega
set_option maxHeartbeats 4000000 in
set_option maxRecDepth 100000 in
theorem met_drop (l : Launch) (D : va_G) (h kL kV kF : Nat) (cA : ClassId) (sz : Nat) (mk : Int32) (n : Nat) (lo : Int32) (L : Nat → Int32) (b : Bool) (V F : Nat → Option Bool) (x : Int32) (hn : n ≤ 20) : dkMi l yX0_drop (ws_ yX0_drop cX0_drop 3 (some .int)) (rmm 0 0) D h kL kV kF cA [.int x] sz (mk, n, lo, L, b, V, F) (fun r u' => ((x < 0 ∨ ¬ x < nI n) ∧ r = -1 ∧ u' = (mk, n, lo, L, b, V, F)) ∨ (∃ j L', x = nI j ∧ j < n ∧ r = nI (n - 1) ∧ u' = (mk, n - 1, lo, L', b, V, F) ∧ ∀ k, k < n - 1 → L' k = drp L j k)) := by
  refine dk_mI (by decide) rfl (Nat.le_of_ble_eq_true rfl) ?_
  intro p e s m args below meth c A Q ls S I ret hl
  have hx := S.1
  have hb := S.2.1
  have hl : lv_has ls 3 [(0, .ref h), (1, .int x)] := hl
  refine lv_iload_n hx hb dX0_drop_0 rfl (lv_at hl 1 rfl) ?_
  refine lv_if_lt (tgt := 12) hx hb dX0_drop_1 (by decide) (fun c1 => ?_) (fun c1 => ?_)
  · refine lv_iconst (v := -1) hx hb dX0_drop_12 (by decide) ?_
    exact ret _ _ 13 ls s.heap [] dX0_drop_13 I (Or.inl ⟨Or.inl c1, rfl, rfl⟩)
  · refine lv_iload_n hx hb dX0_drop_4 rfl (lv_at hl 1 rfl) ?_
    refine lv_aload_n hx hb dX0_drop_5 rfl (lv_at hl 0 rfl) ?_
    refine dk_clauses S I dX0_drop_6 ?_
    refine lv_icmp_lt (tgt := 14) hx hb dX0_drop_9 (by decide) (fun c2 => ?_) (fun c2 => ?_)
    · obtain ⟨j, hj0, rfl⟩ := nI_of c1
      have hj : j < n := (nI_ltI hj0 (by omega)).mp c2
      refine lv_aload_n hx hb dX0_drop_14 rfl (lv_at hl 0 rfl) ?_
      refine lv_dup hx hb dX0_drop_15 rfl ?_
      refine dk_clauses S I dX0_drop_16 ?_
      refine lv_iconst (v := 1) hx hb dX0_drop_19 (by decide) ?_
      refine lv_isub hx hb dX0_drop_20 ?_
      refine w_top (y := nI (n - 1)) (pk_sub (a := n) (b := 1) (by omega)) ?_
      refine dk_put_clauses (k := n - 1) S I dX0_drop_21 (fun H locs I => ?_)
      refine lv_iload_n hx hb dX0_drop_24 rfl (lv_at hl 1 rfl) ?_
      refine lv_istore_n (lv' := [(2, .int (nI j)), (0, .ref h), (1, .int (nI j))]) hx hb dX0_drop_25 rfl hl (by decide) rfl (fun ls hl => ?_)
      have loop : ∀ (d k : Nat) (L' : Nat → Int32) (H : Heap) (locs : List Loc) (ls : Array Slot), k + d = n - 1 → (∀ i, i < k → L' i = drp L j i) → (∀ i, k ≤ i → L' i = L i) → j ≤ k → dkI D A h kL kV kF cA s H locs (mk, n - 1, lo, L', b, V, F) → lv_has ls 3 [(0, .ref h), (1, .int (nI j)), (2, .int (nI k))] → W p l e (rmm 0 0) s m args below meth c H locs 0 0 Q (F0 m 26 ls []) := by
        intro d
        induction d with
        | zero =>
          intro k L' H locs ls hd h1 h2 h3 I hl
          refine lv_iload_n hx hb dX0_drop_26 rfl (lv_at hl 2 rfl) ?_
          refine lv_aload_n hx hb dX0_drop_27 rfl (lv_at hl 0 rfl) ?_
          refine dk_clauses S I dX0_drop_28 ?_
          refine lv_icmp_ge (tgt := 54) hx hb dX0_drop_31 (by decide) (fun c3 => ?_) (fun c3 => ?_)
          · refine lv_aload_n hx hb dX0_drop_54 rfl (lv_at hl 0 rfl) ?_
            refine dk_clauses S I dX0_drop_55 ?_
            exact ret _ _ 58 ls H locs dX0_drop_58 I (Or.inr ⟨j, L', rfl, hj, rfl, rfl, fun i hi => h1 i (by omega)⟩)
          · exact absurd (nI_le (show n - 1 ≤ k by omega) (by omega)) c3
        | succ d ih =>
          intro k L' H locs ls hd h1 h2 h3 I hl
          have hk : k < 20 := by omega
          refine lv_iload_n hx hb dX0_drop_26 rfl (lv_at hl 2 rfl) ?_
          refine lv_aload_n hx hb dX0_drop_27 rfl (lv_at hl 0 rfl) ?_
          refine dk_clauses S I dX0_drop_28 ?_
          refine lv_icmp_ge (tgt := 54) hx hb dX0_drop_31 (by decide) (fun c3 => ?_) (fun c3 => ?_)
          · exact absurd c3 (nI_ge (show k < n - 1 by omega) (by omega))
          · refine lv_aload_n hx hb dX0_drop_34 rfl (lv_at hl 0 rfl) ?_
            refine dk_literals S I dX0_drop_35 ?_
            refine lv_iload_n hx hb dX0_drop_38 rfl (lv_at hl 2 rfl) ?_
            refine lv_aload_n hx hb dX0_drop_39 rfl (lv_at hl 0 rfl) ?_
            refine dk_literals S I dX0_drop_40 ?_
            refine lv_iload_n hx hb dX0_drop_43 rfl (lv_at hl 2 rfl) ?_
            refine lv_iconst (v := 1) hx hb dX0_drop_44 (by decide) ?_
            refine lv_iadd hx hb dX0_drop_45 ?_
            refine w_top (y := nI (k + 1)) (nI_1 k) ?_
            refine dk_aldL (k := k + 1) (by omega) S I dX0_drop_46 ?_
            refine dk_astL (k := k) hk S I dX0_drop_47 (fun H locs I => ?_)
            refine lv_iinc (v := nI (k + 1)) (lv' := [(2, .int (nI (k + 1))), (0, .ref h), (1, .int (nI j))]) hx hb dX0_drop_48 hl (k := 2) rfl (inc1 k) (by decide) rfl (fun ls hl => ?_)
            refine lv_goto (tgt := 26) hx hb dX0_drop_51 (by decide) ?_
            have hl := lv_sub hl [1, 2, 0] rfl
            refine ih (k + 1) _ H locs ls (by omega) (fun i hi => ?_) (fun i hi => ?_) (by omega) I hl
            · by_cases z : i = k
              · rw [z, va_up_self, h2 (k + 1) (by omega)]
                show _ = if k < j then L k else L (k + 1)
                rw [if_neg (by omega)]
              · rw [va_up_ne _ _ z]
                exact h1 i (by omega)
            · rw [va_up_ne _ _ (by omega)]
              exact h2 i (by omega)
      have hl := lv_sub hl [1, 2, 0] rfl
      exact loop (n - 1 - j) j L H locs ls (by omega) (fun i hi => by show _ = if i < j then L i else L (i + 1); rw [if_pos hi]) (fun _ _ => rfl) (Nat.le_refl _) I hl
    · refine lv_iconst (v := -1) hx hb dX0_drop_12 (by decide) ?_
      exact ret _ _ 13 ls s.heap [] dX0_drop_13 I (Or.inl ⟨Or.inr c2, rfl, rfl⟩)
set_option maxHeartbeats 4000000 in
set_option maxRecDepth 100000 in
theorem met_won (l : Launch) (D : va_G) (h kL kV kF : Nat) (cA : ClassId) (sz : Nat) (mk : Int32) (n : Nat) (L : Nat → Int32) (b : Bool) (V F : Nat → Option Bool) (x : Int32) (hn : n ≤ 20) : dkMi l yX0_won (ws_ yX0_won cX0_won 2 (some .int)) (rmm 5 121) D h kL kV kF cA [.int x] sz (mk, n, -1, L, b, V, F) (fun r u' => r = ansWon (bt mk) n L x ∧ ∃ b' V' F', u' = (mk, n, -1, L, b', V', F')) := by
  refine dk_mI (by decide) rfl (Nat.le_of_ble_eq_true rfl) ?_
  intro p e s m args below meth c A Q ls S I ret hl
  have hx := S.1
  have hb := S.2.1
  have hts := S.2.2.2.2
  have hl : lv_has ls 2 [(0, .ref h), (1, .int x)] := hl
  refine lv_iload_n hx hb dX0_won_0 rfl (lv_at hl 1 rfl) ?_
  refine lv_iconst (v := 1) hx hb dX0_won_1 (by decide) ?_
  refine lv_icmp_lt (tgt := 12) hx hb dX0_won_2 (by decide) (fun c1 => ?_) (fun c1 => ?_)
  · refine lv_iconst (v := -1) hx hb dX0_won_12 (by decide) ?_
    exact ret _ _ 13 ls s.heap [] dX0_won_13 I ⟨(ansWon_out (Or.inl c1)).symm, b, V, F, rfl⟩
  · refine lv_iload_n hx hb dX0_won_5 rfl (lv_at hl 1 rfl) ?_
    refine lv_sipush (v := 511) hx hb dX0_won_6 (by decide) ?_
    refine lv_icmp_le (tgt := 14) hx hb dX0_won_9 (by decide) (fun c2 => ?_) (fun c2 => ?_)
    · obtain ⟨q, h1, h2, rfl⟩ := rg_of (n := 511) (by decide) c1 c2
      refine lv_aload_n hx hb dX0_won_14 rfl (lv_at hl 0 rfl) ?_
      refine lv_iload_n hx hb dX0_won_15 rfl (lv_at hl 1 rfl) ?_
      refine dk_calli (As := [.int (nI q)]) (rest := []) S I (met_isWon l D h kL kV kF cA s.heap.size mk n (-1) L b V F q hn (by omega)) (cwV 1 hts (lw_V q61 q63 qs0 q11 q64) rfl rfl rfl (by decide +kernel) ⟨Nat.le_of_ble_eq_true rfl, Nat.le_of_ble_eq_true rfl⟩) rfl hl.1 (Nat.le_of_ble_eq_true rfl) rfl dX0_won_16 (fun r u' H locs hp I => ?_)
      obtain ⟨b', V', F', rfl, w, rfl, hw⟩ := hp
      rw [wonB_of hw]
      have hans := ansWon_in (M := bt mk) (n := n) (L := L) c1 c2 (by omega)
      refine lv_if_eq (tgt := 26) hx hb dX0_won_19 (by decide) (fun c3 => ?_) (fun c3 => ?_)
      · refine lv_iconst (v := 0) hx hb dX0_won_26 (by decide) ?_
        exact ret _ _ 27 ls H locs dX0_won_27 I ⟨(hans.trans c3).symm, b', V', F', rfl⟩
      · refine lv_iconst (v := 1) hx hb dX0_won_22 (by decide) ?_
        refine lv_goto (tgt := 27) hx hb dX0_won_23 (by decide) ?_
        exact ret _ _ 27 ls H locs dX0_won_27 I ⟨(hans.trans (by rw [bI_n0.mp c3]; rfl)).symm, b', V', F', rfl⟩
    · refine lv_iconst (v := -1) hx hb dX0_won_12 (by decide) ?_
      exact ret _ _ 13 ls s.heap [] dX0_won_13 I ⟨(ansWon_out (Or.inr (rg_ng c2))).symm, b, V, F, rfl⟩
end
section
/-! QbfDesk: choice, count, spare, swapped, the constructor -/
set_option maxHeartbeats 4000000 in
set_option maxRecDepth 100000 in
theorem met_choice (l : Launch) (D : va_G) (h kL kV kF : Nat) (cA : ClassId) (sz : Nat) (mk : Int32) (n : Nat) (L : Nat → Int32) (b : Bool) (V F : Nat → Option Bool) (x : Int32) (hn : n ≤ 20) : dkMi l yX0_choice (ws_ yX0_choice cX0_choice 5 (some .int)) (rmm 5 121) D h kL kV kF cA [.int x] sz (mk, n, -1, L, b, V, F) (fun r u' => r = ansCho (bt mk) n L x ∧ ∃ b' V' F', u' = (mk, n, -1, L, b', V', F')) := by
  refine dk_mI (by decide) rfl (Nat.le_of_ble_eq_true rfl) ?_
  intro p e s m args below meth c A Q ls S I ret hl
  have hx := S.1
  have hb := S.2.1
  have hts := S.2.2.2.2
  have hl : lv_has ls 5 [(0, .ref h), (1, .int x)] := hl
  refine lv_iload_n hx hb dX0_choice_0 rfl (lv_at hl 1 rfl) ?_
  refine lv_iconst (v := 1) hx hb dX0_choice_1 (by decide) ?_
  refine lv_icmp_lt (tgt := 12) hx hb dX0_choice_2 (by decide) (fun c1 => ?_) (fun c1 => ?_)
  · refine lv_iconst (v := -1) hx hb dX0_choice_12 (by decide) ?_
    exact ret _ _ 13 ls s.heap [] dX0_choice_13 I ⟨(ansCho_out (Or.inl c1)).symm, b, V, F, rfl⟩
  · refine lv_iload_n hx hb dX0_choice_5 rfl (lv_at hl 1 rfl) ?_
    refine lv_sipush (v := 255) hx hb dX0_choice_6 (by decide) ?_
    refine lv_icmp_le (tgt := 14) hx hb dX0_choice_9 (by decide) (fun c2 => ?_) (fun c2 => ?_)
    · obtain ⟨q, h1, h2, rfl⟩ := rg_of (n := 255) (by decide) c1 c2
      have hans := ansCho_in (M := bt mk) (n := n) (L := L) c1 c2 (by omega)
      have hlg := (lg_2 q (by omega) h1).2.2
      refine lv_aload_n hx hb dX0_choice_14 rfl (lv_at hl 0 rfl) ?_
      refine lv_iload_n hx hb dX0_choice_15 rfl (lv_at hl 1 rfl) ?_
      refine st_call (As := [.int (nI q)]) (rest := [.ref h]) S (met_lengthOf l q (by omega)) (va_cwS 1 hts (lw_S q65 q66 q11 q67) rfl rfl rfl (by decide +kernel) ⟨Nat.le_of_ble_eq_true rfl, Nat.le_of_ble_eq_true rfl⟩) rfl hl.1 (Nat.le_of_ble_eq_true rfl) rfl dX0_choice_16 (fun r hr1 => ?_)
      subst hr1
      refine dk_callR (As := [.int (nI (Nat.log2 q))]) (rest := []) S I (met_isMakers l D h kL kV kF cA mk n (-1) L b V F (Nat.log2 q) (by omega)) (cwV 1 hts (lw_V q80 q82 qs4 q11 q83) rfl rfl rfl (by decide +kernel) ⟨Nat.le_of_ble_eq_true rfl, Nat.le_of_ble_eq_true rfl⟩) rfl hl.1 (Nat.le_of_ble_eq_true rfl) rfl dX0_choice_19 (fun r hr1 => ?_)
      subst hr1
      generalize bt mk (Nat.log2 q) = y at hans ⊢
      refine lv_istore_n (lv' := [(2, .int (bI y)), (0, .ref h), (1, .int (nI q))]) hx hb dX0_choice_22 rfl hl (by decide) rfl (fun ls hl => ?_)
      refine lv_iconst (v := 0) hx hb dX0_choice_23 (by decide) ?_
      refine lv_istore_n (lv' := [(3, .int 0), (2, .int (bI y)), (0, .ref h), (1, .int (nI q))]) hx hb dX0_choice_24 rfl hl (by decide) rfl (fun ls hl => ?_)
      have step : ∀ (i : Nat) (b : Bool) (V F : Nat → Option Bool) (H : Heap) (locs : List Loc) (ls : Array Slot), i < 2 → dkI D A h kL kV kF cA s H locs (mk, n, -1, L, b, V, F) → lv_has ls 5 [(0, .ref h), (1, .int (nI q)), (2, .int (bI y)), (3, .int (nI i))] → (wonB (bt mk) n (-1) L (2 * q + i) = y → nI i = ansCho (bt mk) n L (nI q)) →
          (wonB (bt mk) n (-1) L (2 * q + i) ≠ y → ∀ (b : Bool) (V F : Nat → Option Bool) (H : Heap) (locs : List Loc) (ls : Array Slot), dkI D A h kL kV kF cA s H locs (mk, n, -1, L, b, V, F) → lv_has ls 5 [(0, .ref h), (1, .int (nI q)), (2, .int (bI y)), (3, .int (nI (i + 1)))] → W p l e (rmm 5 121) s m args below meth c H locs 0 0 Q (F0 m 25 ls [])) → W p l e (rmm 5 121) s m args below meth c H locs 0 0 Q (F0 m 25 ls []) := by
        intro i b V F H locs ls hi I hl hR K
        refine lv_iload_n hx hb dX0_choice_25 rfl (lv_at hl 3 rfl) ?_
        refine lv_iconst (v := 2) hx hb dX0_choice_26 (by decide) ?_
        refine lv_icmp_ge (tgt := 55) hx hb dX0_choice_27 (by decide) (fun c3 => ?_) (fun c3 => ?_)
        · exact absurd c3 (nI_ge (a := i) (b := 2) (by omega) (by omega))
        · refine lv_aload_n hx hb dX0_choice_30 rfl (lv_at hl 0 rfl) ?_
          refine lv_iconst (v := 2) hx hb dX0_choice_31 (by decide) ?_
          refine lv_iload_n hx hb dX0_choice_32 rfl (lv_at hl 1 rfl) ?_
          refine lv_imul hx hb dX0_choice_33 ?_
          refine w_top (y := nI (2 * q)) (mul2 q) ?_
          refine lv_iload_n hx hb dX0_choice_34 rfl (lv_at hl 3 rfl) ?_
          refine lv_iadd hx hb dX0_choice_35 ?_
          refine w_top (y := nI (2 * q + i)) (nI_add _ _) ?_
          refine dk_calli (As := [.int (nI (2 * q + i))]) (rest := []) S I (met_isWon l D h kL kV kF cA H.size mk n (-1) L b V F (2 * q + i) hn (by omega)) (cwV 1 hts (lw_V q61 q63 qs0 q11 q64) rfl rfl rfl (by decide +kernel) ⟨Nat.le_of_ble_eq_true rfl, Nat.le_of_ble_eq_true rfl⟩) rfl hl.1 (Nat.le_of_ble_eq_true rfl) rfl dX0_choice_36 (fun r u' H locs hp I => ?_)
          obtain ⟨b', V', F', rfl, w, rfl, hw⟩ := hp
          rw [← wonB_of hw] at hR K
          refine lv_istore (lv' := [(4, .int (bI w)), (0, .ref h), (1, .int (nI q)), (2, .int (bI y)), (3, .int (nI i))]) hx hb dX0_choice_39 hl (by decide) rfl (fun ls hl => ?_)
          refine lv_iload hx hb dX0_choice_41 (lv_at hl 0 rfl) ?_
          refine lv_iload_n hx hb dX0_choice_43 rfl (lv_at hl 3 rfl) ?_
          refine lv_icmp_ne (tgt := 49) hx hb dX0_choice_44 (by decide) (fun c4 => ?_) (fun c4 => ?_)
          · refine lv_iinc (v := nI (i + 1)) (lv' := [(3, .int (nI (i + 1))), (4, .int (bI w)), (0, .ref h), (1, .int (nI q)), (2, .int (bI y))]) hx hb dX0_choice_49 hl (k := 4) rfl (inc1 i) (by decide) rfl (fun ls hl => ?_)
            refine lv_goto (tgt := 25) hx hb dX0_choice_52 (by decide) ?_
            have hl := lv_sub hl [2, 3, 4, 0] rfl
            exact K (fun z => c4 (bI_inj.mpr z)) b' V' F' H locs ls I hl
          · refine lv_iload_n hx hb dX0_choice_47 rfl (lv_at hl 4 rfl) ?_
            exact ret _ _ 48 ls H locs dX0_choice_48 I ⟨hR (bI_inj.mp c4), b', V', F', rfl⟩
      have hl := lv_sub hl [2, 3, 1, 0] rfl
      refine step 0 b V F s.heap [] ls (by omega) I hl (fun z => ?_) (fun z b V F H locs ls I hl => ?_)
      · rw [Nat.add_zero] at z
        rw [hans]
        unfold choB
        rw [if_pos z]
        rfl
      · rw [Nat.add_zero] at z
        refine step 1 b V F H locs ls (by omega) I hl (fun z2 => ?_) (fun z2 b V F H locs ls I hl => ?_)
        · rw [hans]
          unfold choB
          rw [if_neg z, if_pos z2]
          rfl
        · refine lv_iload_n hx hb dX0_choice_25 rfl (lv_at hl 3 rfl) ?_
          refine lv_iconst (v := 2) hx hb dX0_choice_26 (by decide) ?_
          refine lv_icmp_ge (tgt := 55) hx hb dX0_choice_27 (by decide) (fun c3 => ?_) (fun c3 => ?_)
          · refine lv_iconst (v := 2) hx hb dX0_choice_55 (by decide) ?_
            refine ret _ _ 56 ls H locs dX0_choice_56 I ⟨?_, b, V, F, rfl⟩
            rw [hans]
            unfold choB
            rw [if_neg z, if_neg z2]
          · exact absurd (by decide) c3
    · refine lv_iconst (v := -1) hx hb dX0_choice_12 (by decide) ?_
      exact ret _ _ 13 ls s.heap [] dX0_choice_13 I ⟨(ansCho_out (Or.inr (rg_ng c2))).symm, b, V, F, rfl⟩
set_option maxHeartbeats 4000000 in
set_option maxRecDepth 100000 in
theorem met_count (l : Launch) (D : va_G) (h kL kV kF : Nat) (cA : ClassId) (sz : Nat) (mk : Int32) (n : Nat) (L : Nat → Int32) (b : Bool) (V F : Nat → Option Bool) (x : Int32) (hn : n ≤ 20) : dkMi l yX0_count (ws_ yX0_count cX0_count 4 (some .int)) (rmm 5 121) D h kL kV kF cA [.int x] sz (mk, n, -1, L, b, V, F) (fun r u' => r = ansCnt (bt mk) n L x ∧ ∃ b' V' F', u' = (mk, n, -1, L, b', V', F')) := by
  refine dk_mI (by decide) rfl (Nat.le_of_ble_eq_true rfl) ?_
  intro p e s m args below meth c A Q ls S I ret hl
  have hx := S.1
  have hb := S.2.1
  have hts := S.2.2.2.2
  have hl : lv_has ls 4 [(0, .ref h), (1, .int x)] := hl
  refine lv_iload_n hx hb dX0_count_0 rfl (lv_at hl 1 rfl) ?_
  refine lv_if_lt (tgt := 10) hx hb dX0_count_1 (by decide) (fun c1 => ?_) (fun c1 => ?_)
  · refine lv_iconst (v := -1) hx hb dX0_count_10 (by decide) ?_
    exact ret _ _ 11 ls s.heap [] dX0_count_11 I ⟨(ansCnt_out (Or.inl c1)).symm, b, V, F, rfl⟩
  · refine lv_iload_n hx hb dX0_count_4 rfl (lv_at hl 1 rfl) ?_
    refine lv_bipush (v := 8) hx hb dX0_count_5 (by decide) ?_
    refine lv_icmp_le (tgt := 12) hx hb dX0_count_7 (by decide) (fun c2 => ?_) (fun c2 => ?_)
    · obtain ⟨k, h2, rfl⟩ := nI_of2 (n := 8) (by decide) c1 c2
      have hans := ansCnt_in (M := bt mk) (n := n) (L := L) c1 c2 (by omega)
      have h2k := sh_2k k (by omega)
      have h1k := sh_1k k (by omega)
      have hP : 2 ^ k ≤ 256 := (by decide : ∀ k, k < 9 → 2 ^ k ≤ 256) k (by omega)
      rw [Nat.pow_succ] at h2k
      generalize 2 ^ k = P at hans h2k h1k hP
      generalize hf : wonB (bt mk) n (-1) L = f at hans
      refine lv_iconst (v := 0) hx hb dX0_count_12 (by decide) ?_
      refine lv_istore_n (lv' := [(2, .int 0), (0, .ref h), (1, .int (nI k))]) hx hb dX0_count_13 rfl hl (by decide) rfl (fun ls hl => ?_)
      refine lv_iconst (v := 1) hx hb dX0_count_14 (by decide) ?_
      refine lv_iload_n hx hb dX0_count_15 rfl (lv_at hl 2 rfl) ?_
      refine lv_ishl hx hb dX0_count_16 ?_
      refine w_top (y := nI P) (h1k) ?_
      refine lv_istore_n (lv' := [(3, .int (nI P)), (2, .int 0), (0, .ref h), (1, .int (nI k))]) hx hb dX0_count_17 rfl hl (by decide) rfl (fun ls hl => ?_)
      have loop : ∀ (d i : Nat) (b : Bool) (V F : Nat → Option Bool) (H : Heap) (locs : List Loc) (ls : Array Slot), i + d = P → dkI D A h kL kV kF cA s H locs (mk, n, -1, L, b, V, F) → lv_has ls 4 [(0, .ref h), (1, .int (nI k)), (2, .int (nI (cntN f P i))), (3, .int (nI (P + i)))] → W p l e (rmm 5 121) s m args below meth c H locs 0 0 Q (F0 m 18 ls []) := by
        intro d
        induction d with
        | zero =>
          intro i b V F H locs ls hd I hl
          refine lv_iload_n hx hb dX0_count_18 rfl (lv_at hl 3 rfl) ?_
          refine lv_iconst (v := 2) hx hb dX0_count_19 (by decide) ?_
          refine lv_iload_n hx hb dX0_count_20 rfl (lv_at hl 1 rfl) ?_
          refine lv_ishl hx hb dX0_count_21 ?_
          refine w_top (y := nI (P * 2)) (h2k) ?_
          refine lv_icmp_ge (tgt := 47) hx hb dX0_count_22 (by decide) (fun c3 => ?_) (fun c3 => ?_)
          · refine lv_iload_n hx hb dX0_count_47 rfl (lv_at hl 2 rfl) ?_
            refine ret _ _ 48 ls H locs dX0_count_48 I ⟨?_, b, V, F, rfl⟩
            rw [hans, show i = P by omega]
          · exact absurd (nI_le (by omega) (by omega)) c3
        | succ d ih =>
          intro i b V F H locs ls hd I hl
          refine lv_iload_n hx hb dX0_count_18 rfl (lv_at hl 3 rfl) ?_
          refine lv_iconst (v := 2) hx hb dX0_count_19 (by decide) ?_
          refine lv_iload_n hx hb dX0_count_20 rfl (lv_at hl 1 rfl) ?_
          refine lv_ishl hx hb dX0_count_21 ?_
          refine w_top (y := nI (P * 2)) (h2k) ?_
          refine lv_icmp_ge (tgt := 47) hx hb dX0_count_22 (by decide) (fun c3 => ?_) (fun c3 => ?_)
          · exact absurd c3 (nI_ge (by omega) (by omega))
          · refine lv_iload_n hx hb dX0_count_25 rfl (lv_at hl 2 rfl) ?_
            refine lv_aload_n hx hb dX0_count_26 rfl (lv_at hl 0 rfl) ?_
            refine lv_iload_n hx hb dX0_count_27 rfl (lv_at hl 3 rfl) ?_
            refine dk_calli (As := [.int (nI (P + i))]) (rest := [.int (nI (cntN f P i))]) S I (met_isWon l D h kL kV kF cA H.size mk n (-1) L b V F (P + i) hn (by omega)) (cwV 1 hts (lw_V q61 q63 qs0 q11 q64) rfl rfl rfl (by decide +kernel) ⟨Nat.le_of_ble_eq_true rfl, Nat.le_of_ble_eq_true rfl⟩) rfl hl.1 (Nat.le_of_ble_eq_true rfl) rfl dX0_count_28 (fun r u' H locs hp I => ?_)
            obtain ⟨b', V', F', rfl, w, rfl, hw⟩ := hp
            have hw := wonB_of hw
            rw [hf] at hw
            have J : ∀ z : Nat, cntN f P (i + 1) = cntN f P i + z → W p l e (rmm 5 121) s m args below meth c H locs 0 0 Q (F0 m 39 ls [.int (nI z), .int (nI (cntN f P i))]) := by
              intro z hz
              refine lv_iadd hx hb dX0_count_39 ?_
              refine w_top (y := nI (cntN f P (i + 1))) (by rw [hz]; exact nI_add _ _) ?_
              refine lv_istore_n (lv' := [(2, .int (nI (cntN f P (i + 1)))), (0, .ref h), (1, .int (nI k)), (3, .int (nI (P + i)))]) hx hb dX0_count_40 rfl hl (by decide) rfl (fun ls hl => ?_)
              refine lv_iinc (v := nI (P + i + 1)) (lv' := [(3, .int (nI (P + i + 1))), (2, .int (nI (cntN f P (i + 1)))), (0, .ref h), (1, .int (nI k))]) hx hb dX0_count_41 hl (k := 3) rfl (inc1 (P + i)) (by decide) rfl (fun ls hl => ?_)
              refine lv_goto (tgt := 18) hx hb dX0_count_44 (by decide) ?_
              have hl := lv_sub hl [2, 3, 1, 0] rfl
              exact ih (i + 1) b' V' F' H locs ls (by omega) I hl
            refine lv_if_eq (tgt := 38) hx hb dX0_count_31 (by decide) (fun c4 => ?_) (fun c4 => ?_)
            · refine lv_iconst (v := 0) hx hb dX0_count_38 (by decide) ?_
              refine J 0 ?_
              show cntN f P i + (match f (P + i) with | true => 1 | false => 0) = _
              rw [← hw, bI_0.mp c4]
            · refine lv_iconst (v := 1) hx hb dX0_count_34 (by decide) ?_
              refine lv_goto (tgt := 39) hx hb dX0_count_35 (by decide) ?_
              refine J 1 ?_
              show cntN f P i + (match f (P + i) with | true => 1 | false => 0) = _
              rw [← hw, bI_n0.mp c4]
      have hl := lv_sub hl [2, 3, 1, 0] rfl
      exact loop P 0 b V F s.heap [] ls (by omega) I hl
    · refine lv_iconst (v := -1) hx hb dX0_count_10 (by decide) ?_
      exact ret _ _ 11 ls s.heap [] dX0_count_11 I ⟨(ansCnt_out (Or.inr (rg_ng c2))).symm, b, V, F, rfl⟩
set_option maxHeartbeats 4000000 in
set_option maxRecDepth 100000 in
theorem met_spare (l : Launch) (D : va_G) (h kL kV kF : Nat) (cA : ClassId) (sz : Nat) (mk : Int32) (n : Nat) (L : Nat → Int32) (b : Bool) (V F : Nat → Option Bool) (x : Int32) (hn : n ≤ 20) : dkMi l yX0_spare (ws_ yX0_spare cX0_spare 3 (some .int)) (rmm 5 121) D h kL kV kF cA [.int x] sz (mk, n, -1, L, b, V, F) (fun r u' => r = ansSpa (bt mk) n L x ∧ ∃ b' V' F', u' = (mk, n, -1, L, b', V', F')) := by
  refine dk_mI (by decide) rfl (Nat.le_of_ble_eq_true rfl) ?_
  intro p e s m args below meth c A Q ls S I ret hl
  have hx := S.1
  have hb := S.2.1
  have hts := S.2.2.2.2
  have hl : lv_has ls 3 [(0, .ref h), (1, .int x)] := hl
  refine lv_iload_n hx hb dX0_spare_0 rfl (lv_at hl 1 rfl) ?_
  refine lv_if_lt (tgt := 12) hx hb dX0_spare_1 (by decide) (fun c1 => ?_) (fun c1 => ?_)
  · refine lv_iconst (v := -1) hx hb dX0_spare_12 (by decide) ?_
    exact ret _ _ 13 ls s.heap [] dX0_spare_13 I ⟨(ansSpa_out (Or.inl c1)).symm, b, V, F, rfl⟩
  · refine lv_iload_n hx hb dX0_spare_4 rfl (lv_at hl 1 rfl) ?_
    refine lv_aload_n hx hb dX0_spare_5 rfl (lv_at hl 0 rfl) ?_
    refine dk_clauses S I dX0_spare_6 ?_
    refine lv_icmp_lt (tgt := 14) hx hb dX0_spare_9 (by decide) (fun c2 => ?_) (fun c2 => ?_)
    · have hans := ansSpa_in (M := bt mk) (L := L) c1 c2
      refine lv_aload_n hx hb dX0_spare_14 rfl (lv_at hl 0 rfl) ?_
      refine lv_iload_n hx hb dX0_spare_15 rfl (lv_at hl 1 rfl) ?_
      refine dk_put_leftOut S I dX0_spare_16 (fun H locs I => ?_)
      refine lv_aload_n hx hb dX0_spare_19 rfl (lv_at hl 0 rfl) ?_
      refine lv_iconst (v := 1) hx hb dX0_spare_20 (by decide) ?_
      refine dk_calli (As := [.int (nI 1)]) (rest := []) S I (met_isWon l D h kL kV kF cA H.size mk n x L b V F 1 hn (by omega)) (cwV 1 hts (lw_V q61 q63 qs0 q11 q64) rfl rfl rfl (by decide +kernel) ⟨Nat.le_of_ble_eq_true rfl, Nat.le_of_ble_eq_true rfl⟩) rfl hl.1 (Nat.le_of_ble_eq_true rfl) rfl dX0_spare_21 (fun r u' H locs hp I => ?_)
      obtain ⟨b', V', F', rfl, w, rfl, hw⟩ := hp
      rw [← wonB_of hw] at hans
      refine lv_istore_n (lv' := [(2, .int (bI w)), (0, .ref h), (1, .int x)]) hx hb dX0_spare_24 rfl hl (by decide) rfl (fun ls hl => ?_)
      refine lv_aload_n hx hb dX0_spare_25 rfl (lv_at hl 1 rfl) ?_
      refine lv_iconst (v := -1) hx hb dX0_spare_26 (by decide) ?_
      refine dk_put_leftOut S I dX0_spare_27 (fun H locs I => ?_)
      refine lv_iload_n hx hb dX0_spare_30 rfl (lv_at hl 0 rfl) ?_
      refine lv_if_eq (tgt := 38) hx hb dX0_spare_31 (by decide) (fun c3 => ?_) (fun c3 => ?_)
      · refine lv_iconst (v := 0) hx hb dX0_spare_38 (by decide) ?_
        exact ret _ _ 39 ls H locs dX0_spare_39 I ⟨(hans.trans c3).symm, b', V', F', rfl⟩
      · refine lv_iconst (v := 1) hx hb dX0_spare_34 (by decide) ?_
        refine lv_goto (tgt := 39) hx hb dX0_spare_35 (by decide) ?_
        exact ret _ _ 39 ls H locs dX0_spare_39 I ⟨(hans.trans (by rw [bI_n0.mp c3]; rfl)).symm, b', V', F', rfl⟩
    · refine lv_iconst (v := -1) hx hb dX0_spare_12 (by decide) ?_
      exact ret _ _ 13 ls s.heap [] dX0_spare_13 I ⟨(ansSpa_out (Or.inr c2)).symm, b, V, F, rfl⟩
set_option maxHeartbeats 4000000 in
set_option maxRecDepth 100000 in
theorem met_swapped (l : Launch) (D : va_G) (h kL kV kF : Nat) (cA : ClassId) (sz : Nat) (mk : Int32) (n : Nat) (L : Nat → Int32) (b : Bool) (V F : Nat → Option Bool) (x : Int32) (j : Nat) (hxj : x &&& 7 = nI j) (hn : n ≤ 20) : dkMi l yX0_swapped (ws_ yX0_swapped cX0_swapped 3 (some .int)) (rmm 5 121) D h kL kV kF cA [.int x] sz (mk, n, -1, L, b, V, F) (fun r u' => r = bI (wonB (bt (mk ^^^ bit1 j)) n (-1) L 1) ∧ ∃ b' V' F', u' = (mk, n, -1, L, b', V', F')) := by
  refine dk_mI (by decide) rfl (Nat.le_of_ble_eq_true rfl) ?_
  intro p e s m args below meth c A Q ls S I ret hl
  have hx := S.1
  have hb := S.2.1
  have hts := S.2.2.2.2
  have hl : lv_has ls 3 [(0, .ref h), (1, .int x)] := hl
  refine lv_aload_n hx hb dX0_swapped_0 rfl (lv_at hl 0 rfl) ?_
  refine lv_dup hx hb dX0_swapped_1 rfl ?_
  refine dk_makers S I dX0_swapped_2 ?_
  refine lv_iconst (v := 1) hx hb dX0_swapped_5 (by decide) ?_
  refine lv_iload_n hx hb dX0_swapped_6 rfl (lv_at hl 1 rfl) ?_
  refine lv_bipush (v := 7) hx hb dX0_swapped_7 (by decide) ?_
  refine lv_iand hx hb dX0_swapped_9 ?_
  refine w_top (y := nI j) (hxj) ?_
  refine lv_ishl hx hb dX0_swapped_10 ?_
  refine w_top (y := bit1 j) (rfl) ?_
  refine lv_ixor hx hb dX0_swapped_11 ?_
  refine dk_put_makers S I dX0_swapped_12 (fun H locs I => ?_)
  refine lv_aload_n hx hb dX0_swapped_15 rfl (lv_at hl 0 rfl) ?_
  refine lv_iconst (v := 1) hx hb dX0_swapped_16 (by decide) ?_
  refine dk_calli (As := [.int (nI 1)]) (rest := []) S I (met_isWon l D h kL kV kF cA H.size (mk ^^^ bit1 j) n (-1) L b V F 1 hn (by omega)) (cwV 1 hts (lw_V q61 q63 qs0 q11 q64) rfl rfl rfl (by decide +kernel) ⟨Nat.le_of_ble_eq_true rfl, Nat.le_of_ble_eq_true rfl⟩) rfl hl.1 (Nat.le_of_ble_eq_true rfl) rfl dX0_swapped_17 (fun r u' H locs hp I => ?_)
  obtain ⟨b', V', F', rfl, w, rfl, hw⟩ := hp
  have hw := wonB_of hw
  refine lv_istore_n (lv' := [(2, .int (bI w)), (0, .ref h), (1, .int x)]) hx hb dX0_swapped_20 rfl hl (by decide) rfl (fun ls hl => ?_)
  refine lv_aload_n hx hb dX0_swapped_21 rfl (lv_at hl 1 rfl) ?_
  refine lv_dup hx hb dX0_swapped_22 rfl ?_
  refine dk_makers S I dX0_swapped_23 ?_
  refine lv_iconst (v := 1) hx hb dX0_swapped_26 (by decide) ?_
  refine lv_iload_n hx hb dX0_swapped_27 rfl (lv_at hl 2 rfl) ?_
  refine lv_bipush (v := 7) hx hb dX0_swapped_28 (by decide) ?_
  refine lv_iand hx hb dX0_swapped_30 ?_
  refine w_top (y := nI j) (hxj) ?_
  refine lv_ishl hx hb dX0_swapped_31 ?_
  refine w_top (y := bit1 j) (rfl) ?_
  refine lv_ixor hx hb dX0_swapped_32 ?_
  refine w_top (y := mk) (xor_back mk _) ?_
  refine dk_put_makers S I dX0_swapped_33 (fun H locs I => ?_)
  refine lv_iload_n hx hb dX0_swapped_36 rfl (lv_at hl 0 rfl) ?_
  refine lv_if_eq (tgt := 44) hx hb dX0_swapped_37 (by decide) (fun c3 => ?_) (fun c3 => ?_)
  · refine lv_iconst (v := 0) hx hb dX0_swapped_44 (by decide) ?_
    exact ret _ _ 45 ls H locs dX0_swapped_45 I ⟨by rw [← hw, c3], b', V', F', rfl⟩
  · refine lv_iconst (v := 1) hx hb dX0_swapped_40 (by decide) ?_
    refine lv_goto (tgt := 45) hx hb dX0_swapped_41 (by decide) ?_
    exact ret _ _ 45 ls H locs dX0_swapped_45 I ⟨by rw [← hw, bI_n0.mp c3]; rfl, b', V', F', rfl⟩
set_option maxHeartbeats 4000000 in
set_option maxRecDepth 100000 in
/-- QbfDesk(): all variables MAKER's, no clause; three arrays come -/
theorem met_init (l : Launch) (D : va_G) (h : Nat) (sz : Nat) : Met l yX0_init (ws_ yX0_init cX0_init 1 none) ({ frames := 1, cells := 3, slots := 36, locals := 12 }) (va_Pc [.ref h] (fun U => U.heap.size = sz ∧ va_P D vwCl [(h, .inr (0, [.int 0, .int 0, .null, .int 0, .null, .null, .int 0]))] U.heap ∧ va_K D vwCl [] U ∧ va_D (fun _ => True) [(h, .inr (0, [.int 0, .int 0, .null, .int 0, .null, .null, .int 0]))])) (va_Qv (fun _ : Nat × Nat × Nat × ClassId => True) (fun u t => dkB D (va_A [(h, .inr (0, [.int 0, .int 0, .null, .int 0, .null, .null, .int 0]))] sz) h u.1 u.2.1 u.2.2.1 u.2.2.2 (255, 0, -1, fun _ => 0, false, fun _ => some false, fun _ => some false) t) (va_A [(h, .inr (0, [.int 0, .int 0, .null, .int 0, .null, .null, .int 0]))] sz)) 3 36 (va_A [(h, .inr (0, [.int 0, .int 0, .null, .int 0, .null, .null, .int 0]))] sz) := by
  refine Met.ofW (cc := cX0_init) (maxL := 1) (ret := none) (by decide) rfl ?_
  intro p e s m args below meth c s₁ B hml hv
  obtain ⟨rfl, hsz, hP, hK, hD0⟩ := hv
  have hx := B.exec
  have hb := B.bytes
  have hr := B.returns
  have hts := atoms_spec (ws := ws_ yX0_init cX0_init 1 none) B.pre
  have hts : ∀ w ∈ lw_all, w.before _ s = true := fun w h => hts w (List.mem_cons_of_mem _ h)
  have hown : s.vm.findClass RX0 = some m.cls := findClass_of_methodNamed B.named
  have hlocks := B.notSynchronized
  have hin : meth.name = "<init>" := (name_of_methodNamed B.named B.method).1
  subst hsz
  have hD := hD0.self (sz := s.heap.size)
  generalize hAe : va_A [(h, .inr (0, [.int 0, .int 0, .null, .int 0, .null, .null, .int 0]))] s.heap.size = A at hD ⊢
  have hA : ∀ q : Nat, s.heap.size ≤ q → A q := fun q h => by rw [← hAe]; exact Or.inr h
  have hS : va_S A s.heap s.heap [] := va_S.rf
  have hl := lv_entry ([.ref h]) (n := 1) (Nat.le_of_ble_eq_true rfl)
  rw [lg_entry_eq]
  generalize (lg_sl ([.ref h]) ++ List.replicate (1 - (lg_sl ([.ref h])).length) Slot.unset).toArray = ls at hl ⊢
  have hl : lv_has ls 1 [(0, .ref h)] := hl
  refine lv_aload_n hx hb dX0_init_0 rfl (lv_at hl 0 rfl) ?_
  refine W.objInit hx hb hown (hts _ q18) (hts _ q19) (hts _ q20) rfl (by rw [hml]; exact hl.1) rfl dX0_init_1 (Nat.le_of_ble_eq_true rfl) (Nat.le_of_ble_eq_true rfl) ?_
  refine W.eq (g2 := F0 m 4 ls []) rfl ?_
  refine lv_aload_n hx hb dX0_init_4 rfl (lv_at hl 0 rfl) ?_
  refine lv_sipush (v := 255) hx hb dX0_init_5 (by decide) ?_
  refine va_put (D := D) (ci := 0) (v := .int 255) (ty := .int) (C := RX0) (T := TX0) (N := 7) hx hb hts in_X0 tyX0 tyX0_ok nmX0 hown hK hP hD hS 0 rfl rfl 0 (by decide) (hts _ q21) (fun _ h9 => h9) rfl (by decide +kernel) rfl rfl (Nat.le_of_ble_eq_true rfl) dX0_init_8 (fun H locs hP hD hS => ?_)
  refine lv_aload_n hx hb dX0_init_11 rfl (lv_at hl 0 rfl) ?_
  refine lv_bipush (v := 20) hx hb dX0_init_12 (by decide) ?_
  refine va_newa (atype := .int) hx hb (hts _ q43) (ty := .int) rfl hK hP hD hS hA (a0 := (20, .inl (fun _ => 0))) (N' := 20) (fun _ => rfl) (by decide) (by decide) (by decide) (Nat.le_of_ble_eq_true rfl) (Nat.le_of_ble_eq_true rfl) dX0_init_14 (fun qL cL H hK hP hD hS => ?_)
  refine va_putF (D := D) (ci := 0) (v := .ref qL) (ty := .array .int) (C := RX0) (T := TX0) (N := 7) hx hb hts in_X0 tyX0 tyX0_ok nmX0 hown hK hP hD hS 0 rfl rfl 2 (by decide) (hts _ q23) (fun _ h9 => h9) rfl hin rfl (by decide +kernel) rfl rfl (Nat.le_of_ble_eq_true rfl) dX0_init_16 (fun H locs hP hD hS => ?_)
  refine lv_aload_n hx hb dX0_init_19 rfl (lv_at hl 0 rfl) ?_
  refine lv_bipush (v := 8) hx hb dX0_init_20 (by decide) ?_
  refine va_newa (atype := .int) hx hb (hts _ q43) (ty := .int) rfl hK hP hD hS hA (a0 := (8, .inl (fun _ => 0))) (N' := 8) (fun _ => rfl) (by decide) (by decide) (by decide) (Nat.le_of_ble_eq_true rfl) (Nat.le_of_ble_eq_true rfl) dX0_init_22 (fun qV cV H hK hP hD hS => ?_)
  refine va_putF (D := D) (ci := 0) (v := .ref qV) (ty := .array .int) (C := RX0) (T := TX0) (N := 7) hx hb hts in_X0 tyX0 tyX0_ok nmX0 hown hK hP hD hS 0 rfl rfl 4 (by decide) (hts _ q25) (fun _ h9 => h9) rfl hin rfl (by decide +kernel) rfl rfl (Nat.le_of_ble_eq_true rfl) dX0_init_24 (fun H locs hP hD hS => ?_)
  refine lv_aload_n hx hb dX0_init_27 rfl (lv_at hl 0 rfl) ?_
  refine lv_bipush (v := 8) hx hb dX0_init_28 (by decide) ?_
  refine va_newa (atype := .int) hx hb (hts _ q43) (ty := .int) rfl hK hP hD hS hA (a0 := (8, .inl (fun _ => 0))) (N' := 8) (fun _ => rfl) (by decide) (by decide) (by decide) (Nat.le_of_ble_eq_true rfl) (Nat.le_of_ble_eq_true rfl) dX0_init_30 (fun qF cF H hK hP hD hS => ?_)
  refine va_putF (D := D) (ci := 0) (v := .ref qF) (ty := .array .int) (C := RX0) (T := TX0) (N := 7) hx hb hts in_X0 tyX0 tyX0_ok nmX0 hown hK hP hD hS 0 rfl rfl 5 (by decide) (hts _ q26) (fun _ h9 => h9) rfl hin rfl (by decide +kernel) rfl rfl (Nat.le_of_ble_eq_true rfl) dX0_init_32 (fun H locs hP hD hS => ?_)
  refine lv_aload_n hx hb dX0_init_35 rfl (lv_at hl 0 rfl) ?_
  refine lv_iconst (v := -1) hx hb dX0_init_36 (by decide) ?_
  refine va_put (D := D) (ci := 0) (v := .int (-1)) (ty := .int) (C := RX0) (T := TX0) (N := 7) hx hb hts in_X0 tyX0 tyX0_ok nmX0 hown hK hP hD hS 0 rfl rfl 3 (by decide) (hts _ q24) (fun _ h9 => h9) rfl (by decide +kernel) rfl rfl (Nat.le_of_ble_eq_true rfl) dX0_init_37 (fun H locs hP hD hS => ?_)
  have hK : va_K D vwCl [(cL, .int), (cV, .int), (cF, .int)] s := hK
  have e1 : cV = cL := Option.some.inj ((va_nm_int (hK.2 1 _ rfl).2).symm.trans (va_nm_int (hK.2 0 _ rfl).2))
  have e2 : cF = cL := Option.some.inj ((va_nm_int (hK.2 2 _ rfl).2).symm.trans (va_nm_int (hK.2 0 _ rfl).2))
  subst e1
  subst e2
  have hK9 := hK.sub (tys' := [(cF, .int)]) [0] rfl
  have hP9 : va_P D vwCl (dkW h qL qV qF cF (255, 0, -1, fun _ => 0, false, fun _ => some false, fun _ => some false)) H := hP
  have hD9 : va_D A (dkW h qL qV qF cF (255, 0, -1, fun _ => 0, false, fun _ => some false, fun _ => some false)) := hD
  refine W.widen (k := 3) (n := 36) (Nat.le_of_ble_eq_true rfl) (Nat.le_of_ble_eq_true rfl) ?_
  exact W.vret hx hb hr (fun t ht hW => ⟨⟨(qL, qV, qF, cF), rfl, trivial, by rw [ht]; exact hP9, va_K.moved hW.alike hK9, hD9⟩, hS.F ht⟩) hS.2.2 dX0_init_40
end
section
/-! QbfDeskModel: its world, its rows, its calls. A state: breaker, held, clauses, won -/
abbrev MdS : Type := (Nat → Bool) × Nat × (Nat → Int32) × (Nat → Bool)
abbrev mdW (h kB kC kW : Nat) (cZ cA : ClassId) (u : MdS) : va_W := [(h, .inr (1, [.ref kB, .int (nI u.2.1), .ref kC, .ref kW])), (kB, .inl (cZ, 8, .inl (fun j => bI (u.1 j)))), (kC, .inl (cA, 20, .inl u.2.2.1)), (kW, .inl (cZ, 512, .inl (fun j => bI (u.2.2.2 j))))]
def mdI (D : va_G) (A : Nat → Prop) (h kB kC kW : Nat) (cZ cA : ClassId) (s : State) (H : Heap) (locs : List Loc) (u : MdS) : Prop :=
  va_K D vwCl [(cA, .int), (cZ, .boolean)] s ∧ va_P D vwCl (mdW h kB kC kW cZ cA u) H ∧ va_D A (mdW h kB kC kW cZ cA u) ∧ va_S A s.heap H locs ∧ ∀ q : Nat, s.heap.size ≤ q → A q
def mdB (D : va_G) (A : Nat → Prop) (h kB kC kW : Nat) (cZ cA : ClassId) (u : MdS) (t : State) : Prop := va_P D vwCl (mdW h kB kC kW cZ cA u) t.heap ∧ va_K D vwCl [(cA, .int), (cZ, .boolean)] t ∧ va_D A (mdW h kB kC kW cZ cA u)
def mdPre (D : va_G) (h kB kC kW : Nat) (cZ cA : ClassId) (sz : Nat) (u : MdS) (U : State) : Prop := U.heap.size = sz ∧ va_P D vwCl (mdW h kB kC kW cZ cA u) U.heap ∧ va_K D vwCl [(cA, .int), (cZ, .boolean)] U ∧ va_D (fun _ => True) (mdW h kB kC kW cZ cA u)
abbrev mdA (h kB kC kW : Nat) (cZ cA : ClassId) (u : MdS) (sz : Nat) : Nat → Prop := va_A (mdW h kB kC kW cZ cA u) sz
def mdMi (l : Launch) (y : MethodName) (ws : List Cond) (rm : Room) (D : va_G) (h kB kC kW : Nat) (cZ cA : ClassId) (As : List Value) (sz : Nat) (u : MdS) (post : Int32 → MdS → Prop) : Prop :=
  Met l y ws rm (va_Pc (.ref h :: As) (mdPre D h kB kC kW cZ cA sz u)) (va_Qi post (mdB D (mdA h kB kC kW cZ cA u sz) h kB kC kW cZ cA) (mdA h kB kC kW cZ cA u sz)) 0 0 (mdA h kB kC kW cZ cA u sz)
def mdMv (l : Launch) (y : MethodName) (ws : List Cond) (rm : Room) (D : va_G) (h kB kC kW : Nat) (cZ cA : ClassId) (As : List Value) (sz : Nat) (u : MdS) (post : MdS → Prop) : Prop :=
  Met l y ws rm (va_Pc (.ref h :: As) (mdPre D h kB kC kW cZ cA sz u)) (va_Qv post (mdB D (mdA h kB kC kW cZ cA u sz) h kB kC kW cZ cA) (mdA h kB kC kW cZ cA u sz)) 0 0 (mdA h kB kC kW cZ cA u sz)
def mdPr (D : va_G) (h kB kC kW : Nat) (cZ cA : ClassId) (u : MdS) (U : State) : Prop := va_P D vwCl (mdW h kB kC kW cZ cA u) U.heap ∧ va_K D vwCl [(cA, .int), (cZ, .boolean)] U ∧ va_D (fun _ => True) (mdW h kB kC kW cZ cA u)
def mdMr (l : Launch) (y : MethodName) (ws : List Cond) (rm : Room) (D : va_G) (h kB kC kW : Nat) (cZ cA : ClassId) (As : List Value) (u : MdS) (post : Int32 → Prop) : Prop :=
  Met l y ws rm (va_Pc (.ref h :: As) (mdPr D h kB kC kW cZ cA u)) (vp_Si post) 0 0 (fun _ => False)
section MdMet
variable {l : Launch} {y : MethodName} {cc : ByteArray} {maxL : Nat} {rt : Option FieldType} {rm : Room} {D : va_G} {h kB kC kW : Nat} {cZ cA : ClassId} {As : List Value} {sz : Nat} {u : MdS}
theorem md_metI {post : Int32 → MdS → Prop} (hy : plainName y.cls = true) (hc : y.cls = RX1) (hle : (lg_sl (.ref h :: As)).length ≤ maxL)
    (body : ∀ (p : Program) (e : Env) (s : State) (m : MethodId) (args : Array Value) (below : List Frame) (meth : Method) (c : Code) (A : Nat → Prop) (ls : Array Slot), CallFix p m c cc maxL s args lw_all RX1 → meth.sig.returnType = rt → meth.locks = false → mdI D A h kB kC kW cZ cA s s.heap [] u → lv_has ls maxL (lv_args 0 (.ref h :: As)) →
      W p l e rm s m args below meth c s.heap [] 0 0 (MQ below (va_Qi post (mdB D A h kB kC kW cZ cA) A) args s 0 0 A) (F0 m 0 ls [])) : mdMi l y (ws_ y cc maxL rt) rm D h kB kC kW cZ cA As sz u post := by
  refine Met.ofW (cc := cc) (maxL := maxL) (ret := rt) hy rfl ?_
  intro p e s m args below meth c s₁ B hml hv
  obtain ⟨rfl, hsz, hP, hK, hD0⟩ := hv
  have hts := atoms_spec (ws := ws_ y cc maxL rt) B.pre
  have hts : ∀ w ∈ lw_all, w.before _ s = true := fun w h => hts w (List.mem_cons_of_mem _ h)
  have hown : s.vm.findClass RX1 = some m.cls := by rw [← hc]; exact findClass_of_methodNamed B.named
  subst hsz
  have hD := hD0.self (sz := s.heap.size)
  have hA : ∀ q : Nat, s.heap.size ≤ q → mdA h kB kC kW cZ cA u s.heap.size q := fun q h => Or.inr h
  have hl := lv_entry (.ref h :: As) (n := maxL) hle
  rw [lg_entry_eq]
  exact body p e s m _ below meth c _ _ ⟨B.exec, B.bytes, hml, hown, hts⟩ B.returns B.notSynchronized ⟨hK, hP, hD, va_S.rf, hA⟩ hl
theorem md_metV {post : MdS → Prop} (hy : plainName y.cls = true) (hc : y.cls = RX1) (hle : (lg_sl (.ref h :: As)).length ≤ maxL)
    (body : ∀ (p : Program) (e : Env) (s : State) (m : MethodId) (args : Array Value) (below : List Frame) (meth : Method) (c : Code) (A : Nat → Prop) (ls : Array Slot), CallFix p m c cc maxL s args lw_all RX1 → meth.sig.returnType = rt → meth.locks = false → mdI D A h kB kC kW cZ cA s s.heap [] u → lv_has ls maxL (lv_args 0 (.ref h :: As)) →
      W p l e rm s m args below meth c s.heap [] 0 0 (MQ below (va_Qv post (mdB D A h kB kC kW cZ cA) A) args s 0 0 A) (F0 m 0 ls [])) : mdMv l y (ws_ y cc maxL rt) rm D h kB kC kW cZ cA As sz u post := by
  refine Met.ofW (cc := cc) (maxL := maxL) (ret := rt) hy rfl ?_
  intro p e s m args below meth c s₁ B hml hv
  obtain ⟨rfl, hsz, hP, hK, hD0⟩ := hv
  have hts := atoms_spec (ws := ws_ y cc maxL rt) B.pre
  have hts : ∀ w ∈ lw_all, w.before _ s = true := fun w h => hts w (List.mem_cons_of_mem _ h)
  have hown : s.vm.findClass RX1 = some m.cls := by rw [← hc]; exact findClass_of_methodNamed B.named
  subst hsz
  have hD := hD0.self (sz := s.heap.size)
  have hA : ∀ q : Nat, s.heap.size ≤ q → mdA h kB kC kW cZ cA u s.heap.size q := fun q h => Or.inr h
  have hl := lv_entry (.ref h :: As) (n := maxL) hle
  rw [lg_entry_eq]
  exact body p e s m _ below meth c _ _ ⟨B.exec, B.bytes, hml, hown, hts⟩ B.returns B.notSynchronized ⟨hK, hP, hD, va_S.rf, hA⟩ hl
theorem md_metR {post : Int32 → Prop} (hy : plainName y.cls = true) (hc : y.cls = RX1) (hle : (lg_sl (.ref h :: As)).length ≤ maxL)
    (body : ∀ (p : Program) (e : Env) (s : State) (m : MethodId) (args : Array Value) (below : List Frame) (meth : Method) (c : Code) (ls : Array Slot), CallFix p m c cc maxL s args lw_all RX1 → meth.sig.returnType = rt → meth.locks = false → mdI D (fun _ => True) h kB kC kW cZ cA s s.heap [] u → lv_has ls maxL (lv_args 0 (.ref h :: As)) →
      W p l e rm s m args below meth c s.heap [] 0 0 (MQ below (vp_Si post) args s 0 0 (fun _ => False)) (F0 m 0 ls [])) : mdMr l y (ws_ y cc maxL rt) rm D h kB kC kW cZ cA As u post := by
  refine Met.ofW (cc := cc) (maxL := maxL) (ret := rt) hy rfl ?_
  intro p e s m args below meth c s₁ B hml hv
  obtain ⟨rfl, hP, hK, hD⟩ := hv
  have hts := atoms_spec (ws := ws_ y cc maxL rt) B.pre
  have hts : ∀ w ∈ lw_all, w.before _ s = true := fun w h => hts w (List.mem_cons_of_mem _ h)
  have hown : s.vm.findClass RX1 = some m.cls := by rw [← hc]; exact findClass_of_methodNamed B.named
  have hl := lv_entry (.ref h :: As) (n := maxL) hle
  rw [lg_entry_eq]
  exact body p e s m _ below meth c _ ⟨B.exec, B.bytes, hml, hown, hts⟩ B.returns B.notSynchronized ⟨hK, hP, hD, va_S.rf, fun _ _ => trivial⟩ hl
end MdMet
section MdRows
variable {p : Program} {l : Launch} {e : Env} {R : Room} {s : State} {m : MethodId} {args : Array Value} {below : List Frame} {meth : Method} {c : Code} {H : Heap} {locs : List Loc} {cells slots : Nat} {Q : State → Prop} {cc : ByteArray} {nL pc : Nat} {ls : Array Slot} {rest : List Value} {D : va_G} {A : Nat → Prop} {h kB kC kW : Nat} {cZ cA : ClassId} {B : Nat → Bool} {n : Nat} {C : Nat → Int32} {w : Nat → Bool}
theorem md_breaker (S : CallFix p m c cc nL s args lw_all RX1) (I : mdI D A h kB kC kW cZ cA s H locs (B, n, C, w)) (hdg : decode cc pc = .ok (.getfield 7, 3)) (kk : W p l e R s m args below meth c H locs cells slots Q (F0 m (pc + 3) ls (.ref kB :: rest))) : W p l e R s m args below meth c H locs cells slots Q (F0 m pc ls (.ref h :: rest)) :=
  va_get (D := D) (ci := 1) (v := .ref kB) (C := RX1) (T := TX1) (N := 4) S.1 S.2.1 S.2.2.2.2 in_X1 S.2.2.2.1 I.1 I.2.1 0 rfl rfl 0 (by decide) (S.2.2.2.2 _ q118) (fun _ h9 => h9) rfl hdg kk
theorem md_held (S : CallFix p m c cc nL s args lw_all RX1) (I : mdI D A h kB kC kW cZ cA s H locs (B, n, C, w)) (hdg : decode cc pc = .ok (.getfield 20, 3)) (kk : W p l e R s m args below meth c H locs cells slots Q (F0 m (pc + 3) ls (.int (nI n) :: rest))) : W p l e R s m args below meth c H locs cells slots Q (F0 m pc ls (.ref h :: rest)) :=
  va_get (D := D) (ci := 1) (v := .int (nI n)) (C := RX1) (T := TX1) (N := 4) S.1 S.2.1 S.2.2.2.2 in_X1 S.2.2.2.1 I.1 I.2.1 0 rfl rfl 1 (by decide) (S.2.2.2.2 _ q119) (fun _ h9 => h9) rfl hdg kk
theorem md_clauses (S : CallFix p m c cc nL s args lw_all RX1) (I : mdI D A h kB kC kW cZ cA s H locs (B, n, C, w)) (hdg : decode cc pc = .ok (.getfield 13, 3)) (kk : W p l e R s m args below meth c H locs cells slots Q (F0 m (pc + 3) ls (.ref kC :: rest))) : W p l e R s m args below meth c H locs cells slots Q (F0 m pc ls (.ref h :: rest)) :=
  va_get (D := D) (ci := 1) (v := .ref kC) (C := RX1) (T := TX1) (N := 4) S.1 S.2.1 S.2.2.2.2 in_X1 S.2.2.2.1 I.1 I.2.1 0 rfl rfl 2 (by decide) (S.2.2.2.2 _ q120) (fun _ h9 => h9) rfl hdg kk
theorem md_won (S : CallFix p m c cc nL s args lw_all RX1) (I : mdI D A h kB kC kW cZ cA s H locs (B, n, C, w)) (hdg : decode cc pc = .ok (.getfield 17, 3)) (kk : W p l e R s m args below meth c H locs cells slots Q (F0 m (pc + 3) ls (.ref kW :: rest))) : W p l e R s m args below meth c H locs cells slots Q (F0 m pc ls (.ref h :: rest)) :=
  va_get (D := D) (ci := 1) (v := .ref kW) (C := RX1) (T := TX1) (N := 4) S.1 S.2.1 S.2.2.2.2 in_X1 S.2.2.2.1 I.1 I.2.1 0 rfl rfl 3 (by decide) (S.2.2.2.2 _ q121) (fun _ h9 => h9) rfl hdg kk
theorem md_put_held {k : Nat} (S : CallFix p m c cc nL s args lw_all RX1) (I : mdI D A h kB kC kW cZ cA s H locs (B, n, C, w)) (hdg : decode cc pc = .ok (.putfield 20, 3)) (kk : ∀ (H1 : Heap) (locs1 : List Loc), mdI D A h kB kC kW cZ cA s H1 locs1 (B, k, C, w) → W p l e R s m args below meth c H1 locs1 cells slots Q (F0 m (pc + 3) ls rest)) : W p l e R s m args below meth c H locs cells slots Q (F0 m pc ls (.int (nI k) :: .ref h :: rest)) :=
  va_put (D := D) (ci := 1) (v := .int (nI k)) (ty := .int) (C := RX1) (T := TX1) (N := 4) S.1 S.2.1 S.2.2.2.2 in_X1 tyX1 tyX1_ok nmX1 S.2.2.2.1 I.1 I.2.1 I.2.2.1 I.2.2.2.1 0 rfl rfl 1 (by decide) (S.2.2.2.2 _ q119) (fun _ h9 => h9) rfl (by decide +kernel) rfl rfl (Nat.le_of_ble_eq_true rfl) hdg (fun H1 locs1 hP hD hS => kk H1 locs1 ⟨I.1, hP, hD, hS, I.2.2.2.2⟩)
theorem md_aldB {k : Nat} (hk : k < 8) (S : CallFix p m c cc nL s args lw_all RX1) (I : mdI D A h kB kC kW cZ cA s H locs (B, n, C, w)) (hdg : decode cc pc = .ok (.baload, 1)) (kk : W p l e R s m args below meth c H locs cells slots Q (F0 m (pc + 1) ls (.int (bI (B k)) :: rest))) : W p l e R s m args below meth c H locs cells slots Q (F0 m pc ls (.int (nI k) :: .ref kB :: rest)) := by
  refine va_zald S.1 S.2.1 I.1 I.2.1 1 1 rfl rfl (vp_in_nI hk (by omega)) hdg ?_
  rw [nI_clamp (by omega)]
  exact kk
theorem md_aldC {k : Nat} (hk : k < 20) (S : CallFix p m c cc nL s args lw_all RX1) (I : mdI D A h kB kC kW cZ cA s H locs (B, n, C, w)) (hdg : decode cc pc = .ok (.iaload, 1)) (kk : W p l e R s m args below meth c H locs cells slots Q (F0 m (pc + 1) ls (.int (C k) :: rest))) : W p l e R s m args below meth c H locs cells slots Q (F0 m pc ls (.int (nI k) :: .ref kC :: rest)) := by
  refine va_iald S.1 S.2.1 I.1 I.2.1 2 0 rfl rfl (vp_in_nI hk (by omega)) hdg ?_
  rw [nI_clamp (by omega)]
  exact kk
theorem md_aldW {k : Nat} (hk : k < 512) (S : CallFix p m c cc nL s args lw_all RX1) (I : mdI D A h kB kC kW cZ cA s H locs (B, n, C, w)) (hdg : decode cc pc = .ok (.baload, 1)) (kk : W p l e R s m args below meth c H locs cells slots Q (F0 m (pc + 1) ls (.int (bI (w k)) :: rest))) : W p l e R s m args below meth c H locs cells slots Q (F0 m pc ls (.int (nI k) :: .ref kW :: rest)) := by
  refine va_zald S.1 S.2.1 I.1 I.2.1 3 1 rfl rfl (vp_in_nI hk (by omega)) hdg ?_
  rw [nI_clamp (by omega)]
  exact kk
theorem md_astB {k : Nat} (o : Bool) (hk : k < 8) (S : CallFix p m c cc nL s args lw_all RX1) (I : mdI D A h kB kC kW cZ cA s H locs (B, n, C, w)) (hdg : decode cc pc = .ok (.bastore, 1)) (kk : ∀ (H1 : Heap) (locs1 : List Loc), mdI D A h kB kC kW cZ cA s H1 locs1 (va_up B k o, n, C, w) → W p l e R s m args below meth c H1 locs1 cells slots Q (F0 m (pc + 1) ls rest)) : W p l e R s m args below meth c H locs cells slots Q (F0 m pc ls (.int (bI o) :: .int (nI k) :: .ref kB :: rest)) := by
  refine va_zast S.1 S.2.1 I.1 I.2.1 I.2.2.1 I.2.2.2.1 1 1 rfl rfl (vp_in_nI hk (by omega)) hdg (fun H1 locs1 hP hD hS => ?_)
  rw [upd_b (by omega)] at hP hD
  exact kk H1 locs1 ⟨I.1, hP, hD, hS, I.2.2.2.2⟩
theorem md_astC {x : Int32} {k : Nat} (hk : k < 20) (S : CallFix p m c cc nL s args lw_all RX1) (I : mdI D A h kB kC kW cZ cA s H locs (B, n, C, w)) (hdg : decode cc pc = .ok (.iastore, 1)) (kk : ∀ (H1 : Heap) (locs1 : List Loc), mdI D A h kB kC kW cZ cA s H1 locs1 (B, n, va_up C k x, w) → W p l e R s m args below meth c H1 locs1 cells slots Q (F0 m (pc + 1) ls rest)) : W p l e R s m args below meth c H locs cells slots Q (F0 m pc ls (.int (x) :: .int (nI k) :: .ref kC :: rest)) := by
  refine va_iast S.1 S.2.1 I.1 I.2.1 I.2.2.1 I.2.2.2.1 2 0 rfl rfl (vp_in_nI hk (by omega)) hdg (fun H1 locs1 hP hD hS => ?_)
  rw [upd_nI (by omega)] at hP hD
  exact kk H1 locs1 ⟨I.1, hP, hD, hS, I.2.2.2.2⟩
theorem md_astW {k : Nat} (o : Bool) (hk : k < 512) (S : CallFix p m c cc nL s args lw_all RX1) (I : mdI D A h kB kC kW cZ cA s H locs (B, n, C, w)) (hdg : decode cc pc = .ok (.bastore, 1)) (kk : ∀ (H1 : Heap) (locs1 : List Loc), mdI D A h kB kC kW cZ cA s H1 locs1 (B, n, C, va_up w k o) → W p l e R s m args below meth c H1 locs1 cells slots Q (F0 m (pc + 1) ls rest)) : W p l e R s m args below meth c H locs cells slots Q (F0 m pc ls (.int (bI o) :: .int (nI k) :: .ref kW :: rest)) := by
  refine va_zast S.1 S.2.1 I.1 I.2.1 I.2.2.1 I.2.2.2.1 3 1 rfl rfl (vp_in_nI hk (by omega)) hdg (fun H1 locs1 hP hD hS => ?_)
  rw [upd_b (by omega)] at hP hD
  exact kk H1 locs1 ⟨I.1, hP, hD, hS, I.2.2.2.2⟩
theorem md_iret {u : MdS} {v : Int32} {post : Int32 → MdS → Prop} (S : CallFix p m c cc nL s args lw_all RX1) (hr : meth.sig.returnType = some .int) (hlk : meth.locks = false) (I : mdI D A h kB kC kW cZ cA s H locs u) (hp : post v u) (hdg : decode cc pc = .ok (.ireturn, 1)) : W p l e R s m args below meth c H locs 0 0 (MQ below (va_Qi post (mdB D A h kB kC kW cZ cA) A) args s 0 0 A) (F0 m pc ls [.int v]) :=
  W.iret (v := v) S.1 S.2.1 hr (fun t ht hW => ⟨⟨v, u, rfl, hp, by rw [ht]; exact I.2.1, va_K.moved hW.alike I.1, I.2.2.1⟩, I.2.2.2.1.F ht⟩) I.2.2.2.1.2.2 hdg hlk
theorem md_zret {u : MdS} {v : Bool} {post : Int32 → MdS → Prop} (S : CallFix p m c cc nL s args lw_all RX1) (hr : meth.sig.returnType = some .boolean) (hlk : meth.locks = false) (I : mdI D A h kB kC kW cZ cA s H locs u) (hp : post (bI v) u) (hdg : decode cc pc = .ok (.ireturn, 1)) : W p l e R s m args below meth c H locs 0 0 (MQ below (va_Qi post (mdB D A h kB kC kW cZ cA) A) args s 0 0 A) (F0 m pc ls [.int (bI v)]) :=
  W.zret (v := bI v) S.1 S.2.1 hr (nar_b v) (fun t ht hW => ⟨⟨bI v, u, rfl, hp, by rw [ht]; exact I.2.1, va_K.moved hW.alike I.1, I.2.2.1⟩, I.2.2.2.1.F ht⟩) I.2.2.2.1.2.2 hdg hlk
theorem md_vret {u : MdS} {post : MdS → Prop} (S : CallFix p m c cc nL s args lw_all RX1) (hr : meth.sig.returnType = none) (hlk : meth.locks = false) (I : mdI D A h kB kC kW cZ cA s H locs u) (hp : post u) (hdg : decode cc pc = .ok (.return_, 1)) : W p l e R s m args below meth c H locs 0 0 (MQ below (va_Qv post (mdB D A h kB kC kW cZ cA) A) args s 0 0 A) (F0 m pc ls []) :=
  W.vret S.1 S.2.1 hr (fun t ht hW => ⟨⟨u, rfl, hp, by rw [ht]; exact I.2.1, va_K.moved hW.alike I.1, I.2.2.1⟩, I.2.2.2.1.F ht⟩) I.2.2.2.1.2.2 hdg hlk
theorem md_callv {u : MdS} {y : MethodName} {bytes : ByteArray} {maxL index na : Nat} {rt : Option FieldType} {rm : Room} {As st0 : List Value} {post : MdS → Prop} (S : CallFix p m c cc nL s args lw_all RX1) (I : mdI D A h kB kC kW cZ cA s H locs u) (hM : mdMv l y (ws_ y bytes maxL rt) rm D h kB kC kW cZ cA As H.size u post) (cw : CallW R s args RX1 RX1 index y bytes maxL rt (ws_ y bytes maxL rt) rm 0 0 na) (hn : As.length = na) (hsz : ls.size = nL) (hro : (rest.map fun v => v.category).sum ≤ 8) (hst : st0 = As.reverse ++ .ref h :: rest) (hdg : decode cc pc = .ok (.invokevirtual index, 3))
    (kk : ∀ (u' : MdS) (H1 : Heap) (locs1 : List Loc), post u' → mdI D A h kB kC kW cZ cA s H1 locs1 u' → W p l e R s m args below meth c H1 locs1 0 0 Q (F0 m (pc + 3) ls rest)) : W p l e R s m args below meth c H locs 0 0 Q (F0 m pc ls st0) := by
  obtain ⟨hK, hP, hD, hS, hA⟩ := I
  have hFc := va_free (wc := mdW h kB kC kW cZ cA u) hD hS hA [0, 1, 2, 3] rfl
  refine va_callv (va_runV (As := As) (rest := rest) S hM cw ⟨fun a U g mk q => by obtain ⟨q0, q1, qP, qK, qD⟩ := q; exact ⟨q0, q1, qP, va_K.moved (u := U) (U := U.calling g mk a) (Vm.Alike.refl U.vm) qK, qD⟩, va_recv hK hP (ci := 1) (q0 := 0) rfl rfl, fun U hU hW => ⟨rfl, by rw [hU], by rw [hU]; exact hP, va_K.moved hW.alike hK, hD.weaken (fun _ _ _ _ => trivial)⟩⟩ rfl hn hsz hst (lv_room hro) hdg ⟨Nat.zero_le _, Nat.zero_le _⟩) hS (fun q _ h => hFc q h) hFc (fun u' t H1 locs1 ht hvm hw hB hz1 hk1 hS => ?_)
  obtain ⟨hP1, hK1, hD1⟩ := hB
  rw [ht] at hP1
  exact kk u' H1 locs1 hw ⟨va_K.moved hvm.symm hK1, hP1, hD1.weaken (fun k q _ h => hFc q.1 h), hS, hA⟩
theorem md_callR {u : MdS} {y : MethodName} {bytes : ByteArray} {maxL index na : Nat} {rt : Option FieldType} {rm : Room} {As st0 : List Value} {post : Int32 → Prop} (S : CallFix p m c cc nL s args lw_all RX1) (I : mdI D A h kB kC kW cZ cA s H locs u) (hM : mdMr l y (ws_ y bytes maxL rt) rm D h kB kC kW cZ cA As u post) (cw : CallW R s args RX1 RX1 index y bytes maxL rt (ws_ y bytes maxL rt) rm 0 0 na) (hn : As.length = na) (hsz : ls.size = nL) (hro : (rest.map fun v => v.category).sum ≤ 8) (hst : st0 = As.reverse ++ .ref h :: rest) (hdg : decode cc pc = .ok (.invokevirtual index, 3))
    (kk : ∀ r : Int32, post r → W p l e R s m args below meth c H locs 0 0 Q (F0 m (pc + 3) ls (.int r :: rest))) : W p l e R s m args below meth c H locs 0 0 Q (F0 m pc ls st0) := by
  obtain ⟨hK, hP, hD, hS, hA⟩ := I
  refine vp_callSi (W.runV (As := As) (rest := rest) S hM cw ⟨fun a U g mk q => by obtain ⟨q0, qP, qK, qD⟩ := q; exact ⟨q0, qP, va_K.moved (u := U) (U := U.calling g mk a) (Vm.Alike.refl U.vm) qK, qD⟩, va_recv hK hP (ci := 1) (q0 := 0) rfl rfl, fun U hU hW => ⟨rfl, by rw [hU]; exact hP, va_K.moved hW.alike hK, hD.weaken (fun _ _ _ _ => trivial)⟩⟩ rfl hn hsz hst (lv_room hro) hdg ⟨Nat.zero_le _, Nat.zero_le _⟩) kk
end MdRows
section MdMets
variable {l : Launch} {y : MethodName} {cc : ByteArray} {maxL : Nat} {rm : Room} {D : va_G} {h kB kC kW : Nat} {cZ cA : ClassId} {As : List Value} {sz : Nat} {u : MdS}
theorem md_mI {post : Int32 → MdS → Prop} (hy : plainName y.cls = true) (hc : y.cls = RX1) (hle : (lg_sl (.ref h :: As)).length ≤ maxL)
    (body : ∀ (p : Program) (e : Env) (s : State) (m : MethodId) (args : Array Value) (below : List Frame) (meth : Method) (c : Code) (A : Nat → Prop) (Q : State → Prop) (ls : Array Slot), CallFix p m c cc maxL s args lw_all RX1 → mdI D A h kB kC kW cZ cA s s.heap [] u →
      (∀ (v : Int32) (u' : MdS) (pc : Nat) (ls : Array Slot) (H : Heap) (locs : List Loc), decode cc pc = .ok (.ireturn, 1) → mdI D A h kB kC kW cZ cA s H locs u' → post v u' → W p l e rm s m args below meth c H locs 0 0 Q (F0 m pc ls [.int v])) →
      lv_has ls maxL (lv_args 0 (.ref h :: As)) → W p l e rm s m args below meth c s.heap [] 0 0 Q (F0 m 0 ls [])) : mdMi l y (ws_ y cc maxL (some .int)) rm D h kB kC kW cZ cA As sz u post :=
  md_metI hy hc hle (fun p e s m args below meth c A ls S hr hlk I hl => body p e s m args below meth c A _ ls S I (fun _ _ _ _ _ _ hd I hp => md_iret S hr hlk I hp hd) hl)
theorem md_mV {post : MdS → Prop} (hy : plainName y.cls = true) (hc : y.cls = RX1) (hle : (lg_sl (.ref h :: As)).length ≤ maxL)
    (body : ∀ (p : Program) (e : Env) (s : State) (m : MethodId) (args : Array Value) (below : List Frame) (meth : Method) (c : Code) (A : Nat → Prop) (Q : State → Prop) (ls : Array Slot), CallFix p m c cc maxL s args lw_all RX1 → mdI D A h kB kC kW cZ cA s s.heap [] u →
      (∀ (u' : MdS) (pc : Nat) (ls : Array Slot) (H : Heap) (locs : List Loc), decode cc pc = .ok (.return_, 1) → mdI D A h kB kC kW cZ cA s H locs u' → post u' → W p l e rm s m args below meth c H locs 0 0 Q (F0 m pc ls [])) →
      lv_has ls maxL (lv_args 0 (.ref h :: As)) → W p l e rm s m args below meth c s.heap [] 0 0 Q (F0 m 0 ls [])) : mdMv l y (ws_ y cc maxL none) rm D h kB kC kW cZ cA As sz u post :=
  md_metV hy hc hle (fun p e s m args below meth c A ls S hr hlk I hl => body p e s m args below meth c A _ ls S I (fun _ _ _ _ _ hd I hp => md_vret S hr hlk I hp hd) hl)
theorem md_mRz {post : Int32 → Prop} (hy : plainName y.cls = true) (hc : y.cls = RX1) (hle : (lg_sl (.ref h :: As)).length ≤ maxL)
    (body : ∀ (p : Program) (e : Env) (s : State) (m : MethodId) (args : Array Value) (below : List Frame) (meth : Method) (c : Code) (Q : State → Prop) (ls : Array Slot), CallFix p m c cc maxL s args lw_all RX1 → mdI D (fun _ => True) h kB kC kW cZ cA s s.heap [] u →
      (∀ (v : Bool) (pc : Nat) (ls : Array Slot), decode cc pc = .ok (.ireturn, 1) → post (bI v) → W p l e rm s m args below meth c s.heap [] 0 0 Q (F0 m pc ls [.int (bI v)])) →
      lv_has ls maxL (lv_args 0 (.ref h :: As)) → W p l e rm s m args below meth c s.heap [] 0 0 Q (F0 m 0 ls [])) : mdMr l y (ws_ y cc maxL (some .boolean)) rm D h kB kC kW cZ cA As u post :=
  md_metR hy hc hle (fun p e s m args below meth c ls S hr hlk I hl => body p e s m args below meth c _ ls S I (fun _ _ _ hd hp => st_zret S hr hlk hp hd) hl)
end MdMets
end
section
/-! QbfDeskModel: holds, allHold, length, work -/
def lx (v : Nat) (x : Bool) : Nat := match x with
  | true => 2 * v
  | false => 2 * v + 1
theorem lx_sub (v : Nat) (x : Bool) : nI (2 * v + 1) - bI x = nI (lx v x) := by
  cases x with
  | true => exact pk_sub (a := 2 * v + 1) (b := 1) (by omega)
  | false => exact pk_sub (a := 2 * v + 1) (b := 0) (by omega)
theorem lx_lit (w : Int32) (v : Nat) (x : Bool) : bt w (lx v x) = lit w v x := by cases x <;> rfl
theorem lx_lt {v : Nat} (hv : v < 8) (x : Bool) : lx v x < 32 := by
  cases x
  · show 2 * v + 1 < 32
    omega
  · show 2 * v < 32
    omega
set_option maxHeartbeats 4000000 in
set_option maxRecDepth 100000 in
theorem met_holds (l : Launch) (w : Int32) (q : Nat) : stM l yX1_holds (ws_ yX1_holds cX1_holds 4 (some .boolean)) (rmm 0 0) [.int w, .int (nI q)] (fun r => ∃ x : Bool, r = bI x ∧ (x = true ↔ hold w (fun v => q.testBit (7 - v)))) := by
  refine st_mZ (own := RX1) (by decide) rfl (Nat.le_of_ble_eq_true rfl) ?_
  intro p e s m args below meth c Q ls S ret hl
  have hx := S.1
  have hb := S.2.1
  have hl : lv_has ls 4 [(0, .int w), (1, .int (nI q))] := hl
  refine lv_iconst (v := 0) hx hb dX1_holds_0 (by decide) ?_
  refine lv_istore_n (lv' := [(2, .int 0), (0, .int w), (1, .int (nI q))]) hx hb dX1_holds_1 rfl hl (by decide) rfl (fun ls hl => ?_)
  have loop : ∀ (d v : Nat) (ls : Array Slot), v + d = 8 → (∀ u, u < v → lit w u (q.testBit (7 - u)) = false) → lv_has ls 4 [(0, .int w), (1, .int (nI q)), (2, .int (nI v))] → W p l e (rmm 0 0) s m args below meth c s.heap [] 0 0 Q (F0 m 2 ls []) := by
    intro d
    induction d with
    | zero =>
      intro v ls hd h1 hl
      refine lv_iload_n hx hb dX1_holds_2 rfl (lv_at hl 2 rfl) ?_
      refine lv_bipush (v := 8) hx hb dX1_holds_3 (by decide) ?_
      refine lv_icmp_ge (tgt := 40) hx hb dX1_holds_5 (by decide) (fun c1 => ?_) (fun c1 => ?_)
      · refine lv_iconst (v := 0) hx hb dX1_holds_40 (by decide) ?_
        refine ret false 41 ls dX1_holds_41 ⟨false, rfl, fun z => (by cases z), fun ⟨u, hu, hl2⟩ => ?_⟩
        have := h1 u (by omega)
        exact absurd (this.symm.trans hl2) (by decide)
      · exact absurd (show (8 : Int32) ≤ nI v by rw [show v = 8 by omega]; decide) c1
    | succ d ih =>
      intro v ls hd h1 hl
      have hv : v < 8 := by omega
      refine lv_iload_n hx hb dX1_holds_2 rfl (lv_at hl 2 rfl) ?_
      refine lv_bipush (v := 8) hx hb dX1_holds_3 (by decide) ?_
      refine lv_icmp_ge (tgt := 40) hx hb dX1_holds_5 (by decide) (fun c1 => ?_) (fun c1 => ?_)
      · exact absurd c1 (nI_ge (a := v) (b := 8) (by omega) (by omega))
      · refine lv_iconst (v := 2) hx hb dX1_holds_8 (by decide) ?_
        refine lv_iload_n hx hb dX1_holds_9 rfl (lv_at hl 2 rfl) ?_
        refine lv_imul hx hb dX1_holds_10 ?_
        refine w_top (y := nI (2 * v)) (mul2 v) ?_
        refine lv_iconst (v := 1) hx hb dX1_holds_11 (by decide) ?_
        refine lv_iadd hx hb dX1_holds_12 ?_
        refine w_top (y := nI (2 * v + 1)) (nI_1 (2 * v)) ?_
        refine lv_iload_n hx hb dX1_holds_13 rfl (lv_at hl 1 rfl) ?_
        refine lv_bipush (v := 7) hx hb dX1_holds_14 (by decide) ?_
        refine lv_iload_n hx hb dX1_holds_16 rfl (lv_at hl 2 rfl) ?_
        refine lv_isub hx hb dX1_holds_17 ?_
        refine w_top (y := nI (7 - v)) (pk_sub (a := 7) (b := v) (by omega)) ?_
        refine lv_ishr hx hb dX1_holds_18 ?_
        refine lv_iconst (v := 1) hx hb dX1_holds_19 (by decide) ?_
        refine lv_iand hx hb dX1_holds_20 ?_
        refine w_top (y := bI (q.testBit (7 - v))) (by rw [sh_s1 _ (by omega), bt_nI q (by omega)]) ?_
        refine lv_isub hx hb dX1_holds_21 ?_
        refine w_top (y := nI (lx v (q.testBit (7 - v)))) (lx_sub v _) ?_
        refine lv_istore_n (lv' := [(3, .int (nI (lx v (q.testBit (7 - v))))), (0, .int w), (1, .int (nI q)), (2, .int (nI v))]) hx hb dX1_holds_22 rfl hl (by decide) rfl (fun ls hl => ?_)
        refine lv_iload_n hx hb dX1_holds_23 rfl (lv_at hl 1 rfl) ?_
        refine lv_iload_n hx hb dX1_holds_24 rfl (lv_at hl 0 rfl) ?_
        refine lv_ishr hx hb dX1_holds_25 ?_
        refine lv_iconst (v := 1) hx hb dX1_holds_26 (by decide) ?_
        refine lv_iand hx hb dX1_holds_27 ?_
        refine w_top (y := bI (lit w v (q.testBit (7 - v)))) (by rw [sh_s1 _ (lx_lt hv _), lx_lit]) ?_
        refine lv_iconst (v := 1) hx hb dX1_holds_28 (by decide) ?_
        refine lv_icmp_ne (tgt := 34) hx hb dX1_holds_29 (by decide) (fun c2 => ?_) (fun c2 => ?_)
        · refine lv_iinc (v := nI (v + 1)) (lv' := [(2, .int (nI (v + 1))), (3, .int (nI (lx v (q.testBit (7 - v))))), (0, .int w), (1, .int (nI q))]) hx hb dX1_holds_34 hl (k := 3) rfl (inc1 v) (by decide) rfl (fun ls hl => ?_)
          refine lv_goto (tgt := 2) hx hb dX1_holds_37 (by decide) ?_
          have hl := lv_sub hl [2, 3, 0] rfl
          refine ih (v + 1) ls (by omega) (fun u hu => ?_) hl
          rcases Nat.lt_or_ge u v with z | z
          · exact h1 u z
          · rw [show u = v by omega]
            cases hz : lit w v (q.testBit (7 - v)) with
            | false => rfl
            | true => rw [hz] at c2; exact absurd rfl c2
        · refine lv_iconst (v := 1) hx hb dX1_holds_32 (by decide) ?_
          exact ret true 33 ls dX1_holds_33 ⟨true, rfl, fun _ => ⟨v, hv, bI_1.mp c2⟩, fun _ => rfl⟩
  have hl := lv_sub hl [1, 2, 0] rfl
  exact loop 8 0 ls rfl (fun u hu => by omega) hl
set_option maxHeartbeats 4000000 in
set_option maxRecDepth 100000 in
theorem met_allHold (l : Launch) (D : va_G) (h kB kC kW : Nat) (cZ cA : ClassId) (B : Nat → Bool) (n : Nat) (C : Nat → Int32) (w : Nat → Bool) (q : Nat) (wo : Int32) (hn : n ≤ 20) : mdMr l yX1_allHold (ws_ yX1_allHold cX1_allHold 4 (some .boolean)) (rmm 1 23) D h kB kC kW cZ cA [.int (nI q), .int wo] (B, n, C, w) (fun r => ∃ x : Bool, r = bI x ∧ (x = true ↔ allH n wo C (fun v => q.testBit (7 - v)))) := by
  refine md_mRz (by decide) rfl (Nat.le_of_ble_eq_true rfl) ?_
  intro p e s m args below meth c Q ls S I ret hl
  have hx := S.1
  have hb := S.2.1
  have hts := S.2.2.2.2
  have hl : lv_has ls 4 [(0, .ref h), (1, .int (nI q)), (2, .int wo)] := hl
  refine lv_iconst (v := 0) hx hb dX1_allHold_0 (by decide) ?_
  refine lv_istore_n (lv' := [(3, .int 0), (0, .ref h), (1, .int (nI q)), (2, .int wo)]) hx hb dX1_allHold_1 rfl hl (by decide) rfl (fun ls hl => ?_)
  have loop : ∀ (d k : Nat) (ls : Array Slot), k + d = n → (∀ j, j < k → nI j ≠ wo → hold (C j) (fun v => q.testBit (7 - v))) → lv_has ls 4 [(0, .ref h), (1, .int (nI q)), (2, .int wo), (3, .int (nI k))] → W p l e (rmm 1 23) s m args below meth c s.heap [] 0 0 Q (F0 m 2 ls []) := by
    intro d
    induction d with
    | zero =>
      intro k ls hd h1 hl
      refine lv_iload_n hx hb dX1_allHold_2 rfl (lv_at hl 3 rfl) ?_
      refine lv_aload_n hx hb dX1_allHold_3 rfl (lv_at hl 0 rfl) ?_
      refine md_held S I dX1_allHold_4 ?_
      refine lv_icmp_ge (tgt := 36) hx hb dX1_allHold_7 (by decide) (fun c1 => ?_) (fun c1 => ?_)
      · refine lv_iconst (v := 1) hx hb dX1_allHold_36 (by decide) ?_
        exact ret true 37 ls dX1_allHold_37 ⟨true, rfl, fun _ j hj => h1 j (by omega), fun _ => rfl⟩
      · exact absurd (nI_le (show n ≤ k by omega) (by omega)) c1
    | succ d ih =>
      intro k ls hd h1 hl
      have N : (nI k ≠ wo → hold (C k) (fun v => q.testBit (7 - v))) → W p l e (rmm 1 23) s m args below meth c s.heap [] 0 0 Q (F0 m 30 ls []) := by
        intro hN
        refine lv_iinc (v := nI (k + 1)) (lv' := [(3, .int (nI (k + 1))), (0, .ref h), (1, .int (nI q)), (2, .int wo)]) hx hb dX1_allHold_30 hl (k := 3) rfl (inc1 k) (by decide) rfl (fun ls hl => ?_)
        refine lv_goto (tgt := 2) hx hb dX1_allHold_33 (by decide) ?_
        have hl := lv_sub hl [1, 2, 3, 0] rfl
        refine ih (k + 1) ls (by omega) (fun j hj => ?_) hl
        rcases Nat.lt_or_ge j k with z | z
        · exact h1 j z
        · rw [show j = k by omega]
          exact hN
      refine lv_iload_n hx hb dX1_allHold_2 rfl (lv_at hl 3 rfl) ?_
      refine lv_aload_n hx hb dX1_allHold_3 rfl (lv_at hl 0 rfl) ?_
      refine md_held S I dX1_allHold_4 ?_
      refine lv_icmp_ge (tgt := 36) hx hb dX1_allHold_7 (by decide) (fun c1 => ?_) (fun c1 => ?_)
      · exact absurd c1 (nI_ge (show k < n by omega) (by omega))
      · refine lv_iload_n hx hb dX1_allHold_10 rfl (lv_at hl 3 rfl) ?_
        refine lv_iload_n hx hb dX1_allHold_11 rfl (lv_at hl 2 rfl) ?_
        refine lv_icmp_eq (tgt := 30) hx hb dX1_allHold_12 (by decide) (fun c2 => ?_) (fun c2 => ?_)
        · exact N (fun z => absurd c2 z)
        · refine lv_aload_n hx hb dX1_allHold_15 rfl (lv_at hl 0 rfl) ?_
          refine md_clauses S I dX1_allHold_16 ?_
          refine lv_iload_n hx hb dX1_allHold_19 rfl (lv_at hl 3 rfl) ?_
          refine md_aldC (k := k) (by omega) S I dX1_allHold_20 ?_
          refine lv_iload_n hx hb dX1_allHold_21 rfl (lv_at hl 1 rfl) ?_
          refine st_call (As := [.int (C k), .int (nI q)]) (rest := []) S (met_holds l (C k) q) (va_cwS 2 hts (lw_S q160 q161 q12 q162) rfl rfl rfl (by decide +kernel) ⟨Nat.le_of_ble_eq_true rfl, Nat.le_of_ble_eq_true rfl⟩) rfl hl.1 (Nat.le_of_ble_eq_true rfl) rfl dX1_allHold_22 (fun r hr1 => ?_)
          obtain ⟨x, rfl, hx1⟩ := hr1
          refine lv_if_ne (tgt := 30) hx hb dX1_allHold_25 (by decide) (fun c3 => ?_) (fun c3 => ?_)
          · exact N (fun _ => hx1.mp (bI_n0.mp c3))
          · refine lv_iconst (v := 0) hx hb dX1_allHold_28 (by decide) ?_
            refine ret false 29 ls dX1_allHold_29 ⟨false, rfl, fun z => (by cases z), fun z => ?_⟩
            have := hx1.mpr (z k (by omega) c2)
            rw [bI_0.mp c3] at this
            exact this
  have hl := lv_sub hl [1, 2, 3, 0] rfl
  exact loop n 0 ls (by omega) (fun j hj => by omega) hl
set_option maxHeartbeats 4000000 in
set_option maxRecDepth 100000 in
theorem met_length (l : Launch) (q : Nat) (h1 : 1 ≤ q) (hq : q < 512) : stM l yX1_length (ws_ yX1_length cX1_length 2 (some .int)) (rmm 0 0) [.int (nI q)] (fun r => r = nI (Nat.log2 q)) := by
  refine st_mI (own := RX1) (by decide) rfl (Nat.le_of_ble_eq_true rfl) ?_
  intro p e s m args below meth c Q ls S ret hl
  have hx := S.1
  have hb := S.2.1
  have hl : lv_has ls 2 [(0, .int (nI q))] := hl
  refine lv_iconst (v := 0) hx hb dX1_length_0 (by decide) ?_
  refine lv_istore_n (lv' := [(1, .int 0), (0, .int (nI q))]) hx hb dX1_length_1 rfl hl (by decide) rfl (fun ls hl => ?_)
  have loop : ∀ (d k : Nat) (ls : Array Slot), k + d = 8 → 2 ^ k ≤ q → lv_has ls 2 [(0, .int (nI q)), (1, .int (nI k))] → W p l e (rmm 0 0) s m args below meth c s.heap [] 0 0 Q (F0 m 2 ls []) := by
    intro d
    induction d with
    | zero =>
      intro k ls hd h2 hl
      have hk : k = 8 := by omega
      subst hk
      refine lv_iload_n hx hb dX1_length_2 rfl (lv_at hl 1 rfl) ?_
      refine lv_bipush (v := 8) hx hb dX1_length_3 (by decide) ?_
      refine lv_icmp_ge (tgt := 21) hx hb dX1_length_5 (by decide) (fun c1 => ?_) (fun c1 => ?_)
      · refine lv_iload_n hx hb dX1_length_21 rfl (lv_at hl 1 rfl) ?_
        exact ret _ 22 ls dX1_length_22 (by rw [lg_is q hq 8 (by omega) h2 (by omega)])
      · exact absurd (by decide) c1
    | succ d ih =>
      intro k ls hd h2 hl
      have hp : 2 ^ (k + 1) ≤ 512 := (by decide : ∀ k, k < 9 → 2 ^ (k + 1) ≤ 512) k (by omega)
      refine lv_iload_n hx hb dX1_length_2 rfl (lv_at hl 1 rfl) ?_
      refine lv_bipush (v := 8) hx hb dX1_length_3 (by decide) ?_
      refine lv_icmp_ge (tgt := 21) hx hb dX1_length_5 (by decide) (fun c1 => ?_) (fun c1 => ?_)
      · exact absurd c1 (nI_ge (a := k) (b := 8) (by omega) (by omega))
      · refine lv_iconst (v := 2) hx hb dX1_length_8 (by decide) ?_
        refine lv_iload_n hx hb dX1_length_9 rfl (lv_at hl 1 rfl) ?_
        refine lv_ishl hx hb dX1_length_10 ?_
        refine w_top (y := nI (2 ^ (k + 1))) (sh_2k k (by omega)) ?_
        refine lv_iload_n hx hb dX1_length_11 rfl (lv_at hl 0 rfl) ?_
        refine lv_icmp_gt (tgt := 21) hx hb dX1_length_12 (by decide) (fun c2 => ?_) (fun c2 => ?_)
        · refine lv_iload_n hx hb dX1_length_21 rfl (lv_at hl 1 rfl) ?_
          have h3 := (nI_ltI (by omega) (by omega)).mp c2
          exact ret _ 22 ls dX1_length_22 (by rw [lg_is q hq k (by omega) h2 h3])
        · refine lv_iinc (v := nI (k + 1)) (lv' := [(1, .int (nI (k + 1))), (0, .int (nI q))]) hx hb dX1_length_15 hl (k := 1) rfl (inc1 k) (by decide) rfl (fun ls hl => ?_)
          refine lv_goto (tgt := 2) hx hb dX1_length_18 (by decide) ?_
          have hl := lv_sub hl [1, 0] rfl
          refine ih (k + 1) ls (by omega) ?_ hl
          rcases Nat.lt_or_ge q (2 ^ (k + 1)) with z | z
          · exact absurd (nI_lt z (by omega)) c2
          · exact z
  have hl := lv_sub hl [1, 0] rfl
  exact loop 8 0 ls rfl h1 hl
/-- who owns the variables in the model, one of them given to the other -/
def mdM (B : Nat → Bool) (sw : Int32) (k : Nat) : Bool := B k == decide (nI k = sw)
theorem wonB_step {M : Nat → Bool} {n : Nat} {lo : Int32} {L : Nat → Int32} {q : Nat} (h1 : 1 ≤ q) (h2 : q < 256) : wonB M n lo L q = if M (Nat.log2 q) = true then (wonB M n lo L (2 * q) || wonB M n lo L (2 * q + 1)) else (wonB M n lo L (2 * q) && wonB M n lo L (2 * q + 1)) := by
  symm
  apply wonB_of
  rw [WON_step h1 h2]
  by_cases hM : M (Nat.log2 q) = true
  · rw [if_pos hM, if_pos hM, Bool.or_eq_true, wonB_iff, wonB_iff]
  · rw [if_neg hM, if_neg hM, Bool.and_eq_true, wonB_iff, wonB_iff]
set_option maxHeartbeats 4000000 in
set_option maxRecDepth 100000 in
/-- all positions, from the last ones back -/
theorem met_work (l : Launch) (D : va_G) (h kB kC kW : Nat) (cZ cA : ClassId) (sz : Nat) (B : Nat → Bool) (n : Nat) (C : Nat → Int32) (w : Nat → Bool) (wo sw : Int32) (hn : n ≤ 20) : mdMv l yX1_work (ws_ yX1_work cX1_work 8 none) (rmm 2 46) D h kB kC kW cZ cA [.int wo, .int sw] sz (B, n, C, w) (fun u' => ∃ w', u' = (B, n, C, w') ∧ ∀ q, 1 ≤ q → q < 512 → w' q = wonB (mdM B sw) n wo C q) := by
  refine md_mV (by decide) rfl (Nat.le_of_ble_eq_true rfl) ?_
  intro p e s m args below meth c A Q ls S I ret hl
  have hx := S.1
  have hb := S.2.1
  have hts := S.2.2.2.2
  have hl : lv_has ls 8 [(0, .ref h), (1, .int wo), (2, .int sw)] := hl
  refine lv_sipush (v := 511) hx hb dX1_work_0 (by decide) ?_
  refine lv_istore_n (lv' := [(3, .int 511), (0, .ref h), (1, .int wo), (2, .int sw)]) hx hb dX1_work_3 rfl hl (by decide) rfl (fun ls hl => ?_)
  have loop : ∀ (g : Nat) (w : Nat → Bool) (H : Heap) (locs : List Loc) (ls : Array Slot), g < 512 → (∀ q, g < q → q < 512 → w q = wonB (mdM B sw) n wo C q) → mdI D A h kB kC kW cZ cA s H locs (B, n, C, w) → lv_has ls 8 [(0, .ref h), (1, .int wo), (2, .int sw), (3, .int (nI g))] → W p l e (rmm 2 46) s m args below meth c H locs 0 0 Q (F0 m 4 ls []) := by
    intro g
    induction g with
    | zero =>
      intro w H locs ls hg hw I hl
      refine lv_iload_n hx hb dX1_work_4 rfl (lv_at hl 3 rfl) ?_
      refine lv_iconst (v := 1) hx hb dX1_work_5 (by decide) ?_
      refine lv_icmp_lt (tgt := 137) hx hb dX1_work_6 (by decide) (fun c1 => ?_) (fun c1 => ?_)
      · exact ret _ 137 ls H locs dX1_work_137 I ⟨w, rfl, fun q h1 h2 => hw q h1 h2⟩
      · exact absurd (by decide) c1
    | succ g ih =>
      intro w H locs ls hg hw I hl
      refine lv_iload_n hx hb dX1_work_4 rfl (lv_at hl 3 rfl) ?_
      refine lv_iconst (v := 1) hx hb dX1_work_5 (by decide) ?_
      refine lv_icmp_lt (tgt := 137) hx hb dX1_work_6 (by decide) (fun c1 => ?_) (fun c1 => ?_)
      · exact absurd c1 (nI_nlt (a := g + 1) (b := 1) (by omega) (by omega))
      · refine lv_iload_n hx hb dX1_work_9 rfl (lv_at hl 3 rfl) ?_
        refine st_call (As := [.int (nI (g + 1))]) (rest := []) S (met_length l (g + 1) (by omega) hg) (va_cwS 1 hts (lw_S q153 q154 q12 q155) rfl rfl rfl (by decide +kernel) ⟨Nat.le_of_ble_eq_true rfl, Nat.le_of_ble_eq_true rfl⟩) rfl hl.1 (Nat.le_of_ble_eq_true rfl) rfl dX1_work_10 (fun r hr1 => ?_)
        subst hr1
        have hk9 := lg_lt (g + 1) hg
        have hlast := WON_last (M := mdM B sw) (n := n) (lo := wo) (L := C) (q := g + 1)
        have hstep := wonB_step (M := mdM B sw) (n := n) (lo := wo) (L := C) (q := g + 1) (by omega)
        have h256 := lg_8 (g + 1) hg
        generalize Nat.log2 (g + 1) = k at hk9 hlast hstep h256 ⊢
        have N : ∀ (x : Bool) (H : Heap) (locs : List Loc) (ls : Array Slot), x = wonB (mdM B sw) n wo C (g + 1) → mdI D A h kB kC kW cZ cA s H locs (B, n, C, va_up w (g + 1) x) → lv_has ls 8 [(0, .ref h), (1, .int wo), (2, .int sw), (3, .int (nI (g + 1)))] → W p l e (rmm 2 46) s m args below meth c H locs 0 0 Q (F0 m 131 ls []) := by
          intro x H locs ls hx1 I hl
          refine lv_iinc (v := nI g) (lv' := [(3, .int (nI g)), (0, .ref h), (1, .int wo), (2, .int sw)]) hx hb dX1_work_131 hl (k := 3) rfl (dec1 g) (by decide) rfl (fun ls hl => ?_)
          refine lv_goto (tgt := 4) hx hb dX1_work_134 (by decide) ?_
          have hl := lv_sub hl [1, 2, 3, 0] rfl
          refine ih _ H locs ls (by omega) (fun q h1 h2 => ?_) I hl
          by_cases z : q = g + 1
          · rw [z, va_up_self]
            exact hx1
          · rw [va_up_ne _ _ z]
            exact hw q (by omega) h2
        refine lv_istore (lv' := [(4, .int (nI k)), (0, .ref h), (1, .int wo), (2, .int sw), (3, .int (nI (g + 1)))]) hx hb dX1_work_13 hl (by decide) rfl (fun ls hl => ?_)
        refine lv_iload hx hb dX1_work_15 (lv_at hl 0 rfl) ?_
        refine lv_bipush (v := 8) hx hb dX1_work_17 (by decide) ?_
        refine lv_icmp_ne (tgt := 37) hx hb dX1_work_19 (by decide) (fun c2 => ?_) (fun c2 => ?_)
        · have hk8 : k ≠ 8 := fun z => c2 (by rw [z]; rfl)
          have hg2 := h256 hk8
          have hstep := hstep hg2
          refine lv_aload_n hx hb dX1_work_37 rfl (lv_at hl 1 rfl) ?_
          refine md_breaker S I dX1_work_38 ?_
          refine lv_iload hx hb dX1_work_41 (lv_at hl 0 rfl) ?_
          refine md_aldB (k := k) (by omega) S I dX1_work_43 ?_
          have J1 : ∀ d : Bool, d = decide (nI k = sw) → W p l e (rmm 2 46) s m args below meth c H locs 0 0 Q (F0 m 55 ls [.int (bI d), .int (bI (B k))]) := by
            intro d hd
            have J2 : ∀ bo : Bool, bo = !(mdM B sw k) → W p l e (rmm 2 46) s m args below meth c H locs 0 0 Q (F0 m 63 ls [.int (bI bo)]) := by
              intro bo hbo
              refine lv_istore (lv' := [(5, .int (bI bo)), (4, .int (nI k)), (0, .ref h), (1, .int wo), (2, .int sw), (3, .int (nI (g + 1)))]) hx hb dX1_work_63 hl (by decide) rfl (fun ls hl => ?_)
              refine lv_aload_n hx hb dX1_work_65 rfl (lv_at hl 2 rfl) ?_
              refine md_won S I dX1_work_66 ?_
              refine lv_iconst (v := 2) hx hb dX1_work_69 (by decide) ?_
              refine lv_iload_n hx hb dX1_work_70 rfl (lv_at hl 5 rfl) ?_
              refine lv_imul hx hb dX1_work_71 ?_
              refine w_top (y := nI (2 * (g + 1))) (mul2 (g + 1)) ?_
              refine md_aldW (k := 2 * (g + 1)) (by omega) S I dX1_work_72 ?_
              refine lv_istore (lv' := [(6, .int (bI (w (2 * (g + 1))))), (5, .int (bI bo)), (4, .int (nI k)), (0, .ref h), (1, .int wo), (2, .int sw), (3, .int (nI (g + 1)))]) hx hb dX1_work_73 hl (by decide) rfl (fun ls hl => ?_)
              refine lv_aload_n hx hb dX1_work_75 rfl (lv_at hl 3 rfl) ?_
              refine md_won S I dX1_work_76 ?_
              refine lv_iconst (v := 2) hx hb dX1_work_79 (by decide) ?_
              refine lv_iload_n hx hb dX1_work_80 rfl (lv_at hl 6 rfl) ?_
              refine lv_imul hx hb dX1_work_81 ?_
              refine w_top (y := nI (2 * (g + 1))) (mul2 (g + 1)) ?_
              refine lv_iconst (v := 1) hx hb dX1_work_82 (by decide) ?_
              refine lv_iadd hx hb dX1_work_83 ?_
              refine w_top (y := nI (2 * (g + 1) + 1)) (nI_1 _) ?_
              refine md_aldW (k := 2 * (g + 1) + 1) (by omega) S I dX1_work_84 ?_
              refine lv_istore (lv' := [(7, .int (bI (w (2 * (g + 1) + 1)))), (6, .int (bI (w (2 * (g + 1))))), (5, .int (bI bo)), (4, .int (nI k)), (0, .ref h), (1, .int wo), (2, .int sw), (3, .int (nI (g + 1)))]) hx hb dX1_work_85 hl (by decide) rfl (fun ls hl => ?_)
              rw [hw (2 * (g + 1)) (by omega) (by omega)] at hl
              rw [hw (2 * (g + 1) + 1) (by omega) (by omega)] at hl
              generalize wonB (mdM B sw) n wo C (2 * (g + 1)) = ze at hl hstep
              generalize wonB (mdM B sw) n wo C (2 * (g + 1) + 1) = on at hl hstep
              have St : ∀ x : Bool, x = wonB (mdM B sw) n wo C (g + 1) → W p l e (rmm 2 46) s m args below meth c H locs 0 0 Q (F0 m 130 ls [.int (bI x), .int (nI (g + 1)), .ref kW]) := by
                intro x hx1
                refine md_astW (k := g + 1) x (by omega) S I dX1_work_130 (fun H locs I => ?_)
                have hl := lv_sub hl [4, 5, 6, 7] rfl
                exact N x H locs ls hx1 I hl
              refine lv_aload_n hx hb dX1_work_87 rfl (lv_at hl 4 rfl) ?_
              refine md_won S I dX1_work_88 ?_
              refine lv_iload_n hx hb dX1_work_91 rfl (lv_at hl 7 rfl) ?_
              refine lv_iload hx hb dX1_work_92 (lv_at hl 2 rfl) ?_
              refine lv_if_eq (tgt := 115) hx hb dX1_work_94 (by decide) (fun c4 => ?_) (fun c4 => ?_)
              · have hM : mdM B sw k = true := by
                  have := bI_0.mp c4
                  rw [hbo] at this
                  cases hz : mdM B sw k with
                  | true => rfl
                  | false => rw [hz] at this; cases this
                rw [if_pos hM] at hstep
                refine lv_iload hx hb dX1_work_115 (lv_at hl 1 rfl) ?_
                refine lv_if_ne (tgt := 125) hx hb dX1_work_117 (by decide) (fun c5 => ?_) (fun c5 => ?_)
                · refine lv_iconst (v := 1) hx hb dX1_work_125 (by decide) ?_
                  refine lv_goto (tgt := 130) hx hb dX1_work_126 (by decide) ?_
                  exact St true (by rw [hstep, bI_n0.mp c5]; rfl)
                · refine lv_iload hx hb dX1_work_120 (lv_at hl 0 rfl) ?_
                  refine lv_if_eq (tgt := 129) hx hb dX1_work_122 (by decide) (fun c6 => ?_) (fun c6 => ?_)
                  · refine lv_iconst (v := 0) hx hb dX1_work_129 (by decide) ?_
                    exact St false (by rw [hstep, bI_0.mp c5, bI_0.mp c6]; rfl)
                  · refine lv_iconst (v := 1) hx hb dX1_work_125 (by decide) ?_
                    refine lv_goto (tgt := 130) hx hb dX1_work_126 (by decide) ?_
                    exact St true (by rw [hstep, bI_0.mp c5, bI_n0.mp c6]; rfl)
              · have hM : ¬ mdM B sw k = true := by
                  have := bI_n0.mp c4
                  rw [hbo] at this
                  intro hz
                  rw [hz] at this
                  cases this
                rw [if_neg hM] at hstep
                refine lv_iload hx hb dX1_work_97 (lv_at hl 1 rfl) ?_
                refine lv_if_eq (tgt := 111) hx hb dX1_work_99 (by decide) (fun c5 => ?_) (fun c5 => ?_)
                · refine lv_iconst (v := 0) hx hb dX1_work_111 (by decide) ?_
                  refine lv_goto (tgt := 130) hx hb dX1_work_112 (by decide) ?_
                  exact St false (by rw [hstep, bI_0.mp c5]; rfl)
                · refine lv_iload hx hb dX1_work_102 (lv_at hl 0 rfl) ?_
                  refine lv_if_eq (tgt := 111) hx hb dX1_work_104 (by decide) (fun c6 => ?_) (fun c6 => ?_)
                  · refine lv_iconst (v := 0) hx hb dX1_work_111 (by decide) ?_
                    refine lv_goto (tgt := 130) hx hb dX1_work_112 (by decide) ?_
                    exact St false (by rw [hstep, bI_n0.mp c5, bI_0.mp c6]; rfl)
                  · refine lv_iconst (v := 1) hx hb dX1_work_107 (by decide) ?_
                    refine lv_goto (tgt := 130) hx hb dX1_work_108 (by decide) ?_
                    exact St true (by rw [hstep, bI_n0.mp c5, bI_n0.mp c6]; rfl)
            refine lv_icmp_eq (tgt := 62) hx hb dX1_work_55 (by decide) (fun c3 => ?_) (fun c3 => ?_)
            · refine lv_iconst (v := 0) hx hb dX1_work_62 (by decide) ?_
              refine J2 false ?_
              show false = !(B k == decide (nI k = sw))
              rw [← hd, bI_inj.mp c3]
              cases d <;> rfl
            · refine lv_iconst (v := 1) hx hb dX1_work_58 (by decide) ?_
              refine lv_goto (tgt := 63) hx hb dX1_work_59 (by decide) ?_
              refine J2 true ?_
              show true = !(B k == decide (nI k = sw))
              rw [← hd]
              have : B k ≠ d := fun z => c3 (bI_inj.mpr z)
              revert this
              cases B k <;> cases d <;> decide
          refine lv_iload hx hb dX1_work_44 (lv_at hl 0 rfl) ?_
          refine lv_iload_n hx hb dX1_work_46 rfl (lv_at hl 3 rfl) ?_
          refine lv_icmp_ne (tgt := 54) hx hb dX1_work_47 (by decide) (fun c3 => ?_) (fun c3 => ?_)
          · refine lv_iconst (v := 0) hx hb dX1_work_54 (by decide) ?_
            exact J1 false (decide_eq_false c3).symm
          · refine lv_iconst (v := 1) hx hb dX1_work_50 (by decide) ?_
            refine lv_goto (tgt := 55) hx hb dX1_work_51 (by decide) ?_
            exact J1 true (decide_eq_true c3).symm
        · have hk8 : k = 8 := (nI_eq (by omega) (by omega)).mp (c2 : nI k = nI 8)
          refine lv_aload_n hx hb dX1_work_22 rfl (lv_at hl 1 rfl) ?_
          refine md_won S I dX1_work_23 ?_
          refine lv_iload_n hx hb dX1_work_26 rfl (lv_at hl 4 rfl) ?_
          refine lv_aload_n hx hb dX1_work_27 rfl (lv_at hl 1 rfl) ?_
          refine lv_iload_n hx hb dX1_work_28 rfl (lv_at hl 4 rfl) ?_
          refine lv_iload_n hx hb dX1_work_29 rfl (lv_at hl 2 rfl) ?_
          refine md_callR (As := [.int (nI (g + 1)), .int wo]) (rest := [.int (nI (g + 1)), .ref kW]) S I (met_allHold l D h kB kC kW cZ cA B n C w (g + 1) wo hn) (cwV 2 hts (lw_V q156 q158 qs9 q12 q159) rfl rfl rfl (by decide +kernel) ⟨Nat.le_of_ble_eq_true rfl, Nat.le_of_ble_eq_true rfl⟩) rfl hl.1 (Nat.le_of_ble_eq_true rfl) rfl dX1_work_30 (fun r hr1 => ?_)
          obtain ⟨x, rfl, hx1⟩ := hr1
          refine md_astW (k := g + 1) x (by omega) S I dX1_work_33 (fun H locs I => ?_)
          refine lv_goto (tgt := 131) hx hb dX1_work_34 (by decide) ?_
          have hl := lv_sub hl [1, 2, 3, 4] rfl
          exact N x H locs ls (wonB_of (hx1.trans (hlast hk8).symm)) I hl
  have hl := lv_sub hl [1, 2, 3, 0] rfl
  exact loop 511 w s.heap [] ls (by omega) (fun q h1 h2 => by omega) I hl
end
section
/-! QbfDeskModel: the public methods -/
set_option maxHeartbeats 4000000 in
set_option maxRecDepth 100000 in
theorem mmt_give (l : Launch) (D : va_G) (h kB kC kW : Nat) (cZ cA : ClassId) (sz : Nat) (B : Nat → Bool) (n : Nat) (C : Nat → Int32) (w : Nat → Bool) (x : Int32) (g : Bool) (j : Nat) (hj : j < 8) (hxj : x &&& 7 = nI j) : mdMv l yX1_give (ws_ yX1_give cX1_give 3 none) (rmm 0 0) D h kB kC kW cZ cA [.int x, .int (bI g)] sz (B, n, C, w) (fun u' => u' = (va_up B j (!g), n, C, w)) := by
  refine md_mV (by decide) rfl (Nat.le_of_ble_eq_true rfl) ?_
  intro p e s m args below meth c A Q ls S I ret hl
  have hx := S.1
  have hb := S.2.1
  have hl : lv_has ls 3 [(0, .ref h), (1, .int x), (2, .int (bI g))] := hl
  have J : W p l e (rmm 0 0) s m args below meth c s.heap [] 0 0 Q (F0 m 17 ls [.int (bI (!g)), .int (nI j), .ref kB]) := by
    refine md_astB (k := j) (!g) hj S I dX1_give_17 (fun H locs I => ?_)
    exact ret _ 18 ls H locs dX1_give_18 I rfl
  refine lv_aload_n hx hb dX1_give_0 rfl (lv_at hl 0 rfl) ?_
  refine md_breaker S I dX1_give_1 ?_
  refine lv_iload_n hx hb dX1_give_4 rfl (lv_at hl 1 rfl) ?_
  refine lv_bipush (v := 7) hx hb dX1_give_5 (by decide) ?_
  refine lv_iand hx hb dX1_give_7 ?_
  refine w_top (y := nI j) (hxj) ?_
  refine lv_iload_n hx hb dX1_give_8 rfl (lv_at hl 2 rfl) ?_
  refine lv_if_ne (tgt := 16) hx hb dX1_give_9 (by decide) (fun c1 => ?_) (fun c1 => ?_)
  · refine lv_iconst (v := 0) hx hb dX1_give_16 (by decide) ?_
    rw [bI_n0.mp c1] at J
    exact J
  · refine lv_iconst (v := 1) hx hb dX1_give_12 (by decide) ?_
    refine lv_goto (tgt := 17) hx hb dX1_give_13 (by decide) ?_
    rw [bI_0.mp c1] at J
    exact J
set_option maxHeartbeats 4000000 in
set_option maxRecDepth 100000 in
theorem mmt_add (l : Launch) (D : va_G) (h kB kC kW : Nat) (cZ cA : ClassId) (sz : Nat) (B : Nat → Bool) (n : Nat) (C : Nat → Int32) (w : Nat → Bool) (x : Int32) (hn : n ≤ 20) : mdMi l yX1_add (ws_ yX1_add cX1_add 2 (some .int)) (rmm 0 0) D h kB kC kW cZ cA [.int x] sz (B, n, C, w) (fun r u' => (n = 20 ∧ r = -1 ∧ u' = (B, n, C, w)) ∨ (n < 20 ∧ r = nI (n + 1) ∧ u' = (B, n + 1, va_up C n (x &&& 65535), w))) := by
  refine md_mI (by decide) rfl (Nat.le_of_ble_eq_true rfl) ?_
  intro p e s m args below meth c A Q ls S I ret hl
  have hx := S.1
  have hb := S.2.1
  have hl : lv_has ls 2 [(0, .ref h), (1, .int x)] := hl
  refine lv_aload_n hx hb dX1_add_0 rfl (lv_at hl 0 rfl) ?_
  refine md_held S I dX1_add_1 ?_
  refine lv_bipush (v := 20) hx hb dX1_add_4 (by decide) ?_
  refine lv_icmp_ne (tgt := 11) hx hb dX1_add_6 (by decide) (fun c1 => ?_) (fun c1 => ?_)
  · have hk : n < 20 := by
      have : n ≠ 20 := fun z => c1 (by rw [z]; rfl)
      omega
    refine lv_aload_n hx hb dX1_add_11 rfl (lv_at hl 0 rfl) ?_
    refine md_clauses S I dX1_add_12 ?_
    refine lv_aload_n hx hb dX1_add_15 rfl (lv_at hl 0 rfl) ?_
    refine md_held S I dX1_add_16 ?_
    refine lv_iload_n hx hb dX1_add_19 rfl (lv_at hl 1 rfl) ?_
    refine lv_ldc (v := 65535) hx hb S.2.2.2.1 (S.2.2.2.2 _ q140) dX1_add_20 ?_
    refine lv_iand hx hb dX1_add_22 ?_
    refine md_astC (k := n) hk S I dX1_add_23 (fun H locs I => ?_)
    refine lv_aload_n hx hb dX1_add_24 rfl (lv_at hl 0 rfl) ?_
    refine lv_dup hx hb dX1_add_25 rfl ?_
    refine md_held S I dX1_add_26 ?_
    refine lv_iconst (v := 1) hx hb dX1_add_29 (by decide) ?_
    refine lv_iadd hx hb dX1_add_30 ?_
    refine w_top (y := nI (n + 1)) (nI_1 n) ?_
    refine md_put_held (k := n + 1) S I dX1_add_31 (fun H locs I => ?_)
    refine lv_aload_n hx hb dX1_add_34 rfl (lv_at hl 0 rfl) ?_
    refine md_held S I dX1_add_35 ?_
    exact ret _ _ 38 ls H locs dX1_add_38 I (Or.inr ⟨hk, rfl, rfl⟩)
  · refine lv_iconst (v := -1) hx hb dX1_add_9 (by decide) ?_
    exact ret _ _ 10 ls s.heap [] dX1_add_10 I (Or.inl ⟨(nI_eq (by omega) (by omega)).mp (c1 : nI n = nI 20), rfl, rfl⟩)
set_option maxHeartbeats 4000000 in
set_option maxRecDepth 100000 in
theorem mmt_drop (l : Launch) (D : va_G) (h kB kC kW : Nat) (cZ cA : ClassId) (sz : Nat) (B : Nat → Bool) (n : Nat) (C : Nat → Int32) (w : Nat → Bool) (x : Int32) (hn : n ≤ 20) : mdMi l yX1_drop (ws_ yX1_drop cX1_drop 3 (some .int)) (rmm 0 0) D h kB kC kW cZ cA [.int x] sz (B, n, C, w) (fun r u' => ((x < 0 ∨ ¬ x < nI n) ∧ r = -1 ∧ u' = (B, n, C, w)) ∨ (∃ j C', x = nI j ∧ j < n ∧ r = nI (n - 1) ∧ u' = (B, n - 1, C', w) ∧ ∀ k, k < n - 1 → C' k = drp C j k)) := by
  refine md_mI (by decide) rfl (Nat.le_of_ble_eq_true rfl) ?_
  intro p e s m args below meth c A Q ls S I ret hl
  have hx := S.1
  have hb := S.2.1
  have hl : lv_has ls 3 [(0, .ref h), (1, .int x)] := hl
  refine lv_iload_n hx hb dX1_drop_0 rfl (lv_at hl 1 rfl) ?_
  refine lv_if_lt (tgt := 12) hx hb dX1_drop_1 (by decide) (fun c1 => ?_) (fun c1 => ?_)
  · refine lv_iconst (v := -1) hx hb dX1_drop_12 (by decide) ?_
    exact ret _ _ 13 ls s.heap [] dX1_drop_13 I (Or.inl ⟨Or.inl c1, rfl, rfl⟩)
  · refine lv_iload_n hx hb dX1_drop_4 rfl (lv_at hl 1 rfl) ?_
    refine lv_aload_n hx hb dX1_drop_5 rfl (lv_at hl 0 rfl) ?_
    refine md_held S I dX1_drop_6 ?_
    refine lv_icmp_lt (tgt := 14) hx hb dX1_drop_9 (by decide) (fun c2 => ?_) (fun c2 => ?_)
    · obtain ⟨j, hj0, rfl⟩ := nI_of c1
      have hj : j < n := (nI_ltI hj0 (by omega)).mp c2
      refine lv_aload_n hx hb dX1_drop_14 rfl (lv_at hl 0 rfl) ?_
      refine lv_dup hx hb dX1_drop_15 rfl ?_
      refine md_held S I dX1_drop_16 ?_
      refine lv_iconst (v := 1) hx hb dX1_drop_19 (by decide) ?_
      refine lv_isub hx hb dX1_drop_20 ?_
      refine w_top (y := nI (n - 1)) (pk_sub (a := n) (b := 1) (by omega)) ?_
      refine md_put_held (k := n - 1) S I dX1_drop_21 (fun H locs I => ?_)
      refine lv_iload_n hx hb dX1_drop_24 rfl (lv_at hl 1 rfl) ?_
      refine lv_istore_n (lv' := [(2, .int (nI j)), (0, .ref h), (1, .int (nI j))]) hx hb dX1_drop_25 rfl hl (by decide) rfl (fun ls hl => ?_)
      have loop : ∀ (d k : Nat) (C' : Nat → Int32) (H : Heap) (locs : List Loc) (ls : Array Slot), k + d = n - 1 → (∀ i, i < k → C' i = drp C j i) → (∀ i, k ≤ i → C' i = C i) → j ≤ k → mdI D A h kB kC kW cZ cA s H locs (B, n - 1, C', w) → lv_has ls 3 [(0, .ref h), (1, .int (nI j)), (2, .int (nI k))] → W p l e (rmm 0 0) s m args below meth c H locs 0 0 Q (F0 m 26 ls []) := by
        intro d
        induction d with
        | zero =>
          intro k C' H locs ls hd h1 h2 h3 I hl
          refine lv_iload_n hx hb dX1_drop_26 rfl (lv_at hl 2 rfl) ?_
          refine lv_aload_n hx hb dX1_drop_27 rfl (lv_at hl 0 rfl) ?_
          refine md_held S I dX1_drop_28 ?_
          refine lv_icmp_ge (tgt := 54) hx hb dX1_drop_31 (by decide) (fun c3 => ?_) (fun c3 => ?_)
          · refine lv_aload_n hx hb dX1_drop_54 rfl (lv_at hl 0 rfl) ?_
            refine md_held S I dX1_drop_55 ?_
            exact ret _ _ 58 ls H locs dX1_drop_58 I (Or.inr ⟨j, C', rfl, hj, rfl, rfl, fun i hi => h1 i (by omega)⟩)
          · exact absurd (nI_le (show n - 1 ≤ k by omega) (by omega)) c3
        | succ d ih =>
          intro k C' H locs ls hd h1 h2 h3 I hl
          have hk : k < 20 := by omega
          refine lv_iload_n hx hb dX1_drop_26 rfl (lv_at hl 2 rfl) ?_
          refine lv_aload_n hx hb dX1_drop_27 rfl (lv_at hl 0 rfl) ?_
          refine md_held S I dX1_drop_28 ?_
          refine lv_icmp_ge (tgt := 54) hx hb dX1_drop_31 (by decide) (fun c3 => ?_) (fun c3 => ?_)
          · exact absurd c3 (nI_ge (show k < n - 1 by omega) (by omega))
          · refine lv_aload_n hx hb dX1_drop_34 rfl (lv_at hl 0 rfl) ?_
            refine md_clauses S I dX1_drop_35 ?_
            refine lv_iload_n hx hb dX1_drop_38 rfl (lv_at hl 2 rfl) ?_
            refine lv_aload_n hx hb dX1_drop_39 rfl (lv_at hl 0 rfl) ?_
            refine md_clauses S I dX1_drop_40 ?_
            refine lv_iload_n hx hb dX1_drop_43 rfl (lv_at hl 2 rfl) ?_
            refine lv_iconst (v := 1) hx hb dX1_drop_44 (by decide) ?_
            refine lv_iadd hx hb dX1_drop_45 ?_
            refine w_top (y := nI (k + 1)) (nI_1 k) ?_
            refine md_aldC (k := k + 1) (by omega) S I dX1_drop_46 ?_
            refine md_astC (k := k) hk S I dX1_drop_47 (fun H locs I => ?_)
            refine lv_iinc (v := nI (k + 1)) (lv' := [(2, .int (nI (k + 1))), (0, .ref h), (1, .int (nI j))]) hx hb dX1_drop_48 hl (k := 2) rfl (inc1 k) (by decide) rfl (fun ls hl => ?_)
            refine lv_goto (tgt := 26) hx hb dX1_drop_51 (by decide) ?_
            have hl := lv_sub hl [1, 2, 0] rfl
            refine ih (k + 1) _ H locs ls (by omega) (fun i hi => ?_) (fun i hi => ?_) (by omega) I hl
            · by_cases z : i = k
              · rw [z, va_up_self, h2 (k + 1) (by omega)]
                show _ = if k < j then C k else C (k + 1)
                rw [if_neg (by omega)]
              · rw [va_up_ne _ _ z]
                exact h1 i (by omega)
            · rw [va_up_ne _ _ (by omega)]
              exact h2 i (by omega)
      have hl := lv_sub hl [1, 2, 0] rfl
      exact loop (n - 1 - j) j C H locs ls (by omega) (fun i hi => by show _ = if i < j then C i else C (i + 1); rw [if_pos hi]) (fun _ _ => rfl) (Nat.le_refl _) I hl
    · refine lv_iconst (v := -1) hx hb dX1_drop_12 (by decide) ?_
      exact ret _ _ 13 ls s.heap [] dX1_drop_13 I (Or.inl ⟨Or.inr c2, rfl, rfl⟩)
set_option maxHeartbeats 4000000 in
set_option maxRecDepth 100000 in
theorem mmt_won (l : Launch) (D : va_G) (h kB kC kW : Nat) (cZ cA : ClassId) (sz : Nat) (B : Nat → Bool) (n : Nat) (C : Nat → Int32) (w : Nat → Bool) (x : Int32) (hn : n ≤ 20) : mdMi l yX1_won (ws_ yX1_won cX1_won 2 (some .int)) (rmm 3 73) D h kB kC kW cZ cA [.int x] sz (B, n, C, w) (fun r u' => r = ansWon (mdM B (-1)) n C x ∧ ∃ w', u' = (B, n, C, w')) := by
  refine md_mI (by decide) rfl (Nat.le_of_ble_eq_true rfl) ?_
  intro p e s m args below meth c A Q ls S I ret hl
  have hx := S.1
  have hb := S.2.1
  have hts := S.2.2.2.2
  have hl : lv_has ls 2 [(0, .ref h), (1, .int x)] := hl
  refine lv_iload_n hx hb dX1_won_0 rfl (lv_at hl 1 rfl) ?_
  refine lv_iconst (v := 1) hx hb dX1_won_1 (by decide) ?_
  refine lv_icmp_lt (tgt := 12) hx hb dX1_won_2 (by decide) (fun c1 => ?_) (fun c1 => ?_)
  · refine lv_iconst (v := -1) hx hb dX1_won_12 (by decide) ?_
    exact ret _ _ 13 ls s.heap [] dX1_won_13 I ⟨(ansWon_out (Or.inl c1)).symm, w, rfl⟩
  · refine lv_iload_n hx hb dX1_won_5 rfl (lv_at hl 1 rfl) ?_
    refine lv_sipush (v := 511) hx hb dX1_won_6 (by decide) ?_
    refine lv_icmp_le (tgt := 14) hx hb dX1_won_9 (by decide) (fun c2 => ?_) (fun c2 => ?_)
    · obtain ⟨q, h1, h2, rfl⟩ := rg_of (n := 511) (by decide) c1 c2
      have hans := ansWon_in (M := mdM B (-1)) (n := n) (L := C) c1 c2 (by omega)
      refine lv_aload_n hx hb dX1_won_14 rfl (lv_at hl 0 rfl) ?_
      refine lv_iconst (v := -1) hx hb dX1_won_15 (by decide) ?_
      refine lv_iconst (v := -1) hx hb dX1_won_16 (by decide) ?_
      refine md_callv (As := [.int (-1), .int (-1)]) (rest := []) S I (met_work l D h kB kC kW cZ cA s.heap.size B n C w (-1) (-1) hn) (cwV 2 hts (lw_V q149 q151 qs8 q12 q152) rfl rfl rfl (by decide +kernel) ⟨Nat.le_of_ble_eq_true rfl, Nat.le_of_ble_eq_true rfl⟩) rfl hl.1 (Nat.le_of_ble_eq_true rfl) rfl dX1_won_17 (fun u' H locs hp I => ?_)
      obtain ⟨w', rfl, hw⟩ := hp
      rw [← hw q h1 (by omega)] at hans
      refine lv_aload_n hx hb dX1_won_20 rfl (lv_at hl 0 rfl) ?_
      refine md_won S I dX1_won_21 ?_
      refine lv_iload_n hx hb dX1_won_24 rfl (lv_at hl 1 rfl) ?_
      refine md_aldW (k := q) (by omega) S I dX1_won_25 ?_
      refine lv_if_eq (tgt := 33) hx hb dX1_won_26 (by decide) (fun c3 => ?_) (fun c3 => ?_)
      · refine lv_iconst (v := 0) hx hb dX1_won_33 (by decide) ?_
        exact ret _ _ 34 ls H locs dX1_won_34 I ⟨(hans.trans c3).symm, w', rfl⟩
      · refine lv_iconst (v := 1) hx hb dX1_won_29 (by decide) ?_
        refine lv_goto (tgt := 34) hx hb dX1_won_30 (by decide) ?_
        exact ret _ _ 34 ls H locs dX1_won_34 I ⟨(hans.trans (by rw [bI_n0.mp c3]; rfl)).symm, w', rfl⟩
    · refine lv_iconst (v := -1) hx hb dX1_won_12 (by decide) ?_
      exact ret _ _ 13 ls s.heap [] dX1_won_13 I ⟨(ansWon_out (Or.inr (rg_ng c2))).symm, w, rfl⟩
theorem nI_nm1 {k : Nat} (hk : k < 1000) : ¬ nI k = -1 := fun e => by
  have h2 := nI_pos (n := k) (by omega)
  rw [e] at h2
  exact h2 (by decide)
theorem mdM_m1 (B : Nat → Bool) {k : Nat} (hk : k < 1000) : mdM B (-1) k = !B k := by
  show (B k == decide (nI k = -1)) = _
  rw [decide_eq_false (nI_nm1 hk)]
  cases B k <;> rfl
set_option maxHeartbeats 4000000 in
set_option maxRecDepth 100000 in
theorem mmt_choice (l : Launch) (D : va_G) (h kB kC kW : Nat) (cZ cA : ClassId) (sz : Nat) (B : Nat → Bool) (n : Nat) (C : Nat → Int32) (w : Nat → Bool) (x : Int32) (hn : n ≤ 20) : mdMi l yX1_choice (ws_ yX1_choice cX1_choice 4 (some .int)) (rmm 3 73) D h kB kC kW cZ cA [.int x] sz (B, n, C, w) (fun r u' => r = ansCho (mdM B (-1)) n C x ∧ ∃ w', u' = (B, n, C, w')) := by
  refine md_mI (by decide) rfl (Nat.le_of_ble_eq_true rfl) ?_
  intro p e s m args below meth c A Q ls S I ret hl
  have hx := S.1
  have hb := S.2.1
  have hts := S.2.2.2.2
  have hl : lv_has ls 4 [(0, .ref h), (1, .int x)] := hl
  refine lv_iload_n hx hb dX1_choice_0 rfl (lv_at hl 1 rfl) ?_
  refine lv_iconst (v := 1) hx hb dX1_choice_1 (by decide) ?_
  refine lv_icmp_lt (tgt := 12) hx hb dX1_choice_2 (by decide) (fun c1 => ?_) (fun c1 => ?_)
  · refine lv_iconst (v := -1) hx hb dX1_choice_12 (by decide) ?_
    exact ret _ _ 13 ls s.heap [] dX1_choice_13 I ⟨(ansCho_out (Or.inl c1)).symm, w, rfl⟩
  · refine lv_iload_n hx hb dX1_choice_5 rfl (lv_at hl 1 rfl) ?_
    refine lv_sipush (v := 255) hx hb dX1_choice_6 (by decide) ?_
    refine lv_icmp_le (tgt := 14) hx hb dX1_choice_9 (by decide) (fun c2 => ?_) (fun c2 => ?_)
    · obtain ⟨q, h1, h2, rfl⟩ := rg_of (n := 255) (by decide) c1 c2
      have hans := ansCho_in (M := mdM B (-1)) (n := n) (L := C) c1 c2 (by omega)
      have hlg := (lg_2 q (by omega) h1).2.2
      refine lv_aload_n hx hb dX1_choice_14 rfl (lv_at hl 0 rfl) ?_
      refine lv_iconst (v := -1) hx hb dX1_choice_15 (by decide) ?_
      refine lv_iconst (v := -1) hx hb dX1_choice_16 (by decide) ?_
      refine md_callv (As := [.int (-1), .int (-1)]) (rest := []) S I (met_work l D h kB kC kW cZ cA s.heap.size B n C w (-1) (-1) hn) (cwV 2 hts (lw_V q149 q151 qs8 q12 q152) rfl rfl rfl (by decide +kernel) ⟨Nat.le_of_ble_eq_true rfl, Nat.le_of_ble_eq_true rfl⟩) rfl hl.1 (Nat.le_of_ble_eq_true rfl) rfl dX1_choice_17 (fun u' H locs hp I => ?_)
      obtain ⟨w', rfl, hw⟩ := hp
      refine lv_iload_n hx hb dX1_choice_20 rfl (lv_at hl 1 rfl) ?_
      refine st_call (As := [.int (nI q)]) (rest := []) S (met_length l q h1 (by omega)) (va_cwS 1 hts (lw_S q153 q154 q12 q155) rfl rfl rfl (by decide +kernel) ⟨Nat.le_of_ble_eq_true rfl, Nat.le_of_ble_eq_true rfl⟩) rfl hl.1 (Nat.le_of_ble_eq_true rfl) rfl dX1_choice_21 (fun r hr1 => ?_)
      subst hr1
      generalize Nat.log2 q = k at hans hlg ⊢
      rw [mdM_m1 B (by omega)] at hans
      refine lv_istore_n (lv' := [(2, .int (nI k)), (0, .ref h), (1, .int (nI q))]) hx hb dX1_choice_24 rfl hl (by decide) rfl (fun ls hl => ?_)
      refine lv_iconst (v := 0) hx hb dX1_choice_25 (by decide) ?_
      refine lv_istore_n (lv' := [(3, .int 0), (2, .int (nI k)), (0, .ref h), (1, .int (nI q))]) hx hb dX1_choice_26 rfl hl (by decide) rfl (fun ls hl => ?_)
      have step : ∀ (i : Nat) (ls : Array Slot), i < 2 → lv_has ls 4 [(0, .ref h), (1, .int (nI q)), (2, .int (nI k)), (3, .int (nI i))] → (wonB (mdM B (-1)) n (-1) C (2 * q + i) = (!B k) → nI i = ansCho (mdM B (-1)) n C (nI q)) →
          (wonB (mdM B (-1)) n (-1) C (2 * q + i) ≠ (!B k) → ∀ (ls : Array Slot), lv_has ls 4 [(0, .ref h), (1, .int (nI q)), (2, .int (nI k)), (3, .int (nI (i + 1)))] → W p l e (rmm 3 73) s m args below meth c H locs 0 0 Q (F0 m 27 ls [])) → W p l e (rmm 3 73) s m args below meth c H locs 0 0 Q (F0 m 27 ls []) := by
        intro i ls hi hl hR K
        rw [← hw (2 * q + i) (by omega) (by omega)] at hR K
        refine lv_iload_n hx hb dX1_choice_27 rfl (lv_at hl 3 rfl) ?_
        refine lv_iconst (v := 2) hx hb dX1_choice_28 (by decide) ?_
        refine lv_icmp_ge (tgt := 59) hx hb dX1_choice_29 (by decide) (fun c3 => ?_) (fun c3 => ?_)
        · exact absurd c3 (nI_ge (a := i) (b := 2) (by omega) (by omega))
        · refine lv_aload_n hx hb dX1_choice_32 rfl (lv_at hl 0 rfl) ?_
          refine md_won S I dX1_choice_33 ?_
          refine lv_iconst (v := 2) hx hb dX1_choice_36 (by decide) ?_
          refine lv_iload_n hx hb dX1_choice_37 rfl (lv_at hl 1 rfl) ?_
          refine lv_imul hx hb dX1_choice_38 ?_
          refine w_top (y := nI (2 * q)) (mul2 q) ?_
          refine lv_iload_n hx hb dX1_choice_39 rfl (lv_at hl 3 rfl) ?_
          refine lv_iadd hx hb dX1_choice_40 ?_
          refine w_top (y := nI (2 * q + i)) (nI_add _ _) ?_
          refine md_aldW (k := 2 * q + i) (by omega) S I dX1_choice_41 ?_
          refine lv_aload_n hx hb dX1_choice_42 rfl (lv_at hl 0 rfl) ?_
          refine md_breaker S I dX1_choice_43 ?_
          refine lv_iload_n hx hb dX1_choice_46 rfl (lv_at hl 2 rfl) ?_
          refine md_aldB (k := k) hlg S I dX1_choice_47 ?_
          refine lv_icmp_eq (tgt := 53) hx hb dX1_choice_48 (by decide) (fun c4 => ?_) (fun c4 => ?_)
          · refine lv_iinc (v := nI (i + 1)) (lv' := [(3, .int (nI (i + 1))), (0, .ref h), (1, .int (nI q)), (2, .int (nI k))]) hx hb dX1_choice_53 hl (k := 3) rfl (inc1 i) (by decide) rfl (fun ls hl => ?_)
            refine lv_goto (tgt := 27) hx hb dX1_choice_56 (by decide) ?_
            have hl := lv_sub hl [1, 2, 3, 0] rfl
            refine K (fun z => ?_) ls hl
            rw [bI_inj.mp c4] at z
            revert z
            cases B k <;> decide
          · refine lv_iload_n hx hb dX1_choice_51 rfl (lv_at hl 3 rfl) ?_
            refine ret _ _ 52 ls H locs dX1_choice_52 I ⟨hR ?_, w', rfl⟩
            have : w' (2 * q + i) ≠ B k := fun z => c4 (bI_inj.mpr z)
            revert this
            cases w' (2 * q + i) <;> cases B k <;> decide
      have hl := lv_sub hl [2, 3, 1, 0] rfl
      refine step 0 ls (by omega) hl (fun z => ?_) (fun z ls hl => ?_)
      · rw [Nat.add_zero] at z
        rw [hans]
        unfold choB
        rw [if_pos z]
        rfl
      · rw [Nat.add_zero] at z
        refine step 1 ls (by omega) hl (fun z2 => ?_) (fun z2 ls hl => ?_)
        · rw [hans]
          unfold choB
          rw [if_neg z, if_pos z2]
          rfl
        · refine lv_iload_n hx hb dX1_choice_27 rfl (lv_at hl 3 rfl) ?_
          refine lv_iconst (v := 2) hx hb dX1_choice_28 (by decide) ?_
          refine lv_icmp_ge (tgt := 59) hx hb dX1_choice_29 (by decide) (fun c3 => ?_) (fun c3 => ?_)
          · refine lv_iconst (v := 2) hx hb dX1_choice_59 (by decide) ?_
            refine ret _ _ 60 ls H locs dX1_choice_60 I ⟨?_, w', rfl⟩
            rw [hans]
            unfold choB
            rw [if_neg z, if_neg z2]
          · exact absurd (by decide) c3
    · refine lv_iconst (v := -1) hx hb dX1_choice_12 (by decide) ?_
      exact ret _ _ 13 ls s.heap [] dX1_choice_13 I ⟨(ansCho_out (Or.inr (rg_ng c2))).symm, w, rfl⟩
set_option maxHeartbeats 4000000 in
set_option maxRecDepth 100000 in
theorem mmt_count (l : Launch) (D : va_G) (h kB kC kW : Nat) (cZ cA : ClassId) (sz : Nat) (B : Nat → Bool) (n : Nat) (C : Nat → Int32) (w : Nat → Bool) (x : Int32) (hn : n ≤ 20) : mdMi l yX1_count (ws_ yX1_count cX1_count 4 (some .int)) (rmm 3 73) D h kB kC kW cZ cA [.int x] sz (B, n, C, w) (fun r u' => r = ansCnt (mdM B (-1)) n C x ∧ ∃ w', u' = (B, n, C, w')) := by
  refine md_mI (by decide) rfl (Nat.le_of_ble_eq_true rfl) ?_
  intro p e s m args below meth c A Q ls S I ret hl
  have hx := S.1
  have hb := S.2.1
  have hts := S.2.2.2.2
  have hl : lv_has ls 4 [(0, .ref h), (1, .int x)] := hl
  refine lv_iload_n hx hb dX1_count_0 rfl (lv_at hl 1 rfl) ?_
  refine lv_if_lt (tgt := 10) hx hb dX1_count_1 (by decide) (fun c1 => ?_) (fun c1 => ?_)
  · refine lv_iconst (v := -1) hx hb dX1_count_10 (by decide) ?_
    exact ret _ _ 11 ls s.heap [] dX1_count_11 I ⟨(ansCnt_out (Or.inl c1)).symm, w, rfl⟩
  · refine lv_iload_n hx hb dX1_count_4 rfl (lv_at hl 1 rfl) ?_
    refine lv_bipush (v := 8) hx hb dX1_count_5 (by decide) ?_
    refine lv_icmp_le (tgt := 12) hx hb dX1_count_7 (by decide) (fun c2 => ?_) (fun c2 => ?_)
    · obtain ⟨k, h2, rfl⟩ := nI_of2 (n := 8) (by decide) c1 c2
      have hans := ansCnt_in (M := mdM B (-1)) (n := n) (L := C) c1 c2 (by omega)
      have h2k := sh_2k k (by omega)
      have h1k := sh_1k k (by omega)
      have hP : 2 ^ k ≤ 256 := (by decide : ∀ k, k < 9 → 2 ^ k ≤ 256) k (by omega)
      have hP1 : 1 ≤ 2 ^ k := (by decide : ∀ k, k < 9 → 1 ≤ 2 ^ k) k (by omega)
      rw [Nat.pow_succ] at h2k
      generalize 2 ^ k = P at hans h2k h1k hP hP1
      refine lv_aload_n hx hb dX1_count_12 rfl (lv_at hl 0 rfl) ?_
      refine lv_iconst (v := -1) hx hb dX1_count_13 (by decide) ?_
      refine lv_iconst (v := -1) hx hb dX1_count_14 (by decide) ?_
      refine md_callv (As := [.int (-1), .int (-1)]) (rest := []) S I (met_work l D h kB kC kW cZ cA s.heap.size B n C w (-1) (-1) hn) (cwV 2 hts (lw_V q149 q151 qs8 q12 q152) rfl rfl rfl (by decide +kernel) ⟨Nat.le_of_ble_eq_true rfl, Nat.le_of_ble_eq_true rfl⟩) rfl hl.1 (Nat.le_of_ble_eq_true rfl) rfl dX1_count_15 (fun u' H locs hp I => ?_)
      obtain ⟨w', rfl, hw⟩ := hp
      generalize wonB (mdM B (-1)) n (-1) C = f at hans hw
      refine lv_iconst (v := 0) hx hb dX1_count_18 (by decide) ?_
      refine lv_istore_n (lv' := [(2, .int 0), (0, .ref h), (1, .int (nI k))]) hx hb dX1_count_19 rfl hl (by decide) rfl (fun ls hl => ?_)
      refine lv_iconst (v := 1) hx hb dX1_count_20 (by decide) ?_
      refine lv_iload_n hx hb dX1_count_21 rfl (lv_at hl 2 rfl) ?_
      refine lv_ishl hx hb dX1_count_22 ?_
      refine w_top (y := nI P) (h1k) ?_
      refine lv_istore_n (lv' := [(3, .int (nI P)), (2, .int 0), (0, .ref h), (1, .int (nI k))]) hx hb dX1_count_23 rfl hl (by decide) rfl (fun ls hl => ?_)
      have loop : ∀ (d i : Nat) (ls : Array Slot), i + d = P → lv_has ls 4 [(0, .ref h), (1, .int (nI k)), (2, .int (nI (cntN f P i))), (3, .int (nI (P + i)))] → W p l e (rmm 3 73) s m args below meth c H locs 0 0 Q (F0 m 24 ls []) := by
        intro d
        induction d with
        | zero =>
          intro i ls hd hl
          refine lv_iload_n hx hb dX1_count_24 rfl (lv_at hl 3 rfl) ?_
          refine lv_iconst (v := 2) hx hb dX1_count_25 (by decide) ?_
          refine lv_iload_n hx hb dX1_count_26 rfl (lv_at hl 1 rfl) ?_
          refine lv_ishl hx hb dX1_count_27 ?_
          refine w_top (y := nI (P * 2)) (h2k) ?_
          refine lv_icmp_ge (tgt := 49) hx hb dX1_count_28 (by decide) (fun c3 => ?_) (fun c3 => ?_)
          · refine lv_iload_n hx hb dX1_count_49 rfl (lv_at hl 2 rfl) ?_
            refine ret _ _ 50 ls H locs dX1_count_50 I ⟨?_, w', rfl⟩
            rw [hans, show i = P by omega]
          · exact absurd (nI_le (by omega) (by omega)) c3
        | succ d ih =>
          intro i ls hd hl
          have hwi := hw (P + i) (by omega) (by omega)
          refine lv_iload_n hx hb dX1_count_24 rfl (lv_at hl 3 rfl) ?_
          refine lv_iconst (v := 2) hx hb dX1_count_25 (by decide) ?_
          refine lv_iload_n hx hb dX1_count_26 rfl (lv_at hl 1 rfl) ?_
          refine lv_ishl hx hb dX1_count_27 ?_
          refine w_top (y := nI (P * 2)) (h2k) ?_
          refine lv_icmp_ge (tgt := 49) hx hb dX1_count_28 (by decide) (fun c3 => ?_) (fun c3 => ?_)
          · exact absurd c3 (nI_ge (by omega) (by omega))
          · refine lv_aload_n hx hb dX1_count_31 rfl (lv_at hl 0 rfl) ?_
            refine md_won S I dX1_count_32 ?_
            refine lv_iload_n hx hb dX1_count_35 rfl (lv_at hl 3 rfl) ?_
            refine md_aldW (k := P + i) (by omega) S I dX1_count_36 ?_
            refine lv_if_eq (tgt := 43) hx hb dX1_count_37 (by decide) (fun c4 => ?_) (fun c4 => ?_)
            · have hz : cntN f P (i + 1) = cntN f P i := by
                show cntN f P i + (match f (P + i) with | true => 1 | false => 0) = _
                rw [← hwi, bI_0.mp c4]
                rfl
              refine lv_iinc (v := nI (P + i + 1)) (lv' := [(3, .int (nI (P + i + 1))), (0, .ref h), (1, .int (nI k)), (2, .int (nI (cntN f P i)))]) hx hb dX1_count_43 hl (k := 3) rfl (inc1 (P + i)) (by decide) rfl (fun ls hl => ?_)
              refine lv_goto (tgt := 24) hx hb dX1_count_46 (by decide) ?_
              have hl := lv_sub hl [1, 2, 3, 0] rfl
              refine ih (i + 1) ls (by omega) ?_
              rw [hz]
              exact hl
            · have hz : cntN f P (i + 1) = cntN f P i + 1 := by
                show cntN f P i + (match f (P + i) with | true => 1 | false => 0) = _
                rw [← hwi, bI_n0.mp c4]
              refine lv_iinc (v := nI (cntN f P i + 1)) (lv' := [(2, .int (nI (cntN f P i + 1))), (0, .ref h), (1, .int (nI k)), (3, .int (nI (P + i)))]) hx hb dX1_count_40 hl (k := 2) rfl (inc1 _) (by decide) rfl (fun ls hl => ?_)
              refine lv_iinc (v := nI (P + i + 1)) (lv' := [(3, .int (nI (P + i + 1))), (2, .int (nI (cntN f P i + 1))), (0, .ref h), (1, .int (nI k))]) hx hb dX1_count_43 hl (k := 3) rfl (inc1 (P + i)) (by decide) rfl (fun ls hl => ?_)
              refine lv_goto (tgt := 24) hx hb dX1_count_46 (by decide) ?_
              have hl := lv_sub hl [2, 3, 1, 0] rfl
              refine ih (i + 1) ls (by omega) ?_
              rw [hz]
              exact hl
      have hl := lv_sub hl [2, 3, 1, 0] rfl
      exact loop P 0 ls (by omega) hl
    · refine lv_iconst (v := -1) hx hb dX1_count_10 (by decide) ?_
      exact ret _ _ 11 ls s.heap [] dX1_count_11 I ⟨(ansCnt_out (Or.inr (rg_ng c2))).symm, w, rfl⟩
set_option maxHeartbeats 4000000 in
set_option maxRecDepth 100000 in
theorem mmt_spare (l : Launch) (D : va_G) (h kB kC kW : Nat) (cZ cA : ClassId) (sz : Nat) (B : Nat → Bool) (n : Nat) (C : Nat → Int32) (w : Nat → Bool) (x : Int32) (hn : n ≤ 20) : mdMi l yX1_spare (ws_ yX1_spare cX1_spare 3 (some .int)) (rmm 3 73) D h kB kC kW cZ cA [.int x] sz (B, n, C, w) (fun r u' => r = ansSpa (mdM B (-1)) n C x ∧ ∃ w', u' = (B, n, C, w')) := by
  refine md_mI (by decide) rfl (Nat.le_of_ble_eq_true rfl) ?_
  intro p e s m args below meth c A Q ls S I ret hl
  have hx := S.1
  have hb := S.2.1
  have hts := S.2.2.2.2
  have hl : lv_has ls 3 [(0, .ref h), (1, .int x)] := hl
  refine lv_iload_n hx hb dX1_spare_0 rfl (lv_at hl 1 rfl) ?_
  refine lv_if_lt (tgt := 12) hx hb dX1_spare_1 (by decide) (fun c1 => ?_) (fun c1 => ?_)
  · refine lv_iconst (v := -1) hx hb dX1_spare_12 (by decide) ?_
    exact ret _ _ 13 ls s.heap [] dX1_spare_13 I ⟨(ansSpa_out (Or.inl c1)).symm, w, rfl⟩
  · refine lv_iload_n hx hb dX1_spare_4 rfl (lv_at hl 1 rfl) ?_
    refine lv_aload_n hx hb dX1_spare_5 rfl (lv_at hl 0 rfl) ?_
    refine md_held S I dX1_spare_6 ?_
    refine lv_icmp_lt (tgt := 14) hx hb dX1_spare_9 (by decide) (fun c2 => ?_) (fun c2 => ?_)
    · have hans := ansSpa_in (M := mdM B (-1)) (L := C) c1 c2
      refine lv_aload_n hx hb dX1_spare_14 rfl (lv_at hl 0 rfl) ?_
      refine lv_iconst (v := -1) hx hb dX1_spare_15 (by decide) ?_
      refine lv_iconst (v := -1) hx hb dX1_spare_16 (by decide) ?_
      refine md_callv (As := [.int (-1), .int (-1)]) (rest := []) S I (met_work l D h kB kC kW cZ cA s.heap.size B n C w (-1) (-1) hn) (cwV 2 hts (lw_V q149 q151 qs8 q12 q152) rfl rfl rfl (by decide +kernel) ⟨Nat.le_of_ble_eq_true rfl, Nat.le_of_ble_eq_true rfl⟩) rfl hl.1 (Nat.le_of_ble_eq_true rfl) rfl dX1_spare_17 (fun u' H locs hp I => ?_)
      obtain ⟨w1, rfl, hw1⟩ := hp
      have e1 := hw1 1 (by omega) (by omega)
      refine lv_aload_n hx hb dX1_spare_20 rfl (lv_at hl 0 rfl) ?_
      refine md_won S I dX1_spare_21 ?_
      refine lv_iconst (v := 1) hx hb dX1_spare_24 (by decide) ?_
      refine md_aldW (k := 1) (by omega) S I dX1_spare_25 ?_
      refine lv_istore_n (lv' := [(2, .int (bI (w1 1))), (0, .ref h), (1, .int x)]) hx hb dX1_spare_26 rfl hl (by decide) rfl (fun ls hl => ?_)
      refine lv_aload_n hx hb dX1_spare_27 rfl (lv_at hl 1 rfl) ?_
      refine lv_iload_n hx hb dX1_spare_28 rfl (lv_at hl 2 rfl) ?_
      refine lv_iconst (v := -1) hx hb dX1_spare_29 (by decide) ?_
      refine md_callv (As := [.int x, .int (-1)]) (rest := []) S I (met_work l D h kB kC kW cZ cA H.size B n C w1 x (-1) hn) (cwV 2 hts (lw_V q149 q151 qs8 q12 q152) rfl rfl rfl (by decide +kernel) ⟨Nat.le_of_ble_eq_true rfl, Nat.le_of_ble_eq_true rfl⟩) rfl hl.1 (Nat.le_of_ble_eq_true rfl) rfl dX1_spare_30 (fun u' H locs hp I => ?_)
      obtain ⟨w2, rfl, hw2⟩ := hp
      have e2 := hw2 1 (by omega) (by omega)
      rw [← e2] at hans
      refine lv_iload_n hx hb dX1_spare_33 rfl (lv_at hl 0 rfl) ?_
      refine lv_if_ne (tgt := 46) hx hb dX1_spare_34 (by decide) (fun c3 => ?_) (fun c3 => ?_)
      · refine lv_iconst (v := 1) hx hb dX1_spare_46 (by decide) ?_
        refine lv_goto (tgt := 51) hx hb dX1_spare_47 (by decide) ?_
        have hw : WON (mdM B (-1)) n (-1) C 1 := wonB_iff.mp (e1.symm.trans (bI_n0.mp c3))
        have h3 : w2 1 = true := e2.trans (wonB_iff.mpr (WON_spare (by omega) hw))
        exact ret _ _ 51 ls H locs dX1_spare_51 I ⟨(hans.trans (by rw [h3]; rfl)).symm, w2, rfl⟩
      · refine lv_aload_n hx hb dX1_spare_37 rfl (lv_at hl 1 rfl) ?_
        refine md_won S I dX1_spare_38 ?_
        refine lv_iconst (v := 1) hx hb dX1_spare_41 (by decide) ?_
        refine md_aldW (k := 1) (by omega) S I dX1_spare_42 ?_
        refine lv_if_eq (tgt := 50) hx hb dX1_spare_43 (by decide) (fun c4 => ?_) (fun c4 => ?_)
        · refine lv_iconst (v := 0) hx hb dX1_spare_50 (by decide) ?_
          exact ret _ _ 51 ls H locs dX1_spare_51 I ⟨(hans.trans c4).symm, w2, rfl⟩
        · refine lv_iconst (v := 1) hx hb dX1_spare_46 (by decide) ?_
          refine lv_goto (tgt := 51) hx hb dX1_spare_47 (by decide) ?_
          exact ret _ _ 51 ls H locs dX1_spare_51 I ⟨(hans.trans (by rw [bI_n0.mp c4]; rfl)).symm, w2, rfl⟩
    · refine lv_iconst (v := -1) hx hb dX1_spare_12 (by decide) ?_
      exact ret _ _ 13 ls s.heap [] dX1_spare_13 I ⟨(ansSpa_out (Or.inr c2)).symm, w, rfl⟩
set_option maxHeartbeats 4000000 in
set_option maxRecDepth 100000 in
theorem mmt_swapped (l : Launch) (D : va_G) (h kB kC kW : Nat) (cZ cA : ClassId) (sz : Nat) (B : Nat → Bool) (n : Nat) (C : Nat → Int32) (w : Nat → Bool) (x : Int32) (j : Nat) (hxj : x &&& 7 = nI j) (hn : n ≤ 20) : mdMi l yX1_swapped (ws_ yX1_swapped cX1_swapped 2 (some .int)) (rmm 3 73) D h kB kC kW cZ cA [.int x] sz (B, n, C, w) (fun r u' => r = bI (wonB (mdM B (nI j)) n (-1) C 1) ∧ ∃ w', u' = (B, n, C, w')) := by
  refine md_mI (by decide) rfl (Nat.le_of_ble_eq_true rfl) ?_
  intro p e s m args below meth c A Q ls S I ret hl
  have hx := S.1
  have hb := S.2.1
  have hts := S.2.2.2.2
  have hl : lv_has ls 2 [(0, .ref h), (1, .int x)] := hl
  refine lv_aload_n hx hb dX1_swapped_0 rfl (lv_at hl 0 rfl) ?_
  refine lv_iconst (v := -1) hx hb dX1_swapped_1 (by decide) ?_
  refine lv_iload_n hx hb dX1_swapped_2 rfl (lv_at hl 1 rfl) ?_
  refine lv_bipush (v := 7) hx hb dX1_swapped_3 (by decide) ?_
  refine lv_iand hx hb dX1_swapped_5 ?_
  refine w_top (y := nI j) (hxj) ?_
  refine md_callv (As := [.int (-1), .int (nI j)]) (rest := []) S I (met_work l D h kB kC kW cZ cA s.heap.size B n C w (-1) (nI j) hn) (cwV 2 hts (lw_V q149 q151 qs8 q12 q152) rfl rfl rfl (by decide +kernel) ⟨Nat.le_of_ble_eq_true rfl, Nat.le_of_ble_eq_true rfl⟩) rfl hl.1 (Nat.le_of_ble_eq_true rfl) rfl dX1_swapped_6 (fun u' H locs hp I => ?_)
  obtain ⟨w1, rfl, hw1⟩ := hp
  have e1 := hw1 1 (by omega) (by omega)
  refine lv_aload_n hx hb dX1_swapped_9 rfl (lv_at hl 0 rfl) ?_
  refine md_won S I dX1_swapped_10 ?_
  refine lv_iconst (v := 1) hx hb dX1_swapped_13 (by decide) ?_
  refine md_aldW (k := 1) (by omega) S I dX1_swapped_14 ?_
  refine lv_if_eq (tgt := 22) hx hb dX1_swapped_15 (by decide) (fun c3 => ?_) (fun c3 => ?_)
  · refine lv_iconst (v := 0) hx hb dX1_swapped_22 (by decide) ?_
    exact ret _ _ 23 ls H locs dX1_swapped_23 I ⟨by rw [← e1, c3], w1, rfl⟩
  · refine lv_iconst (v := 1) hx hb dX1_swapped_18 (by decide) ?_
    refine lv_goto (tgt := 23) hx hb dX1_swapped_19 (by decide) ?_
    exact ret _ _ 23 ls H locs dX1_swapped_23 I ⟨by rw [← e1, bI_n0.mp c3]; rfl, w1, rfl⟩
set_option maxHeartbeats 4000000 in
set_option maxRecDepth 100000 in
/-- QbfDeskModel(): three arrays come -/
theorem mmt_init (l : Launch) (D : va_G) (h : Nat) (sz : Nat) : Met l yX1_init (ws_ yX1_init cX1_init 1 none) ({ frames := 1, cells := 3, slots := 540, locals := 12 }) (va_Pc [.ref h] (fun U => U.heap.size = sz ∧ va_P D vwCl [(h, .inr (1, [.null, .int 0, .null, .null]))] U.heap ∧ va_K D vwCl [] U ∧ va_D (fun _ => True) [(h, .inr (1, [.null, .int 0, .null, .null]))])) (va_Qv (fun _ : Nat × Nat × Nat × ClassId × ClassId => True) (fun u t => mdB D (va_A [(h, .inr (1, [.null, .int 0, .null, .null]))] sz) h u.1 u.2.1 u.2.2.1 u.2.2.2.1 u.2.2.2.2 (fun _ => false, 0, fun _ => 0, fun _ => false) t) (va_A [(h, .inr (1, [.null, .int 0, .null, .null]))] sz)) 3 540 (va_A [(h, .inr (1, [.null, .int 0, .null, .null]))] sz) := by
  refine Met.ofW (cc := cX1_init) (maxL := 1) (ret := none) (by decide) rfl ?_
  intro p e s m args below meth c s₁ B hml hv
  obtain ⟨rfl, hsz, hP, hK, hD0⟩ := hv
  have hx := B.exec
  have hb := B.bytes
  have hr := B.returns
  have hts := atoms_spec (ws := ws_ yX1_init cX1_init 1 none) B.pre
  have hts : ∀ w ∈ lw_all, w.before _ s = true := fun w h => hts w (List.mem_cons_of_mem _ h)
  have hown : s.vm.findClass RX1 = some m.cls := findClass_of_methodNamed B.named
  have hlocks := B.notSynchronized
  have hin : meth.name = "<init>" := (name_of_methodNamed B.named B.method).1
  subst hsz
  have hD := hD0.self (sz := s.heap.size)
  generalize hAe : va_A [(h, .inr (1, [.null, .int 0, .null, .null]))] s.heap.size = A at hD ⊢
  have hA : ∀ q : Nat, s.heap.size ≤ q → A q := fun q h => by rw [← hAe]; exact Or.inr h
  have hS : va_S A s.heap s.heap [] := va_S.rf
  have hl := lv_entry ([.ref h]) (n := 1) (Nat.le_of_ble_eq_true rfl)
  rw [lg_entry_eq]
  generalize (lg_sl ([.ref h]) ++ List.replicate (1 - (lg_sl ([.ref h])).length) Slot.unset).toArray = ls at hl ⊢
  have hl : lv_has ls 1 [(0, .ref h)] := hl
  refine lv_aload_n hx hb dX1_init_0 rfl (lv_at hl 0 rfl) ?_
  refine W.objInit hx hb hown (hts _ q117) (hts _ q19) (hts _ q20) rfl (by rw [hml]; exact hl.1) rfl dX1_init_1 (Nat.le_of_ble_eq_true rfl) (Nat.le_of_ble_eq_true rfl) ?_
  refine W.eq (g2 := F0 m 4 ls []) rfl ?_
  refine lv_aload_n hx hb dX1_init_4 rfl (lv_at hl 0 rfl) ?_
  refine lv_bipush (v := 8) hx hb dX1_init_5 (by decide) ?_
  refine va_newa (atype := .boolean) hx hb (hts _ q131) (ty := .boolean) rfl hK hP hD hS hA (a0 := (8, .inl (fun _ => 0))) (N' := 8) (fun _ => rfl) (by decide) (by decide) (by decide) (Nat.le_of_ble_eq_true rfl) (Nat.le_of_ble_eq_true rfl) dX1_init_7 (fun qB cB H hK hP hD hS => ?_)
  refine va_putF (D := D) (ci := 1) (v := .ref qB) (ty := .array .boolean) (C := RX1) (T := TX1) (N := 4) hx hb hts in_X1 tyX1 tyX1_ok nmX1 hown hK hP hD hS 0 rfl rfl 0 (by decide) (hts _ q118) (fun _ h9 => h9) rfl hin rfl (by decide +kernel) rfl rfl (Nat.le_of_ble_eq_true rfl) dX1_init_9 (fun H locs hP hD hS => ?_)
  refine lv_aload_n hx hb dX1_init_12 rfl (lv_at hl 0 rfl) ?_
  refine lv_bipush (v := 20) hx hb dX1_init_13 (by decide) ?_
  refine va_newa (atype := .int) hx hb (hts _ q43) (ty := .int) rfl hK hP hD hS hA (a0 := (20, .inl (fun _ => 0))) (N' := 20) (fun _ => rfl) (by decide) (by decide) (by decide) (Nat.le_of_ble_eq_true rfl) (Nat.le_of_ble_eq_true rfl) dX1_init_15 (fun qC cC H hK hP hD hS => ?_)
  refine va_putF (D := D) (ci := 1) (v := .ref qC) (ty := .array .int) (C := RX1) (T := TX1) (N := 4) hx hb hts in_X1 tyX1 tyX1_ok nmX1 hown hK hP hD hS 0 rfl rfl 2 (by decide) (hts _ q120) (fun _ h9 => h9) rfl hin rfl (by decide +kernel) rfl rfl (Nat.le_of_ble_eq_true rfl) dX1_init_17 (fun H locs hP hD hS => ?_)
  refine lv_aload_n hx hb dX1_init_20 rfl (lv_at hl 0 rfl) ?_
  refine lv_sipush (v := 512) hx hb dX1_init_21 (by decide) ?_
  refine va_newa (atype := .boolean) hx hb (hts _ q131) (ty := .boolean) rfl hK hP hD hS hA (a0 := (512, .inl (fun _ => 0))) (N' := 512) (fun _ => rfl) (by decide) (by decide) (by decide) (Nat.le_of_ble_eq_true rfl) (Nat.le_of_ble_eq_true rfl) dX1_init_24 (fun qW cW H hK hP hD hS => ?_)
  refine va_putF (D := D) (ci := 1) (v := .ref qW) (ty := .array .boolean) (C := RX1) (T := TX1) (N := 4) hx hb hts in_X1 tyX1 tyX1_ok nmX1 hown hK hP hD hS 0 rfl rfl 3 (by decide) (hts _ q121) (fun _ h9 => h9) rfl hin rfl (by decide +kernel) rfl rfl (Nat.le_of_ble_eq_true rfl) dX1_init_26 (fun H locs hP hD hS => ?_)
  have hK : va_K D vwCl [(cB, .boolean), (cC, .int), (cW, .boolean)] s := hK
  have e1 : cW = cB := Option.some.inj ((va_nm_boolean (hK.2 2 _ rfl).2).symm.trans (va_nm_boolean (hK.2 0 _ rfl).2))
  subst e1
  have hK9 := hK.sub (tys' := [(cC, .int), (cW, .boolean)]) [1, 0] rfl
  have hP9 : va_P D vwCl (mdW h qB qC qW cW cC (fun _ => false, 0, fun _ => 0, fun _ => false)) H := hP
  have hD9 : va_D A (mdW h qB qC qW cW cC (fun _ => false, 0, fun _ => 0, fun _ => false)) := hD
  refine W.widen (k := 3) (n := 540) (Nat.le_of_ble_eq_true rfl) (Nat.le_of_ble_eq_true rfl) ?_
  exact W.vret hx hb hr (fun t ht hW => ⟨⟨(qB, qC, qW, cW, cC), rfl, trivial, by rw [ht]; exact hP9, va_K.moved hW.alike hK9, hD9⟩, hS.F ht⟩) hS.2.2 dX1_init_29
end
section
/-! THE CLAIM OUT OF ONE WALK OF THE LAW'S BODY. Your part is whole_start (and what it stands on); all else here is the same for every law, but numbers. -/
def R_law : String := "QbfDeskLaw"
def lw_P (b : Addr) (xs : List Int32) (args : Array Value) (s : State) : Prop := args = #[.ref b] ∧ s.IntsAt b xs ∧ xs.length ≤ 192 ∧ (Jvm.Cond.and given_1 narrow_1).before args s = true
def lw_Q (_ : Array Value) (s : State) (o : Outcome) (t : State) : Prop := o = .returned (some (.int 1)) ∧ Framed s o t [] 600000 7290000
def lw_Z (below : List Frame) (a : Array Value) (s : State) : State → Prop := fun t => ∃ o, t.status = .running ∧ Ended t below o ∧ lw_Q a s o t
/-- the law's own end, with 1 on the stack, nothing written that was there before, its room as the claim has it -/
theorem lw_ret {p : Program} {l : Launch} {e : Env} {s : State} {m : MethodId} {below : List Frame} {meth : Method} {c : Code} {b : Nat} (hx : p.tables.exec = Jvm.exec) (hb : c.code = code) (hr : meth.sig.returnType = ret) (hlocks : meth.locks = false) {pc : Nat} {H : Heap} {ls : Array Slot} (hdg : decode code pc = .ok (.ireturn, 1)) : W p l e room_1 s m #[Value.ref b] below meth c H [] 600000 7290000 (lw_Z below #[Value.ref b] s) (F0 m pc ls [.int 1]) := by
  intro T hT X
  obtain ⟨fs, hret, hrun, hended, hW, hframe⟩ := X.leave (v := some (.int 1)) (hlocks := hlocks) (fun h => by rw [hr] at h; cases h)
  have hmeth' : T.vm.method? m = some meth := X.method'
  refine ⟨T.setFrames fs, ?_, .returned (some (.int 1)), hrun, hended, rfl, ⟨_, rfl⟩, hW, hframe⟩
  jvm_step X.here [X.here.top, hx, hb, hdg, hmeth', hr, ret, narrow_b1]
  (try refine ⟨rfl, ?_⟩); (try refine ⟨rfl, ?_⟩)
  first | (intro acts; rw [hret _ acts rfl rfl rfl]) | rw [hret _ _ rfl rfl rfl]
  exact Steps.refl _
/-- what holds at the law's entry: the machine, the code, the tables' words (any of lw_tbl by 'hts w (by decide +kernel)'), the script of L ints xs at the cell b, what the Statement gives of the start (any of its parts by flat_of_before) -/
def lw_At (p : Program) (s : State) (m : MethodId) (meth : Method) (c : Code) (b L : Nat) (xs : Nat → Int32) : Prop :=
  p.tables.exec = Jvm.exec ∧ c.code = code ∧ meth.sig.returnType = ret ∧ c.maxLocals = 4 ∧ s.vm.findClass R_law = some m.cls ∧ (∀ w ∈ lw_tbl, w.before #[Value.ref b] s = true) ∧ va_X b L xs s s.heap ∧ b < s.heap.size ∧ meth.locks = false ∧ (Jvm.Cond.and given_1 narrow_1).before #[Value.ref b] s = true
end
section
/-! the law's world: the desk's cells and the model's, side by side; calls of the one leave the other as it is -/
def lwI (D : va_G) (h kL kV kF : Nat) (cA : ClassId) (g kB kC kW : Nat) (cZ cI : ClassId) (s : State) (H : Heap) (locs : List Loc) (u : DkS) (v : MdS) : Prop :=
  va_K D vwCl [(cA, .int)] s ∧ va_K D vwCl [(cI, .int), (cZ, .boolean)] s ∧ va_P D vwCl (dkW h kL kV kF cA u ++ mdW g kB kC kW cZ cI v) H ∧ va_D (fun q => s.heap.size ≤ q) (dkW h kL kV kF cA u ++ mdW g kB kC kW cZ cI v) ∧ va_S (fun q => s.heap.size ≤ q) s.heap H locs
section LwRows
variable {p : Program} {l : Launch} {e : Env} {R : Room} {s : State} {m : MethodId} {args : Array Value} {below : List Frame} {meth : Method} {c : Code} {H : Heap} {locs : List Loc} {cells slots : Nat} {Q : State → Prop} {cc : ByteArray} {nL pc : Nat} {ls : Array Slot} {rest : List Value} {D : va_G} {h kL kV kF : Nat} {cA : ClassId} {g kB kC kW : Nat} {cZ cI : ClassId} {u : DkS} {v : MdS} {b N : Nat} {xs : Nat → Int32}
theorem lw_sld {k : Nat} (hk : k < N) (hN : N ≤ 192) (S : CallFix p m c cc nL s args lw_all R_law) (X : va_X b N xs s s.heap ∧ b < s.heap.size) (I : lwI D h kL kV kF cA g kB kC kW cZ cI s H locs u v) (hdg : decode cc pc = .ok (.iaload, 1)) (kk : W p l e R s m args below meth c H locs cells slots Q (F0 m (pc + 1) ls (.int (xs k) :: rest))) : W p l e R s m args below meth c H locs cells slots Q (F0 m pc ls (.int (nI k) :: .ref b :: rest)) := by
  refine va_sld (A := fun q => s.heap.size ≤ q) S.1 S.2.1 X.1 X.2 (Nat.not_le.mpr X.2) I.2.2.2.2 (vp_in_nI hk (by omega)) hdg ?_
  rw [nI_clamp (by omega)]
  exact kk
/-- the law calls the desk -/
theorem lw_dki {y : MethodName} {bytes : ByteArray} {maxL index na : Nat} {rt : Option FieldType} {rm : Room} {As st0 : List Value} {post : Int32 → DkS → Prop} (S : CallFix p m c cc nL s args lw_all R_law) (I : lwI D h kL kV kF cA g kB kC kW cZ cI s H locs u v) (hM : dkMi l y (ws_ y bytes maxL rt) rm D h kL kV kF cA As H.size u post) (cw : CallW R s args R_law RX0 index y bytes maxL rt (ws_ y bytes maxL rt) rm 0 0 na) (hn : As.length = na) (hsz : ls.size = nL) (hro : (rest.map fun v => v.category).sum ≤ 8) (hst : st0 = As.reverse ++ .ref h :: rest) (hdg : decode cc pc = .ok (.invokevirtual index, 3)) (hf : cells ≤ R.cells ∧ slots ≤ R.slots)
    (kk : ∀ (r : Int32) (u' : DkS) (H1 : Heap) (locs1 : List Loc), post r u' → lwI D h kL kV kF cA g kB kC kW cZ cI s H1 locs1 u' v → W p l e R s m args below meth c H1 locs1 cells slots Q (F0 m (pc + 3) ls (.int r :: rest))) : W p l e R s m args below meth c H locs cells slots Q (F0 m pc ls st0) := by
  obtain ⟨hK, hK2, hP, hD, hS⟩ := I
  have hPc := hP.sub (ws' := dkW h kL kV kF cA u) [0, 1, 2, 3] rfl
  have hDc := hD.sub (ws' := dkW h kL kV kF cA u) [0, 1, 2, 3] (by decide) rfl
  have hFc := va_free (wc := dkW h kL kV kF cA u) hD hS (fun _ z => z) [0, 1, 2, 3] rfl
  refine va_calli (va_runV (As := As) (rest := rest) S hM cw ⟨fun a U g mk q => by obtain ⟨q0, q1, qP, qK, qD⟩ := q; exact ⟨q0, q1, qP, va_K.moved (u := U) (U := U.calling g mk a) (Vm.Alike.refl U.vm) qK, qD⟩, va_recv hK hPc (ci := 0) (q0 := 0) rfl rfl, fun U hU hW => ⟨rfl, by rw [hU], by rw [hU]; exact hPc, va_K.moved hW.alike hK, hDc.weaken (fun _ _ _ _ => trivial)⟩⟩ rfl hn hsz hst (lv_room hro) hdg hf) hS (fun q _ h => hFc q h) hFc (fun r u' t H1 locs1 ht hvm hw hB hz1 hk1 hS => ?_)
  obtain ⟨hP1, hK1, hD1⟩ := hB
  rw [ht] at hP1
  obtain ⟨hP, hD⟩ := va_join (wr := mdW g kB kC kW cZ cI v) (w1 := dkW h kL kV kF cA u') hP hD [0, 1, 2, 3] [4, 5, 6, 7] rfl rfl (by decide) (by decide) hk1 hFc hP1 hD1
  exact kk r u' H1 locs1 hw ⟨va_K.moved hvm.symm hK1, hK2, hP.sub [4, 5, 6, 7, 0, 1, 2, 3] rfl, hD.sub [4, 5, 6, 7, 0, 1, 2, 3] (by decide) rfl, hS⟩
theorem lw_dkv {y : MethodName} {bytes : ByteArray} {maxL index na : Nat} {rt : Option FieldType} {rm : Room} {As st0 : List Value} {post : DkS → Prop} (S : CallFix p m c cc nL s args lw_all R_law) (I : lwI D h kL kV kF cA g kB kC kW cZ cI s H locs u v) (hM : dkMv l y (ws_ y bytes maxL rt) rm D h kL kV kF cA As H.size u post) (cw : CallW R s args R_law RX0 index y bytes maxL rt (ws_ y bytes maxL rt) rm 0 0 na) (hn : As.length = na) (hsz : ls.size = nL) (hro : (rest.map fun v => v.category).sum ≤ 8) (hst : st0 = As.reverse ++ .ref h :: rest) (hdg : decode cc pc = .ok (.invokevirtual index, 3)) (hf : cells ≤ R.cells ∧ slots ≤ R.slots)
    (kk : ∀ (u' : DkS) (H1 : Heap) (locs1 : List Loc), post u' → lwI D h kL kV kF cA g kB kC kW cZ cI s H1 locs1 u' v → W p l e R s m args below meth c H1 locs1 cells slots Q (F0 m (pc + 3) ls rest)) : W p l e R s m args below meth c H locs cells slots Q (F0 m pc ls st0) := by
  obtain ⟨hK, hK2, hP, hD, hS⟩ := I
  have hPc := hP.sub (ws' := dkW h kL kV kF cA u) [0, 1, 2, 3] rfl
  have hDc := hD.sub (ws' := dkW h kL kV kF cA u) [0, 1, 2, 3] (by decide) rfl
  have hFc := va_free (wc := dkW h kL kV kF cA u) hD hS (fun _ z => z) [0, 1, 2, 3] rfl
  refine va_callv (va_runV (As := As) (rest := rest) S hM cw ⟨fun a U g mk q => by obtain ⟨q0, q1, qP, qK, qD⟩ := q; exact ⟨q0, q1, qP, va_K.moved (u := U) (U := U.calling g mk a) (Vm.Alike.refl U.vm) qK, qD⟩, va_recv hK hPc (ci := 0) (q0 := 0) rfl rfl, fun U hU hW => ⟨rfl, by rw [hU], by rw [hU]; exact hPc, va_K.moved hW.alike hK, hDc.weaken (fun _ _ _ _ => trivial)⟩⟩ rfl hn hsz hst (lv_room hro) hdg hf) hS (fun q _ h => hFc q h) hFc (fun u' t H1 locs1 ht hvm hw hB hz1 hk1 hS => ?_)
  obtain ⟨hP1, hK1, hD1⟩ := hB
  rw [ht] at hP1
  obtain ⟨hP, hD⟩ := va_join (wr := mdW g kB kC kW cZ cI v) (w1 := dkW h kL kV kF cA u') hP hD [0, 1, 2, 3] [4, 5, 6, 7] rfl rfl (by decide) (by decide) hk1 hFc hP1 hD1
  exact kk u' H1 locs1 hw ⟨va_K.moved hvm.symm hK1, hK2, hP.sub [4, 5, 6, 7, 0, 1, 2, 3] rfl, hD.sub [4, 5, 6, 7, 0, 1, 2, 3] (by decide) rfl, hS⟩
/-- the law calls the model -/
theorem lw_mdi {y : MethodName} {bytes : ByteArray} {maxL index na : Nat} {rt : Option FieldType} {rm : Room} {As st0 : List Value} {post : Int32 → MdS → Prop} (S : CallFix p m c cc nL s args lw_all R_law) (I : lwI D h kL kV kF cA g kB kC kW cZ cI s H locs u v) (hM : mdMi l y (ws_ y bytes maxL rt) rm D g kB kC kW cZ cI As H.size v post) (cw : CallW R s args R_law RX1 index y bytes maxL rt (ws_ y bytes maxL rt) rm 0 0 na) (hn : As.length = na) (hsz : ls.size = nL) (hro : (rest.map fun v => v.category).sum ≤ 8) (hst : st0 = As.reverse ++ .ref g :: rest) (hdg : decode cc pc = .ok (.invokevirtual index, 3)) (hf : cells ≤ R.cells ∧ slots ≤ R.slots)
    (kk : ∀ (r : Int32) (v' : MdS) (H1 : Heap) (locs1 : List Loc), post r v' → lwI D h kL kV kF cA g kB kC kW cZ cI s H1 locs1 u v' → W p l e R s m args below meth c H1 locs1 cells slots Q (F0 m (pc + 3) ls (.int r :: rest))) : W p l e R s m args below meth c H locs cells slots Q (F0 m pc ls st0) := by
  obtain ⟨hK, hK2, hP, hD, hS⟩ := I
  have hPc := hP.sub (ws' := mdW g kB kC kW cZ cI v) [4, 5, 6, 7] rfl
  have hDc := hD.sub (ws' := mdW g kB kC kW cZ cI v) [4, 5, 6, 7] (by decide) rfl
  have hFc := va_free (wc := mdW g kB kC kW cZ cI v) hD hS (fun _ z => z) [4, 5, 6, 7] rfl
  refine va_calli (va_runV (As := As) (rest := rest) S hM cw ⟨fun a U g mk q => by obtain ⟨q0, q1, qP, qK, qD⟩ := q; exact ⟨q0, q1, qP, va_K.moved (u := U) (U := U.calling g mk a) (Vm.Alike.refl U.vm) qK, qD⟩, va_recv hK2 hPc (ci := 1) (q0 := 0) rfl rfl, fun U hU hW => ⟨rfl, by rw [hU], by rw [hU]; exact hPc, va_K.moved hW.alike hK2, hDc.weaken (fun _ _ _ _ => trivial)⟩⟩ rfl hn hsz hst (lv_room hro) hdg hf) hS (fun q _ h => hFc q h) hFc (fun r v' t H1 locs1 ht hvm hw hB hz1 hk1 hS => ?_)
  obtain ⟨hP1, hK1, hD1⟩ := hB
  rw [ht] at hP1
  obtain ⟨hP, hD⟩ := va_join (wr := dkW h kL kV kF cA u) (w1 := mdW g kB kC kW cZ cI v') hP hD [4, 5, 6, 7] [0, 1, 2, 3] rfl rfl (by decide) (by decide) hk1 hFc hP1 hD1
  exact kk r v' H1 locs1 hw ⟨hK, va_K.moved hvm.symm hK1, hP, hD, hS⟩
theorem lw_mdv {y : MethodName} {bytes : ByteArray} {maxL index na : Nat} {rt : Option FieldType} {rm : Room} {As st0 : List Value} {post : MdS → Prop} (S : CallFix p m c cc nL s args lw_all R_law) (I : lwI D h kL kV kF cA g kB kC kW cZ cI s H locs u v) (hM : mdMv l y (ws_ y bytes maxL rt) rm D g kB kC kW cZ cI As H.size v post) (cw : CallW R s args R_law RX1 index y bytes maxL rt (ws_ y bytes maxL rt) rm 0 0 na) (hn : As.length = na) (hsz : ls.size = nL) (hro : (rest.map fun v => v.category).sum ≤ 8) (hst : st0 = As.reverse ++ .ref g :: rest) (hdg : decode cc pc = .ok (.invokevirtual index, 3)) (hf : cells ≤ R.cells ∧ slots ≤ R.slots)
    (kk : ∀ (v' : MdS) (H1 : Heap) (locs1 : List Loc), post v' → lwI D h kL kV kF cA g kB kC kW cZ cI s H1 locs1 u v' → W p l e R s m args below meth c H1 locs1 cells slots Q (F0 m (pc + 3) ls rest)) : W p l e R s m args below meth c H locs cells slots Q (F0 m pc ls st0) := by
  obtain ⟨hK, hK2, hP, hD, hS⟩ := I
  have hPc := hP.sub (ws' := mdW g kB kC kW cZ cI v) [4, 5, 6, 7] rfl
  have hDc := hD.sub (ws' := mdW g kB kC kW cZ cI v) [4, 5, 6, 7] (by decide) rfl
  have hFc := va_free (wc := mdW g kB kC kW cZ cI v) hD hS (fun _ z => z) [4, 5, 6, 7] rfl
  refine va_callv (va_runV (As := As) (rest := rest) S hM cw ⟨fun a U g mk q => by obtain ⟨q0, q1, qP, qK, qD⟩ := q; exact ⟨q0, q1, qP, va_K.moved (u := U) (U := U.calling g mk a) (Vm.Alike.refl U.vm) qK, qD⟩, va_recv hK2 hPc (ci := 1) (q0 := 0) rfl rfl, fun U hU hW => ⟨rfl, by rw [hU], by rw [hU]; exact hPc, va_K.moved hW.alike hK2, hDc.weaken (fun _ _ _ _ => trivial)⟩⟩ rfl hn hsz hst (lv_room hro) hdg hf) hS (fun q _ h => hFc q h) hFc (fun v' t H1 locs1 ht hvm hw hB hz1 hk1 hS => ?_)
  obtain ⟨hP1, hK1, hD1⟩ := hB
  rw [ht] at hP1
  obtain ⟨hP, hD⟩ := va_join (wr := dkW h kL kV kF cA u) (w1 := mdW g kB kC kW cZ cI v') hP hD [4, 5, 6, 7] [0, 1, 2, 3] rfl rfl (by decide) (by decide) hk1 hFc hP1 hD1
  exact kk v' H1 locs1 hw ⟨hK, va_K.moved hvm.symm hK1, hP, hD, hS⟩
end LwRows
/-- the two hold the same: who owns what, and the clauses -/
def rl (mk : Int32) (n : Nat) (L : Nat → Int32) (B : Nat → Bool) (C : Nat → Int32) : Prop := n ≤ 20 ∧ (∀ k, k < 8 → bt mk k = !B k) ∧ ∀ k, k < n → L k = C k
theorem rl_M {mk : Int32} {n : Nat} {L : Nat → Int32} {B : Nat → Bool} {C : Nat → Int32} (h : rl mk n L B C) : ∀ k, k < 8 → bt mk k = mdM B (-1) k := fun k hk => by rw [mdM_m1 B (by omega)]; exact h.2.1 k hk
theorem rl_f {mk : Int32} {n : Nat} {L : Nat → Int32} {B : Nat → Bool} {C : Nat → Int32} (h : rl mk n L B C) (lo : Int32) : wonB (bt mk) n lo L = wonB (mdM B (-1)) n lo C := wonB_congr (rl_M h) h.2.2
theorem rl_won {mk : Int32} {n : Nat} {L : Nat → Int32} {B : Nat → Bool} {C : Nat → Int32} (h : rl mk n L B C) (x : Int32) : ansWon (bt mk) n L x = ansWon (mdM B (-1)) n C x := by
  unfold ansWon
  rw [rl_f h]
theorem rl_cnt {mk : Int32} {n : Nat} {L : Nat → Int32} {B : Nat → Bool} {C : Nat → Int32} (h : rl mk n L B C) (x : Int32) : ansCnt (bt mk) n L x = ansCnt (mdM B (-1)) n C x := by
  unfold ansCnt
  rw [rl_f h]
theorem rl_spa {mk : Int32} {n : Nat} {L : Nat → Int32} {B : Nat → Bool} {C : Nat → Int32} (h : rl mk n L B C) (x : Int32) : ansSpa (bt mk) n L x = ansSpa (mdM B (-1)) n C x := by
  unfold ansSpa
  rw [rl_f h]
theorem rl_cho {mk : Int32} {n : Nat} {L : Nat → Int32} {B : Nat → Bool} {C : Nat → Int32} (h : rl mk n L B C) (x : Int32) : ansCho (bt mk) n L x = ansCho (mdM B (-1)) n C x := by
  by_cases hx : x < 1 ∨ 255 < x
  · rw [ansCho_out hx, ansCho_out hx]
  · have h1 : ¬ x < 1 := fun z => hx (Or.inl z)
    have h2 : x ≤ 255 := rg_le (fun z => hx (Or.inr z))
    obtain ⟨q, h3, h4, rfl⟩ := rg_of (n := 255) (by decide) h1 h2
    rw [ansCho_in h1 h2 (by omega), ansCho_in h1 h2 (by omega), rl_f h, rl_M h _ (lg_2 q (by omega) h3).2.2]
theorem rl_swa {mk : Int32} {n : Nat} {L : Nat → Int32} {B : Nat → Bool} {C : Nat → Int32} (h : rl mk n L B C) {j : Nat} (hj : j < 8) : wonB (bt (mk ^^^ bit1 j)) n (-1) L = wonB (mdM B (nI j)) n (-1) C := by
  refine wonB_congr (fun k hk => ?_) h.2.2
  rw [bt_flip mk hj hk, h.2.1 k hk]
  show _ = (B k == decide (nI k = nI j))
  by_cases z : k = j
  · rw [if_pos z, decide_eq_true (by rw [z])]
    cases B k <;> rfl
  · rw [if_neg z, decide_eq_false (fun q => z ((nI_eq (by omega) (by omega)).mp q))]
    cases B k <;> rfl
theorem rl_give {mk mk' : Int32} {n : Nat} {L : Nat → Int32} {B : Nat → Bool} {C : Nat → Int32} (h : rl mk n L B C) {j : Nat} (hj : j < 8) {g : Bool} (h1 : g = true → mk' = mk ||| bit1 j) (h2 : g = false → mk' = mk &&& (bit1 j ^^^ (-1))) : rl mk' n L (va_up B j (!g)) C := by
  refine ⟨h.1, fun k hk => ?_, h.2.2⟩
  cases g with
  | true =>
    rw [h1 rfl, bt_set mk hj hk]
    by_cases z : k = j
    · rw [if_pos z, z, va_up_self]; rfl
    · rw [if_neg z, va_up_ne _ _ z]; exact h.2.1 k hk
  | false =>
    rw [h2 rfl, bt_clr mk hj hk]
    by_cases z : k = j
    · rw [if_pos z, z, va_up_self]; rfl
    · rw [if_neg z, va_up_ne _ _ z]; exact h.2.1 k hk
theorem rl_add {mk : Int32} {n : Nat} {L : Nat → Int32} {B : Nat → Bool} {C : Nat → Int32} (h : rl mk n L B C) (hn : n < 20) (y : Int32) : rl mk (n + 1) (va_up L n y) B (va_up C n y) := by
  refine ⟨by omega, h.2.1, fun k hk => ?_⟩
  by_cases z : k = n
  · rw [z, va_up_self, va_up_self]
  · rw [va_up_ne _ _ z, va_up_ne _ _ z]
    exact h.2.2 k (by omega)
theorem rl_drop {mk : Int32} {n : Nat} {L L' : Nat → Int32} {B : Nat → Bool} {C C' : Nat → Int32} (h : rl mk n L B C) {j : Nat} (hL : ∀ k, k < n - 1 → L' k = drp L j k) (hC : ∀ k, k < n - 1 → C' k = drp C j k) : rl mk (n - 1) L' B C' := by
  refine ⟨by have := h.1; omega, h.2.1, fun k hk => ?_⟩
  rw [hL k hk, hC k hk]
  unfold drp
  rw [h.2.2 k (by omega), h.2.2 (k + 1) (by omega)]
end
section
/-! QbfDeskLaw.law: its loop, and the claim's start -/
section Law
variable {p : Program} {l : Launch} {e : Env} {s : State} {m : MethodId} {below : List Frame} {meth : Method} {c : Code} {D : va_G} {h kL kV kF : Nat} {cA : ClassId} {g kB kC kW : Nat} {cZ cI : ClassId} {b N : Nat} {xs : Nat → Int32}
set_option maxHeartbeats 8000000 in
set_option maxRecDepth 100000 in
/-- at the loop's head: the two hold the same -/
theorem law_loop (hN : N ≤ 192) (S : CallFix p m c cL_law 4 s #[Value.ref b] lw_all R_law) (X : va_X b N xs s s.heap ∧ b < s.heap.size) (hr : meth.sig.returnType = ret) (hlk : meth.locks = false) : ∀ (d i : Nat) (mk : Int32) (n : Nat) (L : Nat → Int32) (bb : Bool) (V F : Nat → Option Bool) (B : Nat → Bool) (C : Nat → Int32) (w : Nat → Bool) (H : Heap) (locs : List Loc) (ls : Array Slot), N ≤ i + d → i ≤ 300 → rl mk n L B C → lwI D h kL kV kF cA g kB kC kW cZ cI s H locs (mk, n, -1, L, bb, V, F) (B, n, C, w) → lv_has ls 4 [(0, .ref b), (1, .ref h), (2, .ref g), (3, .int (nI i))] → W p l e room_1 s m #[Value.ref b] below meth c H locs 8 587 (lw_Z below #[Value.ref b] s) (F0 m 18 ls []) := by
  have hx := S.1
  have hb := S.2.1
  intro d
  induction d with
  | zero =>
    intro i mk n L bb V F B C w H locs ls hd hi hrl I hl
    refine lv_iload_n hx hb dL_law_18 rfl (lv_at hl 3 rfl) ?_
    refine lv_aload_n hx hb dL_law_19 rfl (lv_at hl 0 rfl) ?_
    refine va_slen (A := fun q => s.heap.size ≤ q) hx hb X.1 X.2 (Nat.not_le.mpr X.2) I.2.2.2.2 dL_law_20 ?_
    refine lv_iconst (v := 3) hx hb dL_law_21 (by decide) ?_
    refine lv_isub hx hb dL_law_22 ?_
    refine lv_icmp_gt (tgt := 294) hx hb dL_law_23 (by decide) (fun c1 => ?_) (fun c1 => ?_)
    · refine lv_iconst (v := 1) hx hb dL_law_294 (by decide) ?_
      refine va_forget (fun q hq => I.2.2.2.2.2.2 q hq) ?_
      refine W.widen (k := 600000) (n := 7290000) (by decide) (by decide) ?_
      exact lw_ret hx hb hr hlk dL_law_295
    · refine absurd ?_ c1
      rw [Int32.lt_iff_toInt_lt, nI_toInt (by omega)]
      have := pk_sub_toInt (a := N) (b := 3) (by omega) (by omega)
      have e3 : (Int32.ofNat N - 3).toInt = (N : Int) - 3 := this
      rw [e3]
      omega
  | succ d ih =>
    intro i mk n L bb V F B C w H locs ls hd hi hrl I hl
    refine lv_iload_n hx hb dL_law_18 rfl (lv_at hl 3 rfl) ?_
    refine lv_aload_n hx hb dL_law_19 rfl (lv_at hl 0 rfl) ?_
    refine va_slen (A := fun q => s.heap.size ≤ q) hx hb X.1 X.2 (Nat.not_le.mpr X.2) I.2.2.2.2 dL_law_20 ?_
    refine lv_iconst (v := 3) hx hb dL_law_21 (by decide) ?_
    refine lv_isub hx hb dL_law_22 ?_
    refine lv_icmp_gt (tgt := 294) hx hb dL_law_23 (by decide) (fun c1 => ?_) (fun c1 => ?_)
    · refine lv_iconst (v := 1) hx hb dL_law_294 (by decide) ?_
      refine va_forget (fun q hq => I.2.2.2.2.2.2 q hq) ?_
      refine W.widen (k := 600000) (n := 7290000) (by decide) (by decide) ?_
      exact lw_ret hx hb hr hlk dL_law_295
    · have hi3 : i + 3 ≤ N := by
        rw [Int32.lt_iff_toInt_lt, nI_toInt (by omega)] at c1
        have := pk_sub_toInt (a := N) (b := 3) (by omega) (by omega)
        have e3 : (Int32.ofNat N - 3).toInt = (N : Int) - 3 := this
        rw [e3] at c1
        omega
      have NX : ∀ (mk : Int32) (n : Nat) (L : Nat → Int32) (bb : Bool) (V F : Nat → Option Bool) (B : Nat → Bool) (C : Nat → Int32) (w : Nat → Bool) (H : Heap) (locs : List Loc), rl mk n L B C → lwI D h kL kV kF cA g kB kC kW cZ cI s H locs (mk, n, -1, L, bb, V, F) (B, n, C, w) → W p l e room_1 s m #[Value.ref b] below meth c H locs 8 587 (lw_Z below #[Value.ref b] s) (F0 m 288 ls []) := by
        intro mk n L bb V F B C w H locs hrl I
        refine lv_iinc (v := nI (i + 3)) (lv' := [(3, .int (nI (i + 3))), (0, .ref b), (1, .ref h), (2, .ref g)]) hx hb dL_law_288 hl (k := 3) rfl (inc3 i) (by decide) rfl (fun ls hl => ?_)
        refine lv_goto (tgt := 18) hx hb dL_law_291 (by decide) ?_
        have hl := lv_sub hl [1, 2, 3, 0] rfl
        exact ih (i + 3) mk n L bb V F B C w H locs ls (by omega) (by omega) hrl I hl
      refine lv_aload_n hx hb dL_law_26 rfl (lv_at hl 0 rfl) ?_
      refine lv_iload_n hx hb dL_law_27 rfl (lv_at hl 3 rfl) ?_
      refine lw_sld (k := i) (by omega) hN S X I dL_law_28 ?_
      refine lv_bipush (v := 7) hx hb dL_law_29 (by decide) ?_
      refine lv_iand hx hb dL_law_31 ?_
      obtain ⟨t, ht, ht7⟩ := and7 (xs i)
      refine w_top (y := nI t) (ht7) ?_
      have hn := hrl.1
      obtain ⟨j, hj, hj7⟩ := and7 (xs (i + 1))
      match t, ht with
      | 0, _ =>
        refine lv_tableIn (off := 48) (tgt := 80) hx hb dL_law_32 (by decide) (by decide) rfl (by decide) ?_
        refine lv_aload_n hx hb dL_law_80 rfl (lv_at hl 1 rfl) ?_
        refine lv_aload_n hx hb dL_law_81 rfl (lv_at hl 0 rfl) ?_
        refine lv_iload_n hx hb dL_law_82 rfl (lv_at hl 3 rfl) ?_
        refine lv_iconst (v := 1) hx hb dL_law_83 (by decide) ?_
        refine lv_iadd hx hb dL_law_84 ?_
        refine w_top (y := nI (i + 1)) (nI_1 i) ?_
        refine lw_sld (k := i + 1) (by omega) hN S X I dL_law_85 ?_
        refine lv_aload_n hx hb dL_law_86 rfl (lv_at hl 0 rfl) ?_
        refine lv_iload_n hx hb dL_law_87 rfl (lv_at hl 3 rfl) ?_
        refine lv_iconst (v := 2) hx hb dL_law_88 (by decide) ?_
        refine lv_iadd hx hb dL_law_89 ?_
        refine w_top (y := nI (i + 2)) (nI_add i 2) ?_
        refine lw_sld (k := i + 2) (by omega) hN S X I dL_law_90 ?_
        have K2 : ∀ (gv : Bool) (mk' : Int32) (H : Heap) (locs : List Loc), rl mk' n L (va_up B j (!gv)) C → lwI D h kL kV kF cA g kB kC kW cZ cI s H locs (mk', n, -1, L, bb, V, F) (B, n, C, w) → W p l e room_1 s m #[Value.ref b] below meth c H locs 8 587 (lw_Z below #[Value.ref b] s) (F0 m 121 ls [.int (bI gv), .int (xs (i + 1)), .ref g]) := by
          intro gv mk' H locs hrl I
          refine lw_mdv (As := [.int (xs (i + 1)), .int (bI gv)]) (rest := []) S I (mmt_give l D g kB kC kW cZ cI H.size B n C w (xs (i + 1)) gv j hj hj7) (cwV 2 S.2.2.2.2 (lw_V q132 q133 q134 q12 q135) rfl rfl rfl (by decide +kernel) ⟨Nat.le_of_ble_eq_true rfl, Nat.le_of_ble_eq_true rfl⟩) rfl hl.1 (Nat.le_of_ble_eq_true rfl) rfl dL_law_121 ⟨Nat.le_of_ble_eq_true rfl, Nat.le_of_ble_eq_true rfl⟩ (fun v' H locs hp I => ?_)
          subst hp
          refine lv_goto (tgt := 288) hx hb dL_law_124 (by decide) ?_
          exact NX mk' n L bb V F _ C w H locs hrl I
        have K1 : ∀ gv : Bool, gv = decide (¬ xs (i + 2) = 0) → W p l e room_1 s m #[Value.ref b] below meth c H locs 8 587 (lw_Z below #[Value.ref b] s) (F0 m 99 ls [.int (bI gv), .int (xs (i + 1)), .ref h]) := by
          intro gv hgv
          refine lw_dkv (As := [.int (xs (i + 1)), .int (bI gv)]) (rest := []) S I (met_give l D h kL kV kF cA H.size mk n (-1) L bb V F (xs (i + 1)) gv j hj7) (cwV 2 S.2.2.2.2 (lw_V q44 q45 q46 q11 q47) rfl rfl rfl (by decide +kernel) ⟨Nat.le_of_ble_eq_true rfl, Nat.le_of_ble_eq_true rfl⟩) rfl hl.1 (Nat.le_of_ble_eq_true rfl) rfl dL_law_99 ⟨Nat.le_of_ble_eq_true rfl, Nat.le_of_ble_eq_true rfl⟩ (fun u' H locs hp I => ?_)
          obtain ⟨mk', rfl, hg1, hg2⟩ := hp
          have hrl' := rl_give hrl hj hg1 hg2
          refine lv_aload_n hx hb dL_law_102 rfl (lv_at hl 2 rfl) ?_
          refine lv_aload_n hx hb dL_law_103 rfl (lv_at hl 0 rfl) ?_
          refine lv_iload_n hx hb dL_law_104 rfl (lv_at hl 3 rfl) ?_
          refine lv_iconst (v := 1) hx hb dL_law_105 (by decide) ?_
          refine lv_iadd hx hb dL_law_106 ?_
          refine w_top (y := nI (i + 1)) (nI_1 i) ?_
          refine lw_sld (k := i + 1) (by omega) hN S X I dL_law_107 ?_
          refine lv_aload_n hx hb dL_law_108 rfl (lv_at hl 0 rfl) ?_
          refine lv_iload_n hx hb dL_law_109 rfl (lv_at hl 3 rfl) ?_
          refine lv_iconst (v := 2) hx hb dL_law_110 (by decide) ?_
          refine lv_iadd hx hb dL_law_111 ?_
          refine w_top (y := nI (i + 2)) (nI_add i 2) ?_
          refine lw_sld (k := i + 2) (by omega) hN S X I dL_law_112 ?_
          refine lv_if_eq (tgt := 120) hx hb dL_law_113 (by decide) (fun c3 => ?_) (fun c3 => ?_)
          · refine lv_iconst (v := 0) hx hb dL_law_120 (by decide) ?_
            rw [show gv = false by rw [hgv]; exact decide_eq_false (fun z => z c3)] at hrl'
            exact K2 false mk' H locs hrl' I
          · refine lv_iconst (v := 1) hx hb dL_law_116 (by decide) ?_
            refine lv_goto (tgt := 121) hx hb dL_law_117 (by decide) ?_
            rw [show gv = true by rw [hgv]; exact decide_eq_true c3] at hrl'
            exact K2 true mk' H locs hrl' I
        refine lv_if_eq (tgt := 98) hx hb dL_law_91 (by decide) (fun c3 => ?_) (fun c3 => ?_)
        · refine lv_iconst (v := 0) hx hb dL_law_98 (by decide) ?_
          exact K1 false (decide_eq_false (fun z => z c3)).symm
        · refine lv_iconst (v := 1) hx hb dL_law_94 (by decide) ?_
          refine lv_goto (tgt := 99) hx hb dL_law_95 (by decide) ?_
          exact K1 true (decide_eq_true c3).symm
      | 1, _ =>
        refine lv_tableIn (off := 95) (tgt := 127) hx hb dL_law_32 (by decide) (by decide) rfl (by decide) ?_
        refine lv_aload_n hx hb dL_law_127 rfl (lv_at hl 1 rfl) ?_
        refine lv_aload_n hx hb dL_law_128 rfl (lv_at hl 0 rfl) ?_
        refine lv_iload_n hx hb dL_law_129 rfl (lv_at hl 3 rfl) ?_
        refine lv_iconst (v := 1) hx hb dL_law_130 (by decide) ?_
        refine lv_iadd hx hb dL_law_131 ?_
        refine w_top (y := nI (i + 1)) (nI_1 i) ?_
        refine lw_sld (k := i + 1) (by omega) hN S X I dL_law_132 ?_
        refine lw_dki (As := [.int (xs (i + 1))]) (rest := []) S I (met_add l D h kL kV kF cA H.size mk n (-1) L bb V F (xs (i + 1)) hn) (cwV 1 S.2.2.2.2 (lw_V q48 q49 q50 q11 q51) rfl rfl rfl (by decide +kernel) ⟨Nat.le_of_ble_eq_true rfl, Nat.le_of_ble_eq_true rfl⟩) rfl hl.1 (Nat.le_of_ble_eq_true rfl) rfl dL_law_133 ⟨Nat.le_of_ble_eq_true rfl, Nat.le_of_ble_eq_true rfl⟩ (fun r1 u' H locs hp1 I => ?_)
        refine lv_aload_n hx hb dL_law_136 rfl (lv_at hl 2 rfl) ?_
        refine lv_aload_n hx hb dL_law_137 rfl (lv_at hl 0 rfl) ?_
        refine lv_iload_n hx hb dL_law_138 rfl (lv_at hl 3 rfl) ?_
        refine lv_iconst (v := 1) hx hb dL_law_139 (by decide) ?_
        refine lv_iadd hx hb dL_law_140 ?_
        refine w_top (y := nI (i + 1)) (nI_1 i) ?_
        refine lw_sld (k := i + 1) (by omega) hN S X I dL_law_141 ?_
        refine lw_mdi (As := [.int (xs (i + 1))]) (rest := [.int r1]) S I (mmt_add l D g kB kC kW cZ cI H.size B n C w (xs (i + 1)) hn) (cwV 1 S.2.2.2.2 (lw_V q136 q137 q138 q12 q139) rfl rfl rfl (by decide +kernel) ⟨Nat.le_of_ble_eq_true rfl, Nat.le_of_ble_eq_true rfl⟩) rfl hl.1 (Nat.le_of_ble_eq_true rfl) rfl dL_law_142 ⟨Nat.le_of_ble_eq_true rfl, Nat.le_of_ble_eq_true rfl⟩ (fun r2 v' H locs hp2 I => ?_)
        rcases hp1 with ⟨hn1, e1, rfl⟩ | ⟨hn1, e1, rfl⟩
        · rcases hp2 with ⟨hn2, e2, rfl⟩ | ⟨hn2, e2, rfl⟩
          · refine lv_icmp_eq (tgt := 288) hx hb dL_law_145 (by decide) (fun c3 => ?_) (fun c3 => ?_)
            · exact NX mk n L bb V F B C w H locs hrl I
            · exact absurd (by rw [e1, e2]) c3
          · exact absurd hn1 (by omega)
        · rcases hp2 with ⟨hn2, e2, rfl⟩ | ⟨hn2, e2, rfl⟩
          · exact absurd hn1 (by omega)
          · refine lv_icmp_eq (tgt := 288) hx hb dL_law_145 (by decide) (fun c3 => ?_) (fun c3 => ?_)
            · exact NX mk _ _ bb V F B _ w H locs (rl_add hrl hn1 _) I
            · exact absurd (by rw [e1, e2]) c3
      | 2, _ =>
        refine lv_tableIn (off := 118) (tgt := 150) hx hb dL_law_32 (by decide) (by decide) rfl (by decide) ?_
        refine lv_aload_n hx hb dL_law_150 rfl (lv_at hl 1 rfl) ?_
        refine lv_aload_n hx hb dL_law_151 rfl (lv_at hl 0 rfl) ?_
        refine lv_iload_n hx hb dL_law_152 rfl (lv_at hl 3 rfl) ?_
        refine lv_iconst (v := 1) hx hb dL_law_153 (by decide) ?_
        refine lv_iadd hx hb dL_law_154 ?_
        refine w_top (y := nI (i + 1)) (nI_1 i) ?_
        refine lw_sld (k := i + 1) (by omega) hN S X I dL_law_155 ?_
        refine lw_dki (As := [.int (xs (i + 1))]) (rest := []) S I (met_drop l D h kL kV kF cA H.size mk n (-1) L bb V F (xs (i + 1)) hn) (cwV 1 S.2.2.2.2 (lw_V q53 q54 q55 q11 q56) rfl rfl rfl (by decide +kernel) ⟨Nat.le_of_ble_eq_true rfl, Nat.le_of_ble_eq_true rfl⟩) rfl hl.1 (Nat.le_of_ble_eq_true rfl) rfl dL_law_156 ⟨Nat.le_of_ble_eq_true rfl, Nat.le_of_ble_eq_true rfl⟩ (fun r1 u' H locs hp1 I => ?_)
        refine lv_aload_n hx hb dL_law_159 rfl (lv_at hl 2 rfl) ?_
        refine lv_aload_n hx hb dL_law_160 rfl (lv_at hl 0 rfl) ?_
        refine lv_iload_n hx hb dL_law_161 rfl (lv_at hl 3 rfl) ?_
        refine lv_iconst (v := 1) hx hb dL_law_162 (by decide) ?_
        refine lv_iadd hx hb dL_law_163 ?_
        refine w_top (y := nI (i + 1)) (nI_1 i) ?_
        refine lw_sld (k := i + 1) (by omega) hN S X I dL_law_164 ?_
        refine lw_mdi (As := [.int (xs (i + 1))]) (rest := [.int r1]) S I (mmt_drop l D g kB kC kW cZ cI H.size B n C w (xs (i + 1)) hn) (cwV 1 S.2.2.2.2 (lw_V q141 q142 q143 q12 q144) rfl rfl rfl (by decide +kernel) ⟨Nat.le_of_ble_eq_true rfl, Nat.le_of_ble_eq_true rfl⟩) rfl hl.1 (Nat.le_of_ble_eq_true rfl) rfl dL_law_165 ⟨Nat.le_of_ble_eq_true rfl, Nat.le_of_ble_eq_true rfl⟩ (fun r2 v' H locs hp2 I => ?_)
        rcases hp1 with ⟨hn1, e1, rfl⟩ | ⟨j1, L', ej1, hj1, e1, rfl, hL⟩
        · rcases hp2 with ⟨hn2, e2, rfl⟩ | ⟨j2, C', ej2, hj2, e2, rfl, hC⟩
          · refine lv_icmp_eq (tgt := 288) hx hb dL_law_168 (by decide) (fun c3 => ?_) (fun c3 => ?_)
            · exact NX mk n L bb V F B C w H locs hrl I
            · exact absurd (by rw [e1, e2]) c3
          · rw [ej2] at hn1
            exact hn1.elim (fun z => absurd z (nI_pos (by omega))) (fun z => absurd (nI_lt hj2 (by omega)) z)
        · rcases hp2 with ⟨hn2, e2, rfl⟩ | ⟨j2, C', ej2, hj2, e2, rfl, hC⟩
          · rw [ej1] at hn2
            exact hn2.elim (fun z => absurd z (nI_pos (by omega))) (fun z => absurd (nI_lt hj1 (by omega)) z)
          · have ej : j1 = j2 := (nI_eq (by omega) (by omega)).mp (ej1.symm.trans ej2)
            subst ej
            refine lv_icmp_eq (tgt := 288) hx hb dL_law_168 (by decide) (fun c3 => ?_) (fun c3 => ?_)
            · exact NX mk _ _ bb V F B _ w H locs (rl_drop hrl hL hC) I
            · exact absurd (by rw [e1, e2]) c3
      | 3, _ =>
        refine lv_tableIn (off := 141) (tgt := 173) hx hb dL_law_32 (by decide) (by decide) rfl (by decide) ?_
        refine lv_aload_n hx hb dL_law_173 rfl (lv_at hl 1 rfl) ?_
        refine lv_aload_n hx hb dL_law_174 rfl (lv_at hl 0 rfl) ?_
        refine lv_iload_n hx hb dL_law_175 rfl (lv_at hl 3 rfl) ?_
        refine lv_iconst (v := 1) hx hb dL_law_176 (by decide) ?_
        refine lv_iadd hx hb dL_law_177 ?_
        refine w_top (y := nI (i + 1)) (nI_1 i) ?_
        refine lw_sld (k := i + 1) (by omega) hN S X I dL_law_178 ?_
        refine lw_dki (As := [.int (xs (i + 1))]) (rest := []) S I (met_won l D h kL kV kF cA H.size mk n L bb V F (xs (i + 1)) hn) (cwV 1 S.2.2.2.2 (lw_V q57 q58 q59 q11 q60) rfl rfl rfl (by decide +kernel) ⟨Nat.le_of_ble_eq_true rfl, Nat.le_of_ble_eq_true rfl⟩) rfl hl.1 (Nat.le_of_ble_eq_true rfl) rfl dL_law_179 ⟨Nat.le_of_ble_eq_true rfl, Nat.le_of_ble_eq_true rfl⟩ (fun r1 u' H locs hp1 I => ?_)
        refine lv_aload_n hx hb dL_law_182 rfl (lv_at hl 2 rfl) ?_
        refine lv_aload_n hx hb dL_law_183 rfl (lv_at hl 0 rfl) ?_
        refine lv_iload_n hx hb dL_law_184 rfl (lv_at hl 3 rfl) ?_
        refine lv_iconst (v := 1) hx hb dL_law_185 (by decide) ?_
        refine lv_iadd hx hb dL_law_186 ?_
        refine w_top (y := nI (i + 1)) (nI_1 i) ?_
        refine lw_sld (k := i + 1) (by omega) hN S X I dL_law_187 ?_
        refine lw_mdi (As := [.int (xs (i + 1))]) (rest := [.int r1]) S I (mmt_won l D g kB kC kW cZ cI H.size B n C w (xs (i + 1)) hn) (cwV 1 S.2.2.2.2 (lw_V q145 q146 q147 q12 q148) rfl rfl rfl (by decide +kernel) ⟨Nat.le_of_ble_eq_true rfl, Nat.le_of_ble_eq_true rfl⟩) rfl hl.1 (Nat.le_of_ble_eq_true rfl) rfl dL_law_188 ⟨Nat.le_of_ble_eq_true rfl, Nat.le_of_ble_eq_true rfl⟩ (fun r2 v' H locs hp2 I => ?_)
        obtain ⟨e1, b1, V1, F1, rfl⟩ := hp1
        obtain ⟨e2, w1, rfl⟩ := hp2
        refine lv_icmp_eq (tgt := 288) hx hb dL_law_191 (by decide) (fun c3 => ?_) (fun c3 => ?_)
        · exact NX mk n L b1 V1 F1 B C w1 H locs hrl I
        · exact absurd (e1.trans (Eq.trans (rl_won hrl _) e2.symm)) c3
      | 4, _ =>
        refine lv_tableIn (off := 164) (tgt := 196) hx hb dL_law_32 (by decide) (by decide) rfl (by decide) ?_
        refine lv_aload_n hx hb dL_law_196 rfl (lv_at hl 1 rfl) ?_
        refine lv_aload_n hx hb dL_law_197 rfl (lv_at hl 0 rfl) ?_
        refine lv_iload_n hx hb dL_law_198 rfl (lv_at hl 3 rfl) ?_
        refine lv_iconst (v := 1) hx hb dL_law_199 (by decide) ?_
        refine lv_iadd hx hb dL_law_200 ?_
        refine w_top (y := nI (i + 1)) (nI_1 i) ?_
        refine lw_sld (k := i + 1) (by omega) hN S X I dL_law_201 ?_
        refine lw_dki (As := [.int (xs (i + 1))]) (rest := []) S I (met_choice l D h kL kV kF cA H.size mk n L bb V F (xs (i + 1)) hn) (cwV 1 S.2.2.2.2 (lw_V q96 q97 q98 q11 q99) rfl rfl rfl (by decide +kernel) ⟨Nat.le_of_ble_eq_true rfl, Nat.le_of_ble_eq_true rfl⟩) rfl hl.1 (Nat.le_of_ble_eq_true rfl) rfl dL_law_202 ⟨Nat.le_of_ble_eq_true rfl, Nat.le_of_ble_eq_true rfl⟩ (fun r1 u' H locs hp1 I => ?_)
        refine lv_aload_n hx hb dL_law_205 rfl (lv_at hl 2 rfl) ?_
        refine lv_aload_n hx hb dL_law_206 rfl (lv_at hl 0 rfl) ?_
        refine lv_iload_n hx hb dL_law_207 rfl (lv_at hl 3 rfl) ?_
        refine lv_iconst (v := 1) hx hb dL_law_208 (by decide) ?_
        refine lv_iadd hx hb dL_law_209 ?_
        refine w_top (y := nI (i + 1)) (nI_1 i) ?_
        refine lw_sld (k := i + 1) (by omega) hN S X I dL_law_210 ?_
        refine lw_mdi (As := [.int (xs (i + 1))]) (rest := [.int r1]) S I (mmt_choice l D g kB kC kW cZ cI H.size B n C w (xs (i + 1)) hn) (cwV 1 S.2.2.2.2 (lw_V q163 q164 q165 q12 q166) rfl rfl rfl (by decide +kernel) ⟨Nat.le_of_ble_eq_true rfl, Nat.le_of_ble_eq_true rfl⟩) rfl hl.1 (Nat.le_of_ble_eq_true rfl) rfl dL_law_211 ⟨Nat.le_of_ble_eq_true rfl, Nat.le_of_ble_eq_true rfl⟩ (fun r2 v' H locs hp2 I => ?_)
        obtain ⟨e1, b1, V1, F1, rfl⟩ := hp1
        obtain ⟨e2, w1, rfl⟩ := hp2
        refine lv_icmp_eq (tgt := 288) hx hb dL_law_214 (by decide) (fun c3 => ?_) (fun c3 => ?_)
        · exact NX mk n L b1 V1 F1 B C w1 H locs hrl I
        · exact absurd (e1.trans (Eq.trans (rl_cho hrl _) e2.symm)) c3
      | 5, _ =>
        refine lv_tableIn (off := 187) (tgt := 219) hx hb dL_law_32 (by decide) (by decide) rfl (by decide) ?_
        refine lv_aload_n hx hb dL_law_219 rfl (lv_at hl 1 rfl) ?_
        refine lv_aload_n hx hb dL_law_220 rfl (lv_at hl 0 rfl) ?_
        refine lv_iload_n hx hb dL_law_221 rfl (lv_at hl 3 rfl) ?_
        refine lv_iconst (v := 1) hx hb dL_law_222 (by decide) ?_
        refine lv_iadd hx hb dL_law_223 ?_
        refine w_top (y := nI (i + 1)) (nI_1 i) ?_
        refine lw_sld (k := i + 1) (by omega) hN S X I dL_law_224 ?_
        refine lw_dki (As := [.int (xs (i + 1))]) (rest := []) S I (met_count l D h kL kV kF cA H.size mk n L bb V F (xs (i + 1)) hn) (cwV 1 S.2.2.2.2 (lw_V q100 q101 q102 q11 q103) rfl rfl rfl (by decide +kernel) ⟨Nat.le_of_ble_eq_true rfl, Nat.le_of_ble_eq_true rfl⟩) rfl hl.1 (Nat.le_of_ble_eq_true rfl) rfl dL_law_225 ⟨Nat.le_of_ble_eq_true rfl, Nat.le_of_ble_eq_true rfl⟩ (fun r1 u' H locs hp1 I => ?_)
        refine lv_aload_n hx hb dL_law_228 rfl (lv_at hl 2 rfl) ?_
        refine lv_aload_n hx hb dL_law_229 rfl (lv_at hl 0 rfl) ?_
        refine lv_iload_n hx hb dL_law_230 rfl (lv_at hl 3 rfl) ?_
        refine lv_iconst (v := 1) hx hb dL_law_231 (by decide) ?_
        refine lv_iadd hx hb dL_law_232 ?_
        refine w_top (y := nI (i + 1)) (nI_1 i) ?_
        refine lw_sld (k := i + 1) (by omega) hN S X I dL_law_233 ?_
        refine lw_mdi (As := [.int (xs (i + 1))]) (rest := [.int r1]) S I (mmt_count l D g kB kC kW cZ cI H.size B n C w (xs (i + 1)) hn) (cwV 1 S.2.2.2.2 (lw_V q167 q168 q169 q12 q170) rfl rfl rfl (by decide +kernel) ⟨Nat.le_of_ble_eq_true rfl, Nat.le_of_ble_eq_true rfl⟩) rfl hl.1 (Nat.le_of_ble_eq_true rfl) rfl dL_law_234 ⟨Nat.le_of_ble_eq_true rfl, Nat.le_of_ble_eq_true rfl⟩ (fun r2 v' H locs hp2 I => ?_)
        obtain ⟨e1, b1, V1, F1, rfl⟩ := hp1
        obtain ⟨e2, w1, rfl⟩ := hp2
        refine lv_icmp_eq (tgt := 288) hx hb dL_law_237 (by decide) (fun c3 => ?_) (fun c3 => ?_)
        · exact NX mk n L b1 V1 F1 B C w1 H locs hrl I
        · exact absurd (e1.trans (Eq.trans (rl_cnt hrl _) e2.symm)) c3
      | 6, _ =>
        refine lv_tableIn (off := 210) (tgt := 242) hx hb dL_law_32 (by decide) (by decide) rfl (by decide) ?_
        refine lv_aload_n hx hb dL_law_242 rfl (lv_at hl 1 rfl) ?_
        refine lv_aload_n hx hb dL_law_243 rfl (lv_at hl 0 rfl) ?_
        refine lv_iload_n hx hb dL_law_244 rfl (lv_at hl 3 rfl) ?_
        refine lv_iconst (v := 1) hx hb dL_law_245 (by decide) ?_
        refine lv_iadd hx hb dL_law_246 ?_
        refine w_top (y := nI (i + 1)) (nI_1 i) ?_
        refine lw_sld (k := i + 1) (by omega) hN S X I dL_law_247 ?_
        refine lw_dki (As := [.int (xs (i + 1))]) (rest := []) S I (met_spare l D h kL kV kF cA H.size mk n L bb V F (xs (i + 1)) hn) (cwV 1 S.2.2.2.2 (lw_V q104 q105 q106 q11 q107) rfl rfl rfl (by decide +kernel) ⟨Nat.le_of_ble_eq_true rfl, Nat.le_of_ble_eq_true rfl⟩) rfl hl.1 (Nat.le_of_ble_eq_true rfl) rfl dL_law_248 ⟨Nat.le_of_ble_eq_true rfl, Nat.le_of_ble_eq_true rfl⟩ (fun r1 u' H locs hp1 I => ?_)
        refine lv_aload_n hx hb dL_law_251 rfl (lv_at hl 2 rfl) ?_
        refine lv_aload_n hx hb dL_law_252 rfl (lv_at hl 0 rfl) ?_
        refine lv_iload_n hx hb dL_law_253 rfl (lv_at hl 3 rfl) ?_
        refine lv_iconst (v := 1) hx hb dL_law_254 (by decide) ?_
        refine lv_iadd hx hb dL_law_255 ?_
        refine w_top (y := nI (i + 1)) (nI_1 i) ?_
        refine lw_sld (k := i + 1) (by omega) hN S X I dL_law_256 ?_
        refine lw_mdi (As := [.int (xs (i + 1))]) (rest := [.int r1]) S I (mmt_spare l D g kB kC kW cZ cI H.size B n C w (xs (i + 1)) hn) (cwV 1 S.2.2.2.2 (lw_V q171 q172 q173 q12 q174) rfl rfl rfl (by decide +kernel) ⟨Nat.le_of_ble_eq_true rfl, Nat.le_of_ble_eq_true rfl⟩) rfl hl.1 (Nat.le_of_ble_eq_true rfl) rfl dL_law_257 ⟨Nat.le_of_ble_eq_true rfl, Nat.le_of_ble_eq_true rfl⟩ (fun r2 v' H locs hp2 I => ?_)
        obtain ⟨e1, b1, V1, F1, rfl⟩ := hp1
        obtain ⟨e2, w1, rfl⟩ := hp2
        refine lv_icmp_eq (tgt := 288) hx hb dL_law_260 (by decide) (fun c3 => ?_) (fun c3 => ?_)
        · exact NX mk n L b1 V1 F1 B C w1 H locs hrl I
        · exact absurd (e1.trans (Eq.trans (rl_spa hrl _) e2.symm)) c3
      | 7, _ =>
        refine lv_tableIn (off := 233) (tgt := 265) hx hb dL_law_32 (by decide) (by decide) rfl (by decide) ?_
        refine lv_aload_n hx hb dL_law_265 rfl (lv_at hl 1 rfl) ?_
        refine lv_aload_n hx hb dL_law_266 rfl (lv_at hl 0 rfl) ?_
        refine lv_iload_n hx hb dL_law_267 rfl (lv_at hl 3 rfl) ?_
        refine lv_iconst (v := 1) hx hb dL_law_268 (by decide) ?_
        refine lv_iadd hx hb dL_law_269 ?_
        refine w_top (y := nI (i + 1)) (nI_1 i) ?_
        refine lw_sld (k := i + 1) (by omega) hN S X I dL_law_270 ?_
        refine lw_dki (As := [.int (xs (i + 1))]) (rest := []) S I (met_swapped l D h kL kV kF cA H.size mk n L bb V F (xs (i + 1)) j hj7 hn) (cwV 1 S.2.2.2.2 (lw_V q108 q109 q110 q11 q111) rfl rfl rfl (by decide +kernel) ⟨Nat.le_of_ble_eq_true rfl, Nat.le_of_ble_eq_true rfl⟩) rfl hl.1 (Nat.le_of_ble_eq_true rfl) rfl dL_law_271 ⟨Nat.le_of_ble_eq_true rfl, Nat.le_of_ble_eq_true rfl⟩ (fun r1 u' H locs hp1 I => ?_)
        refine lv_aload_n hx hb dL_law_274 rfl (lv_at hl 2 rfl) ?_
        refine lv_aload_n hx hb dL_law_275 rfl (lv_at hl 0 rfl) ?_
        refine lv_iload_n hx hb dL_law_276 rfl (lv_at hl 3 rfl) ?_
        refine lv_iconst (v := 1) hx hb dL_law_277 (by decide) ?_
        refine lv_iadd hx hb dL_law_278 ?_
        refine w_top (y := nI (i + 1)) (nI_1 i) ?_
        refine lw_sld (k := i + 1) (by omega) hN S X I dL_law_279 ?_
        refine lw_mdi (As := [.int (xs (i + 1))]) (rest := [.int r1]) S I (mmt_swapped l D g kB kC kW cZ cI H.size B n C w (xs (i + 1)) j hj7 hn) (cwV 1 S.2.2.2.2 (lw_V q175 q176 q177 q12 q178) rfl rfl rfl (by decide +kernel) ⟨Nat.le_of_ble_eq_true rfl, Nat.le_of_ble_eq_true rfl⟩) rfl hl.1 (Nat.le_of_ble_eq_true rfl) rfl dL_law_280 ⟨Nat.le_of_ble_eq_true rfl, Nat.le_of_ble_eq_true rfl⟩ (fun r2 v' H locs hp2 I => ?_)
        obtain ⟨e1, b1, V1, F1, rfl⟩ := hp1
        obtain ⟨e2, w1, rfl⟩ := hp2
        refine lv_icmp_eq (tgt := 288) hx hb dL_law_283 (by decide) (fun c3 => ?_) (fun c3 => ?_)
        · exact NX mk n L b1 V1 F1 B C w1 H locs hrl I
        · exact absurd (e1.trans (Eq.trans (by rw [rl_swa hrl hj]) e2.symm)) c3
end Law
set_option maxHeartbeats 8000000 in
set_option maxRecDepth 100000 in
theorem whole_start {p : Program} {e : Env} {s : State} {m : MethodId} {below : List Frame} {meth : Method} {c : Code} (l : Launch) {b L : Nat} {xs : Nat → Int32} (hL : L ≤ 192) (C0 : lw_At p s m meth c b L xs) : W p l e room_1 s m #[Value.ref b] below meth c s.heap [] 0 0 (lw_Z below #[Value.ref b] s) (entryFrame m ([Value.ref b] : List Value).toArray 4) := by
  obtain ⟨hx, hb, hr, hml, hown, hts0, hX, hbl, hlk, -⟩ := C0
  have hts : ∀ w ∈ lw_all, w.before #[Value.ref b] s = true := fun w h => hts0 w (lw_all_tbl h)
  obtain ⟨c0_, iS0, hKn0⟩ := u_known (C := RX0) (T := TX0) (N := 7) (n := 7) hts0 (fun w h => lw_all_tbl (in_X0 w h)) (hts0 _ (lw_all_tbl q14))
  obtain ⟨c1_, iS1, hKn1⟩ := u_known (C := RX1) (T := TX1) (N := 4) (n := 4) hts0 (fun w h => lw_all_tbl (in_X1 w h)) (hts0 _ (lw_all_tbl q113))
  obtain ⟨D, hKc⟩ : ∃ D : va_G, ∀ (k : Nat) (q : vw_C), vwCl[k]? = some q → u_Kn s q.1 q.2.1 q.2.2 (D.1 k) (D.2 k) := by
    refine ⟨(fun k => if k = 0 then c0_ else c1_, fun k => if k = 0 then iS0 else iS1), ?_⟩
    intro k q hq
    match k, hq with
    | 0, hq => cases hq; exact hKn0
    | 1, hq => cases hq; exact hKn1
    | k + 2, hq => simp [vwCl] at hq
  have hK : va_K D vwCl [] s := ⟨hKc, fun k q hq => by simp at hq⟩
  have hP : va_P D vwCl [] s.heap := fun k q hq => by simp at hq
  have hD : va_D (fun q => s.heap.size ≤ q) [] := ⟨fun i j p q hp => by simp at hp, fun k q hq => by simp at hq⟩
  have hA : ∀ q : Nat, s.heap.size ≤ q → (fun q => s.heap.size ≤ q) q := fun _ z => z
  have hS : va_S (fun q => s.heap.size ≤ q) s.heap s.heap [] := va_S.rf
  have hl := lv_entry ([.ref b]) (n := 4) (Nat.le_of_ble_eq_true rfl)
  rw [lg_entry_eq]
  generalize (lg_sl ([.ref b]) ++ List.replicate (4 - (lg_sl ([.ref b])).length) Slot.unset).toArray = ls at hl ⊢
  have hl : lv_has ls 4 [(0, .ref b)] := hl
  have S : CallFix p m c cL_law 4 s #[Value.ref b] lw_all R_law := ⟨hx, hb, hml, hown, hts⟩
  refine va_new (ci := 0) (fs := [.int 0, .int 0, .null, .int 0, .null, .null, .int 0]) (C := RX0) (T := TX0) (N := 7) hx hb hts in_X0 tyX0 tyX0_ok hown (hts _ q13) (hts _ q14) (hts _ q11) hK hP hD hS hA rfl (fun j hj => by rcases (show j = 0 ∨ j = 1 ∨ j = 2 ∨ j = 3 ∨ j = 4 ∨ j = 5 ∨ j = 6 by omega) with rfl | rfl | rfl | rfl | rfl | rfl | rfl <;> rfl) (by decide) (by decide) dL_law_0 (fun h H hP hD hS => ?_)
  refine W.widen (k := 1) (n := 7) (by decide) (by decide) ?_
  have hP : va_P D vwCl [(h, .inr (0, [.int 0, .int 0, .null, .int 0, .null, .null, .int 0]))] H := hP
  have hD : va_D (fun q => s.heap.size ≤ q) [(h, .inr (0, [.int 0, .int 0, .null, .int 0, .null, .null, .int 0]))] := hD
  refine lv_dup hx hb dL_law_3 rfl ?_
  have hFc := va_free (wc := [(h, .inr (0, [.int 0, .int 0, .null, .int 0, .null, .null, .int 0]))]) hD hS hA [0] rfl
  refine va_callv (va_runI (As := []) (rest := [.ref h]) S (met_init l D h H.size) (cwI 0 hts (lw_meth q17) rfl rfl rfl (hts _ q11) (hts _ q15) (hts _ q16) rfl (by decide +kernel) ⟨Nat.le_of_ble_eq_true rfl, Nat.le_of_ble_eq_true rfl⟩) ⟨fun a U g mk q => by obtain ⟨q0, q1, qP, qK, qD⟩ := q; exact ⟨q0, q1, qP, va_K.moved (u := U) (U := U.calling g mk a) (Vm.Alike.refl U.vm) qK, qD⟩, fun U hU hW => ⟨rfl, by rw [hU], by rw [hU]; exact hP, va_K.moved hW.alike hK, hD.weaken (fun _ _ _ _ => trivial)⟩⟩ rfl rfl hl.1 rfl (lv_room (Nat.le_of_ble_eq_true rfl)) dL_law_4 ⟨Nat.le_of_ble_eq_true rfl, Nat.le_of_ble_eq_true rfl⟩) hS (fun q _ h => hFc q h) hFc (fun u t H1 locs ht hvm hw1 hB hz1 hk1 hS => ?_)
  obtain ⟨kL, kV, kF, cA⟩ := u
  obtain ⟨hP1, hK1, hD1⟩ := hB
  rw [ht] at hP1
  have hKd := va_K.moved hvm.symm hK1
  have hP : va_P D vwCl (dkW h kL kV kF cA (255, 0, -1, fun _ => 0, false, fun _ => some false, fun _ => some false)) H1 := hP1
  have hD : va_D (fun q => s.heap.size ≤ q) (dkW h kL kV kF cA (255, 0, -1, fun _ => 0, false, fun _ => some false, fun _ => some false)) := hD1.weaken (fun k q _ h => hFc q.1 h)
  refine W.widen (k := 4) (n := 43) (by decide) (by decide) ?_
  refine lv_astore_n (lv' := [(1, .ref h), (0, .ref b)]) hx hb dL_law_7 rfl hl (by decide) rfl (fun ls hl => ?_)
  refine va_new (ci := 1) (fs := [.null, .int 0, .null, .null]) (C := RX1) (T := TX1) (N := 4) hx hb hts in_X1 tyX1 tyX1_ok hown (hts _ q112) (hts _ q113) (hts _ q12) hK hP hD hS hA rfl (fun j hj => by rcases (show j = 0 ∨ j = 1 ∨ j = 2 ∨ j = 3 by omega) with rfl | rfl | rfl | rfl <;> rfl) (by decide) (by decide) dL_law_8 (fun g H hP hD hS => ?_)
  refine W.widen (k := 5) (n := 47) (by decide) (by decide) ?_
  refine lv_dup hx hb dL_law_11 rfl ?_
  have hPc := hP.sub (ws' := [(g, .inr (1, [.null, .int 0, .null, .null]))]) [4] rfl
  have hDc := hD.sub (ws' := [(g, .inr (1, [.null, .int 0, .null, .null]))]) [4] (by decide) rfl
  have hFc := va_free (wc := [(g, .inr (1, [.null, .int 0, .null, .null]))]) hD hS hA [4] rfl
  refine va_callv (va_runI (As := []) (rest := [.ref g]) S (mmt_init l D g H.size) (cwI 0 hts (lw_meth q116) rfl rfl rfl (hts _ q12) (hts _ q114) (hts _ q115) rfl (by decide +kernel) ⟨Nat.le_of_ble_eq_true rfl, Nat.le_of_ble_eq_true rfl⟩) ⟨fun a U g mk q => by obtain ⟨q0, q1, qP, qK, qD⟩ := q; exact ⟨q0, q1, qP, va_K.moved (u := U) (U := U.calling g mk a) (Vm.Alike.refl U.vm) qK, qD⟩, fun U hU hW => ⟨rfl, by rw [hU], by rw [hU]; exact hPc, va_K.moved hW.alike hK, hDc.weaken (fun _ _ _ _ => trivial)⟩⟩ rfl rfl hl.1 rfl (lv_room (Nat.le_of_ble_eq_true rfl)) dL_law_12 ⟨Nat.le_of_ble_eq_true rfl, Nat.le_of_ble_eq_true rfl⟩) hS (fun q _ h => hFc q h) hFc (fun u t H1 locs ht hvm hw1 hB hz1 hk1 hS => ?_)
  obtain ⟨kB, kC, kW, cZ, cI⟩ := u
  obtain ⟨hP1, hK1, hD1⟩ := hB
  rw [ht] at hP1
  have hKm := va_K.moved hvm.symm hK1
  obtain ⟨hP, hD⟩ := va_join (wr := dkW h kL kV kF cA (255, 0, -1, fun _ => 0, false, fun _ => some false, fun _ => some false)) (w1 := mdW g kB kC kW cZ cI (fun _ => false, 0, fun _ => 0, fun _ => false)) hP hD [4] [0, 1, 2, 3] rfl rfl (by decide) (by decide) hk1 hFc hP1 hD1
  refine W.widen (k := 8) (n := 587) (by decide) (by decide) ?_
  refine lv_astore_n (lv' := [(2, .ref g), (1, .ref h), (0, .ref b)]) hx hb dL_law_15 rfl hl (by decide) rfl (fun ls hl => ?_)
  refine lv_iconst (v := 0) hx hb dL_law_16 (by decide) ?_
  refine lv_istore_n (lv' := [(3, .int 0), (2, .ref g), (1, .ref h), (0, .ref b)]) hx hb dL_law_17 rfl hl (by decide) rfl (fun ls hl => ?_)
  have hl := lv_sub hl [3, 2, 1, 0] rfl
  exact law_loop hL S ⟨hX, hbl⟩ hr hlk L 0 255 0 (fun _ => 0) false (fun _ => some false) (fun _ => some false) (fun _ => false) (fun _ => 0) (fun _ => false) H1 locs ls (by omega) (by omega) ⟨by omega, fun k hk => (by rw [b_255, decide_eq_true hk]; rfl), fun k hk => by omega⟩ ⟨hKd, hKm, hP, hD, hS⟩ hl
end
section
-- ===== YOUR PART ENDS =====
set_option maxHeartbeats 4000000 in
theorem lw_walk (l : Launch) (b : Addr) (xs : List Int32) : MetFree l x (headSpec (Jvm.Cond.code x code maxLocals ret :: tables_1) room_1) (lw_P b xs) (fun _ _ _ _ _ => True) lw_Q := by
  refine MetFree.of_bodyS (code := code) (maxLocals := maxLocals) (ret := ret) (by decide) ?_ ?_
  · intro args s m h hn
    obtain ⟨meth, c, h1, h2, h3, h4, h5, h6, -, -⟩ := Cond.code_spec hn (atoms_spec (ws := Jvm.Cond.code x code maxLocals ret :: tables_1) h _ List.mem_cons_self)
    exact ⟨meth, c, h1, h2, h3, h4, h5, h6⟩
  · intro p e s m args below meth c s₁ B hml0 hP _
    obtain ⟨rfl, hx, hbd, hgv⟩ := hP
    obtain ⟨scr, harrAt, hlist, hof, hsmall⟩ := hx
    obtain ⟨hcb, hkn, -, -⟩ := State.arrayAt?_spec harrAt
    have hown : s.vm.findClass R_law = some m.cls := findClass_of_methodNamed B.named
    have hts0 : ∀ c ∈ (Jvm.Cond.code x code maxLocals ret :: tables_1), c.before #[Value.ref b] s = true := atoms_spec (ws := Jvm.Cond.code x code maxLocals ret :: tables_1) B.pre
    have hts : ∀ w ∈ lw_tbl, w.before #[Value.ref b] s = true := k2_hts_sels lw_privs (fun w hw => hts0 w (List.mem_cons_of_mem _ hw)) lw_privs_ok
    have hml : c.maxLocals = 4 := B.maxLocals_eq (hts0 _ List.mem_cons_self)
    have X₀ : Stand p l e room_1 s m #[Value.ref b] below meth c s₁ [] 0 0 := Stand.of_body B
    have hh0 : s₁.heap = s.heap := by rw [B.state]; rfl
    have hsz : scr.slots.size = xs.length := by rw [← Array.length_toList, hlist, List.length_map]
    have hval : ∀ j : Nat, j < xs.length → scr.slots[j]? = some (.int (xs.getD j 0)) := fun j hj => by
      rw [← Array.getElem?_toList, hlist]
      simp [hj]
    have hbl : b < s.heap.size := (Array.getElem?_eq_some_iff.mp hcb).1
    have hX : va_X b xs.length (fun j => xs.getD j 0) s s.heap := ⟨scr, hcb, hof, hkn, hsz, hval⟩
    have K : W p l e room_1 s m #[Value.ref b] below meth c s₁.heap [] 0 0 (lw_Z below #[Value.ref b] s) (entryFrame m ([Value.ref b] : List Value).toArray 4) := by
      rw [hh0]
      exact whole_start l hbd ⟨B.exec, B.bytes, B.returns, hml, hown, hts, hX, hbl, B.notSynchronized, hgv⟩
    obtain ⟨t, a1, o, b1, b2, b3⟩ := K s₁ rfl X₀
    exact ⟨t, o, a1, b1, b2, b3⟩
theorem lw_pre_spec {args : Array Value} {s : State} (h : (Jvm.Cond.and given_1 narrow_1).before args s = true) (hr : rest_1_c.before args s = true) : ∃ (b : Addr) (xs : List Int32), lw_P b xs args s := by
  have hs := flat_of_before _ h
  have hq := flat_of_before _ hr
  have hc : (Cond.count 1).before args s = true := hs _ (by decide +kernel)
  have harr : (Cond.arrayOf (.arg 0) .int).before args s = true := hs _ (by decide +kernel)
  have hle : (Cond.le (.length (.arg 0)) (.int 192)).before args s = true := hs _ (by decide +kernel)
  have hlen : (Cond.isInt (.length (.arg 0))).before args s = true := hq _ (by decide +kernel)
  have hall : (Cond.all (.arg 0) (.isInt (.elem (.arg 0) (.index 0)))).before args s = true := hq _ (by decide +kernel)
  obtain ⟨b, xs, hb, hx⟩ := State.ints_of_pre rfl harr hlen hall
  have hsm : xs.length < 2 ^ 31 := hx.choose_spec.2.2.2
  have hev : (Term.length (.arg 0)).eval args s none [] s = some (.int xs.length.toInt32) := hx.length_eval hb
  have hv := Cond.le_ints hev (show (Term.int 192).eval args s none [] s = some (.int 192) from rfl)
  have hd : xs.length.toInt32 ≤ 192 := by
    simpa [Cond.before, Cond.holds, hv] using hle
  have hN : xs.length ≤ 192 := (Int32.ofNat_le_ofNat hsm (by decide)).mp (show Int32.ofNat xs.length ≤ Int32.ofNat 192 from hd)
  exact ⟨b, xs, Cond.one_arg hc (show args[0]? = some (.ref b) from hb), hx, hN, h⟩
theorem lw_comes (l : Launch) : Comes l x (Jvm.Cond.code x code maxLocals ret :: tables_1) room_1 (fun tb e args s => Calls_1 tb e args s ∧ rest_1 tb e args s ∧ Pre_1 tb e args s)
    (fun _ _ args s o t => lw_Q args s o t) := by
  intro p e ha hc hk s m args below hf hfit hheap happ hpre
  obtain ⟨b, xs, hP⟩ := lw_pre_spec hpre.2.2 hpre.2.1
  obtain ⟨k, o, h1, h2, h3, hQ⟩ := lw_walk l b xs p e ha hc hk s m args below hf ((Spec.applies_iff_loose hf).mp happ).1 hP trivial
  exact ⟨k, o, h1, h2, h3, hQ⟩
theorem lw_frame {s t : State} {o : Outcome} {args : Array Value} (h : Framed s o t [] 600000 7290000) :
    Framed s o t (fieldLocs frame_1_writes args s ++ arrayLocs frame_1_arrays args s ++ staticLocs frame_1_statics s) 600000 7290000 := h
theorem lw_limb (L : Cond) (hL : ∀ (args : Array Value) (s t : State), L.after args s (.returned (some (.int 1))) t = true) :
    ArmFor flags0 classFile x code maxLocals ret World_1 tables_1 room_1 Calls_1 rest_1 Pre_1
      (fun tb e a s o t => postC L tb e a s o t ∧ Framed s o t (fieldLocs frame_1_writes a s ++ arrayLocs frame_1_arrays a s ++ staticLocs frame_1_statics s) 600000 7290000) := by
  intro l _ _ _ p e ha hc hk s m args below hf hfit hheap happ hpre
  obtain ⟨k, o, h1, h2, h3, rfl, hF⟩ := lw_comes l p e ha hc hk s m args below hf hfit hheap happ hpre
  exact ⟨k, _, h1, h2, h3, hL args s _, lw_frame hF⟩
theorem i_vc : Claimed_1_1 ∧ Claimed_1_2 := ⟨lw_limb limb_1_1 (fun args s t => by simp [limb_1_1, Cond.after, Cond.holds, Cond.value]), lw_limb limb_1_2 (fun args s t => Cond.after_iff.mpr (by
  first | (rw [show limb_1_2 = Cond.eq .result (.int 1) from rfl, Cond.eq_ints (x := 1) (y := 1) rfl rfl]; simp; done) | (simp [limb_1_2, Cond.value, Term.eval]; done)))⟩
end
