section
-- ===== PART A: goes FIRST, ahead of the names: the tables' words, and 'selects' of the private methods out of them =====
/-- a private method of a class that the tables say can be made, by its rows of tables_1 -/
def lw_okq (q : MethodName × Nat) : Prop := (q.1.cls ≠ "java/lang/invoke/MethodHandle" ∧ q.1.cls ≠ "java/lang/invoke/VarHandle") ∧ Cond.instantiable q.1.cls q.2 ∈ tables_1 ∧ Cond.privateMethod q.1 ∈ tables_1 ∧ Cond.instanceMethod q.1 ∈ tables_1
set_option maxRecDepth 100000
theorem lw_p0 : lw_okq (⟨"BreakHeap", "squeeze", "()V"⟩, 11) := ⟨⟨by decide +kernel, by decide +kernel⟩, List.mem_of_getElem? (i := 4) rfl, List.mem_of_getElem? (i := 55) rfl, List.mem_of_getElem? (i := 56) rfl⟩
theorem lw_p1 : lw_okq (⟨"BreakHeap", "markReached", "()V"⟩, 11) := ⟨⟨by decide +kernel, by decide +kernel⟩, List.mem_of_getElem? (i := 4) rfl, List.mem_of_getElem? (i := 59) rfl, List.mem_of_getElem? (i := 60) rfl⟩
theorem lw_p2 : lw_okq (⟨"BreakHeap", "reach", "(I)V"⟩, 11) := ⟨⟨by decide +kernel, by decide +kernel⟩, List.mem_of_getElem? (i := 4) rfl, List.mem_of_getElem? (i := 63) rfl, List.mem_of_getElem? (i := 64) rfl⟩
theorem lw_p3 : lw_okq (⟨"BreakHeap", "listBreaks", "()V"⟩, 11) := ⟨⟨by decide +kernel, by decide +kernel⟩, List.mem_of_getElem? (i := 4) rfl, List.mem_of_getElem? (i := 67) rfl, List.mem_of_getElem? (i := 68) rfl⟩
theorem lw_p4 : lw_okq (⟨"BreakHeap", "movedAddress", "(I)I"⟩, 11) := ⟨⟨by decide +kernel, by decide +kernel⟩, List.mem_of_getElem? (i := 4) rfl, List.mem_of_getElem? (i := 71) rfl, List.mem_of_getElem? (i := 72) rfl⟩
theorem lw_p5 : lw_okq (⟨"BreakHeap", "mendFields", "()V"⟩, 11) := ⟨⟨by decide +kernel, by decide +kernel⟩, List.mem_of_getElem? (i := 4) rfl, List.mem_of_getElem? (i := 75) rfl, List.mem_of_getElem? (i := 76) rfl⟩
theorem lw_p6 : lw_okq (⟨"BreakHeap", "slideDown", "()V"⟩, 11) := ⟨⟨by decide +kernel, by decide +kernel⟩, List.mem_of_getElem? (i := 4) rfl, List.mem_of_getElem? (i := 79) rfl, List.mem_of_getElem? (i := 80) rfl⟩
theorem lw_p7 : lw_okq (⟨"BreakHeap", "hasField", "(II)Z"⟩, 11) := ⟨⟨by decide +kernel, by decide +kernel⟩, List.mem_of_getElem? (i := 4) rfl, List.mem_of_getElem? (i := 95) rfl, List.mem_of_getElem? (i := 96) rfl⟩
theorem lw_p8 : lw_okq (⟨"BreakHeapModel", "mark", "()V"⟩, 4) := ⟨⟨by decide +kernel, by decide +kernel⟩, List.mem_of_getElem? (i := 123) rfl, List.mem_of_getElem? (i := 157) rfl, List.mem_of_getElem? (i := 158) rfl⟩
theorem lw_p9 : lw_okq (⟨"BreakHeapModel", "unused", "()I"⟩, 4) := ⟨⟨by decide +kernel, by decide +kernel⟩, List.mem_of_getElem? (i := 123) rfl, List.mem_of_getElem? (i := 161) rfl, List.mem_of_getElem? (i := 162) rfl⟩
theorem lw_p10 : lw_okq (⟨"BreakHeapModel", "set", "(IZI)V"⟩, 4) := ⟨⟨by decide +kernel, by decide +kernel⟩, List.mem_of_getElem? (i := 123) rfl, List.mem_of_getElem? (i := 165) rfl, List.mem_of_getElem? (i := 166) rfl⟩
theorem lw_p11 : lw_okq (⟨"BreakHeapModel", "take", "(II)V"⟩, 4) := ⟨⟨by decide +kernel, by decide +kernel⟩, List.mem_of_getElem? (i := 123) rfl, List.mem_of_getElem? (i := 177) rfl, List.mem_of_getElem? (i := 178) rfl⟩
theorem lw_p12 : lw_okq (⟨"BreakHeapModel", "place", "(II)I"⟩, 4) := ⟨⟨by decide +kernel, by decide +kernel⟩, List.mem_of_getElem? (i := 123) rfl, List.mem_of_getElem? (i := 185) rfl, List.mem_of_getElem? (i := 186) rfl⟩
def lw_privs_1 : List (MethodName × Nat) := [(⟨"BreakHeap", "squeeze", "()V"⟩, 11), (⟨"BreakHeap", "markReached", "()V"⟩, 11), (⟨"BreakHeap", "reach", "(I)V"⟩, 11), (⟨"BreakHeap", "listBreaks", "()V"⟩, 11), (⟨"BreakHeap", "movedAddress", "(I)I"⟩, 11), (⟨"BreakHeap", "mendFields", "()V"⟩, 11), (⟨"BreakHeap", "slideDown", "()V"⟩, 11), (⟨"BreakHeap", "hasField", "(II)Z"⟩, 11), (⟨"BreakHeapModel", "mark", "()V"⟩, 4), (⟨"BreakHeapModel", "unused", "()I"⟩, 4), (⟨"BreakHeapModel", "set", "(IZI)V"⟩, 4), (⟨"BreakHeapModel", "take", "(II)V"⟩, 4), (⟨"BreakHeapModel", "place", "(II)I"⟩, 4)]
theorem lw_r1 : ∀ q ∈ lw_privs_1, lw_okq q := List.forall_mem_cons.mpr ⟨lw_p0, List.forall_mem_cons.mpr ⟨lw_p1, List.forall_mem_cons.mpr ⟨lw_p2, List.forall_mem_cons.mpr ⟨lw_p3, List.forall_mem_cons.mpr ⟨lw_p4, List.forall_mem_cons.mpr ⟨lw_p5, List.forall_mem_cons.mpr ⟨lw_p6, List.forall_mem_cons.mpr ⟨lw_p7, List.forall_mem_cons.mpr ⟨lw_p8, List.forall_mem_cons.mpr ⟨lw_p9, List.forall_mem_cons.mpr ⟨lw_p10, List.forall_mem_cons.mpr ⟨lw_p11, List.forall_mem_cons.mpr ⟨lw_p12, fun _ h => absurd h List.not_mem_nil⟩⟩⟩⟩⟩⟩⟩⟩⟩⟩⟩⟩⟩
def lw_privs : List (MethodName × Nat) := lw_privs_1
def lw_tbl : List Cond := k2_sels lw_privs ++ tables_1
theorem lw_privs_ok : ∀ q ∈ lw_privs, lw_okq q := lw_r1
-- ===== ONE list of words for every method: the tables' words that hold all through a run =====
def lw_all : List Cond := lw_tbl.filter goodWord
/-- a word of the tables by its place: claim/WORDS.tsv -/
theorem lw_w {w : Cond} (i : Nat) (h : lw_tbl[i]? = some w) (g : goodWord w = true) : w ∈ lw_all := List.mem_filter.mpr ⟨List.mem_of_getElem? h, g⟩
theorem lw_all_tbl {w : Cond} (h : w ∈ lw_all) : w ∈ lw_tbl := (List.mem_filter.mp h).1
theorem lw_self : GoodIn lw_all lw_all := fun w h => ⟨h, good_of_word (List.mem_filter.mp h).2⟩
/-- a class's field words, by their places -/
theorem lw_in (ws : List Cond) (ps : List Nat) (hp : ws = ps.filterMap (fun i => lw_tbl[i]?)) (hg : ws.all goodWord = true) : ∀ w ∈ ws, w ∈ lw_all := by
  intro w h
  have h1 := List.all_eq_true.mp hg w h
  rw [hp] at h
  obtain ⟨i, -, hi⟩ := List.mem_filterMap.mp h
  exact lw_w i hi h1
/-- the words of a contract for the method y with code b, L locals, answer r -/
abbrev ws_ (y : MethodName) (b : ByteArray) (L : Nat) (r : Option FieldType) : List Cond := Cond.code y b L r :: lw_all
theorem lw_meth {y : MethodName} {b : ByteArray} {L : Nat} {r : Option FieldType} (h : Cond.code y b L r ∈ lw_all) : GoodIn lw_all (ws_ y b L r) := by
  intro w hw
  rcases List.mem_cons.mp hw with e | e
  · rw [e]
    exact lw_self _ h
  · exact lw_self _ e
theorem lw_app {a c : List Cond} (ha : ∀ w ∈ a, w ∈ lw_all) (hc : GoodIn lw_all c) : GoodIn lw_all (a ++ c) := by
  intro w hw
  rcases List.mem_append.mp hw with e | e
  · exact lw_self w (ha w e)
  · exact hc w e
/-- what a call through an object asks: cwV n hts (lw_V ..) -/
theorem lw_V {own : String} {idx : Nat} {C : String} {y : MethodName} {b : ByteArray} {L : Nat} {r : Option FieldType} (h1 : Cond.methodLink own idx y ∈ lw_all) (h2 : Cond.instanceMethod y ∈ lw_all) (h3 : Cond.selects C y y ∈ lw_all) (h4 : Cond.initialized C ∈ lw_all) (h5 : Cond.code y b L r ∈ lw_all) : GoodIn lw_all (wsV own idx C y (ws_ y b L r)) := by
  refine lw_app ?_ (lw_meth h5)
  intro w hw
  simp only [List.mem_cons, List.not_mem_nil, or_false] at hw
  rcases hw with e | e | e | e
  · rw [e]; exact h1
  · rw [e]; exact h2
  · rw [e]; exact h3
  · rw [e]; exact h4
/-- what a static call asks: va_cwS n hts (lw_S ..) -/
theorem lw_S {own : String} {idx : Nat} {y : MethodName} {b : ByteArray} {L : Nat} {r : Option FieldType} (h1 : Cond.methodLink own idx y ∈ lw_all) (h2 : Cond.static y ∈ lw_all) (h3 : Cond.initialized y.cls ∈ lw_all) (h4 : Cond.code y b L r ∈ lw_all) : GoodIn lw_all (va_wsS own idx y (ws_ y b L r)) := by
  refine lw_app ?_ (lw_meth h4)
  intro w hw
  simp only [List.mem_cons, List.not_mem_nil, or_false] at hw
  rcases hw with e | e | e
  · rw [e]; exact h1
  · rw [e]; exact h2
  · rw [e]; exact h3
/-- the words of a contract for a method WITH HANDLERS (hh: its table) -/
abbrev wsW_ (y : MethodName) (b : ByteArray) (L : Nat) (r : Option FieldType) (hh : List (Nat × Nat × Nat × Nat)) : List Cond := Cond.codeWith y b L r hh :: lw_all
theorem lw_methW {y : MethodName} {b : ByteArray} {L : Nat} {r : Option FieldType} {hh : List (Nat × Nat × Nat × Nat)} (h : Cond.codeWith y b L r hh ∈ lw_all) : GoodIn lw_all (wsW_ y b L r hh) := by
  intro w hw
  rcases List.mem_cons.mp hw with e | e
  · rw [e]
    exact lw_self _ h
  · exact lw_self _ e
/-- any list of words by their places (lw_in), good -/
theorem lw_good {ws : List Cond} (h : ∀ w ∈ ws, w ∈ lw_all) : GoodIn lw_all ws := fun w hw => lw_self w (h w hw)
/-- what a call of a method with handlers asks: vx_cwVW n hts (lw_VW ..), vx_cwSW n hts (lw_SW ..) -/
theorem lw_VW {own : String} {idx : Nat} {C : String} {y : MethodName} {b : ByteArray} {L : Nat} {r : Option FieldType} {hh : List (Nat × Nat × Nat × Nat)} (h1 : Cond.methodLink own idx y ∈ lw_all) (h2 : Cond.instanceMethod y ∈ lw_all) (h3 : Cond.selects C y y ∈ lw_all) (h4 : Cond.initialized C ∈ lw_all) (h5 : Cond.codeWith y b L r hh ∈ lw_all) : GoodIn lw_all (wsV own idx C y (wsW_ y b L r hh)) := by
  refine lw_app ?_ (lw_methW h5)
  intro w hw
  simp only [List.mem_cons, List.not_mem_nil, or_false] at hw
  rcases hw with e | e | e | e
  · rw [e]; exact h1
  · rw [e]; exact h2
  · rw [e]; exact h3
  · rw [e]; exact h4
theorem lw_SW {own : String} {idx : Nat} {y : MethodName} {b : ByteArray} {L : Nat} {r : Option FieldType} {hh : List (Nat × Nat × Nat × Nat)} (h1 : Cond.methodLink own idx y ∈ lw_all) (h2 : Cond.static y ∈ lw_all) (h3 : Cond.initialized y.cls ∈ lw_all) (h4 : Cond.codeWith y b L r hh ∈ lw_all) : GoodIn lw_all (va_wsS own idx y (wsW_ y b L r hh)) := by
  refine lw_app ?_ (lw_methW h4)
  intro w hw
  simp only [List.mem_cons, List.not_mem_nil, or_false] at hw
  rcases hw with e | e | e
  · rw [e]; exact h1
  · rw [e]; exact h2
  · rw [e]; exact h3
/-- a word by its place in its run of the tables -/
theorem lw_at {r : List Cond} (hr : ∀ w ∈ r, w ∈ lw_tbl) {w : Cond} (i : Nat) (h : r[i]? = some w) : w ∈ lw_tbl := hr w (List.mem_of_getElem? h)
theorem lw_g {w : Cond} (h : w ∈ lw_tbl) (g : goodWord w = true) : w ∈ lw_all := List.mem_filter.mpr ⟨h, g⟩
theorem lw_ms : ∀ w ∈ k2_sels lw_privs, w ∈ lw_tbl := fun w h => show w ∈ k2_sels lw_privs ++ tables_1 from List.mem_append_left _ h
theorem lw_m0 : ∀ w ∈ tables_1, w ∈ lw_tbl := fun w h => show w ∈ k2_sels lw_privs ++ tables_1 from List.mem_append_right (k2_sels lw_privs) h
theorem qs0 : (Cond.selects "BreakHeap" ⟨"BreakHeap", "squeeze", "()V"⟩ ⟨"BreakHeap", "squeeze", "()V"⟩) ∈ lw_all := lw_g (lw_at lw_ms 0 rfl) rfl
theorem qs1 : (Cond.selects "BreakHeap" ⟨"BreakHeap", "markReached", "()V"⟩ ⟨"BreakHeap", "markReached", "()V"⟩) ∈ lw_all := lw_g (lw_at lw_ms 1 rfl) rfl
theorem qs2 : (Cond.selects "BreakHeap" ⟨"BreakHeap", "reach", "(I)V"⟩ ⟨"BreakHeap", "reach", "(I)V"⟩) ∈ lw_all := lw_g (lw_at lw_ms 2 rfl) rfl
theorem qs3 : (Cond.selects "BreakHeap" ⟨"BreakHeap", "listBreaks", "()V"⟩ ⟨"BreakHeap", "listBreaks", "()V"⟩) ∈ lw_all := lw_g (lw_at lw_ms 3 rfl) rfl
theorem qs4 : (Cond.selects "BreakHeap" ⟨"BreakHeap", "movedAddress", "(I)I"⟩ ⟨"BreakHeap", "movedAddress", "(I)I"⟩) ∈ lw_all := lw_g (lw_at lw_ms 4 rfl) rfl
theorem qs5 : (Cond.selects "BreakHeap" ⟨"BreakHeap", "mendFields", "()V"⟩ ⟨"BreakHeap", "mendFields", "()V"⟩) ∈ lw_all := lw_g (lw_at lw_ms 5 rfl) rfl
theorem qs6 : (Cond.selects "BreakHeap" ⟨"BreakHeap", "slideDown", "()V"⟩ ⟨"BreakHeap", "slideDown", "()V"⟩) ∈ lw_all := lw_g (lw_at lw_ms 6 rfl) rfl
theorem qs7 : (Cond.selects "BreakHeap" ⟨"BreakHeap", "hasField", "(II)Z"⟩ ⟨"BreakHeap", "hasField", "(II)Z"⟩) ∈ lw_all := lw_g (lw_at lw_ms 7 rfl) rfl
theorem qs8 : (Cond.selects "BreakHeapModel" ⟨"BreakHeapModel", "mark", "()V"⟩ ⟨"BreakHeapModel", "mark", "()V"⟩) ∈ lw_all := lw_g (lw_at lw_ms 8 rfl) rfl
theorem qs9 : (Cond.selects "BreakHeapModel" ⟨"BreakHeapModel", "unused", "()I"⟩ ⟨"BreakHeapModel", "unused", "()I"⟩) ∈ lw_all := lw_g (lw_at lw_ms 9 rfl) rfl
theorem qs10 : (Cond.selects "BreakHeapModel" ⟨"BreakHeapModel", "set", "(IZI)V"⟩ ⟨"BreakHeapModel", "set", "(IZI)V"⟩) ∈ lw_all := lw_g (lw_at lw_ms 10 rfl) rfl
theorem qs11 : (Cond.selects "BreakHeapModel" ⟨"BreakHeapModel", "take", "(II)V"⟩ ⟨"BreakHeapModel", "take", "(II)V"⟩) ∈ lw_all := lw_g (lw_at lw_ms 11 rfl) rfl
theorem qs12 : (Cond.selects "BreakHeapModel" ⟨"BreakHeapModel", "place", "(II)I"⟩ ⟨"BreakHeapModel", "place", "(II)I"⟩) ∈ lw_all := lw_g (lw_at lw_ms 12 rfl) rfl
end
section
/-! BreakHeap -/
set_option maxRecDepth 100000
def RX0 : String := "BreakHeap"
def TX0 : u_T := fun k => match k with
  | 0 => ("BreakHeap", "top", "I", false)
  | 1 => ("BreakHeap", "word", "[I", true)
  | 2 => ("BreakHeap", "refers", "[Z", true)
  | 3 => ("BreakHeap", "held", "[I", true)
  | 4 => ("BreakHeap", "heldRefers", "[Z", true)
  | 5 => ("BreakHeap", "reached", "[Z", true)
  | 6 => ("BreakHeap", "waiting", "I", false)
  | 7 => ("BreakHeap", "stack", "[I", true)
  | 8 => ("BreakHeap", "breaks", "I", false)
  | 9 => ("BreakHeap", "breakAt", "[I", true)
  | _ => ("BreakHeap", "breakBy", "[I", true)
def tyX0 : Nat → FieldType := fun k => match k with
  | 0 => .int
  | 1 => .array .int
  | 2 => .array .boolean
  | 3 => .array .int
  | 4 => .array .boolean
  | 5 => .array .boolean
  | 6 => .int
  | 7 => .array .int
  | 8 => .int
  | 9 => .array .int
  | _ => .array .int
abbrev wsX00 : List Cond := u_ws RX0 TX0 11
theorem nmX0 : ∀ a, a < 11 → ∀ b, b < 11 → a ≠ b → (TX0 a).2.1 ≠ (TX0 b).2.1 := by decide +kernel
theorem tyX0_ok : ∀ k, k < 11 → parseFieldDescriptor (TX0 k).2.2.1 = some (tyX0 k) := by decide +kernel
abbrev cX0_init : ByteArray := prog_1_method_1_code
def yX0_init : MethodName := ⟨RX0, "<init>", "()V"⟩
theorem dX0_init_0 : decode cX0_init 0 = .ok (.aload_n 0, 1) := by decide +kernel
theorem dX0_init_1 : decode cX0_init 1 = .ok (.invokespecial 1, 3) := by decide +kernel
theorem dX0_init_4 : decode cX0_init 4 = .ok (.aload_n 0, 1) := by decide +kernel
theorem dX0_init_5 : decode cX0_init 5 = .ok (.bipush 72, 2) := by decide +kernel
theorem dX0_init_7 : decode cX0_init 7 = .ok (.newarray .int, 2) := by decide +kernel
theorem dX0_init_9 : decode cX0_init 9 = .ok (.putfield 7, 3) := by decide +kernel
theorem dX0_init_12 : decode cX0_init 12 = .ok (.aload_n 0, 1) := by decide +kernel
theorem dX0_init_13 : decode cX0_init 13 = .ok (.bipush 72, 2) := by decide +kernel
theorem dX0_init_15 : decode cX0_init 15 = .ok (.newarray .boolean, 2) := by decide +kernel
theorem dX0_init_17 : decode cX0_init 17 = .ok (.putfield 13, 3) := by decide +kernel
theorem dX0_init_20 : decode cX0_init 20 = .ok (.aload_n 0, 1) := by decide +kernel
theorem dX0_init_21 : decode cX0_init 21 = .ok (.bipush 6, 2) := by decide +kernel
theorem dX0_init_23 : decode cX0_init 23 = .ok (.newarray .int, 2) := by decide +kernel
theorem dX0_init_25 : decode cX0_init 25 = .ok (.putfield 17, 3) := by decide +kernel
theorem dX0_init_28 : decode cX0_init 28 = .ok (.aload_n 0, 1) := by decide +kernel
theorem dX0_init_29 : decode cX0_init 29 = .ok (.bipush 6, 2) := by decide +kernel
theorem dX0_init_31 : decode cX0_init 31 = .ok (.newarray .boolean, 2) := by decide +kernel
theorem dX0_init_33 : decode cX0_init 33 = .ok (.putfield 20, 3) := by decide +kernel
theorem dX0_init_36 : decode cX0_init 36 = .ok (.aload_n 0, 1) := by decide +kernel
theorem dX0_init_37 : decode cX0_init 37 = .ok (.bipush 72, 2) := by decide +kernel
theorem dX0_init_39 : decode cX0_init 39 = .ok (.newarray .boolean, 2) := by decide +kernel
theorem dX0_init_41 : decode cX0_init 41 = .ok (.putfield 23, 3) := by decide +kernel
theorem dX0_init_44 : decode cX0_init 44 = .ok (.aload_n 0, 1) := by decide +kernel
theorem dX0_init_45 : decode cX0_init 45 = .ok (.bipush 40, 2) := by decide +kernel
theorem dX0_init_47 : decode cX0_init 47 = .ok (.newarray .int, 2) := by decide +kernel
theorem dX0_init_49 : decode cX0_init 49 = .ok (.putfield 26, 3) := by decide +kernel
theorem dX0_init_52 : decode cX0_init 52 = .ok (.aload_n 0, 1) := by decide +kernel
theorem dX0_init_53 : decode cX0_init 53 = .ok (.bipush 40, 2) := by decide +kernel
theorem dX0_init_55 : decode cX0_init 55 = .ok (.newarray .int, 2) := by decide +kernel
theorem dX0_init_57 : decode cX0_init 57 = .ok (.putfield 29, 3) := by decide +kernel
theorem dX0_init_60 : decode cX0_init 60 = .ok (.aload_n 0, 1) := by decide +kernel
theorem dX0_init_61 : decode cX0_init 61 = .ok (.bipush 40, 2) := by decide +kernel
theorem dX0_init_63 : decode cX0_init 63 = .ok (.newarray .int, 2) := by decide +kernel
theorem dX0_init_65 : decode cX0_init 65 = .ok (.putfield 32, 3) := by decide +kernel
theorem dX0_init_68 : decode cX0_init 68 = .ok (.return_, 1) := by decide +kernel
abbrev cX0_make : ByteArray := prog_1_method_2_code
def yX0_make : MethodName := ⟨RX0, "make", "(II)I"⟩
theorem dX0_make_0 : decode cX0_make 0 = .ok (.iload_n 1, 1) := by decide +kernel
theorem dX0_make_1 : decode cX0_make 1 = .ok (.invokestatic 35, 3) := by decide +kernel
theorem dX0_make_4 : decode cX0_make 4 = .ok (.ifCond .eq 14, 3) := by decide +kernel
theorem dX0_make_7 : decode cX0_make 7 = .ok (.iload_n 2, 1) := by decide +kernel
theorem dX0_make_8 : decode cX0_make 8 = .ok (.iconst 1, 1) := by decide +kernel
theorem dX0_make_9 : decode cX0_make 9 = .ok (.if_icmp .lt 9, 3) := by decide +kernel
theorem dX0_make_12 : decode cX0_make 12 = .ok (.iload_n 2, 1) := by decide +kernel
theorem dX0_make_13 : decode cX0_make 13 = .ok (.bipush 6, 2) := by decide +kernel
theorem dX0_make_15 : decode cX0_make 15 = .ok (.if_icmp .le 5, 3) := by decide +kernel
theorem dX0_make_18 : decode cX0_make 18 = .ok (.iconst (-1), 1) := by decide +kernel
theorem dX0_make_19 : decode cX0_make 19 = .ok (.ireturn, 1) := by decide +kernel
theorem dX0_make_20 : decode cX0_make 20 = .ok (.bipush 72, 2) := by decide +kernel
theorem dX0_make_22 : decode cX0_make 22 = .ok (.aload_n 0, 1) := by decide +kernel
theorem dX0_make_23 : decode cX0_make 23 = .ok (.getfield 39, 3) := by decide +kernel
theorem dX0_make_26 : decode cX0_make 26 = .ok (.isub, 1) := by decide +kernel
theorem dX0_make_27 : decode cX0_make 27 = .ok (.iload_n 2, 1) := by decide +kernel
theorem dX0_make_28 : decode cX0_make 28 = .ok (.iconst 1, 1) := by decide +kernel
theorem dX0_make_29 : decode cX0_make 29 = .ok (.iadd, 1) := by decide +kernel
theorem dX0_make_30 : decode cX0_make 30 = .ok (.if_icmp .ge 7, 3) := by decide +kernel
theorem dX0_make_33 : decode cX0_make 33 = .ok (.aload_n 0, 1) := by decide +kernel
theorem dX0_make_34 : decode cX0_make 34 = .ok (.invokevirtual 43, 3) := by decide +kernel
theorem dX0_make_37 : decode cX0_make 37 = .ok (.bipush 72, 2) := by decide +kernel
theorem dX0_make_39 : decode cX0_make 39 = .ok (.aload_n 0, 1) := by decide +kernel
theorem dX0_make_40 : decode cX0_make 40 = .ok (.getfield 39, 3) := by decide +kernel
theorem dX0_make_43 : decode cX0_make 43 = .ok (.isub, 1) := by decide +kernel
theorem dX0_make_44 : decode cX0_make 44 = .ok (.iload_n 2, 1) := by decide +kernel
theorem dX0_make_45 : decode cX0_make 45 = .ok (.iconst 1, 1) := by decide +kernel
theorem dX0_make_46 : decode cX0_make 46 = .ok (.iadd, 1) := by decide +kernel
theorem dX0_make_47 : decode cX0_make 47 = .ok (.if_icmp .ge 6, 3) := by decide +kernel
theorem dX0_make_50 : decode cX0_make 50 = .ok (.bipush (-2), 2) := by decide +kernel
theorem dX0_make_52 : decode cX0_make 52 = .ok (.ireturn, 1) := by decide +kernel
theorem dX0_make_53 : decode cX0_make 53 = .ok (.aload_n 0, 1) := by decide +kernel
theorem dX0_make_54 : decode cX0_make 54 = .ok (.getfield 39, 3) := by decide +kernel
theorem dX0_make_57 : decode cX0_make 57 = .ok (.istore_n 3, 1) := by decide +kernel
theorem dX0_make_58 : decode cX0_make 58 = .ok (.aload_n 0, 1) := by decide +kernel
theorem dX0_make_59 : decode cX0_make 59 = .ok (.getfield 7, 3) := by decide +kernel
theorem dX0_make_62 : decode cX0_make 62 = .ok (.iload_n 3, 1) := by decide +kernel
theorem dX0_make_63 : decode cX0_make 63 = .ok (.iload_n 2, 1) := by decide +kernel
theorem dX0_make_64 : decode cX0_make 64 = .ok (.iastore, 1) := by decide +kernel
theorem dX0_make_65 : decode cX0_make 65 = .ok (.aload_n 0, 1) := by decide +kernel
theorem dX0_make_66 : decode cX0_make 66 = .ok (.getfield 13, 3) := by decide +kernel
theorem dX0_make_69 : decode cX0_make 69 = .ok (.iload_n 3, 1) := by decide +kernel
theorem dX0_make_70 : decode cX0_make 70 = .ok (.iconst 0, 1) := by decide +kernel
theorem dX0_make_71 : decode cX0_make 71 = .ok (.bastore, 1) := by decide +kernel
theorem dX0_make_72 : decode cX0_make 72 = .ok (.iload_n 3, 1) := by decide +kernel
theorem dX0_make_73 : decode cX0_make 73 = .ok (.iconst 1, 1) := by decide +kernel
theorem dX0_make_74 : decode cX0_make 74 = .ok (.iadd, 1) := by decide +kernel
theorem dX0_make_75 : decode cX0_make 75 = .ok (.istore 4, 2) := by decide +kernel
theorem dX0_make_77 : decode cX0_make 77 = .ok (.iload 4, 2) := by decide +kernel
theorem dX0_make_79 : decode cX0_make 79 = .ok (.iload_n 3, 1) := by decide +kernel
theorem dX0_make_80 : decode cX0_make 80 = .ok (.iload_n 2, 1) := by decide +kernel
theorem dX0_make_81 : decode cX0_make 81 = .ok (.iadd, 1) := by decide +kernel
theorem dX0_make_82 : decode cX0_make 82 = .ok (.if_icmp .gt 25, 3) := by decide +kernel
theorem dX0_make_85 : decode cX0_make 85 = .ok (.aload_n 0, 1) := by decide +kernel
theorem dX0_make_86 : decode cX0_make 86 = .ok (.getfield 7, 3) := by decide +kernel
theorem dX0_make_89 : decode cX0_make 89 = .ok (.iload 4, 2) := by decide +kernel
theorem dX0_make_91 : decode cX0_make 91 = .ok (.iconst 0, 1) := by decide +kernel
theorem dX0_make_92 : decode cX0_make 92 = .ok (.iastore, 1) := by decide +kernel
theorem dX0_make_93 : decode cX0_make 93 = .ok (.aload_n 0, 1) := by decide +kernel
theorem dX0_make_94 : decode cX0_make 94 = .ok (.getfield 13, 3) := by decide +kernel
theorem dX0_make_97 : decode cX0_make 97 = .ok (.iload 4, 2) := by decide +kernel
theorem dX0_make_99 : decode cX0_make 99 = .ok (.iconst 0, 1) := by decide +kernel
theorem dX0_make_100 : decode cX0_make 100 = .ok (.bastore, 1) := by decide +kernel
theorem dX0_make_101 : decode cX0_make 101 = .ok (.iinc 4 1, 3) := by decide +kernel
theorem dX0_make_104 : decode cX0_make 104 = .ok (.goto (-27), 3) := by decide +kernel
theorem dX0_make_107 : decode cX0_make 107 = .ok (.aload_n 0, 1) := by decide +kernel
theorem dX0_make_108 : decode cX0_make 108 = .ok (.iload_n 3, 1) := by decide +kernel
theorem dX0_make_109 : decode cX0_make 109 = .ok (.iload_n 2, 1) := by decide +kernel
theorem dX0_make_110 : decode cX0_make 110 = .ok (.iadd, 1) := by decide +kernel
theorem dX0_make_111 : decode cX0_make 111 = .ok (.iconst 1, 1) := by decide +kernel
theorem dX0_make_112 : decode cX0_make 112 = .ok (.iadd, 1) := by decide +kernel
theorem dX0_make_113 : decode cX0_make 113 = .ok (.putfield 39, 3) := by decide +kernel
theorem dX0_make_116 : decode cX0_make 116 = .ok (.aload_n 0, 1) := by decide +kernel
theorem dX0_make_117 : decode cX0_make 117 = .ok (.getfield 17, 3) := by decide +kernel
theorem dX0_make_120 : decode cX0_make 120 = .ok (.iload_n 1, 1) := by decide +kernel
theorem dX0_make_121 : decode cX0_make 121 = .ok (.iload_n 3, 1) := by decide +kernel
theorem dX0_make_122 : decode cX0_make 122 = .ok (.iastore, 1) := by decide +kernel
theorem dX0_make_123 : decode cX0_make 123 = .ok (.aload_n 0, 1) := by decide +kernel
theorem dX0_make_124 : decode cX0_make 124 = .ok (.getfield 20, 3) := by decide +kernel
theorem dX0_make_127 : decode cX0_make 127 = .ok (.iload_n 1, 1) := by decide +kernel
theorem dX0_make_128 : decode cX0_make 128 = .ok (.iconst 1, 1) := by decide +kernel
theorem dX0_make_129 : decode cX0_make 129 = .ok (.bastore, 1) := by decide +kernel
theorem dX0_make_130 : decode cX0_make 130 = .ok (.iconst 0, 1) := by decide +kernel
theorem dX0_make_131 : decode cX0_make 131 = .ok (.ireturn, 1) := by decide +kernel
abbrev cX0_isRegister : ByteArray := prog_1_method_12_code
def yX0_isRegister : MethodName := ⟨RX0, "isRegister", "(I)Z"⟩
theorem dX0_isRegister_0 : decode cX0_isRegister 0 = .ok (.iload_n 0, 1) := by decide +kernel
theorem dX0_isRegister_1 : decode cX0_isRegister 1 = .ok (.ifCond .lt 12, 3) := by decide +kernel
theorem dX0_isRegister_4 : decode cX0_isRegister 4 = .ok (.iload_n 0, 1) := by decide +kernel
theorem dX0_isRegister_5 : decode cX0_isRegister 5 = .ok (.iconst 5, 1) := by decide +kernel
theorem dX0_isRegister_6 : decode cX0_isRegister 6 = .ok (.if_icmp .gt 7, 3) := by decide +kernel
theorem dX0_isRegister_9 : decode cX0_isRegister 9 = .ok (.iconst 1, 1) := by decide +kernel
theorem dX0_isRegister_10 : decode cX0_isRegister 10 = .ok (.goto 4, 3) := by decide +kernel
theorem dX0_isRegister_13 : decode cX0_isRegister 13 = .ok (.iconst 0, 1) := by decide +kernel
theorem dX0_isRegister_14 : decode cX0_isRegister 14 = .ok (.ireturn, 1) := by decide +kernel
abbrev cX0_squeeze : ByteArray := prog_1_method_14_code
def yX0_squeeze : MethodName := ⟨RX0, "squeeze", "()V"⟩
theorem dX0_squeeze_0 : decode cX0_squeeze 0 = .ok (.aload_n 0, 1) := by decide +kernel
theorem dX0_squeeze_1 : decode cX0_squeeze 1 = .ok (.invokevirtual 50, 3) := by decide +kernel
theorem dX0_squeeze_4 : decode cX0_squeeze 4 = .ok (.aload_n 0, 1) := by decide +kernel
theorem dX0_squeeze_5 : decode cX0_squeeze 5 = .ok (.invokevirtual 53, 3) := by decide +kernel
theorem dX0_squeeze_8 : decode cX0_squeeze 8 = .ok (.iconst 0, 1) := by decide +kernel
theorem dX0_squeeze_9 : decode cX0_squeeze 9 = .ok (.istore_n 1, 1) := by decide +kernel
theorem dX0_squeeze_10 : decode cX0_squeeze 10 = .ok (.iload_n 1, 1) := by decide +kernel
theorem dX0_squeeze_11 : decode cX0_squeeze 11 = .ok (.bipush 6, 2) := by decide +kernel
theorem dX0_squeeze_13 : decode cX0_squeeze 13 = .ok (.if_icmp .ge 34, 3) := by decide +kernel
theorem dX0_squeeze_16 : decode cX0_squeeze 16 = .ok (.aload_n 0, 1) := by decide +kernel
theorem dX0_squeeze_17 : decode cX0_squeeze 17 = .ok (.getfield 20, 3) := by decide +kernel
theorem dX0_squeeze_20 : decode cX0_squeeze 20 = .ok (.iload_n 1, 1) := by decide +kernel
theorem dX0_squeeze_21 : decode cX0_squeeze 21 = .ok (.baload, 1) := by decide +kernel
theorem dX0_squeeze_22 : decode cX0_squeeze 22 = .ok (.ifCond .eq 19, 3) := by decide +kernel
theorem dX0_squeeze_25 : decode cX0_squeeze 25 = .ok (.aload_n 0, 1) := by decide +kernel
theorem dX0_squeeze_26 : decode cX0_squeeze 26 = .ok (.getfield 17, 3) := by decide +kernel
theorem dX0_squeeze_29 : decode cX0_squeeze 29 = .ok (.iload_n 1, 1) := by decide +kernel
theorem dX0_squeeze_30 : decode cX0_squeeze 30 = .ok (.aload_n 0, 1) := by decide +kernel
theorem dX0_squeeze_31 : decode cX0_squeeze 31 = .ok (.aload_n 0, 1) := by decide +kernel
theorem dX0_squeeze_32 : decode cX0_squeeze 32 = .ok (.getfield 17, 3) := by decide +kernel
theorem dX0_squeeze_35 : decode cX0_squeeze 35 = .ok (.iload_n 1, 1) := by decide +kernel
theorem dX0_squeeze_36 : decode cX0_squeeze 36 = .ok (.iaload, 1) := by decide +kernel
theorem dX0_squeeze_37 : decode cX0_squeeze 37 = .ok (.invokevirtual 56, 3) := by decide +kernel
theorem dX0_squeeze_40 : decode cX0_squeeze 40 = .ok (.iastore, 1) := by decide +kernel
theorem dX0_squeeze_41 : decode cX0_squeeze 41 = .ok (.iinc 1 1, 3) := by decide +kernel
theorem dX0_squeeze_44 : decode cX0_squeeze 44 = .ok (.goto (-34), 3) := by decide +kernel
theorem dX0_squeeze_47 : decode cX0_squeeze 47 = .ok (.aload_n 0, 1) := by decide +kernel
theorem dX0_squeeze_48 : decode cX0_squeeze 48 = .ok (.invokevirtual 60, 3) := by decide +kernel
theorem dX0_squeeze_51 : decode cX0_squeeze 51 = .ok (.aload_n 0, 1) := by decide +kernel
theorem dX0_squeeze_52 : decode cX0_squeeze 52 = .ok (.invokevirtual 63, 3) := by decide +kernel
theorem dX0_squeeze_55 : decode cX0_squeeze 55 = .ok (.return_, 1) := by decide +kernel
abbrev cX0_markReached : ByteArray := prog_1_method_16_code
def yX0_markReached : MethodName := ⟨RX0, "markReached", "()V"⟩
theorem dX0_markReached_0 : decode cX0_markReached 0 = .ok (.iconst 0, 1) := by decide +kernel
theorem dX0_markReached_1 : decode cX0_markReached 1 = .ok (.istore_n 1, 1) := by decide +kernel
theorem dX0_markReached_2 : decode cX0_markReached 2 = .ok (.iload_n 1, 1) := by decide +kernel
theorem dX0_markReached_3 : decode cX0_markReached 3 = .ok (.bipush 72, 2) := by decide +kernel
theorem dX0_markReached_5 : decode cX0_markReached 5 = .ok (.if_icmp .ge 16, 3) := by decide +kernel
theorem dX0_markReached_8 : decode cX0_markReached 8 = .ok (.aload_n 0, 1) := by decide +kernel
theorem dX0_markReached_9 : decode cX0_markReached 9 = .ok (.getfield 23, 3) := by decide +kernel
theorem dX0_markReached_12 : decode cX0_markReached 12 = .ok (.iload_n 1, 1) := by decide +kernel
theorem dX0_markReached_13 : decode cX0_markReached 13 = .ok (.iconst 0, 1) := by decide +kernel
theorem dX0_markReached_14 : decode cX0_markReached 14 = .ok (.bastore, 1) := by decide +kernel
theorem dX0_markReached_15 : decode cX0_markReached 15 = .ok (.iinc 1 1, 3) := by decide +kernel
theorem dX0_markReached_18 : decode cX0_markReached 18 = .ok (.goto (-16), 3) := by decide +kernel
theorem dX0_markReached_21 : decode cX0_markReached 21 = .ok (.aload_n 0, 1) := by decide +kernel
theorem dX0_markReached_22 : decode cX0_markReached 22 = .ok (.iconst 0, 1) := by decide +kernel
theorem dX0_markReached_23 : decode cX0_markReached 23 = .ok (.putfield 66, 3) := by decide +kernel
theorem dX0_markReached_26 : decode cX0_markReached 26 = .ok (.iconst 0, 1) := by decide +kernel
theorem dX0_markReached_27 : decode cX0_markReached 27 = .ok (.istore_n 1, 1) := by decide +kernel
theorem dX0_markReached_28 : decode cX0_markReached 28 = .ok (.iload_n 1, 1) := by decide +kernel
theorem dX0_markReached_29 : decode cX0_markReached 29 = .ok (.bipush 6, 2) := by decide +kernel
theorem dX0_markReached_31 : decode cX0_markReached 31 = .ok (.if_icmp .ge 28, 3) := by decide +kernel
theorem dX0_markReached_34 : decode cX0_markReached 34 = .ok (.aload_n 0, 1) := by decide +kernel
theorem dX0_markReached_35 : decode cX0_markReached 35 = .ok (.getfield 20, 3) := by decide +kernel
theorem dX0_markReached_38 : decode cX0_markReached 38 = .ok (.iload_n 1, 1) := by decide +kernel
theorem dX0_markReached_39 : decode cX0_markReached 39 = .ok (.baload, 1) := by decide +kernel
theorem dX0_markReached_40 : decode cX0_markReached 40 = .ok (.ifCond .eq 13, 3) := by decide +kernel
theorem dX0_markReached_43 : decode cX0_markReached 43 = .ok (.aload_n 0, 1) := by decide +kernel
theorem dX0_markReached_44 : decode cX0_markReached 44 = .ok (.aload_n 0, 1) := by decide +kernel
theorem dX0_markReached_45 : decode cX0_markReached 45 = .ok (.getfield 17, 3) := by decide +kernel
theorem dX0_markReached_48 : decode cX0_markReached 48 = .ok (.iload_n 1, 1) := by decide +kernel
theorem dX0_markReached_49 : decode cX0_markReached 49 = .ok (.iaload, 1) := by decide +kernel
theorem dX0_markReached_50 : decode cX0_markReached 50 = .ok (.invokevirtual 69, 3) := by decide +kernel
theorem dX0_markReached_53 : decode cX0_markReached 53 = .ok (.iinc 1 1, 3) := by decide +kernel
theorem dX0_markReached_56 : decode cX0_markReached 56 = .ok (.goto (-28), 3) := by decide +kernel
theorem dX0_markReached_59 : decode cX0_markReached 59 = .ok (.iconst 0, 1) := by decide +kernel
theorem dX0_markReached_60 : decode cX0_markReached 60 = .ok (.istore_n 1, 1) := by decide +kernel
theorem dX0_markReached_61 : decode cX0_markReached 61 = .ok (.iload_n 1, 1) := by decide +kernel
theorem dX0_markReached_62 : decode cX0_markReached 62 = .ok (.bipush 37, 2) := by decide +kernel
theorem dX0_markReached_64 : decode cX0_markReached 64 = .ok (.if_icmp .ge 77, 3) := by decide +kernel
theorem dX0_markReached_67 : decode cX0_markReached 67 = .ok (.aload_n 0, 1) := by decide +kernel
theorem dX0_markReached_68 : decode cX0_markReached 68 = .ok (.getfield 66, 3) := by decide +kernel
theorem dX0_markReached_71 : decode cX0_markReached 71 = .ok (.ifCond .le 70, 3) := by decide +kernel
theorem dX0_markReached_74 : decode cX0_markReached 74 = .ok (.aload_n 0, 1) := by decide +kernel
theorem dX0_markReached_75 : decode cX0_markReached 75 = .ok (.dup, 1) := by decide +kernel
theorem dX0_markReached_76 : decode cX0_markReached 76 = .ok (.getfield 66, 3) := by decide +kernel
theorem dX0_markReached_79 : decode cX0_markReached 79 = .ok (.iconst 1, 1) := by decide +kernel
theorem dX0_markReached_80 : decode cX0_markReached 80 = .ok (.isub, 1) := by decide +kernel
theorem dX0_markReached_81 : decode cX0_markReached 81 = .ok (.putfield 66, 3) := by decide +kernel
theorem dX0_markReached_84 : decode cX0_markReached 84 = .ok (.aload_n 0, 1) := by decide +kernel
theorem dX0_markReached_85 : decode cX0_markReached 85 = .ok (.getfield 26, 3) := by decide +kernel
theorem dX0_markReached_88 : decode cX0_markReached 88 = .ok (.aload_n 0, 1) := by decide +kernel
theorem dX0_markReached_89 : decode cX0_markReached 89 = .ok (.getfield 66, 3) := by decide +kernel
theorem dX0_markReached_92 : decode cX0_markReached 92 = .ok (.iaload, 1) := by decide +kernel
theorem dX0_markReached_93 : decode cX0_markReached 93 = .ok (.istore_n 2, 1) := by decide +kernel
theorem dX0_markReached_94 : decode cX0_markReached 94 = .ok (.iload_n 2, 1) := by decide +kernel
theorem dX0_markReached_95 : decode cX0_markReached 95 = .ok (.iconst 1, 1) := by decide +kernel
theorem dX0_markReached_96 : decode cX0_markReached 96 = .ok (.iadd, 1) := by decide +kernel
theorem dX0_markReached_97 : decode cX0_markReached 97 = .ok (.istore_n 3, 1) := by decide +kernel
theorem dX0_markReached_98 : decode cX0_markReached 98 = .ok (.iload_n 3, 1) := by decide +kernel
theorem dX0_markReached_99 : decode cX0_markReached 99 = .ok (.iload_n 2, 1) := by decide +kernel
theorem dX0_markReached_100 : decode cX0_markReached 100 = .ok (.aload_n 0, 1) := by decide +kernel
theorem dX0_markReached_101 : decode cX0_markReached 101 = .ok (.getfield 7, 3) := by decide +kernel
theorem dX0_markReached_104 : decode cX0_markReached 104 = .ok (.iload_n 2, 1) := by decide +kernel
theorem dX0_markReached_105 : decode cX0_markReached 105 = .ok (.iaload, 1) := by decide +kernel
theorem dX0_markReached_106 : decode cX0_markReached 106 = .ok (.iadd, 1) := by decide +kernel
theorem dX0_markReached_107 : decode cX0_markReached 107 = .ok (.if_icmp .gt 28, 3) := by decide +kernel
theorem dX0_markReached_110 : decode cX0_markReached 110 = .ok (.aload_n 0, 1) := by decide +kernel
theorem dX0_markReached_111 : decode cX0_markReached 111 = .ok (.getfield 13, 3) := by decide +kernel
theorem dX0_markReached_114 : decode cX0_markReached 114 = .ok (.iload_n 3, 1) := by decide +kernel
theorem dX0_markReached_115 : decode cX0_markReached 115 = .ok (.baload, 1) := by decide +kernel
theorem dX0_markReached_116 : decode cX0_markReached 116 = .ok (.ifCond .eq 13, 3) := by decide +kernel
theorem dX0_markReached_119 : decode cX0_markReached 119 = .ok (.aload_n 0, 1) := by decide +kernel
theorem dX0_markReached_120 : decode cX0_markReached 120 = .ok (.aload_n 0, 1) := by decide +kernel
theorem dX0_markReached_121 : decode cX0_markReached 121 = .ok (.getfield 7, 3) := by decide +kernel
theorem dX0_markReached_124 : decode cX0_markReached 124 = .ok (.iload_n 3, 1) := by decide +kernel
theorem dX0_markReached_125 : decode cX0_markReached 125 = .ok (.iaload, 1) := by decide +kernel
theorem dX0_markReached_126 : decode cX0_markReached 126 = .ok (.invokevirtual 69, 3) := by decide +kernel
theorem dX0_markReached_129 : decode cX0_markReached 129 = .ok (.iinc 3 1, 3) := by decide +kernel
theorem dX0_markReached_132 : decode cX0_markReached 132 = .ok (.goto (-34), 3) := by decide +kernel
theorem dX0_markReached_135 : decode cX0_markReached 135 = .ok (.iinc 1 1, 3) := by decide +kernel
theorem dX0_markReached_138 : decode cX0_markReached 138 = .ok (.goto (-77), 3) := by decide +kernel
theorem dX0_markReached_141 : decode cX0_markReached 141 = .ok (.return_, 1) := by decide +kernel
abbrev cX0_reach : ByteArray := prog_1_method_15_code
def yX0_reach : MethodName := ⟨RX0, "reach", "(I)V"⟩
theorem dX0_reach_0 : decode cX0_reach 0 = .ok (.aload_n 0, 1) := by decide +kernel
theorem dX0_reach_1 : decode cX0_reach 1 = .ok (.getfield 23, 3) := by decide +kernel
theorem dX0_reach_4 : decode cX0_reach 4 = .ok (.iload_n 1, 1) := by decide +kernel
theorem dX0_reach_5 : decode cX0_reach 5 = .ok (.baload, 1) := by decide +kernel
theorem dX0_reach_6 : decode cX0_reach 6 = .ok (.ifCond .ne 30, 3) := by decide +kernel
theorem dX0_reach_9 : decode cX0_reach 9 = .ok (.aload_n 0, 1) := by decide +kernel
theorem dX0_reach_10 : decode cX0_reach 10 = .ok (.getfield 23, 3) := by decide +kernel
theorem dX0_reach_13 : decode cX0_reach 13 = .ok (.iload_n 1, 1) := by decide +kernel
theorem dX0_reach_14 : decode cX0_reach 14 = .ok (.iconst 1, 1) := by decide +kernel
theorem dX0_reach_15 : decode cX0_reach 15 = .ok (.bastore, 1) := by decide +kernel
theorem dX0_reach_16 : decode cX0_reach 16 = .ok (.aload_n 0, 1) := by decide +kernel
theorem dX0_reach_17 : decode cX0_reach 17 = .ok (.getfield 26, 3) := by decide +kernel
theorem dX0_reach_20 : decode cX0_reach 20 = .ok (.aload_n 0, 1) := by decide +kernel
theorem dX0_reach_21 : decode cX0_reach 21 = .ok (.getfield 66, 3) := by decide +kernel
theorem dX0_reach_24 : decode cX0_reach 24 = .ok (.iload_n 1, 1) := by decide +kernel
theorem dX0_reach_25 : decode cX0_reach 25 = .ok (.iastore, 1) := by decide +kernel
theorem dX0_reach_26 : decode cX0_reach 26 = .ok (.aload_n 0, 1) := by decide +kernel
theorem dX0_reach_27 : decode cX0_reach 27 = .ok (.dup, 1) := by decide +kernel
theorem dX0_reach_28 : decode cX0_reach 28 = .ok (.getfield 66, 3) := by decide +kernel
theorem dX0_reach_31 : decode cX0_reach 31 = .ok (.iconst 1, 1) := by decide +kernel
theorem dX0_reach_32 : decode cX0_reach 32 = .ok (.iadd, 1) := by decide +kernel
theorem dX0_reach_33 : decode cX0_reach 33 = .ok (.putfield 66, 3) := by decide +kernel
theorem dX0_reach_36 : decode cX0_reach 36 = .ok (.return_, 1) := by decide +kernel
end
section
set_option maxRecDepth 100000
abbrev cX0_listBreaks : ByteArray := prog_1_method_17_code
def yX0_listBreaks : MethodName := ⟨RX0, "listBreaks", "()V"⟩
theorem dX0_listBreaks_0 : decode cX0_listBreaks 0 = .ok (.aload_n 0, 1) := by decide +kernel
theorem dX0_listBreaks_1 : decode cX0_listBreaks 1 = .ok (.iconst 0, 1) := by decide +kernel
theorem dX0_listBreaks_2 : decode cX0_listBreaks 2 = .ok (.putfield 73, 3) := by decide +kernel
theorem dX0_listBreaks_5 : decode cX0_listBreaks 5 = .ok (.iconst 0, 1) := by decide +kernel
theorem dX0_listBreaks_6 : decode cX0_listBreaks 6 = .ok (.istore_n 1, 1) := by decide +kernel
theorem dX0_listBreaks_7 : decode cX0_listBreaks 7 = .ok (.iconst 0, 1) := by decide +kernel
theorem dX0_listBreaks_8 : decode cX0_listBreaks 8 = .ok (.istore_n 2, 1) := by decide +kernel
theorem dX0_listBreaks_9 : decode cX0_listBreaks 9 = .ok (.iconst 0, 1) := by decide +kernel
theorem dX0_listBreaks_10 : decode cX0_listBreaks 10 = .ok (.istore_n 3, 1) := by decide +kernel
theorem dX0_listBreaks_11 : decode cX0_listBreaks 11 = .ok (.iconst 0, 1) := by decide +kernel
theorem dX0_listBreaks_12 : decode cX0_listBreaks 12 = .ok (.istore 4, 2) := by decide +kernel
theorem dX0_listBreaks_14 : decode cX0_listBreaks 14 = .ok (.iload 4, 2) := by decide +kernel
theorem dX0_listBreaks_16 : decode cX0_listBreaks 16 = .ok (.bipush 37, 2) := by decide +kernel
theorem dX0_listBreaks_18 : decode cX0_listBreaks 18 = .ok (.if_icmp .ge 87, 3) := by decide +kernel
theorem dX0_listBreaks_21 : decode cX0_listBreaks 21 = .ok (.iload_n 3, 1) := by decide +kernel
theorem dX0_listBreaks_22 : decode cX0_listBreaks 22 = .ok (.aload_n 0, 1) := by decide +kernel
theorem dX0_listBreaks_23 : decode cX0_listBreaks 23 = .ok (.getfield 39, 3) := by decide +kernel
theorem dX0_listBreaks_26 : decode cX0_listBreaks 26 = .ok (.if_icmp .ge 79, 3) := by decide +kernel
theorem dX0_listBreaks_29 : decode cX0_listBreaks 29 = .ok (.aload_n 0, 1) := by decide +kernel
theorem dX0_listBreaks_30 : decode cX0_listBreaks 30 = .ok (.getfield 7, 3) := by decide +kernel
theorem dX0_listBreaks_33 : decode cX0_listBreaks 33 = .ok (.iload_n 3, 1) := by decide +kernel
theorem dX0_listBreaks_34 : decode cX0_listBreaks 34 = .ok (.iaload, 1) := by decide +kernel
theorem dX0_listBreaks_35 : decode cX0_listBreaks 35 = .ok (.iconst 1, 1) := by decide +kernel
theorem dX0_listBreaks_36 : decode cX0_listBreaks 36 = .ok (.iadd, 1) := by decide +kernel
theorem dX0_listBreaks_37 : decode cX0_listBreaks 37 = .ok (.istore 5, 2) := by decide +kernel
theorem dX0_listBreaks_39 : decode cX0_listBreaks 39 = .ok (.aload_n 0, 1) := by decide +kernel
theorem dX0_listBreaks_40 : decode cX0_listBreaks 40 = .ok (.getfield 23, 3) := by decide +kernel
theorem dX0_listBreaks_43 : decode cX0_listBreaks 43 = .ok (.iload_n 3, 1) := by decide +kernel
theorem dX0_listBreaks_44 : decode cX0_listBreaks 44 = .ok (.baload, 1) := by decide +kernel
theorem dX0_listBreaks_45 : decode cX0_listBreaks 45 = .ok (.ifCond .ne 13, 3) := by decide +kernel
theorem dX0_listBreaks_48 : decode cX0_listBreaks 48 = .ok (.iload_n 1, 1) := by decide +kernel
theorem dX0_listBreaks_49 : decode cX0_listBreaks 49 = .ok (.iload 5, 2) := by decide +kernel
theorem dX0_listBreaks_51 : decode cX0_listBreaks 51 = .ok (.iadd, 1) := by decide +kernel
theorem dX0_listBreaks_52 : decode cX0_listBreaks 52 = .ok (.istore_n 1, 1) := by decide +kernel
theorem dX0_listBreaks_53 : decode cX0_listBreaks 53 = .ok (.iconst 1, 1) := by decide +kernel
theorem dX0_listBreaks_54 : decode cX0_listBreaks 54 = .ok (.istore_n 2, 1) := by decide +kernel
theorem dX0_listBreaks_55 : decode cX0_listBreaks 55 = .ok (.goto 39, 3) := by decide +kernel
theorem dX0_listBreaks_58 : decode cX0_listBreaks 58 = .ok (.iload_n 2, 1) := by decide +kernel
theorem dX0_listBreaks_59 : decode cX0_listBreaks 59 = .ok (.ifCond .eq 35, 3) := by decide +kernel
theorem dX0_listBreaks_62 : decode cX0_listBreaks 62 = .ok (.aload_n 0, 1) := by decide +kernel
theorem dX0_listBreaks_63 : decode cX0_listBreaks 63 = .ok (.getfield 29, 3) := by decide +kernel
theorem dX0_listBreaks_66 : decode cX0_listBreaks 66 = .ok (.aload_n 0, 1) := by decide +kernel
theorem dX0_listBreaks_67 : decode cX0_listBreaks 67 = .ok (.getfield 73, 3) := by decide +kernel
theorem dX0_listBreaks_70 : decode cX0_listBreaks 70 = .ok (.iload_n 3, 1) := by decide +kernel
theorem dX0_listBreaks_71 : decode cX0_listBreaks 71 = .ok (.iastore, 1) := by decide +kernel
theorem dX0_listBreaks_72 : decode cX0_listBreaks 72 = .ok (.aload_n 0, 1) := by decide +kernel
theorem dX0_listBreaks_73 : decode cX0_listBreaks 73 = .ok (.getfield 32, 3) := by decide +kernel
theorem dX0_listBreaks_76 : decode cX0_listBreaks 76 = .ok (.aload_n 0, 1) := by decide +kernel
theorem dX0_listBreaks_77 : decode cX0_listBreaks 77 = .ok (.getfield 73, 3) := by decide +kernel
theorem dX0_listBreaks_80 : decode cX0_listBreaks 80 = .ok (.iload_n 1, 1) := by decide +kernel
theorem dX0_listBreaks_81 : decode cX0_listBreaks 81 = .ok (.iastore, 1) := by decide +kernel
theorem dX0_listBreaks_82 : decode cX0_listBreaks 82 = .ok (.aload_n 0, 1) := by decide +kernel
theorem dX0_listBreaks_83 : decode cX0_listBreaks 83 = .ok (.dup, 1) := by decide +kernel
theorem dX0_listBreaks_84 : decode cX0_listBreaks 84 = .ok (.getfield 73, 3) := by decide +kernel
theorem dX0_listBreaks_87 : decode cX0_listBreaks 87 = .ok (.iconst 1, 1) := by decide +kernel
theorem dX0_listBreaks_88 : decode cX0_listBreaks 88 = .ok (.iadd, 1) := by decide +kernel
theorem dX0_listBreaks_89 : decode cX0_listBreaks 89 = .ok (.putfield 73, 3) := by decide +kernel
theorem dX0_listBreaks_92 : decode cX0_listBreaks 92 = .ok (.iconst 0, 1) := by decide +kernel
theorem dX0_listBreaks_93 : decode cX0_listBreaks 93 = .ok (.istore_n 2, 1) := by decide +kernel
theorem dX0_listBreaks_94 : decode cX0_listBreaks 94 = .ok (.iload_n 3, 1) := by decide +kernel
theorem dX0_listBreaks_95 : decode cX0_listBreaks 95 = .ok (.iload 5, 2) := by decide +kernel
theorem dX0_listBreaks_97 : decode cX0_listBreaks 97 = .ok (.iadd, 1) := by decide +kernel
theorem dX0_listBreaks_98 : decode cX0_listBreaks 98 = .ok (.istore_n 3, 1) := by decide +kernel
theorem dX0_listBreaks_99 : decode cX0_listBreaks 99 = .ok (.iinc 4 1, 3) := by decide +kernel
theorem dX0_listBreaks_102 : decode cX0_listBreaks 102 = .ok (.goto (-88), 3) := by decide +kernel
theorem dX0_listBreaks_105 : decode cX0_listBreaks 105 = .ok (.return_, 1) := by decide +kernel
abbrev cX0_movedAddress : ByteArray := prog_1_method_18_code
def yX0_movedAddress : MethodName := ⟨RX0, "movedAddress", "(I)I"⟩
theorem dX0_movedAddress_0 : decode cX0_movedAddress 0 = .ok (.iconst 0, 1) := by decide +kernel
theorem dX0_movedAddress_1 : decode cX0_movedAddress 1 = .ok (.istore_n 2, 1) := by decide +kernel
theorem dX0_movedAddress_2 : decode cX0_movedAddress 2 = .ok (.aload_n 0, 1) := by decide +kernel
theorem dX0_movedAddress_3 : decode cX0_movedAddress 3 = .ok (.getfield 73, 3) := by decide +kernel
theorem dX0_movedAddress_6 : decode cX0_movedAddress 6 = .ok (.istore_n 3, 1) := by decide +kernel
theorem dX0_movedAddress_7 : decode cX0_movedAddress 7 = .ok (.iconst 0, 1) := by decide +kernel
theorem dX0_movedAddress_8 : decode cX0_movedAddress 8 = .ok (.istore 4, 2) := by decide +kernel
theorem dX0_movedAddress_10 : decode cX0_movedAddress 10 = .ok (.iload 4, 2) := by decide +kernel
theorem dX0_movedAddress_12 : decode cX0_movedAddress 12 = .ok (.bipush 7, 2) := by decide +kernel
theorem dX0_movedAddress_14 : decode cX0_movedAddress 14 = .ok (.if_icmp .ge 43, 3) := by decide +kernel
theorem dX0_movedAddress_17 : decode cX0_movedAddress 17 = .ok (.iload_n 2, 1) := by decide +kernel
theorem dX0_movedAddress_18 : decode cX0_movedAddress 18 = .ok (.iload_n 3, 1) := by decide +kernel
theorem dX0_movedAddress_19 : decode cX0_movedAddress 19 = .ok (.if_icmp .ge 38, 3) := by decide +kernel
theorem dX0_movedAddress_22 : decode cX0_movedAddress 22 = .ok (.iload_n 2, 1) := by decide +kernel
theorem dX0_movedAddress_23 : decode cX0_movedAddress 23 = .ok (.iload_n 3, 1) := by decide +kernel
theorem dX0_movedAddress_24 : decode cX0_movedAddress 24 = .ok (.iadd, 1) := by decide +kernel
theorem dX0_movedAddress_25 : decode cX0_movedAddress 25 = .ok (.iconst 2, 1) := by decide +kernel
theorem dX0_movedAddress_26 : decode cX0_movedAddress 26 = .ok (.idiv, 1) := by decide +kernel
theorem dX0_movedAddress_27 : decode cX0_movedAddress 27 = .ok (.istore 5, 2) := by decide +kernel
theorem dX0_movedAddress_29 : decode cX0_movedAddress 29 = .ok (.aload_n 0, 1) := by decide +kernel
theorem dX0_movedAddress_30 : decode cX0_movedAddress 30 = .ok (.getfield 29, 3) := by decide +kernel
theorem dX0_movedAddress_33 : decode cX0_movedAddress 33 = .ok (.iload 5, 2) := by decide +kernel
theorem dX0_movedAddress_35 : decode cX0_movedAddress 35 = .ok (.iaload, 1) := by decide +kernel
theorem dX0_movedAddress_36 : decode cX0_movedAddress 36 = .ok (.iload_n 1, 1) := by decide +kernel
theorem dX0_movedAddress_37 : decode cX0_movedAddress 37 = .ok (.if_icmp .gt 11, 3) := by decide +kernel
theorem dX0_movedAddress_40 : decode cX0_movedAddress 40 = .ok (.iload 5, 2) := by decide +kernel
theorem dX0_movedAddress_42 : decode cX0_movedAddress 42 = .ok (.iconst 1, 1) := by decide +kernel
theorem dX0_movedAddress_43 : decode cX0_movedAddress 43 = .ok (.iadd, 1) := by decide +kernel
theorem dX0_movedAddress_44 : decode cX0_movedAddress 44 = .ok (.istore_n 2, 1) := by decide +kernel
theorem dX0_movedAddress_45 : decode cX0_movedAddress 45 = .ok (.goto 6, 3) := by decide +kernel
theorem dX0_movedAddress_48 : decode cX0_movedAddress 48 = .ok (.iload 5, 2) := by decide +kernel
theorem dX0_movedAddress_50 : decode cX0_movedAddress 50 = .ok (.istore_n 3, 1) := by decide +kernel
theorem dX0_movedAddress_51 : decode cX0_movedAddress 51 = .ok (.iinc 4 1, 3) := by decide +kernel
theorem dX0_movedAddress_54 : decode cX0_movedAddress 54 = .ok (.goto (-44), 3) := by decide +kernel
theorem dX0_movedAddress_57 : decode cX0_movedAddress 57 = .ok (.iload_n 2, 1) := by decide +kernel
theorem dX0_movedAddress_58 : decode cX0_movedAddress 58 = .ok (.ifCond .ne 7, 3) := by decide +kernel
theorem dX0_movedAddress_61 : decode cX0_movedAddress 61 = .ok (.iload_n 1, 1) := by decide +kernel
theorem dX0_movedAddress_62 : decode cX0_movedAddress 62 = .ok (.goto 13, 3) := by decide +kernel
theorem dX0_movedAddress_65 : decode cX0_movedAddress 65 = .ok (.iload_n 1, 1) := by decide +kernel
theorem dX0_movedAddress_66 : decode cX0_movedAddress 66 = .ok (.aload_n 0, 1) := by decide +kernel
theorem dX0_movedAddress_67 : decode cX0_movedAddress 67 = .ok (.getfield 32, 3) := by decide +kernel
theorem dX0_movedAddress_70 : decode cX0_movedAddress 70 = .ok (.iload_n 2, 1) := by decide +kernel
theorem dX0_movedAddress_71 : decode cX0_movedAddress 71 = .ok (.iconst 1, 1) := by decide +kernel
theorem dX0_movedAddress_72 : decode cX0_movedAddress 72 = .ok (.isub, 1) := by decide +kernel
theorem dX0_movedAddress_73 : decode cX0_movedAddress 73 = .ok (.iaload, 1) := by decide +kernel
theorem dX0_movedAddress_74 : decode cX0_movedAddress 74 = .ok (.isub, 1) := by decide +kernel
theorem dX0_movedAddress_75 : decode cX0_movedAddress 75 = .ok (.ireturn, 1) := by decide +kernel
abbrev cX0_mendFields : ByteArray := prog_1_method_19_code
def yX0_mendFields : MethodName := ⟨RX0, "mendFields", "()V"⟩
theorem dX0_mendFields_0 : decode cX0_mendFields 0 = .ok (.iconst 0, 1) := by decide +kernel
theorem dX0_mendFields_1 : decode cX0_mendFields 1 = .ok (.istore_n 1, 1) := by decide +kernel
theorem dX0_mendFields_2 : decode cX0_mendFields 2 = .ok (.iconst 0, 1) := by decide +kernel
theorem dX0_mendFields_3 : decode cX0_mendFields 3 = .ok (.istore_n 2, 1) := by decide +kernel
theorem dX0_mendFields_4 : decode cX0_mendFields 4 = .ok (.iload_n 2, 1) := by decide +kernel
theorem dX0_mendFields_5 : decode cX0_mendFields 5 = .ok (.bipush 37, 2) := by decide +kernel
theorem dX0_mendFields_7 : decode cX0_mendFields 7 = .ok (.if_icmp .ge 86, 3) := by decide +kernel
theorem dX0_mendFields_10 : decode cX0_mendFields 10 = .ok (.iload_n 1, 1) := by decide +kernel
theorem dX0_mendFields_11 : decode cX0_mendFields 11 = .ok (.aload_n 0, 1) := by decide +kernel
theorem dX0_mendFields_12 : decode cX0_mendFields 12 = .ok (.getfield 39, 3) := by decide +kernel
theorem dX0_mendFields_15 : decode cX0_mendFields 15 = .ok (.if_icmp .ge 78, 3) := by decide +kernel
theorem dX0_mendFields_18 : decode cX0_mendFields 18 = .ok (.aload_n 0, 1) := by decide +kernel
theorem dX0_mendFields_19 : decode cX0_mendFields 19 = .ok (.getfield 7, 3) := by decide +kernel
theorem dX0_mendFields_22 : decode cX0_mendFields 22 = .ok (.iload_n 1, 1) := by decide +kernel
theorem dX0_mendFields_23 : decode cX0_mendFields 23 = .ok (.iaload, 1) := by decide +kernel
theorem dX0_mendFields_24 : decode cX0_mendFields 24 = .ok (.iconst 1, 1) := by decide +kernel
theorem dX0_mendFields_25 : decode cX0_mendFields 25 = .ok (.iadd, 1) := by decide +kernel
theorem dX0_mendFields_26 : decode cX0_mendFields 26 = .ok (.istore_n 3, 1) := by decide +kernel
theorem dX0_mendFields_27 : decode cX0_mendFields 27 = .ok (.iload_n 1, 1) := by decide +kernel
theorem dX0_mendFields_28 : decode cX0_mendFields 28 = .ok (.iconst 1, 1) := by decide +kernel
theorem dX0_mendFields_29 : decode cX0_mendFields 29 = .ok (.iadd, 1) := by decide +kernel
theorem dX0_mendFields_30 : decode cX0_mendFields 30 = .ok (.istore 4, 2) := by decide +kernel
theorem dX0_mendFields_32 : decode cX0_mendFields 32 = .ok (.iload 4, 2) := by decide +kernel
theorem dX0_mendFields_34 : decode cX0_mendFields 34 = .ok (.iload_n 1, 1) := by decide +kernel
theorem dX0_mendFields_35 : decode cX0_mendFields 35 = .ok (.iload_n 3, 1) := by decide +kernel
theorem dX0_mendFields_36 : decode cX0_mendFields 36 = .ok (.iadd, 1) := by decide +kernel
theorem dX0_mendFields_37 : decode cX0_mendFields 37 = .ok (.if_icmp .ge 46, 3) := by decide +kernel
theorem dX0_mendFields_40 : decode cX0_mendFields 40 = .ok (.aload_n 0, 1) := by decide +kernel
theorem dX0_mendFields_41 : decode cX0_mendFields 41 = .ok (.getfield 23, 3) := by decide +kernel
theorem dX0_mendFields_44 : decode cX0_mendFields 44 = .ok (.iload_n 1, 1) := by decide +kernel
theorem dX0_mendFields_45 : decode cX0_mendFields 45 = .ok (.baload, 1) := by decide +kernel
theorem dX0_mendFields_46 : decode cX0_mendFields 46 = .ok (.ifCond .eq 31, 3) := by decide +kernel
theorem dX0_mendFields_49 : decode cX0_mendFields 49 = .ok (.aload_n 0, 1) := by decide +kernel
theorem dX0_mendFields_50 : decode cX0_mendFields 50 = .ok (.getfield 13, 3) := by decide +kernel
theorem dX0_mendFields_53 : decode cX0_mendFields 53 = .ok (.iload 4, 2) := by decide +kernel
theorem dX0_mendFields_55 : decode cX0_mendFields 55 = .ok (.baload, 1) := by decide +kernel
theorem dX0_mendFields_56 : decode cX0_mendFields 56 = .ok (.ifCond .eq 21, 3) := by decide +kernel
theorem dX0_mendFields_59 : decode cX0_mendFields 59 = .ok (.aload_n 0, 1) := by decide +kernel
theorem dX0_mendFields_60 : decode cX0_mendFields 60 = .ok (.getfield 7, 3) := by decide +kernel
theorem dX0_mendFields_63 : decode cX0_mendFields 63 = .ok (.iload 4, 2) := by decide +kernel
theorem dX0_mendFields_65 : decode cX0_mendFields 65 = .ok (.aload_n 0, 1) := by decide +kernel
theorem dX0_mendFields_66 : decode cX0_mendFields 66 = .ok (.aload_n 0, 1) := by decide +kernel
theorem dX0_mendFields_67 : decode cX0_mendFields 67 = .ok (.getfield 7, 3) := by decide +kernel
theorem dX0_mendFields_70 : decode cX0_mendFields 70 = .ok (.iload 4, 2) := by decide +kernel
theorem dX0_mendFields_72 : decode cX0_mendFields 72 = .ok (.iaload, 1) := by decide +kernel
theorem dX0_mendFields_73 : decode cX0_mendFields 73 = .ok (.invokevirtual 56, 3) := by decide +kernel
theorem dX0_mendFields_76 : decode cX0_mendFields 76 = .ok (.iastore, 1) := by decide +kernel
theorem dX0_mendFields_77 : decode cX0_mendFields 77 = .ok (.iinc 4 1, 3) := by decide +kernel
theorem dX0_mendFields_80 : decode cX0_mendFields 80 = .ok (.goto (-48), 3) := by decide +kernel
theorem dX0_mendFields_83 : decode cX0_mendFields 83 = .ok (.iload_n 1, 1) := by decide +kernel
theorem dX0_mendFields_84 : decode cX0_mendFields 84 = .ok (.iload_n 3, 1) := by decide +kernel
theorem dX0_mendFields_85 : decode cX0_mendFields 85 = .ok (.iadd, 1) := by decide +kernel
theorem dX0_mendFields_86 : decode cX0_mendFields 86 = .ok (.istore_n 1, 1) := by decide +kernel
theorem dX0_mendFields_87 : decode cX0_mendFields 87 = .ok (.iinc 2 1, 3) := by decide +kernel
theorem dX0_mendFields_90 : decode cX0_mendFields 90 = .ok (.goto (-86), 3) := by decide +kernel
theorem dX0_mendFields_93 : decode cX0_mendFields 93 = .ok (.return_, 1) := by decide +kernel
abbrev cX0_slideDown : ByteArray := prog_1_method_20_code
def yX0_slideDown : MethodName := ⟨RX0, "slideDown", "()V"⟩
theorem dX0_slideDown_0 : decode cX0_slideDown 0 = .ok (.iconst 0, 1) := by decide +kernel
theorem dX0_slideDown_1 : decode cX0_slideDown 1 = .ok (.istore_n 1, 1) := by decide +kernel
theorem dX0_slideDown_2 : decode cX0_slideDown 2 = .ok (.iconst 0, 1) := by decide +kernel
theorem dX0_slideDown_3 : decode cX0_slideDown 3 = .ok (.istore_n 2, 1) := by decide +kernel
theorem dX0_slideDown_4 : decode cX0_slideDown 4 = .ok (.aload_n 0, 1) := by decide +kernel
theorem dX0_slideDown_5 : decode cX0_slideDown 5 = .ok (.getfield 39, 3) := by decide +kernel
theorem dX0_slideDown_8 : decode cX0_slideDown 8 = .ok (.istore_n 3, 1) := by decide +kernel
theorem dX0_slideDown_9 : decode cX0_slideDown 9 = .ok (.iconst 0, 1) := by decide +kernel
theorem dX0_slideDown_10 : decode cX0_slideDown 10 = .ok (.istore 4, 2) := by decide +kernel
theorem dX0_slideDown_12 : decode cX0_slideDown 12 = .ok (.iload 4, 2) := by decide +kernel
theorem dX0_slideDown_14 : decode cX0_slideDown 14 = .ok (.bipush 37, 2) := by decide +kernel
theorem dX0_slideDown_16 : decode cX0_slideDown 16 = .ok (.if_icmp .ge 95, 3) := by decide +kernel
theorem dX0_slideDown_19 : decode cX0_slideDown 19 = .ok (.iload_n 2, 1) := by decide +kernel
theorem dX0_slideDown_20 : decode cX0_slideDown 20 = .ok (.iload_n 3, 1) := by decide +kernel
theorem dX0_slideDown_21 : decode cX0_slideDown 21 = .ok (.if_icmp .ge 90, 3) := by decide +kernel
theorem dX0_slideDown_24 : decode cX0_slideDown 24 = .ok (.aload_n 0, 1) := by decide +kernel
theorem dX0_slideDown_25 : decode cX0_slideDown 25 = .ok (.getfield 7, 3) := by decide +kernel
theorem dX0_slideDown_28 : decode cX0_slideDown 28 = .ok (.iload_n 2, 1) := by decide +kernel
theorem dX0_slideDown_29 : decode cX0_slideDown 29 = .ok (.iaload, 1) := by decide +kernel
theorem dX0_slideDown_30 : decode cX0_slideDown 30 = .ok (.iconst 1, 1) := by decide +kernel
theorem dX0_slideDown_31 : decode cX0_slideDown 31 = .ok (.iadd, 1) := by decide +kernel
theorem dX0_slideDown_32 : decode cX0_slideDown 32 = .ok (.istore 5, 2) := by decide +kernel
theorem dX0_slideDown_34 : decode cX0_slideDown 34 = .ok (.aload_n 0, 1) := by decide +kernel
theorem dX0_slideDown_35 : decode cX0_slideDown 35 = .ok (.getfield 23, 3) := by decide +kernel
theorem dX0_slideDown_38 : decode cX0_slideDown 38 = .ok (.iload_n 2, 1) := by decide +kernel
theorem dX0_slideDown_39 : decode cX0_slideDown 39 = .ok (.baload, 1) := by decide +kernel
theorem dX0_slideDown_40 : decode cX0_slideDown 40 = .ok (.ifCond .eq 60, 3) := by decide +kernel
theorem dX0_slideDown_43 : decode cX0_slideDown 43 = .ok (.iconst 0, 1) := by decide +kernel
theorem dX0_slideDown_44 : decode cX0_slideDown 44 = .ok (.istore 6, 2) := by decide +kernel
theorem dX0_slideDown_46 : decode cX0_slideDown 46 = .ok (.iload 6, 2) := by decide +kernel
theorem dX0_slideDown_48 : decode cX0_slideDown 48 = .ok (.iload 5, 2) := by decide +kernel
theorem dX0_slideDown_50 : decode cX0_slideDown 50 = .ok (.if_icmp .ge 45, 3) := by decide +kernel
theorem dX0_slideDown_53 : decode cX0_slideDown 53 = .ok (.aload_n 0, 1) := by decide +kernel
theorem dX0_slideDown_54 : decode cX0_slideDown 54 = .ok (.getfield 7, 3) := by decide +kernel
theorem dX0_slideDown_57 : decode cX0_slideDown 57 = .ok (.iload_n 1, 1) := by decide +kernel
theorem dX0_slideDown_58 : decode cX0_slideDown 58 = .ok (.iload 6, 2) := by decide +kernel
theorem dX0_slideDown_60 : decode cX0_slideDown 60 = .ok (.iadd, 1) := by decide +kernel
theorem dX0_slideDown_61 : decode cX0_slideDown 61 = .ok (.aload_n 0, 1) := by decide +kernel
theorem dX0_slideDown_62 : decode cX0_slideDown 62 = .ok (.getfield 7, 3) := by decide +kernel
theorem dX0_slideDown_65 : decode cX0_slideDown 65 = .ok (.iload_n 2, 1) := by decide +kernel
theorem dX0_slideDown_66 : decode cX0_slideDown 66 = .ok (.iload 6, 2) := by decide +kernel
theorem dX0_slideDown_68 : decode cX0_slideDown 68 = .ok (.iadd, 1) := by decide +kernel
theorem dX0_slideDown_69 : decode cX0_slideDown 69 = .ok (.iaload, 1) := by decide +kernel
theorem dX0_slideDown_70 : decode cX0_slideDown 70 = .ok (.iastore, 1) := by decide +kernel
theorem dX0_slideDown_71 : decode cX0_slideDown 71 = .ok (.aload_n 0, 1) := by decide +kernel
theorem dX0_slideDown_72 : decode cX0_slideDown 72 = .ok (.getfield 13, 3) := by decide +kernel
theorem dX0_slideDown_75 : decode cX0_slideDown 75 = .ok (.iload_n 1, 1) := by decide +kernel
theorem dX0_slideDown_76 : decode cX0_slideDown 76 = .ok (.iload 6, 2) := by decide +kernel
theorem dX0_slideDown_78 : decode cX0_slideDown 78 = .ok (.iadd, 1) := by decide +kernel
theorem dX0_slideDown_79 : decode cX0_slideDown 79 = .ok (.aload_n 0, 1) := by decide +kernel
theorem dX0_slideDown_80 : decode cX0_slideDown 80 = .ok (.getfield 13, 3) := by decide +kernel
theorem dX0_slideDown_83 : decode cX0_slideDown 83 = .ok (.iload_n 2, 1) := by decide +kernel
theorem dX0_slideDown_84 : decode cX0_slideDown 84 = .ok (.iload 6, 2) := by decide +kernel
theorem dX0_slideDown_86 : decode cX0_slideDown 86 = .ok (.iadd, 1) := by decide +kernel
theorem dX0_slideDown_87 : decode cX0_slideDown 87 = .ok (.baload, 1) := by decide +kernel
theorem dX0_slideDown_88 : decode cX0_slideDown 88 = .ok (.bastore, 1) := by decide +kernel
theorem dX0_slideDown_89 : decode cX0_slideDown 89 = .ok (.iinc 6 1, 3) := by decide +kernel
theorem dX0_slideDown_92 : decode cX0_slideDown 92 = .ok (.goto (-46), 3) := by decide +kernel
theorem dX0_slideDown_95 : decode cX0_slideDown 95 = .ok (.iload_n 1, 1) := by decide +kernel
theorem dX0_slideDown_96 : decode cX0_slideDown 96 = .ok (.iload 5, 2) := by decide +kernel
theorem dX0_slideDown_98 : decode cX0_slideDown 98 = .ok (.iadd, 1) := by decide +kernel
theorem dX0_slideDown_99 : decode cX0_slideDown 99 = .ok (.istore_n 1, 1) := by decide +kernel
theorem dX0_slideDown_100 : decode cX0_slideDown 100 = .ok (.iload_n 2, 1) := by decide +kernel
theorem dX0_slideDown_101 : decode cX0_slideDown 101 = .ok (.iload 5, 2) := by decide +kernel
theorem dX0_slideDown_103 : decode cX0_slideDown 103 = .ok (.iadd, 1) := by decide +kernel
theorem dX0_slideDown_104 : decode cX0_slideDown 104 = .ok (.istore_n 2, 1) := by decide +kernel
theorem dX0_slideDown_105 : decode cX0_slideDown 105 = .ok (.iinc 4 1, 3) := by decide +kernel
theorem dX0_slideDown_108 : decode cX0_slideDown 108 = .ok (.goto (-96), 3) := by decide +kernel
theorem dX0_slideDown_111 : decode cX0_slideDown 111 = .ok (.aload_n 0, 1) := by decide +kernel
theorem dX0_slideDown_112 : decode cX0_slideDown 112 = .ok (.iload_n 1, 1) := by decide +kernel
theorem dX0_slideDown_113 : decode cX0_slideDown 113 = .ok (.putfield 39, 3) := by decide +kernel
theorem dX0_slideDown_116 : decode cX0_slideDown 116 = .ok (.return_, 1) := by decide +kernel
end
section
set_option maxRecDepth 100000
abbrev cX0_number : ByteArray := prog_1_method_3_code
def yX0_number : MethodName := ⟨RX0, "number", "(II)I"⟩
theorem dX0_number_0 : decode cX0_number 0 = .ok (.iload_n 1, 1) := by decide +kernel
theorem dX0_number_1 : decode cX0_number 1 = .ok (.invokestatic 35, 3) := by decide +kernel
theorem dX0_number_4 : decode cX0_number 4 = .ok (.ifCond .ne 5, 3) := by decide +kernel
theorem dX0_number_7 : decode cX0_number 7 = .ok (.iconst (-1), 1) := by decide +kernel
theorem dX0_number_8 : decode cX0_number 8 = .ok (.ireturn, 1) := by decide +kernel
theorem dX0_number_9 : decode cX0_number 9 = .ok (.aload_n 0, 1) := by decide +kernel
theorem dX0_number_10 : decode cX0_number 10 = .ok (.getfield 17, 3) := by decide +kernel
theorem dX0_number_13 : decode cX0_number 13 = .ok (.iload_n 1, 1) := by decide +kernel
theorem dX0_number_14 : decode cX0_number 14 = .ok (.iload_n 2, 1) := by decide +kernel
theorem dX0_number_15 : decode cX0_number 15 = .ok (.iastore, 1) := by decide +kernel
theorem dX0_number_16 : decode cX0_number 16 = .ok (.aload_n 0, 1) := by decide +kernel
theorem dX0_number_17 : decode cX0_number 17 = .ok (.getfield 20, 3) := by decide +kernel
theorem dX0_number_20 : decode cX0_number 20 = .ok (.iload_n 1, 1) := by decide +kernel
theorem dX0_number_21 : decode cX0_number 21 = .ok (.iconst 0, 1) := by decide +kernel
theorem dX0_number_22 : decode cX0_number 22 = .ok (.bastore, 1) := by decide +kernel
theorem dX0_number_23 : decode cX0_number 23 = .ok (.iconst 0, 1) := by decide +kernel
theorem dX0_number_24 : decode cX0_number 24 = .ok (.ireturn, 1) := by decide +kernel
abbrev cX0_move : ByteArray := prog_1_method_4_code
def yX0_move : MethodName := ⟨RX0, "move", "(II)I"⟩
theorem dX0_move_0 : decode cX0_move 0 = .ok (.iload_n 1, 1) := by decide +kernel
theorem dX0_move_1 : decode cX0_move 1 = .ok (.invokestatic 35, 3) := by decide +kernel
theorem dX0_move_4 : decode cX0_move 4 = .ok (.ifCond .eq 10, 3) := by decide +kernel
theorem dX0_move_7 : decode cX0_move 7 = .ok (.iload_n 2, 1) := by decide +kernel
theorem dX0_move_8 : decode cX0_move 8 = .ok (.invokestatic 35, 3) := by decide +kernel
theorem dX0_move_11 : decode cX0_move 11 = .ok (.ifCond .ne 5, 3) := by decide +kernel
theorem dX0_move_14 : decode cX0_move 14 = .ok (.iconst (-1), 1) := by decide +kernel
theorem dX0_move_15 : decode cX0_move 15 = .ok (.ireturn, 1) := by decide +kernel
theorem dX0_move_16 : decode cX0_move 16 = .ok (.aload_n 0, 1) := by decide +kernel
theorem dX0_move_17 : decode cX0_move 17 = .ok (.getfield 17, 3) := by decide +kernel
theorem dX0_move_20 : decode cX0_move 20 = .ok (.iload_n 1, 1) := by decide +kernel
theorem dX0_move_21 : decode cX0_move 21 = .ok (.aload_n 0, 1) := by decide +kernel
theorem dX0_move_22 : decode cX0_move 22 = .ok (.getfield 17, 3) := by decide +kernel
theorem dX0_move_25 : decode cX0_move 25 = .ok (.iload_n 2, 1) := by decide +kernel
theorem dX0_move_26 : decode cX0_move 26 = .ok (.iaload, 1) := by decide +kernel
theorem dX0_move_27 : decode cX0_move 27 = .ok (.iastore, 1) := by decide +kernel
theorem dX0_move_28 : decode cX0_move 28 = .ok (.aload_n 0, 1) := by decide +kernel
theorem dX0_move_29 : decode cX0_move 29 = .ok (.getfield 20, 3) := by decide +kernel
theorem dX0_move_32 : decode cX0_move 32 = .ok (.iload_n 1, 1) := by decide +kernel
theorem dX0_move_33 : decode cX0_move 33 = .ok (.aload_n 0, 1) := by decide +kernel
theorem dX0_move_34 : decode cX0_move 34 = .ok (.getfield 20, 3) := by decide +kernel
theorem dX0_move_37 : decode cX0_move 37 = .ok (.iload_n 2, 1) := by decide +kernel
theorem dX0_move_38 : decode cX0_move 38 = .ok (.baload, 1) := by decide +kernel
theorem dX0_move_39 : decode cX0_move 39 = .ok (.bastore, 1) := by decide +kernel
theorem dX0_move_40 : decode cX0_move 40 = .ok (.iconst 0, 1) := by decide +kernel
theorem dX0_move_41 : decode cX0_move 41 = .ok (.ireturn, 1) := by decide +kernel
abbrev cX0_store : ByteArray := prog_1_method_5_code
def yX0_store : MethodName := ⟨RX0, "store", "(III)I"⟩
theorem dX0_store_0 : decode cX0_store 0 = .ok (.iload_n 1, 1) := by decide +kernel
theorem dX0_store_1 : decode cX0_store 1 = .ok (.invokestatic 35, 3) := by decide +kernel
theorem dX0_store_4 : decode cX0_store 4 = .ok (.ifCond .eq 10, 3) := by decide +kernel
theorem dX0_store_7 : decode cX0_store 7 = .ok (.iload_n 3, 1) := by decide +kernel
theorem dX0_store_8 : decode cX0_store 8 = .ok (.invokestatic 35, 3) := by decide +kernel
theorem dX0_store_11 : decode cX0_store 11 = .ok (.ifCond .ne 5, 3) := by decide +kernel
theorem dX0_store_14 : decode cX0_store 14 = .ok (.iconst (-1), 1) := by decide +kernel
theorem dX0_store_15 : decode cX0_store 15 = .ok (.ireturn, 1) := by decide +kernel
theorem dX0_store_16 : decode cX0_store 16 = .ok (.aload_n 0, 1) := by decide +kernel
theorem dX0_store_17 : decode cX0_store 17 = .ok (.iload_n 1, 1) := by decide +kernel
theorem dX0_store_18 : decode cX0_store 18 = .ok (.iload_n 2, 1) := by decide +kernel
theorem dX0_store_19 : decode cX0_store 19 = .ok (.invokevirtual 46, 3) := by decide +kernel
theorem dX0_store_22 : decode cX0_store 22 = .ok (.ifCond .ne 6, 3) := by decide +kernel
theorem dX0_store_25 : decode cX0_store 25 = .ok (.bipush (-3), 2) := by decide +kernel
theorem dX0_store_27 : decode cX0_store 27 = .ok (.ireturn, 1) := by decide +kernel
theorem dX0_store_28 : decode cX0_store 28 = .ok (.aload_n 0, 1) := by decide +kernel
theorem dX0_store_29 : decode cX0_store 29 = .ok (.getfield 17, 3) := by decide +kernel
theorem dX0_store_32 : decode cX0_store 32 = .ok (.iload_n 1, 1) := by decide +kernel
theorem dX0_store_33 : decode cX0_store 33 = .ok (.iaload, 1) := by decide +kernel
theorem dX0_store_34 : decode cX0_store 34 = .ok (.iconst 1, 1) := by decide +kernel
theorem dX0_store_35 : decode cX0_store 35 = .ok (.iadd, 1) := by decide +kernel
theorem dX0_store_36 : decode cX0_store 36 = .ok (.iload_n 2, 1) := by decide +kernel
theorem dX0_store_37 : decode cX0_store 37 = .ok (.iadd, 1) := by decide +kernel
theorem dX0_store_38 : decode cX0_store 38 = .ok (.istore 4, 2) := by decide +kernel
theorem dX0_store_40 : decode cX0_store 40 = .ok (.aload_n 0, 1) := by decide +kernel
theorem dX0_store_41 : decode cX0_store 41 = .ok (.getfield 7, 3) := by decide +kernel
theorem dX0_store_44 : decode cX0_store 44 = .ok (.iload 4, 2) := by decide +kernel
theorem dX0_store_46 : decode cX0_store 46 = .ok (.aload_n 0, 1) := by decide +kernel
theorem dX0_store_47 : decode cX0_store 47 = .ok (.getfield 17, 3) := by decide +kernel
theorem dX0_store_50 : decode cX0_store 50 = .ok (.iload_n 3, 1) := by decide +kernel
theorem dX0_store_51 : decode cX0_store 51 = .ok (.iaload, 1) := by decide +kernel
theorem dX0_store_52 : decode cX0_store 52 = .ok (.iastore, 1) := by decide +kernel
theorem dX0_store_53 : decode cX0_store 53 = .ok (.aload_n 0, 1) := by decide +kernel
theorem dX0_store_54 : decode cX0_store 54 = .ok (.getfield 13, 3) := by decide +kernel
theorem dX0_store_57 : decode cX0_store 57 = .ok (.iload 4, 2) := by decide +kernel
theorem dX0_store_59 : decode cX0_store 59 = .ok (.aload_n 0, 1) := by decide +kernel
theorem dX0_store_60 : decode cX0_store 60 = .ok (.getfield 20, 3) := by decide +kernel
theorem dX0_store_63 : decode cX0_store 63 = .ok (.iload_n 3, 1) := by decide +kernel
theorem dX0_store_64 : decode cX0_store 64 = .ok (.baload, 1) := by decide +kernel
theorem dX0_store_65 : decode cX0_store 65 = .ok (.bastore, 1) := by decide +kernel
theorem dX0_store_66 : decode cX0_store 66 = .ok (.iconst 0, 1) := by decide +kernel
theorem dX0_store_67 : decode cX0_store 67 = .ok (.ireturn, 1) := by decide +kernel
abbrev cX0_hasField : ByteArray := prog_1_method_13_code
def yX0_hasField : MethodName := ⟨RX0, "hasField", "(II)Z"⟩
theorem dX0_hasField_0 : decode cX0_hasField 0 = .ok (.aload_n 0, 1) := by decide +kernel
theorem dX0_hasField_1 : decode cX0_hasField 1 = .ok (.getfield 20, 3) := by decide +kernel
theorem dX0_hasField_4 : decode cX0_hasField 4 = .ok (.iload_n 1, 1) := by decide +kernel
theorem dX0_hasField_5 : decode cX0_hasField 5 = .ok (.baload, 1) := by decide +kernel
theorem dX0_hasField_6 : decode cX0_hasField 6 = .ok (.ifCond .eq 26, 3) := by decide +kernel
theorem dX0_hasField_9 : decode cX0_hasField 9 = .ok (.iload_n 2, 1) := by decide +kernel
theorem dX0_hasField_10 : decode cX0_hasField 10 = .ok (.ifCond .lt 22, 3) := by decide +kernel
theorem dX0_hasField_13 : decode cX0_hasField 13 = .ok (.iload_n 2, 1) := by decide +kernel
theorem dX0_hasField_14 : decode cX0_hasField 14 = .ok (.aload_n 0, 1) := by decide +kernel
theorem dX0_hasField_15 : decode cX0_hasField 15 = .ok (.getfield 7, 3) := by decide +kernel
theorem dX0_hasField_18 : decode cX0_hasField 18 = .ok (.aload_n 0, 1) := by decide +kernel
theorem dX0_hasField_19 : decode cX0_hasField 19 = .ok (.getfield 17, 3) := by decide +kernel
theorem dX0_hasField_22 : decode cX0_hasField 22 = .ok (.iload_n 1, 1) := by decide +kernel
theorem dX0_hasField_23 : decode cX0_hasField 23 = .ok (.iaload, 1) := by decide +kernel
theorem dX0_hasField_24 : decode cX0_hasField 24 = .ok (.iaload, 1) := by decide +kernel
theorem dX0_hasField_25 : decode cX0_hasField 25 = .ok (.if_icmp .ge 7, 3) := by decide +kernel
theorem dX0_hasField_28 : decode cX0_hasField 28 = .ok (.iconst 1, 1) := by decide +kernel
theorem dX0_hasField_29 : decode cX0_hasField 29 = .ok (.goto 4, 3) := by decide +kernel
theorem dX0_hasField_32 : decode cX0_hasField 32 = .ok (.iconst 0, 1) := by decide +kernel
theorem dX0_hasField_33 : decode cX0_hasField 33 = .ok (.ireturn, 1) := by decide +kernel
abbrev cX0_load : ByteArray := prog_1_method_6_code
def yX0_load : MethodName := ⟨RX0, "load", "(III)I"⟩
theorem dX0_load_0 : decode cX0_load 0 = .ok (.iload_n 1, 1) := by decide +kernel
theorem dX0_load_1 : decode cX0_load 1 = .ok (.invokestatic 35, 3) := by decide +kernel
theorem dX0_load_4 : decode cX0_load 4 = .ok (.ifCond .eq 10, 3) := by decide +kernel
theorem dX0_load_7 : decode cX0_load 7 = .ok (.iload_n 2, 1) := by decide +kernel
theorem dX0_load_8 : decode cX0_load 8 = .ok (.invokestatic 35, 3) := by decide +kernel
theorem dX0_load_11 : decode cX0_load 11 = .ok (.ifCond .ne 5, 3) := by decide +kernel
theorem dX0_load_14 : decode cX0_load 14 = .ok (.iconst (-1), 1) := by decide +kernel
theorem dX0_load_15 : decode cX0_load 15 = .ok (.ireturn, 1) := by decide +kernel
theorem dX0_load_16 : decode cX0_load 16 = .ok (.aload_n 0, 1) := by decide +kernel
theorem dX0_load_17 : decode cX0_load 17 = .ok (.iload_n 2, 1) := by decide +kernel
theorem dX0_load_18 : decode cX0_load 18 = .ok (.iload_n 3, 1) := by decide +kernel
theorem dX0_load_19 : decode cX0_load 19 = .ok (.invokevirtual 46, 3) := by decide +kernel
theorem dX0_load_22 : decode cX0_load 22 = .ok (.ifCond .ne 6, 3) := by decide +kernel
theorem dX0_load_25 : decode cX0_load 25 = .ok (.bipush (-3), 2) := by decide +kernel
theorem dX0_load_27 : decode cX0_load 27 = .ok (.ireturn, 1) := by decide +kernel
theorem dX0_load_28 : decode cX0_load 28 = .ok (.aload_n 0, 1) := by decide +kernel
theorem dX0_load_29 : decode cX0_load 29 = .ok (.getfield 17, 3) := by decide +kernel
theorem dX0_load_32 : decode cX0_load 32 = .ok (.iload_n 2, 1) := by decide +kernel
theorem dX0_load_33 : decode cX0_load 33 = .ok (.iaload, 1) := by decide +kernel
theorem dX0_load_34 : decode cX0_load 34 = .ok (.iconst 1, 1) := by decide +kernel
theorem dX0_load_35 : decode cX0_load 35 = .ok (.iadd, 1) := by decide +kernel
theorem dX0_load_36 : decode cX0_load 36 = .ok (.iload_n 3, 1) := by decide +kernel
theorem dX0_load_37 : decode cX0_load 37 = .ok (.iadd, 1) := by decide +kernel
theorem dX0_load_38 : decode cX0_load 38 = .ok (.istore 4, 2) := by decide +kernel
theorem dX0_load_40 : decode cX0_load 40 = .ok (.aload_n 0, 1) := by decide +kernel
theorem dX0_load_41 : decode cX0_load 41 = .ok (.getfield 17, 3) := by decide +kernel
theorem dX0_load_44 : decode cX0_load 44 = .ok (.iload_n 1, 1) := by decide +kernel
theorem dX0_load_45 : decode cX0_load 45 = .ok (.aload_n 0, 1) := by decide +kernel
theorem dX0_load_46 : decode cX0_load 46 = .ok (.getfield 7, 3) := by decide +kernel
theorem dX0_load_49 : decode cX0_load 49 = .ok (.iload 4, 2) := by decide +kernel
theorem dX0_load_51 : decode cX0_load 51 = .ok (.iaload, 1) := by decide +kernel
theorem dX0_load_52 : decode cX0_load 52 = .ok (.iastore, 1) := by decide +kernel
theorem dX0_load_53 : decode cX0_load 53 = .ok (.aload_n 0, 1) := by decide +kernel
theorem dX0_load_54 : decode cX0_load 54 = .ok (.getfield 20, 3) := by decide +kernel
theorem dX0_load_57 : decode cX0_load 57 = .ok (.iload_n 1, 1) := by decide +kernel
theorem dX0_load_58 : decode cX0_load 58 = .ok (.aload_n 0, 1) := by decide +kernel
theorem dX0_load_59 : decode cX0_load 59 = .ok (.getfield 13, 3) := by decide +kernel
theorem dX0_load_62 : decode cX0_load 62 = .ok (.iload 4, 2) := by decide +kernel
theorem dX0_load_64 : decode cX0_load 64 = .ok (.baload, 1) := by decide +kernel
theorem dX0_load_65 : decode cX0_load 65 = .ok (.bastore, 1) := by decide +kernel
theorem dX0_load_66 : decode cX0_load 66 = .ok (.iconst 0, 1) := by decide +kernel
theorem dX0_load_67 : decode cX0_load 67 = .ok (.ireturn, 1) := by decide +kernel
abbrev cX0_collect : ByteArray := prog_1_method_7_code
def yX0_collect : MethodName := ⟨RX0, "collect", "()I"⟩
theorem dX0_collect_0 : decode cX0_collect 0 = .ok (.aload_n 0, 1) := by decide +kernel
theorem dX0_collect_1 : decode cX0_collect 1 = .ok (.invokevirtual 43, 3) := by decide +kernel
theorem dX0_collect_4 : decode cX0_collect 4 = .ok (.aload_n 0, 1) := by decide +kernel
theorem dX0_collect_5 : decode cX0_collect 5 = .ok (.getfield 39, 3) := by decide +kernel
theorem dX0_collect_8 : decode cX0_collect 8 = .ok (.ireturn, 1) := by decide +kernel
abbrev cX0_fields : ByteArray := prog_1_method_8_code
def yX0_fields : MethodName := ⟨RX0, "fields", "(I)I"⟩
theorem dX0_fields_0 : decode cX0_fields 0 = .ok (.iload_n 1, 1) := by decide +kernel
theorem dX0_fields_1 : decode cX0_fields 1 = .ok (.invokestatic 35, 3) := by decide +kernel
theorem dX0_fields_4 : decode cX0_fields 4 = .ok (.ifCond .ne 5, 3) := by decide +kernel
theorem dX0_fields_7 : decode cX0_fields 7 = .ok (.iconst (-1), 1) := by decide +kernel
theorem dX0_fields_8 : decode cX0_fields 8 = .ok (.ireturn, 1) := by decide +kernel
theorem dX0_fields_9 : decode cX0_fields 9 = .ok (.aload_n 0, 1) := by decide +kernel
theorem dX0_fields_10 : decode cX0_fields 10 = .ok (.getfield 20, 3) := by decide +kernel
theorem dX0_fields_13 : decode cX0_fields 13 = .ok (.iload_n 1, 1) := by decide +kernel
theorem dX0_fields_14 : decode cX0_fields 14 = .ok (.baload, 1) := by decide +kernel
theorem dX0_fields_15 : decode cX0_fields 15 = .ok (.ifCond .eq 17, 3) := by decide +kernel
theorem dX0_fields_18 : decode cX0_fields 18 = .ok (.aload_n 0, 1) := by decide +kernel
theorem dX0_fields_19 : decode cX0_fields 19 = .ok (.getfield 7, 3) := by decide +kernel
theorem dX0_fields_22 : decode cX0_fields 22 = .ok (.aload_n 0, 1) := by decide +kernel
theorem dX0_fields_23 : decode cX0_fields 23 = .ok (.getfield 17, 3) := by decide +kernel
theorem dX0_fields_26 : decode cX0_fields 26 = .ok (.iload_n 1, 1) := by decide +kernel
theorem dX0_fields_27 : decode cX0_fields 27 = .ok (.iaload, 1) := by decide +kernel
theorem dX0_fields_28 : decode cX0_fields 28 = .ok (.iaload, 1) := by decide +kernel
theorem dX0_fields_29 : decode cX0_fields 29 = .ok (.goto 4, 3) := by decide +kernel
theorem dX0_fields_32 : decode cX0_fields 32 = .ok (.iconst 0, 1) := by decide +kernel
theorem dX0_fields_33 : decode cX0_fields 33 = .ok (.ireturn, 1) := by decide +kernel
abbrev cX0_value : ByteArray := prog_1_method_9_code
def yX0_value : MethodName := ⟨RX0, "value", "(I)I"⟩
theorem dX0_value_0 : decode cX0_value 0 = .ok (.iload_n 1, 1) := by decide +kernel
theorem dX0_value_1 : decode cX0_value 1 = .ok (.invokestatic 35, 3) := by decide +kernel
theorem dX0_value_4 : decode cX0_value 4 = .ok (.ifCond .eq 21, 3) := by decide +kernel
theorem dX0_value_7 : decode cX0_value 7 = .ok (.aload_n 0, 1) := by decide +kernel
theorem dX0_value_8 : decode cX0_value 8 = .ok (.getfield 20, 3) := by decide +kernel
theorem dX0_value_11 : decode cX0_value 11 = .ok (.iload_n 1, 1) := by decide +kernel
theorem dX0_value_12 : decode cX0_value 12 = .ok (.baload, 1) := by decide +kernel
theorem dX0_value_13 : decode cX0_value 13 = .ok (.ifCond .ne 12, 3) := by decide +kernel
theorem dX0_value_16 : decode cX0_value 16 = .ok (.aload_n 0, 1) := by decide +kernel
theorem dX0_value_17 : decode cX0_value 17 = .ok (.getfield 17, 3) := by decide +kernel
theorem dX0_value_20 : decode cX0_value 20 = .ok (.iload_n 1, 1) := by decide +kernel
theorem dX0_value_21 : decode cX0_value 21 = .ok (.iaload, 1) := by decide +kernel
theorem dX0_value_22 : decode cX0_value 22 = .ok (.goto 4, 3) := by decide +kernel
theorem dX0_value_25 : decode cX0_value 25 = .ok (.iconst 0, 1) := by decide +kernel
theorem dX0_value_26 : decode cX0_value 26 = .ok (.ireturn, 1) := by decide +kernel
abbrev cX0_same : ByteArray := prog_1_method_10_code
def yX0_same : MethodName := ⟨RX0, "same", "(II)I"⟩
theorem dX0_same_0 : decode cX0_same 0 = .ok (.iload_n 1, 1) := by decide +kernel
theorem dX0_same_1 : decode cX0_same 1 = .ok (.invokestatic 35, 3) := by decide +kernel
theorem dX0_same_4 : decode cX0_same 4 = .ok (.ifCond .eq 10, 3) := by decide +kernel
theorem dX0_same_7 : decode cX0_same 7 = .ok (.iload_n 2, 1) := by decide +kernel
theorem dX0_same_8 : decode cX0_same 8 = .ok (.invokestatic 35, 3) := by decide +kernel
theorem dX0_same_11 : decode cX0_same 11 = .ok (.ifCond .ne 5, 3) := by decide +kernel
theorem dX0_same_14 : decode cX0_same 14 = .ok (.iconst (-1), 1) := by decide +kernel
theorem dX0_same_15 : decode cX0_same 15 = .ok (.ireturn, 1) := by decide +kernel
theorem dX0_same_16 : decode cX0_same 16 = .ok (.aload_n 0, 1) := by decide +kernel
theorem dX0_same_17 : decode cX0_same 17 = .ok (.getfield 20, 3) := by decide +kernel
theorem dX0_same_20 : decode cX0_same 20 = .ok (.iload_n 1, 1) := by decide +kernel
theorem dX0_same_21 : decode cX0_same 21 = .ok (.baload, 1) := by decide +kernel
theorem dX0_same_22 : decode cX0_same 22 = .ok (.aload_n 0, 1) := by decide +kernel
theorem dX0_same_23 : decode cX0_same 23 = .ok (.getfield 20, 3) := by decide +kernel
theorem dX0_same_26 : decode cX0_same 26 = .ok (.iload_n 2, 1) := by decide +kernel
theorem dX0_same_27 : decode cX0_same 27 = .ok (.baload, 1) := by decide +kernel
theorem dX0_same_28 : decode cX0_same 28 = .ok (.if_icmp .ne 22, 3) := by decide +kernel
theorem dX0_same_31 : decode cX0_same 31 = .ok (.aload_n 0, 1) := by decide +kernel
theorem dX0_same_32 : decode cX0_same 32 = .ok (.getfield 17, 3) := by decide +kernel
theorem dX0_same_35 : decode cX0_same 35 = .ok (.iload_n 1, 1) := by decide +kernel
theorem dX0_same_36 : decode cX0_same 36 = .ok (.iaload, 1) := by decide +kernel
theorem dX0_same_37 : decode cX0_same 37 = .ok (.aload_n 0, 1) := by decide +kernel
theorem dX0_same_38 : decode cX0_same 38 = .ok (.getfield 17, 3) := by decide +kernel
theorem dX0_same_41 : decode cX0_same 41 = .ok (.iload_n 2, 1) := by decide +kernel
theorem dX0_same_42 : decode cX0_same 42 = .ok (.iaload, 1) := by decide +kernel
theorem dX0_same_43 : decode cX0_same 43 = .ok (.if_icmp .ne 7, 3) := by decide +kernel
theorem dX0_same_46 : decode cX0_same 46 = .ok (.iconst 1, 1) := by decide +kernel
theorem dX0_same_47 : decode cX0_same 47 = .ok (.goto 4, 3) := by decide +kernel
theorem dX0_same_50 : decode cX0_same 50 = .ok (.iconst 0, 1) := by decide +kernel
theorem dX0_same_51 : decode cX0_same 51 = .ok (.ireturn, 1) := by decide +kernel
abbrev cX0_used : ByteArray := prog_1_method_11_code
def yX0_used : MethodName := ⟨RX0, "used", "()I"⟩
theorem dX0_used_0 : decode cX0_used 0 = .ok (.aload_n 0, 1) := by decide +kernel
theorem dX0_used_1 : decode cX0_used 1 = .ok (.getfield 39, 3) := by decide +kernel
theorem dX0_used_4 : decode cX0_used 4 = .ok (.ireturn, 1) := by decide +kernel
theorem q14 : (Jvm.Cond.initialized "BreakHeap") ∈ lw_all := lw_g (lw_at lw_m0 1 rfl) rfl
theorem q17 : (Jvm.Cond.instantiable "BreakHeap" (11 : Nat)) ∈ lw_all := lw_g (lw_at lw_m0 4 rfl) rfl
theorem q19 : (Jvm.Cond.instanceMethod ({ cls := "BreakHeap", name := "<init>", desc := "()V" } : Jvm.MethodName)) ∈ lw_all := lw_g (lw_at lw_m0 6 rfl) rfl
theorem q20 : (Jvm.Cond.code ({ cls := "BreakHeap", name := "<init>", desc := "()V" } : Jvm.MethodName) prog_1_method_1_code (1 : Nat) (Option.none : Option Jvm.ClassFile.FieldType)) ∈ lw_all := lw_g (lw_at lw_m0 7 rfl) rfl
theorem q21 : (Jvm.Cond.methodLink "BreakHeap" (1 : Nat) ({ cls := "java/lang/Object", name := "<init>", desc := "()V" } : Jvm.MethodName)) ∈ lw_all := lw_g (lw_at lw_m0 8 rfl) rfl
theorem q24 : (Jvm.Cond.fieldLink "BreakHeap" (39 : Nat) "BreakHeap" "top" "I") ∈ lw_all := lw_g (lw_at lw_m0 11 rfl) rfl
theorem q25 : (Jvm.Cond.fieldLink "BreakHeap" (7 : Nat) "BreakHeap" "word" "[I") ∈ lw_all := lw_g (lw_at lw_m0 12 rfl) rfl
theorem q26 : (Jvm.Cond.fieldLink "BreakHeap" (13 : Nat) "BreakHeap" "refers" "[Z") ∈ lw_all := lw_g (lw_at lw_m0 13 rfl) rfl
theorem q27 : (Jvm.Cond.fieldLink "BreakHeap" (17 : Nat) "BreakHeap" "held" "[I") ∈ lw_all := lw_g (lw_at lw_m0 14 rfl) rfl
theorem q28 : (Jvm.Cond.fieldLink "BreakHeap" (20 : Nat) "BreakHeap" "heldRefers" "[Z") ∈ lw_all := lw_g (lw_at lw_m0 15 rfl) rfl
theorem q29 : (Jvm.Cond.fieldLink "BreakHeap" (23 : Nat) "BreakHeap" "reached" "[Z") ∈ lw_all := lw_g (lw_at lw_m0 16 rfl) rfl
theorem q30 : (Jvm.Cond.fieldLink "BreakHeap" (66 : Nat) "BreakHeap" "waiting" "I") ∈ lw_all := lw_g (lw_at lw_m0 17 rfl) rfl
theorem q31 : (Jvm.Cond.fieldLink "BreakHeap" (26 : Nat) "BreakHeap" "stack" "[I") ∈ lw_all := lw_g (lw_at lw_m0 18 rfl) rfl
theorem q32 : (Jvm.Cond.fieldLink "BreakHeap" (73 : Nat) "BreakHeap" "breaks" "I") ∈ lw_all := lw_g (lw_at lw_m0 19 rfl) rfl
theorem q33 : (Jvm.Cond.fieldLink "BreakHeap" (29 : Nat) "BreakHeap" "breakAt" "[I") ∈ lw_all := lw_g (lw_at lw_m0 20 rfl) rfl
theorem q34 : (Jvm.Cond.fieldLink "BreakHeap" (32 : Nat) "BreakHeap" "breakBy" "[I") ∈ lw_all := lw_g (lw_at lw_m0 21 rfl) rfl
theorem q35 : (Jvm.Cond.lays "BreakHeap" "BreakHeap" "top" "I") ∈ lw_all := lw_g (lw_at lw_m0 22 rfl) rfl
theorem q36 : (Jvm.Cond.soleField "BreakHeap" "top") ∈ lw_all := lw_g (lw_at lw_m0 23 rfl) rfl
theorem q37 : (Jvm.Cond.laysFinal "BreakHeap" "BreakHeap" "word" "[I") ∈ lw_all := lw_g (lw_at lw_m0 24 rfl) rfl
theorem q38 : (Jvm.Cond.soleField "BreakHeap" "word") ∈ lw_all := lw_g (lw_at lw_m0 25 rfl) rfl
theorem q39 : (Jvm.Cond.laysFinal "BreakHeap" "BreakHeap" "refers" "[Z") ∈ lw_all := lw_g (lw_at lw_m0 26 rfl) rfl
theorem q40 : (Jvm.Cond.soleField "BreakHeap" "refers") ∈ lw_all := lw_g (lw_at lw_m0 27 rfl) rfl
theorem q41 : (Jvm.Cond.laysFinal "BreakHeap" "BreakHeap" "held" "[I") ∈ lw_all := lw_g (lw_at lw_m0 28 rfl) rfl
theorem q42 : (Jvm.Cond.soleField "BreakHeap" "held") ∈ lw_all := lw_g (lw_at lw_m0 29 rfl) rfl
theorem q43 : (Jvm.Cond.laysFinal "BreakHeap" "BreakHeap" "heldRefers" "[Z") ∈ lw_all := lw_g (lw_at lw_m0 30 rfl) rfl
theorem q44 : (Jvm.Cond.soleField "BreakHeap" "heldRefers") ∈ lw_all := lw_g (lw_at lw_m0 31 rfl) rfl
theorem q45 : (Jvm.Cond.laysFinal "BreakHeap" "BreakHeap" "reached" "[Z") ∈ lw_all := lw_g (lw_at lw_m0 32 rfl) rfl
theorem q46 : (Jvm.Cond.soleField "BreakHeap" "reached") ∈ lw_all := lw_g (lw_at lw_m0 33 rfl) rfl
theorem q47 : (Jvm.Cond.lays "BreakHeap" "BreakHeap" "waiting" "I") ∈ lw_all := lw_g (lw_at lw_m0 34 rfl) rfl
theorem q48 : (Jvm.Cond.soleField "BreakHeap" "waiting") ∈ lw_all := lw_g (lw_at lw_m0 35 rfl) rfl
theorem q49 : (Jvm.Cond.laysFinal "BreakHeap" "BreakHeap" "stack" "[I") ∈ lw_all := lw_g (lw_at lw_m0 36 rfl) rfl
theorem q50 : (Jvm.Cond.soleField "BreakHeap" "stack") ∈ lw_all := lw_g (lw_at lw_m0 37 rfl) rfl
theorem q51 : (Jvm.Cond.lays "BreakHeap" "BreakHeap" "breaks" "I") ∈ lw_all := lw_g (lw_at lw_m0 38 rfl) rfl
theorem q52 : (Jvm.Cond.soleField "BreakHeap" "breaks") ∈ lw_all := lw_g (lw_at lw_m0 39 rfl) rfl
theorem q53 : (Jvm.Cond.laysFinal "BreakHeap" "BreakHeap" "breakAt" "[I") ∈ lw_all := lw_g (lw_at lw_m0 40 rfl) rfl
theorem q54 : (Jvm.Cond.soleField "BreakHeap" "breakAt") ∈ lw_all := lw_g (lw_at lw_m0 41 rfl) rfl
theorem q55 : (Jvm.Cond.laysFinal "BreakHeap" "BreakHeap" "breakBy" "[I") ∈ lw_all := lw_g (lw_at lw_m0 42 rfl) rfl
theorem q56 : (Jvm.Cond.soleField "BreakHeap" "breakBy") ∈ lw_all := lw_g (lw_at lw_m0 43 rfl) rfl
theorem q57 : (Jvm.Cond.superclass "BreakHeap" "java/lang/Object") ∈ lw_all := lw_g (lw_at lw_m0 44 rfl) rfl
theorem q61 : (Jvm.Cond.instanceMethod ({ cls := "BreakHeap", name := "make", desc := "(II)I" } : Jvm.MethodName)) ∈ lw_all := lw_g (lw_at lw_m0 48 rfl) rfl
theorem q62 : (Jvm.Cond.selects "BreakHeap" ({ cls := "BreakHeap", name := "make", desc := "(II)I" } : Jvm.MethodName) ({ cls := "BreakHeap", name := "make", desc := "(II)I" } : Jvm.MethodName)) ∈ lw_all := lw_g (lw_at lw_m0 49 rfl) rfl
theorem q63 : (Jvm.Cond.code ({ cls := "BreakHeap", name := "make", desc := "(II)I" } : Jvm.MethodName) prog_1_method_2_code (5 : Nat) (Option.some Jvm.ClassFile.FieldType.int)) ∈ lw_all := lw_g (lw_at lw_m0 50 rfl) rfl
theorem q64 : (Jvm.Cond.methodLink "BreakHeap" (35 : Nat) ({ cls := "BreakHeap", name := "isRegister", desc := "(I)Z" } : Jvm.MethodName)) ∈ lw_all := lw_g (lw_at lw_m0 51 rfl) rfl
theorem q65 : (Jvm.Cond.static ({ cls := "BreakHeap", name := "isRegister", desc := "(I)Z" } : Jvm.MethodName)) ∈ lw_all := lw_g (lw_at lw_m0 52 rfl) rfl
theorem q66 : (Jvm.Cond.code ({ cls := "BreakHeap", name := "isRegister", desc := "(I)Z" } : Jvm.MethodName) prog_1_method_12_code (1 : Nat) (Option.some Jvm.ClassFile.FieldType.boolean)) ∈ lw_all := lw_g (lw_at lw_m0 53 rfl) rfl
theorem q67 : (Jvm.Cond.methodLink "BreakHeap" (43 : Nat) ({ cls := "BreakHeap", name := "squeeze", desc := "()V" } : Jvm.MethodName)) ∈ lw_all := lw_g (lw_at lw_m0 54 rfl) rfl
theorem q68 : (Jvm.Cond.privateMethod ({ cls := "BreakHeap", name := "squeeze", desc := "()V" } : Jvm.MethodName)) ∈ lw_tbl := lw_at lw_m0 55 rfl
theorem q69 : (Jvm.Cond.instanceMethod ({ cls := "BreakHeap", name := "squeeze", desc := "()V" } : Jvm.MethodName)) ∈ lw_all := lw_g (lw_at lw_m0 56 rfl) rfl
theorem q70 : (Jvm.Cond.code ({ cls := "BreakHeap", name := "squeeze", desc := "()V" } : Jvm.MethodName) prog_1_method_14_code (2 : Nat) (Option.none : Option Jvm.ClassFile.FieldType)) ∈ lw_all := lw_g (lw_at lw_m0 57 rfl) rfl
theorem q71 : (Jvm.Cond.methodLink "BreakHeap" (50 : Nat) ({ cls := "BreakHeap", name := "markReached", desc := "()V" } : Jvm.MethodName)) ∈ lw_all := lw_g (lw_at lw_m0 58 rfl) rfl
theorem q72 : (Jvm.Cond.privateMethod ({ cls := "BreakHeap", name := "markReached", desc := "()V" } : Jvm.MethodName)) ∈ lw_tbl := lw_at lw_m0 59 rfl
theorem q73 : (Jvm.Cond.instanceMethod ({ cls := "BreakHeap", name := "markReached", desc := "()V" } : Jvm.MethodName)) ∈ lw_all := lw_g (lw_at lw_m0 60 rfl) rfl
theorem q74 : (Jvm.Cond.code ({ cls := "BreakHeap", name := "markReached", desc := "()V" } : Jvm.MethodName) prog_1_method_16_code (4 : Nat) (Option.none : Option Jvm.ClassFile.FieldType)) ∈ lw_all := lw_g (lw_at lw_m0 61 rfl) rfl
theorem q75 : (Jvm.Cond.methodLink "BreakHeap" (69 : Nat) ({ cls := "BreakHeap", name := "reach", desc := "(I)V" } : Jvm.MethodName)) ∈ lw_all := lw_g (lw_at lw_m0 62 rfl) rfl
theorem q76 : (Jvm.Cond.privateMethod ({ cls := "BreakHeap", name := "reach", desc := "(I)V" } : Jvm.MethodName)) ∈ lw_tbl := lw_at lw_m0 63 rfl
theorem q77 : (Jvm.Cond.instanceMethod ({ cls := "BreakHeap", name := "reach", desc := "(I)V" } : Jvm.MethodName)) ∈ lw_all := lw_g (lw_at lw_m0 64 rfl) rfl
theorem q78 : (Jvm.Cond.code ({ cls := "BreakHeap", name := "reach", desc := "(I)V" } : Jvm.MethodName) prog_1_method_15_code (2 : Nat) (Option.none : Option Jvm.ClassFile.FieldType)) ∈ lw_all := lw_g (lw_at lw_m0 65 rfl) rfl
theorem q79 : (Jvm.Cond.methodLink "BreakHeap" (53 : Nat) ({ cls := "BreakHeap", name := "listBreaks", desc := "()V" } : Jvm.MethodName)) ∈ lw_all := lw_g (lw_at lw_m0 66 rfl) rfl
theorem q80 : (Jvm.Cond.privateMethod ({ cls := "BreakHeap", name := "listBreaks", desc := "()V" } : Jvm.MethodName)) ∈ lw_tbl := lw_at lw_m0 67 rfl
theorem q81 : (Jvm.Cond.instanceMethod ({ cls := "BreakHeap", name := "listBreaks", desc := "()V" } : Jvm.MethodName)) ∈ lw_all := lw_g (lw_at lw_m0 68 rfl) rfl
theorem q82 : (Jvm.Cond.code ({ cls := "BreakHeap", name := "listBreaks", desc := "()V" } : Jvm.MethodName) prog_1_method_17_code (6 : Nat) (Option.none : Option Jvm.ClassFile.FieldType)) ∈ lw_all := lw_g (lw_at lw_m0 69 rfl) rfl
theorem q83 : (Jvm.Cond.methodLink "BreakHeap" (56 : Nat) ({ cls := "BreakHeap", name := "movedAddress", desc := "(I)I" } : Jvm.MethodName)) ∈ lw_all := lw_g (lw_at lw_m0 70 rfl) rfl
theorem q84 : (Jvm.Cond.privateMethod ({ cls := "BreakHeap", name := "movedAddress", desc := "(I)I" } : Jvm.MethodName)) ∈ lw_tbl := lw_at lw_m0 71 rfl
theorem q85 : (Jvm.Cond.instanceMethod ({ cls := "BreakHeap", name := "movedAddress", desc := "(I)I" } : Jvm.MethodName)) ∈ lw_all := lw_g (lw_at lw_m0 72 rfl) rfl
theorem q86 : (Jvm.Cond.code ({ cls := "BreakHeap", name := "movedAddress", desc := "(I)I" } : Jvm.MethodName) prog_1_method_18_code (6 : Nat) (Option.some Jvm.ClassFile.FieldType.int)) ∈ lw_all := lw_g (lw_at lw_m0 73 rfl) rfl
theorem q87 : (Jvm.Cond.methodLink "BreakHeap" (60 : Nat) ({ cls := "BreakHeap", name := "mendFields", desc := "()V" } : Jvm.MethodName)) ∈ lw_all := lw_g (lw_at lw_m0 74 rfl) rfl
theorem q88 : (Jvm.Cond.privateMethod ({ cls := "BreakHeap", name := "mendFields", desc := "()V" } : Jvm.MethodName)) ∈ lw_tbl := lw_at lw_m0 75 rfl
theorem q89 : (Jvm.Cond.instanceMethod ({ cls := "BreakHeap", name := "mendFields", desc := "()V" } : Jvm.MethodName)) ∈ lw_all := lw_g (lw_at lw_m0 76 rfl) rfl
theorem q90 : (Jvm.Cond.code ({ cls := "BreakHeap", name := "mendFields", desc := "()V" } : Jvm.MethodName) prog_1_method_19_code (5 : Nat) (Option.none : Option Jvm.ClassFile.FieldType)) ∈ lw_all := lw_g (lw_at lw_m0 77 rfl) rfl
theorem q91 : (Jvm.Cond.methodLink "BreakHeap" (63 : Nat) ({ cls := "BreakHeap", name := "slideDown", desc := "()V" } : Jvm.MethodName)) ∈ lw_all := lw_g (lw_at lw_m0 78 rfl) rfl
theorem q92 : (Jvm.Cond.privateMethod ({ cls := "BreakHeap", name := "slideDown", desc := "()V" } : Jvm.MethodName)) ∈ lw_tbl := lw_at lw_m0 79 rfl
theorem q93 : (Jvm.Cond.instanceMethod ({ cls := "BreakHeap", name := "slideDown", desc := "()V" } : Jvm.MethodName)) ∈ lw_all := lw_g (lw_at lw_m0 80 rfl) rfl
theorem q94 : (Jvm.Cond.code ({ cls := "BreakHeap", name := "slideDown", desc := "()V" } : Jvm.MethodName) prog_1_method_20_code (7 : Nat) (Option.none : Option Jvm.ClassFile.FieldType)) ∈ lw_all := lw_g (lw_at lw_m0 81 rfl) rfl
theorem q96 : (Jvm.Cond.instanceMethod ({ cls := "BreakHeap", name := "number", desc := "(II)I" } : Jvm.MethodName)) ∈ lw_all := lw_g (lw_at lw_m0 83 rfl) rfl
theorem q97 : (Jvm.Cond.selects "BreakHeap" ({ cls := "BreakHeap", name := "number", desc := "(II)I" } : Jvm.MethodName) ({ cls := "BreakHeap", name := "number", desc := "(II)I" } : Jvm.MethodName)) ∈ lw_all := lw_g (lw_at lw_m0 84 rfl) rfl
theorem q98 : (Jvm.Cond.code ({ cls := "BreakHeap", name := "number", desc := "(II)I" } : Jvm.MethodName) prog_1_method_3_code (3 : Nat) (Option.some Jvm.ClassFile.FieldType.int)) ∈ lw_all := lw_g (lw_at lw_m0 85 rfl) rfl
theorem q100 : (Jvm.Cond.instanceMethod ({ cls := "BreakHeap", name := "move", desc := "(II)I" } : Jvm.MethodName)) ∈ lw_all := lw_g (lw_at lw_m0 87 rfl) rfl
theorem q101 : (Jvm.Cond.selects "BreakHeap" ({ cls := "BreakHeap", name := "move", desc := "(II)I" } : Jvm.MethodName) ({ cls := "BreakHeap", name := "move", desc := "(II)I" } : Jvm.MethodName)) ∈ lw_all := lw_g (lw_at lw_m0 88 rfl) rfl
theorem q102 : (Jvm.Cond.code ({ cls := "BreakHeap", name := "move", desc := "(II)I" } : Jvm.MethodName) prog_1_method_4_code (3 : Nat) (Option.some Jvm.ClassFile.FieldType.int)) ∈ lw_all := lw_g (lw_at lw_m0 89 rfl) rfl
theorem q104 : (Jvm.Cond.instanceMethod ({ cls := "BreakHeap", name := "store", desc := "(III)I" } : Jvm.MethodName)) ∈ lw_all := lw_g (lw_at lw_m0 91 rfl) rfl
theorem q105 : (Jvm.Cond.selects "BreakHeap" ({ cls := "BreakHeap", name := "store", desc := "(III)I" } : Jvm.MethodName) ({ cls := "BreakHeap", name := "store", desc := "(III)I" } : Jvm.MethodName)) ∈ lw_all := lw_g (lw_at lw_m0 92 rfl) rfl
theorem q106 : (Jvm.Cond.code ({ cls := "BreakHeap", name := "store", desc := "(III)I" } : Jvm.MethodName) prog_1_method_5_code (5 : Nat) (Option.some Jvm.ClassFile.FieldType.int)) ∈ lw_all := lw_g (lw_at lw_m0 93 rfl) rfl
theorem q107 : (Jvm.Cond.methodLink "BreakHeap" (46 : Nat) ({ cls := "BreakHeap", name := "hasField", desc := "(II)Z" } : Jvm.MethodName)) ∈ lw_all := lw_g (lw_at lw_m0 94 rfl) rfl
theorem q108 : (Jvm.Cond.privateMethod ({ cls := "BreakHeap", name := "hasField", desc := "(II)Z" } : Jvm.MethodName)) ∈ lw_tbl := lw_at lw_m0 95 rfl
theorem q109 : (Jvm.Cond.instanceMethod ({ cls := "BreakHeap", name := "hasField", desc := "(II)Z" } : Jvm.MethodName)) ∈ lw_all := lw_g (lw_at lw_m0 96 rfl) rfl
theorem q110 : (Jvm.Cond.code ({ cls := "BreakHeap", name := "hasField", desc := "(II)Z" } : Jvm.MethodName) prog_1_method_13_code (3 : Nat) (Option.some Jvm.ClassFile.FieldType.boolean)) ∈ lw_all := lw_g (lw_at lw_m0 97 rfl) rfl
theorem q112 : (Jvm.Cond.instanceMethod ({ cls := "BreakHeap", name := "load", desc := "(III)I" } : Jvm.MethodName)) ∈ lw_all := lw_g (lw_at lw_m0 99 rfl) rfl
theorem q113 : (Jvm.Cond.selects "BreakHeap" ({ cls := "BreakHeap", name := "load", desc := "(III)I" } : Jvm.MethodName) ({ cls := "BreakHeap", name := "load", desc := "(III)I" } : Jvm.MethodName)) ∈ lw_all := lw_g (lw_at lw_m0 100 rfl) rfl
theorem q114 : (Jvm.Cond.code ({ cls := "BreakHeap", name := "load", desc := "(III)I" } : Jvm.MethodName) prog_1_method_6_code (5 : Nat) (Option.some Jvm.ClassFile.FieldType.int)) ∈ lw_all := lw_g (lw_at lw_m0 101 rfl) rfl
theorem q116 : (Jvm.Cond.instanceMethod ({ cls := "BreakHeap", name := "collect", desc := "()I" } : Jvm.MethodName)) ∈ lw_all := lw_g (lw_at lw_m0 103 rfl) rfl
theorem q117 : (Jvm.Cond.selects "BreakHeap" ({ cls := "BreakHeap", name := "collect", desc := "()I" } : Jvm.MethodName) ({ cls := "BreakHeap", name := "collect", desc := "()I" } : Jvm.MethodName)) ∈ lw_all := lw_g (lw_at lw_m0 104 rfl) rfl
theorem q118 : (Jvm.Cond.code ({ cls := "BreakHeap", name := "collect", desc := "()I" } : Jvm.MethodName) prog_1_method_7_code (1 : Nat) (Option.some Jvm.ClassFile.FieldType.int)) ∈ lw_all := lw_g (lw_at lw_m0 105 rfl) rfl
theorem q120 : (Jvm.Cond.instanceMethod ({ cls := "BreakHeap", name := "fields", desc := "(I)I" } : Jvm.MethodName)) ∈ lw_all := lw_g (lw_at lw_m0 107 rfl) rfl
theorem q121 : (Jvm.Cond.selects "BreakHeap" ({ cls := "BreakHeap", name := "fields", desc := "(I)I" } : Jvm.MethodName) ({ cls := "BreakHeap", name := "fields", desc := "(I)I" } : Jvm.MethodName)) ∈ lw_all := lw_g (lw_at lw_m0 108 rfl) rfl
theorem q122 : (Jvm.Cond.code ({ cls := "BreakHeap", name := "fields", desc := "(I)I" } : Jvm.MethodName) prog_1_method_8_code (2 : Nat) (Option.some Jvm.ClassFile.FieldType.int)) ∈ lw_all := lw_g (lw_at lw_m0 109 rfl) rfl
theorem q124 : (Jvm.Cond.instanceMethod ({ cls := "BreakHeap", name := "value", desc := "(I)I" } : Jvm.MethodName)) ∈ lw_all := lw_g (lw_at lw_m0 111 rfl) rfl
theorem q125 : (Jvm.Cond.selects "BreakHeap" ({ cls := "BreakHeap", name := "value", desc := "(I)I" } : Jvm.MethodName) ({ cls := "BreakHeap", name := "value", desc := "(I)I" } : Jvm.MethodName)) ∈ lw_all := lw_g (lw_at lw_m0 112 rfl) rfl
theorem q126 : (Jvm.Cond.code ({ cls := "BreakHeap", name := "value", desc := "(I)I" } : Jvm.MethodName) prog_1_method_9_code (2 : Nat) (Option.some Jvm.ClassFile.FieldType.int)) ∈ lw_all := lw_g (lw_at lw_m0 113 rfl) rfl
theorem q128 : (Jvm.Cond.instanceMethod ({ cls := "BreakHeap", name := "same", desc := "(II)I" } : Jvm.MethodName)) ∈ lw_all := lw_g (lw_at lw_m0 115 rfl) rfl
theorem q129 : (Jvm.Cond.selects "BreakHeap" ({ cls := "BreakHeap", name := "same", desc := "(II)I" } : Jvm.MethodName) ({ cls := "BreakHeap", name := "same", desc := "(II)I" } : Jvm.MethodName)) ∈ lw_all := lw_g (lw_at lw_m0 116 rfl) rfl
theorem q130 : (Jvm.Cond.code ({ cls := "BreakHeap", name := "same", desc := "(II)I" } : Jvm.MethodName) prog_1_method_10_code (3 : Nat) (Option.some Jvm.ClassFile.FieldType.int)) ∈ lw_all := lw_g (lw_at lw_m0 117 rfl) rfl
theorem q132 : (Jvm.Cond.instanceMethod ({ cls := "BreakHeap", name := "used", desc := "()I" } : Jvm.MethodName)) ∈ lw_all := lw_g (lw_at lw_m0 119 rfl) rfl
theorem q133 : (Jvm.Cond.selects "BreakHeap" ({ cls := "BreakHeap", name := "used", desc := "()I" } : Jvm.MethodName) ({ cls := "BreakHeap", name := "used", desc := "()I" } : Jvm.MethodName)) ∈ lw_all := lw_g (lw_at lw_m0 120 rfl) rfl
theorem q134 : (Jvm.Cond.code ({ cls := "BreakHeap", name := "used", desc := "()I" } : Jvm.MethodName) prog_1_method_11_code (1 : Nat) (Option.some Jvm.ClassFile.FieldType.int)) ∈ lw_all := lw_g (lw_at lw_m0 121 rfl) rfl
theorem in_X0 : ∀ w ∈ wsX00, w ∈ lw_all := lw_in wsX00 [35, 37, 39, 41, 43, 45, 47, 49, 51, 53, 55] (by decide +kernel) (by decide +kernel)
end
section
/-! BreakHeapModel -/
set_option maxRecDepth 100000
def RX1 : String := "BreakHeapModel"
def TX1 : u_T := fun k => match k with
  | 0 => ("BreakHeapModel", "refers", "[Z", true)
  | 1 => ("BreakHeapModel", "content", "[I", true)
  | 2 => ("BreakHeapModel", "fieldsOf", "[I", true)
  | _ => ("BreakHeapModel", "reached", "[Z", true)
def tyX1 : Nat → FieldType := fun k => match k with
  | 0 => .array .boolean
  | 1 => .array .int
  | 2 => .array .int
  | _ => .array .boolean
abbrev wsX10 : List Cond := u_ws RX1 TX1 4
theorem nmX1 : ∀ a, a < 4 → ∀ b, b < 4 → a ≠ b → (TX1 a).2.1 ≠ (TX1 b).2.1 := by decide +kernel
theorem tyX1_ok : ∀ k, k < 4 → parseFieldDescriptor (TX1 k).2.2.1 = some (tyX1 k) := by decide +kernel
abbrev cX1_init : ByteArray := prog_3_method_1_code
def yX1_init : MethodName := ⟨RX1, "<init>", "()V"⟩
theorem dX1_init_0 : decode cX1_init 0 = .ok (.aload_n 0, 1) := by decide +kernel
theorem dX1_init_1 : decode cX1_init 1 = .ok (.invokespecial 1, 3) := by decide +kernel
theorem dX1_init_4 : decode cX1_init 4 = .ok (.aload_n 0, 1) := by decide +kernel
theorem dX1_init_5 : decode cX1_init 5 = .ok (.sipush 222, 3) := by decide +kernel
theorem dX1_init_8 : decode cX1_init 8 = .ok (.newarray .boolean, 2) := by decide +kernel
theorem dX1_init_10 : decode cX1_init 10 = .ok (.putfield 7, 3) := by decide +kernel
theorem dX1_init_13 : decode cX1_init 13 = .ok (.aload_n 0, 1) := by decide +kernel
theorem dX1_init_14 : decode cX1_init 14 = .ok (.sipush 222, 3) := by decide +kernel
theorem dX1_init_17 : decode cX1_init 17 = .ok (.newarray .int, 2) := by decide +kernel
theorem dX1_init_19 : decode cX1_init 19 = .ok (.putfield 13, 3) := by decide +kernel
theorem dX1_init_22 : decode cX1_init 22 = .ok (.aload_n 0, 1) := by decide +kernel
theorem dX1_init_23 : decode cX1_init 23 = .ok (.bipush 36, 2) := by decide +kernel
theorem dX1_init_25 : decode cX1_init 25 = .ok (.newarray .int, 2) := by decide +kernel
theorem dX1_init_27 : decode cX1_init 27 = .ok (.putfield 17, 3) := by decide +kernel
theorem dX1_init_30 : decode cX1_init 30 = .ok (.aload_n 0, 1) := by decide +kernel
theorem dX1_init_31 : decode cX1_init 31 = .ok (.bipush 36, 2) := by decide +kernel
theorem dX1_init_33 : decode cX1_init 33 = .ok (.newarray .boolean, 2) := by decide +kernel
theorem dX1_init_35 : decode cX1_init 35 = .ok (.putfield 20, 3) := by decide +kernel
theorem dX1_init_38 : decode cX1_init 38 = .ok (.return_, 1) := by decide +kernel
abbrev cX1_make : ByteArray := prog_3_method_6_code
def yX1_make : MethodName := ⟨RX1, "make", "(II)I"⟩
theorem dX1_make_0 : decode cX1_make 0 = .ok (.iload_n 1, 1) := by decide +kernel
theorem dX1_make_1 : decode cX1_make 1 = .ok (.invokestatic 27, 3) := by decide +kernel
theorem dX1_make_4 : decode cX1_make 4 = .ok (.ifCond .ne 14, 3) := by decide +kernel
theorem dX1_make_7 : decode cX1_make 7 = .ok (.iload_n 2, 1) := by decide +kernel
theorem dX1_make_8 : decode cX1_make 8 = .ok (.iconst 1, 1) := by decide +kernel
theorem dX1_make_9 : decode cX1_make 9 = .ok (.if_icmp .lt 9, 3) := by decide +kernel
theorem dX1_make_12 : decode cX1_make 12 = .ok (.iload_n 2, 1) := by decide +kernel
theorem dX1_make_13 : decode cX1_make 13 = .ok (.bipush 6, 2) := by decide +kernel
theorem dX1_make_15 : decode cX1_make 15 = .ok (.if_icmp .le 5, 3) := by decide +kernel
theorem dX1_make_18 : decode cX1_make 18 = .ok (.iconst (-1), 1) := by decide +kernel
theorem dX1_make_19 : decode cX1_make 19 = .ok (.ireturn, 1) := by decide +kernel
theorem dX1_make_20 : decode cX1_make 20 = .ok (.bipush 72, 2) := by decide +kernel
theorem dX1_make_22 : decode cX1_make 22 = .ok (.aload_n 0, 1) := by decide +kernel
theorem dX1_make_23 : decode cX1_make 23 = .ok (.invokevirtual 31, 3) := by decide +kernel
theorem dX1_make_26 : decode cX1_make 26 = .ok (.isub, 1) := by decide +kernel
theorem dX1_make_27 : decode cX1_make 27 = .ok (.iload_n 2, 1) := by decide +kernel
theorem dX1_make_28 : decode cX1_make 28 = .ok (.iconst 1, 1) := by decide +kernel
theorem dX1_make_29 : decode cX1_make 29 = .ok (.iadd, 1) := by decide +kernel
theorem dX1_make_30 : decode cX1_make 30 = .ok (.if_icmp .ge 8, 3) := by decide +kernel
theorem dX1_make_33 : decode cX1_make 33 = .ok (.aload_n 0, 1) := by decide +kernel
theorem dX1_make_34 : decode cX1_make 34 = .ok (.invokevirtual 35, 3) := by decide +kernel
theorem dX1_make_37 : decode cX1_make 37 = .ok (.pop, 1) := by decide +kernel
theorem dX1_make_38 : decode cX1_make 38 = .ok (.bipush 72, 2) := by decide +kernel
theorem dX1_make_40 : decode cX1_make 40 = .ok (.aload_n 0, 1) := by decide +kernel
theorem dX1_make_41 : decode cX1_make 41 = .ok (.invokevirtual 31, 3) := by decide +kernel
theorem dX1_make_44 : decode cX1_make 44 = .ok (.isub, 1) := by decide +kernel
theorem dX1_make_45 : decode cX1_make 45 = .ok (.iload_n 2, 1) := by decide +kernel
theorem dX1_make_46 : decode cX1_make 46 = .ok (.iconst 1, 1) := by decide +kernel
theorem dX1_make_47 : decode cX1_make 47 = .ok (.iadd, 1) := by decide +kernel
theorem dX1_make_48 : decode cX1_make 48 = .ok (.if_icmp .ge 6, 3) := by decide +kernel
theorem dX1_make_51 : decode cX1_make 51 = .ok (.bipush (-2), 2) := by decide +kernel
theorem dX1_make_53 : decode cX1_make 53 = .ok (.ireturn, 1) := by decide +kernel
theorem dX1_make_54 : decode cX1_make 54 = .ok (.aload_n 0, 1) := by decide +kernel
theorem dX1_make_55 : decode cX1_make 55 = .ok (.invokevirtual 38, 3) := by decide +kernel
theorem dX1_make_58 : decode cX1_make 58 = .ok (.istore_n 3, 1) := by decide +kernel
theorem dX1_make_59 : decode cX1_make 59 = .ok (.aload_n 0, 1) := by decide +kernel
theorem dX1_make_60 : decode cX1_make 60 = .ok (.getfield 17, 3) := by decide +kernel
theorem dX1_make_63 : decode cX1_make 63 = .ok (.iload_n 3, 1) := by decide +kernel
theorem dX1_make_64 : decode cX1_make 64 = .ok (.iload_n 2, 1) := by decide +kernel
theorem dX1_make_65 : decode cX1_make 65 = .ok (.iastore, 1) := by decide +kernel
theorem dX1_make_66 : decode cX1_make 66 = .ok (.iconst 0, 1) := by decide +kernel
theorem dX1_make_67 : decode cX1_make 67 = .ok (.istore 4, 2) := by decide +kernel
theorem dX1_make_69 : decode cX1_make 69 = .ok (.iload 4, 2) := by decide +kernel
theorem dX1_make_71 : decode cX1_make 71 = .ok (.bipush 6, 2) := by decide +kernel
theorem dX1_make_73 : decode cX1_make 73 = .ok (.if_icmp .ge 25, 3) := by decide +kernel
theorem dX1_make_76 : decode cX1_make 76 = .ok (.aload_n 0, 1) := by decide +kernel
theorem dX1_make_77 : decode cX1_make 77 = .ok (.bipush 6, 2) := by decide +kernel
theorem dX1_make_79 : decode cX1_make 79 = .ok (.bipush 6, 2) := by decide +kernel
theorem dX1_make_81 : decode cX1_make 81 = .ok (.iload_n 3, 1) := by decide +kernel
theorem dX1_make_82 : decode cX1_make 82 = .ok (.imul, 1) := by decide +kernel
theorem dX1_make_83 : decode cX1_make 83 = .ok (.iadd, 1) := by decide +kernel
theorem dX1_make_84 : decode cX1_make 84 = .ok (.iload 4, 2) := by decide +kernel
theorem dX1_make_86 : decode cX1_make 86 = .ok (.iadd, 1) := by decide +kernel
theorem dX1_make_87 : decode cX1_make 87 = .ok (.iconst 0, 1) := by decide +kernel
theorem dX1_make_88 : decode cX1_make 88 = .ok (.iconst 0, 1) := by decide +kernel
theorem dX1_make_89 : decode cX1_make 89 = .ok (.invokevirtual 23, 3) := by decide +kernel
theorem dX1_make_92 : decode cX1_make 92 = .ok (.iinc 4 1, 3) := by decide +kernel
theorem dX1_make_95 : decode cX1_make 95 = .ok (.goto (-26), 3) := by decide +kernel
theorem dX1_make_98 : decode cX1_make 98 = .ok (.aload_n 0, 1) := by decide +kernel
theorem dX1_make_99 : decode cX1_make 99 = .ok (.iload_n 1, 1) := by decide +kernel
theorem dX1_make_100 : decode cX1_make 100 = .ok (.iconst 1, 1) := by decide +kernel
theorem dX1_make_101 : decode cX1_make 101 = .ok (.iload_n 3, 1) := by decide +kernel
theorem dX1_make_102 : decode cX1_make 102 = .ok (.invokevirtual 23, 3) := by decide +kernel
theorem dX1_make_105 : decode cX1_make 105 = .ok (.iconst 0, 1) := by decide +kernel
theorem dX1_make_106 : decode cX1_make 106 = .ok (.ireturn, 1) := by decide +kernel
abbrev cX1_bad : ByteArray := prog_3_method_2_code
def yX1_bad : MethodName := ⟨RX1, "bad", "(I)Z"⟩
theorem dX1_bad_0 : decode cX1_bad 0 = .ok (.iload_n 0, 1) := by decide +kernel
theorem dX1_bad_1 : decode cX1_bad 1 = .ok (.ifCond .lt 8, 3) := by decide +kernel
theorem dX1_bad_4 : decode cX1_bad 4 = .ok (.iload_n 0, 1) := by decide +kernel
theorem dX1_bad_5 : decode cX1_bad 5 = .ok (.iconst 5, 1) := by decide +kernel
theorem dX1_bad_6 : decode cX1_bad 6 = .ok (.if_icmp .le 7, 3) := by decide +kernel
theorem dX1_bad_9 : decode cX1_bad 9 = .ok (.iconst 1, 1) := by decide +kernel
theorem dX1_bad_10 : decode cX1_bad 10 = .ok (.goto 4, 3) := by decide +kernel
theorem dX1_bad_13 : decode cX1_bad 13 = .ok (.iconst 0, 1) := by decide +kernel
theorem dX1_bad_14 : decode cX1_bad 14 = .ok (.ireturn, 1) := by decide +kernel
abbrev cX1_used : ByteArray := prog_3_method_17_code
def yX1_used : MethodName := ⟨RX1, "used", "()I"⟩
theorem dX1_used_0 : decode cX1_used 0 = .ok (.iconst 0, 1) := by decide +kernel
theorem dX1_used_1 : decode cX1_used 1 = .ok (.istore_n 1, 1) := by decide +kernel
theorem dX1_used_2 : decode cX1_used 2 = .ok (.iconst 0, 1) := by decide +kernel
theorem dX1_used_3 : decode cX1_used 3 = .ok (.istore_n 2, 1) := by decide +kernel
theorem dX1_used_4 : decode cX1_used 4 = .ok (.iload_n 2, 1) := by decide +kernel
theorem dX1_used_5 : decode cX1_used 5 = .ok (.bipush 36, 2) := by decide +kernel
theorem dX1_used_7 : decode cX1_used 7 = .ok (.if_icmp .ge 29, 3) := by decide +kernel
theorem dX1_used_10 : decode cX1_used 10 = .ok (.aload_n 0, 1) := by decide +kernel
theorem dX1_used_11 : decode cX1_used 11 = .ok (.getfield 17, 3) := by decide +kernel
theorem dX1_used_14 : decode cX1_used 14 = .ok (.iload_n 2, 1) := by decide +kernel
theorem dX1_used_15 : decode cX1_used 15 = .ok (.iaload, 1) := by decide +kernel
theorem dX1_used_16 : decode cX1_used 16 = .ok (.ifCond .le 14, 3) := by decide +kernel
theorem dX1_used_19 : decode cX1_used 19 = .ok (.iload_n 1, 1) := by decide +kernel
theorem dX1_used_20 : decode cX1_used 20 = .ok (.aload_n 0, 1) := by decide +kernel
theorem dX1_used_21 : decode cX1_used 21 = .ok (.getfield 17, 3) := by decide +kernel
theorem dX1_used_24 : decode cX1_used 24 = .ok (.iload_n 2, 1) := by decide +kernel
theorem dX1_used_25 : decode cX1_used 25 = .ok (.iaload, 1) := by decide +kernel
theorem dX1_used_26 : decode cX1_used 26 = .ok (.iconst 1, 1) := by decide +kernel
theorem dX1_used_27 : decode cX1_used 27 = .ok (.iadd, 1) := by decide +kernel
theorem dX1_used_28 : decode cX1_used 28 = .ok (.iadd, 1) := by decide +kernel
theorem dX1_used_29 : decode cX1_used 29 = .ok (.istore_n 1, 1) := by decide +kernel
theorem dX1_used_30 : decode cX1_used 30 = .ok (.iinc 2 1, 3) := by decide +kernel
theorem dX1_used_33 : decode cX1_used 33 = .ok (.goto (-29), 3) := by decide +kernel
theorem dX1_used_36 : decode cX1_used 36 = .ok (.iload_n 1, 1) := by decide +kernel
theorem dX1_used_37 : decode cX1_used 37 = .ok (.ireturn, 1) := by decide +kernel
abbrev cX1_collect : ByteArray := prog_3_method_13_code
def yX1_collect : MethodName := ⟨RX1, "collect", "()I"⟩
theorem dX1_collect_0 : decode cX1_collect 0 = .ok (.aload_n 0, 1) := by decide +kernel
theorem dX1_collect_1 : decode cX1_collect 1 = .ok (.invokevirtual 49, 3) := by decide +kernel
theorem dX1_collect_4 : decode cX1_collect 4 = .ok (.iconst 0, 1) := by decide +kernel
theorem dX1_collect_5 : decode cX1_collect 5 = .ok (.istore_n 1, 1) := by decide +kernel
theorem dX1_collect_6 : decode cX1_collect 6 = .ok (.iload_n 1, 1) := by decide +kernel
theorem dX1_collect_7 : decode cX1_collect 7 = .ok (.bipush 36, 2) := by decide +kernel
theorem dX1_collect_9 : decode cX1_collect 9 = .ok (.if_icmp .ge 25, 3) := by decide +kernel
theorem dX1_collect_12 : decode cX1_collect 12 = .ok (.aload_n 0, 1) := by decide +kernel
theorem dX1_collect_13 : decode cX1_collect 13 = .ok (.getfield 20, 3) := by decide +kernel
theorem dX1_collect_16 : decode cX1_collect 16 = .ok (.iload_n 1, 1) := by decide +kernel
theorem dX1_collect_17 : decode cX1_collect 17 = .ok (.baload, 1) := by decide +kernel
theorem dX1_collect_18 : decode cX1_collect 18 = .ok (.ifCond .ne 10, 3) := by decide +kernel
theorem dX1_collect_21 : decode cX1_collect 21 = .ok (.aload_n 0, 1) := by decide +kernel
theorem dX1_collect_22 : decode cX1_collect 22 = .ok (.getfield 17, 3) := by decide +kernel
theorem dX1_collect_25 : decode cX1_collect 25 = .ok (.iload_n 1, 1) := by decide +kernel
theorem dX1_collect_26 : decode cX1_collect 26 = .ok (.iconst 0, 1) := by decide +kernel
theorem dX1_collect_27 : decode cX1_collect 27 = .ok (.iastore, 1) := by decide +kernel
theorem dX1_collect_28 : decode cX1_collect 28 = .ok (.iinc 1 1, 3) := by decide +kernel
theorem dX1_collect_31 : decode cX1_collect 31 = .ok (.goto (-25), 3) := by decide +kernel
theorem dX1_collect_34 : decode cX1_collect 34 = .ok (.aload_n 0, 1) := by decide +kernel
theorem dX1_collect_35 : decode cX1_collect 35 = .ok (.invokevirtual 31, 3) := by decide +kernel
theorem dX1_collect_38 : decode cX1_collect 38 = .ok (.ireturn, 1) := by decide +kernel
abbrev cX1_mark : ByteArray := prog_3_method_12_code
def yX1_mark : MethodName := ⟨RX1, "mark", "()V"⟩
theorem dX1_mark_0 : decode cX1_mark 0 = .ok (.iconst 0, 1) := by decide +kernel
theorem dX1_mark_1 : decode cX1_mark 1 = .ok (.istore_n 1, 1) := by decide +kernel
theorem dX1_mark_2 : decode cX1_mark 2 = .ok (.iload_n 1, 1) := by decide +kernel
theorem dX1_mark_3 : decode cX1_mark 3 = .ok (.bipush 36, 2) := by decide +kernel
theorem dX1_mark_5 : decode cX1_mark 5 = .ok (.if_icmp .ge 16, 3) := by decide +kernel
theorem dX1_mark_8 : decode cX1_mark 8 = .ok (.aload_n 0, 1) := by decide +kernel
theorem dX1_mark_9 : decode cX1_mark 9 = .ok (.getfield 20, 3) := by decide +kernel
theorem dX1_mark_12 : decode cX1_mark 12 = .ok (.iload_n 1, 1) := by decide +kernel
theorem dX1_mark_13 : decode cX1_mark 13 = .ok (.iconst 0, 1) := by decide +kernel
theorem dX1_mark_14 : decode cX1_mark 14 = .ok (.bastore, 1) := by decide +kernel
theorem dX1_mark_15 : decode cX1_mark 15 = .ok (.iinc 1 1, 3) := by decide +kernel
theorem dX1_mark_18 : decode cX1_mark 18 = .ok (.goto (-16), 3) := by decide +kernel
theorem dX1_mark_21 : decode cX1_mark 21 = .ok (.iconst 1, 1) := by decide +kernel
theorem dX1_mark_22 : decode cX1_mark 22 = .ok (.istore_n 1, 1) := by decide +kernel
theorem dX1_mark_23 : decode cX1_mark 23 = .ok (.iconst 0, 1) := by decide +kernel
theorem dX1_mark_24 : decode cX1_mark 24 = .ok (.istore_n 2, 1) := by decide +kernel
theorem dX1_mark_25 : decode cX1_mark 25 = .ok (.iload_n 2, 1) := by decide +kernel
theorem dX1_mark_26 : decode cX1_mark 26 = .ok (.bipush 37, 2) := by decide +kernel
theorem dX1_mark_28 : decode cX1_mark 28 = .ok (.if_icmp .ge 122, 3) := by decide +kernel
theorem dX1_mark_31 : decode cX1_mark 31 = .ok (.iload_n 1, 1) := by decide +kernel
theorem dX1_mark_32 : decode cX1_mark 32 = .ok (.ifCond .eq 118, 3) := by decide +kernel
theorem dX1_mark_35 : decode cX1_mark 35 = .ok (.iconst 0, 1) := by decide +kernel
theorem dX1_mark_36 : decode cX1_mark 36 = .ok (.istore_n 1, 1) := by decide +kernel
theorem dX1_mark_37 : decode cX1_mark 37 = .ok (.iconst 0, 1) := by decide +kernel
theorem dX1_mark_38 : decode cX1_mark 38 = .ok (.istore_n 3, 1) := by decide +kernel
theorem dX1_mark_39 : decode cX1_mark 39 = .ok (.iload_n 3, 1) := by decide +kernel
theorem dX1_mark_40 : decode cX1_mark 40 = .ok (.sipush 222, 3) := by decide +kernel
theorem dX1_mark_43 : decode cX1_mark 43 = .ok (.if_icmp .ge 101, 3) := by decide +kernel
theorem dX1_mark_46 : decode cX1_mark 46 = .ok (.iload_n 3, 1) := by decide +kernel
theorem dX1_mark_47 : decode cX1_mark 47 = .ok (.bipush 6, 2) := by decide +kernel
theorem dX1_mark_49 : decode cX1_mark 49 = .ok (.if_icmp .lt 40, 3) := by decide +kernel
theorem dX1_mark_52 : decode cX1_mark 52 = .ok (.aload_n 0, 1) := by decide +kernel
theorem dX1_mark_53 : decode cX1_mark 53 = .ok (.getfield 20, 3) := by decide +kernel
theorem dX1_mark_56 : decode cX1_mark 56 = .ok (.iload_n 3, 1) := by decide +kernel
theorem dX1_mark_57 : decode cX1_mark 57 = .ok (.bipush 6, 2) := by decide +kernel
theorem dX1_mark_59 : decode cX1_mark 59 = .ok (.isub, 1) := by decide +kernel
theorem dX1_mark_60 : decode cX1_mark 60 = .ok (.bipush 6, 2) := by decide +kernel
theorem dX1_mark_62 : decode cX1_mark 62 = .ok (.idiv, 1) := by decide +kernel
theorem dX1_mark_63 : decode cX1_mark 63 = .ok (.baload, 1) := by decide +kernel
theorem dX1_mark_64 : decode cX1_mark 64 = .ok (.ifCond .eq 29, 3) := by decide +kernel
theorem dX1_mark_67 : decode cX1_mark 67 = .ok (.iload_n 3, 1) := by decide +kernel
theorem dX1_mark_68 : decode cX1_mark 68 = .ok (.bipush 6, 2) := by decide +kernel
theorem dX1_mark_70 : decode cX1_mark 70 = .ok (.isub, 1) := by decide +kernel
theorem dX1_mark_71 : decode cX1_mark 71 = .ok (.bipush 6, 2) := by decide +kernel
theorem dX1_mark_73 : decode cX1_mark 73 = .ok (.irem, 1) := by decide +kernel
theorem dX1_mark_74 : decode cX1_mark 74 = .ok (.aload_n 0, 1) := by decide +kernel
theorem dX1_mark_75 : decode cX1_mark 75 = .ok (.getfield 17, 3) := by decide +kernel
theorem dX1_mark_78 : decode cX1_mark 78 = .ok (.iload_n 3, 1) := by decide +kernel
theorem dX1_mark_79 : decode cX1_mark 79 = .ok (.bipush 6, 2) := by decide +kernel
theorem dX1_mark_81 : decode cX1_mark 81 = .ok (.isub, 1) := by decide +kernel
theorem dX1_mark_82 : decode cX1_mark 82 = .ok (.bipush 6, 2) := by decide +kernel
theorem dX1_mark_84 : decode cX1_mark 84 = .ok (.idiv, 1) := by decide +kernel
theorem dX1_mark_85 : decode cX1_mark 85 = .ok (.iaload, 1) := by decide +kernel
theorem dX1_mark_86 : decode cX1_mark 86 = .ok (.if_icmp .ge 7, 3) := by decide +kernel
theorem dX1_mark_89 : decode cX1_mark 89 = .ok (.iconst 1, 1) := by decide +kernel
theorem dX1_mark_90 : decode cX1_mark 90 = .ok (.goto 4, 3) := by decide +kernel
theorem dX1_mark_93 : decode cX1_mark 93 = .ok (.iconst 0, 1) := by decide +kernel
theorem dX1_mark_94 : decode cX1_mark 94 = .ok (.istore 4, 2) := by decide +kernel
theorem dX1_mark_96 : decode cX1_mark 96 = .ok (.iload 4, 2) := by decide +kernel
theorem dX1_mark_98 : decode cX1_mark 98 = .ok (.ifCond .eq 40, 3) := by decide +kernel
theorem dX1_mark_101 : decode cX1_mark 101 = .ok (.aload_n 0, 1) := by decide +kernel
theorem dX1_mark_102 : decode cX1_mark 102 = .ok (.getfield 7, 3) := by decide +kernel
theorem dX1_mark_105 : decode cX1_mark 105 = .ok (.iload_n 3, 1) := by decide +kernel
theorem dX1_mark_106 : decode cX1_mark 106 = .ok (.baload, 1) := by decide +kernel
theorem dX1_mark_107 : decode cX1_mark 107 = .ok (.ifCond .eq 31, 3) := by decide +kernel
theorem dX1_mark_110 : decode cX1_mark 110 = .ok (.aload_n 0, 1) := by decide +kernel
theorem dX1_mark_111 : decode cX1_mark 111 = .ok (.getfield 20, 3) := by decide +kernel
theorem dX1_mark_114 : decode cX1_mark 114 = .ok (.aload_n 0, 1) := by decide +kernel
theorem dX1_mark_115 : decode cX1_mark 115 = .ok (.getfield 13, 3) := by decide +kernel
theorem dX1_mark_118 : decode cX1_mark 118 = .ok (.iload_n 3, 1) := by decide +kernel
theorem dX1_mark_119 : decode cX1_mark 119 = .ok (.iaload, 1) := by decide +kernel
theorem dX1_mark_120 : decode cX1_mark 120 = .ok (.baload, 1) := by decide +kernel
theorem dX1_mark_121 : decode cX1_mark 121 = .ok (.ifCond .ne 17, 3) := by decide +kernel
theorem dX1_mark_124 : decode cX1_mark 124 = .ok (.aload_n 0, 1) := by decide +kernel
theorem dX1_mark_125 : decode cX1_mark 125 = .ok (.getfield 20, 3) := by decide +kernel
theorem dX1_mark_128 : decode cX1_mark 128 = .ok (.aload_n 0, 1) := by decide +kernel
theorem dX1_mark_129 : decode cX1_mark 129 = .ok (.getfield 13, 3) := by decide +kernel
theorem dX1_mark_132 : decode cX1_mark 132 = .ok (.iload_n 3, 1) := by decide +kernel
theorem dX1_mark_133 : decode cX1_mark 133 = .ok (.iaload, 1) := by decide +kernel
theorem dX1_mark_134 : decode cX1_mark 134 = .ok (.iconst 1, 1) := by decide +kernel
theorem dX1_mark_135 : decode cX1_mark 135 = .ok (.bastore, 1) := by decide +kernel
theorem dX1_mark_136 : decode cX1_mark 136 = .ok (.iconst 1, 1) := by decide +kernel
theorem dX1_mark_137 : decode cX1_mark 137 = .ok (.istore_n 1, 1) := by decide +kernel
theorem dX1_mark_138 : decode cX1_mark 138 = .ok (.iinc 3 1, 3) := by decide +kernel
theorem dX1_mark_141 : decode cX1_mark 141 = .ok (.goto (-102), 3) := by decide +kernel
theorem dX1_mark_144 : decode cX1_mark 144 = .ok (.iinc 2 1, 3) := by decide +kernel
theorem dX1_mark_147 : decode cX1_mark 147 = .ok (.goto (-122), 3) := by decide +kernel
theorem dX1_mark_150 : decode cX1_mark 150 = .ok (.return_, 1) := by decide +kernel
abbrev cX1_unused : ByteArray := prog_3_method_5_code
def yX1_unused : MethodName := ⟨RX1, "unused", "()I"⟩
theorem dX1_unused_0 : decode cX1_unused 0 = .ok (.iconst 0, 1) := by decide +kernel
theorem dX1_unused_1 : decode cX1_unused 1 = .ok (.istore_n 1, 1) := by decide +kernel
theorem dX1_unused_2 : decode cX1_unused 2 = .ok (.iload_n 1, 1) := by decide +kernel
theorem dX1_unused_3 : decode cX1_unused 3 = .ok (.bipush 36, 2) := by decide +kernel
theorem dX1_unused_5 : decode cX1_unused 5 = .ok (.if_icmp .ge 20, 3) := by decide +kernel
theorem dX1_unused_8 : decode cX1_unused 8 = .ok (.aload_n 0, 1) := by decide +kernel
theorem dX1_unused_9 : decode cX1_unused 9 = .ok (.getfield 17, 3) := by decide +kernel
theorem dX1_unused_12 : decode cX1_unused 12 = .ok (.iload_n 1, 1) := by decide +kernel
theorem dX1_unused_13 : decode cX1_unused 13 = .ok (.iaload, 1) := by decide +kernel
theorem dX1_unused_14 : decode cX1_unused 14 = .ok (.ifCond .ne 5, 3) := by decide +kernel
theorem dX1_unused_17 : decode cX1_unused 17 = .ok (.iload_n 1, 1) := by decide +kernel
theorem dX1_unused_18 : decode cX1_unused 18 = .ok (.ireturn, 1) := by decide +kernel
theorem dX1_unused_19 : decode cX1_unused 19 = .ok (.iinc 1 1, 3) := by decide +kernel
theorem dX1_unused_22 : decode cX1_unused 22 = .ok (.goto (-20), 3) := by decide +kernel
theorem dX1_unused_25 : decode cX1_unused 25 = .ok (.iconst 0, 1) := by decide +kernel
theorem dX1_unused_26 : decode cX1_unused 26 = .ok (.ireturn, 1) := by decide +kernel
abbrev cX1_set : ByteArray := prog_3_method_3_code
def yX1_set : MethodName := ⟨RX1, "set", "(IZI)V"⟩
theorem dX1_set_0 : decode cX1_set 0 = .ok (.aload_n 0, 1) := by decide +kernel
theorem dX1_set_1 : decode cX1_set 1 = .ok (.getfield 7, 3) := by decide +kernel
theorem dX1_set_4 : decode cX1_set 4 = .ok (.iload_n 1, 1) := by decide +kernel
theorem dX1_set_5 : decode cX1_set 5 = .ok (.iload_n 2, 1) := by decide +kernel
theorem dX1_set_6 : decode cX1_set 6 = .ok (.bastore, 1) := by decide +kernel
theorem dX1_set_7 : decode cX1_set 7 = .ok (.aload_n 0, 1) := by decide +kernel
theorem dX1_set_8 : decode cX1_set 8 = .ok (.getfield 13, 3) := by decide +kernel
theorem dX1_set_11 : decode cX1_set 11 = .ok (.iload_n 1, 1) := by decide +kernel
theorem dX1_set_12 : decode cX1_set 12 = .ok (.iload_n 3, 1) := by decide +kernel
theorem dX1_set_13 : decode cX1_set 13 = .ok (.iastore, 1) := by decide +kernel
theorem dX1_set_14 : decode cX1_set 14 = .ok (.return_, 1) := by decide +kernel
abbrev cX1_number : ByteArray := prog_3_method_7_code
def yX1_number : MethodName := ⟨RX1, "number", "(II)I"⟩
theorem dX1_number_0 : decode cX1_number 0 = .ok (.iload_n 1, 1) := by decide +kernel
theorem dX1_number_1 : decode cX1_number 1 = .ok (.invokestatic 27, 3) := by decide +kernel
theorem dX1_number_4 : decode cX1_number 4 = .ok (.ifCond .eq 5, 3) := by decide +kernel
theorem dX1_number_7 : decode cX1_number 7 = .ok (.iconst (-1), 1) := by decide +kernel
theorem dX1_number_8 : decode cX1_number 8 = .ok (.ireturn, 1) := by decide +kernel
theorem dX1_number_9 : decode cX1_number 9 = .ok (.aload_n 0, 1) := by decide +kernel
theorem dX1_number_10 : decode cX1_number 10 = .ok (.iload_n 1, 1) := by decide +kernel
theorem dX1_number_11 : decode cX1_number 11 = .ok (.iconst 0, 1) := by decide +kernel
theorem dX1_number_12 : decode cX1_number 12 = .ok (.iload_n 2, 1) := by decide +kernel
theorem dX1_number_13 : decode cX1_number 13 = .ok (.invokevirtual 23, 3) := by decide +kernel
theorem dX1_number_16 : decode cX1_number 16 = .ok (.iconst 0, 1) := by decide +kernel
theorem dX1_number_17 : decode cX1_number 17 = .ok (.ireturn, 1) := by decide +kernel
abbrev cX1_move : ByteArray := prog_3_method_8_code
def yX1_move : MethodName := ⟨RX1, "move", "(II)I"⟩
theorem dX1_move_0 : decode cX1_move 0 = .ok (.iload_n 1, 1) := by decide +kernel
theorem dX1_move_1 : decode cX1_move 1 = .ok (.invokestatic 27, 3) := by decide +kernel
theorem dX1_move_4 : decode cX1_move 4 = .ok (.ifCond .ne 10, 3) := by decide +kernel
theorem dX1_move_7 : decode cX1_move 7 = .ok (.iload_n 2, 1) := by decide +kernel
theorem dX1_move_8 : decode cX1_move 8 = .ok (.invokestatic 27, 3) := by decide +kernel
theorem dX1_move_11 : decode cX1_move 11 = .ok (.ifCond .eq 5, 3) := by decide +kernel
theorem dX1_move_14 : decode cX1_move 14 = .ok (.iconst (-1), 1) := by decide +kernel
theorem dX1_move_15 : decode cX1_move 15 = .ok (.ireturn, 1) := by decide +kernel
theorem dX1_move_16 : decode cX1_move 16 = .ok (.aload_n 0, 1) := by decide +kernel
theorem dX1_move_17 : decode cX1_move 17 = .ok (.iload_n 1, 1) := by decide +kernel
theorem dX1_move_18 : decode cX1_move 18 = .ok (.iload_n 2, 1) := by decide +kernel
theorem dX1_move_19 : decode cX1_move 19 = .ok (.invokevirtual 41, 3) := by decide +kernel
theorem dX1_move_22 : decode cX1_move 22 = .ok (.iconst 0, 1) := by decide +kernel
theorem dX1_move_23 : decode cX1_move 23 = .ok (.ireturn, 1) := by decide +kernel
abbrev cX1_take : ByteArray := prog_3_method_4_code
def yX1_take : MethodName := ⟨RX1, "take", "(II)V"⟩
theorem dX1_take_0 : decode cX1_take 0 = .ok (.aload_n 0, 1) := by decide +kernel
theorem dX1_take_1 : decode cX1_take 1 = .ok (.iload_n 1, 1) := by decide +kernel
theorem dX1_take_2 : decode cX1_take 2 = .ok (.aload_n 0, 1) := by decide +kernel
theorem dX1_take_3 : decode cX1_take 3 = .ok (.getfield 7, 3) := by decide +kernel
theorem dX1_take_6 : decode cX1_take 6 = .ok (.iload_n 2, 1) := by decide +kernel
theorem dX1_take_7 : decode cX1_take 7 = .ok (.baload, 1) := by decide +kernel
theorem dX1_take_8 : decode cX1_take 8 = .ok (.aload_n 0, 1) := by decide +kernel
theorem dX1_take_9 : decode cX1_take 9 = .ok (.getfield 13, 3) := by decide +kernel
theorem dX1_take_12 : decode cX1_take 12 = .ok (.iload_n 2, 1) := by decide +kernel
theorem dX1_take_13 : decode cX1_take 13 = .ok (.iaload, 1) := by decide +kernel
theorem dX1_take_14 : decode cX1_take 14 = .ok (.invokevirtual 23, 3) := by decide +kernel
theorem dX1_take_17 : decode cX1_take 17 = .ok (.return_, 1) := by decide +kernel
abbrev cX1_store : ByteArray := prog_3_method_10_code
def yX1_store : MethodName := ⟨RX1, "store", "(III)I"⟩
theorem dX1_store_0 : decode cX1_store 0 = .ok (.iload_n 1, 1) := by decide +kernel
theorem dX1_store_1 : decode cX1_store 1 = .ok (.invokestatic 27, 3) := by decide +kernel
theorem dX1_store_4 : decode cX1_store 4 = .ok (.ifCond .ne 10, 3) := by decide +kernel
theorem dX1_store_7 : decode cX1_store 7 = .ok (.iload_n 3, 1) := by decide +kernel
theorem dX1_store_8 : decode cX1_store 8 = .ok (.invokestatic 27, 3) := by decide +kernel
theorem dX1_store_11 : decode cX1_store 11 = .ok (.ifCond .eq 5, 3) := by decide +kernel
theorem dX1_store_14 : decode cX1_store 14 = .ok (.iconst (-1), 1) := by decide +kernel
theorem dX1_store_15 : decode cX1_store 15 = .ok (.ireturn, 1) := by decide +kernel
theorem dX1_store_16 : decode cX1_store 16 = .ok (.aload_n 0, 1) := by decide +kernel
theorem dX1_store_17 : decode cX1_store 17 = .ok (.iload_n 1, 1) := by decide +kernel
theorem dX1_store_18 : decode cX1_store 18 = .ok (.iload_n 2, 1) := by decide +kernel
theorem dX1_store_19 : decode cX1_store 19 = .ok (.invokevirtual 45, 3) := by decide +kernel
theorem dX1_store_22 : decode cX1_store 22 = .ok (.istore 4, 2) := by decide +kernel
theorem dX1_store_24 : decode cX1_store 24 = .ok (.iload 4, 2) := by decide +kernel
theorem dX1_store_26 : decode cX1_store 26 = .ok (.ifCond .ge 6, 3) := by decide +kernel
theorem dX1_store_29 : decode cX1_store 29 = .ok (.bipush (-3), 2) := by decide +kernel
theorem dX1_store_31 : decode cX1_store 31 = .ok (.ireturn, 1) := by decide +kernel
theorem dX1_store_32 : decode cX1_store 32 = .ok (.aload_n 0, 1) := by decide +kernel
theorem dX1_store_33 : decode cX1_store 33 = .ok (.iload 4, 2) := by decide +kernel
theorem dX1_store_35 : decode cX1_store 35 = .ok (.iload_n 3, 1) := by decide +kernel
theorem dX1_store_36 : decode cX1_store 36 = .ok (.invokevirtual 41, 3) := by decide +kernel
theorem dX1_store_39 : decode cX1_store 39 = .ok (.iconst 0, 1) := by decide +kernel
theorem dX1_store_40 : decode cX1_store 40 = .ok (.ireturn, 1) := by decide +kernel
abbrev cX1_place : ByteArray := prog_3_method_9_code
def yX1_place : MethodName := ⟨RX1, "place", "(II)I"⟩
theorem dX1_place_0 : decode cX1_place 0 = .ok (.aload_n 0, 1) := by decide +kernel
theorem dX1_place_1 : decode cX1_place 1 = .ok (.getfield 7, 3) := by decide +kernel
theorem dX1_place_4 : decode cX1_place 4 = .ok (.iload_n 1, 1) := by decide +kernel
theorem dX1_place_5 : decode cX1_place 5 = .ok (.baload, 1) := by decide +kernel
theorem dX1_place_6 : decode cX1_place 6 = .ok (.ifCond .eq 22, 3) := by decide +kernel
theorem dX1_place_9 : decode cX1_place 9 = .ok (.iload_n 2, 1) := by decide +kernel
theorem dX1_place_10 : decode cX1_place 10 = .ok (.ifCond .lt 18, 3) := by decide +kernel
theorem dX1_place_13 : decode cX1_place 13 = .ok (.iload_n 2, 1) := by decide +kernel
theorem dX1_place_14 : decode cX1_place 14 = .ok (.aload_n 0, 1) := by decide +kernel
theorem dX1_place_15 : decode cX1_place 15 = .ok (.getfield 17, 3) := by decide +kernel
theorem dX1_place_18 : decode cX1_place 18 = .ok (.aload_n 0, 1) := by decide +kernel
theorem dX1_place_19 : decode cX1_place 19 = .ok (.getfield 13, 3) := by decide +kernel
theorem dX1_place_22 : decode cX1_place 22 = .ok (.iload_n 1, 1) := by decide +kernel
theorem dX1_place_23 : decode cX1_place 23 = .ok (.iaload, 1) := by decide +kernel
theorem dX1_place_24 : decode cX1_place 24 = .ok (.iaload, 1) := by decide +kernel
theorem dX1_place_25 : decode cX1_place 25 = .ok (.if_icmp .lt 5, 3) := by decide +kernel
theorem dX1_place_28 : decode cX1_place 28 = .ok (.iconst (-1), 1) := by decide +kernel
theorem dX1_place_29 : decode cX1_place 29 = .ok (.ireturn, 1) := by decide +kernel
theorem dX1_place_30 : decode cX1_place 30 = .ok (.bipush 6, 2) := by decide +kernel
theorem dX1_place_32 : decode cX1_place 32 = .ok (.bipush 6, 2) := by decide +kernel
theorem dX1_place_34 : decode cX1_place 34 = .ok (.aload_n 0, 1) := by decide +kernel
theorem dX1_place_35 : decode cX1_place 35 = .ok (.getfield 13, 3) := by decide +kernel
theorem dX1_place_38 : decode cX1_place 38 = .ok (.iload_n 1, 1) := by decide +kernel
theorem dX1_place_39 : decode cX1_place 39 = .ok (.iaload, 1) := by decide +kernel
theorem dX1_place_40 : decode cX1_place 40 = .ok (.imul, 1) := by decide +kernel
theorem dX1_place_41 : decode cX1_place 41 = .ok (.iadd, 1) := by decide +kernel
theorem dX1_place_42 : decode cX1_place 42 = .ok (.iload_n 2, 1) := by decide +kernel
theorem dX1_place_43 : decode cX1_place 43 = .ok (.iadd, 1) := by decide +kernel
theorem dX1_place_44 : decode cX1_place 44 = .ok (.ireturn, 1) := by decide +kernel
abbrev cX1_load : ByteArray := prog_3_method_11_code
def yX1_load : MethodName := ⟨RX1, "load", "(III)I"⟩
theorem dX1_load_0 : decode cX1_load 0 = .ok (.iload_n 1, 1) := by decide +kernel
theorem dX1_load_1 : decode cX1_load 1 = .ok (.invokestatic 27, 3) := by decide +kernel
theorem dX1_load_4 : decode cX1_load 4 = .ok (.ifCond .ne 10, 3) := by decide +kernel
theorem dX1_load_7 : decode cX1_load 7 = .ok (.iload_n 2, 1) := by decide +kernel
theorem dX1_load_8 : decode cX1_load 8 = .ok (.invokestatic 27, 3) := by decide +kernel
theorem dX1_load_11 : decode cX1_load 11 = .ok (.ifCond .eq 5, 3) := by decide +kernel
theorem dX1_load_14 : decode cX1_load 14 = .ok (.iconst (-1), 1) := by decide +kernel
theorem dX1_load_15 : decode cX1_load 15 = .ok (.ireturn, 1) := by decide +kernel
theorem dX1_load_16 : decode cX1_load 16 = .ok (.aload_n 0, 1) := by decide +kernel
theorem dX1_load_17 : decode cX1_load 17 = .ok (.iload_n 2, 1) := by decide +kernel
theorem dX1_load_18 : decode cX1_load 18 = .ok (.iload_n 3, 1) := by decide +kernel
theorem dX1_load_19 : decode cX1_load 19 = .ok (.invokevirtual 45, 3) := by decide +kernel
theorem dX1_load_22 : decode cX1_load 22 = .ok (.istore 4, 2) := by decide +kernel
theorem dX1_load_24 : decode cX1_load 24 = .ok (.iload 4, 2) := by decide +kernel
theorem dX1_load_26 : decode cX1_load 26 = .ok (.ifCond .ge 6, 3) := by decide +kernel
theorem dX1_load_29 : decode cX1_load 29 = .ok (.bipush (-3), 2) := by decide +kernel
theorem dX1_load_31 : decode cX1_load 31 = .ok (.ireturn, 1) := by decide +kernel
theorem dX1_load_32 : decode cX1_load 32 = .ok (.aload_n 0, 1) := by decide +kernel
theorem dX1_load_33 : decode cX1_load 33 = .ok (.iload_n 1, 1) := by decide +kernel
theorem dX1_load_34 : decode cX1_load 34 = .ok (.iload 4, 2) := by decide +kernel
theorem dX1_load_36 : decode cX1_load 36 = .ok (.invokevirtual 41, 3) := by decide +kernel
theorem dX1_load_39 : decode cX1_load 39 = .ok (.iconst 0, 1) := by decide +kernel
theorem dX1_load_40 : decode cX1_load 40 = .ok (.ireturn, 1) := by decide +kernel
abbrev cX1_fields : ByteArray := prog_3_method_14_code
def yX1_fields : MethodName := ⟨RX1, "fields", "(I)I"⟩
theorem dX1_fields_0 : decode cX1_fields 0 = .ok (.iload_n 1, 1) := by decide +kernel
theorem dX1_fields_1 : decode cX1_fields 1 = .ok (.invokestatic 27, 3) := by decide +kernel
theorem dX1_fields_4 : decode cX1_fields 4 = .ok (.ifCond .eq 5, 3) := by decide +kernel
theorem dX1_fields_7 : decode cX1_fields 7 = .ok (.iconst (-1), 1) := by decide +kernel
theorem dX1_fields_8 : decode cX1_fields 8 = .ok (.ireturn, 1) := by decide +kernel
theorem dX1_fields_9 : decode cX1_fields 9 = .ok (.aload_n 0, 1) := by decide +kernel
theorem dX1_fields_10 : decode cX1_fields 10 = .ok (.getfield 7, 3) := by decide +kernel
theorem dX1_fields_13 : decode cX1_fields 13 = .ok (.iload_n 1, 1) := by decide +kernel
theorem dX1_fields_14 : decode cX1_fields 14 = .ok (.baload, 1) := by decide +kernel
theorem dX1_fields_15 : decode cX1_fields 15 = .ok (.ifCond .eq 17, 3) := by decide +kernel
theorem dX1_fields_18 : decode cX1_fields 18 = .ok (.aload_n 0, 1) := by decide +kernel
theorem dX1_fields_19 : decode cX1_fields 19 = .ok (.getfield 17, 3) := by decide +kernel
theorem dX1_fields_22 : decode cX1_fields 22 = .ok (.aload_n 0, 1) := by decide +kernel
theorem dX1_fields_23 : decode cX1_fields 23 = .ok (.getfield 13, 3) := by decide +kernel
theorem dX1_fields_26 : decode cX1_fields 26 = .ok (.iload_n 1, 1) := by decide +kernel
theorem dX1_fields_27 : decode cX1_fields 27 = .ok (.iaload, 1) := by decide +kernel
theorem dX1_fields_28 : decode cX1_fields 28 = .ok (.iaload, 1) := by decide +kernel
theorem dX1_fields_29 : decode cX1_fields 29 = .ok (.goto 4, 3) := by decide +kernel
theorem dX1_fields_32 : decode cX1_fields 32 = .ok (.iconst 0, 1) := by decide +kernel
theorem dX1_fields_33 : decode cX1_fields 33 = .ok (.ireturn, 1) := by decide +kernel
abbrev cX1_value : ByteArray := prog_3_method_15_code
def yX1_value : MethodName := ⟨RX1, "value", "(I)I"⟩
theorem dX1_value_0 : decode cX1_value 0 = .ok (.iload_n 1, 1) := by decide +kernel
theorem dX1_value_1 : decode cX1_value 1 = .ok (.invokestatic 27, 3) := by decide +kernel
theorem dX1_value_4 : decode cX1_value 4 = .ok (.ifCond .ne 12, 3) := by decide +kernel
theorem dX1_value_7 : decode cX1_value 7 = .ok (.aload_n 0, 1) := by decide +kernel
theorem dX1_value_8 : decode cX1_value 8 = .ok (.getfield 7, 3) := by decide +kernel
theorem dX1_value_11 : decode cX1_value 11 = .ok (.iload_n 1, 1) := by decide +kernel
theorem dX1_value_12 : decode cX1_value 12 = .ok (.baload, 1) := by decide +kernel
theorem dX1_value_13 : decode cX1_value 13 = .ok (.ifCond .eq 7, 3) := by decide +kernel
theorem dX1_value_16 : decode cX1_value 16 = .ok (.iconst 0, 1) := by decide +kernel
theorem dX1_value_17 : decode cX1_value 17 = .ok (.goto 9, 3) := by decide +kernel
theorem dX1_value_20 : decode cX1_value 20 = .ok (.aload_n 0, 1) := by decide +kernel
theorem dX1_value_21 : decode cX1_value 21 = .ok (.getfield 13, 3) := by decide +kernel
theorem dX1_value_24 : decode cX1_value 24 = .ok (.iload_n 1, 1) := by decide +kernel
theorem dX1_value_25 : decode cX1_value 25 = .ok (.iaload, 1) := by decide +kernel
theorem dX1_value_26 : decode cX1_value 26 = .ok (.ireturn, 1) := by decide +kernel
abbrev cX1_same : ByteArray := prog_3_method_16_code
def yX1_same : MethodName := ⟨RX1, "same", "(II)I"⟩
theorem dX1_same_0 : decode cX1_same 0 = .ok (.iload_n 1, 1) := by decide +kernel
theorem dX1_same_1 : decode cX1_same 1 = .ok (.invokestatic 27, 3) := by decide +kernel
theorem dX1_same_4 : decode cX1_same 4 = .ok (.ifCond .ne 10, 3) := by decide +kernel
theorem dX1_same_7 : decode cX1_same 7 = .ok (.iload_n 2, 1) := by decide +kernel
theorem dX1_same_8 : decode cX1_same 8 = .ok (.invokestatic 27, 3) := by decide +kernel
theorem dX1_same_11 : decode cX1_same 11 = .ok (.ifCond .eq 5, 3) := by decide +kernel
theorem dX1_same_14 : decode cX1_same 14 = .ok (.iconst (-1), 1) := by decide +kernel
theorem dX1_same_15 : decode cX1_same 15 = .ok (.ireturn, 1) := by decide +kernel
theorem dX1_same_16 : decode cX1_same 16 = .ok (.aload_n 0, 1) := by decide +kernel
theorem dX1_same_17 : decode cX1_same 17 = .ok (.getfield 7, 3) := by decide +kernel
theorem dX1_same_20 : decode cX1_same 20 = .ok (.iload_n 1, 1) := by decide +kernel
theorem dX1_same_21 : decode cX1_same 21 = .ok (.baload, 1) := by decide +kernel
theorem dX1_same_22 : decode cX1_same 22 = .ok (.aload_n 0, 1) := by decide +kernel
theorem dX1_same_23 : decode cX1_same 23 = .ok (.getfield 7, 3) := by decide +kernel
theorem dX1_same_26 : decode cX1_same 26 = .ok (.iload_n 2, 1) := by decide +kernel
theorem dX1_same_27 : decode cX1_same 27 = .ok (.baload, 1) := by decide +kernel
theorem dX1_same_28 : decode cX1_same 28 = .ok (.if_icmp .ne 22, 3) := by decide +kernel
theorem dX1_same_31 : decode cX1_same 31 = .ok (.aload_n 0, 1) := by decide +kernel
theorem dX1_same_32 : decode cX1_same 32 = .ok (.getfield 13, 3) := by decide +kernel
theorem dX1_same_35 : decode cX1_same 35 = .ok (.iload_n 1, 1) := by decide +kernel
theorem dX1_same_36 : decode cX1_same 36 = .ok (.iaload, 1) := by decide +kernel
theorem dX1_same_37 : decode cX1_same 37 = .ok (.aload_n 0, 1) := by decide +kernel
theorem dX1_same_38 : decode cX1_same 38 = .ok (.getfield 13, 3) := by decide +kernel
theorem dX1_same_41 : decode cX1_same 41 = .ok (.iload_n 2, 1) := by decide +kernel
theorem dX1_same_42 : decode cX1_same 42 = .ok (.iaload, 1) := by decide +kernel
theorem dX1_same_43 : decode cX1_same 43 = .ok (.if_icmp .ne 7, 3) := by decide +kernel
theorem dX1_same_46 : decode cX1_same 46 = .ok (.iconst 1, 1) := by decide +kernel
theorem dX1_same_47 : decode cX1_same 47 = .ok (.goto 4, 3) := by decide +kernel
theorem dX1_same_50 : decode cX1_same 50 = .ok (.iconst 0, 1) := by decide +kernel
theorem dX1_same_51 : decode cX1_same 51 = .ok (.ireturn, 1) := by decide +kernel
theorem q15 : (Jvm.Cond.initialized "BreakHeapModel") ∈ lw_all := lw_g (lw_at lw_m0 2 rfl) rfl
theorem q136 : (Jvm.Cond.instantiable "BreakHeapModel" (4 : Nat)) ∈ lw_all := lw_g (lw_at lw_m0 123 rfl) rfl
theorem q138 : (Jvm.Cond.instanceMethod ({ cls := "BreakHeapModel", name := "<init>", desc := "()V" } : Jvm.MethodName)) ∈ lw_all := lw_g (lw_at lw_m0 125 rfl) rfl
theorem q139 : (Jvm.Cond.code ({ cls := "BreakHeapModel", name := "<init>", desc := "()V" } : Jvm.MethodName) prog_3_method_1_code (1 : Nat) (Option.none : Option Jvm.ClassFile.FieldType)) ∈ lw_all := lw_g (lw_at lw_m0 126 rfl) rfl
theorem q140 : (Jvm.Cond.methodLink "BreakHeapModel" (1 : Nat) ({ cls := "java/lang/Object", name := "<init>", desc := "()V" } : Jvm.MethodName)) ∈ lw_all := lw_g (lw_at lw_m0 127 rfl) rfl
theorem q141 : (Jvm.Cond.fieldLink "BreakHeapModel" (7 : Nat) "BreakHeapModel" "refers" "[Z") ∈ lw_all := lw_g (lw_at lw_m0 128 rfl) rfl
theorem q142 : (Jvm.Cond.fieldLink "BreakHeapModel" (13 : Nat) "BreakHeapModel" "content" "[I") ∈ lw_all := lw_g (lw_at lw_m0 129 rfl) rfl
theorem q143 : (Jvm.Cond.fieldLink "BreakHeapModel" (17 : Nat) "BreakHeapModel" "fieldsOf" "[I") ∈ lw_all := lw_g (lw_at lw_m0 130 rfl) rfl
theorem q144 : (Jvm.Cond.fieldLink "BreakHeapModel" (20 : Nat) "BreakHeapModel" "reached" "[Z") ∈ lw_all := lw_g (lw_at lw_m0 131 rfl) rfl
theorem q145 : (Jvm.Cond.laysFinal "BreakHeapModel" "BreakHeapModel" "refers" "[Z") ∈ lw_all := lw_g (lw_at lw_m0 132 rfl) rfl
theorem q146 : (Jvm.Cond.soleField "BreakHeapModel" "refers") ∈ lw_all := lw_g (lw_at lw_m0 133 rfl) rfl
theorem q147 : (Jvm.Cond.laysFinal "BreakHeapModel" "BreakHeapModel" "content" "[I") ∈ lw_all := lw_g (lw_at lw_m0 134 rfl) rfl
theorem q148 : (Jvm.Cond.soleField "BreakHeapModel" "content") ∈ lw_all := lw_g (lw_at lw_m0 135 rfl) rfl
theorem q149 : (Jvm.Cond.laysFinal "BreakHeapModel" "BreakHeapModel" "fieldsOf" "[I") ∈ lw_all := lw_g (lw_at lw_m0 136 rfl) rfl
theorem q150 : (Jvm.Cond.soleField "BreakHeapModel" "fieldsOf") ∈ lw_all := lw_g (lw_at lw_m0 137 rfl) rfl
theorem q151 : (Jvm.Cond.laysFinal "BreakHeapModel" "BreakHeapModel" "reached" "[Z") ∈ lw_all := lw_g (lw_at lw_m0 138 rfl) rfl
theorem q152 : (Jvm.Cond.soleField "BreakHeapModel" "reached") ∈ lw_all := lw_g (lw_at lw_m0 139 rfl) rfl
theorem q153 : (Jvm.Cond.superclass "BreakHeapModel" "java/lang/Object") ∈ lw_all := lw_g (lw_at lw_m0 140 rfl) rfl
theorem q155 : (Jvm.Cond.instanceMethod ({ cls := "BreakHeapModel", name := "make", desc := "(II)I" } : Jvm.MethodName)) ∈ lw_all := lw_g (lw_at lw_m0 142 rfl) rfl
theorem q156 : (Jvm.Cond.selects "BreakHeapModel" ({ cls := "BreakHeapModel", name := "make", desc := "(II)I" } : Jvm.MethodName) ({ cls := "BreakHeapModel", name := "make", desc := "(II)I" } : Jvm.MethodName)) ∈ lw_all := lw_g (lw_at lw_m0 143 rfl) rfl
theorem q157 : (Jvm.Cond.code ({ cls := "BreakHeapModel", name := "make", desc := "(II)I" } : Jvm.MethodName) prog_3_method_6_code (5 : Nat) (Option.some Jvm.ClassFile.FieldType.int)) ∈ lw_all := lw_g (lw_at lw_m0 144 rfl) rfl
theorem q158 : (Jvm.Cond.methodLink "BreakHeapModel" (27 : Nat) ({ cls := "BreakHeapModel", name := "bad", desc := "(I)Z" } : Jvm.MethodName)) ∈ lw_all := lw_g (lw_at lw_m0 145 rfl) rfl
theorem q159 : (Jvm.Cond.static ({ cls := "BreakHeapModel", name := "bad", desc := "(I)Z" } : Jvm.MethodName)) ∈ lw_all := lw_g (lw_at lw_m0 146 rfl) rfl
theorem q160 : (Jvm.Cond.code ({ cls := "BreakHeapModel", name := "bad", desc := "(I)Z" } : Jvm.MethodName) prog_3_method_2_code (1 : Nat) (Option.some Jvm.ClassFile.FieldType.boolean)) ∈ lw_all := lw_g (lw_at lw_m0 147 rfl) rfl
theorem q161 : (Jvm.Cond.methodLink "BreakHeapModel" (31 : Nat) ({ cls := "BreakHeapModel", name := "used", desc := "()I" } : Jvm.MethodName)) ∈ lw_all := lw_g (lw_at lw_m0 148 rfl) rfl
theorem q162 : (Jvm.Cond.instanceMethod ({ cls := "BreakHeapModel", name := "used", desc := "()I" } : Jvm.MethodName)) ∈ lw_all := lw_g (lw_at lw_m0 149 rfl) rfl
theorem q163 : (Jvm.Cond.selects "BreakHeapModel" ({ cls := "BreakHeapModel", name := "used", desc := "()I" } : Jvm.MethodName) ({ cls := "BreakHeapModel", name := "used", desc := "()I" } : Jvm.MethodName)) ∈ lw_all := lw_g (lw_at lw_m0 150 rfl) rfl
theorem q164 : (Jvm.Cond.code ({ cls := "BreakHeapModel", name := "used", desc := "()I" } : Jvm.MethodName) prog_3_method_17_code (3 : Nat) (Option.some Jvm.ClassFile.FieldType.int)) ∈ lw_all := lw_g (lw_at lw_m0 151 rfl) rfl
theorem q165 : (Jvm.Cond.methodLink "BreakHeapModel" (35 : Nat) ({ cls := "BreakHeapModel", name := "collect", desc := "()I" } : Jvm.MethodName)) ∈ lw_all := lw_g (lw_at lw_m0 152 rfl) rfl
theorem q166 : (Jvm.Cond.instanceMethod ({ cls := "BreakHeapModel", name := "collect", desc := "()I" } : Jvm.MethodName)) ∈ lw_all := lw_g (lw_at lw_m0 153 rfl) rfl
theorem q167 : (Jvm.Cond.selects "BreakHeapModel" ({ cls := "BreakHeapModel", name := "collect", desc := "()I" } : Jvm.MethodName) ({ cls := "BreakHeapModel", name := "collect", desc := "()I" } : Jvm.MethodName)) ∈ lw_all := lw_g (lw_at lw_m0 154 rfl) rfl
theorem q168 : (Jvm.Cond.code ({ cls := "BreakHeapModel", name := "collect", desc := "()I" } : Jvm.MethodName) prog_3_method_13_code (2 : Nat) (Option.some Jvm.ClassFile.FieldType.int)) ∈ lw_all := lw_g (lw_at lw_m0 155 rfl) rfl
theorem q169 : (Jvm.Cond.methodLink "BreakHeapModel" (49 : Nat) ({ cls := "BreakHeapModel", name := "mark", desc := "()V" } : Jvm.MethodName)) ∈ lw_all := lw_g (lw_at lw_m0 156 rfl) rfl
theorem q170 : (Jvm.Cond.privateMethod ({ cls := "BreakHeapModel", name := "mark", desc := "()V" } : Jvm.MethodName)) ∈ lw_tbl := lw_at lw_m0 157 rfl
theorem q171 : (Jvm.Cond.instanceMethod ({ cls := "BreakHeapModel", name := "mark", desc := "()V" } : Jvm.MethodName)) ∈ lw_all := lw_g (lw_at lw_m0 158 rfl) rfl
theorem q172 : (Jvm.Cond.code ({ cls := "BreakHeapModel", name := "mark", desc := "()V" } : Jvm.MethodName) prog_3_method_12_code (5 : Nat) (Option.none : Option Jvm.ClassFile.FieldType)) ∈ lw_all := lw_g (lw_at lw_m0 159 rfl) rfl
theorem q173 : (Jvm.Cond.methodLink "BreakHeapModel" (38 : Nat) ({ cls := "BreakHeapModel", name := "unused", desc := "()I" } : Jvm.MethodName)) ∈ lw_all := lw_g (lw_at lw_m0 160 rfl) rfl
theorem q174 : (Jvm.Cond.privateMethod ({ cls := "BreakHeapModel", name := "unused", desc := "()I" } : Jvm.MethodName)) ∈ lw_tbl := lw_at lw_m0 161 rfl
theorem q175 : (Jvm.Cond.instanceMethod ({ cls := "BreakHeapModel", name := "unused", desc := "()I" } : Jvm.MethodName)) ∈ lw_all := lw_g (lw_at lw_m0 162 rfl) rfl
theorem q176 : (Jvm.Cond.code ({ cls := "BreakHeapModel", name := "unused", desc := "()I" } : Jvm.MethodName) prog_3_method_5_code (2 : Nat) (Option.some Jvm.ClassFile.FieldType.int)) ∈ lw_all := lw_g (lw_at lw_m0 163 rfl) rfl
theorem q177 : (Jvm.Cond.methodLink "BreakHeapModel" (23 : Nat) ({ cls := "BreakHeapModel", name := "set", desc := "(IZI)V" } : Jvm.MethodName)) ∈ lw_all := lw_g (lw_at lw_m0 164 rfl) rfl
theorem q178 : (Jvm.Cond.privateMethod ({ cls := "BreakHeapModel", name := "set", desc := "(IZI)V" } : Jvm.MethodName)) ∈ lw_tbl := lw_at lw_m0 165 rfl
theorem q179 : (Jvm.Cond.instanceMethod ({ cls := "BreakHeapModel", name := "set", desc := "(IZI)V" } : Jvm.MethodName)) ∈ lw_all := lw_g (lw_at lw_m0 166 rfl) rfl
theorem q180 : (Jvm.Cond.code ({ cls := "BreakHeapModel", name := "set", desc := "(IZI)V" } : Jvm.MethodName) prog_3_method_3_code (4 : Nat) (Option.none : Option Jvm.ClassFile.FieldType)) ∈ lw_all := lw_g (lw_at lw_m0 167 rfl) rfl
theorem q182 : (Jvm.Cond.instanceMethod ({ cls := "BreakHeapModel", name := "number", desc := "(II)I" } : Jvm.MethodName)) ∈ lw_all := lw_g (lw_at lw_m0 169 rfl) rfl
theorem q183 : (Jvm.Cond.selects "BreakHeapModel" ({ cls := "BreakHeapModel", name := "number", desc := "(II)I" } : Jvm.MethodName) ({ cls := "BreakHeapModel", name := "number", desc := "(II)I" } : Jvm.MethodName)) ∈ lw_all := lw_g (lw_at lw_m0 170 rfl) rfl
theorem q184 : (Jvm.Cond.code ({ cls := "BreakHeapModel", name := "number", desc := "(II)I" } : Jvm.MethodName) prog_3_method_7_code (3 : Nat) (Option.some Jvm.ClassFile.FieldType.int)) ∈ lw_all := lw_g (lw_at lw_m0 171 rfl) rfl
theorem q186 : (Jvm.Cond.instanceMethod ({ cls := "BreakHeapModel", name := "move", desc := "(II)I" } : Jvm.MethodName)) ∈ lw_all := lw_g (lw_at lw_m0 173 rfl) rfl
theorem q187 : (Jvm.Cond.selects "BreakHeapModel" ({ cls := "BreakHeapModel", name := "move", desc := "(II)I" } : Jvm.MethodName) ({ cls := "BreakHeapModel", name := "move", desc := "(II)I" } : Jvm.MethodName)) ∈ lw_all := lw_g (lw_at lw_m0 174 rfl) rfl
theorem q188 : (Jvm.Cond.code ({ cls := "BreakHeapModel", name := "move", desc := "(II)I" } : Jvm.MethodName) prog_3_method_8_code (3 : Nat) (Option.some Jvm.ClassFile.FieldType.int)) ∈ lw_all := lw_g (lw_at lw_m0 175 rfl) rfl
theorem q189 : (Jvm.Cond.methodLink "BreakHeapModel" (41 : Nat) ({ cls := "BreakHeapModel", name := "take", desc := "(II)V" } : Jvm.MethodName)) ∈ lw_all := lw_g (lw_at lw_m0 176 rfl) rfl
theorem q190 : (Jvm.Cond.privateMethod ({ cls := "BreakHeapModel", name := "take", desc := "(II)V" } : Jvm.MethodName)) ∈ lw_tbl := lw_at lw_m0 177 rfl
theorem q191 : (Jvm.Cond.instanceMethod ({ cls := "BreakHeapModel", name := "take", desc := "(II)V" } : Jvm.MethodName)) ∈ lw_all := lw_g (lw_at lw_m0 178 rfl) rfl
theorem q192 : (Jvm.Cond.code ({ cls := "BreakHeapModel", name := "take", desc := "(II)V" } : Jvm.MethodName) prog_3_method_4_code (3 : Nat) (Option.none : Option Jvm.ClassFile.FieldType)) ∈ lw_all := lw_g (lw_at lw_m0 179 rfl) rfl
theorem q194 : (Jvm.Cond.instanceMethod ({ cls := "BreakHeapModel", name := "store", desc := "(III)I" } : Jvm.MethodName)) ∈ lw_all := lw_g (lw_at lw_m0 181 rfl) rfl
theorem q195 : (Jvm.Cond.selects "BreakHeapModel" ({ cls := "BreakHeapModel", name := "store", desc := "(III)I" } : Jvm.MethodName) ({ cls := "BreakHeapModel", name := "store", desc := "(III)I" } : Jvm.MethodName)) ∈ lw_all := lw_g (lw_at lw_m0 182 rfl) rfl
theorem q196 : (Jvm.Cond.code ({ cls := "BreakHeapModel", name := "store", desc := "(III)I" } : Jvm.MethodName) prog_3_method_10_code (5 : Nat) (Option.some Jvm.ClassFile.FieldType.int)) ∈ lw_all := lw_g (lw_at lw_m0 183 rfl) rfl
theorem q197 : (Jvm.Cond.methodLink "BreakHeapModel" (45 : Nat) ({ cls := "BreakHeapModel", name := "place", desc := "(II)I" } : Jvm.MethodName)) ∈ lw_all := lw_g (lw_at lw_m0 184 rfl) rfl
theorem q198 : (Jvm.Cond.privateMethod ({ cls := "BreakHeapModel", name := "place", desc := "(II)I" } : Jvm.MethodName)) ∈ lw_tbl := lw_at lw_m0 185 rfl
theorem q199 : (Jvm.Cond.instanceMethod ({ cls := "BreakHeapModel", name := "place", desc := "(II)I" } : Jvm.MethodName)) ∈ lw_all := lw_g (lw_at lw_m0 186 rfl) rfl
theorem q200 : (Jvm.Cond.code ({ cls := "BreakHeapModel", name := "place", desc := "(II)I" } : Jvm.MethodName) prog_3_method_9_code (3 : Nat) (Option.some Jvm.ClassFile.FieldType.int)) ∈ lw_all := lw_g (lw_at lw_m0 187 rfl) rfl
theorem q202 : (Jvm.Cond.instanceMethod ({ cls := "BreakHeapModel", name := "load", desc := "(III)I" } : Jvm.MethodName)) ∈ lw_all := lw_g (lw_at lw_m0 189 rfl) rfl
theorem q203 : (Jvm.Cond.selects "BreakHeapModel" ({ cls := "BreakHeapModel", name := "load", desc := "(III)I" } : Jvm.MethodName) ({ cls := "BreakHeapModel", name := "load", desc := "(III)I" } : Jvm.MethodName)) ∈ lw_all := lw_g (lw_at lw_m0 190 rfl) rfl
theorem q204 : (Jvm.Cond.code ({ cls := "BreakHeapModel", name := "load", desc := "(III)I" } : Jvm.MethodName) prog_3_method_11_code (5 : Nat) (Option.some Jvm.ClassFile.FieldType.int)) ∈ lw_all := lw_g (lw_at lw_m0 191 rfl) rfl
theorem q207 : (Jvm.Cond.instanceMethod ({ cls := "BreakHeapModel", name := "fields", desc := "(I)I" } : Jvm.MethodName)) ∈ lw_all := lw_g (lw_at lw_m0 194 rfl) rfl
theorem q208 : (Jvm.Cond.selects "BreakHeapModel" ({ cls := "BreakHeapModel", name := "fields", desc := "(I)I" } : Jvm.MethodName) ({ cls := "BreakHeapModel", name := "fields", desc := "(I)I" } : Jvm.MethodName)) ∈ lw_all := lw_g (lw_at lw_m0 195 rfl) rfl
theorem q209 : (Jvm.Cond.code ({ cls := "BreakHeapModel", name := "fields", desc := "(I)I" } : Jvm.MethodName) prog_3_method_14_code (2 : Nat) (Option.some Jvm.ClassFile.FieldType.int)) ∈ lw_all := lw_g (lw_at lw_m0 196 rfl) rfl
theorem q211 : (Jvm.Cond.instanceMethod ({ cls := "BreakHeapModel", name := "value", desc := "(I)I" } : Jvm.MethodName)) ∈ lw_all := lw_g (lw_at lw_m0 198 rfl) rfl
theorem q212 : (Jvm.Cond.selects "BreakHeapModel" ({ cls := "BreakHeapModel", name := "value", desc := "(I)I" } : Jvm.MethodName) ({ cls := "BreakHeapModel", name := "value", desc := "(I)I" } : Jvm.MethodName)) ∈ lw_all := lw_g (lw_at lw_m0 199 rfl) rfl
theorem q213 : (Jvm.Cond.code ({ cls := "BreakHeapModel", name := "value", desc := "(I)I" } : Jvm.MethodName) prog_3_method_15_code (2 : Nat) (Option.some Jvm.ClassFile.FieldType.int)) ∈ lw_all := lw_g (lw_at lw_m0 200 rfl) rfl
theorem q215 : (Jvm.Cond.instanceMethod ({ cls := "BreakHeapModel", name := "same", desc := "(II)I" } : Jvm.MethodName)) ∈ lw_all := lw_g (lw_at lw_m0 202 rfl) rfl
theorem q216 : (Jvm.Cond.selects "BreakHeapModel" ({ cls := "BreakHeapModel", name := "same", desc := "(II)I" } : Jvm.MethodName) ({ cls := "BreakHeapModel", name := "same", desc := "(II)I" } : Jvm.MethodName)) ∈ lw_all := lw_g (lw_at lw_m0 203 rfl) rfl
theorem q217 : (Jvm.Cond.code ({ cls := "BreakHeapModel", name := "same", desc := "(II)I" } : Jvm.MethodName) prog_3_method_16_code (3 : Nat) (Option.some Jvm.ClassFile.FieldType.int)) ∈ lw_all := lw_g (lw_at lw_m0 204 rfl) rfl
theorem in_X1 : ∀ w ∈ wsX10, w ∈ lw_all := lw_in wsX10 [145, 147, 149, 151] (by decide +kernel) (by decide +kernel)
end
section
/-! the law's own entry -/
set_option maxRecDepth 100000
abbrev cL_law : ByteArray := code
theorem dL_law_0 : decode cL_law 0 = .ok (.new 7, 3) := by decide +kernel
theorem dL_law_3 : decode cL_law 3 = .ok (.dup, 1) := by decide +kernel
theorem dL_law_4 : decode cL_law 4 = .ok (.invokespecial 9, 3) := by decide +kernel
theorem dL_law_7 : decode cL_law 7 = .ok (.astore_n 1, 1) := by decide +kernel
theorem dL_law_8 : decode cL_law 8 = .ok (.new 10, 3) := by decide +kernel
theorem dL_law_11 : decode cL_law 11 = .ok (.dup, 1) := by decide +kernel
theorem dL_law_12 : decode cL_law 12 = .ok (.invokespecial 12, 3) := by decide +kernel
theorem dL_law_15 : decode cL_law 15 = .ok (.astore_n 2, 1) := by decide +kernel
theorem dL_law_16 : decode cL_law 16 = .ok (.iconst 0, 1) := by decide +kernel
theorem dL_law_17 : decode cL_law 17 = .ok (.istore_n 3, 1) := by decide +kernel
theorem dL_law_18 : decode cL_law 18 = .ok (.iload_n 3, 1) := by decide +kernel
theorem dL_law_19 : decode cL_law 19 = .ok (.aload_n 0, 1) := by decide +kernel
theorem dL_law_20 : decode cL_law 20 = .ok (.arraylength, 1) := by decide +kernel
theorem dL_law_21 : decode cL_law 21 = .ok (.iconst 4, 1) := by decide +kernel
theorem dL_law_22 : decode cL_law 22 = .ok (.isub, 1) := by decide +kernel
theorem dL_law_23 : decode cL_law 23 = .ok (.if_icmp .gt 361, 3) := by decide +kernel
theorem dL_law_26 : decode cL_law 26 = .ok (.aload_n 0, 1) := by decide +kernel
theorem dL_law_27 : decode cL_law 27 = .ok (.iload_n 3, 1) := by decide +kernel
theorem dL_law_28 : decode cL_law 28 = .ok (.iaload, 1) := by decide +kernel
theorem dL_law_29 : decode cL_law 29 = .ok (.bipush 15, 2) := by decide +kernel
theorem dL_law_31 : decode cL_law 31 = .ok (.iand, 1) := by decide +kernel
theorem dL_law_32 : decode cL_law 32 = .ok (.tableswitch 346 0 9 #[56, 89, 122, 155, 198, 241, 254, 277, 300, 333], 56) := by decide +kernel
theorem dL_law_88 : decode cL_law 88 = .ok (.aload_n 1, 1) := by decide +kernel
theorem dL_law_89 : decode cL_law 89 = .ok (.aload_n 0, 1) := by decide +kernel
theorem dL_law_90 : decode cL_law 90 = .ok (.iload_n 3, 1) := by decide +kernel
theorem dL_law_91 : decode cL_law 91 = .ok (.iconst 1, 1) := by decide +kernel
theorem dL_law_92 : decode cL_law 92 = .ok (.iadd, 1) := by decide +kernel
theorem dL_law_93 : decode cL_law 93 = .ok (.iaload, 1) := by decide +kernel
theorem dL_law_94 : decode cL_law 94 = .ok (.aload_n 0, 1) := by decide +kernel
theorem dL_law_95 : decode cL_law 95 = .ok (.iload_n 3, 1) := by decide +kernel
theorem dL_law_96 : decode cL_law 96 = .ok (.iconst 2, 1) := by decide +kernel
theorem dL_law_97 : decode cL_law 97 = .ok (.iadd, 1) := by decide +kernel
theorem dL_law_98 : decode cL_law 98 = .ok (.iaload, 1) := by decide +kernel
theorem dL_law_99 : decode cL_law 99 = .ok (.invokevirtual 13, 3) := by decide +kernel
theorem dL_law_102 : decode cL_law 102 = .ok (.aload_n 2, 1) := by decide +kernel
theorem dL_law_103 : decode cL_law 103 = .ok (.aload_n 0, 1) := by decide +kernel
theorem dL_law_104 : decode cL_law 104 = .ok (.iload_n 3, 1) := by decide +kernel
theorem dL_law_105 : decode cL_law 105 = .ok (.iconst 1, 1) := by decide +kernel
theorem dL_law_106 : decode cL_law 106 = .ok (.iadd, 1) := by decide +kernel
theorem dL_law_107 : decode cL_law 107 = .ok (.iaload, 1) := by decide +kernel
theorem dL_law_108 : decode cL_law 108 = .ok (.aload_n 0, 1) := by decide +kernel
theorem dL_law_109 : decode cL_law 109 = .ok (.iload_n 3, 1) := by decide +kernel
theorem dL_law_110 : decode cL_law 110 = .ok (.iconst 2, 1) := by decide +kernel
theorem dL_law_111 : decode cL_law 111 = .ok (.iadd, 1) := by decide +kernel
theorem dL_law_112 : decode cL_law 112 = .ok (.iaload, 1) := by decide +kernel
theorem dL_law_113 : decode cL_law 113 = .ok (.invokevirtual 17, 3) := by decide +kernel
theorem dL_law_116 : decode cL_law 116 = .ok (.if_icmp .eq 262, 3) := by decide +kernel
theorem dL_law_119 : decode cL_law 119 = .ok (.iconst 0, 1) := by decide +kernel
theorem dL_law_120 : decode cL_law 120 = .ok (.ireturn, 1) := by decide +kernel
theorem dL_law_121 : decode cL_law 121 = .ok (.aload_n 1, 1) := by decide +kernel
theorem dL_law_122 : decode cL_law 122 = .ok (.aload_n 0, 1) := by decide +kernel
theorem dL_law_123 : decode cL_law 123 = .ok (.iload_n 3, 1) := by decide +kernel
theorem dL_law_124 : decode cL_law 124 = .ok (.iconst 1, 1) := by decide +kernel
theorem dL_law_125 : decode cL_law 125 = .ok (.iadd, 1) := by decide +kernel
theorem dL_law_126 : decode cL_law 126 = .ok (.iaload, 1) := by decide +kernel
theorem dL_law_127 : decode cL_law 127 = .ok (.aload_n 0, 1) := by decide +kernel
theorem dL_law_128 : decode cL_law 128 = .ok (.iload_n 3, 1) := by decide +kernel
theorem dL_law_129 : decode cL_law 129 = .ok (.iconst 2, 1) := by decide +kernel
theorem dL_law_130 : decode cL_law 130 = .ok (.iadd, 1) := by decide +kernel
theorem dL_law_131 : decode cL_law 131 = .ok (.iaload, 1) := by decide +kernel
theorem dL_law_132 : decode cL_law 132 = .ok (.invokevirtual 18, 3) := by decide +kernel
theorem dL_law_135 : decode cL_law 135 = .ok (.aload_n 2, 1) := by decide +kernel
theorem dL_law_136 : decode cL_law 136 = .ok (.aload_n 0, 1) := by decide +kernel
theorem dL_law_137 : decode cL_law 137 = .ok (.iload_n 3, 1) := by decide +kernel
theorem dL_law_138 : decode cL_law 138 = .ok (.iconst 1, 1) := by decide +kernel
theorem dL_law_139 : decode cL_law 139 = .ok (.iadd, 1) := by decide +kernel
theorem dL_law_140 : decode cL_law 140 = .ok (.iaload, 1) := by decide +kernel
theorem dL_law_141 : decode cL_law 141 = .ok (.aload_n 0, 1) := by decide +kernel
theorem dL_law_142 : decode cL_law 142 = .ok (.iload_n 3, 1) := by decide +kernel
theorem dL_law_143 : decode cL_law 143 = .ok (.iconst 2, 1) := by decide +kernel
theorem dL_law_144 : decode cL_law 144 = .ok (.iadd, 1) := by decide +kernel
theorem dL_law_145 : decode cL_law 145 = .ok (.iaload, 1) := by decide +kernel
theorem dL_law_146 : decode cL_law 146 = .ok (.invokevirtual 21, 3) := by decide +kernel
theorem dL_law_149 : decode cL_law 149 = .ok (.if_icmp .eq 229, 3) := by decide +kernel
theorem dL_law_152 : decode cL_law 152 = .ok (.iconst 0, 1) := by decide +kernel
theorem dL_law_153 : decode cL_law 153 = .ok (.ireturn, 1) := by decide +kernel
theorem dL_law_154 : decode cL_law 154 = .ok (.aload_n 1, 1) := by decide +kernel
theorem dL_law_155 : decode cL_law 155 = .ok (.aload_n 0, 1) := by decide +kernel
theorem dL_law_156 : decode cL_law 156 = .ok (.iload_n 3, 1) := by decide +kernel
theorem dL_law_157 : decode cL_law 157 = .ok (.iconst 1, 1) := by decide +kernel
theorem dL_law_158 : decode cL_law 158 = .ok (.iadd, 1) := by decide +kernel
theorem dL_law_159 : decode cL_law 159 = .ok (.iaload, 1) := by decide +kernel
theorem dL_law_160 : decode cL_law 160 = .ok (.aload_n 0, 1) := by decide +kernel
theorem dL_law_161 : decode cL_law 161 = .ok (.iload_n 3, 1) := by decide +kernel
theorem dL_law_162 : decode cL_law 162 = .ok (.iconst 2, 1) := by decide +kernel
theorem dL_law_163 : decode cL_law 163 = .ok (.iadd, 1) := by decide +kernel
theorem dL_law_164 : decode cL_law 164 = .ok (.iaload, 1) := by decide +kernel
theorem dL_law_165 : decode cL_law 165 = .ok (.invokevirtual 22, 3) := by decide +kernel
theorem dL_law_168 : decode cL_law 168 = .ok (.aload_n 2, 1) := by decide +kernel
theorem dL_law_169 : decode cL_law 169 = .ok (.aload_n 0, 1) := by decide +kernel
theorem dL_law_170 : decode cL_law 170 = .ok (.iload_n 3, 1) := by decide +kernel
theorem dL_law_171 : decode cL_law 171 = .ok (.iconst 1, 1) := by decide +kernel
theorem dL_law_172 : decode cL_law 172 = .ok (.iadd, 1) := by decide +kernel
theorem dL_law_173 : decode cL_law 173 = .ok (.iaload, 1) := by decide +kernel
theorem dL_law_174 : decode cL_law 174 = .ok (.aload_n 0, 1) := by decide +kernel
theorem dL_law_175 : decode cL_law 175 = .ok (.iload_n 3, 1) := by decide +kernel
theorem dL_law_176 : decode cL_law 176 = .ok (.iconst 2, 1) := by decide +kernel
theorem dL_law_177 : decode cL_law 177 = .ok (.iadd, 1) := by decide +kernel
theorem dL_law_178 : decode cL_law 178 = .ok (.iaload, 1) := by decide +kernel
theorem dL_law_179 : decode cL_law 179 = .ok (.invokevirtual 25, 3) := by decide +kernel
theorem dL_law_182 : decode cL_law 182 = .ok (.if_icmp .eq 196, 3) := by decide +kernel
theorem dL_law_185 : decode cL_law 185 = .ok (.iconst 0, 1) := by decide +kernel
theorem dL_law_186 : decode cL_law 186 = .ok (.ireturn, 1) := by decide +kernel
theorem dL_law_187 : decode cL_law 187 = .ok (.aload_n 1, 1) := by decide +kernel
theorem dL_law_188 : decode cL_law 188 = .ok (.aload_n 0, 1) := by decide +kernel
theorem dL_law_189 : decode cL_law 189 = .ok (.iload_n 3, 1) := by decide +kernel
theorem dL_law_190 : decode cL_law 190 = .ok (.iconst 1, 1) := by decide +kernel
theorem dL_law_191 : decode cL_law 191 = .ok (.iadd, 1) := by decide +kernel
theorem dL_law_192 : decode cL_law 192 = .ok (.iaload, 1) := by decide +kernel
theorem dL_law_193 : decode cL_law 193 = .ok (.aload_n 0, 1) := by decide +kernel
theorem dL_law_194 : decode cL_law 194 = .ok (.iload_n 3, 1) := by decide +kernel
theorem dL_law_195 : decode cL_law 195 = .ok (.iconst 2, 1) := by decide +kernel
theorem dL_law_196 : decode cL_law 196 = .ok (.iadd, 1) := by decide +kernel
theorem dL_law_197 : decode cL_law 197 = .ok (.iaload, 1) := by decide +kernel
theorem dL_law_198 : decode cL_law 198 = .ok (.aload_n 0, 1) := by decide +kernel
theorem dL_law_199 : decode cL_law 199 = .ok (.iload_n 3, 1) := by decide +kernel
theorem dL_law_200 : decode cL_law 200 = .ok (.iconst 3, 1) := by decide +kernel
theorem dL_law_201 : decode cL_law 201 = .ok (.iadd, 1) := by decide +kernel
theorem dL_law_202 : decode cL_law 202 = .ok (.iaload, 1) := by decide +kernel
theorem dL_law_203 : decode cL_law 203 = .ok (.invokevirtual 26, 3) := by decide +kernel
theorem dL_law_206 : decode cL_law 206 = .ok (.aload_n 2, 1) := by decide +kernel
theorem dL_law_207 : decode cL_law 207 = .ok (.aload_n 0, 1) := by decide +kernel
theorem dL_law_208 : decode cL_law 208 = .ok (.iload_n 3, 1) := by decide +kernel
theorem dL_law_209 : decode cL_law 209 = .ok (.iconst 1, 1) := by decide +kernel
theorem dL_law_210 : decode cL_law 210 = .ok (.iadd, 1) := by decide +kernel
theorem dL_law_211 : decode cL_law 211 = .ok (.iaload, 1) := by decide +kernel
theorem dL_law_212 : decode cL_law 212 = .ok (.aload_n 0, 1) := by decide +kernel
theorem dL_law_213 : decode cL_law 213 = .ok (.iload_n 3, 1) := by decide +kernel
theorem dL_law_214 : decode cL_law 214 = .ok (.iconst 2, 1) := by decide +kernel
theorem dL_law_215 : decode cL_law 215 = .ok (.iadd, 1) := by decide +kernel
theorem dL_law_216 : decode cL_law 216 = .ok (.iaload, 1) := by decide +kernel
theorem dL_law_217 : decode cL_law 217 = .ok (.aload_n 0, 1) := by decide +kernel
theorem dL_law_218 : decode cL_law 218 = .ok (.iload_n 3, 1) := by decide +kernel
theorem dL_law_219 : decode cL_law 219 = .ok (.iconst 3, 1) := by decide +kernel
theorem dL_law_220 : decode cL_law 220 = .ok (.iadd, 1) := by decide +kernel
theorem dL_law_221 : decode cL_law 221 = .ok (.iaload, 1) := by decide +kernel
theorem dL_law_222 : decode cL_law 222 = .ok (.invokevirtual 30, 3) := by decide +kernel
theorem dL_law_225 : decode cL_law 225 = .ok (.if_icmp .eq 153, 3) := by decide +kernel
theorem dL_law_228 : decode cL_law 228 = .ok (.iconst 0, 1) := by decide +kernel
theorem dL_law_229 : decode cL_law 229 = .ok (.ireturn, 1) := by decide +kernel
theorem dL_law_230 : decode cL_law 230 = .ok (.aload_n 1, 1) := by decide +kernel
theorem dL_law_231 : decode cL_law 231 = .ok (.aload_n 0, 1) := by decide +kernel
theorem dL_law_232 : decode cL_law 232 = .ok (.iload_n 3, 1) := by decide +kernel
theorem dL_law_233 : decode cL_law 233 = .ok (.iconst 1, 1) := by decide +kernel
theorem dL_law_234 : decode cL_law 234 = .ok (.iadd, 1) := by decide +kernel
theorem dL_law_235 : decode cL_law 235 = .ok (.iaload, 1) := by decide +kernel
theorem dL_law_236 : decode cL_law 236 = .ok (.aload_n 0, 1) := by decide +kernel
theorem dL_law_237 : decode cL_law 237 = .ok (.iload_n 3, 1) := by decide +kernel
theorem dL_law_238 : decode cL_law 238 = .ok (.iconst 2, 1) := by decide +kernel
theorem dL_law_239 : decode cL_law 239 = .ok (.iadd, 1) := by decide +kernel
theorem dL_law_240 : decode cL_law 240 = .ok (.iaload, 1) := by decide +kernel
theorem dL_law_241 : decode cL_law 241 = .ok (.aload_n 0, 1) := by decide +kernel
theorem dL_law_242 : decode cL_law 242 = .ok (.iload_n 3, 1) := by decide +kernel
theorem dL_law_243 : decode cL_law 243 = .ok (.iconst 3, 1) := by decide +kernel
theorem dL_law_244 : decode cL_law 244 = .ok (.iadd, 1) := by decide +kernel
theorem dL_law_245 : decode cL_law 245 = .ok (.iaload, 1) := by decide +kernel
theorem dL_law_246 : decode cL_law 246 = .ok (.invokevirtual 31, 3) := by decide +kernel
theorem dL_law_249 : decode cL_law 249 = .ok (.aload_n 2, 1) := by decide +kernel
theorem dL_law_250 : decode cL_law 250 = .ok (.aload_n 0, 1) := by decide +kernel
theorem dL_law_251 : decode cL_law 251 = .ok (.iload_n 3, 1) := by decide +kernel
theorem dL_law_252 : decode cL_law 252 = .ok (.iconst 1, 1) := by decide +kernel
theorem dL_law_253 : decode cL_law 253 = .ok (.iadd, 1) := by decide +kernel
theorem dL_law_254 : decode cL_law 254 = .ok (.iaload, 1) := by decide +kernel
theorem dL_law_255 : decode cL_law 255 = .ok (.aload_n 0, 1) := by decide +kernel
theorem dL_law_256 : decode cL_law 256 = .ok (.iload_n 3, 1) := by decide +kernel
theorem dL_law_257 : decode cL_law 257 = .ok (.iconst 2, 1) := by decide +kernel
theorem dL_law_258 : decode cL_law 258 = .ok (.iadd, 1) := by decide +kernel
theorem dL_law_259 : decode cL_law 259 = .ok (.iaload, 1) := by decide +kernel
theorem dL_law_260 : decode cL_law 260 = .ok (.aload_n 0, 1) := by decide +kernel
theorem dL_law_261 : decode cL_law 261 = .ok (.iload_n 3, 1) := by decide +kernel
theorem dL_law_262 : decode cL_law 262 = .ok (.iconst 3, 1) := by decide +kernel
theorem dL_law_263 : decode cL_law 263 = .ok (.iadd, 1) := by decide +kernel
theorem dL_law_264 : decode cL_law 264 = .ok (.iaload, 1) := by decide +kernel
theorem dL_law_265 : decode cL_law 265 = .ok (.invokevirtual 34, 3) := by decide +kernel
theorem dL_law_268 : decode cL_law 268 = .ok (.if_icmp .eq 110, 3) := by decide +kernel
theorem dL_law_271 : decode cL_law 271 = .ok (.iconst 0, 1) := by decide +kernel
theorem dL_law_272 : decode cL_law 272 = .ok (.ireturn, 1) := by decide +kernel
theorem dL_law_273 : decode cL_law 273 = .ok (.aload_n 1, 1) := by decide +kernel
theorem dL_law_274 : decode cL_law 274 = .ok (.invokevirtual 35, 3) := by decide +kernel
theorem dL_law_277 : decode cL_law 277 = .ok (.aload_n 2, 1) := by decide +kernel
theorem dL_law_278 : decode cL_law 278 = .ok (.invokevirtual 39, 3) := by decide +kernel
theorem dL_law_281 : decode cL_law 281 = .ok (.if_icmp .eq 97, 3) := by decide +kernel
theorem dL_law_284 : decode cL_law 284 = .ok (.iconst 0, 1) := by decide +kernel
theorem dL_law_285 : decode cL_law 285 = .ok (.ireturn, 1) := by decide +kernel
theorem dL_law_286 : decode cL_law 286 = .ok (.aload_n 1, 1) := by decide +kernel
theorem dL_law_287 : decode cL_law 287 = .ok (.aload_n 0, 1) := by decide +kernel
theorem dL_law_288 : decode cL_law 288 = .ok (.iload_n 3, 1) := by decide +kernel
theorem dL_law_289 : decode cL_law 289 = .ok (.iconst 1, 1) := by decide +kernel
theorem dL_law_290 : decode cL_law 290 = .ok (.iadd, 1) := by decide +kernel
theorem dL_law_291 : decode cL_law 291 = .ok (.iaload, 1) := by decide +kernel
theorem dL_law_292 : decode cL_law 292 = .ok (.invokevirtual 40, 3) := by decide +kernel
theorem dL_law_295 : decode cL_law 295 = .ok (.aload_n 2, 1) := by decide +kernel
theorem dL_law_296 : decode cL_law 296 = .ok (.aload_n 0, 1) := by decide +kernel
theorem dL_law_297 : decode cL_law 297 = .ok (.iload_n 3, 1) := by decide +kernel
theorem dL_law_298 : decode cL_law 298 = .ok (.iconst 1, 1) := by decide +kernel
theorem dL_law_299 : decode cL_law 299 = .ok (.iadd, 1) := by decide +kernel
theorem dL_law_300 : decode cL_law 300 = .ok (.iaload, 1) := by decide +kernel
theorem dL_law_301 : decode cL_law 301 = .ok (.invokevirtual 44, 3) := by decide +kernel
theorem dL_law_304 : decode cL_law 304 = .ok (.if_icmp .eq 74, 3) := by decide +kernel
theorem dL_law_307 : decode cL_law 307 = .ok (.iconst 0, 1) := by decide +kernel
theorem dL_law_308 : decode cL_law 308 = .ok (.ireturn, 1) := by decide +kernel
theorem dL_law_309 : decode cL_law 309 = .ok (.aload_n 1, 1) := by decide +kernel
theorem dL_law_310 : decode cL_law 310 = .ok (.aload_n 0, 1) := by decide +kernel
theorem dL_law_311 : decode cL_law 311 = .ok (.iload_n 3, 1) := by decide +kernel
theorem dL_law_312 : decode cL_law 312 = .ok (.iconst 1, 1) := by decide +kernel
theorem dL_law_313 : decode cL_law 313 = .ok (.iadd, 1) := by decide +kernel
theorem dL_law_314 : decode cL_law 314 = .ok (.iaload, 1) := by decide +kernel
theorem dL_law_315 : decode cL_law 315 = .ok (.invokevirtual 45, 3) := by decide +kernel
theorem dL_law_318 : decode cL_law 318 = .ok (.aload_n 2, 1) := by decide +kernel
theorem dL_law_319 : decode cL_law 319 = .ok (.aload_n 0, 1) := by decide +kernel
theorem dL_law_320 : decode cL_law 320 = .ok (.iload_n 3, 1) := by decide +kernel
theorem dL_law_321 : decode cL_law 321 = .ok (.iconst 1, 1) := by decide +kernel
theorem dL_law_322 : decode cL_law 322 = .ok (.iadd, 1) := by decide +kernel
theorem dL_law_323 : decode cL_law 323 = .ok (.iaload, 1) := by decide +kernel
theorem dL_law_324 : decode cL_law 324 = .ok (.invokevirtual 48, 3) := by decide +kernel
theorem dL_law_327 : decode cL_law 327 = .ok (.if_icmp .eq 51, 3) := by decide +kernel
theorem dL_law_330 : decode cL_law 330 = .ok (.iconst 0, 1) := by decide +kernel
theorem dL_law_331 : decode cL_law 331 = .ok (.ireturn, 1) := by decide +kernel
theorem dL_law_332 : decode cL_law 332 = .ok (.aload_n 1, 1) := by decide +kernel
theorem dL_law_333 : decode cL_law 333 = .ok (.aload_n 0, 1) := by decide +kernel
theorem dL_law_334 : decode cL_law 334 = .ok (.iload_n 3, 1) := by decide +kernel
theorem dL_law_335 : decode cL_law 335 = .ok (.iconst 1, 1) := by decide +kernel
theorem dL_law_336 : decode cL_law 336 = .ok (.iadd, 1) := by decide +kernel
theorem dL_law_337 : decode cL_law 337 = .ok (.iaload, 1) := by decide +kernel
theorem dL_law_338 : decode cL_law 338 = .ok (.aload_n 0, 1) := by decide +kernel
theorem dL_law_339 : decode cL_law 339 = .ok (.iload_n 3, 1) := by decide +kernel
theorem dL_law_340 : decode cL_law 340 = .ok (.iconst 2, 1) := by decide +kernel
theorem dL_law_341 : decode cL_law 341 = .ok (.iadd, 1) := by decide +kernel
theorem dL_law_342 : decode cL_law 342 = .ok (.iaload, 1) := by decide +kernel
theorem dL_law_343 : decode cL_law 343 = .ok (.invokevirtual 49, 3) := by decide +kernel
theorem dL_law_346 : decode cL_law 346 = .ok (.aload_n 2, 1) := by decide +kernel
theorem dL_law_347 : decode cL_law 347 = .ok (.aload_n 0, 1) := by decide +kernel
theorem dL_law_348 : decode cL_law 348 = .ok (.iload_n 3, 1) := by decide +kernel
theorem dL_law_349 : decode cL_law 349 = .ok (.iconst 1, 1) := by decide +kernel
theorem dL_law_350 : decode cL_law 350 = .ok (.iadd, 1) := by decide +kernel
theorem dL_law_351 : decode cL_law 351 = .ok (.iaload, 1) := by decide +kernel
theorem dL_law_352 : decode cL_law 352 = .ok (.aload_n 0, 1) := by decide +kernel
theorem dL_law_353 : decode cL_law 353 = .ok (.iload_n 3, 1) := by decide +kernel
theorem dL_law_354 : decode cL_law 354 = .ok (.iconst 2, 1) := by decide +kernel
theorem dL_law_355 : decode cL_law 355 = .ok (.iadd, 1) := by decide +kernel
theorem dL_law_356 : decode cL_law 356 = .ok (.iaload, 1) := by decide +kernel
theorem dL_law_357 : decode cL_law 357 = .ok (.invokevirtual 52, 3) := by decide +kernel
theorem dL_law_360 : decode cL_law 360 = .ok (.if_icmp .eq 18, 3) := by decide +kernel
theorem dL_law_363 : decode cL_law 363 = .ok (.iconst 0, 1) := by decide +kernel
theorem dL_law_364 : decode cL_law 364 = .ok (.ireturn, 1) := by decide +kernel
theorem dL_law_365 : decode cL_law 365 = .ok (.aload_n 1, 1) := by decide +kernel
theorem dL_law_366 : decode cL_law 366 = .ok (.invokevirtual 53, 3) := by decide +kernel
theorem dL_law_369 : decode cL_law 369 = .ok (.aload_n 2, 1) := by decide +kernel
theorem dL_law_370 : decode cL_law 370 = .ok (.invokevirtual 56, 3) := by decide +kernel
theorem dL_law_373 : decode cL_law 373 = .ok (.if_icmp .eq 5, 3) := by decide +kernel
theorem dL_law_376 : decode cL_law 376 = .ok (.iconst 0, 1) := by decide +kernel
theorem dL_law_377 : decode cL_law 377 = .ok (.ireturn, 1) := by decide +kernel
theorem dL_law_378 : decode cL_law 378 = .ok (.iinc 3 4, 3) := by decide +kernel
theorem dL_law_381 : decode cL_law 381 = .ok (.goto (-363), 3) := by decide +kernel
theorem dL_law_384 : decode cL_law 384 = .ok (.iconst 1, 1) := by decide +kernel
theorem dL_law_385 : decode cL_law 385 = .ok (.ireturn, 1) := by decide +kernel
theorem q13 : (Jvm.Cond.initialized "BreakHeapLaw") ∈ lw_all := lw_g (lw_at lw_m0 0 rfl) rfl
set_option maxRecDepth 100000
theorem q16 : (Jvm.Cond.classLink "BreakHeapLaw" (7 : Nat) "BreakHeap") ∈ lw_all := lw_g (lw_at lw_m0 3 rfl) rfl
theorem q18 : (Jvm.Cond.methodLink "BreakHeapLaw" (9 : Nat) ({ cls := "BreakHeap", name := "<init>", desc := "()V" } : Jvm.MethodName)) ∈ lw_all := lw_g (lw_at lw_m0 5 rfl) rfl
theorem q60 : (Jvm.Cond.methodLink "BreakHeapLaw" (13 : Nat) ({ cls := "BreakHeap", name := "make", desc := "(II)I" } : Jvm.MethodName)) ∈ lw_all := lw_g (lw_at lw_m0 47 rfl) rfl
theorem q95 : (Jvm.Cond.methodLink "BreakHeapLaw" (18 : Nat) ({ cls := "BreakHeap", name := "number", desc := "(II)I" } : Jvm.MethodName)) ∈ lw_all := lw_g (lw_at lw_m0 82 rfl) rfl
theorem q99 : (Jvm.Cond.methodLink "BreakHeapLaw" (22 : Nat) ({ cls := "BreakHeap", name := "move", desc := "(II)I" } : Jvm.MethodName)) ∈ lw_all := lw_g (lw_at lw_m0 86 rfl) rfl
theorem q103 : (Jvm.Cond.methodLink "BreakHeapLaw" (26 : Nat) ({ cls := "BreakHeap", name := "store", desc := "(III)I" } : Jvm.MethodName)) ∈ lw_all := lw_g (lw_at lw_m0 90 rfl) rfl
theorem q111 : (Jvm.Cond.methodLink "BreakHeapLaw" (31 : Nat) ({ cls := "BreakHeap", name := "load", desc := "(III)I" } : Jvm.MethodName)) ∈ lw_all := lw_g (lw_at lw_m0 98 rfl) rfl
theorem q115 : (Jvm.Cond.methodLink "BreakHeapLaw" (35 : Nat) ({ cls := "BreakHeap", name := "collect", desc := "()I" } : Jvm.MethodName)) ∈ lw_all := lw_g (lw_at lw_m0 102 rfl) rfl
theorem q119 : (Jvm.Cond.methodLink "BreakHeapLaw" (40 : Nat) ({ cls := "BreakHeap", name := "fields", desc := "(I)I" } : Jvm.MethodName)) ∈ lw_all := lw_g (lw_at lw_m0 106 rfl) rfl
theorem q123 : (Jvm.Cond.methodLink "BreakHeapLaw" (45 : Nat) ({ cls := "BreakHeap", name := "value", desc := "(I)I" } : Jvm.MethodName)) ∈ lw_all := lw_g (lw_at lw_m0 110 rfl) rfl
theorem q127 : (Jvm.Cond.methodLink "BreakHeapLaw" (49 : Nat) ({ cls := "BreakHeap", name := "same", desc := "(II)I" } : Jvm.MethodName)) ∈ lw_all := lw_g (lw_at lw_m0 114 rfl) rfl
theorem q131 : (Jvm.Cond.methodLink "BreakHeapLaw" (53 : Nat) ({ cls := "BreakHeap", name := "used", desc := "()I" } : Jvm.MethodName)) ∈ lw_all := lw_g (lw_at lw_m0 118 rfl) rfl
theorem q135 : (Jvm.Cond.classLink "BreakHeapLaw" (10 : Nat) "BreakHeapModel") ∈ lw_all := lw_g (lw_at lw_m0 122 rfl) rfl
theorem q137 : (Jvm.Cond.methodLink "BreakHeapLaw" (12 : Nat) ({ cls := "BreakHeapModel", name := "<init>", desc := "()V" } : Jvm.MethodName)) ∈ lw_all := lw_g (lw_at lw_m0 124 rfl) rfl
theorem q154 : (Jvm.Cond.methodLink "BreakHeapLaw" (17 : Nat) ({ cls := "BreakHeapModel", name := "make", desc := "(II)I" } : Jvm.MethodName)) ∈ lw_all := lw_g (lw_at lw_m0 141 rfl) rfl
theorem q181 : (Jvm.Cond.methodLink "BreakHeapLaw" (21 : Nat) ({ cls := "BreakHeapModel", name := "number", desc := "(II)I" } : Jvm.MethodName)) ∈ lw_all := lw_g (lw_at lw_m0 168 rfl) rfl
theorem q185 : (Jvm.Cond.methodLink "BreakHeapLaw" (25 : Nat) ({ cls := "BreakHeapModel", name := "move", desc := "(II)I" } : Jvm.MethodName)) ∈ lw_all := lw_g (lw_at lw_m0 172 rfl) rfl
theorem q193 : (Jvm.Cond.methodLink "BreakHeapLaw" (30 : Nat) ({ cls := "BreakHeapModel", name := "store", desc := "(III)I" } : Jvm.MethodName)) ∈ lw_all := lw_g (lw_at lw_m0 180 rfl) rfl
theorem q201 : (Jvm.Cond.methodLink "BreakHeapLaw" (34 : Nat) ({ cls := "BreakHeapModel", name := "load", desc := "(III)I" } : Jvm.MethodName)) ∈ lw_all := lw_g (lw_at lw_m0 188 rfl) rfl
theorem q205 : (Jvm.Cond.methodLink "BreakHeapLaw" (39 : Nat) ({ cls := "BreakHeapModel", name := "collect", desc := "()I" } : Jvm.MethodName)) ∈ lw_all := lw_g (lw_at lw_m0 192 rfl) rfl
theorem q206 : (Jvm.Cond.methodLink "BreakHeapLaw" (44 : Nat) ({ cls := "BreakHeapModel", name := "fields", desc := "(I)I" } : Jvm.MethodName)) ∈ lw_all := lw_g (lw_at lw_m0 193 rfl) rfl
theorem q210 : (Jvm.Cond.methodLink "BreakHeapLaw" (48 : Nat) ({ cls := "BreakHeapModel", name := "value", desc := "(I)I" } : Jvm.MethodName)) ∈ lw_all := lw_g (lw_at lw_m0 197 rfl) rfl
theorem q214 : (Jvm.Cond.methodLink "BreakHeapLaw" (52 : Nat) ({ cls := "BreakHeapModel", name := "same", desc := "(II)I" } : Jvm.MethodName)) ∈ lw_all := lw_g (lw_at lw_m0 201 rfl) rfl
theorem q218 : (Jvm.Cond.methodLink "BreakHeapLaw" (56 : Nat) ({ cls := "BreakHeapModel", name := "used", desc := "()I" } : Jvm.MethodName)) ∈ lw_all := lw_g (lw_at lw_m0 205 rfl) rfl
theorem q58 : (Jvm.Cond.arrayClass Jvm.ClassFile.FieldType.int) ∈ lw_all := lw_g (lw_at lw_m0 45 rfl) rfl
set_option maxRecDepth 100000
theorem q59 : (Jvm.Cond.arrayClass Jvm.ClassFile.FieldType.boolean) ∈ lw_all := lw_g (lw_at lw_m0 46 rfl) rfl
/-! java/lang/Object -/
set_option maxRecDepth 100000
def RJ0 : String := "java/lang/Object"
abbrev cJ0_init : ByteArray := object_method_1_code
def yJ0_init : MethodName := ⟨RJ0, "<init>", "()V"⟩
theorem dJ0_init_0 : decode cJ0_init 0 = .ok (.return_, 1) := by decide +kernel
theorem q22 : (Jvm.Cond.instanceMethod ({ cls := "java/lang/Object", name := "<init>", desc := "()V" } : Jvm.MethodName)) ∈ lw_all := lw_g (lw_at lw_m0 9 rfl) rfl
theorem q23 : (Jvm.Cond.code ({ cls := "java/lang/Object", name := "<init>", desc := "()V" } : Jvm.MethodName) object_method_1_code (1 : Nat) (Option.none : Option Jvm.ClassFile.FieldType)) ∈ lw_all := lw_g (lw_at lw_m0 10 rfl) rfl
end
section
/-! printed by genrows.py: the two objects' worlds over a plain state St, and their rows -/
abbrev St : Type := Nat → Nat → Int32
def up2 (σ : St) (k j : Nat) (x : Int32) : St := fun k' => if k' = k then upd (σ k) j x else σ k'
def b_reg (x : Int32) : Int32 := if 0 ≤ x ∧ x ≤ 5 then 1 else 0
def m_bad (x : Int32) : Int32 := if 0 ≤ x ∧ x ≤ 5 then 0 else 1
abbrev vwCl : List vw_C := [(RX0, TX0, 11), (RX1, TX1, 4)]
section SROW
variable {p : Program} {l : Launch} {e : Env} {R : Room} {s : State} {m : MethodId} {args : Array Value} {below : List Frame} {meth : Method} {c : Code} {H : Heap} {locs : List Loc} {cells slots : Nat} {Q : State → Prop} {cc : ByteArray} {pc : Nat} {ls : Array Slot} {rest st : List Value} {D : va_G} {A : Nat → Prop} {a : Nat → Nat} {k : Nat → ClassId} {σ : St}
theorem s_call {own : String} {nL maxL index n : Nat} {y : MethodName} {bytes : ByteArray} {ret : Option FieldType} {rm : Room} {As : List Value} {r : Int32} (S : CallFix p m c cc nL s args lw_all own) (hM : Met l y (ws_ y bytes maxL ret) rm (fun v _ => v = As.toArray) (QcRead r) 0 0 (fun _ => False)) (cw : CallB R s args own index y bytes maxL ret (ws_ y bytes maxL ret) rm 0 0 n ∧ (Cond.static y).before args s = true) (hn : As.length = n) (hsize : ls.size = nL) (hst : st = As.reverse ++ rest) (hW : (rest.map fun v => v.category).sum ≤ 8) (hdg : decode cc pc = .ok (.invokestatic index, 3)) (hf : cells + 0 ≤ R.cells ∧ slots + 0 ≤ R.slots)
    (kk : W p l e R s m args below meth c H locs cells slots Q (F0 m (pc + 3) ls (.int r :: rest))) : W p l e R s m args below meth c H locs cells slots Q (F0 m pc ls st) :=
  W.callR (W.runS (As := As) (rest := rest) S hM cw preEq rfl hn hsize hst (lv_room hW) hdg hf) kk
end SROW
abbrev bF (a : Nat → Nat) (σ : St) : List Value := [.int (σ 0 0), .ref (a 1), .ref (a 2), .ref (a 3), .ref (a 4), .ref (a 5), .int (σ 6 0), .ref (a 7), .int (σ 8 0), .ref (a 9), .ref (a 10)]
def bW (a : Nat → Nat) (k : Nat → ClassId) (σ : St) : va_W := [(a 0, .inr (0, bF a σ)), (a 1, .inl (k 1, 72, .inl (σ 1))), (a 2, .inl (k 2, 72, .inl (σ 2))), (a 3, .inl (k 3, 6, .inl (σ 3))), (a 4, .inl (k 4, 6, .inl (σ 4))), (a 5, .inl (k 5, 72, .inl (σ 5))), (a 7, .inl (k 7, 40, .inl (σ 7))), (a 9, .inl (k 9, 40, .inl (σ 9))), (a 10, .inl (k 10, 40, .inl (σ 10)))]
def bT (k : Nat → ClassId) : List (ClassId × FieldType) := [(k 1, .int), (k 2, .boolean), (k 3, .int), (k 4, .boolean), (k 5, .boolean), (k 7, .int), (k 9, .int), (k 10, .int)]
def bI (D : va_G) (a : Nat → Nat) (k : Nat → ClassId) (A : Nat → Prop) (s : State) (σ : St) (H : Heap) (locs : List Loc) : Prop := va_K D vwCl (bT k) s ∧ va_P D vwCl (bW a k σ) H ∧ va_D A (bW a k σ) ∧ va_S A s.heap H locs
def bPc (D : va_G) (a : Nat → Nat) (k : Nat → ClassId) (σ : St) (sz : Nat) (As : List Value) : Array Value → State → Prop := va_Pc (.ref (a 0) :: As) (fun U => U.heap.size = sz ∧ va_P D vwCl (bW a k σ) U.heap ∧ va_K D vwCl (bT k) U ∧ va_D (fun _ => True) (bW a k σ))
def bB (D : va_G) (a : Nat → Nat) (k : Nat → ClassId) (A : Nat → Prop) (σ : St) (t : State) : Prop := va_P D vwCl (bW a k σ) t.heap ∧ va_K D vwCl (bT k) t ∧ va_D A (bW a k σ)
theorem b_start {D : va_G} {a : Nat → Nat} {k : Nat → ClassId} {σ : St} {sz : Nat} {As : List Value} {args : Array Value} {s : State} (hv : bPc D a k σ sz As args s) : args = (Value.ref (a 0) :: As).toArray ∧ bI D a k (va_A (bW a k σ) sz) s σ s.heap [] ∧ ∀ q : Nat, s.heap.size ≤ q → va_A (bW a k σ) sz q := by
  obtain ⟨h1, h2, h3, h4, h5⟩ := hv
  subst h2
  exact ⟨h1, ⟨h4, h3, h5.self, va_S.rf⟩, fun q h => Or.inr h⟩
theorem b_s0 (a : Nat → Nat) (k : Nat → ClassId) (σ : St) (x : Int32) : (bW a k σ).set 0 (a 0, .inr (0, (bF a σ).set 0 (.int x))) = bW a k (up2 σ 0 0 x) := rfl
theorem b_s1 (a : Nat → Nat) (k : Nat → ClassId) (σ : St) (j : Nat) (x : Int32) : (bW a k σ).set 1 (a 1, .inl (k 1, 72, .inl (upd (σ 1) j x))) = bW a k (up2 σ 1 j x) := rfl
theorem b_s2 (a : Nat → Nat) (k : Nat → ClassId) (σ : St) (j : Nat) (x : Int32) : (bW a k σ).set 2 (a 2, .inl (k 2, 72, .inl (upd (σ 2) j x))) = bW a k (up2 σ 2 j x) := rfl
theorem b_s3 (a : Nat → Nat) (k : Nat → ClassId) (σ : St) (j : Nat) (x : Int32) : (bW a k σ).set 3 (a 3, .inl (k 3, 6, .inl (upd (σ 3) j x))) = bW a k (up2 σ 3 j x) := rfl
theorem b_s4 (a : Nat → Nat) (k : Nat → ClassId) (σ : St) (j : Nat) (x : Int32) : (bW a k σ).set 4 (a 4, .inl (k 4, 6, .inl (upd (σ 4) j x))) = bW a k (up2 σ 4 j x) := rfl
theorem b_s5 (a : Nat → Nat) (k : Nat → ClassId) (σ : St) (j : Nat) (x : Int32) : (bW a k σ).set 5 (a 5, .inl (k 5, 72, .inl (upd (σ 5) j x))) = bW a k (up2 σ 5 j x) := rfl
theorem b_s6 (a : Nat → Nat) (k : Nat → ClassId) (σ : St) (x : Int32) : (bW a k σ).set 0 (a 0, .inr (0, (bF a σ).set 6 (.int x))) = bW a k (up2 σ 6 0 x) := rfl
theorem b_s7 (a : Nat → Nat) (k : Nat → ClassId) (σ : St) (j : Nat) (x : Int32) : (bW a k σ).set 6 (a 7, .inl (k 7, 40, .inl (upd (σ 7) j x))) = bW a k (up2 σ 7 j x) := rfl
theorem b_s8 (a : Nat → Nat) (k : Nat → ClassId) (σ : St) (x : Int32) : (bW a k σ).set 0 (a 0, .inr (0, (bF a σ).set 8 (.int x))) = bW a k (up2 σ 8 0 x) := rfl
theorem b_s9 (a : Nat → Nat) (k : Nat → ClassId) (σ : St) (j : Nat) (x : Int32) : (bW a k σ).set 7 (a 9, .inl (k 9, 40, .inl (upd (σ 9) j x))) = bW a k (up2 σ 9 j x) := rfl
theorem b_s10 (a : Nat → Nat) (k : Nat → ClassId) (σ : St) (j : Nat) (x : Int32) : (bW a k σ).set 8 (a 10, .inl (k 10, 40, .inl (upd (σ 10) j x))) = bW a k (up2 σ 10 j x) := rfl
section BROW
variable {p : Program} {l : Launch} {e : Env} {R : Room} {s : State} {m : MethodId} {args : Array Value} {below : List Frame} {meth : Method} {c : Code} {H : Heap} {locs : List Loc} {cells slots : Nat} {Q : State → Prop} {cc : ByteArray} {pc : Nat} {ls : Array Slot} {rest st : List Value} {D : va_G} {A : Nat → Prop} {a : Nat → Nat} {k : Nat → ClassId} {σ : St}
theorem b_get (hx : p.tables.exec = Jvm.exec) (hb : c.code = cc) (hts : ∀ w ∈ lw_all, w.before args s = true) (hown : s.vm.findClass RX0 = some m.cls) (hI : bI D a k A s σ H locs) (f : Nat) (hf : f < 11) {index : Nat} (ho : (TX0 f).1 = RX0) (hl : Cond.fieldLink RX0 index RX0 (TX0 f).2.1 (TX0 f).2.2.1 ∈ lw_all) {v : Value} (hv : (bF a σ)[f]? = some v) (hd : decode cc pc = .ok (.getfield index, 3)) (kk : W p l e R s m args below meth c H locs cells slots Q (F0 m (pc + 3) ls (v :: rest))) : W p l e R s m args below meth c H locs cells slots Q (F0 m pc ls (.ref (a 0) :: rest)) :=
  va_get (D := D) (ci := 0) (v := v) (C := RX0) (T := TX0) (N := 11) hx hb hts in_X0 hown hI.1 hI.2.1 0 rfl rfl f hf (hts _ hl) (fun x h9 => by rw [ho] at h9; exact h9) hv hd kk
theorem b_put (hx : p.tables.exec = Jvm.exec) (hb : c.code = cc) (hts : ∀ w ∈ lw_all, w.before args s = true) (hown : s.vm.findClass RX0 = some m.cls) (hI : bI D a k A s σ H locs) (f : Nat) (hf : f < 11) {index : Nat} (ho : (TX0 f).1 = RX0) (hl : Cond.fieldLink RX0 index RX0 (TX0 f).2.1 (TX0 f).2.2.1 ∈ lw_all) (hfin : (TX0 f).2.2.2 = false) {x : Int32} (hty : parseFieldDescriptor (TX0 f).2.2.1 = some .int) (hs : (bW a k σ).set 0 (a 0, .inr (0, (bF a σ).set f (.int x))) = bW a k (up2 σ f 0 x)) (hd : decode cc pc = .ok (.putfield index, 3)) (kk : ∀ (σ1 : St) (H1 : Heap) (locs1 : List Loc), σ1 = up2 σ f 0 x → bI D a k A s σ1 H1 locs1 → W p l e R s m args below meth c H1 locs1 cells slots Q (F0 m (pc + 3) ls rest)) : W p l e R s m args below meth c H locs cells slots Q (F0 m pc ls (.int x :: .ref (a 0) :: rest)) := by
  refine va_put (D := D) (ci := 0) (v := .int x) (ty := .int) (C := RX0) (T := TX0) (N := 11) hx hb hts in_X0 tyX0 tyX0_ok nmX0 hown hI.1 hI.2.1 hI.2.2.1 hI.2.2.2 0 rfl rfl f hf (hts _ hl) (fun z h9 => by rw [ho] at h9; exact h9) hfin hty rfl rfl hf hd (fun H1 locs1 hP hD hS => ?_)
  rw [hs] at hP hD
  exact kk _ H1 locs1 rfl ⟨hI.1, hP, hD, hS⟩
theorem b_iast (hx : p.tables.exec = Jvm.exec) (hb : c.code = cc) (hI : bI D a k A s σ H locs) (q t : Nat) {x0 n : Nat} {cA : ClassId} {g : Nat → Int32} (ha : (bW a k σ)[q]? = some (x0, .inl (cA, n, .inl g))) (ht : (bT k)[t]? = some (cA, .int)) {i x : Int32} {σ2 : St} (hs : (bW a k σ).set q (x0, .inl (cA, n, .inl (upd g i.toNatClampNeg x))) = bW a k σ2) (hin : vp_in i n) (hd : decode cc pc = .ok (.iastore, 1)) (kk : ∀ (σ1 : St) (H1 : Heap) (locs1 : List Loc), σ1 = σ2 → bI D a k A s σ1 H1 locs1 → W p l e R s m args below meth c H1 locs1 cells slots Q (F0 m (pc + 1) ls rest)) : W p l e R s m args below meth c H locs cells slots Q (F0 m pc ls (.int x :: .int i :: .ref x0 :: rest)) := by
  refine va_iast hx hb hI.1 hI.2.1 hI.2.2.1 hI.2.2.2 q t ha ht hin hd (fun H1 locs1 hP hD hS => ?_)
  rw [hs] at hP hD
  exact kk _ H1 locs1 rfl ⟨hI.1, hP, hD, hS⟩
theorem b_zast (hx : p.tables.exec = Jvm.exec) (hb : c.code = cc) (hI : bI D a k A s σ H locs) (q t : Nat) {x0 n : Nat} {cA : ClassId} {g : Nat → Int32} (ha : (bW a k σ)[q]? = some (x0, .inl (cA, n, .inl g))) (ht : (bT k)[t]? = some (cA, .boolean)) {i x : Int32} {σ2 : St} (hs : (bW a k σ).set q (x0, .inl (cA, n, .inl (upd g i.toNatClampNeg (vp_nar .boolean x)))) = bW a k σ2) (hin : vp_in i n) (hd : decode cc pc = .ok (.bastore, 1)) (kk : ∀ (σ1 : St) (H1 : Heap) (locs1 : List Loc), σ1 = σ2 → bI D a k A s σ1 H1 locs1 → W p l e R s m args below meth c H1 locs1 cells slots Q (F0 m (pc + 1) ls rest)) : W p l e R s m args below meth c H locs cells slots Q (F0 m pc ls (.int x :: .int i :: .ref x0 :: rest)) := by
  refine va_zast hx hb hI.1 hI.2.1 hI.2.2.1 hI.2.2.2 q t ha ht hin hd (fun H1 locs1 hP hD hS => ?_)
  rw [hs] at hP hD
  exact kk _ H1 locs1 rfl ⟨hI.1, hP, hD, hS⟩
theorem b_calli {own : String} {nL maxL index n : Nat} {y : MethodName} {bytes : ByteArray} {ret : Option FieldType} {rm : Room} {As : List Value} {P : Int32 → St → Prop} (S : CallFix p m c cc nL s args lw_all own) (hM : ∀ sz : Nat, Met l y (ws_ y bytes maxL ret) rm (bPc D a k σ sz As) (va_Qi P (bB D a k (va_A (bW a k σ) sz)) (va_A (bW a k σ) sz)) 0 0 (va_A (bW a k σ) sz)) (cw : CallW R s args own RX0 index y bytes maxL ret (ws_ y bytes maxL ret) rm 0 0 n) (hI : bI D a k A s σ H locs) (hA : ∀ q : Nat, s.heap.size ≤ q → A q) (hn : As.length = n) (hsize : ls.size = nL) (hst : st = As.reverse ++ .ref (a 0) :: rest) (hW : (rest.map fun v => v.category).sum ≤ 8) (hdg : decode cc pc = .ok (.invokevirtual index, 3)) (hf : cells + 0 ≤ R.cells ∧ slots + 0 ≤ R.slots)
    (kk : ∀ (r : Int32) (σ1 : St) (H1 : Heap) (locs1 : List Loc), P r σ1 → bI D a k A s σ1 H1 locs1 → W p l e R s m args below meth c H1 locs1 cells slots Q (F0 m (pc + 3) ls (.int r :: rest))) : W p l e R s m args below meth c H locs cells slots Q (F0 m pc ls st) := by
  obtain ⟨hK, hP, hD, hS⟩ := hI
  have hFc : ∀ q : Nat, va_A (bW a k σ) H.size q → A q := by
    intro q h
    rcases h with ⟨j, e, h⟩ | h
    · exact hD.2 j (q, e) h
    · exact hA q (Nat.le_trans hS.1 h)
  refine va_calli (va_runV (As := As) (rest := rest) S (hM H.size) cw ⟨fun a U g mk q => by obtain ⟨q0, q1, qP, qK, qD⟩ := q; exact ⟨q0, q1, qP, va_K.moved (u := U) (U := U.calling g mk a) (Vm.Alike.refl U.vm) qK, qD⟩, va_recv hK hP (ci := 0) (q0 := 0) rfl rfl, fun U hU hW => ⟨rfl, by rw [hU], by rw [hU]; exact hP, va_K.moved hW.alike hK, hD.weaken (fun _ _ _ _ => trivial)⟩⟩ rfl hn hsize hst (lv_room hW) hdg hf) hS (fun q _ h => hFc q h) hFc (fun r u t H1 locs1 ht hvm hw hB hz hk hS1 => ?_)
  obtain ⟨hP1, hK1, hD1⟩ := hB
  rw [ht] at hP1
  exact kk r u H1 locs1 hw ⟨va_K.moved hvm.symm hK1, hP1, hD1.weaken (fun _ q _ h => hFc q.1 h), hS1⟩
theorem b_callv {own : String} {nL maxL index n : Nat} {y : MethodName} {bytes : ByteArray} {ret : Option FieldType} {rm : Room} {As : List Value} {P : St → Prop} (S : CallFix p m c cc nL s args lw_all own) (hM : ∀ sz : Nat, Met l y (ws_ y bytes maxL ret) rm (bPc D a k σ sz As) (va_Qv P (bB D a k (va_A (bW a k σ) sz)) (va_A (bW a k σ) sz)) 0 0 (va_A (bW a k σ) sz)) (cw : CallW R s args own RX0 index y bytes maxL ret (ws_ y bytes maxL ret) rm 0 0 n) (hI : bI D a k A s σ H locs) (hA : ∀ q : Nat, s.heap.size ≤ q → A q) (hn : As.length = n) (hsize : ls.size = nL) (hst : st = As.reverse ++ .ref (a 0) :: rest) (hW : (rest.map fun v => v.category).sum ≤ 8) (hdg : decode cc pc = .ok (.invokevirtual index, 3)) (hf : cells + 0 ≤ R.cells ∧ slots + 0 ≤ R.slots)
    (kk : ∀ (σ1 : St) (H1 : Heap) (locs1 : List Loc), P σ1 → bI D a k A s σ1 H1 locs1 → W p l e R s m args below meth c H1 locs1 cells slots Q (F0 m (pc + 3) ls (rest))) : W p l e R s m args below meth c H locs cells slots Q (F0 m pc ls st) := by
  obtain ⟨hK, hP, hD, hS⟩ := hI
  have hFc : ∀ q : Nat, va_A (bW a k σ) H.size q → A q := by
    intro q h
    rcases h with ⟨j, e, h⟩ | h
    · exact hD.2 j (q, e) h
    · exact hA q (Nat.le_trans hS.1 h)
  refine va_callv (va_runV (As := As) (rest := rest) S (hM H.size) cw ⟨fun a U g mk q => by obtain ⟨q0, q1, qP, qK, qD⟩ := q; exact ⟨q0, q1, qP, va_K.moved (u := U) (U := U.calling g mk a) (Vm.Alike.refl U.vm) qK, qD⟩, va_recv hK hP (ci := 0) (q0 := 0) rfl rfl, fun U hU hW => ⟨rfl, by rw [hU], by rw [hU]; exact hP, va_K.moved hW.alike hK, hD.weaken (fun _ _ _ _ => trivial)⟩⟩ rfl hn hsize hst (lv_room hW) hdg hf) hS (fun q _ h => hFc q h) hFc (fun u t H1 locs1 ht hvm hw hB hz hk hS1 => ?_)
  obtain ⟨hP1, hK1, hD1⟩ := hB
  rw [ht] at hP1
  exact kk u H1 locs1 hw ⟨va_K.moved hvm.symm hK1, hP1, hD1.weaken (fun _ q _ h => hFc q.1 h), hS1⟩
theorem b_iret {r : Int32} {P : Int32 → St → Prop} (hx : p.tables.exec = Jvm.exec) (hb : c.code = cc) (hr : meth.sig.returnType = some .int) (hlocks : meth.locks = false) (hI : bI D a k A s σ H locs) (hp : P r σ) (hd : decode cc pc = .ok (.ireturn, 1)) : W p l e R s m args below meth c H locs 0 0 (MQ below (va_Qi P (bB D a k A) A) args s 0 0 A) (F0 m pc ls [.int r]) :=
  W.iret hx hb hr (fun t ht hW => ⟨⟨r, σ, rfl, hp, by rw [ht]; exact hI.2.1, va_K.moved hW.alike hI.1, hI.2.2.1⟩, hI.2.2.2.F ht⟩) hI.2.2.2.2.2 hd hlocks
theorem b_zret {r : Int32} {ty : FieldType} {P : Int32 → St → Prop} (hx : p.tables.exec = Jvm.exec) (hb : c.code = cc) (hr : meth.sig.returnType = some ty) (hn : narrow ty (.int r) = .int r) (hlocks : meth.locks = false) (hI : bI D a k A s σ H locs) (hp : P r σ) (hd : decode cc pc = .ok (.ireturn, 1)) : W p l e R s m args below meth c H locs 0 0 (MQ below (va_Qi P (bB D a k A) A) args s 0 0 A) (F0 m pc ls [.int r]) :=
  W.zret hx hb hr hn (fun t ht hW => ⟨⟨r, σ, rfl, hp, by rw [ht]; exact hI.2.1, va_K.moved hW.alike hI.1, hI.2.2.1⟩, hI.2.2.2.F ht⟩) hI.2.2.2.2.2 hd hlocks
theorem b_vret {P : St → Prop} (hx : p.tables.exec = Jvm.exec) (hb : c.code = cc) (hr : meth.sig.returnType = none) (hlocks : meth.locks = false) (hI : bI D a k A s σ H locs) (hp : P σ) (hd : decode cc pc = .ok (.return_, 1)) : W p l e R s m args below meth c H locs 0 0 (MQ below (va_Qv P (bB D a k A) A) args s 0 0 A) (F0 m pc ls []) :=
  W.vret hx hb hr (fun t ht hW => ⟨⟨σ, rfl, hp, by rw [ht]; exact hI.2.1, va_K.moved hW.alike hI.1, hI.2.2.1⟩, hI.2.2.2.F ht⟩) hI.2.2.2.2.2 hd hlocks
end BROW
abbrev mF (a : Nat → Nat) (σ : St) : List Value := [.ref (a 1), .ref (a 2), .ref (a 3), .ref (a 4)]
def mW (a : Nat → Nat) (k : Nat → ClassId) (σ : St) : va_W := [(a 0, .inr (1, mF a σ)), (a 1, .inl (k 0, 222, .inl (σ 0))), (a 2, .inl (k 1, 222, .inl (σ 1))), (a 3, .inl (k 2, 36, .inl (σ 2))), (a 4, .inl (k 3, 36, .inl (σ 3)))]
def mT (k : Nat → ClassId) : List (ClassId × FieldType) := [(k 0, .boolean), (k 1, .int), (k 2, .int), (k 3, .boolean)]
def mI (D : va_G) (a : Nat → Nat) (k : Nat → ClassId) (A : Nat → Prop) (s : State) (σ : St) (H : Heap) (locs : List Loc) : Prop := va_K D vwCl (mT k) s ∧ va_P D vwCl (mW a k σ) H ∧ va_D A (mW a k σ) ∧ va_S A s.heap H locs
def mPc (D : va_G) (a : Nat → Nat) (k : Nat → ClassId) (σ : St) (sz : Nat) (As : List Value) : Array Value → State → Prop := va_Pc (.ref (a 0) :: As) (fun U => U.heap.size = sz ∧ va_P D vwCl (mW a k σ) U.heap ∧ va_K D vwCl (mT k) U ∧ va_D (fun _ => True) (mW a k σ))
def mB (D : va_G) (a : Nat → Nat) (k : Nat → ClassId) (A : Nat → Prop) (σ : St) (t : State) : Prop := va_P D vwCl (mW a k σ) t.heap ∧ va_K D vwCl (mT k) t ∧ va_D A (mW a k σ)
theorem m_start {D : va_G} {a : Nat → Nat} {k : Nat → ClassId} {σ : St} {sz : Nat} {As : List Value} {args : Array Value} {s : State} (hv : mPc D a k σ sz As args s) : args = (Value.ref (a 0) :: As).toArray ∧ mI D a k (va_A (mW a k σ) sz) s σ s.heap [] ∧ ∀ q : Nat, s.heap.size ≤ q → va_A (mW a k σ) sz q := by
  obtain ⟨h1, h2, h3, h4, h5⟩ := hv
  subst h2
  exact ⟨h1, ⟨h4, h3, h5.self, va_S.rf⟩, fun q h => Or.inr h⟩
theorem m_s0 (a : Nat → Nat) (k : Nat → ClassId) (σ : St) (j : Nat) (x : Int32) : (mW a k σ).set 1 (a 1, .inl (k 0, 222, .inl (upd (σ 0) j x))) = mW a k (up2 σ 0 j x) := rfl
theorem m_s1 (a : Nat → Nat) (k : Nat → ClassId) (σ : St) (j : Nat) (x : Int32) : (mW a k σ).set 2 (a 2, .inl (k 1, 222, .inl (upd (σ 1) j x))) = mW a k (up2 σ 1 j x) := rfl
theorem m_s2 (a : Nat → Nat) (k : Nat → ClassId) (σ : St) (j : Nat) (x : Int32) : (mW a k σ).set 3 (a 3, .inl (k 2, 36, .inl (upd (σ 2) j x))) = mW a k (up2 σ 2 j x) := rfl
theorem m_s3 (a : Nat → Nat) (k : Nat → ClassId) (σ : St) (j : Nat) (x : Int32) : (mW a k σ).set 4 (a 4, .inl (k 3, 36, .inl (upd (σ 3) j x))) = mW a k (up2 σ 3 j x) := rfl
section MROW
variable {p : Program} {l : Launch} {e : Env} {R : Room} {s : State} {m : MethodId} {args : Array Value} {below : List Frame} {meth : Method} {c : Code} {H : Heap} {locs : List Loc} {cells slots : Nat} {Q : State → Prop} {cc : ByteArray} {pc : Nat} {ls : Array Slot} {rest st : List Value} {D : va_G} {A : Nat → Prop} {a : Nat → Nat} {k : Nat → ClassId} {σ : St}
theorem m_get (hx : p.tables.exec = Jvm.exec) (hb : c.code = cc) (hts : ∀ w ∈ lw_all, w.before args s = true) (hown : s.vm.findClass RX1 = some m.cls) (hI : mI D a k A s σ H locs) (f : Nat) (hf : f < 4) {index : Nat} (ho : (TX1 f).1 = RX1) (hl : Cond.fieldLink RX1 index RX1 (TX1 f).2.1 (TX1 f).2.2.1 ∈ lw_all) {v : Value} (hv : (mF a σ)[f]? = some v) (hd : decode cc pc = .ok (.getfield index, 3)) (kk : W p l e R s m args below meth c H locs cells slots Q (F0 m (pc + 3) ls (v :: rest))) : W p l e R s m args below meth c H locs cells slots Q (F0 m pc ls (.ref (a 0) :: rest)) :=
  va_get (D := D) (ci := 1) (v := v) (C := RX1) (T := TX1) (N := 4) hx hb hts in_X1 hown hI.1 hI.2.1 0 rfl rfl f hf (hts _ hl) (fun x h9 => by rw [ho] at h9; exact h9) hv hd kk
theorem m_iast (hx : p.tables.exec = Jvm.exec) (hb : c.code = cc) (hI : mI D a k A s σ H locs) (q t : Nat) {x0 n : Nat} {cA : ClassId} {g : Nat → Int32} (ha : (mW a k σ)[q]? = some (x0, .inl (cA, n, .inl g))) (ht : (mT k)[t]? = some (cA, .int)) {i x : Int32} {σ2 : St} (hs : (mW a k σ).set q (x0, .inl (cA, n, .inl (upd g i.toNatClampNeg x))) = mW a k σ2) (hin : vp_in i n) (hd : decode cc pc = .ok (.iastore, 1)) (kk : ∀ (σ1 : St) (H1 : Heap) (locs1 : List Loc), σ1 = σ2 → mI D a k A s σ1 H1 locs1 → W p l e R s m args below meth c H1 locs1 cells slots Q (F0 m (pc + 1) ls rest)) : W p l e R s m args below meth c H locs cells slots Q (F0 m pc ls (.int x :: .int i :: .ref x0 :: rest)) := by
  refine va_iast hx hb hI.1 hI.2.1 hI.2.2.1 hI.2.2.2 q t ha ht hin hd (fun H1 locs1 hP hD hS => ?_)
  rw [hs] at hP hD
  exact kk _ H1 locs1 rfl ⟨hI.1, hP, hD, hS⟩
theorem m_zast (hx : p.tables.exec = Jvm.exec) (hb : c.code = cc) (hI : mI D a k A s σ H locs) (q t : Nat) {x0 n : Nat} {cA : ClassId} {g : Nat → Int32} (ha : (mW a k σ)[q]? = some (x0, .inl (cA, n, .inl g))) (ht : (mT k)[t]? = some (cA, .boolean)) {i x : Int32} {σ2 : St} (hs : (mW a k σ).set q (x0, .inl (cA, n, .inl (upd g i.toNatClampNeg (vp_nar .boolean x)))) = mW a k σ2) (hin : vp_in i n) (hd : decode cc pc = .ok (.bastore, 1)) (kk : ∀ (σ1 : St) (H1 : Heap) (locs1 : List Loc), σ1 = σ2 → mI D a k A s σ1 H1 locs1 → W p l e R s m args below meth c H1 locs1 cells slots Q (F0 m (pc + 1) ls rest)) : W p l e R s m args below meth c H locs cells slots Q (F0 m pc ls (.int x :: .int i :: .ref x0 :: rest)) := by
  refine va_zast hx hb hI.1 hI.2.1 hI.2.2.1 hI.2.2.2 q t ha ht hin hd (fun H1 locs1 hP hD hS => ?_)
  rw [hs] at hP hD
  exact kk _ H1 locs1 rfl ⟨hI.1, hP, hD, hS⟩
theorem m_calli {own : String} {nL maxL index n : Nat} {y : MethodName} {bytes : ByteArray} {ret : Option FieldType} {rm : Room} {As : List Value} {P : Int32 → St → Prop} (S : CallFix p m c cc nL s args lw_all own) (hM : ∀ sz : Nat, Met l y (ws_ y bytes maxL ret) rm (mPc D a k σ sz As) (va_Qi P (mB D a k (va_A (mW a k σ) sz)) (va_A (mW a k σ) sz)) 0 0 (va_A (mW a k σ) sz)) (cw : CallW R s args own RX1 index y bytes maxL ret (ws_ y bytes maxL ret) rm 0 0 n) (hI : mI D a k A s σ H locs) (hA : ∀ q : Nat, s.heap.size ≤ q → A q) (hn : As.length = n) (hsize : ls.size = nL) (hst : st = As.reverse ++ .ref (a 0) :: rest) (hW : (rest.map fun v => v.category).sum ≤ 8) (hdg : decode cc pc = .ok (.invokevirtual index, 3)) (hf : cells + 0 ≤ R.cells ∧ slots + 0 ≤ R.slots)
    (kk : ∀ (r : Int32) (σ1 : St) (H1 : Heap) (locs1 : List Loc), P r σ1 → mI D a k A s σ1 H1 locs1 → W p l e R s m args below meth c H1 locs1 cells slots Q (F0 m (pc + 3) ls (.int r :: rest))) : W p l e R s m args below meth c H locs cells slots Q (F0 m pc ls st) := by
  obtain ⟨hK, hP, hD, hS⟩ := hI
  have hFc : ∀ q : Nat, va_A (mW a k σ) H.size q → A q := by
    intro q h
    rcases h with ⟨j, e, h⟩ | h
    · exact hD.2 j (q, e) h
    · exact hA q (Nat.le_trans hS.1 h)
  refine va_calli (va_runV (As := As) (rest := rest) S (hM H.size) cw ⟨fun a U g mk q => by obtain ⟨q0, q1, qP, qK, qD⟩ := q; exact ⟨q0, q1, qP, va_K.moved (u := U) (U := U.calling g mk a) (Vm.Alike.refl U.vm) qK, qD⟩, va_recv hK hP (ci := 1) (q0 := 0) rfl rfl, fun U hU hW => ⟨rfl, by rw [hU], by rw [hU]; exact hP, va_K.moved hW.alike hK, hD.weaken (fun _ _ _ _ => trivial)⟩⟩ rfl hn hsize hst (lv_room hW) hdg hf) hS (fun q _ h => hFc q h) hFc (fun r u t H1 locs1 ht hvm hw hB hz hk hS1 => ?_)
  obtain ⟨hP1, hK1, hD1⟩ := hB
  rw [ht] at hP1
  exact kk r u H1 locs1 hw ⟨va_K.moved hvm.symm hK1, hP1, hD1.weaken (fun _ q _ h => hFc q.1 h), hS1⟩
theorem m_callv {own : String} {nL maxL index n : Nat} {y : MethodName} {bytes : ByteArray} {ret : Option FieldType} {rm : Room} {As : List Value} {P : St → Prop} (S : CallFix p m c cc nL s args lw_all own) (hM : ∀ sz : Nat, Met l y (ws_ y bytes maxL ret) rm (mPc D a k σ sz As) (va_Qv P (mB D a k (va_A (mW a k σ) sz)) (va_A (mW a k σ) sz)) 0 0 (va_A (mW a k σ) sz)) (cw : CallW R s args own RX1 index y bytes maxL ret (ws_ y bytes maxL ret) rm 0 0 n) (hI : mI D a k A s σ H locs) (hA : ∀ q : Nat, s.heap.size ≤ q → A q) (hn : As.length = n) (hsize : ls.size = nL) (hst : st = As.reverse ++ .ref (a 0) :: rest) (hW : (rest.map fun v => v.category).sum ≤ 8) (hdg : decode cc pc = .ok (.invokevirtual index, 3)) (hf : cells + 0 ≤ R.cells ∧ slots + 0 ≤ R.slots)
    (kk : ∀ (σ1 : St) (H1 : Heap) (locs1 : List Loc), P σ1 → mI D a k A s σ1 H1 locs1 → W p l e R s m args below meth c H1 locs1 cells slots Q (F0 m (pc + 3) ls (rest))) : W p l e R s m args below meth c H locs cells slots Q (F0 m pc ls st) := by
  obtain ⟨hK, hP, hD, hS⟩ := hI
  have hFc : ∀ q : Nat, va_A (mW a k σ) H.size q → A q := by
    intro q h
    rcases h with ⟨j, e, h⟩ | h
    · exact hD.2 j (q, e) h
    · exact hA q (Nat.le_trans hS.1 h)
  refine va_callv (va_runV (As := As) (rest := rest) S (hM H.size) cw ⟨fun a U g mk q => by obtain ⟨q0, q1, qP, qK, qD⟩ := q; exact ⟨q0, q1, qP, va_K.moved (u := U) (U := U.calling g mk a) (Vm.Alike.refl U.vm) qK, qD⟩, va_recv hK hP (ci := 1) (q0 := 0) rfl rfl, fun U hU hW => ⟨rfl, by rw [hU], by rw [hU]; exact hP, va_K.moved hW.alike hK, hD.weaken (fun _ _ _ _ => trivial)⟩⟩ rfl hn hsize hst (lv_room hW) hdg hf) hS (fun q _ h => hFc q h) hFc (fun u t H1 locs1 ht hvm hw hB hz hk hS1 => ?_)
  obtain ⟨hP1, hK1, hD1⟩ := hB
  rw [ht] at hP1
  exact kk u H1 locs1 hw ⟨va_K.moved hvm.symm hK1, hP1, hD1.weaken (fun _ q _ h => hFc q.1 h), hS1⟩
theorem m_iret {r : Int32} {P : Int32 → St → Prop} (hx : p.tables.exec = Jvm.exec) (hb : c.code = cc) (hr : meth.sig.returnType = some .int) (hlocks : meth.locks = false) (hI : mI D a k A s σ H locs) (hp : P r σ) (hd : decode cc pc = .ok (.ireturn, 1)) : W p l e R s m args below meth c H locs 0 0 (MQ below (va_Qi P (mB D a k A) A) args s 0 0 A) (F0 m pc ls [.int r]) :=
  W.iret hx hb hr (fun t ht hW => ⟨⟨r, σ, rfl, hp, by rw [ht]; exact hI.2.1, va_K.moved hW.alike hI.1, hI.2.2.1⟩, hI.2.2.2.F ht⟩) hI.2.2.2.2.2 hd hlocks
theorem m_zret {r : Int32} {ty : FieldType} {P : Int32 → St → Prop} (hx : p.tables.exec = Jvm.exec) (hb : c.code = cc) (hr : meth.sig.returnType = some ty) (hn : narrow ty (.int r) = .int r) (hlocks : meth.locks = false) (hI : mI D a k A s σ H locs) (hp : P r σ) (hd : decode cc pc = .ok (.ireturn, 1)) : W p l e R s m args below meth c H locs 0 0 (MQ below (va_Qi P (mB D a k A) A) args s 0 0 A) (F0 m pc ls [.int r]) :=
  W.zret hx hb hr hn (fun t ht hW => ⟨⟨r, σ, rfl, hp, by rw [ht]; exact hI.2.1, va_K.moved hW.alike hI.1, hI.2.2.1⟩, hI.2.2.2.F ht⟩) hI.2.2.2.2.2 hd hlocks
theorem m_vret {P : St → Prop} (hx : p.tables.exec = Jvm.exec) (hb : c.code = cc) (hr : meth.sig.returnType = none) (hlocks : meth.locks = false) (hI : mI D a k A s σ H locs) (hp : P σ) (hd : decode cc pc = .ok (.return_, 1)) : W p l e R s m args below meth c H locs 0 0 (MQ below (va_Qv P (mB D a k A) A) args s 0 0 A) (F0 m pc ls []) :=
  W.vret hx hb hr (fun t ht hW => ⟨⟨σ, rfl, hp, by rw [ht]; exact hI.2.1, va_K.moved hW.alike hI.1, hI.2.2.1⟩, hI.2.2.2.F ht⟩) hI.2.2.2.2.2 hd hlocks
end MROW
set_option maxHeartbeats 4000000 in
set_option maxRecDepth 100000 in
theorem met_bIsRegister (l : Launch) (x0 : Int32) : Met l yX0_isRegister (ws_ yX0_isRegister cX0_isRegister 1 (some .boolean)) { frames := 0, cells := 0, slots := 0, locals := 0 } (fun v _ => v = ([.int x0] : List Value).toArray) (QcRead (b_reg x0)) 0 0 (fun _ => False) := by
  refine Met.ofW (cc := cX0_isRegister) (maxL := 1) (ret := (some .boolean)) (by decide) rfl ?_
  intro p e s m args below meth c s₁ B hml hv
  subst hv
  have hx := B.exec
  have hb := B.bytes
  have hr := B.returns
  have hlocks := B.notSynchronized
  have hl := lv_entry ([.int x0]) (n := 1) (Nat.le_of_ble_eq_true rfl)
  rw [lg_entry_eq]
  generalize (lg_sl ([.int x0]) ++ List.replicate (1 - (lg_sl ([.int x0])).length) Slot.unset).toArray = ls at hl ⊢
  have hl : lv_has ls 1 [(0, .int x0)] := hl
  refine lv_iload_n hx hb dX0_isRegister_0 rfl (lv_at hl 0 rfl) ?_
  refine lv_if_lt (tgt := 13) hx hb dX0_isRegister_1 (by decide) (fun c1 => ?_) (fun c1 => ?_)
  · refine lv_iconst (v := 0) hx hb dX0_isRegister_13 (by decide) ?_
    exact W.zret (v := 0) hx hb hr rfl (fun t ht hW => ⟨by rw [show b_reg x0 = 0 from if_neg (fun h => Int32.not_lt.mpr h.1 c1)], ht⟩) (fun q hq => by cases hq) dX0_isRegister_14
  refine lv_iload_n hx hb dX0_isRegister_4 rfl (lv_at hl 0 rfl) ?_
  refine lv_iconst (v := 5) hx hb dX0_isRegister_5 (by decide) ?_
  refine lv_icmp_gt (tgt := 13) hx hb dX0_isRegister_6 (by decide) (fun c2 => ?_) (fun c2 => ?_)
  · refine lv_iconst (v := 0) hx hb dX0_isRegister_13 (by decide) ?_
    exact W.zret (v := 0) hx hb hr rfl (fun t ht hW => ⟨by rw [show b_reg x0 = 0 from if_neg (fun h => Int32.not_lt.mpr h.2 c2)], ht⟩) (fun q hq => by cases hq) dX0_isRegister_14
  refine lv_iconst (v := 1) hx hb dX0_isRegister_9 (by decide) ?_
  refine lv_goto (tgt := 14) hx hb dX0_isRegister_10 (by decide) ?_
  exact W.zret (v := 1) hx hb hr rfl (fun t ht hW => ⟨by rw [show b_reg x0 = 1 from if_pos ⟨Int32.not_lt.mp c1, Int32.not_lt.mp c2⟩], ht⟩) (fun q hq => by cases hq) dX0_isRegister_14
set_option maxHeartbeats 4000000 in
set_option maxRecDepth 100000 in
theorem met_mBad (l : Launch) (x0 : Int32) : Met l yX1_bad (ws_ yX1_bad cX1_bad 1 (some .boolean)) { frames := 0, cells := 0, slots := 0, locals := 0 } (fun v _ => v = ([.int x0] : List Value).toArray) (QcRead (m_bad x0)) 0 0 (fun _ => False) := by
  refine Met.ofW (cc := cX1_bad) (maxL := 1) (ret := (some .boolean)) (by decide) rfl ?_
  intro p e s m args below meth c s₁ B hml hv
  subst hv
  have hx := B.exec
  have hb := B.bytes
  have hr := B.returns
  have hlocks := B.notSynchronized
  have hl := lv_entry ([.int x0]) (n := 1) (Nat.le_of_ble_eq_true rfl)
  rw [lg_entry_eq]
  generalize (lg_sl ([.int x0]) ++ List.replicate (1 - (lg_sl ([.int x0])).length) Slot.unset).toArray = ls at hl ⊢
  have hl : lv_has ls 1 [(0, .int x0)] := hl
  refine lv_iload_n hx hb dX1_bad_0 rfl (lv_at hl 0 rfl) ?_
  refine lv_if_lt (tgt := 9) hx hb dX1_bad_1 (by decide) (fun c1 => ?_) (fun c1 => ?_)
  · refine lv_iconst (v := 1) hx hb dX1_bad_9 (by decide) ?_
    refine lv_goto (tgt := 14) hx hb dX1_bad_10 (by decide) ?_
    exact W.zret (v := 1) hx hb hr rfl (fun t ht hW => ⟨by rw [show m_bad x0 = 1 from if_neg (fun h => Int32.not_lt.mpr h.1 c1)], ht⟩) (fun q hq => by cases hq) dX1_bad_14
  refine lv_iload_n hx hb dX1_bad_4 rfl (lv_at hl 0 rfl) ?_
  refine lv_iconst (v := 5) hx hb dX1_bad_5 (by decide) ?_
  refine lv_icmp_le (tgt := 13) hx hb dX1_bad_6 (by decide) (fun c2 => ?_) (fun c2 => ?_)
  · refine lv_iconst (v := 0) hx hb dX1_bad_13 (by decide) ?_
    exact W.zret (v := 0) hx hb hr rfl (fun t ht hW => ⟨by rw [show m_bad x0 = 0 from if_pos ⟨Int32.not_lt.mp c1, c2⟩], ht⟩) (fun q hq => by cases hq) dX1_bad_14
  refine lv_iconst (v := 1) hx hb dX1_bad_9 (by decide) ?_
  refine lv_goto (tgt := 14) hx hb dX1_bad_10 (by decide) ?_
  exact W.zret (v := 1) hx hb hr rfl (fun t ht hW => ⟨by rw [show m_bad x0 = 1 from if_neg (fun h => c2 h.2)], ht⟩) (fun q hq => by cases hq) dX1_bad_14
end
section
/-! printed by gen.py: the weakest preconditions of the methods -/
def w_bHasField (P : Int32 → St → Prop) (σ : St) (x1 x2 : Int32) : Prop :=
  vp_in x1 6 ∧
  ((σ 4 x1.toNatClampNeg) = 0 →
    P 0 σ) ∧
  (¬ (σ 4 x1.toNatClampNeg) = 0 →
    (x2 < 0 →
      P 0 σ) ∧
    (¬ x2 < 0 →
      vp_in x1 6 ∧
      vp_in (σ 3 x1.toNatClampNeg) 72 ∧
      ((σ 1 (σ 3 x1.toNatClampNeg).toNatClampNeg) ≤ x2 →
        P 0 σ) ∧
      (¬ (σ 1 (σ 3 x1.toNatClampNeg).toNatClampNeg) ≤ x2 →
        P 1 σ)))
def w_bReach (P : St → Prop) (σ : St) (x1 : Int32) : Prop :=
  vp_in x1 72 ∧
  ((σ 5 x1.toNatClampNeg) = 0 →
    vp_in x1 72 ∧
    ∀ σ1 : St, σ1 = up2 σ 5 x1.toNatClampNeg (vp_nar .boolean 1) →
    vp_in (σ1 6 0) 40 ∧
    ∀ σ3 : St, σ3 = up2 σ1 7 (σ1 6 0).toNatClampNeg x1 →
    ∀ σ5 : St, σ5 = up2 σ3 6 0 ((σ3 6 0) + 1) →
    P σ5) ∧
  (¬ (σ 5 x1.toNatClampNeg) = 0 →
    P σ)
def w_bMarkReached_98 (x1 : Int32) (x2 : Int32) (K : St → Int32 → Prop) : Nat → St → Int32 → Prop
  | 0, _, _ => False
  | n + 1, σ, x3 =>
    vp_in x2 72 ∧
    ((x2 + (σ 1 x2.toNatClampNeg)) < x3 →
      K σ x3) ∧
    (¬ (x2 + (σ 1 x2.toNatClampNeg)) < x3 →
      vp_in x3 72 ∧
      ((σ 2 x3.toNatClampNeg) = 0 →
        w_bMarkReached_98 x1 x2 K n σ (x3 + 1)) ∧
      (¬ (σ 2 x3.toNatClampNeg) = 0 →
        vp_in x3 72 ∧
        w_bReach (fun (σ1 : St) =>
            w_bMarkReached_98 x1 x2 K n σ1 (x3 + 1)) σ (σ 1 x3.toNatClampNeg)))
def w_bMarkReached_61  (K : St → Int32 → Prop) : Nat → St → Int32 → Prop
  | 0, _, _ => False
  | n + 1, σ, x1 =>
    (37 ≤ x1 →
      K σ x1) ∧
    (¬ 37 ≤ x1 →
      ((σ 6 0) ≤ 0 →
        K σ x1) ∧
      (¬ (σ 6 0) ≤ 0 →
        ∀ σ5 : St, σ5 = up2 σ 6 0 ((σ 6 0) - 1) →
        vp_in (σ5 6 0) 40 ∧
        ∀ v6 : Int32, v6 = (σ5 7 (σ5 6 0).toNatClampNeg) →
        ∀ v7 : Int32, v7 = (v6 + 1) →
        ∃ n8 : Nat, w_bMarkReached_98 x1 v6
          (fun (σ9 : St) (v10 : Int32) =>
            w_bMarkReached_61 K n σ9 (x1 + 1)) n8 σ5 v7))
def w_bMarkReached_28  (K : St → Int32 → Prop) : Nat → St → Int32 → Prop
  | 0, _, _ => False
  | n + 1, σ, x1 =>
    (6 ≤ x1 →
      K σ x1) ∧
    (¬ 6 ≤ x1 →
      vp_in x1 6 ∧
      ((σ 4 x1.toNatClampNeg) = 0 →
        w_bMarkReached_28 K n σ (x1 + 1)) ∧
      (¬ (σ 4 x1.toNatClampNeg) = 0 →
        vp_in x1 6 ∧
        w_bReach (fun (σ12 : St) =>
            w_bMarkReached_28 K n σ12 (x1 + 1)) σ (σ 3 x1.toNatClampNeg)))
def w_bMarkReached_2  (K : St → Int32 → Prop) : Nat → St → Int32 → Prop
  | 0, _, _ => False
  | n + 1, σ, x1 =>
    (72 ≤ x1 →
      K σ x1) ∧
    (¬ 72 ≤ x1 →
      vp_in x1 72 ∧
      ∀ σ15 : St, σ15 = up2 σ 5 x1.toNatClampNeg (vp_nar .boolean 0) →
      w_bMarkReached_2 K n σ15 (x1 + 1))
def w_bMarkReached (P : St → Prop) (σ : St) : Prop :=
  ∃ n17 : Nat, w_bMarkReached_2 
    (fun (σ18 : St) (v19 : Int32) =>
      ∀ σ20 : St, σ20 = up2 σ18 6 0 0 →
      ∃ n21 : Nat, w_bMarkReached_28 
        (fun (σ22 : St) (v23 : Int32) =>
          ∃ n24 : Nat, w_bMarkReached_61 
            (fun (σ25 : St) (v26 : Int32) =>
              P σ25) n24 σ22 0) n21 σ20 0) n17 σ 0
def w_bListBreaks_14  (K : St → Int32 → Int32 → Int32 → Int32 → Prop) : Nat → St → Int32 → Int32 → Int32 → Int32 → Prop
  | 0, _, _, _, _, _ => False
  | n + 1, σ, x1, x2, x3, x4 =>
    (37 ≤ x4 →
      K σ x1 x2 x3 x4) ∧
    (¬ 37 ≤ x4 →
      ((σ 0 0) ≤ x3 →
        K σ x1 x2 x3 x4) ∧
      (¬ (σ 0 0) ≤ x3 →
        vp_in x3 72 ∧
        ∀ v1 : Int32, v1 = ((σ 1 x3.toNatClampNeg) + 1) →
        vp_in x3 72 ∧
        ((σ 5 x3.toNatClampNeg) = 0 →
          ∀ v9 : Int32, v9 = (x1 + v1) →
          ∀ v10 : Int32, v10 = (x3 + v1) →
          w_bListBreaks_14 K n σ v9 1 v10 (x4 + 1)) ∧
        (¬ (σ 5 x3.toNatClampNeg) = 0 →
          (x2 = 0 →
            ∀ v2 : Int32, v2 = (x3 + v1) →
            w_bListBreaks_14 K n σ x1 x2 v2 (x4 + 1)) ∧
          (¬ x2 = 0 →
            vp_in (σ 8 0) 40 ∧
            ∀ σ3 : St, σ3 = up2 σ 9 (σ 8 0).toNatClampNeg x3 →
            vp_in (σ3 8 0) 40 ∧
            ∀ σ5 : St, σ5 = up2 σ3 10 (σ3 8 0).toNatClampNeg x1 →
            ∀ σ7 : St, σ7 = up2 σ5 8 0 ((σ5 8 0) + 1) →
            ∀ v8 : Int32, v8 = (x3 + v1) →
            w_bListBreaks_14 K n σ7 x1 0 v8 (x4 + 1)))))
def w_bListBreaks (P : St → Prop) (σ : St) : Prop :=
  ∀ σ13 : St, σ13 = up2 σ 8 0 0 →
  ∃ n14 : Nat, w_bListBreaks_14 
    (fun (σ15 : St) (v16 : Int32) (v17 : Int32) (v18 : Int32) (v19 : Int32) =>
      P σ15) n14 σ13 0 0 0 0
def w_bMovedAddress_10 (x1 : Int32) (K : St → Int32 → Int32 → Int32 → Prop) : Nat → St → Int32 → Int32 → Int32 → Prop
  | 0, _, _, _, _ => False
  | n + 1, σ, x2, x3, x4 =>
    (7 ≤ x4 →
      K σ x2 x3 x4) ∧
    (¬ 7 ≤ x4 →
      (x3 ≤ x2 →
        K σ x2 x3 x4) ∧
      (¬ x3 ≤ x2 →
        ∀ v1 : Int32, v1 = ((x2 + x3) / 2) →
        vp_in v1 40 ∧
        (x1 < (σ 9 v1.toNatClampNeg) →
          w_bMovedAddress_10 x1 K n σ x2 v1 (x4 + 1)) ∧
        (¬ x1 < (σ 9 v1.toNatClampNeg) →
          ∀ v2 : Int32, v2 = (v1 + 1) →
          w_bMovedAddress_10 x1 K n σ v2 x3 (x4 + 1))))
def w_bMovedAddress (P : Int32 → St → Prop) (σ : St) (x1 : Int32) : Prop :=
  ∀ v4 : Int32, v4 = (σ 8 0) →
  ∃ n5 : Nat, w_bMovedAddress_10 x1
    (fun (σ6 : St) (v7 : Int32) (v8 : Int32) (v9 : Int32) =>
      (v7 = 0 →
        P x1 σ6) ∧
      (¬ v7 = 0 →
        vp_in (v7 - 1) 40 ∧
        P (x1 - (σ6 10 (v7 - 1).toNatClampNeg)) σ6)) n5 σ 0 v4 0
def w_bMendFields_32 (x1 : Int32) (x2 : Int32) (x3 : Int32) (K : St → Int32 → Prop) : Nat → St → Int32 → Prop
  | 0, _, _ => False
  | n + 1, σ, x4 =>
    ((x1 + x3) ≤ x4 →
      K σ x4) ∧
    (¬ (x1 + x3) ≤ x4 →
      vp_in x1 72 ∧
      ((σ 5 x1.toNatClampNeg) = 0 →
        w_bMendFields_32 x1 x2 x3 K n σ (x4 + 1)) ∧
      (¬ (σ 5 x1.toNatClampNeg) = 0 →
        vp_in x4 72 ∧
        ((σ 2 x4.toNatClampNeg) = 0 →
          w_bMendFields_32 x1 x2 x3 K n σ (x4 + 1)) ∧
        (¬ (σ 2 x4.toNatClampNeg) = 0 →
          vp_in x4 72 ∧
          w_bMovedAddress (fun (r2 : Int32) (σ1 : St) =>
              vp_in x4 72 ∧
              ∀ σ3 : St, σ3 = up2 σ1 1 x4.toNatClampNeg r2 →
              w_bMendFields_32 x1 x2 x3 K n σ3 (x4 + 1)) σ (σ 1 x4.toNatClampNeg))))
def w_bMendFields_4  (K : St → Int32 → Int32 → Prop) : Nat → St → Int32 → Int32 → Prop
  | 0, _, _, _ => False
  | n + 1, σ, x1, x2 =>
    (37 ≤ x2 →
      K σ x1 x2) ∧
    (¬ 37 ≤ x2 →
      ((σ 0 0) ≤ x1 →
        K σ x1 x2) ∧
      (¬ (σ 0 0) ≤ x1 →
        vp_in x1 72 ∧
        ∀ v8 : Int32, v8 = ((σ 1 x1.toNatClampNeg) + 1) →
        ∀ v9 : Int32, v9 = (x1 + 1) →
        ∃ n10 : Nat, w_bMendFields_32 x1 x2 v8
          (fun (σ11 : St) (v12 : Int32) =>
            ∀ v13 : Int32, v13 = (x1 + v8) →
            w_bMendFields_4 K n σ11 v13 (x2 + 1)) n10 σ v9))
def w_bMendFields (P : St → Prop) (σ : St) : Prop :=
  ∃ n15 : Nat, w_bMendFields_4 
    (fun (σ16 : St) (v17 : Int32) (v18 : Int32) =>
      P σ16) n15 σ 0 0
def w_bSlideDown_46 (x1 : Int32) (x2 : Int32) (x3 : Int32) (x4 : Int32) (x5 : Int32) (K : St → Int32 → Prop) : Nat → St → Int32 → Prop
  | 0, _, _ => False
  | n + 1, σ, x6 =>
    (x5 ≤ x6 →
      K σ x6) ∧
    (¬ x5 ≤ x6 →
      vp_in (x2 + x6) 72 ∧
      vp_in (x1 + x6) 72 ∧
      ∀ σ1 : St, σ1 = up2 σ 1 (x1 + x6).toNatClampNeg (σ 1 (x2 + x6).toNatClampNeg) →
      vp_in (x2 + x6) 72 ∧
      vp_in (x1 + x6) 72 ∧
      ∀ σ3 : St, σ3 = up2 σ1 2 (x1 + x6).toNatClampNeg (vp_nar .boolean (σ1 2 (x2 + x6).toNatClampNeg)) →
      w_bSlideDown_46 x1 x2 x3 x4 x5 K n σ3 (x6 + 1))
def w_bSlideDown_12 (x3 : Int32) (K : St → Int32 → Int32 → Int32 → Prop) : Nat → St → Int32 → Int32 → Int32 → Prop
  | 0, _, _, _, _ => False
  | n + 1, σ, x1, x2, x4 =>
    (37 ≤ x4 →
      K σ x1 x2 x4) ∧
    (¬ 37 ≤ x4 →
      (x3 ≤ x2 →
        K σ x1 x2 x4) ∧
      (¬ x3 ≤ x2 →
        vp_in x2 72 ∧
        ∀ v7 : Int32, v7 = ((σ 1 x2.toNatClampNeg) + 1) →
        vp_in x2 72 ∧
        ((σ 5 x2.toNatClampNeg) = 0 →
          ∀ v8 : Int32, v8 = (x2 + v7) →
          w_bSlideDown_12 x3 K n σ x1 v8 (x4 + 1)) ∧
        (¬ (σ 5 x2.toNatClampNeg) = 0 →
          ∃ n9 : Nat, w_bSlideDown_46 x1 x2 x3 x4 v7
            (fun (σ10 : St) (v11 : Int32) =>
              ∀ v12 : Int32, v12 = (x1 + v7) →
              ∀ v13 : Int32, v13 = (x2 + v7) →
              w_bSlideDown_12 x3 K n σ10 v12 v13 (x4 + 1)) n9 σ 0)))
def w_bSlideDown (P : St → Prop) (σ : St) : Prop :=
  ∀ v16 : Int32, v16 = (σ 0 0) →
  ∃ n17 : Nat, w_bSlideDown_12 v16
    (fun (σ18 : St) (v19 : Int32) (v20 : Int32) (v21 : Int32) =>
      ∀ σ22 : St, σ22 = up2 σ18 0 0 v19 →
      P σ22) n17 σ 0 0 0
def w_bSqueeze_10  (K : St → Int32 → Prop) : Nat → St → Int32 → Prop
  | 0, _, _ => False
  | n + 1, σ, x1 =>
    (6 ≤ x1 →
      K σ x1) ∧
    (¬ 6 ≤ x1 →
      vp_in x1 6 ∧
      ((σ 4 x1.toNatClampNeg) = 0 →
        w_bSqueeze_10 K n σ (x1 + 1)) ∧
      (¬ (σ 4 x1.toNatClampNeg) = 0 →
        vp_in x1 6 ∧
        w_bMovedAddress (fun (r2 : Int32) (σ1 : St) =>
            vp_in x1 6 ∧
            ∀ σ3 : St, σ3 = up2 σ1 3 x1.toNatClampNeg r2 →
            w_bSqueeze_10 K n σ3 (x1 + 1)) σ (σ 3 x1.toNatClampNeg)))
def w_bSqueeze (P : St → Prop) (σ : St) : Prop :=
  w_bMarkReached (fun (σ7 : St) =>
      w_bListBreaks (fun (σ8 : St) =>
          ∃ n9 : Nat, w_bSqueeze_10 
            (fun (σ10 : St) (v11 : Int32) =>
              w_bMendFields (fun (σ12 : St) =>
                  w_bSlideDown (fun (σ13 : St) =>
                      P σ13) σ12) σ10) n9 σ8 0) σ7) σ
def w_bMake_77 (x1 : Int32) (x2 : Int32) (x3 : Int32) (K : St → Int32 → Prop) : Nat → St → Int32 → Prop
  | 0, _, _ => False
  | n + 1, σ, x4 =>
    ((x3 + x2) < x4 →
      K σ x4) ∧
    (¬ (x3 + x2) < x4 →
      vp_in x4 72 ∧
      ∀ σ1 : St, σ1 = up2 σ 1 x4.toNatClampNeg 0 →
      vp_in x4 72 ∧
      ∀ σ3 : St, σ3 = up2 σ1 2 x4.toNatClampNeg (vp_nar .boolean 0) →
      w_bMake_77 x1 x2 x3 K n σ3 (x4 + 1))
def w_bMake (P : Int32 → St → Prop) (σ : St) (x1 x2 : Int32) : Prop :=
  ((b_reg x1) = 0 →
    P (-1) σ) ∧
  (¬ (b_reg x1) = 0 →
    (x2 < 1 →
      P (-1) σ) ∧
    (¬ x2 < 1 →
      (x2 ≤ 6 →
        ((x2 + 1) ≤ (72 - (σ 0 0)) →
          ((x2 + 1) ≤ (72 - (σ 0 0)) →
            ∀ v5 : Int32, v5 = (σ 0 0) →
            vp_in v5 72 ∧
            ∀ σ6 : St, σ6 = up2 σ 1 v5.toNatClampNeg x2 →
            vp_in v5 72 ∧
            ∀ σ8 : St, σ8 = up2 σ6 2 v5.toNatClampNeg (vp_nar .boolean 0) →
            ∀ v10 : Int32, v10 = (v5 + 1) →
            ∃ n11 : Nat, w_bMake_77 x1 x2 v5
              (fun (σ12 : St) (v13 : Int32) =>
                ∀ σ14 : St, σ14 = up2 σ12 0 0 ((v5 + x2) + 1) →
                vp_in x1 6 ∧
                ∀ σ15 : St, σ15 = up2 σ14 3 x1.toNatClampNeg v5 →
                vp_in x1 6 ∧
                ∀ σ17 : St, σ17 = up2 σ15 4 x1.toNatClampNeg (vp_nar .boolean 1) →
                P 0 σ17) n11 σ8 v10) ∧
          (¬ (x2 + 1) ≤ (72 - (σ 0 0)) →
            P (-2) σ)) ∧
        (¬ (x2 + 1) ≤ (72 - (σ 0 0)) →
          w_bSqueeze (fun (σ19 : St) =>
              ((x2 + 1) ≤ (72 - (σ19 0 0)) →
                ∀ v20 : Int32, v20 = (σ19 0 0) →
                vp_in v20 72 ∧
                ∀ σ21 : St, σ21 = up2 σ19 1 v20.toNatClampNeg x2 →
                vp_in v20 72 ∧
                ∀ σ23 : St, σ23 = up2 σ21 2 v20.toNatClampNeg (vp_nar .boolean 0) →
                ∀ v25 : Int32, v25 = (v20 + 1) →
                ∃ n26 : Nat, w_bMake_77 x1 x2 v20
                  (fun (σ27 : St) (v28 : Int32) =>
                    ∀ σ29 : St, σ29 = up2 σ27 0 0 ((v20 + x2) + 1) →
                    vp_in x1 6 ∧
                    ∀ σ30 : St, σ30 = up2 σ29 3 x1.toNatClampNeg v20 →
                    vp_in x1 6 ∧
                    ∀ σ32 : St, σ32 = up2 σ30 4 x1.toNatClampNeg (vp_nar .boolean 1) →
                    P 0 σ32) n26 σ23 v25) ∧
              (¬ (x2 + 1) ≤ (72 - (σ19 0 0)) →
                P (-2) σ19)) σ)) ∧
      (¬ x2 ≤ 6 →
        P (-1) σ)))
def w_bNumber (P : Int32 → St → Prop) (σ : St) (x1 x2 : Int32) : Prop :=
  ((b_reg x1) = 0 →
    P (-1) σ) ∧
  (¬ (b_reg x1) = 0 →
    vp_in x1 6 ∧
    ∀ σ1 : St, σ1 = up2 σ 3 x1.toNatClampNeg x2 →
    vp_in x1 6 ∧
    ∀ σ3 : St, σ3 = up2 σ1 4 x1.toNatClampNeg (vp_nar .boolean 0) →
    P 0 σ3)
def w_bMove (P : Int32 → St → Prop) (σ : St) (x1 x2 : Int32) : Prop :=
  ((b_reg x1) = 0 →
    P (-1) σ) ∧
  (¬ (b_reg x1) = 0 →
    ((b_reg x2) = 0 →
      P (-1) σ) ∧
    (¬ (b_reg x2) = 0 →
      vp_in x2 6 ∧
      vp_in x1 6 ∧
      ∀ σ1 : St, σ1 = up2 σ 3 x1.toNatClampNeg (σ 3 x2.toNatClampNeg) →
      vp_in x2 6 ∧
      vp_in x1 6 ∧
      ∀ σ3 : St, σ3 = up2 σ1 4 x1.toNatClampNeg (vp_nar .boolean (σ1 4 x2.toNatClampNeg)) →
      P 0 σ3))
def w_bStore (P : Int32 → St → Prop) (σ : St) (x1 x2 x3 : Int32) : Prop :=
  ((b_reg x1) = 0 →
    P (-1) σ) ∧
  (¬ (b_reg x1) = 0 →
    ((b_reg x3) = 0 →
      P (-1) σ) ∧
    (¬ (b_reg x3) = 0 →
      w_bHasField (fun (r2 : Int32) (σ1 : St) =>
          (r2 = 0 →
            P (-3) σ1) ∧
          (¬ r2 = 0 →
            vp_in x1 6 ∧
            ∀ v3 : Int32, v3 = (((σ1 3 x1.toNatClampNeg) + 1) + x2) →
            vp_in x3 6 ∧
            vp_in v3 72 ∧
            ∀ σ4 : St, σ4 = up2 σ1 1 v3.toNatClampNeg (σ1 3 x3.toNatClampNeg) →
            vp_in x3 6 ∧
            vp_in v3 72 ∧
            ∀ σ6 : St, σ6 = up2 σ4 2 v3.toNatClampNeg (vp_nar .boolean (σ4 4 x3.toNatClampNeg)) →
            P 0 σ6)) σ x1 x2))
def w_bLoad (P : Int32 → St → Prop) (σ : St) (x1 x2 x3 : Int32) : Prop :=
  ((b_reg x1) = 0 →
    P (-1) σ) ∧
  (¬ (b_reg x1) = 0 →
    ((b_reg x2) = 0 →
      P (-1) σ) ∧
    (¬ (b_reg x2) = 0 →
      w_bHasField (fun (r2 : Int32) (σ1 : St) =>
          (r2 = 0 →
            P (-3) σ1) ∧
          (¬ r2 = 0 →
            vp_in x2 6 ∧
            ∀ v3 : Int32, v3 = (((σ1 3 x2.toNatClampNeg) + 1) + x3) →
            vp_in v3 72 ∧
            vp_in x1 6 ∧
            ∀ σ4 : St, σ4 = up2 σ1 3 x1.toNatClampNeg (σ1 1 v3.toNatClampNeg) →
            vp_in v3 72 ∧
            vp_in x1 6 ∧
            ∀ σ6 : St, σ6 = up2 σ4 4 x1.toNatClampNeg (vp_nar .boolean (σ4 2 v3.toNatClampNeg)) →
            P 0 σ6)) σ x2 x3))
def w_bCollect (P : Int32 → St → Prop) (σ : St) : Prop :=
  w_bSqueeze (fun (σ1 : St) =>
      P (σ1 0 0) σ1) σ
def w_bFields (P : Int32 → St → Prop) (σ : St) (x1 : Int32) : Prop :=
  ((b_reg x1) = 0 →
    P (-1) σ) ∧
  (¬ (b_reg x1) = 0 →
    vp_in x1 6 ∧
    ((σ 4 x1.toNatClampNeg) = 0 →
      P 0 σ) ∧
    (¬ (σ 4 x1.toNatClampNeg) = 0 →
      vp_in x1 6 ∧
      vp_in (σ 3 x1.toNatClampNeg) 72 ∧
      P (σ 1 (σ 3 x1.toNatClampNeg).toNatClampNeg) σ))
def w_bValue (P : Int32 → St → Prop) (σ : St) (x1 : Int32) : Prop :=
  ((b_reg x1) = 0 →
    P 0 σ) ∧
  (¬ (b_reg x1) = 0 →
    vp_in x1 6 ∧
    ((σ 4 x1.toNatClampNeg) = 0 →
      vp_in x1 6 ∧
      P (σ 3 x1.toNatClampNeg) σ) ∧
    (¬ (σ 4 x1.toNatClampNeg) = 0 →
      P 0 σ))
def w_bSame (P : Int32 → St → Prop) (σ : St) (x1 x2 : Int32) : Prop :=
  ((b_reg x1) = 0 →
    P (-1) σ) ∧
  (¬ (b_reg x1) = 0 →
    ((b_reg x2) = 0 →
      P (-1) σ) ∧
    (¬ (b_reg x2) = 0 →
      vp_in x1 6 ∧
      vp_in x2 6 ∧
      ((σ 4 x1.toNatClampNeg) = (σ 4 x2.toNatClampNeg) →
        vp_in x1 6 ∧
        vp_in x2 6 ∧
        ((σ 3 x1.toNatClampNeg) = (σ 3 x2.toNatClampNeg) →
          P 1 σ) ∧
        (¬ (σ 3 x1.toNatClampNeg) = (σ 3 x2.toNatClampNeg) →
          P 0 σ)) ∧
      (¬ (σ 4 x1.toNatClampNeg) = (σ 4 x2.toNatClampNeg) →
        P 0 σ)))
def w_bUsed (P : Int32 → St → Prop) (σ : St) : Prop :=
  P (σ 0 0) σ
def w_mSet (P : St → Prop) (σ : St) (x1 x2 x3 : Int32) : Prop :=
  vp_in x1 222 ∧
  ∀ σ1 : St, σ1 = up2 σ 0 x1.toNatClampNeg (vp_nar .boolean x2) →
  vp_in x1 222 ∧
  ∀ σ3 : St, σ3 = up2 σ1 1 x1.toNatClampNeg x3 →
  P σ3
def w_mTake (P : St → Prop) (σ : St) (x1 x2 : Int32) : Prop :=
  vp_in x2 222 ∧
  vp_in x2 222 ∧
  w_mSet (fun (σ1 : St) =>
      P σ1) σ x1 (σ 0 x2.toNatClampNeg) (σ 1 x2.toNatClampNeg)
def w_mUnused_2  (K1 : St → Int32 → Prop) (K2 : St → Int32 → Prop) : Nat → St → Int32 → Prop
  | 0, _, _ => False
  | n + 1, σ, x1 =>
    (36 ≤ x1 →
      K1 σ x1) ∧
    (¬ 36 ≤ x1 →
      vp_in x1 36 ∧
      ((σ 2 x1.toNatClampNeg) = 0 →
        K2 σ x1) ∧
      (¬ (σ 2 x1.toNatClampNeg) = 0 →
        w_mUnused_2 K1 K2 n σ (x1 + 1)))
def w_mUnused (P : Int32 → St → Prop) (σ : St) : Prop :=
  ∃ n2 : Nat, w_mUnused_2 
    (fun (σ3 : St) (v4 : Int32) =>
      P 0 σ3)
    (fun (σ5 : St) (v6 : Int32) =>
      P v6 σ5) n2 σ 0
def w_mUsed_4  (K : St → Int32 → Int32 → Prop) : Nat → St → Int32 → Int32 → Prop
  | 0, _, _, _ => False
  | n + 1, σ, x1, x2 =>
    (36 ≤ x2 →
      K σ x1 x2) ∧
    (¬ 36 ≤ x2 →
      vp_in x2 36 ∧
      ((σ 2 x2.toNatClampNeg) ≤ 0 →
        w_mUsed_4 K n σ x1 (x2 + 1)) ∧
      (¬ (σ 2 x2.toNatClampNeg) ≤ 0 →
        vp_in x2 36 ∧
        ∀ v1 : Int32, v1 = (x1 + ((σ 2 x2.toNatClampNeg) + 1)) →
        w_mUsed_4 K n σ v1 (x2 + 1)))
def w_mUsed (P : Int32 → St → Prop) (σ : St) : Prop :=
  ∃ n4 : Nat, w_mUsed_4 
    (fun (σ5 : St) (v6 : Int32) (v7 : Int32) =>
      P v6 σ5) n4 σ 0 0
def w_mMark_39 (x2 : Int32) (K : St → Int32 → Int32 → Prop) : Nat → St → Int32 → Int32 → Prop
  | 0, _, _, _ => False
  | n + 1, σ, x1, x3 =>
    (222 ≤ x3 →
      K σ x1 x3) ∧
    (¬ 222 ≤ x3 →
      (x3 < 6 →
        vp_in x3 222 ∧
        ((σ 0 x3.toNatClampNeg) = 0 →
          w_mMark_39 x2 K n σ x1 (x3 + 1)) ∧
        (¬ (σ 0 x3.toNatClampNeg) = 0 →
          vp_in x3 222 ∧
          vp_in (σ 1 x3.toNatClampNeg) 36 ∧
          ((σ 3 (σ 1 x3.toNatClampNeg).toNatClampNeg) = 0 →
            vp_in x3 222 ∧
            vp_in (σ 1 x3.toNatClampNeg) 36 ∧
            ∀ σ1 : St, σ1 = up2 σ 3 (σ 1 x3.toNatClampNeg).toNatClampNeg (vp_nar .boolean 1) →
            w_mMark_39 x2 K n σ1 1 (x3 + 1)) ∧
          (¬ (σ 3 (σ 1 x3.toNatClampNeg).toNatClampNeg) = 0 →
            w_mMark_39 x2 K n σ x1 (x3 + 1)))) ∧
      (¬ x3 < 6 →
        vp_in ((x3 - 6) / 6) 36 ∧
        ((σ 3 ((x3 - 6) / 6).toNatClampNeg) = 0 →
          w_mMark_39 x2 K n σ x1 (x3 + 1)) ∧
        (¬ (σ 3 ((x3 - 6) / 6).toNatClampNeg) = 0 →
          vp_in ((x3 - 6) / 6) 36 ∧
          ((σ 2 ((x3 - 6) / 6).toNatClampNeg) ≤ ((x3 - 6) - (x3 - 6) / 6 * 6) →
            w_mMark_39 x2 K n σ x1 (x3 + 1)) ∧
          (¬ (σ 2 ((x3 - 6) / 6).toNatClampNeg) ≤ ((x3 - 6) - (x3 - 6) / 6 * 6) →
            vp_in x3 222 ∧
            ((σ 0 x3.toNatClampNeg) = 0 →
              w_mMark_39 x2 K n σ x1 (x3 + 1)) ∧
            (¬ (σ 0 x3.toNatClampNeg) = 0 →
              vp_in x3 222 ∧
              vp_in (σ 1 x3.toNatClampNeg) 36 ∧
              ((σ 3 (σ 1 x3.toNatClampNeg).toNatClampNeg) = 0 →
                vp_in x3 222 ∧
                vp_in (σ 1 x3.toNatClampNeg) 36 ∧
                ∀ σ7 : St, σ7 = up2 σ 3 (σ 1 x3.toNatClampNeg).toNatClampNeg (vp_nar .boolean 1) →
                w_mMark_39 x2 K n σ7 1 (x3 + 1)) ∧
              (¬ (σ 3 (σ 1 x3.toNatClampNeg).toNatClampNeg) = 0 →
                w_mMark_39 x2 K n σ x1 (x3 + 1)))))))
def w_mMark_25  (K : St → Int32 → Int32 → Prop) : Nat → St → Int32 → Int32 → Prop
  | 0, _, _, _ => False
  | n + 1, σ, x1, x2 =>
    (37 ≤ x2 →
      K σ x1 x2) ∧
    (¬ 37 ≤ x2 →
      (x1 = 0 →
        K σ x1 x2) ∧
      (¬ x1 = 0 →
        ∃ n15 : Nat, w_mMark_39 x2
          (fun (σ16 : St) (v17 : Int32) (v18 : Int32) =>
            w_mMark_25 K n σ16 v17 (x2 + 1)) n15 σ 0 0))
def w_mMark_2  (K : St → Int32 → Prop) : Nat → St → Int32 → Prop
  | 0, _, _ => False
  | n + 1, σ, x1 =>
    (36 ≤ x1 →
      K σ x1) ∧
    (¬ 36 ≤ x1 →
      vp_in x1 36 ∧
      ∀ σ19 : St, σ19 = up2 σ 3 x1.toNatClampNeg (vp_nar .boolean 0) →
      w_mMark_2 K n σ19 (x1 + 1))
def w_mMark (P : St → Prop) (σ : St) : Prop :=
  ∃ n21 : Nat, w_mMark_2 
    (fun (σ22 : St) (v23 : Int32) =>
      ∃ n24 : Nat, w_mMark_25 
        (fun (σ25 : St) (v26 : Int32) (v27 : Int32) =>
          P σ25) n24 σ22 1 0) n21 σ 0
def w_mCollect_6  (K : St → Int32 → Prop) : Nat → St → Int32 → Prop
  | 0, _, _ => False
  | n + 1, σ, x1 =>
    (36 ≤ x1 →
      K σ x1) ∧
    (¬ 36 ≤ x1 →
      vp_in x1 36 ∧
      ((σ 3 x1.toNatClampNeg) = 0 →
        vp_in x1 36 ∧
        ∀ σ1 : St, σ1 = up2 σ 2 x1.toNatClampNeg 0 →
        w_mCollect_6 K n σ1 (x1 + 1)) ∧
      (¬ (σ 3 x1.toNatClampNeg) = 0 →
        w_mCollect_6 K n σ (x1 + 1)))
def w_mCollect (P : Int32 → St → Prop) (σ : St) : Prop :=
  w_mMark (fun (σ4 : St) =>
      ∃ n5 : Nat, w_mCollect_6 
        (fun (σ6 : St) (v7 : Int32) =>
          w_mUsed (fun (r9 : Int32) (σ8 : St) =>
              P r9 σ8) σ6) n5 σ4 0) σ
def w_mMake_69 (x1 : Int32) (x2 : Int32) (x3 : Int32) (K : St → Int32 → Prop) : Nat → St → Int32 → Prop
  | 0, _, _ => False
  | n + 1, σ, x4 =>
    (6 ≤ x4 →
      K σ x4) ∧
    (¬ 6 ≤ x4 →
      w_mSet (fun (σ1 : St) =>
          w_mMake_69 x1 x2 x3 K n σ1 (x4 + 1)) σ ((6 + (6 * x3)) + x4) 0 0)
def w_mMake (P : Int32 → St → Prop) (σ : St) (x1 x2 : Int32) : Prop :=
  ((m_bad x1) = 0 →
    (x2 < 1 →
      P (-1) σ) ∧
    (¬ x2 < 1 →
      (x2 ≤ 6 →
        w_mUsed (fun (r3 : Int32) (σ2 : St) =>
            ((x2 + 1) ≤ (72 - r3) →
              w_mUsed (fun (r5 : Int32) (σ4 : St) =>
                  ((x2 + 1) ≤ (72 - r5) →
                    w_mUnused (fun (r7 : Int32) (σ6 : St) =>
                        vp_in r7 36 ∧
                        ∀ σ8 : St, σ8 = up2 σ6 2 r7.toNatClampNeg x2 →
                        ∃ n10 : Nat, w_mMake_69 x1 x2 r7
                          (fun (σ11 : St) (v12 : Int32) =>
                            w_mSet (fun (σ13 : St) =>
                                P 0 σ13) σ11 x1 1 r7) n10 σ8 0) σ4) ∧
                  (¬ (x2 + 1) ≤ (72 - r5) →
                    P (-2) σ4)) σ2) ∧
            (¬ (x2 + 1) ≤ (72 - r3) →
              w_mCollect (fun (r15 : Int32) (σ14 : St) =>
                  w_mUsed (fun (r17 : Int32) (σ16 : St) =>
                      ((x2 + 1) ≤ (72 - r17) →
                        w_mUnused (fun (r19 : Int32) (σ18 : St) =>
                            vp_in r19 36 ∧
                            ∀ σ20 : St, σ20 = up2 σ18 2 r19.toNatClampNeg x2 →
                            ∃ n22 : Nat, w_mMake_69 x1 x2 r19
                              (fun (σ23 : St) (v24 : Int32) =>
                                w_mSet (fun (σ25 : St) =>
                                    P 0 σ25) σ23 x1 1 r19) n22 σ20 0) σ16) ∧
                      (¬ (x2 + 1) ≤ (72 - r17) →
                        P (-2) σ16)) σ14) σ2)) σ) ∧
      (¬ x2 ≤ 6 →
        P (-1) σ))) ∧
  (¬ (m_bad x1) = 0 →
    P (-1) σ)
def w_mNumber (P : Int32 → St → Prop) (σ : St) (x1 x2 : Int32) : Prop :=
  ((m_bad x1) = 0 →
    w_mSet (fun (σ1 : St) =>
        P 0 σ1) σ x1 0 x2) ∧
  (¬ (m_bad x1) = 0 →
    P (-1) σ)
def w_mMove (P : Int32 → St → Prop) (σ : St) (x1 x2 : Int32) : Prop :=
  ((m_bad x1) = 0 →
    ((m_bad x2) = 0 →
      w_mTake (fun (σ1 : St) =>
          P 0 σ1) σ x1 x2) ∧
    (¬ (m_bad x2) = 0 →
      P (-1) σ)) ∧
  (¬ (m_bad x1) = 0 →
    P (-1) σ)
def w_mPlace (P : Int32 → St → Prop) (σ : St) (x1 x2 : Int32) : Prop :=
  vp_in x1 222 ∧
  ((σ 0 x1.toNatClampNeg) = 0 →
    P (-1) σ) ∧
  (¬ (σ 0 x1.toNatClampNeg) = 0 →
    (x2 < 0 →
      P (-1) σ) ∧
    (¬ x2 < 0 →
      vp_in x1 222 ∧
      vp_in (σ 1 x1.toNatClampNeg) 36 ∧
      (x2 < (σ 2 (σ 1 x1.toNatClampNeg).toNatClampNeg) →
        vp_in x1 222 ∧
        P ((6 + (6 * (σ 1 x1.toNatClampNeg))) + x2) σ) ∧
      (¬ x2 < (σ 2 (σ 1 x1.toNatClampNeg).toNatClampNeg) →
        P (-1) σ)))
def w_mStore (P : Int32 → St → Prop) (σ : St) (x1 x2 x3 : Int32) : Prop :=
  ((m_bad x1) = 0 →
    ((m_bad x3) = 0 →
      w_mPlace (fun (r2 : Int32) (σ1 : St) =>
          (0 ≤ r2 →
            w_mTake (fun (σ3 : St) =>
                P 0 σ3) σ1 r2 x3) ∧
          (¬ 0 ≤ r2 →
            P (-3) σ1)) σ x1 x2) ∧
    (¬ (m_bad x3) = 0 →
      P (-1) σ)) ∧
  (¬ (m_bad x1) = 0 →
    P (-1) σ)
def w_mLoad (P : Int32 → St → Prop) (σ : St) (x1 x2 x3 : Int32) : Prop :=
  ((m_bad x1) = 0 →
    ((m_bad x2) = 0 →
      w_mPlace (fun (r2 : Int32) (σ1 : St) =>
          (0 ≤ r2 →
            w_mTake (fun (σ3 : St) =>
                P 0 σ3) σ1 x1 r2) ∧
          (¬ 0 ≤ r2 →
            P (-3) σ1)) σ x2 x3) ∧
    (¬ (m_bad x2) = 0 →
      P (-1) σ)) ∧
  (¬ (m_bad x1) = 0 →
    P (-1) σ)
def w_mFields (P : Int32 → St → Prop) (σ : St) (x1 : Int32) : Prop :=
  ((m_bad x1) = 0 →
    vp_in x1 222 ∧
    ((σ 0 x1.toNatClampNeg) = 0 →
      P 0 σ) ∧
    (¬ (σ 0 x1.toNatClampNeg) = 0 →
      vp_in x1 222 ∧
      vp_in (σ 1 x1.toNatClampNeg) 36 ∧
      P (σ 2 (σ 1 x1.toNatClampNeg).toNatClampNeg) σ)) ∧
  (¬ (m_bad x1) = 0 →
    P (-1) σ)
def w_mValue (P : Int32 → St → Prop) (σ : St) (x1 : Int32) : Prop :=
  ((m_bad x1) = 0 →
    vp_in x1 222 ∧
    ((σ 0 x1.toNatClampNeg) = 0 →
      vp_in x1 222 ∧
      P (σ 1 x1.toNatClampNeg) σ) ∧
    (¬ (σ 0 x1.toNatClampNeg) = 0 →
      P 0 σ)) ∧
  (¬ (m_bad x1) = 0 →
    P 0 σ)
def w_mSame (P : Int32 → St → Prop) (σ : St) (x1 x2 : Int32) : Prop :=
  ((m_bad x1) = 0 →
    ((m_bad x2) = 0 →
      vp_in x1 222 ∧
      vp_in x2 222 ∧
      ((σ 0 x1.toNatClampNeg) = (σ 0 x2.toNatClampNeg) →
        vp_in x1 222 ∧
        vp_in x2 222 ∧
        ((σ 1 x1.toNatClampNeg) = (σ 1 x2.toNatClampNeg) →
          P 1 σ) ∧
        (¬ (σ 1 x1.toNatClampNeg) = (σ 1 x2.toNatClampNeg) →
          P 0 σ)) ∧
      (¬ (σ 0 x1.toNatClampNeg) = (σ 0 x2.toNatClampNeg) →
        P 0 σ)) ∧
    (¬ (m_bad x2) = 0 →
      P (-1) σ)) ∧
  (¬ (m_bad x1) = 0 →
    P (-1) σ)
end
section
/-! PLAIN LAW, 1: states, sizes, addresses, the relation between the two objects -/
theorem up2_app (σ : St) (k j : Nat) (x : Int32) (k' j' : Nat) : up2 σ k j x k' j' = if k' = k ∧ j' = j then x else σ k' j' := by
  by_cases h : k' = k
  · subst h
    by_cases h2 : j' = j
    · subst h2; simp [up2, upd]
    · simp [up2, upd, h2]
  · simp [up2, h]
theorem up2_k {σ : St} {k j : Nat} {x : Int32} {k' : Nat} (h : k' ≠ k) : up2 σ k j x k' = σ k' := by
  simp [up2, h]
theorem up2_s {σ : St} {k j : Nat} {x : Int32} : up2 σ k j x k j = x := by
  simp [up2_app]
theorem up2_j {σ : St} {k j : Nat} {x : Int32} {j' : Nat} (h : j' ≠ j) : up2 σ k j x k j' = σ k j' := by
  simp [up2_app, h]
theorem nz0 : vp_nar .boolean 0 = 0 := rfl
theorem nz1 : vp_nar .boolean 1 = 1 := rfl
theorem nzb {x : Int32} (h : x = 0 ∨ x = 1) : vp_nar .boolean x = x := by
  rcases h with h | h <;> rw [h] <;> rfl
theorem one_ne : ¬ (1 : Int32) = 0 := by decide
theorem nIc {n : Nat} (h : n < 1000) : (nI n).toNatClampNeg = n := nI_clamp (by omega)
theorem nIin {n N : Nat} (h : n < N) (hN : N < 1000) : vp_in (nI n) N := vp_in_nI h (by omega)
theorem nI_inj {a b : Nat} (ha : a < 1000) (hb : b < 1000) (h : nI a = nI b) : a = b := (nI_eq (by omega) (by omega)).mp h
/-- the size of a row of records -/
def sz (f : Nat → Nat) : List Nat → Nat
  | [] => 0
  | i :: l => f i + 1 + sz f l
/-- the address of the record c in a row of records -/
def adr (f : Nat → Nat) : List Nat → Nat → Nat
  | [], _ => 0
  | i :: l, c => if i = c then 0 else f i + 1 + adr f l c
theorem sz_app (f : Nat → Nat) (a b : List Nat) : sz f (a ++ b) = sz f a + sz f b := by
  induction a with
  | nil => simp [sz]
  | cons i l ih => simp [sz, ih]; omega
theorem sz_congr {f g : Nat → Nat} {l : List Nat} (h : ∀ i ∈ l, f i = g i) : sz f l = sz g l := by
  induction l with
  | nil => rfl
  | cons i l ih =>
    simp only [sz]
    rw [h i List.mem_cons_self, ih (fun j hj => h j (List.mem_cons_of_mem _ hj))]
theorem adr_congr {f g : Nat → Nat} {l : List Nat} (h : ∀ i ∈ l, f i = g i) (c : Nat) : adr f l c = adr g l c := by
  induction l with
  | nil => rfl
  | cons i l ih =>
    simp only [adr]
    rw [h i List.mem_cons_self, ih (fun j hj => h j (List.mem_cons_of_mem _ hj))]
theorem adr_split {f : Nat → Nat} {pre post : List Nat} {c : Nat} (h : c ∉ pre) : adr f (pre ++ c :: post) c = sz f pre := by
  induction pre with
  | nil => simp [adr, sz]
  | cons i l ih =>
    have h1 : ¬ i = c := fun e => h (by rw [e]; exact List.mem_cons_self)
    have h2 : c ∉ l := fun e => h (List.mem_cons_of_mem _ e)
    simp only [List.cons_append, adr, sz, if_neg h1, ih h2]
theorem adr_app {f : Nat → Nat} {l r : List Nat} {c : Nat} (h : c ∈ l) : adr f (l ++ r) c = adr f l c := by
  induction l with
  | nil => cases h
  | cons i l ih =>
    simp only [List.cons_append, adr]
    by_cases e : i = c
    · rw [if_pos e, if_pos e]
    · rw [if_neg e, if_neg e, ih ((List.mem_cons.mp h).resolve_left (fun q => e q.symm))]
theorem adr_end {f : Nat → Nat} {l : List Nat} {c : Nat} (h : c ∈ l) : adr f l c + f c + 1 ≤ sz f l := by
  induction l with
  | nil => cases h
  | cons i l ih =>
    simp only [adr, sz]
    by_cases e : i = c
    · rw [if_pos e, e]; omega
    · rw [if_neg e]
      have := ih ((List.mem_cons.mp h).resolve_left (fun q => e q.symm))
      omega
theorem adr_disj {f : Nat → Nat} {l : List Nat} {c d : Nat} (hc : c ∈ l) (hd : d ∈ l) (h : c ≠ d) : adr f l c + f c < adr f l d ∨ adr f l d + f d < adr f l c := by
  induction l with
  | nil => cases hc
  | cons i l ih =>
    simp only [adr]
    by_cases e : i = c
    · have e2 : ¬ i = d := fun q => h (e.symm.trans q)
      rw [if_pos e, if_neg e2, e]; omega
    · by_cases e2 : i = d
      · rw [if_neg e, if_pos e2, e2]; omega
      · rw [if_neg e, if_neg e2]
        have := ih ((List.mem_cons.mp hc).resolve_left (fun q => e q.symm)) ((List.mem_cons.mp hd).resolve_left (fun q => e2 q.symm))
        omega
theorem adr_inj {f : Nat → Nat} {l : List Nat} {c d : Nat} (hc : c ∈ l) (hd : d ∈ l) (h : adr f l c = adr f l d) : c = d := by
  by_cases e : c = d
  · exact e
  · have := adr_disj (f := f) hc hd e
    omega
theorem sz_len {f : Nat → Nat} {l : List Nat} (h : ∀ i ∈ l, 1 ≤ f i) : 2 * l.length ≤ sz f l := by
  induction l with
  | nil => simp [sz]
  | cons i l ih =>
    have h1 := h i List.mem_cons_self
    have h2 := ih (fun j hj => h j (List.mem_cons_of_mem _ hj))
    simp only [sz, List.length_cons]; omega
theorem mem_split {l : List Nat} {c : Nat} (h : c ∈ l) (hn : l.Nodup) : ∃ pre post, l = pre ++ c :: post ∧ c ∉ pre ∧ c ∉ post := by
  obtain ⟨pre, post, rfl⟩ := List.append_of_mem h
  have h2 := List.nodup_append.mp hn
  refine ⟨pre, post, rfl, fun hc => h2.2.2 c hc c List.mem_cons_self rfl, fun hc => ?_⟩
  exact (List.nodup_cons.mp h2.2.1).1 hc
/-! the Model's words: fields of the record i, terms, the terms' addresses -/
abbrev fo (τ : St) (i : Nat) : Nat := (τ 2 i).toNatClampNeg
def VM (τ : St) (ns : List Nat) (p : Nat) : Prop := τ 0 p = 0 ∨ (τ 0 p = 1 ∧ ∃ c, c ∈ ns ∧ τ 1 p = nI c)
def WF (τ : St) (ns : List Nat) : Prop := ns.Nodup ∧ (∀ i, i ∈ ns → i < 36 ∧ ∃ n : Nat, 1 ≤ n ∧ n ≤ 6 ∧ τ 2 i = nI n) ∧ (∀ r, r < 6 → VM τ ns r) ∧ ∀ i, i ∈ ns → ∀ k, k < fo τ i → VM τ ns (6 + 6 * i + k)
def EX (τ : St) (ns : List Nat) : Prop := ∀ i, i < 36 → ¬ τ 2 i = 0 → i ∈ ns
def enc (τ : St) (g : Nat → Nat) (p : Nat) : Int32 := if τ 0 p = 0 then τ 1 p else nI (g (τ 1 p).toNatClampNeg)
def recAt (σ τ : St) (g : Nat → Nat) (x i : Nat) : Prop := σ 1 x = τ 2 i ∧ ∀ k, k < fo τ i → σ 2 (x + 1 + k) = τ 0 (6 + 6 * i + k) ∧ σ 1 (x + 1 + k) = enc τ g (6 + 6 * i + k)
def RB (σ τ : St) (ns : List Nat) : Prop := sz (fo τ) ns ≤ 72 ∧ σ 0 0 = nI (sz (fo τ) ns) ∧ (∀ r, r < 6 → σ 4 r = τ 0 r ∧ σ 3 r = enc τ (adr (fo τ) ns) r) ∧ ∀ i, i ∈ ns → recAt σ τ (adr (fo τ) ns) (adr (fo τ) ns i) i
def Inv (σ τ : St) : Prop := ∃ ns, WF τ ns ∧ EX τ ns ∧ RB σ τ ns
theorem WF.lt {τ : St} {ns : List Nat} (h : WF τ ns) {i : Nat} (hi : i ∈ ns) : i < 36 := (h.2.1 i hi).1
theorem WF.fld {τ : St} {ns : List Nat} (h : WF τ ns) {i : Nat} (hi : i ∈ ns) : 1 ≤ fo τ i ∧ fo τ i ≤ 6 ∧ τ 2 i = nI (fo τ i) := by
  obtain ⟨-, n, h1, h2, h3⟩ := h.2.1 i hi
  have h4 : (τ 2 i).toNatClampNeg = n := by rw [h3]; exact nIc (by omega)
  show 1 ≤ (τ 2 i).toNatClampNeg ∧ (τ 2 i).toNatClampNeg ≤ 6 ∧ τ 2 i = nI (τ 2 i).toNatClampNeg
  rw [h4]
  exact ⟨h1, h2, h3⟩
theorem WF.len {τ : St} {ns : List Nat} (h : WF τ ns) (hs : sz (fo τ) ns ≤ 72) : ns.length ≤ 36 := by
  have := sz_len (f := fo τ) (l := ns) (fun i hi => (h.fld hi).1)
  omega
theorem enc0 {τ : St} {g : Nat → Nat} {p : Nat} (h : τ 0 p = 0) : enc τ g p = τ 1 p := if_pos h
theorem enc1 {τ : St} {g : Nat → Nat} {p n : Nat} (h : τ 0 p = 1) (h2 : τ 1 p = nI n) (hn : n < 1000) : enc τ g p = nI (g n) := by
  unfold enc
  rw [if_neg (by rw [h]; exact one_ne), h2, nIc hn]
theorem enc_congr {τ τ' : St} {g : Nat → Nat} {p : Nat} (h0 : τ' 0 p = τ 0 p) (h1 : τ' 1 p = τ 1 p) : enc τ' g p = enc τ g p := by
  unfold enc; rw [h0, h1]
theorem VM.b {τ : St} {ns : List Nat} {p : Nat} (h : VM τ ns p) : τ 0 p = 0 ∨ τ 0 p = 1 := h.imp id And.left
theorem VM_congr {τ τ' : St} {ns : List Nat} {p : Nat} (h0 : τ' 0 p = τ 0 p) (h1 : τ' 1 p = τ 1 p) (h : VM τ ns p) : VM τ' ns p := by
  unfold VM at h ⊢; rw [h0, h1]; exact h
/-- a term (flag fl, Model's word c, BreakHeap's word bv) that may be put into a register or a field -/
def Vok (τ : St) (ns : List Nat) (fl c bv : Int32) : Prop := (fl = 0 ∧ bv = c) ∨ (fl = 1 ∧ ∃ n, n ∈ ns ∧ c = nI n ∧ bv = nI (adr (fo τ) ns n))
theorem Vok.b {τ : St} {ns : List Nat} {fl c bv : Int32} (h : Vok τ ns fl c bv) : fl = 0 ∨ fl = 1 := h.imp And.left And.left
theorem Vok.of {τ : St} {ns : List Nat} {p : Nat} (hW : WF τ ns) (h : VM τ ns p) : Vok τ ns (τ 0 p) (τ 1 p) (enc τ (adr (fo τ) ns) p) := by
  rcases h with h | ⟨h, n, hn, h2⟩
  · exact Or.inl ⟨h, enc0 h⟩
  · exact Or.inr ⟨h, n, hn, h2, enc1 h h2 (by have := hW.lt hn; omega)⟩
theorem Vok.en {τ τ' : St} {ns : List Nat} {p : Nat} {fl c bv : Int32} (hW : WF τ ns) (h : Vok τ ns fl c bv) (h0 : τ' 0 p = fl) (h1 : τ' 1 p = c) : enc τ' (adr (fo τ) ns) p = bv := by
  rcases h with ⟨h, h2⟩ | ⟨h, n, hn, h2, h3⟩
  · rw [enc0 (h0.trans h), h1, h2]
  · rw [enc1 (h0.trans h) (h1.trans h2) (by have := hW.lt hn; omega), h3]
theorem Vok.vm {τ τ' : St} {ns : List Nat} {p : Nat} {fl c bv : Int32} (h : Vok τ ns fl c bv) (h0 : τ' 0 p = fl) (h1 : τ' 1 p = c) : VM τ' ns p := by
  rcases h with ⟨h, h2⟩ | ⟨h, n, hn, h2, h3⟩
  · exact Or.inl (h0.trans h)
  · exact Or.inr ⟨h0.trans h, n, hn, h1.trans h2⟩
theorem reg_cases (x : Int32) : (b_reg x = 0 ∧ m_bad x = 1) ∨ (∃ r : Nat, r < 6 ∧ x = nI r ∧ b_reg x = 1 ∧ m_bad x = 0) := by
  by_cases h : 0 ≤ x ∧ x ≤ 5
  · obtain ⟨j, hj, e⟩ := nI_of2 (x := x) (M := 5) (n := 5) (by decide) (Int32.not_lt.mpr h.1) h.2
    exact Or.inr ⟨j, by omega, e, if_pos h, if_pos h⟩
  · exact Or.inl ⟨if_neg h, if_neg h⟩
/-- a register gets a term -/
theorem reg_put {σ τ σ' τ' : St} {ns : List Nat} {r : Nat} {fl c bv : Int32} (hW : WF τ ns) (hB : RB σ τ ns) (hr : r < 6) (hv : Vok τ ns fl c bv) (hσ : ∀ k j, σ' k j = if k = 4 ∧ j = r then fl else if k = 3 ∧ j = r then bv else σ k j) (hτ : ∀ k j, τ' k j = if k = 1 ∧ j = r then c else if k = 0 ∧ j = r then fl else τ k j) : WF τ' ns ∧ RB σ' τ' ns ∧ τ' 2 = τ 2 := by
  have h2 : τ' 2 = τ 2 := by funext j; simp [hτ]
  have hf : fo τ' = fo τ := by funext i; simp [fo, h2]
  have e0 : ∀ p, p ≠ r → τ' 0 p = τ 0 p := fun p h => by simp [hτ, h]
  have e1 : ∀ p, p ≠ r → τ' 1 p = τ 1 p := fun p h => by simp [hτ, h]
  have e0r : τ' 0 r = fl := by simp [hτ]
  have e1r : τ' 1 r = c := by simp [hτ]
  have hvm : ∀ p, VM τ ns p → VM τ' ns p := by
    intro p h
    by_cases e : p = r
    · subst e; exact hv.vm e0r e1r
    · exact VM_congr (e0 p e) (e1 p e) h
  have henc : ∀ p, p ≠ r → enc τ' (adr (fo τ) ns) p = enc τ (adr (fo τ) ns) p := fun p e => enc_congr (e0 p e) (e1 p e)
  refine ⟨⟨hW.1, fun i hi => by rw [h2]; exact hW.2.1 i hi, fun q hq => hvm q (hW.2.2.1 q hq), fun i hi k hk => hvm _ (hW.2.2.2 i hi k (by rw [← hf]; exact hk))⟩, ?_, h2⟩
  unfold RB
  rw [hf]
  refine ⟨hB.1, ?_, fun q hq => ?_, fun i hi => ?_⟩
  · rw [show σ' 0 0 = σ 0 0 by simp [hσ]]; exact hB.2.1
  · by_cases e : q = r
    · subst e
      rw [e0r, hv.en hW e0r e1r]
      exact ⟨by simp [hσ], by simp [hσ]⟩
    · rw [e0 q e, henc q e, show σ' 4 q = σ 4 q by simp [hσ, e], show σ' 3 q = σ 3 q by simp [hσ, e]]
      exact hB.2.2.1 q hq
  · obtain ⟨g1, g2⟩ := hB.2.2.2 i hi
    refine ⟨by rw [h2, show ∀ x, σ' 1 x = σ 1 x from fun x => by simp [hσ]]; exact g1, fun k hk => ?_⟩
    have e : 6 + 6 * i + k ≠ r := by omega
    rw [e0 _ e, henc _ e, show ∀ x, σ' 1 x = σ 1 x from fun x => by simp [hσ], show ∀ x, σ' 2 x = σ 2 x from fun x => by simp [hσ]]
    exact g2 k (by rw [← hf]; exact hk)
/-- a field gets a term -/
theorem fld_put {σ τ σ' τ' : St} {ns : List Nat} {i k : Nat} {fl c bv : Int32} (hW : WF τ ns) (hB : RB σ τ ns) (hi : i ∈ ns) (hk : k < fo τ i) (hv : Vok τ ns fl c bv) (hσ : ∀ u j, σ' u j = if u = 2 ∧ j = adr (fo τ) ns i + 1 + k then fl else if u = 1 ∧ j = adr (fo τ) ns i + 1 + k then bv else σ u j) (hτ : ∀ u j, τ' u j = if u = 1 ∧ j = 6 + 6 * i + k then c else if u = 0 ∧ j = 6 + 6 * i + k then fl else τ u j) : WF τ' ns ∧ RB σ' τ' ns ∧ τ' 2 = τ 2 := by
  have h2 : τ' 2 = τ 2 := by funext j; simp [hτ]
  have hf : fo τ' = fo τ := by funext i; simp [fo, h2]
  have k6 := (hW.fld hi).2.1
  have e0 : ∀ p, p ≠ 6 + 6 * i + k → τ' 0 p = τ 0 p := fun p h => by simp [hτ, h]
  have e1 : ∀ p, p ≠ 6 + 6 * i + k → τ' 1 p = τ 1 p := fun p h => by simp [hτ, h]
  have e0r : τ' 0 (6 + 6 * i + k) = fl := by simp [hτ]
  have e1r : τ' 1 (6 + 6 * i + k) = c := by simp [hτ]
  have s1 : ∀ x, x ≠ adr (fo τ) ns i + 1 + k → σ' 1 x = σ 1 x := fun x h => by simp [hσ, h]
  have s2 : ∀ x, x ≠ adr (fo τ) ns i + 1 + k → σ' 2 x = σ 2 x := fun x h => by simp [hσ, h]
  have hvm : ∀ p, VM τ ns p → VM τ' ns p := by
    intro p h
    by_cases e : p = 6 + 6 * i + k
    · subst e; exact hv.vm e0r e1r
    · exact VM_congr (e0 p e) (e1 p e) h
  have henc : ∀ p, p ≠ 6 + 6 * i + k → enc τ' (adr (fo τ) ns) p = enc τ (adr (fo τ) ns) p := fun p e => enc_congr (e0 p e) (e1 p e)
  refine ⟨⟨hW.1, fun i hi => by rw [h2]; exact hW.2.1 i hi, fun q hq => hvm q (hW.2.2.1 q hq), fun i hi k hk => hvm _ (hW.2.2.2 i hi k (by rw [← hf]; exact hk))⟩, ?_, h2⟩
  unfold RB
  rw [hf]
  refine ⟨hB.1, ?_, fun q hq => ?_, fun j hj => ?_⟩
  · rw [show σ' 0 0 = σ 0 0 by simp [hσ]]; exact hB.2.1
  · have e : q ≠ 6 + 6 * i + k := by omega
    rw [e0 q e, henc q e, show σ' 4 q = σ 4 q by simp [hσ], show σ' 3 q = σ 3 q by simp [hσ]]
    exact hB.2.2.1 q hq
  · obtain ⟨g1, g2⟩ := hB.2.2.2 j hj
    have hd : j ≠ i → adr (fo τ) ns j + fo τ j < adr (fo τ) ns i ∨ adr (fo τ) ns i + fo τ i < adr (fo τ) ns j := fun h => adr_disj hj hi h
    have hne : adr (fo τ) ns j ≠ adr (fo τ) ns i + 1 + k := by
      by_cases e : j = i
      · subst e; omega
      · have := hd e; omega
    refine ⟨by rw [h2, s1 _ hne]; exact g1, fun q hq => ?_⟩
    have hq : q < fo τ j := by rw [← hf]; exact hq
    have q6 := (hW.fld hj).2.1
    by_cases e : j = i ∧ q = k
    · obtain ⟨rfl, rfl⟩ := e
      rw [e0r, hv.en hW e0r e1r]
      exact ⟨by simp [hσ], by simp [hσ]⟩
    · have hne : adr (fo τ) ns j + 1 + q ≠ adr (fo τ) ns i + 1 + k := by
        by_cases e2 : j = i
        · subst e2
          have : q ≠ k := fun z => e ⟨rfl, z⟩
          omega
        · have := hd e2; omega
      have hpe : 6 + 6 * j + q ≠ 6 + 6 * i + k := by
        intro z
        have : j = i := by omega
        exact e ⟨this, by omega⟩
      rw [e0 _ hpe, henc _ hpe, s1 _ hne, s2 _ hne]
      exact g2 q hq
end
section
/-! PLAIN LAW, 2: the calls that neither make nor collect -/
theorem st_reg {σ σ1 σ3 : St} {r : Nat} {fl bv : Int32} (h6 : r < 6) (e1 : σ1 = up2 σ 3 (nI r).toNatClampNeg bv) (e3 : σ3 = up2 σ1 4 (nI r).toNatClampNeg fl) : ∀ k j, σ3 k j = if k = 4 ∧ j = r then fl else if k = 3 ∧ j = r then bv else σ k j := by
  intro k j
  rw [e3, e1, nIc (by omega)]
  simp only [up2_app]
theorem st_mset {τ τ1 τ3 : St} {p : Nat} {fl c : Int32} (hp : p < 222) (e1 : τ1 = up2 τ 0 (nI p).toNatClampNeg fl) (e3 : τ3 = up2 τ1 1 (nI p).toNatClampNeg c) : ∀ k j, τ3 k j = if k = 1 ∧ j = p then c else if k = 0 ∧ j = p then fl else τ k j := by
  intro k j
  rw [e3, e1, nIc (by omega)]
  simp only [up2_app]
theorem inv_of {σ τ τ' : St} {ns : List Nat} (hE : EX τ ns) (h : WF τ' ns ∧ RB σ τ' ns ∧ τ' 2 = τ 2) : Inv σ τ' := ⟨ns, h.1, fun i hi h2 => hE i hi (by rw [← h.2.2]; exact h2), h.2.1⟩
/-- the Model's set -/
theorem mSet_ok {τ : St} {P : St → Prop} {p : Nat} {fl c : Int32} (hp : p < 222) (hfl : fl = 0 ∨ fl = 1) (h : ∀ τ', (∀ k j, τ' k j = if k = 1 ∧ j = p then c else if k = 0 ∧ j = p then fl else τ k j) → P τ') : w_mSet P τ (nI p) fl c := by
  refine ⟨nIin hp (by omega), fun τ1 e1 => ⟨nIin hp (by omega), fun τ3 e3 => h τ3 ?_⟩⟩
  rw [nzb hfl] at e1
  exact st_mset hp e1 e3
theorem op_number {σ τ : St} (h : Inv σ τ) (x1 x2 : Int32) : w_bNumber (fun r σ' => w_mNumber (fun r' τ' => r = r' ∧ Inv σ' τ') τ x1 x2) σ x1 x2 := by
  rcases reg_cases x1 with ⟨hb, hm⟩ | ⟨r, hr, rfl, hb, hm⟩
  · exact ⟨fun _ => ⟨fun h0 => absurd (hm.symm.trans h0) one_ne, fun _ => ⟨rfl, h⟩⟩, fun h0 => absurd hb h0⟩
  · obtain ⟨ns, hW, hE, hB⟩ := h
    refine ⟨fun h0 => absurd (hb.symm.trans h0) one_ne, fun _ => ⟨nIin hr (by omega), fun σ1 e1 => ⟨nIin hr (by omega), fun σ3 e3 => ⟨fun _ => ?_, fun h0 => absurd hm h0⟩⟩⟩⟩
    refine mSet_ok (by omega) (Or.inl rfl) (fun τ' e => ⟨rfl, inv_of hE (reg_put hW hB hr (fl := 0) (c := x2) (bv := x2) (Or.inl ⟨rfl, rfl⟩) ?_ e)⟩)
    exact st_reg hr e1 e3
theorem op_move {σ τ : St} (h : Inv σ τ) (x1 x2 : Int32) : w_bMove (fun r σ' => w_mMove (fun r' τ' => r = r' ∧ Inv σ' τ') τ x1 x2) σ x1 x2 := by
  rcases reg_cases x1 with ⟨hb, hm⟩ | ⟨r, hr, rfl, hb, hm⟩
  · exact ⟨fun _ => ⟨fun h0 => absurd (hm.symm.trans h0) one_ne, fun _ => ⟨rfl, h⟩⟩, fun h0 => absurd hb h0⟩
  refine ⟨fun h0 => absurd (hb.symm.trans h0) one_ne, fun _ => ?_⟩
  rcases reg_cases x2 with ⟨hb2, hm2⟩ | ⟨q, hq, rfl, hb2, hm2⟩
  · exact ⟨fun _ => ⟨fun _ => ⟨fun h0 => absurd (hm2.symm.trans h0) one_ne, fun _ => ⟨rfl, h⟩⟩, fun h0 => absurd hm h0⟩, fun h0 => absurd hb2 h0⟩
  obtain ⟨ns, hW, hE, hB⟩ := h
  refine ⟨fun h0 => absurd (hb2.symm.trans h0) one_ne, fun _ => ⟨nIin hq (by omega), nIin hr (by omega), fun σ1 e1 => ⟨nIin hq (by omega), nIin hr (by omega), fun σ3 e3 => ⟨fun _ => ⟨fun _ => ?_, fun h0 => absurd hm2 h0⟩, fun h0 => absurd hm h0⟩⟩⟩⟩
  have hv := Vok.of hW (hW.2.2.1 q hq)
  have hs := hB.2.2.1 q hq
  refine ⟨nIin (by omega) (by omega), nIin (by omega) (by omega), ?_⟩
  rw [nIc (by omega)]
  refine mSet_ok (by omega) (hW.2.2.1 q hq).b (fun τ' e => ⟨rfl, inv_of hE (reg_put hW hB hr hv ?_ e)⟩)
  rw [nIc (n := q) (by omega)] at e1 e3
  rw [hs.2] at e1
  rw [show σ1 4 q = τ 0 q by rw [e1, up2_k (by decide)]; exact hs.1, nzb (hW.2.2.1 q hq).b] at e3
  exact st_reg hr e1 e3
/-- what a register holds: a number on both sides, or a record -/
theorem reg_ref {σ τ : St} {ns : List Nat} {r : Nat} (hW : WF τ ns) (hB : RB σ τ ns) (hr : r < 6) : (σ 4 r = 0 ∧ τ 0 r = 0 ∧ σ 3 r = τ 1 r) ∨ (σ 4 r = 1 ∧ τ 0 r = 1 ∧ ∃ n, n ∈ ns ∧ τ 1 r = nI n ∧ σ 3 r = nI (adr (fo τ) ns n)) := by
  have hs := hB.2.2.1 r hr
  rcases Vok.of hW (hW.2.2.1 r hr) with ⟨h1, h2⟩ | ⟨h1, n, hn, h2, h3⟩
  · exact Or.inl ⟨hs.1.trans h1, h1, hs.2.trans h2⟩
  · exact Or.inr ⟨hs.1.trans h1, h1, n, hn, h2, hs.2.trans h3⟩
theorem adr72 {σ τ : St} {ns : List Nat} {n : Nat} (hB : RB σ τ ns) (hn : n ∈ ns) : adr (fo τ) ns n + fo τ n + 1 ≤ 72 := Nat.le_trans (adr_end hn) hB.1
theorem op_value {σ τ : St} (h : Inv σ τ) (x1 : Int32) : w_bValue (fun r σ' => w_mValue (fun r' τ' => r = r' ∧ Inv σ' τ') τ x1) σ x1 := by
  rcases reg_cases x1 with ⟨hb, hm⟩ | ⟨r, hr, rfl, hb, hm⟩
  · exact ⟨fun _ => ⟨fun h0 => absurd (hm.symm.trans h0) one_ne, fun _ => ⟨rfl, h⟩⟩, fun h0 => absurd hb h0⟩
  refine ⟨fun h0 => absurd (hb.symm.trans h0) one_ne, fun _ => ⟨nIin hr (by omega), ?_⟩⟩
  have h' := h
  obtain ⟨ns, hW, hE, hB⟩ := h'
  unfold w_mValue
  rw [nIc (by omega)]
  rcases reg_ref hW hB hr with ⟨h1, h2, h3⟩ | ⟨h1, h2, n, hn, h3, h4⟩
  · refine ⟨fun _ => ⟨nIin hr (by omega), fun _ => ⟨nIin (by omega) (by omega), fun _ => ⟨nIin (by omega) (by omega), h3, h⟩, fun h0 => absurd h2 h0⟩, fun h0 => absurd hm h0⟩, fun h0 => absurd h1 h0⟩
  · refine ⟨fun h0 => absurd (h1.symm.trans h0) one_ne, fun _ => ⟨fun _ => ⟨nIin (by omega) (by omega), fun h0 => absurd (h2.symm.trans h0) one_ne, fun _ => ⟨rfl, h⟩⟩, fun h0 => absurd hm h0⟩⟩
theorem op_fields {σ τ : St} (h : Inv σ τ) (x1 : Int32) : w_bFields (fun r σ' => w_mFields (fun r' τ' => r = r' ∧ Inv σ' τ') τ x1) σ x1 := by
  rcases reg_cases x1 with ⟨hb, hm⟩ | ⟨r, hr, rfl, hb, hm⟩
  · exact ⟨fun _ => ⟨fun h0 => absurd (hm.symm.trans h0) one_ne, fun _ => ⟨rfl, h⟩⟩, fun h0 => absurd hb h0⟩
  refine ⟨fun h0 => absurd (hb.symm.trans h0) one_ne, fun _ => ⟨nIin hr (by omega), ?_⟩⟩
  have h' := h
  obtain ⟨ns, hW, hE, hB⟩ := h'
  unfold w_mFields
  rw [nIc (by omega)]
  rcases reg_ref hW hB hr with ⟨h1, h2, h3⟩ | ⟨h1, h2, n, hn, h3, h4⟩
  · refine ⟨fun _ => ⟨fun _ => ⟨nIin (by omega) (by omega), fun _ => ⟨rfl, h⟩, fun h0 => absurd h2 h0⟩, fun h0 => absurd hm h0⟩, fun h0 => absurd h1 h0⟩
  · have h72 := adr72 hB hn
    have h36 := hW.lt hn
    rw [h3, h4, nIc (n := n) (by omega), nIc (n := adr (fo τ) ns n) (by omega)]
    refine ⟨fun h0 => absurd (h1.symm.trans h0) one_ne, fun _ => ⟨nIin hr (by omega), nIin (by omega) (by omega), fun _ => ⟨nIin (by omega) (by omega), fun h0 => absurd (h2.symm.trans h0) one_ne, fun _ => ⟨nIin (by omega) (by omega), nIin (by omega) (by omega), (hB.2.2.2 n hn).1, h⟩⟩, fun h0 => absurd hm h0⟩⟩
theorem op_same {σ τ : St} (h : Inv σ τ) (x1 x2 : Int32) : w_bSame (fun r σ' => w_mSame (fun r' τ' => r = r' ∧ Inv σ' τ') τ x1 x2) σ x1 x2 := by
  rcases reg_cases x1 with ⟨hb, hm⟩ | ⟨r, hr, rfl, hb, hm⟩
  · exact ⟨fun _ => ⟨fun h0 => absurd (hm.symm.trans h0) one_ne, fun _ => ⟨rfl, h⟩⟩, fun h0 => absurd hb h0⟩
  refine ⟨fun h0 => absurd (hb.symm.trans h0) one_ne, fun _ => ?_⟩
  rcases reg_cases x2 with ⟨hb2, hm2⟩ | ⟨q, hq, rfl, hb2, hm2⟩
  · exact ⟨fun _ => ⟨fun _ => ⟨fun h0 => absurd (hm2.symm.trans h0) one_ne, fun _ => ⟨rfl, h⟩⟩, fun h0 => absurd hm h0⟩, fun h0 => absurd hb2 h0⟩
  refine ⟨fun h0 => absurd (hb2.symm.trans h0) one_ne, fun _ => ⟨nIin hr (by omega), nIin hq (by omega), ?_⟩⟩
  have h' := h
  obtain ⟨ns, hW, hE, hB⟩ := h'
  have key : ((σ 4 r = σ 4 q ∧ σ 3 r = σ 3 q) ↔ (τ 0 r = τ 0 q ∧ τ 1 r = τ 1 q)) ∧ (σ 4 r = σ 4 q ↔ τ 0 r = τ 0 q) := by
    have s1 := (hB.2.2.1 r hr).1
    have s2 := (hB.2.2.1 q hq).1
    refine ⟨?_, by rw [s1, s2]⟩
    rcases reg_ref hW hB hr with ⟨h1, h2, h3⟩ | ⟨h1, h2, n, hn, h3, h4⟩
    · rcases reg_ref hW hB hq with ⟨g1, g2, g3⟩ | ⟨g1, g2, m, hm', g3, g4⟩
      · rw [h1, g1, h2, g2, h3, g3]
      · rw [h1, g1, h2, g2]
        exact ⟨fun z => absurd z.1 (by decide), fun z => absurd z.1 (by decide)⟩
    · rcases reg_ref hW hB hq with ⟨g1, g2, g3⟩ | ⟨g1, g2, m, hm', g3, g4⟩
      · rw [h1, g1, h2, g2]
        exact ⟨fun z => absurd z.1 (by decide), fun z => absurd z.1 (by decide)⟩
      · rw [h1, g1, h2, g2, h3, g3, h4, g4]
        have a1 := adr72 hB hn
        have a2 := adr72 hB hm'
        have b1 := hW.lt hn
        have b2 := hW.lt hm'
        refine ⟨fun z => ⟨rfl, ?_⟩, fun z => ⟨rfl, ?_⟩⟩
        · rw [adr_inj hn hm' (nI_inj (by omega) (by omega) z.2)]
        · rw [nI_inj (by omega) (by omega) z.2]
  have hM : ∀ v : Int32, (((τ 0 r = τ 0 q ∧ τ 1 r = τ 1 q) ∧ v = 1) ∨ (¬ (τ 0 r = τ 0 q ∧ τ 1 r = τ 1 q) ∧ v = 0)) → w_mSame (fun r' τ' => v = r' ∧ Inv σ τ') τ (nI r) (nI q) := by
    intro v hv
    unfold w_mSame
    rw [nIc (n := r) (by omega), nIc (n := q) (by omega)]
    refine ⟨fun _ => ⟨fun _ => ⟨nIin (by omega) (by omega), nIin (by omega) (by omega), fun a => ⟨nIin (by omega) (by omega), nIin (by omega) (by omega), fun b => ?_, fun b => ?_⟩, fun a => ?_⟩, fun h0 => absurd hm2 h0⟩, fun h0 => absurd hm h0⟩
    · rcases hv with ⟨-, hv⟩ | ⟨hv, -⟩
      · exact ⟨hv, h⟩
      · exact absurd ⟨a, b⟩ hv
    · rcases hv with ⟨hv, -⟩ | ⟨-, hv⟩
      · exact absurd hv.2 b
      · exact ⟨hv, h⟩
    · rcases hv with ⟨hv, -⟩ | ⟨-, hv⟩
      · exact absurd hv.1 a
      · exact ⟨hv, h⟩
  rw [nIc (n := r) (by omega), nIc (n := q) (by omega)]
  refine ⟨fun a => ⟨nIin hr (by omega), nIin hq (by omega), fun b => hM 1 (Or.inl ⟨key.1.mp ⟨a, b⟩, rfl⟩), fun b => hM 0 (Or.inr ⟨fun z => b (key.1.mpr z).2, rfl⟩)⟩, fun a => hM 0 (Or.inr ⟨fun z => a (key.1.mpr z).1, rfl⟩)⟩
/-- hasField: what it answers -/
theorem bHas_ok {σ τ : St} {ns : List Nat} {r : Nat} {x : Int32} {P : Int32 → St → Prop} (hW : WF τ ns) (hB : RB σ τ ns) (hr : r < 6) (h0 : (τ 0 r = 0 ∨ x < 0 ∨ ∃ n, n ∈ ns ∧ τ 1 r = nI n ∧ τ 2 n ≤ x) → P 0 σ) (h1 : ∀ n k : Nat, τ 0 r = 1 → n ∈ ns → τ 1 r = nI n → σ 3 r = nI (adr (fo τ) ns n) → x = nI k → k < fo τ n → P 1 σ) : w_bHasField P σ (nI r) x := by
  unfold w_bHasField
  rw [nIc (n := r) (by omega)]
  refine ⟨nIin hr (by omega), ?_⟩
  rcases reg_ref hW hB hr with ⟨a1, a2, a3⟩ | ⟨a1, a2, n, hn, a3, a4⟩
  · exact ⟨fun _ => h0 (Or.inl a2), fun z => absurd a1 z⟩
  · have h72 := adr72 hB hn
    refine ⟨fun z => absurd (a1.symm.trans z) one_ne, fun _ => ⟨fun hx => h0 (Or.inr (Or.inl hx)), fun hx => ?_⟩⟩
    rw [a4, nIc (n := adr (fo τ) ns n) (by omega), (hB.2.2.2 n hn).1]
    refine ⟨nIin hr (by omega), nIin (by omega) (by omega), fun hle => h0 (Or.inr (Or.inr ⟨n, hn, a3, hle⟩)), fun hle => ?_⟩
    obtain ⟨j, hj, rfl⟩ := nI_of hx
    have hf := hW.fld hn
    refine h1 n j a2 hn a3 a4 rfl ?_
    rw [hf.2.2, nI_leI (by omega) hj] at hle
    omega
theorem op_store {σ τ : St} (h : Inv σ τ) (x1 x2 x3 : Int32) : w_bStore (fun r σ' => w_mStore (fun r' τ' => r = r' ∧ Inv σ' τ') τ x1 x2 x3) σ x1 x2 x3 := by
  rcases reg_cases x1 with ⟨hb, hm⟩ | ⟨r, hr, rfl, hb, hm⟩
  · exact ⟨fun _ => ⟨fun h0 => absurd (hm.symm.trans h0) one_ne, fun _ => ⟨rfl, h⟩⟩, fun h0 => absurd hb h0⟩
  refine ⟨fun h0 => absurd (hb.symm.trans h0) one_ne, fun _ => ?_⟩
  rcases reg_cases x3 with ⟨hb2, hm2⟩ | ⟨q, hq, rfl, hb2, hm2⟩
  · exact ⟨fun _ => ⟨fun _ => ⟨fun h0 => absurd (hm2.symm.trans h0) one_ne, fun _ => ⟨rfl, h⟩⟩, fun h0 => absurd hm h0⟩, fun h0 => absurd hb2 h0⟩
  have h' := h
  obtain ⟨ns, hW, hE, hB⟩ := h'
  refine ⟨fun h0 => absurd (hb2.symm.trans h0) one_ne, fun _ => bHas_ok hW hB hr ?_ ?_⟩
  · intro hc
    refine ⟨fun _ => ⟨fun _ => ⟨fun _ => ?_, fun h0 => absurd hm2 h0⟩, fun h0 => absurd hm h0⟩, fun z => absurd rfl z⟩
    unfold w_mPlace
    rw [nIc (n := r) (by omega)]
    refine ⟨nIin (by omega) (by omega), ?_⟩
    have hneg : ∀ τ' : St, τ' = τ → ((0 : Int32) ≤ -1 → w_mTake (fun τ3 => (-3 : Int32) = 0 ∧ Inv σ τ3) τ' (-1) (nI q)) ∧ (¬ (0 : Int32) ≤ -1 → (-3 : Int32) = -3 ∧ Inv σ τ') := fun τ' e => ⟨fun z => absurd z (by decide), fun _ => ⟨rfl, by rw [e]; exact h⟩⟩
    rcases reg_ref hW hB hr with ⟨a1, a2, a3⟩ | ⟨a1, a2, n, hn, a3, a4⟩
    · exact ⟨fun _ => hneg τ rfl, fun z => absurd a2 z⟩
    · refine ⟨fun z => absurd (a2.symm.trans z) one_ne, fun _ => ⟨fun _ => hneg τ rfl, fun hx => ?_⟩⟩
      have h36 := hW.lt hn
      rw [a3, nIc (n := n) (by omega)]
      refine ⟨nIin (by omega) (by omega), nIin (by omega) (by omega), fun hlt => ?_, fun _ => hneg τ rfl⟩
      rcases hc with hc | hc | ⟨n2, hn2, e2, hc⟩
      · exact absurd (a2.symm.trans hc) one_ne
      · exact absurd hc hx
      · have h37 := hW.lt hn2
        have : n2 = n := nI_inj (by omega) (by omega) (e2.symm.trans a3)
        subst this
        exact absurd hlt (Int32.not_lt.mpr hc)
  · intro n k a2 hn a3 a4 ex hk
    have h72 := adr72 hB hn
    have h36 := hW.lt hn
    have hf := hW.fld hn
    subst ex
    refine ⟨fun z => absurd z one_ne, fun _ => ⟨nIin hr (by omega), fun v3 e3 => ?_⟩⟩
    rw [nIc (n := r) (by omega), a4, nI_1, nI_add] at e3
    subst e3
    refine ⟨nIin hq (by omega), nIin (by omega) (by omega), fun σ4 e4 => ⟨nIin hq (by omega), nIin (by omega) (by omega), fun σ6 e6 => ⟨fun _ => ⟨fun _ => ?_, fun h0 => absurd hm2 h0⟩, fun h0 => absurd hm h0⟩⟩⟩
    rw [nIc (n := q) (by omega), nIc (n := adr (fo τ) ns n + 1 + k) (by omega)] at e4 e6
    have hs := hB.2.2.1 q hq
    have hv := Vok.of hW (hW.2.2.1 q hq)
    rw [hs.2] at e4
    rw [show σ4 4 q = τ 0 q by rw [e4, up2_k (by decide)]; exact hs.1, nzb (hW.2.2.1 q hq).b] at e6
    unfold w_mPlace
    rw [nIc (n := r) (by omega), a3, nIc (n := n) (by omega)]
    refine ⟨nIin (by omega) (by omega), fun z => absurd (a2.symm.trans z) one_ne, fun _ => ⟨fun z => absurd z (nI_pos (by omega)), fun _ => ⟨nIin (by omega) (by omega), nIin (by omega) (by omega), fun _ => ⟨nIin (by omega) (by omega), ?_⟩, fun z => absurd (by rw [hf.2.2]; exact nI_lt hk (by omega)) z⟩⟩⟩
    rw [show (6 : Int32) = nI 6 from rfl, pk_mul, nI_add, nI_add]
    refine ⟨fun _ => ⟨nIin (by omega) (by omega), nIin (by omega) (by omega), ?_⟩, fun z => absurd (nI_pos' (by omega)) z⟩
    rw [nIc (n := q) (by omega)]
    refine mSet_ok (by omega) (hW.2.2.1 q hq).b (fun τ' e => ⟨rfl, inv_of hE (fld_put hW hB hn hk hv ?_ e)⟩)
    intro u j
    rw [e6, e4]
    simp only [up2_app]
theorem op_load {σ τ : St} (h : Inv σ τ) (x1 x2 x3 : Int32) : w_bLoad (fun r σ' => w_mLoad (fun r' τ' => r = r' ∧ Inv σ' τ') τ x1 x2 x3) σ x1 x2 x3 := by
  rcases reg_cases x1 with ⟨hb, hm⟩ | ⟨q, hq, rfl, hb, hm⟩
  · exact ⟨fun _ => ⟨fun h0 => absurd (hm.symm.trans h0) one_ne, fun _ => ⟨rfl, h⟩⟩, fun h0 => absurd hb h0⟩
  refine ⟨fun h0 => absurd (hb.symm.trans h0) one_ne, fun _ => ?_⟩
  rcases reg_cases x2 with ⟨hb2, hm2⟩ | ⟨r, hr, rfl, hb2, hm2⟩
  · exact ⟨fun _ => ⟨fun _ => ⟨fun h0 => absurd (hm2.symm.trans h0) one_ne, fun _ => ⟨rfl, h⟩⟩, fun h0 => absurd hm h0⟩, fun h0 => absurd hb2 h0⟩
  have h' := h
  obtain ⟨ns, hW, hE, hB⟩ := h'
  refine ⟨fun h0 => absurd (hb2.symm.trans h0) one_ne, fun _ => bHas_ok hW hB hr ?_ ?_⟩
  · intro hc
    refine ⟨fun _ => ⟨fun _ => ⟨fun _ => ?_, fun h0 => absurd hm2 h0⟩, fun h0 => absurd hm h0⟩, fun z => absurd rfl z⟩
    unfold w_mPlace
    rw [nIc (n := r) (by omega)]
    refine ⟨nIin (by omega) (by omega), ?_⟩
    have hneg : ∀ τ' : St, τ' = τ → ((0 : Int32) ≤ -1 → w_mTake (fun τ3 => (-3 : Int32) = 0 ∧ Inv σ τ3) τ' (nI q) (-1)) ∧ (¬ (0 : Int32) ≤ -1 → (-3 : Int32) = -3 ∧ Inv σ τ') := fun τ' e => ⟨fun z => absurd z (by decide), fun _ => ⟨rfl, by rw [e]; exact h⟩⟩
    rcases reg_ref hW hB hr with ⟨a1, a2, a3⟩ | ⟨a1, a2, n, hn, a3, a4⟩
    · exact ⟨fun _ => hneg τ rfl, fun z => absurd a2 z⟩
    · refine ⟨fun z => absurd (a2.symm.trans z) one_ne, fun _ => ⟨fun _ => hneg τ rfl, fun hx => ?_⟩⟩
      have h36 := hW.lt hn
      rw [a3, nIc (n := n) (by omega)]
      refine ⟨nIin (by omega) (by omega), nIin (by omega) (by omega), fun hlt => ?_, fun _ => hneg τ rfl⟩
      rcases hc with hc | hc | ⟨n2, hn2, e2, hc⟩
      · exact absurd (a2.symm.trans hc) one_ne
      · exact absurd hc hx
      · have h37 := hW.lt hn2
        have : n2 = n := nI_inj (by omega) (by omega) (e2.symm.trans a3)
        subst this
        exact absurd hlt (Int32.not_lt.mpr hc)
  · intro n k a2 hn a3 a4 ex hk
    have h72 := adr72 hB hn
    have h36 := hW.lt hn
    have hf := hW.fld hn
    subst ex
    refine ⟨fun z => absurd z one_ne, fun _ => ⟨nIin hr (by omega), fun v3 e3 => ?_⟩⟩
    rw [nIc (n := r) (by omega), a4, nI_1, nI_add] at e3
    subst e3
    refine ⟨nIin (by omega) (by omega), nIin hq (by omega), fun σ4 e4 => ⟨nIin (by omega) (by omega), nIin hq (by omega), fun σ6 e6 => ⟨fun _ => ⟨fun _ => ?_, fun h0 => absurd hm2 h0⟩, fun h0 => absurd hm h0⟩⟩⟩
    have hs := (hB.2.2.2 n hn).2 k hk
    have hvm := hW.2.2.2 n hn k hk
    have hv := Vok.of hW hvm
    rw [nIc (n := adr (fo τ) ns n + 1 + k) (by omega)] at e4 e6
    rw [hs.2] at e4
    rw [show σ4 2 (adr (fo τ) ns n + 1 + k) = τ 0 (6 + 6 * n + k) by rw [e4, up2_k (by decide)]; exact hs.1, nzb hvm.b] at e6
    unfold w_mPlace
    rw [nIc (n := r) (by omega), a3, nIc (n := n) (by omega)]
    refine ⟨nIin (by omega) (by omega), fun z => absurd (a2.symm.trans z) one_ne, fun _ => ⟨fun z => absurd z (nI_pos (by omega)), fun _ => ⟨nIin (by omega) (by omega), nIin (by omega) (by omega), fun _ => ⟨nIin (by omega) (by omega), ?_⟩, fun z => absurd (by rw [hf.2.2]; exact nI_lt hk (by omega)) z⟩⟩⟩
    rw [show (6 : Int32) = nI 6 from rfl, pk_mul, nI_add, nI_add]
    refine ⟨fun _ => ⟨nIin (by omega) (by omega), nIin (by omega) (by omega), ?_⟩, fun z => absurd (nI_pos' (by omega)) z⟩
    rw [nIc (n := 6 + 6 * n + k) (by omega)]
    refine mSet_ok (by omega) hvm.b (fun τ' e => ⟨rfl, inv_of hE (reg_put hW hB hq hv (st_reg hq e4 e6) e)⟩)
end
section
/-! PLAIN LAW, 3: BreakHeap.markReached reaches the least closed set of records -/
def Clo (τ : St) (ns : List Nat) (T : Nat → Prop) : Prop := (∀ r c, r < 6 → τ 0 r = 1 → c ∈ ns → τ 1 r = nI c → T c) ∧ ∀ i k c, i ∈ ns → T i → k < fo τ i → τ 0 (6 + 6 * i + k) = 1 → c ∈ ns → τ 1 (6 + 6 * i + k) = nI c → T c
def Lst (τ : St) (ns : List Nat) (p : Nat → Bool) : Prop := Clo τ ns (fun i => p i = true) ∧ ∀ T, Clo τ ns T → ∀ i, p i = true → T i
theorem Lst.mem {τ : St} {ns : List Nat} {p : Nat → Bool} (h : Lst τ ns p) {i : Nat} (hi : p i = true) : i ∈ ns := h.2 (fun i => i ∈ ns) ⟨fun _ _ _ _ h _ => h, fun _ _ _ _ _ _ _ h _ => h⟩ i hi
theorem Lst.uniq {τ : St} {ns : List Nat} {p q : Nat → Bool} (hp : Lst τ ns p) (hq : Lst τ ns q) (i : Nat) : p i = q i := by
  have h1 := hp.2 _ hq.1 i
  have h2 := hq.2 _ hp.1 i
  cases e : p i <;> cases e2 : q i
  · rfl
  · rw [h2 e2] at e; exact e.symm
  · rw [h1 e] at e2; exact e2
  · rfl
def stkAt (σ : St) (g : Nat → Nat) : List Nat → Prop
  | [] => True
  | t :: rest => σ 7 rest.length = nI (g t) ∧ stkAt σ g rest
theorem stkAt_congr {σ σ' : St} {g : Nat → Nat} {l : List Nat} (h : ∀ j, j < l.length → σ' 7 j = σ 7 j) (hl : stkAt σ g l) : stkAt σ' g l := by
  induction l with
  | nil => trivial
  | cons t rest ih =>
    refine ⟨(h _ (by simp)).trans hl.1, ih (fun j hj => h j ?_) hl.2⟩
    simp only [List.length_cons]; omega
def MI (σ0 σ τ : St) (ns done stk : List Nat) : Prop := (∀ k, k < 5 → σ k = σ0 k) ∧ (done ++ stk).Nodup ∧ (∀ i, i ∈ done ++ stk → i ∈ ns) ∧ σ 6 0 = nI stk.length ∧ stkAt σ (adr (fo τ) ns) stk ∧ (∀ i, i ∈ ns → σ 5 (adr (fo τ) ns i) = if i ∈ done ++ stk then 1 else 0) ∧ ∀ T, Clo τ ns T → ∀ i, i ∈ done ++ stk → T i
theorem MI.len {σ0 σ τ : St} {ns done stk : List Nat} (h : MI σ0 σ τ ns done stk) (h36 : ns.length ≤ 36) : done.length + stk.length ≤ 36 := by
  have := h.2.1.length_le_of_subset (fun i hi => h.2.2.1 i hi)
  rw [List.length_append] at this
  omega
theorem bReach_ok {σ : St} {P : St → Prop} {a w : Nat} (ha : a < 72) (hw : σ 6 0 = nI w) (hw2 : σ 5 a = 0 → w < 40) (h0 : ¬ σ 5 a = 0 → P σ) (h1 : σ 5 a = 0 → ∀ σ', (∀ k j, σ' k j = if k = 6 ∧ j = 0 then nI (w + 1) else if k = 7 ∧ j = w then nI a else if k = 5 ∧ j = a then 1 else σ k j) → P σ') : w_bReach P σ (nI a) := by
  unfold w_bReach
  rw [nIc (by omega)]
  refine ⟨nIin ha (by omega), fun z => ⟨nIin ha (by omega), fun σ1 e1 => ?_⟩, h0⟩
  have hw3 := hw2 z
  have a1 : σ1 6 0 = nI w := by rw [e1, up2_k (by decide)]; exact hw
  rw [a1, nIc (by omega)]
  refine ⟨nIin hw3 (by omega), fun σ3 e3 σ5 e5 => h1 z σ5 ?_⟩
  have a3 : σ3 6 0 = nI w := by rw [e3, up2_k (by decide)]; exact a1
  rw [a3, nI_1] at e5
  intro k j
  rw [e5, e3, e1, nz1]
  simp only [up2_app]
/-- a record that every closed set holds is reached -/
theorem reach_step {σ0 σ τ : St} {ns done stk : List Nat} {c : Nat} {P : St → Prop} (hW : WF τ ns) (hs : sz (fo τ) ns ≤ 72) (hM : MI σ0 σ τ ns done stk) (hc : c ∈ ns) (hT : ∀ T, Clo τ ns T → T c) (hP : ∀ σ' stk', MI σ0 σ' τ ns done stk' → (∀ i, i ∈ done ++ stk → i ∈ done ++ stk') → c ∈ done ++ stk' → P σ') : w_bReach P σ (nI (adr (fo τ) ns c)) := by
  have hl := hM.len (hW.len hs)
  have he := adr_end (f := fo τ) hc
  obtain ⟨m1, m2, m3, m4, m5, m6, m7⟩ := hM
  have h5 := m6 c hc
  refine bReach_ok (by omega) m4 (fun _ => by omega) (fun h0 => ?_) (fun h0 σ' hσ => ?_)
  · have hin : c ∈ done ++ stk := by
      by_cases z : c ∈ done ++ stk
      · exact z
      · rw [if_neg z] at h5; exact absurd h5 h0
    exact hP σ stk ⟨m1, m2, m3, m4, m5, m6, m7⟩ (fun i h => h) hin
  · have hout : c ∉ done ++ stk := by
      intro z
      rw [if_pos z] at h5; exact one_ne (h5.symm.trans h0)
    have hmem : ∀ i, i ∈ done ++ c :: stk ↔ i = c ∨ i ∈ done ++ stk := by
      intro i
      simp only [List.mem_append, List.mem_cons]
      constructor
      · rintro (h | h | h)
        · exact Or.inr (Or.inl h)
        · exact Or.inl h
        · exact Or.inr (Or.inr h)
      · rintro (h | h | h)
        · exact Or.inr (Or.inl h)
        · exact Or.inl h
        · exact Or.inr (Or.inr h)
    refine hP σ' (c :: stk) ⟨fun k hk => ?_, ?_, ?_, ?_, ⟨?_, stkAt_congr (fun j hj => ?_) m5⟩, ?_, ?_⟩ (fun i h => (hmem i).mpr (Or.inr h)) ((hmem c).mpr (Or.inl rfl))
    · rw [← m1 k hk]
      funext j
      rw [hσ, if_neg (by omega), if_neg (by omega), if_neg (by omega)]
    · have h2 := List.nodup_append.mp m2
      refine List.nodup_append.mpr ⟨h2.1, List.nodup_cons.mpr ⟨fun z => hout (List.mem_append_right _ z), h2.2.1⟩, fun a ha b hb => ?_⟩
      rcases List.mem_cons.mp hb with e | e
      · rw [e]
        exact fun z => hout (by rw [← z]; exact List.mem_append_left _ ha)
      · exact h2.2.2 a ha b e
    · intro i hi
      rcases (hmem i).mp hi with e | e
      · rw [e]; exact hc
      · exact m3 i e
    · rw [hσ, if_pos ⟨rfl, rfl⟩, List.length_cons]
    · rw [hσ, if_neg (by omega), if_pos ⟨rfl, rfl⟩]
    · rw [hσ, if_neg (by omega), if_neg (by omega), if_neg (by omega)]
    · intro i hi
      rw [hσ, if_neg (by omega), if_neg (by omega)]
      by_cases e : i = c
      · rw [e, if_pos ⟨rfl, rfl⟩, if_pos ((hmem c).mpr (Or.inl rfl))]
      · rw [if_neg (fun z => e (adr_inj hi hc z.2)), m6 i hi]
        by_cases z : i ∈ done ++ stk
        · rw [if_pos z, if_pos ((hmem i).mpr (Or.inr z))]
        · rw [if_neg z, if_neg (fun q => ((hmem i).mp q).elim e z)]
    · intro T hcl i hi
      rcases (hmem i).mp hi with e | e
      · rw [e]; exact hT T hcl
      · exact m7 T hcl i e
theorem bMark2 {σ0 : St} {K : St → Int32 → Prop} (hK : ∀ σ x, (∀ q, q < 72 → σ 5 q = 0) → (∀ k, k ≠ 5 → σ k = σ0 k) → K σ x) : ∀ (n j : Nat) (σ : St), j + n = 72 → (∀ q, q < j → σ 5 q = 0) → (∀ k, k ≠ 5 → σ k = σ0 k) → w_bMarkReached_2 K (n + 1) σ (nI j) := by
  intro n
  induction n with
  | zero =>
    intro j σ hj h5 hk
    have : j = 72 := by omega
    subst this
    rw [w_bMarkReached_2]
    exact ⟨fun _ => hK σ _ h5 hk, fun z => absurd (show (72 : Int32) ≤ nI 72 by decide) z⟩
  | succ n ih =>
    intro j σ hj h5 hk
    rw [w_bMarkReached_2]
    refine ⟨fun z => absurd z (by rw [show (72 : Int32) = nI 72 from rfl, nI_leI (by omega) (by omega)]; omega), fun _ => ⟨nIin (by omega) (by omega), fun σ1 e1 => ?_⟩⟩
    rw [nIc (by omega), nz0] at e1
    rw [nI_1]
    refine ih (j + 1) σ1 (by omega) (fun q hq => ?_) (fun k h => ?_)
    · rw [e1, up2_app]
      by_cases e : q = j
      · rw [if_pos ⟨rfl, e⟩]
      · rw [if_neg (fun z => e z.2)]; exact h5 q (by omega)
    · rw [e1, up2_k h]; exact hk k h
theorem bMark28 {σ0 τ : St} {ns : List Nat} {K : St → Int32 → Prop} (hW : WF τ ns) (hB : RB σ0 τ ns) (hK : ∀ σ x stk, MI σ0 σ τ ns [] stk → (∀ r c, r < 6 → τ 0 r = 1 → c ∈ ns → τ 1 r = nI c → c ∈ stk) → K σ x) : ∀ (n r : Nat) (σ : St) (stk : List Nat), r + n = 6 → MI σ0 σ τ ns [] stk → (∀ q c, q < r → τ 0 q = 1 → c ∈ ns → τ 1 q = nI c → c ∈ stk) → w_bMarkReached_28 K (n + 1) σ (nI r) := by
  intro n
  induction n with
  | zero =>
    intro r σ stk hr hM h
    have : r = 6 := by omega
    subst this
    rw [w_bMarkReached_28]
    exact ⟨fun _ => hK σ _ stk hM h, fun z => absurd (show (6 : Int32) ≤ nI 6 by decide) z⟩
  | succ n ih =>
    intro r σ stk hr hM h
    rw [w_bMarkReached_28]
    refine ⟨fun z => absurd z (by rw [show (6 : Int32) = nI 6 from rfl, nI_leI (by omega) (by omega)]; omega), fun _ => ⟨nIin (by omega) (by omega), ?_⟩⟩
    rw [nIc (by omega), nI_1, hM.1 4 (by omega), hM.1 3 (by omega)]
    have hr6 : r < 6 := by omega
    rcases reg_ref hW hB hr6 with ⟨a1, a2, a3⟩ | ⟨a1, a2, c, hc, a3, a4⟩
    · refine ⟨fun _ => ih (r + 1) σ stk (by omega) hM (fun q c hq b1 b2 b3 => ?_), fun z => absurd a1 z⟩
      by_cases e : q = r
      · subst e; exact absurd (b1.symm.trans a2) one_ne
      · exact h q c (by omega) b1 b2 b3
    · refine ⟨fun z => absurd (a1.symm.trans z) one_ne, fun _ => ⟨nIin (by omega) (by omega), ?_⟩⟩
      rw [a4]
      refine reach_step hW hB.1 hM hc (fun T hT => hT.1 r c hr6 a2 hc a3) (fun σ' stk' hM' hs hin => ih (r + 1) σ' stk' (by omega) hM' (fun q d hq b1 b2 b3 => ?_))
      by_cases e : q = r
      · subst e
        have h1 := hW.lt hc
        have h2 := hW.lt b2
        have : d = c := nI_inj (by omega) (by omega) (b3.symm.trans a3)
        rw [this]; simpa using hin
      · simpa using hs d (by simpa using h q d (by omega) b1 b2 b3)
/-- the fields of one record -/
theorem bMark98 {σ0 τ : St} {ns : List Nat} {t : Nat} {x1 : Int32} {done stk0 : List Nat} {K : St → Int32 → Prop} (hW : WF τ ns) (hB : RB σ0 τ ns) (ht : t ∈ ns) (htd : t ∈ done) (hK : ∀ σ x stk, MI σ0 σ τ ns done stk → (∀ i, i ∈ done ++ stk0 → i ∈ done ++ stk) → (∀ k c, k < fo τ t → τ 0 (6 + 6 * t + k) = 1 → c ∈ ns → τ 1 (6 + 6 * t + k) = nI c → c ∈ done ++ stk) → K σ x) : ∀ (n k : Nat) (σ : St) (stk : List Nat), k + n = fo τ t → MI σ0 σ τ ns done stk → (∀ i, i ∈ done ++ stk0 → i ∈ done ++ stk) → (∀ q c, q < k → τ 0 (6 + 6 * t + q) = 1 → c ∈ ns → τ 1 (6 + 6 * t + q) = nI c → c ∈ done ++ stk) → w_bMarkReached_98 x1 (nI (adr (fo τ) ns t)) K (n + 1) σ (nI (adr (fo τ) ns t + 1 + k)) := by
  have h72 := adr72 hB ht
  have hf := hW.fld ht
  have hrec := hB.2.2.2 t ht
  intro n
  induction n with
  | zero =>
    intro k σ stk hk hM hs h
    have : k = fo τ t := by omega
    subst this
    rw [w_bMarkReached_98, nIc (by omega), hM.1 1 (by omega), hrec.1, hf.2.2, nI_add]
    exact ⟨nIin (by omega) (by omega), fun _ => hK σ _ stk hM hs h, fun z => absurd (nI_lt (by omega) (by omega)) z⟩
  | succ n ih =>
    intro k σ stk hk hM hs h
    rw [w_bMarkReached_98, nIc (n := adr (fo τ) ns t) (by omega), nIc (n := adr (fo τ) ns t + 1 + k) (by omega), hM.1 1 (by omega), hM.1 2 (by omega), hrec.1, hf.2.2, nI_add, nI_1]
    have hk' : k < fo τ t := by omega
    obtain ⟨r2, r1⟩ := hrec.2 k hk'
    refine ⟨nIin (by omega) (by omega), fun z => absurd z (nI_nlt (by omega) (by omega)), fun _ => ⟨nIin (by omega) (by omega), ?_⟩⟩
    rw [r1, r2]
    rcases hW.2.2.2 t ht k hk' with a2 | ⟨a2, c, hc, a3⟩
    · refine ⟨fun _ => ih (k + 1) σ stk (by omega) hM hs (fun q d hq b1 b2 b3 => ?_), fun z => absurd a2 z⟩
      by_cases e : q = k
      · subst e; exact absurd (b1.symm.trans a2) one_ne
      · exact h q d (by omega) b1 b2 b3
    · refine ⟨fun z => absurd (a2.symm.trans z) one_ne, fun _ => ⟨nIin (by omega) (by omega), ?_⟩⟩
      have h1 := hW.lt hc
      rw [enc1 a2 a3 (by omega)]
      refine reach_step hW hB.1 hM hc (fun T hT => hT.2 t k c ht (hM.2.2.2.2.2.2 T hT t (List.mem_append_left _ htd)) hk' a2 hc a3) (fun σ' stk' hM' hs' hin => ih (k + 1) σ' stk' (by omega) hM' (fun i hi => hs' i (hs i hi)) (fun q d hq b1 b2 b3 => ?_))
      by_cases e : q = k
      · subst e
        have h2 := hW.lt b2
        have : d = c := nI_inj (by omega) (by omega) (b3.symm.trans a3)
        rw [this]; exact hin
      · exact hs' d (h q d (by omega) b1 b2 b3)
theorem bMark61 {σ0 τ : St} {ns : List Nat} {K : St → Int32 → Prop} (hW : WF τ ns) (hB : RB σ0 τ ns) (hK : ∀ σ x done, MI σ0 σ τ ns done [] → (∀ r c, r < 6 → τ 0 r = 1 → c ∈ ns → τ 1 r = nI c → c ∈ done) → (∀ i k c, i ∈ done → k < fo τ i → τ 0 (6 + 6 * i + k) = 1 → c ∈ ns → τ 1 (6 + 6 * i + k) = nI c → c ∈ done) → K σ x) : ∀ (n : Nat) (σ : St) (done stk : List Nat), done.length + n = 37 → MI σ0 σ τ ns done stk → (∀ r c, r < 6 → τ 0 r = 1 → c ∈ ns → τ 1 r = nI c → c ∈ done ++ stk) → (∀ i k c, i ∈ done → k < fo τ i → τ 0 (6 + 6 * i + k) = 1 → c ∈ ns → τ 1 (6 + 6 * i + k) = nI c → c ∈ done ++ stk) → w_bMarkReached_61 K (n + 1) σ (nI done.length) := by
  intro n
  induction n with
  | zero =>
    intro σ done stk hl hM
    have := hM.len (hW.len hB.1)
    omega
  | succ n ih =>
    intro σ done stk hl hM hr hd
    have h36 := hM.len (hW.len hB.1)
    rw [w_bMarkReached_61]
    refine ⟨fun z => absurd z (by rw [show (37 : Int32) = nI 37 from rfl, nI_leI (by omega) (by omega)]; omega), fun _ => ?_⟩
    cases stk with
    | nil =>
      refine ⟨fun _ => hK σ _ done hM (fun r c b1 b2 b3 b4 => by simpa using hr r c b1 b2 b3 b4) (fun i k c b0 b1 b2 b3 b4 => by simpa using hd i k c b0 b1 b2 b3 b4), fun z => absurd ?_ z⟩
      rw [hM.2.2.2.1]; decide
    | cons t rest =>
      obtain ⟨m1, m2, m3, m4, m5, m6, m7⟩ := hM
      rw [List.length_cons] at m4 h36
      refine ⟨fun z => absurd z (by rw [m4]; exact nI_nle (by omega) (by omega)), fun _ => fun σ5 e5 => ?_⟩
      rw [m4, nI_pred] at e5
      have a6 : σ5 6 0 = nI rest.length := by rw [e5, up2_s]
      have htn : t ∈ ns := m3 t (by simp)
      have h72 := adr72 hB htn
      rw [a6, nIc (by omega), show σ5 7 rest.length = σ 7 rest.length by rw [e5, up2_k (by decide)], m5.1]
      refine ⟨nIin (by omega) (by omega), fun v6 e6 v7 e7 => ?_⟩
      subst e6
      rw [nI_1] at e7
      subst e7
      have hperm : ∀ i, i ∈ (t :: done) ++ rest ↔ i ∈ done ++ t :: rest := by
        intro i
        simp only [List.cons_append, List.mem_cons, List.mem_append]
        constructor
        · rintro (h | h | h)
          · exact Or.inr (Or.inl h)
          · exact Or.inl h
          · exact Or.inr (Or.inr h)
        · rintro (h | h | h)
          · exact Or.inr (Or.inl h)
          · exact Or.inl h
          · exact Or.inr (Or.inr h)
      have hM' : MI σ0 σ5 τ ns (t :: done) rest := by
        refine ⟨fun k hk => by rw [e5, up2_k (by omega)]; exact m1 k hk, ?_, fun i hi => m3 i ((hperm i).mp hi), a6, stkAt_congr (fun j hj => by rw [e5, up2_k (by decide)]) m5.2, fun i hi => ?_, fun T hT i hi => m7 T hT i ((hperm i).mp hi)⟩
        · have hp : (done ++ t :: rest).Perm ((t :: done) ++ rest) := by
            rw [List.cons_append]; exact List.perm_middle
          exact hp.nodup m2
        · rw [e5, up2_k (by decide), m6 i hi]
          by_cases z : i ∈ done ++ t :: rest
          · rw [if_pos z, if_pos ((hperm i).mpr z)]
          · rw [if_neg z, if_neg (fun q => z ((hperm i).mp q))]
      refine ⟨fo τ t + 1, ?_⟩
      have hz : nI (adr (fo τ) ns t + 1) = nI (adr (fo τ) ns t + 1 + 0) := rfl
      rw [hz]
      refine bMark98 (done := t :: done) (stk0 := rest) hW hB htn List.mem_cons_self (fun σ' x stk' hM2 hs hf => ?_) (fo τ t) 0 σ5 rest (by omega) hM' (fun i h => h) (fun q c hq => absurd hq (by omega))
      have hgo : ∀ i, i ∈ done ++ t :: rest → i ∈ (t :: done) ++ stk' := fun i hi => hs i ((hperm i).mpr hi)
      rw [nI_1]
      refine ih σ' (t :: done) stk' (by rw [List.length_cons]; omega) hM2 (fun r c b1 b2 b3 b4 => hgo c (hr r c b1 b2 b3 b4)) (fun i k c b0 b1 b2 b3 b4 => ?_)
      rcases List.mem_cons.mp b0 with e | e
      · subst e; exact hf k c b1 b2 b3 b4
      · exact hgo c (hd i k c e b1 b2 b3 b4)
theorem bMark_ok {σ τ : St} {ns : List Nat} {P : St → Prop} (hW : WF τ ns) (hB : RB σ τ ns) (hP : ∀ σ' p, Lst τ ns p → (∀ i, i ∈ ns → σ' 5 (adr (fo τ) ns i) = if p i = true then 1 else 0) → (∀ k, k < 5 → σ' k = σ k) → P σ') : w_bMarkReached P σ := by
  unfold w_bMarkReached
  refine ⟨73, ?_⟩
  rw [show (0 : Int32) = nI 0 from rfl]
  refine bMark2 (σ0 := σ) (fun σ2 x h5 hk => ?_) 72 0 σ rfl (fun q hq => absurd hq (by omega)) (fun k _ => rfl)
  intro σ20 e20
  refine ⟨7, ?_⟩
  have hM : MI σ σ20 τ ns [] [] := by
    refine ⟨fun k h => by rw [e20, up2_k (by omega)]; exact hk k (by omega), by simp, fun i hi => by simp at hi, ?_, trivial, fun i hi => ?_, fun T _ i hi => by simp at hi⟩
    · rw [e20, up2_s]; rfl
    · have h72 := adr72 hB hi
      rw [e20, up2_k (by decide), h5 _ (by omega), if_neg (by simp)]
  refine bMark28 (σ0 := σ) hW hB (fun σ3 x stk hM3 hr => ?_) 6 0 σ20 [] rfl hM (fun q c hq => absurd hq (by omega))
  refine ⟨38, ?_⟩
  refine bMark61 (σ0 := σ) hW hB (fun σ4 x done hM4 hr4 hd4 => ?_) 37 σ3 [] stk rfl hM3 (fun r c b1 b2 b3 b4 => by simpa using hr r c b1 b2 b3 b4) (fun i k c b0 => by simp at b0)
  refine hP σ4 (fun i => decide (i ∈ done)) ⟨⟨fun r c b1 b2 b3 b4 => decide_eq_true (hr4 r c b1 b2 b3 b4), fun i k c b0 bT b1 b2 b3 b4 => decide_eq_true (hd4 i k c (of_decide_eq_true bT) b1 b2 b3 b4)⟩, fun T hT i hi => hM4.2.2.2.2.2.2 T hT i (by simpa using hi)⟩ (fun i hi => ?_) (fun k hk => hM4.1 k hk)
  rw [hM4.2.2.2.2.2.1 i hi]
  simp
end
section
/-! PLAIN LAW, 4: the breaks say how far a reached record moves -/
theorem sz_filter_le (f : Nat → Nat) (p : Nat → Bool) (l : List Nat) : sz f (l.filter p) ≤ sz f l := by
  induction l with
  | nil => simp [sz]
  | cons i l ih =>
    rw [List.filter_cons]
    split
    · simp only [sz]; omega
    · simp only [sz]; omega
theorem filter_snoc_t {p : Nat → Bool} {pre : List Nat} {c : Nat} (h : p c = true) : (pre ++ [c]).filter p = pre.filter p ++ [c] := by
  simp [List.filter_append, h]
theorem filter_snoc_f {p : Nat → Bool} {pre : List Nat} {c : Nat} (h : ¬ p c = true) : (pre ++ [c]).filter p = pre.filter p := by
  simp [List.filter_append, h]
theorem adr_filter {f : Nat → Nat} {p : Nat → Bool} {pre rest : List Nat} {c : Nat} (hn : c ∉ pre) (h : p c = true) : adr f ((pre ++ c :: rest).filter p) c = sz f (pre.filter p) := by
  rw [List.filter_append, List.filter_cons, if_pos h]
  exact adr_split (fun z => hn (List.mem_filter.mp z).1)
def Mv (σ : St) (nb x y : Nat) : Prop := ∃ k, k ≤ nb ∧ (∀ j, j < k → ∃ b, b ≤ x ∧ σ 9 j = nI b) ∧ (∀ j, k ≤ j → j < nb → ∃ b, x < b ∧ b < 1000 ∧ σ 9 j = nI b) ∧ ((k = 0 ∧ y = x) ∨ ∃ k' d, k = k' + 1 ∧ σ 10 k' = nI d ∧ y + d = x)
theorem Mv_congr {σ σ' : St} {nb x y : Nat} (h9 : σ' 9 = σ 9) (h10 : σ' 10 = σ 10) (h : Mv σ nb x y) : Mv σ' nb x y := by
  unfold Mv at h ⊢
  rw [h9, h10]
  exact h
/-- the state of listBreaks' loop: the records pre are behind it -/
def LI (σ0 σ : St) (f : Nat → Nat) (p : Nat → Bool) (ns pre : List Nat) (d nb : Nat) (x2 : Int32) : Prop := (∀ k, k < 8 → σ k = σ0 k) ∧ σ 8 0 = nI nb ∧ nb ≤ pre.length ∧ d + sz f (pre.filter p) = sz f pre ∧ (∀ j, j < nb → ∃ b, b < sz f pre ∧ σ 9 j = nI b) ∧ (x2 = 0 → (nb = 0 ∧ d = 0) ∨ ∃ nb', nb = nb' + 1 ∧ σ 10 nb' = nI d) ∧ ∀ i, i ∈ pre → p i = true → Mv σ nb (adr f ns i) (adr f (ns.filter p) i)
theorem bList14 {σ0 τ : St} {ns : List Nat} {p : Nat → Bool} {K : St → Int32 → Int32 → Int32 → Int32 → Prop} (hW : WF τ ns) (hB : RB σ0 τ ns) (h5 : ∀ i, i ∈ ns → σ0 5 (adr (fo τ) ns i) = if p i = true then 1 else 0) (hK : ∀ σ x1 x2 x3 x4 nb, (∀ k, k < 8 → σ k = σ0 k) → σ 8 0 = nI nb → nb ≤ 36 → (∀ i, i ∈ ns → p i = true → Mv σ nb (adr (fo τ) ns i) (adr (fo τ) (ns.filter p) i)) → K σ x1 x2 x3 x4) :
    ∀ (rest pre : List Nat) (σ : St) (d nb : Nat) (x2 : Int32), ns = pre ++ rest → LI σ0 σ (fo τ) p ns pre d nb x2 → w_bListBreaks_14 K (rest.length + 1) σ (nI d) x2 (nI (sz (fo τ) pre)) (nI pre.length) := by
  have h36 := hW.len hB.1
  intro rest
  induction rest with
  | nil =>
    intro pre σ d nb x2 hns hI
    rw [List.append_nil] at hns
    subst hns
    obtain ⟨i1, i2, i3, i4, i5, i6, i7⟩ := hI
    rw [List.length_nil, w_bListBreaks_14]
    have hk := hK σ (nI d) x2 (nI (sz (fo τ) ns)) (nI ns.length) nb i1 i2 (by omega) i7
    refine ⟨fun _ => hk, fun _ => ⟨fun _ => hk, fun z => absurd ?_ z⟩⟩
    rw [i1 0 (by omega), hB.2.1]
    exact nI_le (Nat.le_refl _) (by have := hB.1; omega)
  | cons c rest ih =>
    intro pre σ d nb x2 hns hI
    obtain ⟨i1, i2, i3, i4, i5, i6, i7⟩ := hI
    have hc : c ∈ ns := by rw [hns]; simp
    have hnd : c ∉ pre := by
      have h1 := hW.1
      rw [hns] at h1
      exact fun z => (List.nodup_append.mp h1).2.2 c z c List.mem_cons_self rfl
    have hadr : adr (fo τ) ns c = sz (fo τ) pre := by rw [hns]; exact adr_split hnd
    have hlen : ns.length = pre.length + (rest.length + 1) := by rw [hns]; simp
    have h72 := adr72 hB hc
    have hf := hW.fld hc
    have hend := adr_end (f := fo τ) hc
    have hs1 : sz (fo τ) (pre ++ [c]) = sz (fo τ) pre + (fo τ c + 1) := by rw [sz_app]; simp [sz]
    have hns' : ns = (pre ++ [c]) ++ rest := by rw [hns]; simp
    have hlen' : (pre ++ [c]).length = pre.length + 1 := by simp
    have hd72 : d ≤ 72 := by omega
    have hmem : ∀ i, i ∈ pre ++ [c] → i ∈ pre ∨ i = c := fun i hi => by
      rcases List.mem_append.mp hi with h | h
      · exact Or.inl h
      · exact Or.inr (List.mem_singleton.mp h)
    rw [List.length_cons, w_bListBreaks_14]
    refine ⟨fun z => absurd z (by rw [show (37 : Int32) = nI 37 from rfl, nI_leI (by omega) (by omega)]; omega), fun _ => ⟨fun z => absurd z (by rw [i1 0 (by omega), hB.2.1, nI_leI (by have := hB.1; omega) (by omega)]; omega), fun _ => ?_⟩⟩
    rw [nIc (n := sz (fo τ) pre) (by omega), i1 1 (by omega), i1 5 (by omega)]
    have hr := (hB.2.2.2 c hc).1
    have h5c := h5 c hc
    rw [hadr] at hr h5c
    refine ⟨nIin (by omega) (by omega), fun v1 e1 => ?_⟩
    rw [hr, hf.2.2, nI_1] at e1
    subst e1
    refine ⟨nIin (by omega) (by omega), ?_⟩
    rw [h5c]
    by_cases hp : p c = true
    · rw [if_pos hp]
      have hfil := adr_filter (f := fo τ) (p := p) (rest := rest) hnd hp
      rw [← hns] at hfil
      have hs2 : sz (fo τ) ((pre ++ [c]).filter p) = sz (fo τ) (pre.filter p) + (fo τ c + 1) := by rw [filter_snoc_t hp, sz_app]; simp [sz]
      refine ⟨fun z => absurd z one_ne, fun _ => ⟨fun z => ?_, fun z => ?_⟩⟩
      · intro v2 e2
        rw [nI_add, ← hs1] at e2
        subst e2
        rw [nI_1, ← hlen']
        refine ih (pre ++ [c]) σ d nb x2 hns' ⟨i1, i2, by omega, by omega, fun j hj => ?_, i6, fun i hi hpi => ?_⟩
        · obtain ⟨b, hb, e⟩ := i5 j hj
          exact ⟨b, by omega, e⟩
        · rcases hmem i hi with h | h
          · exact i7 i h hpi
          · subst h
            rw [hadr, hfil]
            refine ⟨nb, Nat.le_refl _, fun j hj => ?_, fun j h1 h2 => absurd h1 (by omega), ?_⟩
            · obtain ⟨b, hb, e⟩ := i5 j hj
              exact ⟨b, by omega, e⟩
            · rcases i6 z with ⟨e1, e2⟩ | ⟨nb', e1, e2⟩
              · exact Or.inl ⟨e1, by omega⟩
              · exact Or.inr ⟨nb', d, e1, e2, by omega⟩
      · rw [i2, nIc (n := nb) (by omega)]
        refine ⟨nIin (by omega) (by omega), fun σ3 e3 => ?_⟩
        have a3 : σ3 8 0 = nI nb := by rw [e3, up2_k (by decide)]; exact i2
        rw [a3, nIc (n := nb) (by omega)]
        refine ⟨nIin (by omega) (by omega), fun σ5 e5 σ7 e7 v8 e8 => ?_⟩
        have a5 : σ5 8 0 = nI nb := by rw [e5, up2_k (by decide)]; exact a3
        rw [a5, nI_1] at e7
        rw [nI_add, ← hs1] at e8
        subst e8
        rw [nI_1, ← hlen']
        have g9 : ∀ j, σ7 9 j = if j = nb then nI (sz (fo τ) pre) else σ 9 j := by
          intro j
          rw [e7, e5, e3]
          simp [up2_app]
        have g10 : ∀ j, σ7 10 j = if j = nb then nI d else σ 10 j := by
          intro j
          rw [e7, e5, e3]
          simp [up2_app]
        refine ih (pre ++ [c]) σ7 d (nb + 1) 0 hns' ⟨fun k hk => ?_, by rw [e7, up2_s], by omega, by omega, fun j hj => ?_, fun _ => Or.inr ⟨nb, rfl, by rw [g10, if_pos rfl]⟩, fun i hi hpi => ?_⟩
        · rw [e7, up2_k (by omega), e5, up2_k (by omega), e3, up2_k (by omega)]; exact i1 k hk
        · rw [g9]
          by_cases e : j = nb
          · rw [if_pos e]; exact ⟨_, by omega, rfl⟩
          · rw [if_neg e]
            obtain ⟨b, hb, e⟩ := i5 j (by omega)
            exact ⟨b, by omega, e⟩
        · rcases hmem i hi with h | h
          · obtain ⟨k, k1, k2, k3, k4⟩ := i7 i h hpi
            have hlt : adr (fo τ) ns i < sz (fo τ) pre := by
              have := adr_end (f := fo τ) h
              rw [hns, adr_app h]; omega
            refine ⟨k, by omega, fun j hj => ?_, fun j h1 h2 => ?_, ?_⟩
            · rw [g9, if_neg (by omega)]; exact k2 j hj
            · rw [g9]
              by_cases e : j = nb
              · rw [if_pos e]; exact ⟨_, hlt, by omega, rfl⟩
              · rw [if_neg e]; exact k3 j h1 (by omega)
            · rcases k4 with k4 | ⟨k', d', e1, e2, e3⟩
              · exact Or.inl k4
              · exact Or.inr ⟨k', d', e1, by rw [g10, if_neg (by omega)]; exact e2, e3⟩
          · subst h
            rw [hadr, hfil]
            refine ⟨nb + 1, Nat.le_refl _, fun j hj => ?_, fun j h1 h2 => absurd h1 (by omega), Or.inr ⟨nb, d, rfl, by rw [g10, if_pos rfl], by omega⟩⟩
            rw [g9]
            by_cases e : j = nb
            · rw [if_pos e]; exact ⟨_, Nat.le_refl _, rfl⟩
            · rw [if_neg e]
              obtain ⟨b, hb, e⟩ := i5 j (by omega)
              exact ⟨b, by omega, e⟩
    · rw [if_neg hp]
      have hs2 : sz (fo τ) ((pre ++ [c]).filter p) = sz (fo τ) (pre.filter p) := by rw [filter_snoc_f hp]
      refine ⟨fun _ => ?_, fun z => absurd rfl z⟩
      intro v9 e9 v10 e10
      rw [nI_add] at e9
      rw [nI_add, ← hs1] at e10
      subst e9 e10
      rw [nI_1, ← hlen']
      refine ih (pre ++ [c]) σ (d + (fo τ c + 1)) nb 1 hns' ⟨i1, i2, by omega, by omega, fun j hj => ?_, fun z => absurd z one_ne, fun i hi hpi => ?_⟩
      · obtain ⟨b, hb, e⟩ := i5 j hj
        exact ⟨b, by omega, e⟩
      · rcases hmem i hi with h | h
        · exact i7 i h hpi
        · subst h; exact absurd hpi hp
theorem bList_ok {σ τ : St} {ns : List Nat} {p : Nat → Bool} {P : St → Prop} (hW : WF τ ns) (hB : RB σ τ ns) (h5 : ∀ i, i ∈ ns → σ 5 (adr (fo τ) ns i) = if p i = true then 1 else 0) (hP : ∀ σ' nb, (∀ k, k < 8 → σ' k = σ k) → σ' 8 0 = nI nb → nb ≤ 36 → (∀ i, i ∈ ns → p i = true → Mv σ' nb (adr (fo τ) ns i) (adr (fo τ) (ns.filter p) i)) → P σ') : w_bListBreaks P σ := by
  unfold w_bListBreaks
  intro σ13 e13
  refine ⟨ns.length + 1, ?_⟩
  exact bList14 (σ0 := σ) hW hB h5 (fun σ' x1 x2 x3 x4 nb h1 h2 h3 h4 => hP σ' nb h1 h2 h3 h4) ns [] σ13 0 0 0 rfl ⟨fun k hk => by rw [e13, up2_k (by omega)], by rw [e13, up2_s]; rfl, Nat.le_refl _, rfl, fun j hj => absurd hj (by omega), fun _ => Or.inl ⟨rfl, rfl⟩, fun i hi => by cases hi⟩
/-- the binary search -/
theorem bMoved10 {σ : St} {x nb k : Nat} {K : St → Int32 → Int32 → Int32 → Prop} (hnb : nb ≤ 36) (hx : x < 1000) (k1 : k ≤ nb) (k2 : ∀ j, j < k → ∃ b, b ≤ x ∧ σ 9 j = nI b) (k3 : ∀ j, k ≤ j → j < nb → ∃ b, x < b ∧ b < 1000 ∧ σ 9 j = nI b) (hK : ∀ z w, K σ (nI k) z w) :
    ∀ (n s lo hi : Nat), s + n = 7 → lo ≤ k → k ≤ hi → hi ≤ nb → hi - lo < 2 ^ n → w_bMovedAddress_10 (nI x) K (n + 1) σ (nI lo) (nI hi) (nI s) := by
  intro n
  induction n with
  | zero =>
    intro s lo hi hs h1 h2 h3 h4
    have e1 : s = 7 := by omega
    have e2 : lo = k := by simp at h4; omega
    subst e1 e2
    rw [w_bMovedAddress_10]
    exact ⟨fun _ => hK _ _, fun z => absurd (show (7 : Int32) ≤ nI 7 by decide) z⟩
  | succ n ih =>
    intro s lo hi hs h1 h2 h3 h4
    rw [w_bMovedAddress_10]
    refine ⟨fun z => absurd z (by rw [show (7 : Int32) = nI 7 from rfl, nI_leI (by omega) (by omega)]; omega), fun _ => ⟨fun z => ?_, fun z => ?_⟩⟩
    · rw [nI_leI (by omega) (by omega)] at z
      have e2 : lo = k := by omega
      subst e2
      exact hK _ _
    · rw [nI_leI (by omega) (by omega)] at z
      intro v1 e1
      rw [nI_add, show (2 : Int32) = nI 2 from rfl, pk_div (by omega) (by omega) (by omega)] at e1
      subst e1
      rw [Nat.pow_succ] at h4
      rw [nIc (n := (lo + hi) / 2) (by omega), nI_1]
      refine ⟨nIin (by omega) (by omega), fun c => ?_, fun c => ?_⟩
      · have hm : k ≤ (lo + hi) / 2 := by
          rcases Nat.lt_or_ge ((lo + hi) / 2) k with q | q
          · obtain ⟨b, hb, e⟩ := k2 _ q
            rw [e, nI_ltI (by omega) (by omega)] at c
            omega
          · exact q
        exact ih (s + 1) lo ((lo + hi) / 2) (by omega) h1 hm (by omega) (by omega)
      · have hm : (lo + hi) / 2 < k := by
          rcases Nat.lt_or_ge ((lo + hi) / 2) k with q | q
          · exact q
          · obtain ⟨b, hb, hb2, e⟩ := k3 _ q (by omega)
            rw [e] at c
            exact absurd (nI_lt hb (by omega)) c
        intro v2 e2
        rw [nI_1] at e2
        subst e2
        exact ih (s + 1) ((lo + hi) / 2 + 1) hi (by omega) (by omega) h2 h3 (by omega)
theorem bMoved_ok {σ : St} {x y nb : Nat} {P : Int32 → St → Prop} (h8 : σ 8 0 = nI nb) (hnb : nb ≤ 36) (hx : x < 1000) (hm : Mv σ nb x y) (hP : P (nI y) σ) : w_bMovedAddress P σ (nI x) := by
  obtain ⟨k, k1, k2, k3, k4⟩ := hm
  intro v4 e4
  rw [h8] at e4
  subst e4
  refine ⟨8, ?_⟩
  refine bMoved10 hnb hx k1 k2 k3 (fun z w => ?_) 7 0 0 nb rfl (Nat.zero_le _) k1 (Nat.le_refl _) (by omega)
  rcases k4 with ⟨e, e2⟩ | ⟨k', d, e, e2, e3⟩
  · subst e e2
    exact ⟨fun _ => hP, fun z => absurd rfl z⟩
  · subst e
    refine ⟨fun z => absurd z (nI_ne0 (by omega) (by omega)), fun _ => ?_⟩
    rw [nI_pred, nIc (n := k') (by omega), e2, pk_sub (by omega), show x - d = y by omega]
    exact ⟨nIin (by omega) (by omega), hP⟩
end
section
/-! PLAIN LAW, 5: registers and fields are mended, records slide down -/
theorem bSqueeze10 {σ0 τ : St} {g g' : Nat → Nat} {nb : Nat} {K : St → Int32 → Prop} (h8 : σ0 8 0 = nI nb) (hnb : nb ≤ 36) (h4 : ∀ r, r < 6 → (σ0 4 r = 0 ∧ τ 0 r = 0 ∧ σ0 3 r = τ 1 r) ∨ (σ0 4 r = 1 ∧ τ 0 r = 1 ∧ ∃ n, n < 36 ∧ τ 1 r = nI n ∧ σ0 3 r = nI (g n) ∧ g n < 72 ∧ Mv σ0 nb (g n) (g' n))) (hK : ∀ σ x, (∀ k, k ≠ 3 → σ k = σ0 k) → (∀ r, r < 6 → σ 3 r = enc τ g' r) → K σ x) : ∀ (n r : Nat) (σ : St), r + n = 6 → (∀ k, k ≠ 3 → σ k = σ0 k) → (∀ q, q < r → σ 3 q = enc τ g' q) → (∀ q, r ≤ q → σ 3 q = σ0 3 q) → w_bSqueeze_10 K (n + 1) σ (nI r) := by
  intro n
  induction n with
  | zero =>
    intro r σ hr hk h1 h2
    have : r = 6 := by omega
    subst this
    rw [w_bSqueeze_10]
    exact ⟨fun _ => hK σ _ hk h1, fun z => absurd (show (6 : Int32) ≤ nI 6 by decide) z⟩
  | succ n ih =>
    intro r σ hr hk h1 h2
    rw [w_bSqueeze_10]
    refine ⟨fun z => absurd z (by rw [show (6 : Int32) = nI 6 from rfl, nI_leI (by omega) (by omega)]; omega), fun _ => ⟨nIin (by omega) (by omega), ?_⟩⟩
    rw [nIc (by omega), nI_1, hk 4 (by decide), h2 r (Nat.le_refl _)]
    rcases h4 r (by omega) with ⟨a1, a2, a3⟩ | ⟨a1, a2, c, hc, a3, a4, a5, a6⟩
    · refine ⟨fun _ => ih (r + 1) σ (by omega) hk (fun q hq => ?_) (fun q hq => h2 q (by omega)), fun z => absurd a1 z⟩
      by_cases e : q = r
      · subst e; rw [h2 q (Nat.le_refl _), a3, enc0 a2]
      · exact h1 q (by omega)
    · refine ⟨fun z => absurd (a1.symm.trans z) one_ne, fun _ => ⟨nIin (by omega) (by omega), ?_⟩⟩
      rw [a4]
      refine bMoved_ok (nb := nb) (y := g' c) (by rw [hk 8 (by decide)]; exact h8) hnb (by omega) (Mv_congr (hk 9 (by decide)) (hk 10 (by decide)) a6) ⟨nIin (by omega) (by omega), fun σ3 e3 => ?_⟩
      refine ih (r + 1) σ3 (by omega) (fun k h => by rw [e3, up2_k h]; exact hk k h) (fun q hq => ?_) (fun q hq => ?_)
      · rw [e3, up2_app]
        by_cases e : q = r
        · subst e
          rw [if_pos ⟨rfl, rfl⟩, enc1 a2 a3 (by omega)]
        · rw [if_neg (fun z => e z.2)]; exact h1 q (by omega)
      · rw [e3, up2_j (by omega)]; exact h2 q (by omega)
/-- the fields of a record that is not reached stay -/
theorem bMend32n {σ : St} {A s : Nat} {x2 : Int32} {K : St → Int32 → Prop} (hA : A + s < 100) (hA2 : A < 72) (h5 : σ 5 A = 0) (hK : ∀ x, K σ x) : ∀ (n k : Nat), k + n = s → w_bMendFields_32 (nI A) x2 (nI s) K (n + 1) σ (nI (A + k)) := by
  intro n
  induction n with
  | zero =>
    intro k hk
    rw [w_bMendFields_32, nI_add]
    exact ⟨fun _ => hK _, fun z => absurd (nI_le (by omega) (by omega)) z⟩
  | succ n ih =>
    intro k hk
    rw [w_bMendFields_32, nI_add, nIc (n := A) (by omega), nI_1]
    exact ⟨fun _ => hK _, fun _ => ⟨nIin hA2 (by omega), fun _ => ih (k + 1) (by omega), fun z => absurd h5 z⟩⟩
/-- the fields of a reached record are mended -/
theorem bMend32r {σ0 τ : St} {g g' : Nat → Nat} {nb A c : Nat} {x2 : Int32} {K : St → Int32 → Prop} (hf6 : fo τ c ≤ 6) (hA : A + fo τ c < 72) (h5 : σ0 5 A = 1) (h8 : σ0 8 0 = nI nb) (hnb : nb ≤ 36) (hr : recAt σ0 τ g A c) (hv : ∀ k, k < fo τ c → τ 0 (6 + 6 * c + k) = 0 ∨ (τ 0 (6 + 6 * c + k) = 1 ∧ ∃ n, n < 36 ∧ τ 1 (6 + 6 * c + k) = nI n ∧ g n < 72 ∧ Mv σ0 nb (g n) (g' n))) (hK : ∀ σ x, (∀ k, k ≠ 1 → σ k = σ0 k) → (∀ z, z ≤ A ∨ A + fo τ c < z → σ 1 z = σ0 1 z) → recAt σ τ g' A c → K σ x) :
    ∀ (n k : Nat) (σ : St), k + n = fo τ c → (∀ u, u ≠ 1 → σ u = σ0 u) → (∀ z, z ≤ A ∨ A + k < z → σ 1 z = σ0 1 z) → (∀ q, q < k → σ 1 (A + 1 + q) = enc τ g' (6 + 6 * c + q)) → w_bMendFields_32 (nI A) x2 (nI (fo τ c + 1)) K (n + 1) σ (nI (A + 1 + k)) := by
  intro n
  induction n with
  | zero =>
    intro k σ hk h1 h2 h3
    rw [w_bMendFields_32, nI_add]
    refine ⟨fun _ => hK σ _ h1 (fun z hz => h2 z (by omega)) ⟨by rw [h2 A (by omega)]; exact hr.1, fun q hq => ⟨by rw [h1 2 (by decide)]; exact (hr.2 q hq).1, h3 q (by omega)⟩⟩, fun z => absurd (nI_le (by omega) (by omega)) z⟩
  | succ n ih =>
    intro k σ hk h1 h2 h3
    have hk' : k < fo τ c := by omega
    obtain ⟨r2, r1⟩ := hr.2 k hk'
    rw [w_bMendFields_32, nI_add, nIc (n := A) (by omega), nIc (n := A + 1 + k) (by omega), nI_1, h1 5 (by decide), h5, h1 2 (by decide), r2, h2 (A + 1 + k) (by omega), r1]
    refine ⟨fun z => absurd z (by rw [nI_leI (by omega) (by omega)]; omega), fun _ => ⟨nIin (by omega) (by omega), fun z => absurd z one_ne, fun _ => ⟨nIin (by omega) (by omega), ?_⟩⟩⟩
    rcases hv k hk' with a2 | ⟨a2, d, hd, a3, a4, a5⟩
    · refine ⟨fun _ => ih (k + 1) σ (by omega) h1 (fun z hz => h2 z (by omega)) (fun q hq => ?_), fun z => absurd a2 z⟩
      by_cases e : q = k
      · subst e; rw [h2 (A + 1 + q) (by omega), r1, enc0 a2, enc0 a2]
      · exact h3 q (by omega)
    · refine ⟨fun z => absurd (a2.symm.trans z) one_ne, fun _ => ⟨nIin (by omega) (by omega), ?_⟩⟩
      rw [enc1 a2 a3 (by omega)]
      refine bMoved_ok (nb := nb) (y := g' d) (by rw [h1 8 (by decide)]; exact h8) hnb (by omega) (Mv_congr (h1 9 (by decide)) (h1 10 (by decide)) a5) ⟨nIin (by omega) (by omega), fun σ3 e3 => ?_⟩
      refine ih (k + 1) σ3 (by omega) (fun u hu => by rw [e3, up2_k hu]; exact h1 u hu) (fun z hz => by rw [e3, up2_j (by omega)]; exact h2 z (by omega)) (fun q hq => ?_)
      rw [e3, up2_app]
      by_cases e : q = k
      · subst e
        rw [if_pos ⟨rfl, rfl⟩, enc1 a2 a3 (by omega)]
      · rw [if_neg (fun z => e (by omega))]; exact h3 q (by omega)
theorem recAt_keep {σ σ' τ : St} {g : Nat → Nat} {x i : Nat} (h1 : ∀ z, x ≤ z → z ≤ x + fo τ i → σ' 1 z = σ 1 z) (h2 : ∀ z, x ≤ z → z ≤ x + fo τ i → σ' 2 z = σ 2 z) (h : recAt σ τ g x i) : recAt σ' τ g x i := by
  refine ⟨by rw [h1 x (by omega) (by omega)]; exact h.1, fun k hk => ?_⟩
  rw [h1 _ (by omega) (by omega), h2 _ (by omega) (by omega)]
  exact h.2 k hk
theorem bMend4 {σ0 τ : St} {ns : List Nat} {p : Nat → Bool} {nb : Nat} {g' : Nat → Nat} {K : St → Int32 → Int32 → Prop} (hW : WF τ ns) (hs : sz (fo τ) ns ≤ 72) (h0 : σ0 0 0 = nI (sz (fo τ) ns)) (hrec : ∀ i, i ∈ ns → recAt σ0 τ (adr (fo τ) ns) (adr (fo τ) ns i) i) (h5 : ∀ i, i ∈ ns → σ0 5 (adr (fo τ) ns i) = if p i = true then 1 else 0) (h8 : σ0 8 0 = nI nb) (hnb : nb ≤ 36) (hmv : ∀ i, i ∈ ns → p i = true → Mv σ0 nb (adr (fo τ) ns i) (g' i)) (hcl : ∀ i k c, i ∈ ns → p i = true → k < fo τ i → τ 0 (6 + 6 * i + k) = 1 → c ∈ ns → τ 1 (6 + 6 * i + k) = nI c → p c = true) (hK : ∀ σ x1 x2, (∀ k, k ≠ 1 → σ k = σ0 k) → (∀ i, i ∈ ns → σ 1 (adr (fo τ) ns i) = τ 2 i) → (∀ i, i ∈ ns → p i = true → recAt σ τ g' (adr (fo τ) ns i) i) → K σ x1 x2) :
    ∀ (rest pre : List Nat) (σ : St), ns = pre ++ rest → (∀ k, k ≠ 1 → σ k = σ0 k) → (∀ i, i ∈ ns → σ 1 (adr (fo τ) ns i) = τ 2 i) → (∀ i, i ∈ pre → p i = true → recAt σ τ g' (adr (fo τ) ns i) i) → (∀ i, i ∈ rest → recAt σ τ (adr (fo τ) ns) (adr (fo τ) ns i) i) → w_bMendFields_4 K (rest.length + 1) σ (nI (sz (fo τ) pre)) (nI pre.length) := by
  have h36 := hW.len hs
  intro rest
  induction rest with
  | nil =>
    intro pre σ hns hk hh hd hr
    rw [List.append_nil] at hns
    subst hns
    rw [List.length_nil, w_bMendFields_4]
    have hk' := hK σ (nI (sz (fo τ) ns)) (nI ns.length) hk hh hd
    refine ⟨fun _ => hk', fun _ => ⟨fun _ => hk', fun z => absurd ?_ z⟩⟩
    rw [hk 0 (by decide), h0]
    exact nI_le (Nat.le_refl _) (by omega)
  | cons c rest ih =>
    intro pre σ hns hk hh hd hr
    have hc : c ∈ ns := by rw [hns]; simp
    have hnd : c ∉ pre := by
      have h1 := hW.1
      rw [hns] at h1
      exact fun z => (List.nodup_append.mp h1).2.2 c z c List.mem_cons_self rfl
    have hnr : c ∉ rest := by
      have h1 := hW.1
      rw [hns] at h1
      exact (List.nodup_cons.mp (List.nodup_append.mp h1).2.1).1
    have hadr : adr (fo τ) ns c = sz (fo τ) pre := by rw [hns]; exact adr_split hnd
    have hlen : ns.length = pre.length + (rest.length + 1) := by rw [hns]; simp
    have hend := adr_end (f := fo τ) hc
    have hf := hW.fld hc
    have hs1 : sz (fo τ) (pre ++ [c]) = sz (fo τ) pre + (fo τ c + 1) := by rw [sz_app]; simp [sz]
    have hns' : ns = (pre ++ [c]) ++ rest := by rw [hns]; simp
    have hlen' : (pre ++ [c]).length = pre.length + 1 := by simp
    have hpre : ∀ i, i ∈ pre → i ∈ ns := fun i hi => by rw [hns]; exact List.mem_append_left _ hi
    have hrest : ∀ i, i ∈ rest → i ∈ ns := fun i hi => by rw [hns]; exact List.mem_append_right _ (List.mem_cons_of_mem _ hi)
    rw [List.length_cons, w_bMendFields_4]
    refine ⟨fun z => absurd z (by rw [show (37 : Int32) = nI 37 from rfl, nI_leI (by omega) (by omega)]; omega), fun _ => ⟨fun z => absurd z (by rw [hk 0 (by decide), h0, nI_leI (by omega) (by omega)]; omega), fun _ => ?_⟩⟩
    have hhc := hh c hc
    rw [hadr] at hhc
    rw [nIc (n := sz (fo τ) pre) (by omega), hhc, hf.2.2, nI_1, nI_1]
    refine ⟨nIin (by omega) (by omega), fun v8 e8 v9 e9 => ?_⟩
    subst e8 e9
    by_cases hp : p c = true
    · refine ⟨fo τ c + 1, ?_⟩
      have h5c := h5 c hc
      rw [if_pos hp, hadr] at h5c
      have hrc := hr c List.mem_cons_self
      rw [hadr] at hrc
      have hz : nI (sz (fo τ) pre + 1) = nI (sz (fo τ) pre + 1 + 0) := rfl
      rw [hz]
      refine bMend32r (σ0 := σ) (g := adr (fo τ) ns) (g' := g') (nb := nb) hf.2.1 (by omega) (by rw [hk 5 (by decide)]; exact h5c) (by rw [hk 8 (by decide)]; exact h8) hnb hrc (fun k hk' => ?_) (fun σ' x e1 e2 e3 => ?_) (fo τ c) 0 σ (by omega) (fun _ _ => rfl) (fun _ _ => rfl) (fun q hq => absurd hq (by omega))
      · rcases hW.2.2.2 c hc k hk' with a2 | ⟨a2, d, hd', a3⟩
        · exact Or.inl a2
        · have := adr_end (f := fo τ) hd'
          exact Or.inr ⟨a2, d, hW.lt hd', a3, by omega, Mv_congr (hk 9 (by decide)) (hk 10 (by decide)) (hmv d hd' (hcl c k d hc hp hk' a2 hd' a3))⟩
      · intro v13 e13
        rw [nI_add, ← hs1] at e13
        subst e13
        rw [nI_1, ← hlen']
        have hoff : ∀ i, i ∈ ns → i ≠ c → ∀ z, adr (fo τ) ns i ≤ z → z ≤ adr (fo τ) ns i + fo τ i → σ' 1 z = σ 1 z := by
          intro i hi hic z z1 z2
          have := adr_disj (f := fo τ) hi hc hic
          rw [hadr] at this
          exact e2 z (by omega)
        refine ih (pre ++ [c]) σ' hns' (fun k h => (e1 k h).trans (hk k h)) (fun i hi => ?_) (fun i hi hpi => ?_) (fun i hi => ?_)
        · by_cases e : i = c
          · subst e; rw [hadr]; exact e3.1
          · rw [hoff i hi e _ (Nat.le_refl _) (by omega)]; exact hh i hi
        · rcases List.mem_append.mp hi with h | h
          · have hic : i ≠ c := fun e => hnd (by rw [← e]; exact h)
            exact recAt_keep (hoff i (hpre i h) hic) (fun z _ _ => by rw [e1 2 (by decide)]) (hd i h hpi)
          · rw [List.mem_singleton.mp h, hadr]; exact e3
        · have hic : i ≠ c := fun e => hnr (by rw [← e]; exact hi)
          exact recAt_keep (hoff i (hrest i hi) hic) (fun z _ _ => by rw [e1 2 (by decide)]) (hr i (List.mem_cons_of_mem _ hi))
    · refine ⟨fo τ c + 1, ?_⟩
      have h5c := h5 c hc
      rw [if_neg hp, hadr] at h5c
      refine bMend32n (σ := σ) (A := sz (fo τ) pre) (s := fo τ c + 1) (by omega) (by omega) (by rw [hk 5 (by decide)]; exact h5c) (fun x => ?_) (fo τ c) 1 (by omega)
      intro v13 e13
      rw [nI_add, ← hs1] at e13
      subst e13
      rw [nI_1, ← hlen']
      refine ih (pre ++ [c]) σ hns' hk hh (fun i hi hpi => ?_) (fun i hi => hr i (List.mem_cons_of_mem _ hi))
      rcases List.mem_append.mp hi with h | h
      · exact hd i h hpi
      · rw [List.mem_singleton.mp h] at hpi; exact absurd hpi hp
/-- one record is copied down -/
theorem bSlide46 {σ0 : St} {T A s : Nat} {x3 x4 : Int32} {K : St → Int32 → Prop} (hTA : T ≤ A) (hA : A + s ≤ 72) (hK : ∀ σ x, (∀ u, u ≠ 1 → u ≠ 2 → σ u = σ0 u) → (∀ q, q < s → σ 1 (T + q) = σ0 1 (A + q) ∧ σ 2 (T + q) = vp_nar .boolean (σ0 2 (A + q))) → (∀ z, z < T ∨ T + s ≤ z → σ 1 z = σ0 1 z ∧ σ 2 z = σ0 2 z) → K σ x) :
    ∀ (n k : Nat) (σ : St), k + n = s → (∀ u, u ≠ 1 → u ≠ 2 → σ u = σ0 u) → (∀ q, q < k → σ 1 (T + q) = σ0 1 (A + q) ∧ σ 2 (T + q) = vp_nar .boolean (σ0 2 (A + q))) → (∀ z, z < T ∨ T + k ≤ z → σ 1 z = σ0 1 z ∧ σ 2 z = σ0 2 z) → w_bSlideDown_46 (nI T) (nI A) x3 x4 (nI s) K (n + 1) σ (nI k) := by
  intro n
  induction n with
  | zero =>
    intro k σ hk h1 h2 h3
    have : k = s := by omega
    subst this
    rw [w_bSlideDown_46]
    exact ⟨fun _ => hK σ _ h1 h2 h3, fun z => absurd (nI_le (Nat.le_refl _) (by omega)) z⟩
  | succ n ih =>
    intro k σ hk h1 h2 h3
    rw [w_bSlideDown_46, nI_add, nI_add, nIc (n := A + k) (by omega), nIc (n := T + k) (by omega), nI_1]
    refine ⟨fun z => absurd z (by rw [nI_leI (by omega) (by omega)]; omega), fun _ => ⟨nIin (by omega) (by omega), nIin (by omega) (by omega), fun σ1 e1 => ⟨nIin (by omega) (by omega), nIin (by omega) (by omega), fun σ3 e3 => ?_⟩⟩⟩
    have hsrc := h3 (A + k) (by omega)
    rw [hsrc.1] at e1
    rw [show σ1 2 (A + k) = σ0 2 (A + k) by rw [e1, up2_k (by decide)]; exact hsrc.2] at e3
    have g1 : ∀ z, σ3 1 z = if z = T + k then σ0 1 (A + k) else σ 1 z := by
      intro z; rw [e3, e1]; simp [up2_app]
    have g2 : ∀ z, σ3 2 z = if z = T + k then vp_nar .boolean (σ0 2 (A + k)) else σ 2 z := by
      intro z; rw [e3, e1]; simp [up2_app]
    refine ih (k + 1) σ3 (by omega) (fun u a b => by rw [e3, up2_k b, e1, up2_k a]; exact h1 u a b) (fun q hq => ?_) (fun z hz => ?_)
    · rw [g1, g2]
      by_cases e : q = k
      · subst e; rw [if_pos rfl, if_pos rfl]; exact ⟨rfl, rfl⟩
      · rw [if_neg (by omega), if_neg (by omega)]; exact h2 q (by omega)
    · rw [g1, g2, if_neg (by omega), if_neg (by omega)]; exact h3 z (by omega)
theorem bSlide12 {σ0 τ : St} {ns : List Nat} {p : Nat → Bool} {g' : Nat → Nat} {K : St → Int32 → Int32 → Int32 → Prop} (hW : WF τ ns) (hs : sz (fo τ) ns ≤ 72) (hh : ∀ i, i ∈ ns → σ0 1 (adr (fo τ) ns i) = τ 2 i) (h5 : ∀ i, i ∈ ns → σ0 5 (adr (fo τ) ns i) = if p i = true then 1 else 0) (hrec : ∀ i, i ∈ ns → p i = true → recAt σ0 τ g' (adr (fo τ) ns i) i) (hK : ∀ σ x2 x4, (∀ k, k ≠ 1 → k ≠ 2 → σ k = σ0 k) → (∀ i, i ∈ ns → p i = true → recAt σ τ g' (adr (fo τ) (ns.filter p) i) i) → K σ (nI (sz (fo τ) (ns.filter p))) x2 x4) :
    ∀ (rest pre : List Nat) (σ : St), ns = pre ++ rest → (∀ k, k ≠ 1 → k ≠ 2 → σ k = σ0 k) → (∀ z, sz (fo τ) pre ≤ z → σ 1 z = σ0 1 z ∧ σ 2 z = σ0 2 z) → (∀ i, i ∈ pre → p i = true → recAt σ τ g' (adr (fo τ) (ns.filter p) i) i) → w_bSlideDown_12 (nI (sz (fo τ) ns)) K (rest.length + 1) σ (nI (sz (fo τ) (pre.filter p))) (nI (sz (fo τ) pre)) (nI pre.length) := by
  have h36 := hW.len hs
  intro rest
  induction rest with
  | nil =>
    intro pre σ hns hk hu hd
    rw [List.append_nil] at hns
    subst hns
    rw [List.length_nil, w_bSlideDown_12]
    have hk' := hK σ (nI (sz (fo τ) ns)) (nI ns.length) hk hd
    exact ⟨fun _ => hk', fun _ => ⟨fun _ => hk', fun z => absurd (nI_le (Nat.le_refl _) (by omega)) z⟩⟩
  | cons c rest ih =>
    intro pre σ hns hk hu hd
    have hc : c ∈ ns := by rw [hns]; simp
    have hnd : c ∉ pre := by
      have h1 := hW.1
      rw [hns] at h1
      exact fun z => (List.nodup_append.mp h1).2.2 c z c List.mem_cons_self rfl
    have hadr : adr (fo τ) ns c = sz (fo τ) pre := by rw [hns]; exact adr_split hnd
    have hlen : ns.length = pre.length + (rest.length + 1) := by rw [hns]; simp
    have hend := adr_end (f := fo τ) hc
    have hf := hW.fld hc
    have hs1 : sz (fo τ) (pre ++ [c]) = sz (fo τ) pre + (fo τ c + 1) := by rw [sz_app]; simp [sz]
    have hns' : ns = (pre ++ [c]) ++ rest := by rw [hns]; simp
    have hlen' : (pre ++ [c]).length = pre.length + 1 := by simp
    have hfl := sz_filter_le (fo τ) p pre
    rw [List.length_cons, w_bSlideDown_12]
    refine ⟨fun z => absurd z (by rw [show (37 : Int32) = nI 37 from rfl, nI_leI (by omega) (by omega)]; omega), fun _ => ⟨fun z => absurd z (by rw [nI_leI (by omega) (by omega)]; omega), fun _ => ?_⟩⟩
    have hhc := hh c hc
    have h5c := h5 c hc
    rw [hadr] at hhc h5c
    rw [nIc (n := sz (fo τ) pre) (by omega), (hu _ (Nat.le_refl _)).1, hhc, hf.2.2, nI_1, hk 5 (by decide) (by decide), h5c]
    refine ⟨nIin (by omega) (by omega), fun v7 e7 => ⟨nIin (by omega) (by omega), ?_⟩⟩
    subst e7
    by_cases hp : p c = true
    · rw [if_pos hp]
      have hfil := adr_filter (f := fo τ) (p := p) (rest := rest) hnd hp
      rw [← hns] at hfil
      have hs2 : sz (fo τ) ((pre ++ [c]).filter p) = sz (fo τ) (pre.filter p) + (fo τ c + 1) := by rw [filter_snoc_t hp, sz_app]; simp [sz]
      refine ⟨fun z => absurd z one_ne, fun _ => ⟨fo τ c + 1 + 1, ?_⟩⟩
      rw [show (0 : Int32) = nI 0 from rfl]
      refine bSlide46 (σ0 := σ) (T := sz (fo τ) (pre.filter p)) (A := sz (fo τ) pre) (s := fo τ c + 1) hfl (by omega) (fun σ' x e1 e2 e3 => ?_) (fo τ c + 1) 0 σ (by omega) (fun _ _ _ => rfl) (fun q hq => absurd hq (by omega)) (fun _ _ => ⟨rfl, rfl⟩)
      intro v12 e12 v13 e13
      rw [nI_add, ← hs2] at e12
      rw [nI_add, ← hs1] at e13
      subst e12 e13
      rw [nI_1, ← hlen']
      refine ih (pre ++ [c]) σ' hns' (fun k a b => (e1 k a b).trans (hk k a b)) (fun z hz => ?_) (fun i hi hpi => ?_)
      · have h3 := e3 z (by omega)
        have h4 := hu z (by omega)
        exact ⟨h3.1.trans h4.1, h3.2.trans h4.2⟩
      · rcases List.mem_append.mp hi with h | h
        · have hm : i ∈ pre.filter p := List.mem_filter.mpr ⟨h, hpi⟩
          have he := adr_end (f := fo τ) hm
          have ha : adr (fo τ) (ns.filter p) i = adr (fo τ) (pre.filter p) i := by
            rw [hns, List.filter_append]; exact adr_app hm
          have hdi := hd i h hpi
          rw [ha] at hdi ⊢
          exact recAt_keep (fun z z1 z2 => (e3 z (by omega)).1) (fun z z1 z2 => (e3 z (by omega)).2) hdi
        · rw [List.mem_singleton.mp h, hfil]
          have hrc := hrec c hc hp
          rw [hadr] at hrc
          refine ⟨?_, fun k hk' => ?_⟩
          · have h3 := (e2 0 (by omega)).1
            rw [Nat.add_zero, Nat.add_zero] at h3
            rw [h3, (hu _ (Nat.le_refl _)).1]; exact hrc.1
          · have h3 := e2 (1 + k) (by omega)
            have h4 := hu (sz (fo τ) pre + (1 + k)) (by omega)
            have h6 := hrc.2 k hk'
            rw [Nat.add_assoc] at h6
            rw [Nat.add_assoc, h3.1, h3.2, h4.1, h4.2, h6.1, h6.2]
            exact ⟨nzb (hW.2.2.2 c hc k hk').b, rfl⟩
    · rw [if_neg hp]
      have hs2 : sz (fo τ) (pre.filter p) = sz (fo τ) ((pre ++ [c]).filter p) := by rw [filter_snoc_f hp]
      refine ⟨fun _ => ?_, fun z => absurd rfl z⟩
      intro v8 e8
      rw [nI_add, ← hs1] at e8
      subst e8
      rw [nI_1, ← hlen', hs2]
      refine ih (pre ++ [c]) σ hns' hk (fun z hz => hu z (by omega)) (fun i hi hpi => ?_)
      rcases List.mem_append.mp hi with h | h
      · exact hd i h hpi
      · rw [List.mem_singleton.mp h] at hpi; exact absurd hpi hp
theorem WF_filter {τ : St} {ns : List Nat} {p : Nat → Bool} (hW : WF τ ns) (hL : Clo τ ns (fun i => p i = true)) : WF τ (ns.filter p) := by
  have hm : ∀ i, i ∈ ns.filter p → i ∈ ns ∧ p i = true := fun i hi => List.mem_filter.mp hi
  refine ⟨hW.1.sublist List.filter_sublist, fun i hi => hW.2.1 i (hm i hi).1, fun r hr => ?_, fun i hi k hk => ?_⟩
  · rcases hW.2.2.1 r hr with h | ⟨h, c, hc, h2⟩
    · exact Or.inl h
    · exact Or.inr ⟨h, c, List.mem_filter.mpr ⟨hc, hL.1 r c hr h hc h2⟩, h2⟩
  · obtain ⟨h1, h2⟩ := hm i hi
    rcases hW.2.2.2 i h1 k hk with h | ⟨h, c, hc, h3⟩
    · exact Or.inl h
    · exact Or.inr ⟨h, c, List.mem_filter.mpr ⟨hc, hL.2 i k c h1 h2 hk h hc h3⟩, h3⟩
theorem bSqueeze_ok {σ τ : St} {ns : List Nat} {P : St → Prop} (hW : WF τ ns) (hB : RB σ τ ns) (hP : ∀ σ' p, Lst τ ns p → WF τ (ns.filter p) → RB σ' τ (ns.filter p) → P σ') : w_bSqueeze P σ := by
  unfold w_bSqueeze
  refine bMark_ok hW hB (fun σ7 p hL h5 hk7 => ?_)
  have hB7 : RB σ7 τ ns := ⟨hB.1, by rw [hk7 0 (by omega)]; exact hB.2.1, fun r hr => by rw [hk7 4 (by omega), hk7 3 (by omega)]; exact hB.2.2.1 r hr, fun i hi => by unfold recAt; rw [hk7 1 (by omega), hk7 2 (by omega)]; exact hB.2.2.2 i hi⟩
  refine bList_ok hW hB7 h5 (fun σ8 nb hk8 h8 hnb hmv => ?_)
  refine ⟨7, ?_⟩
  rw [show (0 : Int32) = nI 0 from rfl]
  refine bSqueeze10 (σ0 := σ8) (τ := τ) (g := adr (fo τ) ns) (g' := adr (fo τ) (ns.filter p)) (nb := nb) h8 hnb (fun r hr => ?_) (fun σ10 x hk10 h3 => ?_) 6 0 σ8 rfl (fun _ _ => rfl) (fun q hq => absurd hq (by omega)) (fun _ _ => rfl)
  · rw [hk8 4 (by omega), hk8 3 (by omega)]
    rcases reg_ref hW hB7 hr with h | ⟨a1, a2, c, hc, a3, a4⟩
    · exact Or.inl h
    · have := adr72 hB7 hc
      exact Or.inr ⟨a1, a2, c, hW.lt hc, a3, a4, by omega, hmv c hc (hL.1.1 r c hr a2 hc a3)⟩
  have h5' : ∀ i, i ∈ ns → σ10 5 (adr (fo τ) ns i) = if p i = true then 1 else 0 := fun i hi => by rw [hk10 5 (by decide), hk8 5 (by omega)]; exact h5 i hi
  have h0' : σ10 0 0 = nI (sz (fo τ) ns) := by rw [hk10 0 (by decide), hk8 0 (by omega)]; exact hB7.2.1
  have hrec' : ∀ i, i ∈ ns → recAt σ10 τ (adr (fo τ) ns) (adr (fo τ) ns i) i := fun i hi => by unfold recAt; rw [hk10 1 (by decide), hk10 2 (by decide), hk8 1 (by omega), hk8 2 (by omega)]; exact hB7.2.2.2 i hi
  refine ⟨ns.length + 1, ?_⟩
  refine bMend4 (σ0 := σ10) (p := p) (nb := nb) (g' := adr (fo τ) (ns.filter p)) hW hB.1 h0' hrec' h5' (by rw [hk10 8 (by decide)]; exact h8) hnb (fun i hi hp => Mv_congr (hk10 9 (by decide)) (hk10 10 (by decide)) (hmv i hi hp)) (fun i k c a1 a2 a3 a4 a5 a6 => hL.1.2 i k c a1 a2 a3 a4 a5 a6) (fun σ12 x1 x2 hk12 hh12 hr12 => ?_) ns [] σ10 rfl (fun _ _ => rfl) (fun i hi => (hrec' i hi).1) (fun i hi => by cases hi) hrec'
  intro v16 e16
  rw [hk12 0 (by decide), h0'] at e16
  subst e16
  refine ⟨ns.length + 1, ?_⟩
  refine bSlide12 (σ0 := σ12) (p := p) (g' := adr (fo τ) (ns.filter p)) hW hB.1 hh12 (fun i hi => by rw [hk12 5 (by decide)]; exact h5' i hi) hr12 (fun σ18 x2 x4 hk18 hr18 => ?_) ns [] σ12 rfl (fun _ _ _ => rfl) (fun _ _ => ⟨rfl, rfl⟩) (fun i hi => by cases hi)
  intro σ22 e22
  have hle := sz_filter_le (fo τ) p ns
  refine hP σ22 p hL (WF_filter hW hL.1) ⟨Nat.le_trans hle hB.1, by rw [e22, up2_s], fun r hr => ?_, fun i hi => ?_⟩
  · rw [e22, up2_k (by decide), up2_k (by decide), hk18 4 (by decide) (by decide), hk18 3 (by decide) (by decide), hk12 4 (by decide), hk12 3 (by decide), hk10 4 (by decide), hk8 4 (by omega)]
    exact ⟨(hB7.2.2.1 r hr).1, h3 r hr⟩
  · obtain ⟨h1, h2⟩ := List.mem_filter.mp hi
    unfold recAt
    rw [e22, up2_k (by decide), up2_k (by decide)]
    exact hr18 i h1 h2
end
section
/-! PLAIN LAW, 6: the Model's used, unused, mark, collect -/
def us (f : Nat → Nat) : Nat → Nat
  | 0 => 0
  | n + 1 => us f n + (if f n = 0 then 0 else f n + 1)
theorem us_le {f : Nat → Nat} {n : Nat} (h : ∀ i, i < n → f i ≤ 6) : us f n ≤ 7 * n := by
  induction n with
  | zero => simp [us]
  | succ n ih =>
    have h1 := ih (fun i hi => h i (by omega))
    have h2 := h n (by omega)
    simp only [us]
    split <;> omega
theorem us_ge {f : Nat → Nat} {n : Nat} (h : ∀ i, i < n → ¬ f i = 0) : 2 * n ≤ us f n := by
  induction n with
  | zero => simp [us]
  | succ n ih =>
    have h1 := ih (fun i hi => h i (by omega))
    have h2 := h n (by omega)
    simp only [us]
    rw [if_neg h2]; omega
theorem sz_perm {f : Nat → Nat} {l l' : List Nat} (h : l.Perm l') : sz f l = sz f l' := by
  induction h with
  | nil => rfl
  | cons x _ ih => simp only [sz]; omega
  | swap x y l => simp only [sz]; omega
  | trans _ _ ih1 ih2 => exact ih1.trans ih2
theorem us_sz (f : Nat → Nat) (n : Nat) : us f n = sz f ((List.range n).filter (fun i => decide (¬ f i = 0))) := by
  induction n with
  | zero => simp [us, sz]
  | succ n ih =>
    rw [List.range_succ, List.filter_append, sz_app, ← ih]
    simp only [us]
    by_cases h : f n = 0
    · simp [h, sz]
    · simp [h, sz]
theorem fo0 {τ : St} {i : Nat} (h : τ 2 i = 0) : fo τ i = 0 := by
  show (τ 2 i).toNatClampNeg = 0
  rw [h]; rfl
def GM (τ : St) : Prop := ∀ i, i < 36 → fo τ i ≤ 6 ∧ τ 2 i = nI (fo τ i)
theorem GM.of {τ : St} {ns : List Nat} (hW : WF τ ns) (hE : EX τ ns) : GM τ := by
  intro i hi
  by_cases h : τ 2 i = 0
  · rw [fo0 h]
    exact ⟨by omega, h⟩
  · have := hW.fld (hE i hi h)
    exact ⟨this.2.1, this.2.2⟩
theorem WF.ne {τ : St} {ns : List Nat} (hW : WF τ ns) {i : Nat} (hi : i ∈ ns) : ¬ τ 2 i = 0 := fun h => by
  have h1 := (hW.fld hi).1
  rw [fo0 h] at h1
  omega
theorem us_eq {τ : St} {ns : List Nat} (hW : WF τ ns) (hE : EX τ ns) : us (fo τ) 36 = sz (fo τ) ns := by
  rw [us_sz]
  refine sz_perm ((List.perm_ext_iff_of_nodup ?_ hW.1).mpr (fun i => ?_))
  · exact List.nodup_range.sublist List.filter_sublist
  · rw [List.mem_filter, List.mem_range]
    constructor
    · intro ⟨h1, h2⟩
      exact hE i h1 (fun z => of_decide_eq_true h2 (fo0 z))
    · intro h
      refine ⟨hW.lt h, decide_eq_true ?_⟩
      have := (hW.fld h).1
      omega
theorem mUsed4 {τ : St} {K : St → Int32 → Int32 → Prop} (hG : GM τ) (hK : ∀ z, K τ (nI (us (fo τ) 36)) z) : ∀ (n i : Nat), i + n = 36 → w_mUsed_4 K (n + 1) τ (nI (us (fo τ) i)) (nI i) := by
  intro n
  induction n with
  | zero =>
    intro i hi
    have : i = 36 := by omega
    subst this
    rw [w_mUsed_4]
    exact ⟨fun _ => hK _, fun z => absurd (show (36 : Int32) ≤ nI 36 by decide) z⟩
  | succ n ih =>
    intro i hi
    obtain ⟨g1, g2⟩ := hG i (by omega)
    have hu := us_le (f := fo τ) (n := i) (fun j hj => (hG j (by omega)).1)
    rw [w_mUsed_4, nIc (n := i) (by omega), g2, nI_1, nI_1]
    refine ⟨fun z => absurd z (by rw [show (36 : Int32) = nI 36 from rfl, nI_leI (by omega) (by omega)]; omega), fun _ => ⟨nIin (by omega) (by omega), fun z => ?_, fun z => ⟨nIin (by omega) (by omega), fun v1 e1 => ?_⟩⟩⟩
    · have h0 : fo τ i = 0 := by
        rcases Nat.eq_zero_or_pos (fo τ i) with q | q
        · exact q
        · exact absurd z (nI_nle q (by omega))
      have e : us (fo τ) i = us (fo τ) (i + 1) := by simp [us, h0]
      rw [e]
      exact ih (i + 1) (by omega)
    · have h0 : ¬ fo τ i = 0 := fun q => z (by rw [q]; decide)
      have e : us (fo τ) i + (fo τ i + 1) = us (fo τ) (i + 1) := by simp only [us]; rw [if_neg h0]
      rw [nI_add, e] at e1
      subst e1
      exact ih (i + 1) (by omega)
theorem mUsed_ok {τ : St} {ns : List Nat} {P : Int32 → St → Prop} (hW : WF τ ns) (hE : EX τ ns) (hP : P (nI (sz (fo τ) ns)) τ) : w_mUsed P τ := by
  rw [← us_eq hW hE] at hP
  exact ⟨37, mUsed4 (GM.of hW hE) (fun _ => hP) 36 0 rfl⟩
theorem mUnused2 {τ : St} {K1 K2 : St → Int32 → Prop} {j : Nat} (hj : j < 36) (hj0 : τ 2 j = 0) (hK : ∀ i, i < 36 → τ 2 i = 0 → K2 τ (nI i)) : ∀ (n i : Nat), i + n = 36 → i ≤ j → w_mUnused_2 K1 K2 (n + 1) τ (nI i) := by
  intro n
  induction n with
  | zero => intro i hi hij; omega
  | succ n ih =>
    intro i hi hij
    rw [w_mUnused_2, nIc (n := i) (by omega), nI_1]
    refine ⟨fun z => absurd z (by rw [show (36 : Int32) = nI 36 from rfl, nI_leI (by omega) (by omega)]; omega), fun _ => ⟨nIin (by omega) (by omega), fun z => hK i (by omega) z, fun z => ih (i + 1) (by omega) ?_⟩⟩
    rcases Nat.lt_or_ge i j with q | q
    · omega
    · have : i = j := by omega
      subst this
      exact absurd hj0 z
theorem mUnused_ok {τ : St} {ns : List Nat} {P : Int32 → St → Prop} (hW : WF τ ns) (hE : EX τ ns) (hs : sz (fo τ) ns < 72) (hP : ∀ i, i < 36 → i ∉ ns → P (nI i) τ) : w_mUnused P τ := by
  have hex : ∃ j, j < 36 ∧ τ 2 j = 0 := by
    refine Classical.byContradiction (fun h => ?_)
    have := us_ge (f := fo τ) (n := 36) (fun i hi h0 => h ⟨i, hi, by rw [(GM.of hW hE i hi).2, h0]; rfl⟩)
    rw [us_eq hW hE] at this
    omega
  obtain ⟨j, hj, hj0⟩ := hex
  exact ⟨37, mUnused2 hj hj0 (fun i hi h0 => hP i hi (fun z => hW.ne z h0)) 36 0 rfl (Nat.zero_le _)⟩
/-! mark -/
def cn (g : Nat → Int32) : Nat → Nat
  | 0 => 0
  | n + 1 => cn g n + (if g n = 0 then 0 else 1)
theorem cn_le (g : Nat → Int32) (n : Nat) : cn g n ≤ n := by
  induction n with
  | zero => simp [cn]
  | succ n ih => simp only [cn]; split <;> omega
theorem cn_congr {g g' : Nat → Int32} {n : Nat} (h : ∀ i, i < n → g i = g' i) : cn g n = cn g' n := by
  induction n with
  | zero => rfl
  | succ n ih => simp only [cn]; rw [ih (fun i hi => h i (by omega)), h n (by omega)]
theorem cn_up {g : Nat → Int32} {c n : Nat} (hc : c < n) (h0 : g c = 0) : cn (upd g c 1) n = cn g n + 1 := by
  induction n with
  | zero => omega
  | succ n ih =>
    simp only [cn]
    by_cases e : c = n
    · subst e
      rw [cn_congr (g := upd g c 1) (g' := g) (fun i hi => by simp [upd]; omega)]
      simp [upd, h0, one_ne]
    · rw [ih (by omega)]
      have : upd g c 1 n = g n := by simp [upd, Ne.symm e]
      rw [this]; omega
def SO (τ0 τ : St) (ns : List Nat) : Prop := ∀ i, i < 36 → τ 3 i = 0 ∨ (τ 3 i = 1 ∧ ∀ T, Clo τ0 ns T → T i)
def clo1 (τ : St) (q : Nat) : Prop := (q < 6 ∨ (6 ≤ q ∧ ¬ τ 3 ((q - 6) / 6) = 0 ∧ (q - 6) % 6 < fo τ ((q - 6) / 6))) → τ 0 q = 1 → ¬ τ 3 (τ 1 q).toNatClampNeg = 0
def IM (τ0 τ : St) (ns : List Nat) (c0 : Nat) (x1 : Int32) (p : Nat) : Prop := (∀ u, u ≠ 3 → τ u = τ0 u) ∧ SO τ0 τ ns ∧ c0 ≤ cn (τ 3) 36 ∧ ((x1 = 0 ∧ ∀ q, q < p → clo1 τ q) ∨ (x1 = 1 ∧ c0 + 1 ≤ cn (τ 3) 36))
theorem IM.next {τ0 τ : St} {ns : List Nat} {c0 p : Nat} {x1 : Int32} (h : IM τ0 τ ns c0 x1 p) (hc : clo1 τ p) : IM τ0 τ ns c0 x1 (p + 1) := by
  obtain ⟨h1, h2, h3, h4⟩ := h
  refine ⟨h1, h2, h3, ?_⟩
  rcases h4 with ⟨a, b⟩ | h4
  · refine Or.inl ⟨a, fun q hq => ?_⟩
    by_cases e : q = p
    · subst e; exact hc
    · exact b q (by omega)
  · exact Or.inr h4
theorem IM.mark {τ0 τ τ1 : St} {ns : List Nat} {c0 p p' c : Nat} {x1 : Int32} (h : IM τ0 τ ns c0 x1 p) (hc : c < 36) (h0 : τ 3 c = 0) (hT : ∀ T, Clo τ0 ns T → T c) (e1 : τ1 = up2 τ 3 c 1) : IM τ0 τ1 ns c0 1 p' := by
  obtain ⟨h1, h2, h3, h4⟩ := h
  have e3 : τ1 3 = upd (τ 3) c 1 := by rw [e1]; simp [up2]
  refine ⟨fun u hu => by rw [e1, up2_k hu]; exact h1 u hu, fun i hi => ?_, ?_, Or.inr ⟨rfl, ?_⟩⟩
  · rw [e3]
    by_cases e : i = c
    · subst e; exact Or.inr ⟨by simp [upd], hT⟩
    · rw [show upd (τ 3) c 1 i = τ 3 i by simp [upd, e]]; exact h2 i hi
  · rw [e3, cn_up hc h0]; omega
  · rw [e3, cn_up hc h0]; omega
theorem mVisit {τ0 τ : St} {ns : List Nat} {c0 p : Nat} {x1 : Int32} {A : Prop} {Bk : St → Prop} (hW : WF τ0 ns) (hI : IM τ0 τ ns c0 x1 p) (hp : p < 222) (hv : VM τ0 ns p) (hT : ∀ c, c ∈ ns → τ0 0 p = 1 → τ0 1 p = nI c → ∀ T, Clo τ0 ns T → T c) (hA : IM τ0 τ ns c0 x1 (p + 1) → A) (hB : ∀ τ1, IM τ0 τ1 ns c0 1 (p + 1) → Bk τ1) :
    (τ 0 p = 0 → A) ∧ (¬ τ 0 p = 0 → vp_in (nI p) 222 ∧ vp_in (τ 1 p) 36 ∧ (τ 3 (τ 1 p).toNatClampNeg = 0 → vp_in (nI p) 222 ∧ vp_in (τ 1 p) 36 ∧ ∀ τ1 : St, τ1 = up2 τ 3 (τ 1 p).toNatClampNeg (vp_nar .boolean 1) → Bk τ1) ∧ (¬ τ 3 (τ 1 p).toNatClampNeg = 0 → A)) := by
  have e0 : τ 0 p = τ0 0 p := by rw [hI.1 0 (by decide)]
  have e1 : τ 1 p = τ0 1 p := by rw [hI.1 1 (by decide)]
  refine ⟨fun z => hA (hI.next (fun _ h => absurd (h.symm.trans z) one_ne)), fun z => ?_⟩
  rcases hv with a | ⟨a, c, hc, a2⟩
  · exact absurd (e0.trans a) z
  · have h36 := hW.lt hc
    rw [e1, a2, nIc (n := c) (by omega), nz1]
    refine ⟨nIin hp (by omega), nIin h36 (by omega), fun w => ⟨nIin hp (by omega), nIin h36 (by omega), fun τ1 f1 => hB τ1 (hI.mark h36 w (hT c hc a a2) f1)⟩, fun w => hA (hI.next (fun _ _ => ?_))⟩
    rw [e1, a2, nIc (n := c) (by omega)]
    exact w
theorem mMark39 {τ0 : St} {ns : List Nat} {c0 : Nat} {x2 : Int32} {K : St → Int32 → Int32 → Prop} (hW : WF τ0 ns) (hK : ∀ τ x1 z, IM τ0 τ ns c0 x1 222 → K τ x1 z) : ∀ (n p : Nat) (τ : St) (x1 : Int32), p + n = 222 → IM τ0 τ ns c0 x1 p → w_mMark_39 x2 K (n + 1) τ x1 (nI p) := by
  intro n
  induction n with
  | zero =>
    intro p τ x1 hp hI
    have : p = 222 := by omega
    subst this
    rw [w_mMark_39]
    exact ⟨fun _ => hK τ x1 _ hI, fun z => absurd (show (222 : Int32) ≤ nI 222 by decide) z⟩
  | succ n ih =>
    intro p τ x1 hp hI
    have hgo : IM τ0 τ ns c0 x1 (p + 1) → w_mMark_39 x2 K (n + 1) τ x1 (nI (p + 1)) := fun h => ih (p + 1) τ x1 (by omega) h
    have hgo1 : ∀ τ1, IM τ0 τ1 ns c0 1 (p + 1) → w_mMark_39 x2 K (n + 1) τ1 1 (nI (p + 1)) := fun τ1 h => ih (p + 1) τ1 1 (by omega) h
    rw [w_mMark_39, nIc (n := p) (by omega), nI_1]
    refine ⟨fun z => absurd z (by rw [show (222 : Int32) = nI 222 from rfl, nI_leI (by omega) (by omega)]; omega), fun _ => ⟨fun z => ?_, fun z => ?_⟩⟩
    · rw [show (6 : Int32) = nI 6 from rfl, nI_ltI (by omega) (by omega)] at z
      exact ⟨nIin (by omega) (by omega), mVisit hW hI (by omega) (hW.2.2.1 p z) (fun c hc a1 a2 T hT => hT.1 p c z a1 hc a2) hgo hgo1⟩
    · rw [show (6 : Int32) = nI 6 from rfl, nI_ltI (by omega) (by omega)] at z
      have hq : (p - 6) / 6 < 36 := by omega
      have hk : (p - 6) % 6 < 6 := Nat.mod_lt _ (by omega)
      have hpe : 6 + 6 * ((p - 6) / 6) + (p - 6) % 6 = p := by omega
      rw [show (6 : Int32) = nI 6 from rfl, pk_sub (by omega), pk_rem (by omega) (by omega) (by omega), pk_div (by omega) (by omega) (by omega), nIc (n := (p - 6) / 6) (by omega)]
      refine ⟨nIin hq (by omega), fun w => hgo (hI.next (fun h _ => ?_)), fun w => ⟨nIin hq (by omega), fun y => hgo (hI.next (fun h _ => ?_)), fun y => ⟨nIin (by omega) (by omega), ?_⟩⟩⟩
      · rcases h with h | h
        · omega
        · exact absurd w h.2.1
      · rcases hI.2.1 _ hq with q | ⟨-, q⟩
        · exact absurd q w
        · have hin := q (fun i => i ∈ ns) ⟨fun _ _ _ _ h _ => h, fun _ _ _ _ _ _ _ h _ => h⟩
          have hf := hW.fld hin
          rw [hI.1 2 (by decide), hf.2.2, nI_leI (by omega) (by omega)] at y
          rcases h with h | ⟨-, -, h⟩
          · omega
          · rw [show fo τ ((p - 6) / 6) = fo τ0 ((p - 6) / 6) by simp only [fo]; rw [hI.1 2 (by decide)]] at h
            omega
      · rcases hI.2.1 _ hq with q | ⟨-, q⟩
        · exact absurd q w
        · have hin := q (fun i => i ∈ ns) ⟨fun _ _ _ _ h _ => h, fun _ _ _ _ _ _ _ h _ => h⟩
          have hf := hW.fld hin
          rw [hI.1 2 (by decide), hf.2.2, nI_leI (by omega) (by omega)] at y
          have hv := hW.2.2.2 _ hin _ (show (p - 6) % 6 < fo τ0 ((p - 6) / 6) by omega)
          rw [hpe] at hv
          exact mVisit hW hI (by omega) hv (fun c hc a1 a2 T hT => hT.2 _ ((p - 6) % 6) c hin (q T hT) (by omega) (by rw [hpe]; exact a1) hc (by rw [hpe]; exact a2)) hgo hgo1
theorem mMark25 {τ0 : St} {ns : List Nat} {K : St → Int32 → Int32 → Prop} (hW : WF τ0 ns) (hK : ∀ τ z w, (∀ u, u ≠ 3 → τ u = τ0 u) → SO τ0 τ ns → (∀ q, q < 222 → clo1 τ q) → K τ z w) : ∀ (n r : Nat) (τ : St) (x1 : Int32), r + n = 37 → (∀ u, u ≠ 3 → τ u = τ0 u) → SO τ0 τ ns → ((x1 = 0 ∧ ∀ q, q < 222 → clo1 τ q) ∨ (x1 = 1 ∧ r ≤ cn (τ 3) 36)) → w_mMark_25 K (n + 1) τ x1 (nI r) := by
  intro n
  induction n with
  | zero =>
    intro r τ x1 hr h1 h2 h3
    have hk : K τ x1 (nI r) := by
      rcases h3 with ⟨-, h3⟩ | ⟨-, h3⟩
      · exact hK τ _ _ h1 h2 h3
      · have := cn_le (τ 3) 36
        omega
    have : r = 37 := by omega
    subst this
    rw [w_mMark_25]
    exact ⟨fun _ => hk, fun z => absurd (show (37 : Int32) ≤ nI 37 by decide) z⟩
  | succ n ih =>
    intro r τ x1 hr h1 h2 h3
    rw [w_mMark_25, nI_1]
    refine ⟨fun z => absurd z (by rw [show (37 : Int32) = nI 37 from rfl, nI_leI (by omega) (by omega)]; omega), fun _ => ⟨fun z => ?_, fun z => ?_⟩⟩
    · rcases h3 with ⟨-, h3⟩ | ⟨h, -⟩
      · exact hK τ _ _ h1 h2 h3
      · exact absurd (h.symm.trans z) one_ne
    · rcases h3 with ⟨h, -⟩ | ⟨-, h3⟩
      · exact absurd h z
      · refine ⟨223, ?_⟩
        refine mMark39 (c0 := cn (τ 3) 36) hW (fun τ' y w hI => ?_) 222 0 τ 0 rfl ⟨h1, h2, Nat.le_refl _, Or.inl ⟨rfl, fun q hq => absurd hq (by omega)⟩⟩
        refine ih (r + 1) τ' y (by omega) hI.1 hI.2.1 ?_
        rcases hI.2.2.2 with h | ⟨h, h4⟩
        · exact Or.inl h
        · exact Or.inr ⟨h, by omega⟩
theorem mMark2 {τ0 : St} {K : St → Int32 → Prop} (hK : ∀ τ x, (∀ q, q < 36 → τ 3 q = 0) → (∀ k, k ≠ 3 → τ k = τ0 k) → K τ x) : ∀ (n j : Nat) (τ : St), j + n = 36 → (∀ q, q < j → τ 3 q = 0) → (∀ k, k ≠ 3 → τ k = τ0 k) → w_mMark_2 K (n + 1) τ (nI j) := by
  intro n
  induction n with
  | zero =>
    intro j τ hj h5 hk
    have : j = 36 := by omega
    subst this
    rw [w_mMark_2]
    exact ⟨fun _ => hK τ _ h5 hk, fun z => absurd (show (36 : Int32) ≤ nI 36 by decide) z⟩
  | succ n ih =>
    intro j τ hj h5 hk
    rw [w_mMark_2]
    refine ⟨fun z => absurd z (by rw [show (36 : Int32) = nI 36 from rfl, nI_leI (by omega) (by omega)]; omega), fun _ => ⟨nIin (by omega) (by omega), fun τ1 e1 => ?_⟩⟩
    rw [nIc (by omega), nz0] at e1
    rw [nI_1]
    refine ih (j + 1) τ1 (by omega) (fun q hq => ?_) (fun k h => ?_)
    · rw [e1, up2_app]
      by_cases e : q = j
      · rw [if_pos ⟨rfl, e⟩]
      · rw [if_neg (fun z => e z.2)]; exact h5 q (by omega)
    · rw [e1, up2_k h]; exact hk k h
theorem mMark_ok {τ : St} {ns : List Nat} {P : St → Prop} (hW : WF τ ns) (hP : ∀ τ' p, Lst τ ns p → (∀ i, i < 36 → (τ' 3 i = 0 ∧ p i = false) ∨ (τ' 3 i = 1 ∧ p i = true)) → (∀ u, u ≠ 3 → τ' u = τ u) → P τ') : w_mMark P τ := by
  refine ⟨37, ?_⟩
  refine mMark2 (τ0 := τ) (fun τ2 x h3 hk => ?_) 36 0 τ rfl (fun q hq => absurd hq (by omega)) (fun k _ => rfl)
  refine ⟨38, ?_⟩
  refine mMark25 (τ0 := τ) hW (fun τ' z w h1 h2 h4 => ?_) 37 0 τ2 1 rfl hk (fun i hi => Or.inl (h3 i hi)) (Or.inr ⟨rfl, Nat.zero_le _⟩)
  have hb : ∀ i, i < 36 → ¬ τ' 3 i = 0 → τ' 3 i = 1 := fun i hi h => by
    rcases h2 i hi with q | ⟨q, -⟩
    · exact absurd q h
    · exact q
  refine hP τ' (fun i => decide (i < 36 ∧ τ' 3 i = 1)) ⟨⟨fun r c a1 a2 a3 a4 => ?_, fun i k c a0 aT a1 a2 a3 a4 => ?_⟩, fun T hT i hi => ?_⟩ (fun i hi => ?_) h1
  · have h36 := hW.lt a3
    have := h4 r (by omega) (Or.inl a1) (by rw [h1 0 (by decide)]; exact a2)
    rw [h1 1 (by decide), a4, nIc (n := c) (by omega)] at this
    exact decide_eq_true ⟨h36, hb c h36 this⟩
  · have h36 := hW.lt a3
    have hf := hW.fld a0
    have hi := of_decide_eq_true aT
    have e1 : (6 + 6 * i + k - 6) / 6 = i := by omega
    have e2 : (6 + 6 * i + k - 6) % 6 = k := by omega
    have := h4 (6 + 6 * i + k) (by omega) (Or.inr ⟨by omega, by rw [e1, hi.2]; exact one_ne, by rw [e1, e2]; simp only [fo]; rw [h1 2 (by decide)]; exact a1⟩) (by rw [h1 0 (by decide)]; exact a2)
    rw [h1 1 (by decide), a4, nIc (n := c) (by omega)] at this
    exact decide_eq_true ⟨h36, hb c h36 this⟩
  · have hi := of_decide_eq_true hi
    rcases h2 i hi.1 with q | ⟨-, q⟩
    · exact absurd (hi.2.symm.trans q) one_ne
    · exact q T hT
  · rcases h2 i hi with q | ⟨q, -⟩
    · exact Or.inl ⟨q, decide_eq_false (fun z => one_ne (z.2.symm.trans q))⟩
    · exact Or.inr ⟨q, decide_eq_true ⟨hi, q⟩⟩
/-! collect -/
def AG (τ τ' : St) (l : List Nat) : Prop := (∀ i, i ∈ l → τ' 2 i = τ 2 i) ∧ τ' 0 = τ 0 ∧ τ' 1 = τ 1
theorem AG.eq {τ τ' : St} {l : List Nat} (h : AG τ τ' l) : ∀ i, i ∈ l → fo τ' i = fo τ i := fun i hi => by simp only [fo]; rw [h.1 i hi]
theorem WF_ag {τ τ' : St} {l : List Nat} (h : AG τ τ' l) (hW : WF τ l) : WF τ' l := by
  refine ⟨hW.1, fun i hi => by rw [h.1 i hi]; exact hW.2.1 i hi, fun r hr => VM_congr (by rw [h.2.1]) (by rw [h.2.2]) (hW.2.2.1 r hr), fun i hi k hk => VM_congr (by rw [h.2.1]) (by rw [h.2.2]) (hW.2.2.2 i hi k ?_)⟩
  rw [← h.eq i hi]; exact hk
theorem RB_ag {σ τ τ' : St} {l : List Nat} (h : AG τ τ' l) (hB : RB σ τ l) : RB σ τ' l := by
  have hz : sz (fo τ') l = sz (fo τ) l := sz_congr h.eq
  have ha : adr (fo τ') l = adr (fo τ) l := by funext c; exact adr_congr h.eq c
  have he : ∀ g p, enc τ' g p = enc τ g p := fun g p => enc_congr (by rw [h.2.1]) (by rw [h.2.2])
  refine ⟨by rw [hz]; exact hB.1, by rw [hz]; exact hB.2.1, fun r hr => by rw [ha, he, h.2.1]; exact hB.2.2.1 r hr, fun i hi => ?_⟩
  rw [ha]
  refine ⟨by rw [h.1 i hi]; exact (hB.2.2.2 i hi).1, fun k hk => ?_⟩
  rw [he, h.2.1]
  exact (hB.2.2.2 i hi).2 k (by rw [← h.eq i hi]; exact hk)
theorem mCollect6 {τ0 : St} {p : Nat → Bool} {K : St → Int32 → Prop} (h3 : ∀ i, i < 36 → (τ0 3 i = 0 ∧ p i = false) ∨ (τ0 3 i = 1 ∧ p i = true)) (hK : ∀ τ x, (∀ u, u ≠ 2 → τ u = τ0 u) → (∀ i, i < 36 → τ 2 i = if p i = true then τ0 2 i else 0) → K τ x) : ∀ (n j : Nat) (τ : St), j + n = 36 → (∀ u, u ≠ 2 → τ u = τ0 u) → (∀ i, i < j → τ 2 i = if p i = true then τ0 2 i else 0) → (∀ i, j ≤ i → τ 2 i = τ0 2 i) → w_mCollect_6 K (n + 1) τ (nI j) := by
  intro n
  induction n with
  | zero =>
    intro j τ hj h1 h2 h4
    have : j = 36 := by omega
    subst this
    rw [w_mCollect_6]
    exact ⟨fun _ => hK τ _ h1 h2, fun z => absurd (show (36 : Int32) ≤ nI 36 by decide) z⟩
  | succ n ih =>
    intro j τ hj h1 h2 h4
    rw [w_mCollect_6, nIc (n := j) (by omega), nI_1, h1 3 (by decide)]
    refine ⟨fun z => absurd z (by rw [show (36 : Int32) = nI 36 from rfl, nI_leI (by omega) (by omega)]; omega), fun _ => ⟨nIin (by omega) (by omega), fun z => ⟨nIin (by omega) (by omega), fun τ1 e1 => ?_⟩, fun z => ?_⟩⟩
    · have hp : ¬ p j = true := by
        rcases h3 j (by omega) with ⟨-, q⟩ | ⟨q, -⟩
        · rw [q]; decide
        · exact absurd (q.symm.trans z) one_ne
      refine ih (j + 1) τ1 (by omega) (fun u hu => by rw [e1, up2_k hu]; exact h1 u hu) (fun i hi => ?_) (fun i hi => by rw [e1, up2_j (by omega)]; exact h4 i (by omega))
      rw [e1, up2_app]
      by_cases e : i = j
      · subst e; rw [if_pos ⟨rfl, rfl⟩, if_neg hp]
      · rw [if_neg (fun q => e q.2)]; exact h2 i (by omega)
    · have hp : p j = true := by
        rcases h3 j (by omega) with ⟨q, -⟩ | ⟨-, q⟩
        · exact absurd q z
        · exact q
      refine ih (j + 1) τ (by omega) h1 (fun i hi => ?_) (fun i hi => h4 i (by omega))
      by_cases e : i = j
      · subst e; rw [if_pos hp]; exact h4 i (Nat.le_refl _)
      · exact h2 i (by omega)
theorem mCollect_ok {τ : St} {ns : List Nat} {P : Int32 → St → Prop} (hW : WF τ ns) (hP : ∀ τ' p, Lst τ ns p → AG τ τ' (ns.filter p) → EX τ' (ns.filter p) → P (nI (sz (fo τ) (ns.filter p))) τ') : w_mCollect P τ := by
  refine mMark_ok hW (fun τ4 p hL h3 h1 => ?_)
  refine ⟨37, ?_⟩
  refine mCollect6 (τ0 := τ4) (p := p) h3 (fun τ6 x k1 k2 => ?_) 36 0 τ4 rfl (fun _ _ => rfl) (fun i hi => absurd hi (by omega)) (fun _ _ => rfl)
  have hag : AG τ τ6 (ns.filter p) := by
    refine ⟨fun i hi => ?_, by rw [k1 0 (by decide), h1 0 (by decide)], by rw [k1 1 (by decide), h1 1 (by decide)]⟩
    obtain ⟨a, b⟩ := List.mem_filter.mp hi
    rw [k2 i (hW.lt a), if_pos b, h1 2 (by decide)]
  have hex : EX τ6 (ns.filter p) := by
    intro i hi h
    rw [k2 i hi] at h
    by_cases hp : p i = true
    · exact List.mem_filter.mpr ⟨hL.mem hp, hp⟩
    · rw [if_neg hp] at h; exact absurd rfl h
  have hW6 := WF_ag hag (WF_filter hW hL.1)
  refine mUsed_ok hW6 hex ?_
  rw [sz_congr hag.eq]
  exact hP τ6 p hL hag hex
theorem op_collect {σ τ : St} (h : Inv σ τ) : w_bCollect (fun r σ' => w_mCollect (fun r' τ' => r = r' ∧ Inv σ' τ') τ) σ := by
  obtain ⟨ns, hW, hE, hB⟩ := h
  refine bSqueeze_ok hW hB (fun σ1 p hL hW1 hB1 => ?_)
  refine mCollect_ok hW (fun τ1 q hL2 hag hex => ?_)
  have : q = p := funext (fun i => hL2.uniq hL i)
  subst this
  exact ⟨hB1.2.1, _, WF_ag hag hW1, hex, RB_ag hag hB1⟩
theorem op_used {σ τ : St} (h : Inv σ τ) : w_bUsed (fun r σ' => w_mUsed (fun r' τ' => r = r' ∧ Inv σ' τ') τ) σ := by
  have h' := h
  obtain ⟨ns, hW, hE, hB⟩ := h'
  exact mUsed_ok hW hE ⟨hB.2.1, h⟩
end
section
/-! PLAIN LAW, 7: make -/
/-- the Model's state behind a make of the record i with n fields in register r -/
def MkT (τ τ' : St) (ns : List Nat) (r n i : Nat) : Prop := τ' 2 i = nI n ∧ (∀ j, j ∈ ns → τ' 2 j = τ 2 j) ∧ (∀ k, k < 6 → τ' 0 (6 + 6 * i + k) = 0 ∧ τ' 1 (6 + 6 * i + k) = 0) ∧ τ' 0 r = 1 ∧ τ' 1 r = nI i ∧ (∀ q, q < 6 → q ≠ r → τ' 0 q = τ 0 q ∧ τ' 1 q = τ 1 q) ∧ ∀ j k, j ∈ ns → k < 6 → τ' 0 (6 + 6 * j + k) = τ 0 (6 + 6 * j + k) ∧ τ' 1 (6 + 6 * j + k) = τ 1 (6 + 6 * j + k)
def Mk (σ' τ : St) (ns : List Nat) (r n : Nat) : Prop := ∀ i τ', i < 36 → i ∉ ns → MkT τ τ' ns r n i → WF τ' (ns ++ [i]) ∧ RB σ' τ' (ns ++ [i])
theorem mk_rel {σ σ' τ : St} {ns : List Nat} {r n : Nat} (hW : WF τ ns) (hB : RB σ τ ns) (hr : r < 6) (hn1 : 1 ≤ n) (hn6 : n ≤ 6) (hs : sz (fo τ) ns + n + 1 ≤ 72) (s0 : σ' 0 0 = nI (sz (fo τ) ns + n + 1)) (s3 : ∀ q, σ' 3 q = if q = r then nI (sz (fo τ) ns) else σ 3 q) (s4 : ∀ q, σ' 4 q = if q = r then 1 else σ 4 q) (s1 : ∀ z, z < sz (fo τ) ns → σ' 1 z = σ 1 z ∧ σ' 2 z = σ 2 z) (sh : σ' 1 (sz (fo τ) ns) = nI n) (sf : ∀ k, k < n → σ' 1 (sz (fo τ) ns + 1 + k) = 0 ∧ σ' 2 (sz (fo τ) ns + 1 + k) = 0) : Mk σ' τ ns r n := by
  intro i τ' hi hni ⟨t1, t2, t3, t4, t5, t6, t7⟩
  have hfi : fo τ' i = n := by show (τ' 2 i).toNatClampNeg = n; rw [t1]; exact nIc (by omega)
  have hfj : ∀ j, j ∈ ns → fo τ' j = fo τ j := fun j hj => by simp only [fo]; rw [t2 j hj]
  have hmem : ∀ j, j ∈ ns ++ [i] ↔ j ∈ ns ∨ j = i := fun j => by simp
  have hzi : sz (fo τ') (ns ++ [i]) = sz (fo τ) ns + (n + 1) := by
    rw [sz_app, sz_congr hfj]; simp only [sz]; rw [hfi]
  have hai : adr (fo τ') (ns ++ [i]) i = sz (fo τ) ns := by
    rw [adr_split hni, sz_congr hfj]
  have haj : ∀ j, j ∈ ns → adr (fo τ') (ns ++ [i]) j = adr (fo τ) ns j := fun j hj => by
    rw [adr_app hj, adr_congr hfj]
  have hkeep : ∀ p, τ' 0 p = τ 0 p → τ' 1 p = τ 1 p → VM τ ns p → VM τ' (ns ++ [i]) p ∧ enc τ' (adr (fo τ') (ns ++ [i])) p = enc τ (adr (fo τ) ns) p := by
    intro p h0 h1 hv
    rcases hv with a | ⟨a, c, hc, a2⟩
    · exact ⟨Or.inl (h0.trans a), by rw [enc0 (h0.trans a), enc0 a, h1]⟩
    · have h36 := hW.lt hc
      exact ⟨Or.inr ⟨h0.trans a, c, (hmem c).mpr (Or.inl hc), h1.trans a2⟩, by rw [enc1 (h0.trans a) (h1.trans a2) (by omega), enc1 a a2 (by omega), haj c hc]⟩
  have hreg : ∀ q, q < 6 → q ≠ r → VM τ' (ns ++ [i]) q ∧ enc τ' (adr (fo τ') (ns ++ [i])) q = enc τ (adr (fo τ) ns) q := fun q hq hqr => hkeep q (t6 q hq hqr).1 (t6 q hq hqr).2 (hW.2.2.1 q hq)
  have hfld : ∀ j k, j ∈ ns → k < fo τ j → VM τ' (ns ++ [i]) (6 + 6 * j + k) ∧ enc τ' (adr (fo τ') (ns ++ [i])) (6 + 6 * j + k) = enc τ (adr (fo τ) ns) (6 + 6 * j + k) := fun j k hj hk => by
    have h6 := (hW.fld hj).2.1
    exact hkeep _ (t7 j k hj (by omega)).1 (t7 j k hj (by omega)).2 (hW.2.2.2 j hj k hk)
  refine ⟨⟨?_, fun j hj => ?_, fun q hq => ?_, fun j hj k hk => ?_⟩, ?_, ?_, fun q hq => ?_, fun j hj => ?_⟩
  · refine List.nodup_append.mpr ⟨hW.1, by simp, fun a ha b hb => ?_⟩
    rw [List.mem_singleton.mp hb]
    exact fun e => hni (by rw [← e]; exact ha)
  · rcases (hmem j).mp hj with h | h
    · rw [t2 j h]; exact hW.2.1 j h
    · subst h; exact ⟨hi, n, hn1, hn6, t1⟩
  · by_cases e : q = r
    · subst e; exact Or.inr ⟨t4, i, (hmem i).mpr (Or.inr rfl), t5⟩
    · exact (hreg q hq e).1
  · rcases (hmem j).mp hj with h | h
    · exact (hfld j k h (by rw [← hfj j h]; exact hk)).1
    · subst h
      rw [hfi] at hk
      exact Or.inl (t3 k (by omega)).1
  · rw [hzi]; omega
  · rw [hzi, s0, Nat.add_assoc]
  · rw [s3, s4]
    by_cases e : q = r
    · subst e
      rw [if_pos rfl, if_pos rfl, t4, enc1 t4 t5 (by omega), hai]
      exact ⟨rfl, rfl⟩
    · rw [if_neg e, if_neg e, (hreg q hq e).2, (t6 q hq e).1]
      exact hB.2.2.1 q hq
  · rcases (hmem j).mp hj with h | h
    · have hend := adr_end (f := fo τ) h
      have h6 := (hW.fld h).2.1
      have hb := hB.2.2.2 j h
      rw [haj j h]
      refine ⟨by rw [(s1 _ (by omega)).1, t2 j h]; exact hb.1, fun k hk => ?_⟩
      rw [hfj j h] at hk
      rw [(s1 _ (by omega)).1, (s1 _ (by omega)).2, (hfld j k h hk).2, (t7 j k h (by omega)).1]
      exact hb.2 k hk
    · subst h
      rw [hai]
      refine ⟨by rw [sh, t1], fun k hk => ?_⟩
      rw [hfi] at hk
      have h3 := t3 k (by omega)
      rw [(sf k hk).1, (sf k hk).2, enc0 h3.1, h3.1, h3.2]
      exact ⟨rfl, rfl⟩
theorem bMake77 {σ0 : St} {t n : Nat} {x1 : Int32} {K : St → Int32 → Prop} (ht : t + n < 72) (hK : ∀ σ x, (∀ u, u ≠ 1 → u ≠ 2 → σ u = σ0 u) → (∀ z, z ≤ t → σ 1 z = σ0 1 z ∧ σ 2 z = σ0 2 z) → (∀ q, q < n → σ 1 (t + 1 + q) = 0 ∧ σ 2 (t + 1 + q) = 0) → K σ x) :
    ∀ (m k : Nat) (σ : St), k + m = n → (∀ u, u ≠ 1 → u ≠ 2 → σ u = σ0 u) → (∀ z, z ≤ t → σ 1 z = σ0 1 z ∧ σ 2 z = σ0 2 z) → (∀ q, q < k → σ 1 (t + 1 + q) = 0 ∧ σ 2 (t + 1 + q) = 0) → w_bMake_77 x1 (nI n) (nI t) K (m + 1) σ (nI (t + 1 + k)) := by
  intro m
  induction m with
  | zero =>
    intro k σ hk h1 h2 h3
    have : k = n := by omega
    subst this
    rw [w_bMake_77, nI_add]
    exact ⟨fun _ => hK σ _ h1 h2 h3, fun z => absurd (nI_lt (by omega) (by omega)) z⟩
  | succ m ih =>
    intro k σ hk h1 h2 h3
    rw [w_bMake_77, nI_add, nIc (n := t + 1 + k) (by omega), nI_1]
    refine ⟨fun z => absurd z (nI_nlt (by omega) (by omega)), fun _ => ⟨nIin (by omega) (by omega), fun σ1 e1 => ⟨nIin (by omega) (by omega), fun σ3 e3 => ?_⟩⟩⟩
    rw [nz0] at e3
    have g1 : ∀ z, σ3 1 z = if z = t + 1 + k then 0 else σ 1 z := by
      intro z; rw [e3, e1]; simp [up2_app]
    have g2 : ∀ z, σ3 2 z = if z = t + 1 + k then 0 else σ 2 z := by
      intro z; rw [e3, e1]; simp [up2_app]
    refine ih (k + 1) σ3 (by omega) (fun u a b => by rw [e3, up2_k b, e1, up2_k a]; exact h1 u a b) (fun z hz => ?_) (fun q hq => ?_)
    · rw [g1, g2, if_neg (by omega), if_neg (by omega)]; exact h2 z hz
    · rw [g1, g2]
      by_cases e : q = k
      · subst e; rw [if_pos rfl, if_pos rfl]; exact ⟨rfl, rfl⟩
      · rw [if_neg (by omega), if_neg (by omega)]; exact h3 q (by omega)
/-- the end of make, once there is room -/
def bTail (P : Int32 → St → Prop) (σ : St) (x1 x2 : Int32) : Prop :=
  ∀ v5 : Int32, v5 = (σ 0 0) →
  vp_in v5 72 ∧
  ∀ σ6 : St, σ6 = up2 σ 1 v5.toNatClampNeg x2 →
  vp_in v5 72 ∧
  ∀ σ8 : St, σ8 = up2 σ6 2 v5.toNatClampNeg (vp_nar .boolean 0) →
  ∀ v10 : Int32, v10 = (v5 + 1) →
  ∃ n11 : Nat, w_bMake_77 x1 x2 v5
    (fun (σ12 : St) (v13 : Int32) =>
      ∀ σ14 : St, σ14 = up2 σ12 0 0 ((v5 + x2) + 1) →
      vp_in x1 6 ∧
      ∀ σ15 : St, σ15 = up2 σ14 3 x1.toNatClampNeg v5 →
      vp_in x1 6 ∧
      ∀ σ17 : St, σ17 = up2 σ15 4 x1.toNatClampNeg (vp_nar .boolean 1) →
      P 0 σ17) n11 σ8 v10
theorem bTail_ok {σ τ : St} {ns : List Nat} {r n : Nat} {P : Int32 → St → Prop} (hW : WF τ ns) (hB : RB σ τ ns) (hr : r < 6) (hn1 : 1 ≤ n) (hn6 : n ≤ 6) (hs : sz (fo τ) ns + n + 1 ≤ 72) (hP : ∀ σ', Mk σ' τ ns r n → P 0 σ') : bTail P σ (nI r) (nI n) := by
  intro v5 e5
  rw [hB.2.1] at e5
  subst e5
  rw [nIc (n := sz (fo τ) ns) (by omega), nIc (n := r) (by omega), nI_1, nI_add, nI_1, nz0, nz1]
  refine ⟨nIin (by omega) (by omega), fun σ6 e6 => ⟨nIin (by omega) (by omega), fun σ8 e8 v10 e10 => ⟨n + 1, ?_⟩⟩⟩
  subst e10
  have hz : nI (sz (fo τ) ns + 1) = nI (sz (fo τ) ns + 1 + 0) := rfl
  rw [hz]
  refine bMake77 (σ0 := σ8) (by omega) (fun σ12 x h1 h2 h3 => ?_) n 0 σ8 (by omega) (fun _ _ _ => rfl) (fun _ _ => ⟨rfl, rfl⟩) (fun q hq => absurd hq (by omega))
  intro σ14 e14
  refine ⟨nIin hr (by omega), fun σ15 e15 => ⟨nIin hr (by omega), fun σ17 e17 => hP σ17 ?_⟩⟩
  refine mk_rel hW hB hr hn1 hn6 hs ?_ (fun q => ?_) (fun q => ?_) (fun z hz => ?_) ?_ (fun k hk => ?_)
  · rw [e17, up2_k (by decide), e15, up2_k (by decide), e14, up2_s]
  · rw [e17, up2_k (by decide), e15, up2_app, e14, up2_k (by decide), h1 3 (by decide) (by decide), e8, up2_k (by decide), e6, up2_k (by decide)]
    simp
  · rw [e17, up2_app, e15, up2_k (by decide), e14, up2_k (by decide), h1 4 (by decide) (by decide), e8, up2_k (by decide), e6, up2_k (by decide)]
    simp
  · have h := h2 z (by omega)
    refine ⟨?_, ?_⟩
    · rw [e17, up2_k (by decide), e15, up2_k (by decide), e14, up2_k (by decide), h.1, e8, up2_k (by decide), e6, up2_j (by omega)]
    · rw [e17, up2_k (by decide), e15, up2_k (by decide), e14, up2_k (by decide), h.2, e8, up2_j (by omega), e6, up2_k (by decide)]
  · rw [e17, up2_k (by decide), e15, up2_k (by decide), e14, up2_k (by decide), (h2 _ (Nat.le_refl _)).1, e8, up2_k (by decide), e6, up2_s]
  · have h := h3 k hk
    rw [e17, up2_k (by decide), up2_k (by decide), e15, up2_k (by decide), up2_k (by decide), e14, up2_k (by decide), up2_k (by decide)]
    exact h
theorem fit_iff {s n : Nat} (hs : s ≤ 72) (hn : n ≤ 6) : nI n + 1 ≤ 72 - nI s ↔ s + n + 1 ≤ 72 := by
  rw [nI_1, show (72 : Int32) = nI 72 from rfl, pk_sub hs, nI_leI (by omega) (by omega)]
  omega
theorem n16 {x : Int32} (h1 : ¬ x < 1) (h6 : x ≤ 6) : ∃ n, 1 ≤ n ∧ n ≤ 6 ∧ x = nI n := by
  have h0 : ¬ x < 0 := fun h => h1 (Int32.lt_of_lt_of_le h (by decide))
  obtain ⟨j, hj, e⟩ := nI_of2 (x := x) (M := 6) (n := 6) (by decide) h0 h6
  refine ⟨j, ?_, hj, e⟩
  rcases Nat.eq_zero_or_pos j with q | q
  · subst q; exact absurd (by rw [e]; decide) h1
  · exact q
theorem bMake_ok {σ τ : St} {ns : List Nat} {r n : Nat} {P : Int32 → St → Prop} (hW : WF τ ns) (hB : RB σ τ ns) (hr : r < 6) (hb : b_reg (nI r) = 1) (hn1 : 1 ≤ n) (hn6 : n ≤ 6)
    (hA : sz (fo τ) ns + n + 1 ≤ 72 → ∀ σ', Mk σ' τ ns r n → P 0 σ')
    (hC : ¬ sz (fo τ) ns + n + 1 ≤ 72 → ∀ σ1 p, Lst τ ns p → WF τ (ns.filter p) → RB σ1 τ (ns.filter p) → (sz (fo τ) (ns.filter p) + n + 1 ≤ 72 → ∀ σ', Mk σ' τ (ns.filter p) r n → P 0 σ') ∧ (¬ sz (fo τ) (ns.filter p) + n + 1 ≤ 72 → P (-2) σ1)) : w_bMake P σ (nI r) (nI n) := by
  refine ⟨fun z => absurd (hb.symm.trans z) one_ne, fun _ => ⟨fun z => absurd z ?_, fun _ => ⟨fun _ => ⟨fun c => ⟨fun _ => ?_, fun z => absurd c z⟩, fun c => ?_⟩, fun z => absurd ?_ z⟩⟩⟩
  · rw [show (1 : Int32) = nI 1 from rfl, nI_ltI (by omega) (by omega)]; omega
  · rw [hB.2.1, fit_iff hB.1 hn6] at c
    exact bTail_ok (P := P) hW hB hr hn1 hn6 c (hA c)
  · rw [hB.2.1, fit_iff hB.1 hn6] at c
    refine bSqueeze_ok hW hB (fun σ1 p hL hW1 hB1 => ?_)
    obtain ⟨h1, h2⟩ := hC c σ1 p hL hW1 hB1
    rw [hB1.2.1]
    refine ⟨fun d => ?_, fun d => h2 (fun q => d ((fit_iff hB1.1 hn6).mpr q))⟩
    rw [fit_iff hB1.1 hn6] at d
    rw [← hB1.2.1]
    exact bTail_ok (P := P) hW1 hB1 hr hn1 hn6 d (h1 d)
  · rw [show (6 : Int32) = nI 6 from rfl, nI_leI (by omega) (by omega)]; exact hn6
/-! the Model's make -/
theorem mMake69 {τ0 : St} {i : Nat} {x1 x2 : Int32} {K : St → Int32 → Prop} (hi : i < 36) (hK : ∀ τ x, (∀ u, u ≠ 0 → u ≠ 1 → τ u = τ0 u) → (∀ q, q < 6 → τ 0 (6 + 6 * i + q) = 0 ∧ τ 1 (6 + 6 * i + q) = 0) → (∀ z, z < 6 + 6 * i ∨ 6 + 6 * i + 6 ≤ z → τ 0 z = τ0 0 z ∧ τ 1 z = τ0 1 z) → K τ x) :
    ∀ (m k : Nat) (τ : St), k + m = 6 → (∀ u, u ≠ 0 → u ≠ 1 → τ u = τ0 u) → (∀ q, q < k → τ 0 (6 + 6 * i + q) = 0 ∧ τ 1 (6 + 6 * i + q) = 0) → (∀ z, z < 6 + 6 * i ∨ 6 + 6 * i + 6 ≤ z → τ 0 z = τ0 0 z ∧ τ 1 z = τ0 1 z) → w_mMake_69 x1 x2 (nI i) K (m + 1) τ (nI k) := by
  intro m
  induction m with
  | zero =>
    intro k τ hk h1 h2 h3
    have : k = 6 := by omega
    subst this
    rw [w_mMake_69]
    exact ⟨fun _ => hK τ _ h1 h2 h3, fun z => absurd (show (6 : Int32) ≤ nI 6 by decide) z⟩
  | succ m ih =>
    intro k τ hk h1 h2 h3
    rw [w_mMake_69]
    refine ⟨fun z => absurd z (by rw [show (6 : Int32) = nI 6 from rfl, nI_leI (by omega) (by omega)]; omega), fun _ => ?_⟩
    rw [show (6 : Int32) = nI 6 from rfl, pk_mul, nI_add, nI_add, nI_1]
    refine mSet_ok (by omega) (Or.inl rfl) (fun τ' e => ?_)
    refine ih (k + 1) τ' (by omega) (fun u a b => ?_) (fun q hq => ?_) (fun z hz => ?_)
    · rw [← h1 u a b]; funext j; rw [e, if_neg (fun q => b q.1), if_neg (fun q => a q.1)]
    · rw [e, e]
      by_cases c : q = k
      · subst c; simp
      · have := h2 q (by omega)
        have c2 : ¬ 6 + 6 * i + q = 6 + 6 * i + k := by omega
        simp [c2, this]
    · have c2 : ¬ z = 6 + 6 * i + k := by omega
      have := h3 z hz
      rw [e, e]
      simp [c2, this]
def mTail (P : Int32 → St → Prop) (σ : St) (x1 x2 : Int32) : Prop :=
  w_mUnused (fun (r7 : Int32) (σ6 : St) =>
    vp_in r7 36 ∧
    ∀ σ8 : St, σ8 = up2 σ6 2 r7.toNatClampNeg x2 →
    ∃ n10 : Nat, w_mMake_69 x1 x2 r7
      (fun (σ11 : St) (v12 : Int32) =>
        w_mSet (fun (σ13 : St) =>
            P 0 σ13) σ11 x1 1 r7) n10 σ8 0) σ
theorem mTail_ok {τ0 τ : St} {ns : List Nat} {r n : Nat} {P : Int32 → St → Prop} (hW : WF τ0 ns) (hag : AG τ0 τ ns) (hE : EX τ ns) (hr : r < 6) (hn1 : 1 ≤ n) (hs : sz (fo τ0) ns + n + 1 ≤ 72) (hP : ∀ i τ', i < 36 → i ∉ ns → MkT τ0 τ' ns r n i → EX τ' (ns ++ [i]) → P 0 τ') : mTail P τ (nI r) (nI n) := by
  have hW1 := WF_ag hag hW
  refine mUnused_ok hW1 hE (by rw [sz_congr hag.eq]; omega) (fun i hi hni => ⟨nIin hi (by omega), fun τ8 e8 => ⟨7, ?_⟩⟩)
  rw [nIc (n := i) (by omega)] at e8
  refine mMake69 (τ0 := τ8) hi (fun τ11 x h1 h2 h3 => ?_) 6 0 τ8 rfl (fun _ _ _ => rfl) (fun q hq => absurd hq (by omega)) (fun _ _ => ⟨rfl, rfl⟩)
  refine mSet_ok (by omega) (Or.inr rfl) (fun τ' e => ?_)
  have f2 : ∀ j, τ' 2 j = if j = i then nI n else τ 2 j := fun j => by
    rw [e, if_neg (by omega), if_neg (by omega), h1 2 (by decide) (by decide), e8, up2_app]
    simp
  have k0 : ∀ z, z ≠ r → τ' 0 z = τ11 0 z := fun z hz => by simp [e, hz]
  have k1 : ∀ z, z ≠ r → τ' 1 z = τ11 1 z := fun z hz => by simp [e, hz]
  have g0 : ∀ z, z < 6 + 6 * i ∨ 6 + 6 * i + 6 ≤ z → τ11 0 z = τ0 0 z ∧ τ11 1 z = τ0 1 z := fun z hz => by
    have := h3 z hz
    rw [this.1, this.2, e8, up2_k (by decide), up2_k (by decide), hag.2.1, hag.2.2]
    exact ⟨rfl, rfl⟩
  refine hP i τ' hi hni ⟨?_, fun j hj => ?_, fun k hk => ?_, ?_, ?_, fun q hq hqr => ?_, fun j k hj hk => ?_⟩ (fun j hj h => ?_)
  · rw [f2, if_pos rfl]
  · have hji : j ≠ i := fun z => hni (by rw [← z]; exact hj)
    rw [f2, if_neg hji]; exact hag.1 j hj
  · rw [k0 _ (by omega), k1 _ (by omega)]; exact h2 k hk
  · simp [e]
  · simp [e]
  · rw [k0 q hqr, k1 q hqr]; exact g0 q (by omega)
  · have hji : j ≠ i := fun z => hni (by rw [← z]; exact hj)
    rw [k0 _ (by omega), k1 _ (by omega)]; exact g0 _ (by omega)
  · rw [f2] at h
    by_cases c : j = i
    · rw [c]; simp
    · rw [if_neg c] at h
      exact List.mem_append_left _ (hE j hj h)
theorem mMake_ok {τ : St} {ns : List Nat} {r n : Nat} {P : Int32 → St → Prop} (hW : WF τ ns) (hE : EX τ ns) (hs : sz (fo τ) ns ≤ 72) (hr : r < 6) (hb : m_bad (nI r) = 0) (hn1 : 1 ≤ n) (hn6 : n ≤ 6)
    (hA : sz (fo τ) ns + n + 1 ≤ 72 → ∀ i τ', i < 36 → i ∉ ns → MkT τ τ' ns r n i → EX τ' (ns ++ [i]) → P 0 τ')
    (hC : ¬ sz (fo τ) ns + n + 1 ≤ 72 → ∀ p, Lst τ ns p → (sz (fo τ) (ns.filter p) + n + 1 ≤ 72 → ∀ i τ', i < 36 → i ∉ ns.filter p → MkT τ τ' (ns.filter p) r n i → EX τ' (ns.filter p ++ [i]) → P 0 τ') ∧ (¬ sz (fo τ) (ns.filter p) + n + 1 ≤ 72 → ∀ τ1, AG τ τ1 (ns.filter p) → EX τ1 (ns.filter p) → P (-2) τ1)) : w_mMake P τ (nI r) (nI n) := by
  refine ⟨fun _ => ⟨fun z => absurd z ?_, fun _ => ⟨fun _ => ?_, fun z => absurd ?_ z⟩⟩, fun z => absurd hb z⟩
  · rw [show (1 : Int32) = nI 1 from rfl, nI_ltI (by omega) (by omega)]; omega
  · refine mUsed_ok hW hE ?_
    refine ⟨fun c => mUsed_ok hW hE ⟨fun _ => ?_, fun z => absurd c z⟩, fun c => ?_⟩
    · rw [fit_iff hs hn6] at c
      exact mTail_ok (P := P) hW ⟨fun _ _ => rfl, rfl, rfl⟩ hE hr hn1 c (hA c)
    · rw [fit_iff hs hn6] at c
      refine mCollect_ok hW (fun τ1 p hL hag hex => ?_)
      obtain ⟨h1, h2⟩ := hC c p hL
      have hW1 := WF_filter hW hL.1
      have hW2 := WF_ag hag hW1
      have hs1 : sz (fo τ) (ns.filter p) ≤ 72 := Nat.le_trans (sz_filter_le _ _ _) hs
      refine mUsed_ok hW2 hex ?_
      rw [sz_congr hag.eq]
      refine ⟨fun d => ?_, fun d => h2 (fun q => d ((fit_iff hs1 hn6).mpr q)) τ1 hag hex⟩
      rw [fit_iff hs1 hn6] at d
      exact mTail_ok (P := P) hW1 hag hex hr hn1 d (h1 d)
  · rw [show (6 : Int32) = nI 6 from rfl, nI_leI (by omega) (by omega)]; exact hn6
theorem op_make {σ τ : St} (h : Inv σ τ) (x1 x2 : Int32) : w_bMake (fun r σ' => w_mMake (fun r' τ' => r = r' ∧ Inv σ' τ') τ x1 x2) σ x1 x2 := by
  rcases reg_cases x1 with ⟨hb, hm⟩ | ⟨r, hr, rfl, hb, hm⟩
  · exact ⟨fun _ => ⟨fun h0 => absurd (hm.symm.trans h0) one_ne, fun _ => ⟨rfl, h⟩⟩, fun h0 => absurd hb h0⟩
  by_cases hlt : x2 < 1
  · exact ⟨fun z => absurd (hb.symm.trans z) one_ne, fun _ => ⟨fun _ => ⟨fun _ => ⟨fun _ => ⟨rfl, h⟩, fun z => absurd hlt z⟩, fun z => absurd hm z⟩, fun z => absurd hlt z⟩⟩
  by_cases hle : x2 ≤ 6
  · obtain ⟨n, hn1, hn6, rfl⟩ := n16 hlt hle
    obtain ⟨ns, hW, hE, hB⟩ := h
    refine bMake_ok hW hB hr hb hn1 hn6 (fun hs σ' hM => ?_) (fun hs σ1 p hL hW1 hB1 => ⟨fun hs1 σ' hM => ?_, fun hs1 => ?_⟩)
    · refine mMake_ok hW hE hB.1 hr hm hn1 hn6 (fun _ i τ' hi hni hT hex => ?_) (fun z => absurd hs z)
      obtain ⟨w1, w2⟩ := hM i τ' hi hni hT
      exact ⟨rfl, _, w1, hex, w2⟩
    · refine mMake_ok hW hE hB.1 hr hm hn1 hn6 (fun z => absurd z hs) (fun _ q hL2 => ?_)
      have : q = p := funext (fun i => hL2.uniq hL i)
      subst this
      refine ⟨fun _ i τ' hi hni hT hex => ?_, fun z => absurd hs1 z⟩
      obtain ⟨w1, w2⟩ := hM i τ' hi hni hT
      exact ⟨rfl, _, w1, hex, w2⟩
    · refine mMake_ok hW hE hB.1 hr hm hn1 hn6 (fun z => absurd z hs) (fun _ q hL2 => ?_)
      have : q = p := funext (fun i => hL2.uniq hL i)
      subst this
      exact ⟨fun z => absurd z hs1, fun _ τ1 hag hex => ⟨rfl, _, WF_ag hag hW1, hex, RB_ag hag hB1⟩⟩
  · exact ⟨fun z => absurd (hb.symm.trans z) one_ne, fun _ => ⟨fun z => absurd z hlt, fun _ => ⟨fun z => absurd z hle, fun _ => ⟨fun _ => ⟨fun z => absurd z hlt, fun _ => ⟨fun z => absurd z hle, fun _ => ⟨rfl, h⟩⟩⟩, fun z => absurd hm z⟩⟩⟩⟩
theorem inv_0 {σ τ : St} (h : ∀ k j, σ k j = 0) (g : ∀ k j, τ k j = 0) : Inv σ τ := by
  refine ⟨[], ⟨List.nodup_nil, fun i hi => (by cases hi), fun r _ => Or.inl (g 0 r), fun i hi => (by cases hi)⟩, fun i _ h2 => absurd (g 2 i) h2, Nat.zero_le _, h 0 0, fun r _ => ?_, fun i hi => (by cases hi)⟩
  rw [enc0 (g 0 r), h, h, g, g]
  exact ⟨rfl, rfl⟩
end
section
/-! printed by gen.py: walks of BreakHeap -/
abbrev rm_bHasField : Room := { frames := 0, cells := 0, slots := 0, locals := 0 }
set_option maxHeartbeats 4000000 in
set_option maxRecDepth 100000 in
theorem met_bHasField (l : Launch) (D : va_G) (a : Nat → Nat) (k : Nat → ClassId) (σ : St) (x1 x2 : Int32) {P : Int32 → St → Prop} (hw : w_bHasField P σ x1 x2) (sz : Nat) : Met l yX0_hasField (ws_ yX0_hasField cX0_hasField 3 (some .boolean)) rm_bHasField (bPc D a k σ sz [.int x1, .int x2]) (va_Qi P (bB D a k (va_A (bW a k σ) sz)) (va_A (bW a k σ) sz)) 0 0 (va_A (bW a k σ) sz) := by
  refine Met.ofW (cc := cX0_hasField) (maxL := 3) (ret := (some .boolean)) (by decide) rfl ?_
  intro p e s m args below meth c s₁ B hml hv
  obtain ⟨rfl, hI, hA⟩ := b_start hv
  have hx := B.exec
  have hb := B.bytes
  have hr := B.returns
  have hlocks := B.notSynchronized
  have hts := atoms_spec (ws := (ws_ yX0_hasField cX0_hasField 3 (some .boolean))) B.pre
  have hts : ∀ w ∈ lw_all, w.before _ s = true := fun w h => hts w (List.mem_cons_of_mem _ h)
  have hown : s.vm.findClass RX0 = some m.cls := findClass_of_methodNamed B.named
  generalize va_A (bW a k σ) sz = A at hI hA ⊢
  have hl := lv_entry ([.ref (a 0), .int x1, .int x2]) (n := 3) (Nat.le_of_ble_eq_true rfl)
  rw [lg_entry_eq]
  generalize (lg_sl ([.ref (a 0), .int x1, .int x2]) ++ List.replicate (3 - (lg_sl ([.ref (a 0), .int x1, .int x2])).length) Slot.unset).toArray = ls at hl ⊢
  have hl : lv_has ls 3 [(0, .ref (a 0)), (1, .int x1), (2, .int x2)] := hl
  change W p l e rm_bHasField s m _ below meth c s.heap [] 0 0 _ (F0 m 0 ls [])
  unfold w_bHasField at hw
  refine lv_aload_n hx hb dX0_hasField_0 rfl (lv_at hl 0 rfl) ?_
  refine b_get hx hb hts hown hI 4 (by decide) rfl q28 (v := .ref (a 4)) rfl dX0_hasField_1 ?_
  refine lv_iload_n hx hb dX0_hasField_4 rfl (lv_at hl 1 rfl) ?_
  obtain ⟨g3, hw⟩ := hw
  refine va_zald hx hb hI.1 hI.2.1 4 3 rfl rfl g3 dX0_hasField_5 ?_
  refine lv_if_eq (tgt := 32) hx hb dX0_hasField_6 (by decide) (fun c_ => ?_) (fun c_ => ?_)
  · have hw := hw.1 c_
    refine lv_iconst (v := 0) hx hb dX0_hasField_32 (by decide) ?_
    exact b_zret hx hb hr rfl hlocks hI hw dX0_hasField_33
  have hw := hw.2 c_
  refine lv_iload_n hx hb dX0_hasField_9 rfl (lv_at hl 2 rfl) ?_
  refine lv_if_lt (tgt := 32) hx hb dX0_hasField_10 (by decide) (fun c_ => ?_) (fun c_ => ?_)
  · have hw := hw.1 c_
    refine lv_iconst (v := 0) hx hb dX0_hasField_32 (by decide) ?_
    exact b_zret hx hb hr rfl hlocks hI hw dX0_hasField_33
  have hw := hw.2 c_
  refine lv_iload_n hx hb dX0_hasField_13 rfl (lv_at hl 2 rfl) ?_
  refine lv_aload_n hx hb dX0_hasField_14 rfl (lv_at hl 0 rfl) ?_
  refine b_get hx hb hts hown hI 1 (by decide) rfl q25 (v := .ref (a 1)) rfl dX0_hasField_15 ?_
  refine lv_aload_n hx hb dX0_hasField_18 rfl (lv_at hl 0 rfl) ?_
  refine b_get hx hb hts hown hI 3 (by decide) rfl q27 (v := .ref (a 3)) rfl dX0_hasField_19 ?_
  refine lv_iload_n hx hb dX0_hasField_22 rfl (lv_at hl 1 rfl) ?_
  obtain ⟨g2, hw⟩ := hw
  refine va_iald hx hb hI.1 hI.2.1 3 2 rfl rfl g2 dX0_hasField_23 ?_
  obtain ⟨g1, hw⟩ := hw
  refine va_iald hx hb hI.1 hI.2.1 1 0 rfl rfl g1 dX0_hasField_24 ?_
  refine lv_icmp_ge (tgt := 32) hx hb dX0_hasField_25 (by decide) (fun c_ => ?_) (fun c_ => ?_)
  · have hw := hw.1 c_
    refine lv_iconst (v := 0) hx hb dX0_hasField_32 (by decide) ?_
    exact b_zret hx hb hr rfl hlocks hI hw dX0_hasField_33
  have hw := hw.2 c_
  refine lv_iconst (v := 1) hx hb dX0_hasField_28 (by decide) ?_
  refine lv_goto (tgt := 33) hx hb dX0_hasField_29 (by decide) ?_
  exact b_zret hx hb hr rfl hlocks hI hw dX0_hasField_33
abbrev rm_bReach : Room := { frames := 0, cells := 0, slots := 0, locals := 0 }
set_option maxHeartbeats 4000000 in
set_option maxRecDepth 100000 in
theorem met_bReach (l : Launch) (D : va_G) (a : Nat → Nat) (k : Nat → ClassId) (σ : St) (x1 : Int32) {P : St → Prop} (hw : w_bReach P σ x1) (sz : Nat) : Met l yX0_reach (ws_ yX0_reach cX0_reach 2 none) rm_bReach (bPc D a k σ sz [.int x1]) (va_Qv P (bB D a k (va_A (bW a k σ) sz)) (va_A (bW a k σ) sz)) 0 0 (va_A (bW a k σ) sz) := by
  refine Met.ofW (cc := cX0_reach) (maxL := 2) (ret := none) (by decide) rfl ?_
  intro p e s m args below meth c s₁ B hml hv
  obtain ⟨rfl, hI, hA⟩ := b_start hv
  have hx := B.exec
  have hb := B.bytes
  have hr := B.returns
  have hlocks := B.notSynchronized
  have hts := atoms_spec (ws := (ws_ yX0_reach cX0_reach 2 none)) B.pre
  have hts : ∀ w ∈ lw_all, w.before _ s = true := fun w h => hts w (List.mem_cons_of_mem _ h)
  have hown : s.vm.findClass RX0 = some m.cls := findClass_of_methodNamed B.named
  generalize va_A (bW a k σ) sz = A at hI hA ⊢
  have hl := lv_entry ([.ref (a 0), .int x1]) (n := 2) (Nat.le_of_ble_eq_true rfl)
  rw [lg_entry_eq]
  generalize (lg_sl ([.ref (a 0), .int x1]) ++ List.replicate (2 - (lg_sl ([.ref (a 0), .int x1])).length) Slot.unset).toArray = ls at hl ⊢
  have hl : lv_has ls 2 [(0, .ref (a 0)), (1, .int x1)] := hl
  change W p l e rm_bReach s m _ below meth c s.heap [] 0 0 _ (F0 m 0 ls [])
  unfold w_bReach at hw
  refine lv_aload_n hx hb dX0_reach_0 rfl (lv_at hl 0 rfl) ?_
  refine b_get hx hb hts hown hI 5 (by decide) rfl q29 (v := .ref (a 5)) rfl dX0_reach_1 ?_
  refine lv_iload_n hx hb dX0_reach_4 rfl (lv_at hl 1 rfl) ?_
  obtain ⟨g6, hw⟩ := hw
  refine va_zald hx hb hI.1 hI.2.1 5 4 rfl rfl g6 dX0_reach_5 ?_
  refine lv_if_ne (tgt := 36) hx hb dX0_reach_6 (by decide) (fun c_ => ?_) (fun c_ => ?_)
  · have hw := hw.2 c_
    exact b_vret hx hb hr hlocks hI hw dX0_reach_36
  have hw := hw.1 c_
  refine lv_aload_n hx hb dX0_reach_9 rfl (lv_at hl 0 rfl) ?_
  refine b_get hx hb hts hown hI 5 (by decide) rfl q29 (v := .ref (a 5)) rfl dX0_reach_10 ?_
  refine lv_iload_n hx hb dX0_reach_13 rfl (lv_at hl 1 rfl) ?_
  refine lv_iconst (v := 1) hx hb dX0_reach_14 (by decide) ?_
  obtain ⟨g2, hw⟩ := hw
  refine b_zast hx hb hI 5 4 rfl rfl (b_s5 _ _ _ _ _) g2 dX0_reach_15 (fun σ1 H locs e_σ1 hI => ?_)
  have hw := hw σ1 e_σ1
  refine lv_aload_n hx hb dX0_reach_16 rfl (lv_at hl 0 rfl) ?_
  refine b_get hx hb hts hown hI 7 (by decide) rfl q31 (v := .ref (a 7)) rfl dX0_reach_17 ?_
  refine lv_aload_n hx hb dX0_reach_20 rfl (lv_at hl 0 rfl) ?_
  refine b_get hx hb hts hown hI 6 (by decide) rfl q30 (v := .int (σ1 6 0)) rfl dX0_reach_21 ?_
  refine lv_iload_n hx hb dX0_reach_24 rfl (lv_at hl 1 rfl) ?_
  obtain ⟨g4, hw⟩ := hw
  refine b_iast hx hb hI 6 5 rfl rfl (b_s7 _ _ _ _ _) g4 dX0_reach_25 (fun σ3 H locs e_σ3 hI => ?_)
  have hw := hw σ3 e_σ3
  refine lv_aload_n hx hb dX0_reach_26 rfl (lv_at hl 0 rfl) ?_
  refine lv_dup hx hb dX0_reach_27 rfl ?_
  refine b_get hx hb hts hown hI 6 (by decide) rfl q30 (v := .int (σ3 6 0)) rfl dX0_reach_28 ?_
  refine lv_iconst (v := 1) hx hb dX0_reach_31 (by decide) ?_
  refine lv_iadd hx hb dX0_reach_32 ?_
  refine b_put hx hb hts hown hI 6 (by decide) rfl q30 rfl (by decide +kernel) (b_s6 _ _ _ _) dX0_reach_33 (fun σ5 H locs e_σ5 hI => ?_)
  have hw := hw σ5 e_σ5
  exact b_vret hx hb hr hlocks hI hw dX0_reach_36
abbrev rm_bMarkReached : Room := { frames := 1, cells := 0, slots := 0, locals := 21 }
set_option maxHeartbeats 4000000 in
set_option maxRecDepth 100000 in
theorem wk_bMarkReached_98 {p : Program} {l : Launch} {e : Env} {s : State} {m : MethodId} {args : Array Value} {below : List Frame} {meth : Method} {c : Code} {Q : State → Prop} {D : va_G} {a : Nat → Nat} {k : Nat → ClassId} {A : Nat → Prop} (hx : p.tables.exec = Jvm.exec) (hb : c.code = cX0_markReached) (hml : c.maxLocals = 4) (hown : s.vm.findClass RX0 = some m.cls) (hts : ∀ w ∈ lw_all, w.before args s = true) (hA : ∀ q : Nat, s.heap.size ≤ q → A q) (x1 : Int32) (x2 : Int32) {K : St → Int32 → Prop} :
    ∀ (n : Nat) (σ : St) (x3 : Int32) (H : Heap) (locs : List Loc) (ls : Array Slot), bI D a k A s σ H locs → lv_has ls 4 [(0, .ref (a 0)), (1, .int x1), (2, .int x2), (3, .int x3)] → w_bMarkReached_98 x1 x2 K n σ x3 → (∀ (σ : St) (x3 : Int32) (H : Heap) (locs : List Loc) (ls : Array Slot), bI D a k A s σ H locs → lv_has ls 4 [(0, .ref (a 0)), (1, .int x1), (2, .int x2), (3, .int x3)] → K σ x3 → W p l e rm_bMarkReached s m args below meth c H locs 0 0 Q (F0 m 135 ls [])) → W p l e rm_bMarkReached s m args below meth c H locs 0 0 Q (F0 m 98 ls []) := by
  intro n
  induction n with
  | zero => intro σ x3 H locs ls hI hl hw; exact hw.elim
  | succ n ih =>
    intro σ x3 H locs ls hI hl hw hK
    rw [w_bMarkReached_98] at hw
    refine lv_iload_n hx hb dX0_markReached_98 rfl (lv_at hl 3 rfl) ?_
    refine lv_iload_n hx hb dX0_markReached_99 rfl (lv_at hl 2 rfl) ?_
    refine lv_aload_n hx hb dX0_markReached_100 rfl (lv_at hl 0 rfl) ?_
    refine b_get hx hb hts hown hI 1 (by decide) rfl q25 (v := .ref (a 1)) rfl dX0_markReached_101 ?_
    refine lv_iload_n hx hb dX0_markReached_104 rfl (lv_at hl 2 rfl) ?_
    obtain ⟨g4, hw⟩ := hw
    refine va_iald hx hb hI.1 hI.2.1 1 0 rfl rfl g4 dX0_markReached_105 ?_
    refine lv_iadd hx hb dX0_markReached_106 ?_
    refine lv_icmp_gt (tgt := 135) hx hb dX0_markReached_107 (by decide) (fun c_ => ?_) (fun c_ => ?_)
    · have hw := hw.1 c_
      exact hK σ x3 _ _ _ hI (lv_sub hl [0, 1, 2, 3] rfl) hw
    have hw := hw.2 c_
    refine lv_aload_n hx hb dX0_markReached_110 rfl (lv_at hl 0 rfl) ?_
    refine b_get hx hb hts hown hI 2 (by decide) rfl q26 (v := .ref (a 2)) rfl dX0_markReached_111 ?_
    refine lv_iload_n hx hb dX0_markReached_114 rfl (lv_at hl 3 rfl) ?_
    obtain ⟨g3, hw⟩ := hw
    refine va_zald hx hb hI.1 hI.2.1 2 1 rfl rfl g3 dX0_markReached_115 ?_
    refine lv_if_eq (tgt := 129) hx hb dX0_markReached_116 (by decide) (fun c_ => ?_) (fun c_ => ?_)
    · have hw := hw.1 c_
      refine lv_iinc (v := (x3 + 1)) (lv' := [(3, .int (x3 + 1)), (0, .ref (a 0)), (1, .int x1), (2, .int x2)]) hx hb dX0_markReached_129 hl (k := 3) rfl rfl (by decide) rfl (fun ls hl => ?_)
      refine lv_goto (tgt := 98) hx hb dX0_markReached_132 (by decide) ?_
      exact ih σ (x3 + 1) _ _ _ hI (lv_sub hl [1, 2, 3, 0] rfl) hw hK
    have hw := hw.2 c_
    refine lv_aload_n hx hb dX0_markReached_119 rfl (lv_at hl 0 rfl) ?_
    refine lv_aload_n hx hb dX0_markReached_120 rfl (lv_at hl 0 rfl) ?_
    refine b_get hx hb hts hown hI 1 (by decide) rfl q25 (v := .ref (a 1)) rfl dX0_markReached_121 ?_
    refine lv_iload_n hx hb dX0_markReached_124 rfl (lv_at hl 3 rfl) ?_
    obtain ⟨g2, hw⟩ := hw
    refine va_iald hx hb hI.1 hI.2.1 1 0 rfl rfl g2 dX0_markReached_125 ?_
    refine b_callv (As := [.int (σ 1 x3.toNatClampNeg)]) ⟨hx, hb, hml, hown, hts⟩ (met_bReach l D a k σ (σ 1 x3.toNatClampNeg) hw) (cwV 1 hts (lw_V q75 q77 qs2 q14 q78) rfl rfl rfl (by decide +kernel) ⟨Nat.le_of_ble_eq_true rfl, Nat.le_of_ble_eq_true rfl⟩) hI hA rfl hl.1 rfl (Nat.le_of_ble_eq_true rfl) dX0_markReached_126 ⟨Nat.le_of_ble_eq_true rfl, Nat.le_of_ble_eq_true rfl⟩ (fun σ1 H locs hw hI => ?_)
    refine lv_iinc (v := (x3 + 1)) (lv' := [(3, .int (x3 + 1)), (0, .ref (a 0)), (1, .int x1), (2, .int x2)]) hx hb dX0_markReached_129 hl (k := 3) rfl rfl (by decide) rfl (fun ls hl => ?_)
    refine lv_goto (tgt := 98) hx hb dX0_markReached_132 (by decide) ?_
    exact ih σ1 (x3 + 1) _ _ _ hI (lv_sub hl [1, 2, 3, 0] rfl) hw hK
set_option maxHeartbeats 4000000 in
set_option maxRecDepth 100000 in
theorem wk_bMarkReached_61 {p : Program} {l : Launch} {e : Env} {s : State} {m : MethodId} {args : Array Value} {below : List Frame} {meth : Method} {c : Code} {Q : State → Prop} {D : va_G} {a : Nat → Nat} {k : Nat → ClassId} {A : Nat → Prop} (hx : p.tables.exec = Jvm.exec) (hb : c.code = cX0_markReached) (hml : c.maxLocals = 4) (hown : s.vm.findClass RX0 = some m.cls) (hts : ∀ w ∈ lw_all, w.before args s = true) (hA : ∀ q : Nat, s.heap.size ≤ q → A q)  {K : St → Int32 → Prop} :
    ∀ (n : Nat) (σ : St) (x1 : Int32) (H : Heap) (locs : List Loc) (ls : Array Slot), bI D a k A s σ H locs → lv_has ls 4 [(0, .ref (a 0)), (1, .int x1)] → w_bMarkReached_61 K n σ x1 → (∀ (σ : St) (x1 : Int32) (H : Heap) (locs : List Loc) (ls : Array Slot), bI D a k A s σ H locs → lv_has ls 4 [(0, .ref (a 0)), (1, .int x1)] → K σ x1 → W p l e rm_bMarkReached s m args below meth c H locs 0 0 Q (F0 m 141 ls [])) → W p l e rm_bMarkReached s m args below meth c H locs 0 0 Q (F0 m 61 ls []) := by
  intro n
  induction n with
  | zero => intro σ x1 H locs ls hI hl hw; exact hw.elim
  | succ n ih =>
    intro σ x1 H locs ls hI hl hw hK
    rw [w_bMarkReached_61] at hw
    refine lv_iload_n hx hb dX0_markReached_61 rfl (lv_at hl 1 rfl) ?_
    refine lv_bipush (v := 37) hx hb dX0_markReached_62 (by decide) ?_
    refine lv_icmp_ge (tgt := 141) hx hb dX0_markReached_64 (by decide) (fun c_ => ?_) (fun c_ => ?_)
    · have hw := hw.1 c_
      exact hK σ x1 _ _ _ hI (lv_sub hl [0, 1] rfl) hw
    have hw := hw.2 c_
    refine lv_aload_n hx hb dX0_markReached_67 rfl (lv_at hl 0 rfl) ?_
    refine b_get hx hb hts hown hI 6 (by decide) rfl q30 (v := .int (σ 6 0)) rfl dX0_markReached_68 ?_
    refine lv_if_le (tgt := 141) hx hb dX0_markReached_71 (by decide) (fun c_ => ?_) (fun c_ => ?_)
    · have hw := hw.1 c_
      exact hK σ x1 _ _ _ hI (lv_sub hl [0, 1] rfl) hw
    have hw := hw.2 c_
    refine lv_aload_n hx hb dX0_markReached_74 rfl (lv_at hl 0 rfl) ?_
    refine lv_dup hx hb dX0_markReached_75 rfl ?_
    refine b_get hx hb hts hown hI 6 (by decide) rfl q30 (v := .int (σ 6 0)) rfl dX0_markReached_76 ?_
    refine lv_iconst (v := 1) hx hb dX0_markReached_79 (by decide) ?_
    refine lv_isub hx hb dX0_markReached_80 ?_
    refine b_put hx hb hts hown hI 6 (by decide) rfl q30 rfl (by decide +kernel) (b_s6 _ _ _ _) dX0_markReached_81 (fun σ5 H locs e_σ5 hI => ?_)
    have hw := hw σ5 e_σ5
    refine lv_aload_n hx hb dX0_markReached_84 rfl (lv_at hl 0 rfl) ?_
    refine b_get hx hb hts hown hI 7 (by decide) rfl q31 (v := .ref (a 7)) rfl dX0_markReached_85 ?_
    refine lv_aload_n hx hb dX0_markReached_88 rfl (lv_at hl 0 rfl) ?_
    refine b_get hx hb hts hown hI 6 (by decide) rfl q30 (v := .int (σ5 6 0)) rfl dX0_markReached_89 ?_
    obtain ⟨g11, hw⟩ := hw
    refine va_iald hx hb hI.1 hI.2.1 6 5 rfl rfl g11 dX0_markReached_92 ?_
    refine lv_topi (fun v6 e_v6 => ?_)
    have hw := hw v6 e_v6
    refine lv_istore_n (lv' := [(2, .int v6), (0, .ref (a 0)), (1, .int x1)]) hx hb dX0_markReached_93 rfl hl (by decide) rfl (fun ls hl => ?_)
    refine lv_iload_n hx hb dX0_markReached_94 rfl (lv_at hl 0 rfl) ?_
    refine lv_iconst (v := 1) hx hb dX0_markReached_95 (by decide) ?_
    refine lv_iadd hx hb dX0_markReached_96 ?_
    refine lv_topi (fun v7 e_v7 => ?_)
    have hw := hw v7 e_v7
    refine lv_istore_n (lv' := [(3, .int v7), (2, .int v6), (0, .ref (a 0)), (1, .int x1)]) hx hb dX0_markReached_97 rfl hl (by decide) rfl (fun ls hl => ?_)
    obtain ⟨n8, hw⟩ := hw
    refine wk_bMarkReached_98 hx hb hml hown hts hA x1 v6 n8 σ5 v7 _ _ _ hI (lv_sub hl [2, 3, 1, 0] rfl) hw (fun σ9 v10 H locs ls hI hl hw => ?_)
    refine lv_iinc (v := (x1 + 1)) (lv' := [(1, .int (x1 + 1)), (0, .ref (a 0)), (2, .int v6), (3, .int v10)]) hx hb dX0_markReached_135 hl (k := 1) rfl rfl (by decide) rfl (fun ls hl => ?_)
    refine lv_goto (tgt := 61) hx hb dX0_markReached_138 (by decide) ?_
    exact ih σ9 (x1 + 1) _ _ _ hI (lv_sub hl [1, 0] rfl) hw hK
set_option maxHeartbeats 4000000 in
set_option maxRecDepth 100000 in
theorem wk_bMarkReached_28 {p : Program} {l : Launch} {e : Env} {s : State} {m : MethodId} {args : Array Value} {below : List Frame} {meth : Method} {c : Code} {Q : State → Prop} {D : va_G} {a : Nat → Nat} {k : Nat → ClassId} {A : Nat → Prop} (hx : p.tables.exec = Jvm.exec) (hb : c.code = cX0_markReached) (hml : c.maxLocals = 4) (hown : s.vm.findClass RX0 = some m.cls) (hts : ∀ w ∈ lw_all, w.before args s = true) (hA : ∀ q : Nat, s.heap.size ≤ q → A q)  {K : St → Int32 → Prop} :
    ∀ (n : Nat) (σ : St) (x1 : Int32) (H : Heap) (locs : List Loc) (ls : Array Slot), bI D a k A s σ H locs → lv_has ls 4 [(0, .ref (a 0)), (1, .int x1)] → w_bMarkReached_28 K n σ x1 → (∀ (σ : St) (x1 : Int32) (H : Heap) (locs : List Loc) (ls : Array Slot), bI D a k A s σ H locs → lv_has ls 4 [(0, .ref (a 0)), (1, .int x1)] → K σ x1 → W p l e rm_bMarkReached s m args below meth c H locs 0 0 Q (F0 m 59 ls [])) → W p l e rm_bMarkReached s m args below meth c H locs 0 0 Q (F0 m 28 ls []) := by
  intro n
  induction n with
  | zero => intro σ x1 H locs ls hI hl hw; exact hw.elim
  | succ n ih =>
    intro σ x1 H locs ls hI hl hw hK
    rw [w_bMarkReached_28] at hw
    refine lv_iload_n hx hb dX0_markReached_28 rfl (lv_at hl 1 rfl) ?_
    refine lv_bipush (v := 6) hx hb dX0_markReached_29 (by decide) ?_
    refine lv_icmp_ge (tgt := 59) hx hb dX0_markReached_31 (by decide) (fun c_ => ?_) (fun c_ => ?_)
    · have hw := hw.1 c_
      exact hK σ x1 _ _ _ hI (lv_sub hl [0, 1] rfl) hw
    have hw := hw.2 c_
    refine lv_aload_n hx hb dX0_markReached_34 rfl (lv_at hl 0 rfl) ?_
    refine b_get hx hb hts hown hI 4 (by decide) rfl q28 (v := .ref (a 4)) rfl dX0_markReached_35 ?_
    refine lv_iload_n hx hb dX0_markReached_38 rfl (lv_at hl 1 rfl) ?_
    obtain ⟨g14, hw⟩ := hw
    refine va_zald hx hb hI.1 hI.2.1 4 3 rfl rfl g14 dX0_markReached_39 ?_
    refine lv_if_eq (tgt := 53) hx hb dX0_markReached_40 (by decide) (fun c_ => ?_) (fun c_ => ?_)
    · have hw := hw.1 c_
      refine lv_iinc (v := (x1 + 1)) (lv' := [(1, .int (x1 + 1)), (0, .ref (a 0))]) hx hb dX0_markReached_53 hl (k := 1) rfl rfl (by decide) rfl (fun ls hl => ?_)
      refine lv_goto (tgt := 28) hx hb dX0_markReached_56 (by decide) ?_
      exact ih σ (x1 + 1) _ _ _ hI (lv_sub hl [1, 0] rfl) hw hK
    have hw := hw.2 c_
    refine lv_aload_n hx hb dX0_markReached_43 rfl (lv_at hl 0 rfl) ?_
    refine lv_aload_n hx hb dX0_markReached_44 rfl (lv_at hl 0 rfl) ?_
    refine b_get hx hb hts hown hI 3 (by decide) rfl q27 (v := .ref (a 3)) rfl dX0_markReached_45 ?_
    refine lv_iload_n hx hb dX0_markReached_48 rfl (lv_at hl 1 rfl) ?_
    obtain ⟨g13, hw⟩ := hw
    refine va_iald hx hb hI.1 hI.2.1 3 2 rfl rfl g13 dX0_markReached_49 ?_
    refine b_callv (As := [.int (σ 3 x1.toNatClampNeg)]) ⟨hx, hb, hml, hown, hts⟩ (met_bReach l D a k σ (σ 3 x1.toNatClampNeg) hw) (cwV 1 hts (lw_V q75 q77 qs2 q14 q78) rfl rfl rfl (by decide +kernel) ⟨Nat.le_of_ble_eq_true rfl, Nat.le_of_ble_eq_true rfl⟩) hI hA rfl hl.1 rfl (Nat.le_of_ble_eq_true rfl) dX0_markReached_50 ⟨Nat.le_of_ble_eq_true rfl, Nat.le_of_ble_eq_true rfl⟩ (fun σ12 H locs hw hI => ?_)
    refine lv_iinc (v := (x1 + 1)) (lv' := [(1, .int (x1 + 1)), (0, .ref (a 0))]) hx hb dX0_markReached_53 hl (k := 1) rfl rfl (by decide) rfl (fun ls hl => ?_)
    refine lv_goto (tgt := 28) hx hb dX0_markReached_56 (by decide) ?_
    exact ih σ12 (x1 + 1) _ _ _ hI (lv_sub hl [1, 0] rfl) hw hK
set_option maxHeartbeats 4000000 in
set_option maxRecDepth 100000 in
theorem wk_bMarkReached_2 {p : Program} {l : Launch} {e : Env} {s : State} {m : MethodId} {args : Array Value} {below : List Frame} {meth : Method} {c : Code} {Q : State → Prop} {D : va_G} {a : Nat → Nat} {k : Nat → ClassId} {A : Nat → Prop} (hx : p.tables.exec = Jvm.exec) (hb : c.code = cX0_markReached) (hml : c.maxLocals = 4) (hown : s.vm.findClass RX0 = some m.cls) (hts : ∀ w ∈ lw_all, w.before args s = true) (hA : ∀ q : Nat, s.heap.size ≤ q → A q)  {K : St → Int32 → Prop} :
    ∀ (n : Nat) (σ : St) (x1 : Int32) (H : Heap) (locs : List Loc) (ls : Array Slot), bI D a k A s σ H locs → lv_has ls 4 [(0, .ref (a 0)), (1, .int x1)] → w_bMarkReached_2 K n σ x1 → (∀ (σ : St) (x1 : Int32) (H : Heap) (locs : List Loc) (ls : Array Slot), bI D a k A s σ H locs → lv_has ls 4 [(0, .ref (a 0)), (1, .int x1)] → K σ x1 → W p l e rm_bMarkReached s m args below meth c H locs 0 0 Q (F0 m 21 ls [])) → W p l e rm_bMarkReached s m args below meth c H locs 0 0 Q (F0 m 2 ls []) := by
  intro n
  induction n with
  | zero => intro σ x1 H locs ls hI hl hw; exact hw.elim
  | succ n ih =>
    intro σ x1 H locs ls hI hl hw hK
    rw [w_bMarkReached_2] at hw
    refine lv_iload_n hx hb dX0_markReached_2 rfl (lv_at hl 1 rfl) ?_
    refine lv_bipush (v := 72) hx hb dX0_markReached_3 (by decide) ?_
    refine lv_icmp_ge (tgt := 21) hx hb dX0_markReached_5 (by decide) (fun c_ => ?_) (fun c_ => ?_)
    · have hw := hw.1 c_
      exact hK σ x1 _ _ _ hI (lv_sub hl [0, 1] rfl) hw
    have hw := hw.2 c_
    refine lv_aload_n hx hb dX0_markReached_8 rfl (lv_at hl 0 rfl) ?_
    refine b_get hx hb hts hown hI 5 (by decide) rfl q29 (v := .ref (a 5)) rfl dX0_markReached_9 ?_
    refine lv_iload_n hx hb dX0_markReached_12 rfl (lv_at hl 1 rfl) ?_
    refine lv_iconst (v := 0) hx hb dX0_markReached_13 (by decide) ?_
    obtain ⟨g16, hw⟩ := hw
    refine b_zast hx hb hI 5 4 rfl rfl (b_s5 _ _ _ _ _) g16 dX0_markReached_14 (fun σ15 H locs e_σ15 hI => ?_)
    have hw := hw σ15 e_σ15
    refine lv_iinc (v := (x1 + 1)) (lv' := [(1, .int (x1 + 1)), (0, .ref (a 0))]) hx hb dX0_markReached_15 hl (k := 1) rfl rfl (by decide) rfl (fun ls hl => ?_)
    refine lv_goto (tgt := 2) hx hb dX0_markReached_18 (by decide) ?_
    exact ih σ15 (x1 + 1) _ _ _ hI (lv_sub hl [1, 0] rfl) hw hK
set_option maxHeartbeats 4000000 in
set_option maxRecDepth 100000 in
theorem met_bMarkReached (l : Launch) (D : va_G) (a : Nat → Nat) (k : Nat → ClassId) (σ : St) {P : St → Prop} (hw : w_bMarkReached P σ ) (sz : Nat) : Met l yX0_markReached (ws_ yX0_markReached cX0_markReached 4 none) rm_bMarkReached (bPc D a k σ sz []) (va_Qv P (bB D a k (va_A (bW a k σ) sz)) (va_A (bW a k σ) sz)) 0 0 (va_A (bW a k σ) sz) := by
  refine Met.ofW (cc := cX0_markReached) (maxL := 4) (ret := none) (by decide) rfl ?_
  intro p e s m args below meth c s₁ B hml hv
  obtain ⟨rfl, hI, hA⟩ := b_start hv
  have hx := B.exec
  have hb := B.bytes
  have hr := B.returns
  have hlocks := B.notSynchronized
  have hts := atoms_spec (ws := (ws_ yX0_markReached cX0_markReached 4 none)) B.pre
  have hts : ∀ w ∈ lw_all, w.before _ s = true := fun w h => hts w (List.mem_cons_of_mem _ h)
  have hown : s.vm.findClass RX0 = some m.cls := findClass_of_methodNamed B.named
  generalize va_A (bW a k σ) sz = A at hI hA ⊢
  have hl := lv_entry ([.ref (a 0)]) (n := 4) (Nat.le_of_ble_eq_true rfl)
  rw [lg_entry_eq]
  generalize (lg_sl ([.ref (a 0)]) ++ List.replicate (4 - (lg_sl ([.ref (a 0)])).length) Slot.unset).toArray = ls at hl ⊢
  have hl : lv_has ls 4 [(0, .ref (a 0))] := hl
  change W p l e rm_bMarkReached s m _ below meth c s.heap [] 0 0 _ (F0 m 0 ls [])
  unfold w_bMarkReached at hw
  refine lv_iconst (v := 0) hx hb dX0_markReached_0 (by decide) ?_
  refine lv_istore_n (lv' := [(1, .int 0), (0, .ref (a 0))]) hx hb dX0_markReached_1 rfl hl (by decide) rfl (fun ls hl => ?_)
  obtain ⟨n17, hw⟩ := hw
  refine wk_bMarkReached_2 hx hb hml hown hts hA  n17 σ 0 _ _ _ hI (lv_sub hl [1, 0] rfl) hw (fun σ18 v19 H locs ls hI hl hw => ?_)
  refine lv_aload_n hx hb dX0_markReached_21 rfl (lv_at hl 0 rfl) ?_
  refine lv_iconst (v := 0) hx hb dX0_markReached_22 (by decide) ?_
  refine b_put hx hb hts hown hI 6 (by decide) rfl q30 rfl (by decide +kernel) (b_s6 _ _ _ _) dX0_markReached_23 (fun σ20 H locs e_σ20 hI => ?_)
  have hw := hw σ20 e_σ20
  refine lv_iconst (v := 0) hx hb dX0_markReached_26 (by decide) ?_
  refine lv_istore_n (lv' := [(1, .int 0), (0, .ref (a 0))]) hx hb dX0_markReached_27 rfl hl (by decide) rfl (fun ls hl => ?_)
  obtain ⟨n21, hw⟩ := hw
  refine wk_bMarkReached_28 hx hb hml hown hts hA  n21 σ20 0 _ _ _ hI (lv_sub hl [1, 0] rfl) hw (fun σ22 v23 H locs ls hI hl hw => ?_)
  refine lv_iconst (v := 0) hx hb dX0_markReached_59 (by decide) ?_
  refine lv_istore_n (lv' := [(1, .int 0), (0, .ref (a 0))]) hx hb dX0_markReached_60 rfl hl (by decide) rfl (fun ls hl => ?_)
  obtain ⟨n24, hw⟩ := hw
  refine wk_bMarkReached_61 hx hb hml hown hts hA  n24 σ22 0 _ _ _ hI (lv_sub hl [1, 0] rfl) hw (fun σ25 v26 H locs ls hI hl hw => ?_)
  exact b_vret hx hb hr hlocks hI hw dX0_markReached_141
end
section
/-! printed by gen.py: walks of BreakHeap -/
abbrev rm_bListBreaks : Room := { frames := 0, cells := 0, slots := 0, locals := 0 }
set_option maxHeartbeats 4000000 in
set_option maxRecDepth 100000 in
theorem wk_bListBreaks_14 {p : Program} {l : Launch} {e : Env} {s : State} {m : MethodId} {args : Array Value} {below : List Frame} {meth : Method} {c : Code} {Q : State → Prop} {D : va_G} {a : Nat → Nat} {k : Nat → ClassId} {A : Nat → Prop} (hx : p.tables.exec = Jvm.exec) (hb : c.code = cX0_listBreaks) (hml : c.maxLocals = 6) (hown : s.vm.findClass RX0 = some m.cls) (hts : ∀ w ∈ lw_all, w.before args s = true) (hA : ∀ q : Nat, s.heap.size ≤ q → A q)  {K : St → Int32 → Int32 → Int32 → Int32 → Prop} :
    ∀ (n : Nat) (σ : St) (x1 : Int32) (x2 : Int32) (x3 : Int32) (x4 : Int32) (H : Heap) (locs : List Loc) (ls : Array Slot), bI D a k A s σ H locs → lv_has ls 6 [(0, .ref (a 0)), (1, .int x1), (2, .int x2), (3, .int x3), (4, .int x4)] → w_bListBreaks_14 K n σ x1 x2 x3 x4 → (∀ (σ : St) (x1 : Int32) (x2 : Int32) (x3 : Int32) (x4 : Int32) (H : Heap) (locs : List Loc) (ls : Array Slot), bI D a k A s σ H locs → lv_has ls 6 [(0, .ref (a 0)), (1, .int x1), (2, .int x2), (3, .int x3), (4, .int x4)] → K σ x1 x2 x3 x4 → W p l e rm_bListBreaks s m args below meth c H locs 0 0 Q (F0 m 105 ls [])) → W p l e rm_bListBreaks s m args below meth c H locs 0 0 Q (F0 m 14 ls []) := by
  intro n
  induction n with
  | zero => intro σ x1 x2 x3 x4 H locs ls hI hl hw; exact hw.elim
  | succ n ih =>
    intro σ x1 x2 x3 x4 H locs ls hI hl hw hK
    rw [w_bListBreaks_14] at hw
    refine lv_iload hx hb dX0_listBreaks_14 (lv_at hl 4 rfl) ?_
    refine lv_bipush (v := 37) hx hb dX0_listBreaks_16 (by decide) ?_
    refine lv_icmp_ge (tgt := 105) hx hb dX0_listBreaks_18 (by decide) (fun c_ => ?_) (fun c_ => ?_)
    · have hw := hw.1 c_
      exact hK σ x1 x2 x3 x4 _ _ _ hI (lv_sub hl [0, 1, 2, 3, 4] rfl) hw
    have hw := hw.2 c_
    refine lv_iload_n hx hb dX0_listBreaks_21 rfl (lv_at hl 3 rfl) ?_
    refine lv_aload_n hx hb dX0_listBreaks_22 rfl (lv_at hl 0 rfl) ?_
    refine b_get hx hb hts hown hI 0 (by decide) rfl q24 (v := .int (σ 0 0)) rfl dX0_listBreaks_23 ?_
    refine lv_icmp_ge (tgt := 105) hx hb dX0_listBreaks_26 (by decide) (fun c_ => ?_) (fun c_ => ?_)
    · have hw := hw.1 c_
      exact hK σ x1 x2 x3 x4 _ _ _ hI (lv_sub hl [0, 1, 2, 3, 4] rfl) hw
    have hw := hw.2 c_
    refine lv_aload_n hx hb dX0_listBreaks_29 rfl (lv_at hl 0 rfl) ?_
    refine b_get hx hb hts hown hI 1 (by decide) rfl q25 (v := .ref (a 1)) rfl dX0_listBreaks_30 ?_
    refine lv_iload_n hx hb dX0_listBreaks_33 rfl (lv_at hl 3 rfl) ?_
    obtain ⟨g12, hw⟩ := hw
    refine va_iald hx hb hI.1 hI.2.1 1 0 rfl rfl g12 dX0_listBreaks_34 ?_
    refine lv_iconst (v := 1) hx hb dX0_listBreaks_35 (by decide) ?_
    refine lv_iadd hx hb dX0_listBreaks_36 ?_
    refine lv_topi (fun v1 e_v1 => ?_)
    have hw := hw v1 e_v1
    refine lv_istore (lv' := [(5, .int v1), (0, .ref (a 0)), (1, .int x1), (2, .int x2), (3, .int x3), (4, .int x4)]) hx hb dX0_listBreaks_37 hl (by decide) rfl (fun ls hl => ?_)
    refine lv_aload_n hx hb dX0_listBreaks_39 rfl (lv_at hl 1 rfl) ?_
    refine b_get hx hb hts hown hI 5 (by decide) rfl q29 (v := .ref (a 5)) rfl dX0_listBreaks_40 ?_
    refine lv_iload_n hx hb dX0_listBreaks_43 rfl (lv_at hl 4 rfl) ?_
    obtain ⟨g11, hw⟩ := hw
    refine va_zald hx hb hI.1 hI.2.1 5 4 rfl rfl g11 dX0_listBreaks_44 ?_
    refine lv_if_ne (tgt := 58) hx hb dX0_listBreaks_45 (by decide) (fun c_ => ?_) (fun c_ => ?_)
    · have hw := hw.2 c_
      refine lv_iload_n hx hb dX0_listBreaks_58 rfl (lv_at hl 3 rfl) ?_
      refine lv_if_eq (tgt := 94) hx hb dX0_listBreaks_59 (by decide) (fun c_ => ?_) (fun c_ => ?_)
      · have hw := hw.1 c_
        refine lv_iload_n hx hb dX0_listBreaks_94 rfl (lv_at hl 4 rfl) ?_
        refine lv_iload hx hb dX0_listBreaks_95 (lv_at hl 0 rfl) ?_
        refine lv_iadd hx hb dX0_listBreaks_97 ?_
        refine lv_topi (fun v2 e_v2 => ?_)
        have hw := hw v2 e_v2
        refine lv_istore_n (lv' := [(3, .int v2), (5, .int v1), (0, .ref (a 0)), (1, .int x1), (2, .int x2), (4, .int x4)]) hx hb dX0_listBreaks_98 rfl hl (by decide) rfl (fun ls hl => ?_)
        refine lv_iinc (v := (x4 + 1)) (lv' := [(4, .int (x4 + 1)), (3, .int v2), (5, .int v1), (0, .ref (a 0)), (1, .int x1), (2, .int x2)]) hx hb dX0_listBreaks_99 hl (k := 5) rfl rfl (by decide) rfl (fun ls hl => ?_)
        refine lv_goto (tgt := 14) hx hb dX0_listBreaks_102 (by decide) ?_
        exact ih σ x1 x2 v2 (x4 + 1) _ _ _ hI (lv_sub hl [3, 4, 5, 1, 0] rfl) hw hK
      have hw := hw.2 c_
      refine lv_aload_n hx hb dX0_listBreaks_62 rfl (lv_at hl 1 rfl) ?_
      refine b_get hx hb hts hown hI 9 (by decide) rfl q33 (v := .ref (a 9)) rfl dX0_listBreaks_63 ?_
      refine lv_aload_n hx hb dX0_listBreaks_66 rfl (lv_at hl 1 rfl) ?_
      refine b_get hx hb hts hown hI 8 (by decide) rfl q32 (v := .int (σ 8 0)) rfl dX0_listBreaks_67 ?_
      refine lv_iload_n hx hb dX0_listBreaks_70 rfl (lv_at hl 4 rfl) ?_
      obtain ⟨g4, hw⟩ := hw
      refine b_iast hx hb hI 7 6 rfl rfl (b_s9 _ _ _ _ _) g4 dX0_listBreaks_71 (fun σ3 H locs e_σ3 hI => ?_)
      have hw := hw σ3 e_σ3
      refine lv_aload_n hx hb dX0_listBreaks_72 rfl (lv_at hl 1 rfl) ?_
      refine b_get hx hb hts hown hI 10 (by decide) rfl q34 (v := .ref (a 10)) rfl dX0_listBreaks_73 ?_
      refine lv_aload_n hx hb dX0_listBreaks_76 rfl (lv_at hl 1 rfl) ?_
      refine b_get hx hb hts hown hI 8 (by decide) rfl q32 (v := .int (σ3 8 0)) rfl dX0_listBreaks_77 ?_
      refine lv_iload_n hx hb dX0_listBreaks_80 rfl (lv_at hl 2 rfl) ?_
      obtain ⟨g6, hw⟩ := hw
      refine b_iast hx hb hI 8 7 rfl rfl (b_s10 _ _ _ _ _) g6 dX0_listBreaks_81 (fun σ5 H locs e_σ5 hI => ?_)
      have hw := hw σ5 e_σ5
      refine lv_aload_n hx hb dX0_listBreaks_82 rfl (lv_at hl 1 rfl) ?_
      refine lv_dup hx hb dX0_listBreaks_83 rfl ?_
      refine b_get hx hb hts hown hI 8 (by decide) rfl q32 (v := .int (σ5 8 0)) rfl dX0_listBreaks_84 ?_
      refine lv_iconst (v := 1) hx hb dX0_listBreaks_87 (by decide) ?_
      refine lv_iadd hx hb dX0_listBreaks_88 ?_
      refine b_put hx hb hts hown hI 8 (by decide) rfl q32 rfl (by decide +kernel) (b_s8 _ _ _ _) dX0_listBreaks_89 (fun σ7 H locs e_σ7 hI => ?_)
      have hw := hw σ7 e_σ7
      refine lv_iconst (v := 0) hx hb dX0_listBreaks_92 (by decide) ?_
      refine lv_istore_n (lv' := [(2, .int 0), (5, .int v1), (0, .ref (a 0)), (1, .int x1), (3, .int x3), (4, .int x4)]) hx hb dX0_listBreaks_93 rfl hl (by decide) rfl (fun ls hl => ?_)
      refine lv_iload_n hx hb dX0_listBreaks_94 rfl (lv_at hl 4 rfl) ?_
      refine lv_iload hx hb dX0_listBreaks_95 (lv_at hl 1 rfl) ?_
      refine lv_iadd hx hb dX0_listBreaks_97 ?_
      refine lv_topi (fun v8 e_v8 => ?_)
      have hw := hw v8 e_v8
      refine lv_istore_n (lv' := [(3, .int v8), (2, .int 0), (5, .int v1), (0, .ref (a 0)), (1, .int x1), (4, .int x4)]) hx hb dX0_listBreaks_98 rfl hl (by decide) rfl (fun ls hl => ?_)
      refine lv_iinc (v := (x4 + 1)) (lv' := [(4, .int (x4 + 1)), (3, .int v8), (2, .int 0), (5, .int v1), (0, .ref (a 0)), (1, .int x1)]) hx hb dX0_listBreaks_99 hl (k := 5) rfl rfl (by decide) rfl (fun ls hl => ?_)
      refine lv_goto (tgt := 14) hx hb dX0_listBreaks_102 (by decide) ?_
      exact ih σ7 x1 0 v8 (x4 + 1) _ _ _ hI (lv_sub hl [4, 5, 2, 1, 0] rfl) hw hK
    have hw := hw.1 c_
    refine lv_iload_n hx hb dX0_listBreaks_48 rfl (lv_at hl 2 rfl) ?_
    refine lv_iload hx hb dX0_listBreaks_49 (lv_at hl 0 rfl) ?_
    refine lv_iadd hx hb dX0_listBreaks_51 ?_
    refine lv_topi (fun v9 e_v9 => ?_)
    have hw := hw v9 e_v9
    refine lv_istore_n (lv' := [(1, .int v9), (5, .int v1), (0, .ref (a 0)), (2, .int x2), (3, .int x3), (4, .int x4)]) hx hb dX0_listBreaks_52 rfl hl (by decide) rfl (fun ls hl => ?_)
    refine lv_iconst (v := 1) hx hb dX0_listBreaks_53 (by decide) ?_
    refine lv_istore_n (lv' := [(2, .int 1), (1, .int v9), (5, .int v1), (0, .ref (a 0)), (3, .int x3), (4, .int x4)]) hx hb dX0_listBreaks_54 rfl hl (by decide) rfl (fun ls hl => ?_)
    refine lv_goto (tgt := 94) hx hb dX0_listBreaks_55 (by decide) ?_
    refine lv_iload_n hx hb dX0_listBreaks_94 rfl (lv_at hl 4 rfl) ?_
    refine lv_iload hx hb dX0_listBreaks_95 (lv_at hl 2 rfl) ?_
    refine lv_iadd hx hb dX0_listBreaks_97 ?_
    refine lv_topi (fun v10 e_v10 => ?_)
    have hw := hw v10 e_v10
    refine lv_istore_n (lv' := [(3, .int v10), (2, .int 1), (1, .int v9), (5, .int v1), (0, .ref (a 0)), (4, .int x4)]) hx hb dX0_listBreaks_98 rfl hl (by decide) rfl (fun ls hl => ?_)
    refine lv_iinc (v := (x4 + 1)) (lv' := [(4, .int (x4 + 1)), (3, .int v10), (2, .int 1), (1, .int v9), (5, .int v1), (0, .ref (a 0))]) hx hb dX0_listBreaks_99 hl (k := 5) rfl rfl (by decide) rfl (fun ls hl => ?_)
    refine lv_goto (tgt := 14) hx hb dX0_listBreaks_102 (by decide) ?_
    exact ih σ v9 1 v10 (x4 + 1) _ _ _ hI (lv_sub hl [5, 3, 2, 1, 0] rfl) hw hK
set_option maxHeartbeats 4000000 in
set_option maxRecDepth 100000 in
theorem met_bListBreaks (l : Launch) (D : va_G) (a : Nat → Nat) (k : Nat → ClassId) (σ : St) {P : St → Prop} (hw : w_bListBreaks P σ ) (sz : Nat) : Met l yX0_listBreaks (ws_ yX0_listBreaks cX0_listBreaks 6 none) rm_bListBreaks (bPc D a k σ sz []) (va_Qv P (bB D a k (va_A (bW a k σ) sz)) (va_A (bW a k σ) sz)) 0 0 (va_A (bW a k σ) sz) := by
  refine Met.ofW (cc := cX0_listBreaks) (maxL := 6) (ret := none) (by decide) rfl ?_
  intro p e s m args below meth c s₁ B hml hv
  obtain ⟨rfl, hI, hA⟩ := b_start hv
  have hx := B.exec
  have hb := B.bytes
  have hr := B.returns
  have hlocks := B.notSynchronized
  have hts := atoms_spec (ws := (ws_ yX0_listBreaks cX0_listBreaks 6 none)) B.pre
  have hts : ∀ w ∈ lw_all, w.before _ s = true := fun w h => hts w (List.mem_cons_of_mem _ h)
  have hown : s.vm.findClass RX0 = some m.cls := findClass_of_methodNamed B.named
  generalize va_A (bW a k σ) sz = A at hI hA ⊢
  have hl := lv_entry ([.ref (a 0)]) (n := 6) (Nat.le_of_ble_eq_true rfl)
  rw [lg_entry_eq]
  generalize (lg_sl ([.ref (a 0)]) ++ List.replicate (6 - (lg_sl ([.ref (a 0)])).length) Slot.unset).toArray = ls at hl ⊢
  have hl : lv_has ls 6 [(0, .ref (a 0))] := hl
  change W p l e rm_bListBreaks s m _ below meth c s.heap [] 0 0 _ (F0 m 0 ls [])
  unfold w_bListBreaks at hw
  refine lv_aload_n hx hb dX0_listBreaks_0 rfl (lv_at hl 0 rfl) ?_
  refine lv_iconst (v := 0) hx hb dX0_listBreaks_1 (by decide) ?_
  refine b_put hx hb hts hown hI 8 (by decide) rfl q32 rfl (by decide +kernel) (b_s8 _ _ _ _) dX0_listBreaks_2 (fun σ13 H locs e_σ13 hI => ?_)
  have hw := hw σ13 e_σ13
  refine lv_iconst (v := 0) hx hb dX0_listBreaks_5 (by decide) ?_
  refine lv_istore_n (lv' := [(1, .int 0), (0, .ref (a 0))]) hx hb dX0_listBreaks_6 rfl hl (by decide) rfl (fun ls hl => ?_)
  refine lv_iconst (v := 0) hx hb dX0_listBreaks_7 (by decide) ?_
  refine lv_istore_n (lv' := [(2, .int 0), (1, .int 0), (0, .ref (a 0))]) hx hb dX0_listBreaks_8 rfl hl (by decide) rfl (fun ls hl => ?_)
  refine lv_iconst (v := 0) hx hb dX0_listBreaks_9 (by decide) ?_
  refine lv_istore_n (lv' := [(3, .int 0), (2, .int 0), (1, .int 0), (0, .ref (a 0))]) hx hb dX0_listBreaks_10 rfl hl (by decide) rfl (fun ls hl => ?_)
  refine lv_iconst (v := 0) hx hb dX0_listBreaks_11 (by decide) ?_
  refine lv_istore (lv' := [(4, .int 0), (3, .int 0), (2, .int 0), (1, .int 0), (0, .ref (a 0))]) hx hb dX0_listBreaks_12 hl (by decide) rfl (fun ls hl => ?_)
  obtain ⟨n14, hw⟩ := hw
  refine wk_bListBreaks_14 hx hb hml hown hts hA  n14 σ13 0 0 0 0 _ _ _ hI (lv_sub hl [4, 3, 2, 1, 0] rfl) hw (fun σ15 v16 v17 v18 v19 H locs ls hI hl hw => ?_)
  exact b_vret hx hb hr hlocks hI hw dX0_listBreaks_105
abbrev rm_bMovedAddress : Room := { frames := 0, cells := 0, slots := 0, locals := 0 }
set_option maxHeartbeats 4000000 in
set_option maxRecDepth 100000 in
theorem wk_bMovedAddress_10 {p : Program} {l : Launch} {e : Env} {s : State} {m : MethodId} {args : Array Value} {below : List Frame} {meth : Method} {c : Code} {Q : State → Prop} {D : va_G} {a : Nat → Nat} {k : Nat → ClassId} {A : Nat → Prop} (hx : p.tables.exec = Jvm.exec) (hb : c.code = cX0_movedAddress) (hml : c.maxLocals = 6) (hown : s.vm.findClass RX0 = some m.cls) (hts : ∀ w ∈ lw_all, w.before args s = true) (hA : ∀ q : Nat, s.heap.size ≤ q → A q) (x1 : Int32) {K : St → Int32 → Int32 → Int32 → Prop} :
    ∀ (n : Nat) (σ : St) (x2 : Int32) (x3 : Int32) (x4 : Int32) (H : Heap) (locs : List Loc) (ls : Array Slot), bI D a k A s σ H locs → lv_has ls 6 [(0, .ref (a 0)), (1, .int x1), (2, .int x2), (3, .int x3), (4, .int x4)] → w_bMovedAddress_10 x1 K n σ x2 x3 x4 → (∀ (σ : St) (x2 : Int32) (x3 : Int32) (x4 : Int32) (H : Heap) (locs : List Loc) (ls : Array Slot), bI D a k A s σ H locs → lv_has ls 6 [(0, .ref (a 0)), (1, .int x1), (2, .int x2), (3, .int x3), (4, .int x4)] → K σ x2 x3 x4 → W p l e rm_bMovedAddress s m args below meth c H locs 0 0 Q (F0 m 57 ls [])) → W p l e rm_bMovedAddress s m args below meth c H locs 0 0 Q (F0 m 10 ls []) := by
  intro n
  induction n with
  | zero => intro σ x2 x3 x4 H locs ls hI hl hw; exact hw.elim
  | succ n ih =>
    intro σ x2 x3 x4 H locs ls hI hl hw hK
    rw [w_bMovedAddress_10] at hw
    refine lv_iload hx hb dX0_movedAddress_10 (lv_at hl 4 rfl) ?_
    refine lv_bipush (v := 7) hx hb dX0_movedAddress_12 (by decide) ?_
    refine lv_icmp_ge (tgt := 57) hx hb dX0_movedAddress_14 (by decide) (fun c_ => ?_) (fun c_ => ?_)
    · have hw := hw.1 c_
      exact hK σ x2 x3 x4 _ _ _ hI (lv_sub hl [0, 1, 2, 3, 4] rfl) hw
    have hw := hw.2 c_
    refine lv_iload_n hx hb dX0_movedAddress_17 rfl (lv_at hl 2 rfl) ?_
    refine lv_iload_n hx hb dX0_movedAddress_18 rfl (lv_at hl 3 rfl) ?_
    refine lv_icmp_ge (tgt := 57) hx hb dX0_movedAddress_19 (by decide) (fun c_ => ?_) (fun c_ => ?_)
    · have hw := hw.1 c_
      exact hK σ x2 x3 x4 _ _ _ hI (lv_sub hl [0, 1, 2, 3, 4] rfl) hw
    have hw := hw.2 c_
    refine lv_iload_n hx hb dX0_movedAddress_22 rfl (lv_at hl 2 rfl) ?_
    refine lv_iload_n hx hb dX0_movedAddress_23 rfl (lv_at hl 3 rfl) ?_
    refine lv_iadd hx hb dX0_movedAddress_24 ?_
    refine lv_iconst (v := 2) hx hb dX0_movedAddress_25 (by decide) ?_
    refine lv_idiv hx hb dX0_movedAddress_26 (by decide) ?_
    refine lv_topi (fun v1 e_v1 => ?_)
    have hw := hw v1 e_v1
    refine lv_istore (lv' := [(5, .int v1), (0, .ref (a 0)), (1, .int x1), (2, .int x2), (3, .int x3), (4, .int x4)]) hx hb dX0_movedAddress_27 hl (by decide) rfl (fun ls hl => ?_)
    refine lv_aload_n hx hb dX0_movedAddress_29 rfl (lv_at hl 1 rfl) ?_
    refine b_get hx hb hts hown hI 9 (by decide) rfl q33 (v := .ref (a 9)) rfl dX0_movedAddress_30 ?_
    refine lv_iload hx hb dX0_movedAddress_33 (lv_at hl 0 rfl) ?_
    obtain ⟨g3, hw⟩ := hw
    refine va_iald hx hb hI.1 hI.2.1 7 6 rfl rfl g3 dX0_movedAddress_35 ?_
    refine lv_iload_n hx hb dX0_movedAddress_36 rfl (lv_at hl 2 rfl) ?_
    refine lv_icmp_gt (tgt := 48) hx hb dX0_movedAddress_37 (by decide) (fun c_ => ?_) (fun c_ => ?_)
    · have hw := hw.1 c_
      refine lv_iload hx hb dX0_movedAddress_48 (lv_at hl 0 rfl) ?_
      refine lv_istore_n (lv' := [(3, .int v1), (5, .int v1), (0, .ref (a 0)), (1, .int x1), (2, .int x2), (4, .int x4)]) hx hb dX0_movedAddress_50 rfl hl (by decide) rfl (fun ls hl => ?_)
      refine lv_iinc (v := (x4 + 1)) (lv' := [(4, .int (x4 + 1)), (3, .int v1), (5, .int v1), (0, .ref (a 0)), (1, .int x1), (2, .int x2)]) hx hb dX0_movedAddress_51 hl (k := 5) rfl rfl (by decide) rfl (fun ls hl => ?_)
      refine lv_goto (tgt := 10) hx hb dX0_movedAddress_54 (by decide) ?_
      exact ih σ x2 v1 (x4 + 1) _ _ _ hI (lv_sub hl [3, 4, 5, 1, 0] rfl) hw hK
    have hw := hw.2 c_
    refine lv_iload hx hb dX0_movedAddress_40 (lv_at hl 0 rfl) ?_
    refine lv_iconst (v := 1) hx hb dX0_movedAddress_42 (by decide) ?_
    refine lv_iadd hx hb dX0_movedAddress_43 ?_
    refine lv_topi (fun v2 e_v2 => ?_)
    have hw := hw v2 e_v2
    refine lv_istore_n (lv' := [(2, .int v2), (5, .int v1), (0, .ref (a 0)), (1, .int x1), (3, .int x3), (4, .int x4)]) hx hb dX0_movedAddress_44 rfl hl (by decide) rfl (fun ls hl => ?_)
    refine lv_goto (tgt := 51) hx hb dX0_movedAddress_45 (by decide) ?_
    refine lv_iinc (v := (x4 + 1)) (lv' := [(4, .int (x4 + 1)), (2, .int v2), (5, .int v1), (0, .ref (a 0)), (1, .int x1), (3, .int x3)]) hx hb dX0_movedAddress_51 hl (k := 5) rfl rfl (by decide) rfl (fun ls hl => ?_)
    refine lv_goto (tgt := 10) hx hb dX0_movedAddress_54 (by decide) ?_
    exact ih σ v2 x3 (x4 + 1) _ _ _ hI (lv_sub hl [3, 4, 1, 5, 0] rfl) hw hK
set_option maxHeartbeats 4000000 in
set_option maxRecDepth 100000 in
theorem met_bMovedAddress (l : Launch) (D : va_G) (a : Nat → Nat) (k : Nat → ClassId) (σ : St) (x1 : Int32) {P : Int32 → St → Prop} (hw : w_bMovedAddress P σ x1) (sz : Nat) : Met l yX0_movedAddress (ws_ yX0_movedAddress cX0_movedAddress 6 (some .int)) rm_bMovedAddress (bPc D a k σ sz [.int x1]) (va_Qi P (bB D a k (va_A (bW a k σ) sz)) (va_A (bW a k σ) sz)) 0 0 (va_A (bW a k σ) sz) := by
  refine Met.ofW (cc := cX0_movedAddress) (maxL := 6) (ret := (some .int)) (by decide) rfl ?_
  intro p e s m args below meth c s₁ B hml hv
  obtain ⟨rfl, hI, hA⟩ := b_start hv
  have hx := B.exec
  have hb := B.bytes
  have hr := B.returns
  have hlocks := B.notSynchronized
  have hts := atoms_spec (ws := (ws_ yX0_movedAddress cX0_movedAddress 6 (some .int))) B.pre
  have hts : ∀ w ∈ lw_all, w.before _ s = true := fun w h => hts w (List.mem_cons_of_mem _ h)
  have hown : s.vm.findClass RX0 = some m.cls := findClass_of_methodNamed B.named
  generalize va_A (bW a k σ) sz = A at hI hA ⊢
  have hl := lv_entry ([.ref (a 0), .int x1]) (n := 6) (Nat.le_of_ble_eq_true rfl)
  rw [lg_entry_eq]
  generalize (lg_sl ([.ref (a 0), .int x1]) ++ List.replicate (6 - (lg_sl ([.ref (a 0), .int x1])).length) Slot.unset).toArray = ls at hl ⊢
  have hl : lv_has ls 6 [(0, .ref (a 0)), (1, .int x1)] := hl
  change W p l e rm_bMovedAddress s m _ below meth c s.heap [] 0 0 _ (F0 m 0 ls [])
  unfold w_bMovedAddress at hw
  refine lv_iconst (v := 0) hx hb dX0_movedAddress_0 (by decide) ?_
  refine lv_istore_n (lv' := [(2, .int 0), (0, .ref (a 0)), (1, .int x1)]) hx hb dX0_movedAddress_1 rfl hl (by decide) rfl (fun ls hl => ?_)
  refine lv_aload_n hx hb dX0_movedAddress_2 rfl (lv_at hl 1 rfl) ?_
  refine b_get hx hb hts hown hI 8 (by decide) rfl q32 (v := .int (σ 8 0)) rfl dX0_movedAddress_3 ?_
  refine lv_topi (fun v4 e_v4 => ?_)
  have hw := hw v4 e_v4
  refine lv_istore_n (lv' := [(3, .int v4), (2, .int 0), (0, .ref (a 0)), (1, .int x1)]) hx hb dX0_movedAddress_6 rfl hl (by decide) rfl (fun ls hl => ?_)
  refine lv_iconst (v := 0) hx hb dX0_movedAddress_7 (by decide) ?_
  refine lv_istore (lv' := [(4, .int 0), (3, .int v4), (2, .int 0), (0, .ref (a 0)), (1, .int x1)]) hx hb dX0_movedAddress_8 hl (by decide) rfl (fun ls hl => ?_)
  obtain ⟨n5, hw⟩ := hw
  refine wk_bMovedAddress_10 hx hb hml hown hts hA x1 n5 σ 0 v4 0 _ _ _ hI (lv_sub hl [3, 4, 2, 1, 0] rfl) hw (fun σ6 v7 v8 v9 H locs ls hI hl hw => ?_)
  refine lv_iload_n hx hb dX0_movedAddress_57 rfl (lv_at hl 2 rfl) ?_
  refine lv_if_ne (tgt := 65) hx hb dX0_movedAddress_58 (by decide) (fun c_ => ?_) (fun c_ => ?_)
  · have hw := hw.2 c_
    refine lv_iload_n hx hb dX0_movedAddress_65 rfl (lv_at hl 1 rfl) ?_
    refine lv_aload_n hx hb dX0_movedAddress_66 rfl (lv_at hl 0 rfl) ?_
    refine b_get hx hb hts hown hI 10 (by decide) rfl q34 (v := .ref (a 10)) rfl dX0_movedAddress_67 ?_
    refine lv_iload_n hx hb dX0_movedAddress_70 rfl (lv_at hl 2 rfl) ?_
    refine lv_iconst (v := 1) hx hb dX0_movedAddress_71 (by decide) ?_
    refine lv_isub hx hb dX0_movedAddress_72 ?_
    obtain ⟨g10, hw⟩ := hw
    refine va_iald hx hb hI.1 hI.2.1 8 7 rfl rfl g10 dX0_movedAddress_73 ?_
    refine lv_isub hx hb dX0_movedAddress_74 ?_
    exact b_iret hx hb hr hlocks hI hw dX0_movedAddress_75
  have hw := hw.1 c_
  refine lv_iload_n hx hb dX0_movedAddress_61 rfl (lv_at hl 1 rfl) ?_
  refine lv_goto (tgt := 75) hx hb dX0_movedAddress_62 (by decide) ?_
  exact b_iret hx hb hr hlocks hI hw dX0_movedAddress_75
abbrev rm_bMendFields : Room := { frames := 1, cells := 0, slots := 0, locals := 25 }
set_option maxHeartbeats 4000000 in
set_option maxRecDepth 100000 in
theorem wk_bMendFields_32 {p : Program} {l : Launch} {e : Env} {s : State} {m : MethodId} {args : Array Value} {below : List Frame} {meth : Method} {c : Code} {Q : State → Prop} {D : va_G} {a : Nat → Nat} {k : Nat → ClassId} {A : Nat → Prop} (hx : p.tables.exec = Jvm.exec) (hb : c.code = cX0_mendFields) (hml : c.maxLocals = 5) (hown : s.vm.findClass RX0 = some m.cls) (hts : ∀ w ∈ lw_all, w.before args s = true) (hA : ∀ q : Nat, s.heap.size ≤ q → A q) (x1 : Int32) (x2 : Int32) (x3 : Int32) {K : St → Int32 → Prop} :
    ∀ (n : Nat) (σ : St) (x4 : Int32) (H : Heap) (locs : List Loc) (ls : Array Slot), bI D a k A s σ H locs → lv_has ls 5 [(0, .ref (a 0)), (1, .int x1), (2, .int x2), (3, .int x3), (4, .int x4)] → w_bMendFields_32 x1 x2 x3 K n σ x4 → (∀ (σ : St) (x4 : Int32) (H : Heap) (locs : List Loc) (ls : Array Slot), bI D a k A s σ H locs → lv_has ls 5 [(0, .ref (a 0)), (1, .int x1), (2, .int x2), (3, .int x3), (4, .int x4)] → K σ x4 → W p l e rm_bMendFields s m args below meth c H locs 0 0 Q (F0 m 83 ls [])) → W p l e rm_bMendFields s m args below meth c H locs 0 0 Q (F0 m 32 ls []) := by
  intro n
  induction n with
  | zero => intro σ x4 H locs ls hI hl hw; exact hw.elim
  | succ n ih =>
    intro σ x4 H locs ls hI hl hw hK
    rw [w_bMendFields_32] at hw
    refine lv_iload hx hb dX0_mendFields_32 (lv_at hl 4 rfl) ?_
    refine lv_iload_n hx hb dX0_mendFields_34 rfl (lv_at hl 1 rfl) ?_
    refine lv_iload_n hx hb dX0_mendFields_35 rfl (lv_at hl 3 rfl) ?_
    refine lv_iadd hx hb dX0_mendFields_36 ?_
    refine lv_icmp_ge (tgt := 83) hx hb dX0_mendFields_37 (by decide) (fun c_ => ?_) (fun c_ => ?_)
    · have hw := hw.1 c_
      exact hK σ x4 _ _ _ hI (lv_sub hl [0, 1, 2, 3, 4] rfl) hw
    have hw := hw.2 c_
    refine lv_aload_n hx hb dX0_mendFields_40 rfl (lv_at hl 0 rfl) ?_
    refine b_get hx hb hts hown hI 5 (by decide) rfl q29 (v := .ref (a 5)) rfl dX0_mendFields_41 ?_
    refine lv_iload_n hx hb dX0_mendFields_44 rfl (lv_at hl 1 rfl) ?_
    obtain ⟨g7, hw⟩ := hw
    refine va_zald hx hb hI.1 hI.2.1 5 4 rfl rfl g7 dX0_mendFields_45 ?_
    refine lv_if_eq (tgt := 77) hx hb dX0_mendFields_46 (by decide) (fun c_ => ?_) (fun c_ => ?_)
    · have hw := hw.1 c_
      refine lv_iinc (v := (x4 + 1)) (lv' := [(4, .int (x4 + 1)), (0, .ref (a 0)), (1, .int x1), (2, .int x2), (3, .int x3)]) hx hb dX0_mendFields_77 hl (k := 4) rfl rfl (by decide) rfl (fun ls hl => ?_)
      refine lv_goto (tgt := 32) hx hb dX0_mendFields_80 (by decide) ?_
      exact ih σ (x4 + 1) _ _ _ hI (lv_sub hl [1, 2, 3, 4, 0] rfl) hw hK
    have hw := hw.2 c_
    refine lv_aload_n hx hb dX0_mendFields_49 rfl (lv_at hl 0 rfl) ?_
    refine b_get hx hb hts hown hI 2 (by decide) rfl q26 (v := .ref (a 2)) rfl dX0_mendFields_50 ?_
    refine lv_iload hx hb dX0_mendFields_53 (lv_at hl 4 rfl) ?_
    obtain ⟨g6, hw⟩ := hw
    refine va_zald hx hb hI.1 hI.2.1 2 1 rfl rfl g6 dX0_mendFields_55 ?_
    refine lv_if_eq (tgt := 77) hx hb dX0_mendFields_56 (by decide) (fun c_ => ?_) (fun c_ => ?_)
    · have hw := hw.1 c_
      refine lv_iinc (v := (x4 + 1)) (lv' := [(4, .int (x4 + 1)), (0, .ref (a 0)), (1, .int x1), (2, .int x2), (3, .int x3)]) hx hb dX0_mendFields_77 hl (k := 4) rfl rfl (by decide) rfl (fun ls hl => ?_)
      refine lv_goto (tgt := 32) hx hb dX0_mendFields_80 (by decide) ?_
      exact ih σ (x4 + 1) _ _ _ hI (lv_sub hl [1, 2, 3, 4, 0] rfl) hw hK
    have hw := hw.2 c_
    refine lv_aload_n hx hb dX0_mendFields_59 rfl (lv_at hl 0 rfl) ?_
    refine b_get hx hb hts hown hI 1 (by decide) rfl q25 (v := .ref (a 1)) rfl dX0_mendFields_60 ?_
    refine lv_iload hx hb dX0_mendFields_63 (lv_at hl 4 rfl) ?_
    refine lv_aload_n hx hb dX0_mendFields_65 rfl (lv_at hl 0 rfl) ?_
    refine lv_aload_n hx hb dX0_mendFields_66 rfl (lv_at hl 0 rfl) ?_
    refine b_get hx hb hts hown hI 1 (by decide) rfl q25 (v := .ref (a 1)) rfl dX0_mendFields_67 ?_
    refine lv_iload hx hb dX0_mendFields_70 (lv_at hl 4 rfl) ?_
    obtain ⟨g5, hw⟩ := hw
    refine va_iald hx hb hI.1 hI.2.1 1 0 rfl rfl g5 dX0_mendFields_72 ?_
    refine b_calli (As := [.int (σ 1 x4.toNatClampNeg)]) ⟨hx, hb, hml, hown, hts⟩ (met_bMovedAddress l D a k σ (σ 1 x4.toNatClampNeg) hw) (cwV 1 hts (lw_V q83 q85 qs4 q14 q86) rfl rfl rfl (by decide +kernel) ⟨Nat.le_of_ble_eq_true rfl, Nat.le_of_ble_eq_true rfl⟩) hI hA rfl hl.1 rfl (Nat.le_of_ble_eq_true rfl) dX0_mendFields_73 ⟨Nat.le_of_ble_eq_true rfl, Nat.le_of_ble_eq_true rfl⟩ (fun r2 σ1 H locs hw hI => ?_)
    obtain ⟨g4, hw⟩ := hw
    refine b_iast hx hb hI 1 0 rfl rfl (b_s1 _ _ _ _ _) g4 dX0_mendFields_76 (fun σ3 H locs e_σ3 hI => ?_)
    have hw := hw σ3 e_σ3
    refine lv_iinc (v := (x4 + 1)) (lv' := [(4, .int (x4 + 1)), (0, .ref (a 0)), (1, .int x1), (2, .int x2), (3, .int x3)]) hx hb dX0_mendFields_77 hl (k := 4) rfl rfl (by decide) rfl (fun ls hl => ?_)
    refine lv_goto (tgt := 32) hx hb dX0_mendFields_80 (by decide) ?_
    exact ih σ3 (x4 + 1) _ _ _ hI (lv_sub hl [1, 2, 3, 4, 0] rfl) hw hK
set_option maxHeartbeats 4000000 in
set_option maxRecDepth 100000 in
theorem wk_bMendFields_4 {p : Program} {l : Launch} {e : Env} {s : State} {m : MethodId} {args : Array Value} {below : List Frame} {meth : Method} {c : Code} {Q : State → Prop} {D : va_G} {a : Nat → Nat} {k : Nat → ClassId} {A : Nat → Prop} (hx : p.tables.exec = Jvm.exec) (hb : c.code = cX0_mendFields) (hml : c.maxLocals = 5) (hown : s.vm.findClass RX0 = some m.cls) (hts : ∀ w ∈ lw_all, w.before args s = true) (hA : ∀ q : Nat, s.heap.size ≤ q → A q)  {K : St → Int32 → Int32 → Prop} :
    ∀ (n : Nat) (σ : St) (x1 : Int32) (x2 : Int32) (H : Heap) (locs : List Loc) (ls : Array Slot), bI D a k A s σ H locs → lv_has ls 5 [(0, .ref (a 0)), (1, .int x1), (2, .int x2)] → w_bMendFields_4 K n σ x1 x2 → (∀ (σ : St) (x1 : Int32) (x2 : Int32) (H : Heap) (locs : List Loc) (ls : Array Slot), bI D a k A s σ H locs → lv_has ls 5 [(0, .ref (a 0)), (1, .int x1), (2, .int x2)] → K σ x1 x2 → W p l e rm_bMendFields s m args below meth c H locs 0 0 Q (F0 m 93 ls [])) → W p l e rm_bMendFields s m args below meth c H locs 0 0 Q (F0 m 4 ls []) := by
  intro n
  induction n with
  | zero => intro σ x1 x2 H locs ls hI hl hw; exact hw.elim
  | succ n ih =>
    intro σ x1 x2 H locs ls hI hl hw hK
    rw [w_bMendFields_4] at hw
    refine lv_iload_n hx hb dX0_mendFields_4 rfl (lv_at hl 2 rfl) ?_
    refine lv_bipush (v := 37) hx hb dX0_mendFields_5 (by decide) ?_
    refine lv_icmp_ge (tgt := 93) hx hb dX0_mendFields_7 (by decide) (fun c_ => ?_) (fun c_ => ?_)
    · have hw := hw.1 c_
      exact hK σ x1 x2 _ _ _ hI (lv_sub hl [0, 1, 2] rfl) hw
    have hw := hw.2 c_
    refine lv_iload_n hx hb dX0_mendFields_10 rfl (lv_at hl 1 rfl) ?_
    refine lv_aload_n hx hb dX0_mendFields_11 rfl (lv_at hl 0 rfl) ?_
    refine b_get hx hb hts hown hI 0 (by decide) rfl q24 (v := .int (σ 0 0)) rfl dX0_mendFields_12 ?_
    refine lv_icmp_ge (tgt := 93) hx hb dX0_mendFields_15 (by decide) (fun c_ => ?_) (fun c_ => ?_)
    · have hw := hw.1 c_
      exact hK σ x1 x2 _ _ _ hI (lv_sub hl [0, 1, 2] rfl) hw
    have hw := hw.2 c_
    refine lv_aload_n hx hb dX0_mendFields_18 rfl (lv_at hl 0 rfl) ?_
    refine b_get hx hb hts hown hI 1 (by decide) rfl q25 (v := .ref (a 1)) rfl dX0_mendFields_19 ?_
    refine lv_iload_n hx hb dX0_mendFields_22 rfl (lv_at hl 1 rfl) ?_
    obtain ⟨g14, hw⟩ := hw
    refine va_iald hx hb hI.1 hI.2.1 1 0 rfl rfl g14 dX0_mendFields_23 ?_
    refine lv_iconst (v := 1) hx hb dX0_mendFields_24 (by decide) ?_
    refine lv_iadd hx hb dX0_mendFields_25 ?_
    refine lv_topi (fun v8 e_v8 => ?_)
    have hw := hw v8 e_v8
    refine lv_istore_n (lv' := [(3, .int v8), (0, .ref (a 0)), (1, .int x1), (2, .int x2)]) hx hb dX0_mendFields_26 rfl hl (by decide) rfl (fun ls hl => ?_)
    refine lv_iload_n hx hb dX0_mendFields_27 rfl (lv_at hl 2 rfl) ?_
    refine lv_iconst (v := 1) hx hb dX0_mendFields_28 (by decide) ?_
    refine lv_iadd hx hb dX0_mendFields_29 ?_
    refine lv_topi (fun v9 e_v9 => ?_)
    have hw := hw v9 e_v9
    refine lv_istore (lv' := [(4, .int v9), (3, .int v8), (0, .ref (a 0)), (1, .int x1), (2, .int x2)]) hx hb dX0_mendFields_30 hl (by decide) rfl (fun ls hl => ?_)
    obtain ⟨n10, hw⟩ := hw
    refine wk_bMendFields_32 hx hb hml hown hts hA x1 x2 v8 n10 σ v9 _ _ _ hI (lv_sub hl [2, 3, 4, 1, 0] rfl) hw (fun σ11 v12 H locs ls hI hl hw => ?_)
    refine lv_iload_n hx hb dX0_mendFields_83 rfl (lv_at hl 1 rfl) ?_
    refine lv_iload_n hx hb dX0_mendFields_84 rfl (lv_at hl 3 rfl) ?_
    refine lv_iadd hx hb dX0_mendFields_85 ?_
    refine lv_topi (fun v13 e_v13 => ?_)
    have hw := hw v13 e_v13
    refine lv_istore_n (lv' := [(1, .int v13), (0, .ref (a 0)), (2, .int x2), (3, .int v8), (4, .int v12)]) hx hb dX0_mendFields_86 rfl hl (by decide) rfl (fun ls hl => ?_)
    refine lv_iinc (v := (x2 + 1)) (lv' := [(2, .int (x2 + 1)), (1, .int v13), (0, .ref (a 0)), (3, .int v8), (4, .int v12)]) hx hb dX0_mendFields_87 hl (k := 2) rfl rfl (by decide) rfl (fun ls hl => ?_)
    refine lv_goto (tgt := 4) hx hb dX0_mendFields_90 (by decide) ?_
    exact ih σ11 v13 (x2 + 1) _ _ _ hI (lv_sub hl [2, 1, 0] rfl) hw hK
set_option maxHeartbeats 4000000 in
set_option maxRecDepth 100000 in
theorem met_bMendFields (l : Launch) (D : va_G) (a : Nat → Nat) (k : Nat → ClassId) (σ : St) {P : St → Prop} (hw : w_bMendFields P σ ) (sz : Nat) : Met l yX0_mendFields (ws_ yX0_mendFields cX0_mendFields 5 none) rm_bMendFields (bPc D a k σ sz []) (va_Qv P (bB D a k (va_A (bW a k σ) sz)) (va_A (bW a k σ) sz)) 0 0 (va_A (bW a k σ) sz) := by
  refine Met.ofW (cc := cX0_mendFields) (maxL := 5) (ret := none) (by decide) rfl ?_
  intro p e s m args below meth c s₁ B hml hv
  obtain ⟨rfl, hI, hA⟩ := b_start hv
  have hx := B.exec
  have hb := B.bytes
  have hr := B.returns
  have hlocks := B.notSynchronized
  have hts := atoms_spec (ws := (ws_ yX0_mendFields cX0_mendFields 5 none)) B.pre
  have hts : ∀ w ∈ lw_all, w.before _ s = true := fun w h => hts w (List.mem_cons_of_mem _ h)
  have hown : s.vm.findClass RX0 = some m.cls := findClass_of_methodNamed B.named
  generalize va_A (bW a k σ) sz = A at hI hA ⊢
  have hl := lv_entry ([.ref (a 0)]) (n := 5) (Nat.le_of_ble_eq_true rfl)
  rw [lg_entry_eq]
  generalize (lg_sl ([.ref (a 0)]) ++ List.replicate (5 - (lg_sl ([.ref (a 0)])).length) Slot.unset).toArray = ls at hl ⊢
  have hl : lv_has ls 5 [(0, .ref (a 0))] := hl
  change W p l e rm_bMendFields s m _ below meth c s.heap [] 0 0 _ (F0 m 0 ls [])
  unfold w_bMendFields at hw
  refine lv_iconst (v := 0) hx hb dX0_mendFields_0 (by decide) ?_
  refine lv_istore_n (lv' := [(1, .int 0), (0, .ref (a 0))]) hx hb dX0_mendFields_1 rfl hl (by decide) rfl (fun ls hl => ?_)
  refine lv_iconst (v := 0) hx hb dX0_mendFields_2 (by decide) ?_
  refine lv_istore_n (lv' := [(2, .int 0), (1, .int 0), (0, .ref (a 0))]) hx hb dX0_mendFields_3 rfl hl (by decide) rfl (fun ls hl => ?_)
  obtain ⟨n15, hw⟩ := hw
  refine wk_bMendFields_4 hx hb hml hown hts hA  n15 σ 0 0 _ _ _ hI (lv_sub hl [2, 1, 0] rfl) hw (fun σ16 v17 v18 H locs ls hI hl hw => ?_)
  exact b_vret hx hb hr hlocks hI hw dX0_mendFields_93
end
section
/-! printed by gen.py: walks of BreakHeap -/
abbrev rm_bSlideDown : Room := { frames := 0, cells := 0, slots := 0, locals := 0 }
set_option maxHeartbeats 4000000 in
set_option maxRecDepth 100000 in
theorem wk_bSlideDown_46 {p : Program} {l : Launch} {e : Env} {s : State} {m : MethodId} {args : Array Value} {below : List Frame} {meth : Method} {c : Code} {Q : State → Prop} {D : va_G} {a : Nat → Nat} {k : Nat → ClassId} {A : Nat → Prop} (hx : p.tables.exec = Jvm.exec) (hb : c.code = cX0_slideDown) (hml : c.maxLocals = 7) (hown : s.vm.findClass RX0 = some m.cls) (hts : ∀ w ∈ lw_all, w.before args s = true) (hA : ∀ q : Nat, s.heap.size ≤ q → A q) (x1 : Int32) (x2 : Int32) (x3 : Int32) (x4 : Int32) (x5 : Int32) {K : St → Int32 → Prop} :
    ∀ (n : Nat) (σ : St) (x6 : Int32) (H : Heap) (locs : List Loc) (ls : Array Slot), bI D a k A s σ H locs → lv_has ls 7 [(0, .ref (a 0)), (1, .int x1), (2, .int x2), (3, .int x3), (4, .int x4), (5, .int x5), (6, .int x6)] → w_bSlideDown_46 x1 x2 x3 x4 x5 K n σ x6 → (∀ (σ : St) (x6 : Int32) (H : Heap) (locs : List Loc) (ls : Array Slot), bI D a k A s σ H locs → lv_has ls 7 [(0, .ref (a 0)), (1, .int x1), (2, .int x2), (3, .int x3), (4, .int x4), (5, .int x5), (6, .int x6)] → K σ x6 → W p l e rm_bSlideDown s m args below meth c H locs 0 0 Q (F0 m 95 ls [])) → W p l e rm_bSlideDown s m args below meth c H locs 0 0 Q (F0 m 46 ls []) := by
  intro n
  induction n with
  | zero => intro σ x6 H locs ls hI hl hw; exact hw.elim
  | succ n ih =>
    intro σ x6 H locs ls hI hl hw hK
    rw [w_bSlideDown_46] at hw
    refine lv_iload hx hb dX0_slideDown_46 (lv_at hl 6 rfl) ?_
    refine lv_iload hx hb dX0_slideDown_48 (lv_at hl 5 rfl) ?_
    refine lv_icmp_ge (tgt := 95) hx hb dX0_slideDown_50 (by decide) (fun c_ => ?_) (fun c_ => ?_)
    · have hw := hw.1 c_
      exact hK σ x6 _ _ _ hI (lv_sub hl [0, 1, 2, 3, 4, 5, 6] rfl) hw
    have hw := hw.2 c_
    refine lv_aload_n hx hb dX0_slideDown_53 rfl (lv_at hl 0 rfl) ?_
    refine b_get hx hb hts hown hI 1 (by decide) rfl q25 (v := .ref (a 1)) rfl dX0_slideDown_54 ?_
    refine lv_iload_n hx hb dX0_slideDown_57 rfl (lv_at hl 1 rfl) ?_
    refine lv_iload hx hb dX0_slideDown_58 (lv_at hl 6 rfl) ?_
    refine lv_iadd hx hb dX0_slideDown_60 ?_
    refine lv_aload_n hx hb dX0_slideDown_61 rfl (lv_at hl 0 rfl) ?_
    refine b_get hx hb hts hown hI 1 (by decide) rfl q25 (v := .ref (a 1)) rfl dX0_slideDown_62 ?_
    refine lv_iload_n hx hb dX0_slideDown_65 rfl (lv_at hl 2 rfl) ?_
    refine lv_iload hx hb dX0_slideDown_66 (lv_at hl 6 rfl) ?_
    refine lv_iadd hx hb dX0_slideDown_68 ?_
    obtain ⟨g6, hw⟩ := hw
    refine va_iald hx hb hI.1 hI.2.1 1 0 rfl rfl g6 dX0_slideDown_69 ?_
    obtain ⟨g2, hw⟩ := hw
    refine b_iast hx hb hI 1 0 rfl rfl (b_s1 _ _ _ _ _) g2 dX0_slideDown_70 (fun σ1 H locs e_σ1 hI => ?_)
    have hw := hw σ1 e_σ1
    refine lv_aload_n hx hb dX0_slideDown_71 rfl (lv_at hl 0 rfl) ?_
    refine b_get hx hb hts hown hI 2 (by decide) rfl q26 (v := .ref (a 2)) rfl dX0_slideDown_72 ?_
    refine lv_iload_n hx hb dX0_slideDown_75 rfl (lv_at hl 1 rfl) ?_
    refine lv_iload hx hb dX0_slideDown_76 (lv_at hl 6 rfl) ?_
    refine lv_iadd hx hb dX0_slideDown_78 ?_
    refine lv_aload_n hx hb dX0_slideDown_79 rfl (lv_at hl 0 rfl) ?_
    refine b_get hx hb hts hown hI 2 (by decide) rfl q26 (v := .ref (a 2)) rfl dX0_slideDown_80 ?_
    refine lv_iload_n hx hb dX0_slideDown_83 rfl (lv_at hl 2 rfl) ?_
    refine lv_iload hx hb dX0_slideDown_84 (lv_at hl 6 rfl) ?_
    refine lv_iadd hx hb dX0_slideDown_86 ?_
    obtain ⟨g5, hw⟩ := hw
    refine va_zald hx hb hI.1 hI.2.1 2 1 rfl rfl g5 dX0_slideDown_87 ?_
    obtain ⟨g4, hw⟩ := hw
    refine b_zast hx hb hI 2 1 rfl rfl (b_s2 _ _ _ _ _) g4 dX0_slideDown_88 (fun σ3 H locs e_σ3 hI => ?_)
    have hw := hw σ3 e_σ3
    refine lv_iinc (v := (x6 + 1)) (lv' := [(6, .int (x6 + 1)), (0, .ref (a 0)), (1, .int x1), (2, .int x2), (3, .int x3), (4, .int x4), (5, .int x5)]) hx hb dX0_slideDown_89 hl (k := 6) rfl rfl (by decide) rfl (fun ls hl => ?_)
    refine lv_goto (tgt := 46) hx hb dX0_slideDown_92 (by decide) ?_
    exact ih σ3 (x6 + 1) _ _ _ hI (lv_sub hl [1, 2, 3, 4, 5, 6, 0] rfl) hw hK
set_option maxHeartbeats 4000000 in
set_option maxRecDepth 100000 in
theorem wk_bSlideDown_12 {p : Program} {l : Launch} {e : Env} {s : State} {m : MethodId} {args : Array Value} {below : List Frame} {meth : Method} {c : Code} {Q : State → Prop} {D : va_G} {a : Nat → Nat} {k : Nat → ClassId} {A : Nat → Prop} (hx : p.tables.exec = Jvm.exec) (hb : c.code = cX0_slideDown) (hml : c.maxLocals = 7) (hown : s.vm.findClass RX0 = some m.cls) (hts : ∀ w ∈ lw_all, w.before args s = true) (hA : ∀ q : Nat, s.heap.size ≤ q → A q) (x3 : Int32) {K : St → Int32 → Int32 → Int32 → Prop} :
    ∀ (n : Nat) (σ : St) (x1 : Int32) (x2 : Int32) (x4 : Int32) (H : Heap) (locs : List Loc) (ls : Array Slot), bI D a k A s σ H locs → lv_has ls 7 [(0, .ref (a 0)), (1, .int x1), (2, .int x2), (3, .int x3), (4, .int x4)] → w_bSlideDown_12 x3 K n σ x1 x2 x4 → (∀ (σ : St) (x1 : Int32) (x2 : Int32) (x4 : Int32) (H : Heap) (locs : List Loc) (ls : Array Slot), bI D a k A s σ H locs → lv_has ls 7 [(0, .ref (a 0)), (1, .int x1), (2, .int x2), (3, .int x3), (4, .int x4)] → K σ x1 x2 x4 → W p l e rm_bSlideDown s m args below meth c H locs 0 0 Q (F0 m 111 ls [])) → W p l e rm_bSlideDown s m args below meth c H locs 0 0 Q (F0 m 12 ls []) := by
  intro n
  induction n with
  | zero => intro σ x1 x2 x4 H locs ls hI hl hw; exact hw.elim
  | succ n ih =>
    intro σ x1 x2 x4 H locs ls hI hl hw hK
    rw [w_bSlideDown_12] at hw
    refine lv_iload hx hb dX0_slideDown_12 (lv_at hl 4 rfl) ?_
    refine lv_bipush (v := 37) hx hb dX0_slideDown_14 (by decide) ?_
    refine lv_icmp_ge (tgt := 111) hx hb dX0_slideDown_16 (by decide) (fun c_ => ?_) (fun c_ => ?_)
    · have hw := hw.1 c_
      exact hK σ x1 x2 x4 _ _ _ hI (lv_sub hl [0, 1, 2, 3, 4] rfl) hw
    have hw := hw.2 c_
    refine lv_iload_n hx hb dX0_slideDown_19 rfl (lv_at hl 2 rfl) ?_
    refine lv_iload_n hx hb dX0_slideDown_20 rfl (lv_at hl 3 rfl) ?_
    refine lv_icmp_ge (tgt := 111) hx hb dX0_slideDown_21 (by decide) (fun c_ => ?_) (fun c_ => ?_)
    · have hw := hw.1 c_
      exact hK σ x1 x2 x4 _ _ _ hI (lv_sub hl [0, 1, 2, 3, 4] rfl) hw
    have hw := hw.2 c_
    refine lv_aload_n hx hb dX0_slideDown_24 rfl (lv_at hl 0 rfl) ?_
    refine b_get hx hb hts hown hI 1 (by decide) rfl q25 (v := .ref (a 1)) rfl dX0_slideDown_25 ?_
    refine lv_iload_n hx hb dX0_slideDown_28 rfl (lv_at hl 2 rfl) ?_
    obtain ⟨g15, hw⟩ := hw
    refine va_iald hx hb hI.1 hI.2.1 1 0 rfl rfl g15 dX0_slideDown_29 ?_
    refine lv_iconst (v := 1) hx hb dX0_slideDown_30 (by decide) ?_
    refine lv_iadd hx hb dX0_slideDown_31 ?_
    refine lv_topi (fun v7 e_v7 => ?_)
    have hw := hw v7 e_v7
    refine lv_istore (lv' := [(5, .int v7), (0, .ref (a 0)), (1, .int x1), (2, .int x2), (3, .int x3), (4, .int x4)]) hx hb dX0_slideDown_32 hl (by decide) rfl (fun ls hl => ?_)
    refine lv_aload_n hx hb dX0_slideDown_34 rfl (lv_at hl 1 rfl) ?_
    refine b_get hx hb hts hown hI 5 (by decide) rfl q29 (v := .ref (a 5)) rfl dX0_slideDown_35 ?_
    refine lv_iload_n hx hb dX0_slideDown_38 rfl (lv_at hl 3 rfl) ?_
    obtain ⟨g14, hw⟩ := hw
    refine va_zald hx hb hI.1 hI.2.1 5 4 rfl rfl g14 dX0_slideDown_39 ?_
    refine lv_if_eq (tgt := 100) hx hb dX0_slideDown_40 (by decide) (fun c_ => ?_) (fun c_ => ?_)
    · have hw := hw.1 c_
      refine lv_iload_n hx hb dX0_slideDown_100 rfl (lv_at hl 3 rfl) ?_
      refine lv_iload hx hb dX0_slideDown_101 (lv_at hl 0 rfl) ?_
      refine lv_iadd hx hb dX0_slideDown_103 ?_
      refine lv_topi (fun v8 e_v8 => ?_)
      have hw := hw v8 e_v8
      refine lv_istore_n (lv' := [(2, .int v8), (5, .int v7), (0, .ref (a 0)), (1, .int x1), (3, .int x3), (4, .int x4)]) hx hb dX0_slideDown_104 rfl hl (by decide) rfl (fun ls hl => ?_)
      refine lv_iinc (v := (x4 + 1)) (lv' := [(4, .int (x4 + 1)), (2, .int v8), (5, .int v7), (0, .ref (a 0)), (1, .int x1), (3, .int x3)]) hx hb dX0_slideDown_105 hl (k := 5) rfl rfl (by decide) rfl (fun ls hl => ?_)
      refine lv_goto (tgt := 12) hx hb dX0_slideDown_108 (by decide) ?_
      exact ih σ x1 v8 (x4 + 1) _ _ _ hI (lv_sub hl [3, 4, 1, 5, 0] rfl) hw hK
    have hw := hw.2 c_
    refine lv_iconst (v := 0) hx hb dX0_slideDown_43 (by decide) ?_
    refine lv_istore (lv' := [(6, .int 0), (5, .int v7), (0, .ref (a 0)), (1, .int x1), (2, .int x2), (3, .int x3), (4, .int x4)]) hx hb dX0_slideDown_44 hl (by decide) rfl (fun ls hl => ?_)
    obtain ⟨n9, hw⟩ := hw
    refine wk_bSlideDown_46 hx hb hml hown hts hA x1 x2 x3 x4 v7 n9 σ 0 _ _ _ hI (lv_sub hl [2, 3, 4, 5, 6, 1, 0] rfl) hw (fun σ10 v11 H locs ls hI hl hw => ?_)
    refine lv_iload_n hx hb dX0_slideDown_95 rfl (lv_at hl 1 rfl) ?_
    refine lv_iload hx hb dX0_slideDown_96 (lv_at hl 5 rfl) ?_
    refine lv_iadd hx hb dX0_slideDown_98 ?_
    refine lv_topi (fun v12 e_v12 => ?_)
    have hw := hw v12 e_v12
    refine lv_istore_n (lv' := [(1, .int v12), (0, .ref (a 0)), (2, .int x2), (3, .int x3), (4, .int x4), (5, .int v7), (6, .int v11)]) hx hb dX0_slideDown_99 rfl hl (by decide) rfl (fun ls hl => ?_)
    refine lv_iload_n hx hb dX0_slideDown_100 rfl (lv_at hl 2 rfl) ?_
    refine lv_iload hx hb dX0_slideDown_101 (lv_at hl 5 rfl) ?_
    refine lv_iadd hx hb dX0_slideDown_103 ?_
    refine lv_topi (fun v13 e_v13 => ?_)
    have hw := hw v13 e_v13
    refine lv_istore_n (lv' := [(2, .int v13), (1, .int v12), (0, .ref (a 0)), (3, .int x3), (4, .int x4), (5, .int v7), (6, .int v11)]) hx hb dX0_slideDown_104 rfl hl (by decide) rfl (fun ls hl => ?_)
    refine lv_iinc (v := (x4 + 1)) (lv' := [(4, .int (x4 + 1)), (2, .int v13), (1, .int v12), (0, .ref (a 0)), (3, .int x3), (5, .int v7), (6, .int v11)]) hx hb dX0_slideDown_105 hl (k := 4) rfl rfl (by decide) rfl (fun ls hl => ?_)
    refine lv_goto (tgt := 12) hx hb dX0_slideDown_108 (by decide) ?_
    exact ih σ10 v12 v13 (x4 + 1) _ _ _ hI (lv_sub hl [3, 2, 1, 4, 0] rfl) hw hK
set_option maxHeartbeats 4000000 in
set_option maxRecDepth 100000 in
theorem met_bSlideDown (l : Launch) (D : va_G) (a : Nat → Nat) (k : Nat → ClassId) (σ : St) {P : St → Prop} (hw : w_bSlideDown P σ ) (sz : Nat) : Met l yX0_slideDown (ws_ yX0_slideDown cX0_slideDown 7 none) rm_bSlideDown (bPc D a k σ sz []) (va_Qv P (bB D a k (va_A (bW a k σ) sz)) (va_A (bW a k σ) sz)) 0 0 (va_A (bW a k σ) sz) := by
  refine Met.ofW (cc := cX0_slideDown) (maxL := 7) (ret := none) (by decide) rfl ?_
  intro p e s m args below meth c s₁ B hml hv
  obtain ⟨rfl, hI, hA⟩ := b_start hv
  have hx := B.exec
  have hb := B.bytes
  have hr := B.returns
  have hlocks := B.notSynchronized
  have hts := atoms_spec (ws := (ws_ yX0_slideDown cX0_slideDown 7 none)) B.pre
  have hts : ∀ w ∈ lw_all, w.before _ s = true := fun w h => hts w (List.mem_cons_of_mem _ h)
  have hown : s.vm.findClass RX0 = some m.cls := findClass_of_methodNamed B.named
  generalize va_A (bW a k σ) sz = A at hI hA ⊢
  have hl := lv_entry ([.ref (a 0)]) (n := 7) (Nat.le_of_ble_eq_true rfl)
  rw [lg_entry_eq]
  generalize (lg_sl ([.ref (a 0)]) ++ List.replicate (7 - (lg_sl ([.ref (a 0)])).length) Slot.unset).toArray = ls at hl ⊢
  have hl : lv_has ls 7 [(0, .ref (a 0))] := hl
  change W p l e rm_bSlideDown s m _ below meth c s.heap [] 0 0 _ (F0 m 0 ls [])
  unfold w_bSlideDown at hw
  refine lv_iconst (v := 0) hx hb dX0_slideDown_0 (by decide) ?_
  refine lv_istore_n (lv' := [(1, .int 0), (0, .ref (a 0))]) hx hb dX0_slideDown_1 rfl hl (by decide) rfl (fun ls hl => ?_)
  refine lv_iconst (v := 0) hx hb dX0_slideDown_2 (by decide) ?_
  refine lv_istore_n (lv' := [(2, .int 0), (1, .int 0), (0, .ref (a 0))]) hx hb dX0_slideDown_3 rfl hl (by decide) rfl (fun ls hl => ?_)
  refine lv_aload_n hx hb dX0_slideDown_4 rfl (lv_at hl 2 rfl) ?_
  refine b_get hx hb hts hown hI 0 (by decide) rfl q24 (v := .int (σ 0 0)) rfl dX0_slideDown_5 ?_
  refine lv_topi (fun v16 e_v16 => ?_)
  have hw := hw v16 e_v16
  refine lv_istore_n (lv' := [(3, .int v16), (2, .int 0), (1, .int 0), (0, .ref (a 0))]) hx hb dX0_slideDown_8 rfl hl (by decide) rfl (fun ls hl => ?_)
  refine lv_iconst (v := 0) hx hb dX0_slideDown_9 (by decide) ?_
  refine lv_istore (lv' := [(4, .int 0), (3, .int v16), (2, .int 0), (1, .int 0), (0, .ref (a 0))]) hx hb dX0_slideDown_10 hl (by decide) rfl (fun ls hl => ?_)
  obtain ⟨n17, hw⟩ := hw
  refine wk_bSlideDown_12 hx hb hml hown hts hA v16 n17 σ 0 0 0 _ _ _ hI (lv_sub hl [4, 3, 2, 1, 0] rfl) hw (fun σ18 v19 v20 v21 H locs ls hI hl hw => ?_)
  refine lv_aload_n hx hb dX0_slideDown_111 rfl (lv_at hl 0 rfl) ?_
  refine lv_iload_n hx hb dX0_slideDown_112 rfl (lv_at hl 1 rfl) ?_
  refine b_put hx hb hts hown hI 0 (by decide) rfl q24 rfl (by decide +kernel) (b_s0 _ _ _ _) dX0_slideDown_113 (fun σ22 H locs e_σ22 hI => ?_)
  have hw := hw σ22 e_σ22
  exact b_vret hx hb hr hlocks hI hw dX0_slideDown_116
abbrev rm_bSqueeze : Room := { frames := 2, cells := 0, slots := 0, locals := 49 }
set_option maxHeartbeats 4000000 in
set_option maxRecDepth 100000 in
theorem wk_bSqueeze_10 {p : Program} {l : Launch} {e : Env} {s : State} {m : MethodId} {args : Array Value} {below : List Frame} {meth : Method} {c : Code} {Q : State → Prop} {D : va_G} {a : Nat → Nat} {k : Nat → ClassId} {A : Nat → Prop} (hx : p.tables.exec = Jvm.exec) (hb : c.code = cX0_squeeze) (hml : c.maxLocals = 2) (hown : s.vm.findClass RX0 = some m.cls) (hts : ∀ w ∈ lw_all, w.before args s = true) (hA : ∀ q : Nat, s.heap.size ≤ q → A q)  {K : St → Int32 → Prop} :
    ∀ (n : Nat) (σ : St) (x1 : Int32) (H : Heap) (locs : List Loc) (ls : Array Slot), bI D a k A s σ H locs → lv_has ls 2 [(0, .ref (a 0)), (1, .int x1)] → w_bSqueeze_10 K n σ x1 → (∀ (σ : St) (x1 : Int32) (H : Heap) (locs : List Loc) (ls : Array Slot), bI D a k A s σ H locs → lv_has ls 2 [(0, .ref (a 0)), (1, .int x1)] → K σ x1 → W p l e rm_bSqueeze s m args below meth c H locs 0 0 Q (F0 m 47 ls [])) → W p l e rm_bSqueeze s m args below meth c H locs 0 0 Q (F0 m 10 ls []) := by
  intro n
  induction n with
  | zero => intro σ x1 H locs ls hI hl hw; exact hw.elim
  | succ n ih =>
    intro σ x1 H locs ls hI hl hw hK
    rw [w_bSqueeze_10] at hw
    refine lv_iload_n hx hb dX0_squeeze_10 rfl (lv_at hl 1 rfl) ?_
    refine lv_bipush (v := 6) hx hb dX0_squeeze_11 (by decide) ?_
    refine lv_icmp_ge (tgt := 47) hx hb dX0_squeeze_13 (by decide) (fun c_ => ?_) (fun c_ => ?_)
    · have hw := hw.1 c_
      exact hK σ x1 _ _ _ hI (lv_sub hl [0, 1] rfl) hw
    have hw := hw.2 c_
    refine lv_aload_n hx hb dX0_squeeze_16 rfl (lv_at hl 0 rfl) ?_
    refine b_get hx hb hts hown hI 4 (by decide) rfl q28 (v := .ref (a 4)) rfl dX0_squeeze_17 ?_
    refine lv_iload_n hx hb dX0_squeeze_20 rfl (lv_at hl 1 rfl) ?_
    obtain ⟨g6, hw⟩ := hw
    refine va_zald hx hb hI.1 hI.2.1 4 3 rfl rfl g6 dX0_squeeze_21 ?_
    refine lv_if_eq (tgt := 41) hx hb dX0_squeeze_22 (by decide) (fun c_ => ?_) (fun c_ => ?_)
    · have hw := hw.1 c_
      refine lv_iinc (v := (x1 + 1)) (lv' := [(1, .int (x1 + 1)), (0, .ref (a 0))]) hx hb dX0_squeeze_41 hl (k := 1) rfl rfl (by decide) rfl (fun ls hl => ?_)
      refine lv_goto (tgt := 10) hx hb dX0_squeeze_44 (by decide) ?_
      exact ih σ (x1 + 1) _ _ _ hI (lv_sub hl [1, 0] rfl) hw hK
    have hw := hw.2 c_
    refine lv_aload_n hx hb dX0_squeeze_25 rfl (lv_at hl 0 rfl) ?_
    refine b_get hx hb hts hown hI 3 (by decide) rfl q27 (v := .ref (a 3)) rfl dX0_squeeze_26 ?_
    refine lv_iload_n hx hb dX0_squeeze_29 rfl (lv_at hl 1 rfl) ?_
    refine lv_aload_n hx hb dX0_squeeze_30 rfl (lv_at hl 0 rfl) ?_
    refine lv_aload_n hx hb dX0_squeeze_31 rfl (lv_at hl 0 rfl) ?_
    refine b_get hx hb hts hown hI 3 (by decide) rfl q27 (v := .ref (a 3)) rfl dX0_squeeze_32 ?_
    refine lv_iload_n hx hb dX0_squeeze_35 rfl (lv_at hl 1 rfl) ?_
    obtain ⟨g5, hw⟩ := hw
    refine va_iald hx hb hI.1 hI.2.1 3 2 rfl rfl g5 dX0_squeeze_36 ?_
    refine b_calli (As := [.int (σ 3 x1.toNatClampNeg)]) ⟨hx, hb, hml, hown, hts⟩ (met_bMovedAddress l D a k σ (σ 3 x1.toNatClampNeg) hw) (cwV 1 hts (lw_V q83 q85 qs4 q14 q86) rfl rfl rfl (by decide +kernel) ⟨Nat.le_of_ble_eq_true rfl, Nat.le_of_ble_eq_true rfl⟩) hI hA rfl hl.1 rfl (Nat.le_of_ble_eq_true rfl) dX0_squeeze_37 ⟨Nat.le_of_ble_eq_true rfl, Nat.le_of_ble_eq_true rfl⟩ (fun r2 σ1 H locs hw hI => ?_)
    obtain ⟨g4, hw⟩ := hw
    refine b_iast hx hb hI 3 2 rfl rfl (b_s3 _ _ _ _ _) g4 dX0_squeeze_40 (fun σ3 H locs e_σ3 hI => ?_)
    have hw := hw σ3 e_σ3
    refine lv_iinc (v := (x1 + 1)) (lv' := [(1, .int (x1 + 1)), (0, .ref (a 0))]) hx hb dX0_squeeze_41 hl (k := 1) rfl rfl (by decide) rfl (fun ls hl => ?_)
    refine lv_goto (tgt := 10) hx hb dX0_squeeze_44 (by decide) ?_
    exact ih σ3 (x1 + 1) _ _ _ hI (lv_sub hl [1, 0] rfl) hw hK
set_option maxHeartbeats 4000000 in
set_option maxRecDepth 100000 in
theorem met_bSqueeze (l : Launch) (D : va_G) (a : Nat → Nat) (k : Nat → ClassId) (σ : St) {P : St → Prop} (hw : w_bSqueeze P σ ) (sz : Nat) : Met l yX0_squeeze (ws_ yX0_squeeze cX0_squeeze 2 none) rm_bSqueeze (bPc D a k σ sz []) (va_Qv P (bB D a k (va_A (bW a k σ) sz)) (va_A (bW a k σ) sz)) 0 0 (va_A (bW a k σ) sz) := by
  refine Met.ofW (cc := cX0_squeeze) (maxL := 2) (ret := none) (by decide) rfl ?_
  intro p e s m args below meth c s₁ B hml hv
  obtain ⟨rfl, hI, hA⟩ := b_start hv
  have hx := B.exec
  have hb := B.bytes
  have hr := B.returns
  have hlocks := B.notSynchronized
  have hts := atoms_spec (ws := (ws_ yX0_squeeze cX0_squeeze 2 none)) B.pre
  have hts : ∀ w ∈ lw_all, w.before _ s = true := fun w h => hts w (List.mem_cons_of_mem _ h)
  have hown : s.vm.findClass RX0 = some m.cls := findClass_of_methodNamed B.named
  generalize va_A (bW a k σ) sz = A at hI hA ⊢
  have hl := lv_entry ([.ref (a 0)]) (n := 2) (Nat.le_of_ble_eq_true rfl)
  rw [lg_entry_eq]
  generalize (lg_sl ([.ref (a 0)]) ++ List.replicate (2 - (lg_sl ([.ref (a 0)])).length) Slot.unset).toArray = ls at hl ⊢
  have hl : lv_has ls 2 [(0, .ref (a 0))] := hl
  change W p l e rm_bSqueeze s m _ below meth c s.heap [] 0 0 _ (F0 m 0 ls [])
  unfold w_bSqueeze at hw
  refine lv_aload_n hx hb dX0_squeeze_0 rfl (lv_at hl 0 rfl) ?_
  refine b_callv (As := []) ⟨hx, hb, hml, hown, hts⟩ (met_bMarkReached l D a k σ hw) (cwV 0 hts (lw_V q71 q73 qs1 q14 q74) rfl rfl rfl (by decide +kernel) ⟨Nat.le_of_ble_eq_true rfl, Nat.le_of_ble_eq_true rfl⟩) hI hA rfl hl.1 rfl (Nat.le_of_ble_eq_true rfl) dX0_squeeze_1 ⟨Nat.le_of_ble_eq_true rfl, Nat.le_of_ble_eq_true rfl⟩ (fun σ7 H locs hw hI => ?_)
  refine lv_aload_n hx hb dX0_squeeze_4 rfl (lv_at hl 0 rfl) ?_
  refine b_callv (As := []) ⟨hx, hb, hml, hown, hts⟩ (met_bListBreaks l D a k σ7 hw) (cwV 0 hts (lw_V q79 q81 qs3 q14 q82) rfl rfl rfl (by decide +kernel) ⟨Nat.le_of_ble_eq_true rfl, Nat.le_of_ble_eq_true rfl⟩) hI hA rfl hl.1 rfl (Nat.le_of_ble_eq_true rfl) dX0_squeeze_5 ⟨Nat.le_of_ble_eq_true rfl, Nat.le_of_ble_eq_true rfl⟩ (fun σ8 H locs hw hI => ?_)
  refine lv_iconst (v := 0) hx hb dX0_squeeze_8 (by decide) ?_
  refine lv_istore_n (lv' := [(1, .int 0), (0, .ref (a 0))]) hx hb dX0_squeeze_9 rfl hl (by decide) rfl (fun ls hl => ?_)
  obtain ⟨n9, hw⟩ := hw
  refine wk_bSqueeze_10 hx hb hml hown hts hA  n9 σ8 0 _ _ _ hI (lv_sub hl [1, 0] rfl) hw (fun σ10 v11 H locs ls hI hl hw => ?_)
  refine lv_aload_n hx hb dX0_squeeze_47 rfl (lv_at hl 0 rfl) ?_
  refine b_callv (As := []) ⟨hx, hb, hml, hown, hts⟩ (met_bMendFields l D a k σ10 hw) (cwV 0 hts (lw_V q87 q89 qs5 q14 q90) rfl rfl rfl (by decide +kernel) ⟨Nat.le_of_ble_eq_true rfl, Nat.le_of_ble_eq_true rfl⟩) hI hA rfl hl.1 rfl (Nat.le_of_ble_eq_true rfl) dX0_squeeze_48 ⟨Nat.le_of_ble_eq_true rfl, Nat.le_of_ble_eq_true rfl⟩ (fun σ12 H locs hw hI => ?_)
  refine lv_aload_n hx hb dX0_squeeze_51 rfl (lv_at hl 0 rfl) ?_
  refine b_callv (As := []) ⟨hx, hb, hml, hown, hts⟩ (met_bSlideDown l D a k σ12 hw) (cwV 0 hts (lw_V q91 q93 qs6 q14 q94) rfl rfl rfl (by decide +kernel) ⟨Nat.le_of_ble_eq_true rfl, Nat.le_of_ble_eq_true rfl⟩) hI hA rfl hl.1 rfl (Nat.le_of_ble_eq_true rfl) dX0_squeeze_52 ⟨Nat.le_of_ble_eq_true rfl, Nat.le_of_ble_eq_true rfl⟩ (fun σ13 H locs hw hI => ?_)
  exact b_vret hx hb hr hlocks hI hw dX0_squeeze_55
abbrev rm_bMake : Room := { frames := 3, cells := 0, slots := 0, locals := 70 }
set_option maxHeartbeats 4000000 in
set_option maxRecDepth 100000 in
theorem wk_bMake_77 {p : Program} {l : Launch} {e : Env} {s : State} {m : MethodId} {args : Array Value} {below : List Frame} {meth : Method} {c : Code} {Q : State → Prop} {D : va_G} {a : Nat → Nat} {k : Nat → ClassId} {A : Nat → Prop} (hx : p.tables.exec = Jvm.exec) (hb : c.code = cX0_make) (hml : c.maxLocals = 5) (hown : s.vm.findClass RX0 = some m.cls) (hts : ∀ w ∈ lw_all, w.before args s = true) (hA : ∀ q : Nat, s.heap.size ≤ q → A q) (x1 : Int32) (x2 : Int32) (x3 : Int32) {K : St → Int32 → Prop} :
    ∀ (n : Nat) (σ : St) (x4 : Int32) (H : Heap) (locs : List Loc) (ls : Array Slot), bI D a k A s σ H locs → lv_has ls 5 [(0, .ref (a 0)), (1, .int x1), (2, .int x2), (3, .int x3), (4, .int x4)] → w_bMake_77 x1 x2 x3 K n σ x4 → (∀ (σ : St) (x4 : Int32) (H : Heap) (locs : List Loc) (ls : Array Slot), bI D a k A s σ H locs → lv_has ls 5 [(0, .ref (a 0)), (1, .int x1), (2, .int x2), (3, .int x3), (4, .int x4)] → K σ x4 → W p l e rm_bMake s m args below meth c H locs 0 0 Q (F0 m 107 ls [])) → W p l e rm_bMake s m args below meth c H locs 0 0 Q (F0 m 77 ls []) := by
  intro n
  induction n with
  | zero => intro σ x4 H locs ls hI hl hw; exact hw.elim
  | succ n ih =>
    intro σ x4 H locs ls hI hl hw hK
    rw [w_bMake_77] at hw
    refine lv_iload hx hb dX0_make_77 (lv_at hl 4 rfl) ?_
    refine lv_iload_n hx hb dX0_make_79 rfl (lv_at hl 3 rfl) ?_
    refine lv_iload_n hx hb dX0_make_80 rfl (lv_at hl 2 rfl) ?_
    refine lv_iadd hx hb dX0_make_81 ?_
    refine lv_icmp_gt (tgt := 107) hx hb dX0_make_82 (by decide) (fun c_ => ?_) (fun c_ => ?_)
    · have hw := hw.1 c_
      exact hK σ x4 _ _ _ hI (lv_sub hl [0, 1, 2, 3, 4] rfl) hw
    have hw := hw.2 c_
    refine lv_aload_n hx hb dX0_make_85 rfl (lv_at hl 0 rfl) ?_
    refine b_get hx hb hts hown hI 1 (by decide) rfl q25 (v := .ref (a 1)) rfl dX0_make_86 ?_
    refine lv_iload hx hb dX0_make_89 (lv_at hl 4 rfl) ?_
    refine lv_iconst (v := 0) hx hb dX0_make_91 (by decide) ?_
    obtain ⟨g2, hw⟩ := hw
    refine b_iast hx hb hI 1 0 rfl rfl (b_s1 _ _ _ _ _) g2 dX0_make_92 (fun σ1 H locs e_σ1 hI => ?_)
    have hw := hw σ1 e_σ1
    refine lv_aload_n hx hb dX0_make_93 rfl (lv_at hl 0 rfl) ?_
    refine b_get hx hb hts hown hI 2 (by decide) rfl q26 (v := .ref (a 2)) rfl dX0_make_94 ?_
    refine lv_iload hx hb dX0_make_97 (lv_at hl 4 rfl) ?_
    refine lv_iconst (v := 0) hx hb dX0_make_99 (by decide) ?_
    obtain ⟨g4, hw⟩ := hw
    refine b_zast hx hb hI 2 1 rfl rfl (b_s2 _ _ _ _ _) g4 dX0_make_100 (fun σ3 H locs e_σ3 hI => ?_)
    have hw := hw σ3 e_σ3
    refine lv_iinc (v := (x4 + 1)) (lv' := [(4, .int (x4 + 1)), (0, .ref (a 0)), (1, .int x1), (2, .int x2), (3, .int x3)]) hx hb dX0_make_101 hl (k := 4) rfl rfl (by decide) rfl (fun ls hl => ?_)
    refine lv_goto (tgt := 77) hx hb dX0_make_104 (by decide) ?_
    exact ih σ3 (x4 + 1) _ _ _ hI (lv_sub hl [1, 2, 3, 4, 0] rfl) hw hK
set_option maxHeartbeats 4000000 in
set_option maxRecDepth 100000 in
theorem met_bMake (l : Launch) (D : va_G) (a : Nat → Nat) (k : Nat → ClassId) (σ : St) (x1 x2 : Int32) {P : Int32 → St → Prop} (hw : w_bMake P σ x1 x2) (sz : Nat) : Met l yX0_make (ws_ yX0_make cX0_make 5 (some .int)) rm_bMake (bPc D a k σ sz [.int x1, .int x2]) (va_Qi P (bB D a k (va_A (bW a k σ) sz)) (va_A (bW a k σ) sz)) 0 0 (va_A (bW a k σ) sz) := by
  refine Met.ofW (cc := cX0_make) (maxL := 5) (ret := (some .int)) (by decide) rfl ?_
  intro p e s m args below meth c s₁ B hml hv
  obtain ⟨rfl, hI, hA⟩ := b_start hv
  have hx := B.exec
  have hb := B.bytes
  have hr := B.returns
  have hlocks := B.notSynchronized
  have hts := atoms_spec (ws := (ws_ yX0_make cX0_make 5 (some .int))) B.pre
  have hts : ∀ w ∈ lw_all, w.before _ s = true := fun w h => hts w (List.mem_cons_of_mem _ h)
  have hown : s.vm.findClass RX0 = some m.cls := findClass_of_methodNamed B.named
  generalize va_A (bW a k σ) sz = A at hI hA ⊢
  have hl := lv_entry ([.ref (a 0), .int x1, .int x2]) (n := 5) (Nat.le_of_ble_eq_true rfl)
  rw [lg_entry_eq]
  generalize (lg_sl ([.ref (a 0), .int x1, .int x2]) ++ List.replicate (5 - (lg_sl ([.ref (a 0), .int x1, .int x2])).length) Slot.unset).toArray = ls at hl ⊢
  have hl : lv_has ls 5 [(0, .ref (a 0)), (1, .int x1), (2, .int x2)] := hl
  change W p l e rm_bMake s m _ below meth c s.heap [] 0 0 _ (F0 m 0 ls [])
  unfold w_bMake at hw
  refine lv_iload_n hx hb dX0_make_0 rfl (lv_at hl 1 rfl) ?_
  refine s_call ⟨hx, hb, hml, hown, hts⟩ (met_bIsRegister l x1) (va_cwS 1 hts (lw_S q64 q65 q14 q66) rfl rfl rfl (by decide +kernel) ⟨Nat.le_of_ble_eq_true rfl, Nat.le_of_ble_eq_true rfl⟩) rfl hl.1 rfl (Nat.le_of_ble_eq_true rfl) dX0_make_1 ⟨Nat.le_of_ble_eq_true rfl, Nat.le_of_ble_eq_true rfl⟩ ?_
  refine lv_if_eq (tgt := 18) hx hb dX0_make_4 (by decide) (fun c_ => ?_) (fun c_ => ?_)
  · have hw := hw.1 c_
    refine lv_iconst (v := -1) hx hb dX0_make_18 (by decide) ?_
    exact b_iret hx hb hr hlocks hI hw dX0_make_19
  have hw := hw.2 c_
  refine lv_iload_n hx hb dX0_make_7 rfl (lv_at hl 2 rfl) ?_
  refine lv_iconst (v := 1) hx hb dX0_make_8 (by decide) ?_
  refine lv_icmp_lt (tgt := 18) hx hb dX0_make_9 (by decide) (fun c_ => ?_) (fun c_ => ?_)
  · have hw := hw.1 c_
    refine lv_iconst (v := -1) hx hb dX0_make_18 (by decide) ?_
    exact b_iret hx hb hr hlocks hI hw dX0_make_19
  have hw := hw.2 c_
  refine lv_iload_n hx hb dX0_make_12 rfl (lv_at hl 2 rfl) ?_
  refine lv_bipush (v := 6) hx hb dX0_make_13 (by decide) ?_
  refine lv_icmp_le (tgt := 20) hx hb dX0_make_15 (by decide) (fun c_ => ?_) (fun c_ => ?_)
  · have hw := hw.1 c_
    refine lv_bipush (v := 72) hx hb dX0_make_20 (by decide) ?_
    refine lv_aload_n hx hb dX0_make_22 rfl (lv_at hl 0 rfl) ?_
    refine b_get hx hb hts hown hI 0 (by decide) rfl q24 (v := .int (σ 0 0)) rfl dX0_make_23 ?_
    refine lv_isub hx hb dX0_make_26 ?_
    refine lv_iload_n hx hb dX0_make_27 rfl (lv_at hl 2 rfl) ?_
    refine lv_iconst (v := 1) hx hb dX0_make_28 (by decide) ?_
    refine lv_iadd hx hb dX0_make_29 ?_
    refine lv_icmp_ge (tgt := 37) hx hb dX0_make_30 (by decide) (fun c_ => ?_) (fun c_ => ?_)
    · have hw := hw.1 c_
      refine lv_bipush (v := 72) hx hb dX0_make_37 (by decide) ?_
      refine lv_aload_n hx hb dX0_make_39 rfl (lv_at hl 0 rfl) ?_
      refine b_get hx hb hts hown hI 0 (by decide) rfl q24 (v := .int (σ 0 0)) rfl dX0_make_40 ?_
      refine lv_isub hx hb dX0_make_43 ?_
      refine lv_iload_n hx hb dX0_make_44 rfl (lv_at hl 2 rfl) ?_
      refine lv_iconst (v := 1) hx hb dX0_make_45 (by decide) ?_
      refine lv_iadd hx hb dX0_make_46 ?_
      refine lv_icmp_ge (tgt := 53) hx hb dX0_make_47 (by decide) (fun c_ => ?_) (fun c_ => ?_)
      · have hw := hw.1 c_
        refine lv_aload_n hx hb dX0_make_53 rfl (lv_at hl 0 rfl) ?_
        refine b_get hx hb hts hown hI 0 (by decide) rfl q24 (v := .int (σ 0 0)) rfl dX0_make_54 ?_
        refine lv_topi (fun v5 e_v5 => ?_)
        have hw := hw v5 e_v5
        refine lv_istore_n (lv' := [(3, .int v5), (0, .ref (a 0)), (1, .int x1), (2, .int x2)]) hx hb dX0_make_57 rfl hl (by decide) rfl (fun ls hl => ?_)
        refine lv_aload_n hx hb dX0_make_58 rfl (lv_at hl 1 rfl) ?_
        refine b_get hx hb hts hown hI 1 (by decide) rfl q25 (v := .ref (a 1)) rfl dX0_make_59 ?_
        refine lv_iload_n hx hb dX0_make_62 rfl (lv_at hl 0 rfl) ?_
        refine lv_iload_n hx hb dX0_make_63 rfl (lv_at hl 3 rfl) ?_
        obtain ⟨g7, hw⟩ := hw
        refine b_iast hx hb hI 1 0 rfl rfl (b_s1 _ _ _ _ _) g7 dX0_make_64 (fun σ6 H locs e_σ6 hI => ?_)
        have hw := hw σ6 e_σ6
        refine lv_aload_n hx hb dX0_make_65 rfl (lv_at hl 1 rfl) ?_
        refine b_get hx hb hts hown hI 2 (by decide) rfl q26 (v := .ref (a 2)) rfl dX0_make_66 ?_
        refine lv_iload_n hx hb dX0_make_69 rfl (lv_at hl 0 rfl) ?_
        refine lv_iconst (v := 0) hx hb dX0_make_70 (by decide) ?_
        obtain ⟨g9, hw⟩ := hw
        refine b_zast hx hb hI 2 1 rfl rfl (b_s2 _ _ _ _ _) g9 dX0_make_71 (fun σ8 H locs e_σ8 hI => ?_)
        have hw := hw σ8 e_σ8
        refine lv_iload_n hx hb dX0_make_72 rfl (lv_at hl 0 rfl) ?_
        refine lv_iconst (v := 1) hx hb dX0_make_73 (by decide) ?_
        refine lv_iadd hx hb dX0_make_74 ?_
        refine lv_topi (fun v10 e_v10 => ?_)
        have hw := hw v10 e_v10
        refine lv_istore (lv' := [(4, .int v10), (3, .int v5), (0, .ref (a 0)), (1, .int x1), (2, .int x2)]) hx hb dX0_make_75 hl (by decide) rfl (fun ls hl => ?_)
        obtain ⟨n11, hw⟩ := hw
        refine wk_bMake_77 hx hb hml hown hts hA x1 x2 v5 n11 σ8 v10 _ _ _ hI (lv_sub hl [2, 3, 4, 1, 0] rfl) hw (fun σ12 v13 H locs ls hI hl hw => ?_)
        refine lv_aload_n hx hb dX0_make_107 rfl (lv_at hl 0 rfl) ?_
        refine lv_iload_n hx hb dX0_make_108 rfl (lv_at hl 3 rfl) ?_
        refine lv_iload_n hx hb dX0_make_109 rfl (lv_at hl 2 rfl) ?_
        refine lv_iadd hx hb dX0_make_110 ?_
        refine lv_iconst (v := 1) hx hb dX0_make_111 (by decide) ?_
        refine lv_iadd hx hb dX0_make_112 ?_
        refine b_put hx hb hts hown hI 0 (by decide) rfl q24 rfl (by decide +kernel) (b_s0 _ _ _ _) dX0_make_113 (fun σ14 H locs e_σ14 hI => ?_)
        have hw := hw σ14 e_σ14
        refine lv_aload_n hx hb dX0_make_116 rfl (lv_at hl 0 rfl) ?_
        refine b_get hx hb hts hown hI 3 (by decide) rfl q27 (v := .ref (a 3)) rfl dX0_make_117 ?_
        refine lv_iload_n hx hb dX0_make_120 rfl (lv_at hl 1 rfl) ?_
        refine lv_iload_n hx hb dX0_make_121 rfl (lv_at hl 3 rfl) ?_
        obtain ⟨g16, hw⟩ := hw
        refine b_iast hx hb hI 3 2 rfl rfl (b_s3 _ _ _ _ _) g16 dX0_make_122 (fun σ15 H locs e_σ15 hI => ?_)
        have hw := hw σ15 e_σ15
        refine lv_aload_n hx hb dX0_make_123 rfl (lv_at hl 0 rfl) ?_
        refine b_get hx hb hts hown hI 4 (by decide) rfl q28 (v := .ref (a 4)) rfl dX0_make_124 ?_
        refine lv_iload_n hx hb dX0_make_127 rfl (lv_at hl 1 rfl) ?_
        refine lv_iconst (v := 1) hx hb dX0_make_128 (by decide) ?_
        obtain ⟨g18, hw⟩ := hw
        refine b_zast hx hb hI 4 3 rfl rfl (b_s4 _ _ _ _ _) g18 dX0_make_129 (fun σ17 H locs e_σ17 hI => ?_)
        have hw := hw σ17 e_σ17
        refine lv_iconst (v := 0) hx hb dX0_make_130 (by decide) ?_
        exact b_iret hx hb hr hlocks hI hw dX0_make_131
      have hw := hw.2 c_
      refine lv_bipush (v := -2) hx hb dX0_make_50 (by decide) ?_
      exact b_iret hx hb hr hlocks hI hw dX0_make_52
    have hw := hw.2 c_
    refine lv_aload_n hx hb dX0_make_33 rfl (lv_at hl 0 rfl) ?_
    refine b_callv (As := []) ⟨hx, hb, hml, hown, hts⟩ (met_bSqueeze l D a k σ hw) (cwV 0 hts (lw_V q67 q69 qs0 q14 q70) rfl rfl rfl (by decide +kernel) ⟨Nat.le_of_ble_eq_true rfl, Nat.le_of_ble_eq_true rfl⟩) hI hA rfl hl.1 rfl (Nat.le_of_ble_eq_true rfl) dX0_make_34 ⟨Nat.le_of_ble_eq_true rfl, Nat.le_of_ble_eq_true rfl⟩ (fun σ19 H locs hw hI => ?_)
    refine lv_bipush (v := 72) hx hb dX0_make_37 (by decide) ?_
    refine lv_aload_n hx hb dX0_make_39 rfl (lv_at hl 0 rfl) ?_
    refine b_get hx hb hts hown hI 0 (by decide) rfl q24 (v := .int (σ19 0 0)) rfl dX0_make_40 ?_
    refine lv_isub hx hb dX0_make_43 ?_
    refine lv_iload_n hx hb dX0_make_44 rfl (lv_at hl 2 rfl) ?_
    refine lv_iconst (v := 1) hx hb dX0_make_45 (by decide) ?_
    refine lv_iadd hx hb dX0_make_46 ?_
    refine lv_icmp_ge (tgt := 53) hx hb dX0_make_47 (by decide) (fun c_ => ?_) (fun c_ => ?_)
    · have hw := hw.1 c_
      refine lv_aload_n hx hb dX0_make_53 rfl (lv_at hl 0 rfl) ?_
      refine b_get hx hb hts hown hI 0 (by decide) rfl q24 (v := .int (σ19 0 0)) rfl dX0_make_54 ?_
      refine lv_topi (fun v20 e_v20 => ?_)
      have hw := hw v20 e_v20
      refine lv_istore_n (lv' := [(3, .int v20), (0, .ref (a 0)), (1, .int x1), (2, .int x2)]) hx hb dX0_make_57 rfl hl (by decide) rfl (fun ls hl => ?_)
      refine lv_aload_n hx hb dX0_make_58 rfl (lv_at hl 1 rfl) ?_
      refine b_get hx hb hts hown hI 1 (by decide) rfl q25 (v := .ref (a 1)) rfl dX0_make_59 ?_
      refine lv_iload_n hx hb dX0_make_62 rfl (lv_at hl 0 rfl) ?_
      refine lv_iload_n hx hb dX0_make_63 rfl (lv_at hl 3 rfl) ?_
      obtain ⟨g22, hw⟩ := hw
      refine b_iast hx hb hI 1 0 rfl rfl (b_s1 _ _ _ _ _) g22 dX0_make_64 (fun σ21 H locs e_σ21 hI => ?_)
      have hw := hw σ21 e_σ21
      refine lv_aload_n hx hb dX0_make_65 rfl (lv_at hl 1 rfl) ?_
      refine b_get hx hb hts hown hI 2 (by decide) rfl q26 (v := .ref (a 2)) rfl dX0_make_66 ?_
      refine lv_iload_n hx hb dX0_make_69 rfl (lv_at hl 0 rfl) ?_
      refine lv_iconst (v := 0) hx hb dX0_make_70 (by decide) ?_
      obtain ⟨g24, hw⟩ := hw
      refine b_zast hx hb hI 2 1 rfl rfl (b_s2 _ _ _ _ _) g24 dX0_make_71 (fun σ23 H locs e_σ23 hI => ?_)
      have hw := hw σ23 e_σ23
      refine lv_iload_n hx hb dX0_make_72 rfl (lv_at hl 0 rfl) ?_
      refine lv_iconst (v := 1) hx hb dX0_make_73 (by decide) ?_
      refine lv_iadd hx hb dX0_make_74 ?_
      refine lv_topi (fun v25 e_v25 => ?_)
      have hw := hw v25 e_v25
      refine lv_istore (lv' := [(4, .int v25), (3, .int v20), (0, .ref (a 0)), (1, .int x1), (2, .int x2)]) hx hb dX0_make_75 hl (by decide) rfl (fun ls hl => ?_)
      obtain ⟨n26, hw⟩ := hw
      refine wk_bMake_77 hx hb hml hown hts hA x1 x2 v20 n26 σ23 v25 _ _ _ hI (lv_sub hl [2, 3, 4, 1, 0] rfl) hw (fun σ27 v28 H locs ls hI hl hw => ?_)
      refine lv_aload_n hx hb dX0_make_107 rfl (lv_at hl 0 rfl) ?_
      refine lv_iload_n hx hb dX0_make_108 rfl (lv_at hl 3 rfl) ?_
      refine lv_iload_n hx hb dX0_make_109 rfl (lv_at hl 2 rfl) ?_
      refine lv_iadd hx hb dX0_make_110 ?_
      refine lv_iconst (v := 1) hx hb dX0_make_111 (by decide) ?_
      refine lv_iadd hx hb dX0_make_112 ?_
      refine b_put hx hb hts hown hI 0 (by decide) rfl q24 rfl (by decide +kernel) (b_s0 _ _ _ _) dX0_make_113 (fun σ29 H locs e_σ29 hI => ?_)
      have hw := hw σ29 e_σ29
      refine lv_aload_n hx hb dX0_make_116 rfl (lv_at hl 0 rfl) ?_
      refine b_get hx hb hts hown hI 3 (by decide) rfl q27 (v := .ref (a 3)) rfl dX0_make_117 ?_
      refine lv_iload_n hx hb dX0_make_120 rfl (lv_at hl 1 rfl) ?_
      refine lv_iload_n hx hb dX0_make_121 rfl (lv_at hl 3 rfl) ?_
      obtain ⟨g31, hw⟩ := hw
      refine b_iast hx hb hI 3 2 rfl rfl (b_s3 _ _ _ _ _) g31 dX0_make_122 (fun σ30 H locs e_σ30 hI => ?_)
      have hw := hw σ30 e_σ30
      refine lv_aload_n hx hb dX0_make_123 rfl (lv_at hl 0 rfl) ?_
      refine b_get hx hb hts hown hI 4 (by decide) rfl q28 (v := .ref (a 4)) rfl dX0_make_124 ?_
      refine lv_iload_n hx hb dX0_make_127 rfl (lv_at hl 1 rfl) ?_
      refine lv_iconst (v := 1) hx hb dX0_make_128 (by decide) ?_
      obtain ⟨g33, hw⟩ := hw
      refine b_zast hx hb hI 4 3 rfl rfl (b_s4 _ _ _ _ _) g33 dX0_make_129 (fun σ32 H locs e_σ32 hI => ?_)
      have hw := hw σ32 e_σ32
      refine lv_iconst (v := 0) hx hb dX0_make_130 (by decide) ?_
      exact b_iret hx hb hr hlocks hI hw dX0_make_131
    have hw := hw.2 c_
    refine lv_bipush (v := -2) hx hb dX0_make_50 (by decide) ?_
    exact b_iret hx hb hr hlocks hI hw dX0_make_52
  have hw := hw.2 c_
  refine lv_iconst (v := -1) hx hb dX0_make_18 (by decide) ?_
  exact b_iret hx hb hr hlocks hI hw dX0_make_19
end
section
/-! printed by gen.py: walks of BreakHeap -/
abbrev rm_bNumber : Room := { frames := 1, cells := 0, slots := 0, locals := 20 }
set_option maxHeartbeats 4000000 in
set_option maxRecDepth 100000 in
theorem met_bNumber (l : Launch) (D : va_G) (a : Nat → Nat) (k : Nat → ClassId) (σ : St) (x1 x2 : Int32) {P : Int32 → St → Prop} (hw : w_bNumber P σ x1 x2) (sz : Nat) : Met l yX0_number (ws_ yX0_number cX0_number 3 (some .int)) rm_bNumber (bPc D a k σ sz [.int x1, .int x2]) (va_Qi P (bB D a k (va_A (bW a k σ) sz)) (va_A (bW a k σ) sz)) 0 0 (va_A (bW a k σ) sz) := by
  refine Met.ofW (cc := cX0_number) (maxL := 3) (ret := (some .int)) (by decide) rfl ?_
  intro p e s m args below meth c s₁ B hml hv
  obtain ⟨rfl, hI, hA⟩ := b_start hv
  have hx := B.exec
  have hb := B.bytes
  have hr := B.returns
  have hlocks := B.notSynchronized
  have hts := atoms_spec (ws := (ws_ yX0_number cX0_number 3 (some .int))) B.pre
  have hts : ∀ w ∈ lw_all, w.before _ s = true := fun w h => hts w (List.mem_cons_of_mem _ h)
  have hown : s.vm.findClass RX0 = some m.cls := findClass_of_methodNamed B.named
  generalize va_A (bW a k σ) sz = A at hI hA ⊢
  have hl := lv_entry ([.ref (a 0), .int x1, .int x2]) (n := 3) (Nat.le_of_ble_eq_true rfl)
  rw [lg_entry_eq]
  generalize (lg_sl ([.ref (a 0), .int x1, .int x2]) ++ List.replicate (3 - (lg_sl ([.ref (a 0), .int x1, .int x2])).length) Slot.unset).toArray = ls at hl ⊢
  have hl : lv_has ls 3 [(0, .ref (a 0)), (1, .int x1), (2, .int x2)] := hl
  change W p l e rm_bNumber s m _ below meth c s.heap [] 0 0 _ (F0 m 0 ls [])
  unfold w_bNumber at hw
  refine lv_iload_n hx hb dX0_number_0 rfl (lv_at hl 1 rfl) ?_
  refine s_call ⟨hx, hb, hml, hown, hts⟩ (met_bIsRegister l x1) (va_cwS 1 hts (lw_S q64 q65 q14 q66) rfl rfl rfl (by decide +kernel) ⟨Nat.le_of_ble_eq_true rfl, Nat.le_of_ble_eq_true rfl⟩) rfl hl.1 rfl (Nat.le_of_ble_eq_true rfl) dX0_number_1 ⟨Nat.le_of_ble_eq_true rfl, Nat.le_of_ble_eq_true rfl⟩ ?_
  refine lv_if_ne (tgt := 9) hx hb dX0_number_4 (by decide) (fun c_ => ?_) (fun c_ => ?_)
  · have hw := hw.2 c_
    refine lv_aload_n hx hb dX0_number_9 rfl (lv_at hl 0 rfl) ?_
    refine b_get hx hb hts hown hI 3 (by decide) rfl q27 (v := .ref (a 3)) rfl dX0_number_10 ?_
    refine lv_iload_n hx hb dX0_number_13 rfl (lv_at hl 1 rfl) ?_
    refine lv_iload_n hx hb dX0_number_14 rfl (lv_at hl 2 rfl) ?_
    obtain ⟨g2, hw⟩ := hw
    refine b_iast hx hb hI 3 2 rfl rfl (b_s3 _ _ _ _ _) g2 dX0_number_15 (fun σ1 H locs e_σ1 hI => ?_)
    have hw := hw σ1 e_σ1
    refine lv_aload_n hx hb dX0_number_16 rfl (lv_at hl 0 rfl) ?_
    refine b_get hx hb hts hown hI 4 (by decide) rfl q28 (v := .ref (a 4)) rfl dX0_number_17 ?_
    refine lv_iload_n hx hb dX0_number_20 rfl (lv_at hl 1 rfl) ?_
    refine lv_iconst (v := 0) hx hb dX0_number_21 (by decide) ?_
    obtain ⟨g4, hw⟩ := hw
    refine b_zast hx hb hI 4 3 rfl rfl (b_s4 _ _ _ _ _) g4 dX0_number_22 (fun σ3 H locs e_σ3 hI => ?_)
    have hw := hw σ3 e_σ3
    refine lv_iconst (v := 0) hx hb dX0_number_23 (by decide) ?_
    exact b_iret hx hb hr hlocks hI hw dX0_number_24
  have hw := hw.1 c_
  refine lv_iconst (v := -1) hx hb dX0_number_7 (by decide) ?_
  exact b_iret hx hb hr hlocks hI hw dX0_number_8
abbrev rm_bMove : Room := { frames := 1, cells := 0, slots := 0, locals := 20 }
set_option maxHeartbeats 4000000 in
set_option maxRecDepth 100000 in
theorem met_bMove (l : Launch) (D : va_G) (a : Nat → Nat) (k : Nat → ClassId) (σ : St) (x1 x2 : Int32) {P : Int32 → St → Prop} (hw : w_bMove P σ x1 x2) (sz : Nat) : Met l yX0_move (ws_ yX0_move cX0_move 3 (some .int)) rm_bMove (bPc D a k σ sz [.int x1, .int x2]) (va_Qi P (bB D a k (va_A (bW a k σ) sz)) (va_A (bW a k σ) sz)) 0 0 (va_A (bW a k σ) sz) := by
  refine Met.ofW (cc := cX0_move) (maxL := 3) (ret := (some .int)) (by decide) rfl ?_
  intro p e s m args below meth c s₁ B hml hv
  obtain ⟨rfl, hI, hA⟩ := b_start hv
  have hx := B.exec
  have hb := B.bytes
  have hr := B.returns
  have hlocks := B.notSynchronized
  have hts := atoms_spec (ws := (ws_ yX0_move cX0_move 3 (some .int))) B.pre
  have hts : ∀ w ∈ lw_all, w.before _ s = true := fun w h => hts w (List.mem_cons_of_mem _ h)
  have hown : s.vm.findClass RX0 = some m.cls := findClass_of_methodNamed B.named
  generalize va_A (bW a k σ) sz = A at hI hA ⊢
  have hl := lv_entry ([.ref (a 0), .int x1, .int x2]) (n := 3) (Nat.le_of_ble_eq_true rfl)
  rw [lg_entry_eq]
  generalize (lg_sl ([.ref (a 0), .int x1, .int x2]) ++ List.replicate (3 - (lg_sl ([.ref (a 0), .int x1, .int x2])).length) Slot.unset).toArray = ls at hl ⊢
  have hl : lv_has ls 3 [(0, .ref (a 0)), (1, .int x1), (2, .int x2)] := hl
  change W p l e rm_bMove s m _ below meth c s.heap [] 0 0 _ (F0 m 0 ls [])
  unfold w_bMove at hw
  refine lv_iload_n hx hb dX0_move_0 rfl (lv_at hl 1 rfl) ?_
  refine s_call ⟨hx, hb, hml, hown, hts⟩ (met_bIsRegister l x1) (va_cwS 1 hts (lw_S q64 q65 q14 q66) rfl rfl rfl (by decide +kernel) ⟨Nat.le_of_ble_eq_true rfl, Nat.le_of_ble_eq_true rfl⟩) rfl hl.1 rfl (Nat.le_of_ble_eq_true rfl) dX0_move_1 ⟨Nat.le_of_ble_eq_true rfl, Nat.le_of_ble_eq_true rfl⟩ ?_
  refine lv_if_eq (tgt := 14) hx hb dX0_move_4 (by decide) (fun c_ => ?_) (fun c_ => ?_)
  · have hw := hw.1 c_
    refine lv_iconst (v := -1) hx hb dX0_move_14 (by decide) ?_
    exact b_iret hx hb hr hlocks hI hw dX0_move_15
  have hw := hw.2 c_
  refine lv_iload_n hx hb dX0_move_7 rfl (lv_at hl 2 rfl) ?_
  refine s_call ⟨hx, hb, hml, hown, hts⟩ (met_bIsRegister l x2) (va_cwS 1 hts (lw_S q64 q65 q14 q66) rfl rfl rfl (by decide +kernel) ⟨Nat.le_of_ble_eq_true rfl, Nat.le_of_ble_eq_true rfl⟩) rfl hl.1 rfl (Nat.le_of_ble_eq_true rfl) dX0_move_8 ⟨Nat.le_of_ble_eq_true rfl, Nat.le_of_ble_eq_true rfl⟩ ?_
  refine lv_if_ne (tgt := 16) hx hb dX0_move_11 (by decide) (fun c_ => ?_) (fun c_ => ?_)
  · have hw := hw.2 c_
    refine lv_aload_n hx hb dX0_move_16 rfl (lv_at hl 0 rfl) ?_
    refine b_get hx hb hts hown hI 3 (by decide) rfl q27 (v := .ref (a 3)) rfl dX0_move_17 ?_
    refine lv_iload_n hx hb dX0_move_20 rfl (lv_at hl 1 rfl) ?_
    refine lv_aload_n hx hb dX0_move_21 rfl (lv_at hl 0 rfl) ?_
    refine b_get hx hb hts hown hI 3 (by decide) rfl q27 (v := .ref (a 3)) rfl dX0_move_22 ?_
    refine lv_iload_n hx hb dX0_move_25 rfl (lv_at hl 2 rfl) ?_
    obtain ⟨g6, hw⟩ := hw
    refine va_iald hx hb hI.1 hI.2.1 3 2 rfl rfl g6 dX0_move_26 ?_
    obtain ⟨g2, hw⟩ := hw
    refine b_iast hx hb hI 3 2 rfl rfl (b_s3 _ _ _ _ _) g2 dX0_move_27 (fun σ1 H locs e_σ1 hI => ?_)
    have hw := hw σ1 e_σ1
    refine lv_aload_n hx hb dX0_move_28 rfl (lv_at hl 0 rfl) ?_
    refine b_get hx hb hts hown hI 4 (by decide) rfl q28 (v := .ref (a 4)) rfl dX0_move_29 ?_
    refine lv_iload_n hx hb dX0_move_32 rfl (lv_at hl 1 rfl) ?_
    refine lv_aload_n hx hb dX0_move_33 rfl (lv_at hl 0 rfl) ?_
    refine b_get hx hb hts hown hI 4 (by decide) rfl q28 (v := .ref (a 4)) rfl dX0_move_34 ?_
    refine lv_iload_n hx hb dX0_move_37 rfl (lv_at hl 2 rfl) ?_
    obtain ⟨g5, hw⟩ := hw
    refine va_zald hx hb hI.1 hI.2.1 4 3 rfl rfl g5 dX0_move_38 ?_
    obtain ⟨g4, hw⟩ := hw
    refine b_zast hx hb hI 4 3 rfl rfl (b_s4 _ _ _ _ _) g4 dX0_move_39 (fun σ3 H locs e_σ3 hI => ?_)
    have hw := hw σ3 e_σ3
    refine lv_iconst (v := 0) hx hb dX0_move_40 (by decide) ?_
    exact b_iret hx hb hr hlocks hI hw dX0_move_41
  have hw := hw.1 c_
  refine lv_iconst (v := -1) hx hb dX0_move_14 (by decide) ?_
  exact b_iret hx hb hr hlocks hI hw dX0_move_15
abbrev rm_bStore : Room := { frames := 1, cells := 0, slots := 0, locals := 22 }
set_option maxHeartbeats 4000000 in
set_option maxRecDepth 100000 in
theorem met_bStore (l : Launch) (D : va_G) (a : Nat → Nat) (k : Nat → ClassId) (σ : St) (x1 x2 x3 : Int32) {P : Int32 → St → Prop} (hw : w_bStore P σ x1 x2 x3) (sz : Nat) : Met l yX0_store (ws_ yX0_store cX0_store 5 (some .int)) rm_bStore (bPc D a k σ sz [.int x1, .int x2, .int x3]) (va_Qi P (bB D a k (va_A (bW a k σ) sz)) (va_A (bW a k σ) sz)) 0 0 (va_A (bW a k σ) sz) := by
  refine Met.ofW (cc := cX0_store) (maxL := 5) (ret := (some .int)) (by decide) rfl ?_
  intro p e s m args below meth c s₁ B hml hv
  obtain ⟨rfl, hI, hA⟩ := b_start hv
  have hx := B.exec
  have hb := B.bytes
  have hr := B.returns
  have hlocks := B.notSynchronized
  have hts := atoms_spec (ws := (ws_ yX0_store cX0_store 5 (some .int))) B.pre
  have hts : ∀ w ∈ lw_all, w.before _ s = true := fun w h => hts w (List.mem_cons_of_mem _ h)
  have hown : s.vm.findClass RX0 = some m.cls := findClass_of_methodNamed B.named
  generalize va_A (bW a k σ) sz = A at hI hA ⊢
  have hl := lv_entry ([.ref (a 0), .int x1, .int x2, .int x3]) (n := 5) (Nat.le_of_ble_eq_true rfl)
  rw [lg_entry_eq]
  generalize (lg_sl ([.ref (a 0), .int x1, .int x2, .int x3]) ++ List.replicate (5 - (lg_sl ([.ref (a 0), .int x1, .int x2, .int x3])).length) Slot.unset).toArray = ls at hl ⊢
  have hl : lv_has ls 5 [(0, .ref (a 0)), (1, .int x1), (2, .int x2), (3, .int x3)] := hl
  change W p l e rm_bStore s m _ below meth c s.heap [] 0 0 _ (F0 m 0 ls [])
  unfold w_bStore at hw
  refine lv_iload_n hx hb dX0_store_0 rfl (lv_at hl 1 rfl) ?_
  refine s_call ⟨hx, hb, hml, hown, hts⟩ (met_bIsRegister l x1) (va_cwS 1 hts (lw_S q64 q65 q14 q66) rfl rfl rfl (by decide +kernel) ⟨Nat.le_of_ble_eq_true rfl, Nat.le_of_ble_eq_true rfl⟩) rfl hl.1 rfl (Nat.le_of_ble_eq_true rfl) dX0_store_1 ⟨Nat.le_of_ble_eq_true rfl, Nat.le_of_ble_eq_true rfl⟩ ?_
  refine lv_if_eq (tgt := 14) hx hb dX0_store_4 (by decide) (fun c_ => ?_) (fun c_ => ?_)
  · have hw := hw.1 c_
    refine lv_iconst (v := -1) hx hb dX0_store_14 (by decide) ?_
    exact b_iret hx hb hr hlocks hI hw dX0_store_15
  have hw := hw.2 c_
  refine lv_iload_n hx hb dX0_store_7 rfl (lv_at hl 3 rfl) ?_
  refine s_call ⟨hx, hb, hml, hown, hts⟩ (met_bIsRegister l x3) (va_cwS 1 hts (lw_S q64 q65 q14 q66) rfl rfl rfl (by decide +kernel) ⟨Nat.le_of_ble_eq_true rfl, Nat.le_of_ble_eq_true rfl⟩) rfl hl.1 rfl (Nat.le_of_ble_eq_true rfl) dX0_store_8 ⟨Nat.le_of_ble_eq_true rfl, Nat.le_of_ble_eq_true rfl⟩ ?_
  refine lv_if_ne (tgt := 16) hx hb dX0_store_11 (by decide) (fun c_ => ?_) (fun c_ => ?_)
  · have hw := hw.2 c_
    refine lv_aload_n hx hb dX0_store_16 rfl (lv_at hl 0 rfl) ?_
    refine lv_iload_n hx hb dX0_store_17 rfl (lv_at hl 1 rfl) ?_
    refine lv_iload_n hx hb dX0_store_18 rfl (lv_at hl 2 rfl) ?_
    refine b_calli (As := [.int x1, .int x2]) ⟨hx, hb, hml, hown, hts⟩ (met_bHasField l D a k σ x1 x2 hw) (cwV 2 hts (lw_V q107 q109 qs7 q14 q110) rfl rfl rfl (by decide +kernel) ⟨Nat.le_of_ble_eq_true rfl, Nat.le_of_ble_eq_true rfl⟩) hI hA rfl hl.1 rfl (Nat.le_of_ble_eq_true rfl) dX0_store_19 ⟨Nat.le_of_ble_eq_true rfl, Nat.le_of_ble_eq_true rfl⟩ (fun r2 σ1 H locs hw hI => ?_)
    refine lv_if_ne (tgt := 28) hx hb dX0_store_22 (by decide) (fun c_ => ?_) (fun c_ => ?_)
    · have hw := hw.2 c_
      refine lv_aload_n hx hb dX0_store_28 rfl (lv_at hl 0 rfl) ?_
      refine b_get hx hb hts hown hI 3 (by decide) rfl q27 (v := .ref (a 3)) rfl dX0_store_29 ?_
      refine lv_iload_n hx hb dX0_store_32 rfl (lv_at hl 1 rfl) ?_
      obtain ⟨g10, hw⟩ := hw
      refine va_iald hx hb hI.1 hI.2.1 3 2 rfl rfl g10 dX0_store_33 ?_
      refine lv_iconst (v := 1) hx hb dX0_store_34 (by decide) ?_
      refine lv_iadd hx hb dX0_store_35 ?_
      refine lv_iload_n hx hb dX0_store_36 rfl (lv_at hl 2 rfl) ?_
      refine lv_iadd hx hb dX0_store_37 ?_
      refine lv_topi (fun v3 e_v3 => ?_)
      have hw := hw v3 e_v3
      refine lv_istore (lv' := [(4, .int v3), (0, .ref (a 0)), (1, .int x1), (2, .int x2), (3, .int x3)]) hx hb dX0_store_38 hl (by decide) rfl (fun ls hl => ?_)
      refine lv_aload_n hx hb dX0_store_40 rfl (lv_at hl 1 rfl) ?_
      refine b_get hx hb hts hown hI 1 (by decide) rfl q25 (v := .ref (a 1)) rfl dX0_store_41 ?_
      refine lv_iload hx hb dX0_store_44 (lv_at hl 0 rfl) ?_
      refine lv_aload_n hx hb dX0_store_46 rfl (lv_at hl 1 rfl) ?_
      refine b_get hx hb hts hown hI 3 (by decide) rfl q27 (v := .ref (a 3)) rfl dX0_store_47 ?_
      refine lv_iload_n hx hb dX0_store_50 rfl (lv_at hl 4 rfl) ?_
      obtain ⟨g9, hw⟩ := hw
      refine va_iald hx hb hI.1 hI.2.1 3 2 rfl rfl g9 dX0_store_51 ?_
      obtain ⟨g5, hw⟩ := hw
      refine b_iast hx hb hI 1 0 rfl rfl (b_s1 _ _ _ _ _) g5 dX0_store_52 (fun σ4 H locs e_σ4 hI => ?_)
      have hw := hw σ4 e_σ4
      refine lv_aload_n hx hb dX0_store_53 rfl (lv_at hl 1 rfl) ?_
      refine b_get hx hb hts hown hI 2 (by decide) rfl q26 (v := .ref (a 2)) rfl dX0_store_54 ?_
      refine lv_iload hx hb dX0_store_57 (lv_at hl 0 rfl) ?_
      refine lv_aload_n hx hb dX0_store_59 rfl (lv_at hl 1 rfl) ?_
      refine b_get hx hb hts hown hI 4 (by decide) rfl q28 (v := .ref (a 4)) rfl dX0_store_60 ?_
      refine lv_iload_n hx hb dX0_store_63 rfl (lv_at hl 4 rfl) ?_
      obtain ⟨g8, hw⟩ := hw
      refine va_zald hx hb hI.1 hI.2.1 4 3 rfl rfl g8 dX0_store_64 ?_
      obtain ⟨g7, hw⟩ := hw
      refine b_zast hx hb hI 2 1 rfl rfl (b_s2 _ _ _ _ _) g7 dX0_store_65 (fun σ6 H locs e_σ6 hI => ?_)
      have hw := hw σ6 e_σ6
      refine lv_iconst (v := 0) hx hb dX0_store_66 (by decide) ?_
      exact b_iret hx hb hr hlocks hI hw dX0_store_67
    have hw := hw.1 c_
    refine lv_bipush (v := -3) hx hb dX0_store_25 (by decide) ?_
    exact b_iret hx hb hr hlocks hI hw dX0_store_27
  have hw := hw.1 c_
  refine lv_iconst (v := -1) hx hb dX0_store_14 (by decide) ?_
  exact b_iret hx hb hr hlocks hI hw dX0_store_15
abbrev rm_bLoad : Room := { frames := 1, cells := 0, slots := 0, locals := 22 }
set_option maxHeartbeats 4000000 in
set_option maxRecDepth 100000 in
theorem met_bLoad (l : Launch) (D : va_G) (a : Nat → Nat) (k : Nat → ClassId) (σ : St) (x1 x2 x3 : Int32) {P : Int32 → St → Prop} (hw : w_bLoad P σ x1 x2 x3) (sz : Nat) : Met l yX0_load (ws_ yX0_load cX0_load 5 (some .int)) rm_bLoad (bPc D a k σ sz [.int x1, .int x2, .int x3]) (va_Qi P (bB D a k (va_A (bW a k σ) sz)) (va_A (bW a k σ) sz)) 0 0 (va_A (bW a k σ) sz) := by
  refine Met.ofW (cc := cX0_load) (maxL := 5) (ret := (some .int)) (by decide) rfl ?_
  intro p e s m args below meth c s₁ B hml hv
  obtain ⟨rfl, hI, hA⟩ := b_start hv
  have hx := B.exec
  have hb := B.bytes
  have hr := B.returns
  have hlocks := B.notSynchronized
  have hts := atoms_spec (ws := (ws_ yX0_load cX0_load 5 (some .int))) B.pre
  have hts : ∀ w ∈ lw_all, w.before _ s = true := fun w h => hts w (List.mem_cons_of_mem _ h)
  have hown : s.vm.findClass RX0 = some m.cls := findClass_of_methodNamed B.named
  generalize va_A (bW a k σ) sz = A at hI hA ⊢
  have hl := lv_entry ([.ref (a 0), .int x1, .int x2, .int x3]) (n := 5) (Nat.le_of_ble_eq_true rfl)
  rw [lg_entry_eq]
  generalize (lg_sl ([.ref (a 0), .int x1, .int x2, .int x3]) ++ List.replicate (5 - (lg_sl ([.ref (a 0), .int x1, .int x2, .int x3])).length) Slot.unset).toArray = ls at hl ⊢
  have hl : lv_has ls 5 [(0, .ref (a 0)), (1, .int x1), (2, .int x2), (3, .int x3)] := hl
  change W p l e rm_bLoad s m _ below meth c s.heap [] 0 0 _ (F0 m 0 ls [])
  unfold w_bLoad at hw
  refine lv_iload_n hx hb dX0_load_0 rfl (lv_at hl 1 rfl) ?_
  refine s_call ⟨hx, hb, hml, hown, hts⟩ (met_bIsRegister l x1) (va_cwS 1 hts (lw_S q64 q65 q14 q66) rfl rfl rfl (by decide +kernel) ⟨Nat.le_of_ble_eq_true rfl, Nat.le_of_ble_eq_true rfl⟩) rfl hl.1 rfl (Nat.le_of_ble_eq_true rfl) dX0_load_1 ⟨Nat.le_of_ble_eq_true rfl, Nat.le_of_ble_eq_true rfl⟩ ?_
  refine lv_if_eq (tgt := 14) hx hb dX0_load_4 (by decide) (fun c_ => ?_) (fun c_ => ?_)
  · have hw := hw.1 c_
    refine lv_iconst (v := -1) hx hb dX0_load_14 (by decide) ?_
    exact b_iret hx hb hr hlocks hI hw dX0_load_15
  have hw := hw.2 c_
  refine lv_iload_n hx hb dX0_load_7 rfl (lv_at hl 2 rfl) ?_
  refine s_call ⟨hx, hb, hml, hown, hts⟩ (met_bIsRegister l x2) (va_cwS 1 hts (lw_S q64 q65 q14 q66) rfl rfl rfl (by decide +kernel) ⟨Nat.le_of_ble_eq_true rfl, Nat.le_of_ble_eq_true rfl⟩) rfl hl.1 rfl (Nat.le_of_ble_eq_true rfl) dX0_load_8 ⟨Nat.le_of_ble_eq_true rfl, Nat.le_of_ble_eq_true rfl⟩ ?_
  refine lv_if_ne (tgt := 16) hx hb dX0_load_11 (by decide) (fun c_ => ?_) (fun c_ => ?_)
  · have hw := hw.2 c_
    refine lv_aload_n hx hb dX0_load_16 rfl (lv_at hl 0 rfl) ?_
    refine lv_iload_n hx hb dX0_load_17 rfl (lv_at hl 2 rfl) ?_
    refine lv_iload_n hx hb dX0_load_18 rfl (lv_at hl 3 rfl) ?_
    refine b_calli (As := [.int x2, .int x3]) ⟨hx, hb, hml, hown, hts⟩ (met_bHasField l D a k σ x2 x3 hw) (cwV 2 hts (lw_V q107 q109 qs7 q14 q110) rfl rfl rfl (by decide +kernel) ⟨Nat.le_of_ble_eq_true rfl, Nat.le_of_ble_eq_true rfl⟩) hI hA rfl hl.1 rfl (Nat.le_of_ble_eq_true rfl) dX0_load_19 ⟨Nat.le_of_ble_eq_true rfl, Nat.le_of_ble_eq_true rfl⟩ (fun r2 σ1 H locs hw hI => ?_)
    refine lv_if_ne (tgt := 28) hx hb dX0_load_22 (by decide) (fun c_ => ?_) (fun c_ => ?_)
    · have hw := hw.2 c_
      refine lv_aload_n hx hb dX0_load_28 rfl (lv_at hl 0 rfl) ?_
      refine b_get hx hb hts hown hI 3 (by decide) rfl q27 (v := .ref (a 3)) rfl dX0_load_29 ?_
      refine lv_iload_n hx hb dX0_load_32 rfl (lv_at hl 2 rfl) ?_
      obtain ⟨g10, hw⟩ := hw
      refine va_iald hx hb hI.1 hI.2.1 3 2 rfl rfl g10 dX0_load_33 ?_
      refine lv_iconst (v := 1) hx hb dX0_load_34 (by decide) ?_
      refine lv_iadd hx hb dX0_load_35 ?_
      refine lv_iload_n hx hb dX0_load_36 rfl (lv_at hl 3 rfl) ?_
      refine lv_iadd hx hb dX0_load_37 ?_
      refine lv_topi (fun v3 e_v3 => ?_)
      have hw := hw v3 e_v3
      refine lv_istore (lv' := [(4, .int v3), (0, .ref (a 0)), (1, .int x1), (2, .int x2), (3, .int x3)]) hx hb dX0_load_38 hl (by decide) rfl (fun ls hl => ?_)
      refine lv_aload_n hx hb dX0_load_40 rfl (lv_at hl 1 rfl) ?_
      refine b_get hx hb hts hown hI 3 (by decide) rfl q27 (v := .ref (a 3)) rfl dX0_load_41 ?_
      refine lv_iload_n hx hb dX0_load_44 rfl (lv_at hl 2 rfl) ?_
      refine lv_aload_n hx hb dX0_load_45 rfl (lv_at hl 1 rfl) ?_
      refine b_get hx hb hts hown hI 1 (by decide) rfl q25 (v := .ref (a 1)) rfl dX0_load_46 ?_
      refine lv_iload hx hb dX0_load_49 (lv_at hl 0 rfl) ?_
      obtain ⟨g9, hw⟩ := hw
      refine va_iald hx hb hI.1 hI.2.1 1 0 rfl rfl g9 dX0_load_51 ?_
      obtain ⟨g5, hw⟩ := hw
      refine b_iast hx hb hI 3 2 rfl rfl (b_s3 _ _ _ _ _) g5 dX0_load_52 (fun σ4 H locs e_σ4 hI => ?_)
      have hw := hw σ4 e_σ4
      refine lv_aload_n hx hb dX0_load_53 rfl (lv_at hl 1 rfl) ?_
      refine b_get hx hb hts hown hI 4 (by decide) rfl q28 (v := .ref (a 4)) rfl dX0_load_54 ?_
      refine lv_iload_n hx hb dX0_load_57 rfl (lv_at hl 2 rfl) ?_
      refine lv_aload_n hx hb dX0_load_58 rfl (lv_at hl 1 rfl) ?_
      refine b_get hx hb hts hown hI 2 (by decide) rfl q26 (v := .ref (a 2)) rfl dX0_load_59 ?_
      refine lv_iload hx hb dX0_load_62 (lv_at hl 0 rfl) ?_
      obtain ⟨g8, hw⟩ := hw
      refine va_zald hx hb hI.1 hI.2.1 2 1 rfl rfl g8 dX0_load_64 ?_
      obtain ⟨g7, hw⟩ := hw
      refine b_zast hx hb hI 4 3 rfl rfl (b_s4 _ _ _ _ _) g7 dX0_load_65 (fun σ6 H locs e_σ6 hI => ?_)
      have hw := hw σ6 e_σ6
      refine lv_iconst (v := 0) hx hb dX0_load_66 (by decide) ?_
      exact b_iret hx hb hr hlocks hI hw dX0_load_67
    have hw := hw.1 c_
    refine lv_bipush (v := -3) hx hb dX0_load_25 (by decide) ?_
    exact b_iret hx hb hr hlocks hI hw dX0_load_27
  have hw := hw.1 c_
  refine lv_iconst (v := -1) hx hb dX0_load_14 (by decide) ?_
  exact b_iret hx hb hr hlocks hI hw dX0_load_15
abbrev rm_bCollect : Room := { frames := 3, cells := 0, slots := 0, locals := 70 }
set_option maxHeartbeats 4000000 in
set_option maxRecDepth 100000 in
theorem met_bCollect (l : Launch) (D : va_G) (a : Nat → Nat) (k : Nat → ClassId) (σ : St) {P : Int32 → St → Prop} (hw : w_bCollect P σ ) (sz : Nat) : Met l yX0_collect (ws_ yX0_collect cX0_collect 1 (some .int)) rm_bCollect (bPc D a k σ sz []) (va_Qi P (bB D a k (va_A (bW a k σ) sz)) (va_A (bW a k σ) sz)) 0 0 (va_A (bW a k σ) sz) := by
  refine Met.ofW (cc := cX0_collect) (maxL := 1) (ret := (some .int)) (by decide) rfl ?_
  intro p e s m args below meth c s₁ B hml hv
  obtain ⟨rfl, hI, hA⟩ := b_start hv
  have hx := B.exec
  have hb := B.bytes
  have hr := B.returns
  have hlocks := B.notSynchronized
  have hts := atoms_spec (ws := (ws_ yX0_collect cX0_collect 1 (some .int))) B.pre
  have hts : ∀ w ∈ lw_all, w.before _ s = true := fun w h => hts w (List.mem_cons_of_mem _ h)
  have hown : s.vm.findClass RX0 = some m.cls := findClass_of_methodNamed B.named
  generalize va_A (bW a k σ) sz = A at hI hA ⊢
  have hl := lv_entry ([.ref (a 0)]) (n := 1) (Nat.le_of_ble_eq_true rfl)
  rw [lg_entry_eq]
  generalize (lg_sl ([.ref (a 0)]) ++ List.replicate (1 - (lg_sl ([.ref (a 0)])).length) Slot.unset).toArray = ls at hl ⊢
  have hl : lv_has ls 1 [(0, .ref (a 0))] := hl
  change W p l e rm_bCollect s m _ below meth c s.heap [] 0 0 _ (F0 m 0 ls [])
  unfold w_bCollect at hw
  refine lv_aload_n hx hb dX0_collect_0 rfl (lv_at hl 0 rfl) ?_
  refine b_callv (As := []) ⟨hx, hb, hml, hown, hts⟩ (met_bSqueeze l D a k σ hw) (cwV 0 hts (lw_V q67 q69 qs0 q14 q70) rfl rfl rfl (by decide +kernel) ⟨Nat.le_of_ble_eq_true rfl, Nat.le_of_ble_eq_true rfl⟩) hI hA rfl hl.1 rfl (Nat.le_of_ble_eq_true rfl) dX0_collect_1 ⟨Nat.le_of_ble_eq_true rfl, Nat.le_of_ble_eq_true rfl⟩ (fun σ1 H locs hw hI => ?_)
  refine lv_aload_n hx hb dX0_collect_4 rfl (lv_at hl 0 rfl) ?_
  refine b_get hx hb hts hown hI 0 (by decide) rfl q24 (v := .int (σ1 0 0)) rfl dX0_collect_5 ?_
  exact b_iret hx hb hr hlocks hI hw dX0_collect_8
abbrev rm_bFields : Room := { frames := 1, cells := 0, slots := 0, locals := 20 }
set_option maxHeartbeats 4000000 in
set_option maxRecDepth 100000 in
theorem met_bFields (l : Launch) (D : va_G) (a : Nat → Nat) (k : Nat → ClassId) (σ : St) (x1 : Int32) {P : Int32 → St → Prop} (hw : w_bFields P σ x1) (sz : Nat) : Met l yX0_fields (ws_ yX0_fields cX0_fields 2 (some .int)) rm_bFields (bPc D a k σ sz [.int x1]) (va_Qi P (bB D a k (va_A (bW a k σ) sz)) (va_A (bW a k σ) sz)) 0 0 (va_A (bW a k σ) sz) := by
  refine Met.ofW (cc := cX0_fields) (maxL := 2) (ret := (some .int)) (by decide) rfl ?_
  intro p e s m args below meth c s₁ B hml hv
  obtain ⟨rfl, hI, hA⟩ := b_start hv
  have hx := B.exec
  have hb := B.bytes
  have hr := B.returns
  have hlocks := B.notSynchronized
  have hts := atoms_spec (ws := (ws_ yX0_fields cX0_fields 2 (some .int))) B.pre
  have hts : ∀ w ∈ lw_all, w.before _ s = true := fun w h => hts w (List.mem_cons_of_mem _ h)
  have hown : s.vm.findClass RX0 = some m.cls := findClass_of_methodNamed B.named
  generalize va_A (bW a k σ) sz = A at hI hA ⊢
  have hl := lv_entry ([.ref (a 0), .int x1]) (n := 2) (Nat.le_of_ble_eq_true rfl)
  rw [lg_entry_eq]
  generalize (lg_sl ([.ref (a 0), .int x1]) ++ List.replicate (2 - (lg_sl ([.ref (a 0), .int x1])).length) Slot.unset).toArray = ls at hl ⊢
  have hl : lv_has ls 2 [(0, .ref (a 0)), (1, .int x1)] := hl
  change W p l e rm_bFields s m _ below meth c s.heap [] 0 0 _ (F0 m 0 ls [])
  unfold w_bFields at hw
  refine lv_iload_n hx hb dX0_fields_0 rfl (lv_at hl 1 rfl) ?_
  refine s_call ⟨hx, hb, hml, hown, hts⟩ (met_bIsRegister l x1) (va_cwS 1 hts (lw_S q64 q65 q14 q66) rfl rfl rfl (by decide +kernel) ⟨Nat.le_of_ble_eq_true rfl, Nat.le_of_ble_eq_true rfl⟩) rfl hl.1 rfl (Nat.le_of_ble_eq_true rfl) dX0_fields_1 ⟨Nat.le_of_ble_eq_true rfl, Nat.le_of_ble_eq_true rfl⟩ ?_
  refine lv_if_ne (tgt := 9) hx hb dX0_fields_4 (by decide) (fun c_ => ?_) (fun c_ => ?_)
  · have hw := hw.2 c_
    refine lv_aload_n hx hb dX0_fields_9 rfl (lv_at hl 0 rfl) ?_
    refine b_get hx hb hts hown hI 4 (by decide) rfl q28 (v := .ref (a 4)) rfl dX0_fields_10 ?_
    refine lv_iload_n hx hb dX0_fields_13 rfl (lv_at hl 1 rfl) ?_
    obtain ⟨g3, hw⟩ := hw
    refine va_zald hx hb hI.1 hI.2.1 4 3 rfl rfl g3 dX0_fields_14 ?_
    refine lv_if_eq (tgt := 32) hx hb dX0_fields_15 (by decide) (fun c_ => ?_) (fun c_ => ?_)
    · have hw := hw.1 c_
      refine lv_iconst (v := 0) hx hb dX0_fields_32 (by decide) ?_
      exact b_iret hx hb hr hlocks hI hw dX0_fields_33
    have hw := hw.2 c_
    refine lv_aload_n hx hb dX0_fields_18 rfl (lv_at hl 0 rfl) ?_
    refine b_get hx hb hts hown hI 1 (by decide) rfl q25 (v := .ref (a 1)) rfl dX0_fields_19 ?_
    refine lv_aload_n hx hb dX0_fields_22 rfl (lv_at hl 0 rfl) ?_
    refine b_get hx hb hts hown hI 3 (by decide) rfl q27 (v := .ref (a 3)) rfl dX0_fields_23 ?_
    refine lv_iload_n hx hb dX0_fields_26 rfl (lv_at hl 1 rfl) ?_
    obtain ⟨g2, hw⟩ := hw
    refine va_iald hx hb hI.1 hI.2.1 3 2 rfl rfl g2 dX0_fields_27 ?_
    obtain ⟨g1, hw⟩ := hw
    refine va_iald hx hb hI.1 hI.2.1 1 0 rfl rfl g1 dX0_fields_28 ?_
    refine lv_goto (tgt := 33) hx hb dX0_fields_29 (by decide) ?_
    exact b_iret hx hb hr hlocks hI hw dX0_fields_33
  have hw := hw.1 c_
  refine lv_iconst (v := -1) hx hb dX0_fields_7 (by decide) ?_
  exact b_iret hx hb hr hlocks hI hw dX0_fields_8
abbrev rm_bValue : Room := { frames := 1, cells := 0, slots := 0, locals := 20 }
set_option maxHeartbeats 4000000 in
set_option maxRecDepth 100000 in
theorem met_bValue (l : Launch) (D : va_G) (a : Nat → Nat) (k : Nat → ClassId) (σ : St) (x1 : Int32) {P : Int32 → St → Prop} (hw : w_bValue P σ x1) (sz : Nat) : Met l yX0_value (ws_ yX0_value cX0_value 2 (some .int)) rm_bValue (bPc D a k σ sz [.int x1]) (va_Qi P (bB D a k (va_A (bW a k σ) sz)) (va_A (bW a k σ) sz)) 0 0 (va_A (bW a k σ) sz) := by
  refine Met.ofW (cc := cX0_value) (maxL := 2) (ret := (some .int)) (by decide) rfl ?_
  intro p e s m args below meth c s₁ B hml hv
  obtain ⟨rfl, hI, hA⟩ := b_start hv
  have hx := B.exec
  have hb := B.bytes
  have hr := B.returns
  have hlocks := B.notSynchronized
  have hts := atoms_spec (ws := (ws_ yX0_value cX0_value 2 (some .int))) B.pre
  have hts : ∀ w ∈ lw_all, w.before _ s = true := fun w h => hts w (List.mem_cons_of_mem _ h)
  have hown : s.vm.findClass RX0 = some m.cls := findClass_of_methodNamed B.named
  generalize va_A (bW a k σ) sz = A at hI hA ⊢
  have hl := lv_entry ([.ref (a 0), .int x1]) (n := 2) (Nat.le_of_ble_eq_true rfl)
  rw [lg_entry_eq]
  generalize (lg_sl ([.ref (a 0), .int x1]) ++ List.replicate (2 - (lg_sl ([.ref (a 0), .int x1])).length) Slot.unset).toArray = ls at hl ⊢
  have hl : lv_has ls 2 [(0, .ref (a 0)), (1, .int x1)] := hl
  change W p l e rm_bValue s m _ below meth c s.heap [] 0 0 _ (F0 m 0 ls [])
  unfold w_bValue at hw
  refine lv_iload_n hx hb dX0_value_0 rfl (lv_at hl 1 rfl) ?_
  refine s_call ⟨hx, hb, hml, hown, hts⟩ (met_bIsRegister l x1) (va_cwS 1 hts (lw_S q64 q65 q14 q66) rfl rfl rfl (by decide +kernel) ⟨Nat.le_of_ble_eq_true rfl, Nat.le_of_ble_eq_true rfl⟩) rfl hl.1 rfl (Nat.le_of_ble_eq_true rfl) dX0_value_1 ⟨Nat.le_of_ble_eq_true rfl, Nat.le_of_ble_eq_true rfl⟩ ?_
  refine lv_if_eq (tgt := 25) hx hb dX0_value_4 (by decide) (fun c_ => ?_) (fun c_ => ?_)
  · have hw := hw.1 c_
    refine lv_iconst (v := 0) hx hb dX0_value_25 (by decide) ?_
    exact b_iret hx hb hr hlocks hI hw dX0_value_26
  have hw := hw.2 c_
  refine lv_aload_n hx hb dX0_value_7 rfl (lv_at hl 0 rfl) ?_
  refine b_get hx hb hts hown hI 4 (by decide) rfl q28 (v := .ref (a 4)) rfl dX0_value_8 ?_
  refine lv_iload_n hx hb dX0_value_11 rfl (lv_at hl 1 rfl) ?_
  obtain ⟨g2, hw⟩ := hw
  refine va_zald hx hb hI.1 hI.2.1 4 3 rfl rfl g2 dX0_value_12 ?_
  refine lv_if_ne (tgt := 25) hx hb dX0_value_13 (by decide) (fun c_ => ?_) (fun c_ => ?_)
  · have hw := hw.2 c_
    refine lv_iconst (v := 0) hx hb dX0_value_25 (by decide) ?_
    exact b_iret hx hb hr hlocks hI hw dX0_value_26
  have hw := hw.1 c_
  refine lv_aload_n hx hb dX0_value_16 rfl (lv_at hl 0 rfl) ?_
  refine b_get hx hb hts hown hI 3 (by decide) rfl q27 (v := .ref (a 3)) rfl dX0_value_17 ?_
  refine lv_iload_n hx hb dX0_value_20 rfl (lv_at hl 1 rfl) ?_
  obtain ⟨g1, hw⟩ := hw
  refine va_iald hx hb hI.1 hI.2.1 3 2 rfl rfl g1 dX0_value_21 ?_
  refine lv_goto (tgt := 26) hx hb dX0_value_22 (by decide) ?_
  exact b_iret hx hb hr hlocks hI hw dX0_value_26
abbrev rm_bSame : Room := { frames := 1, cells := 0, slots := 0, locals := 20 }
set_option maxHeartbeats 4000000 in
set_option maxRecDepth 100000 in
theorem met_bSame (l : Launch) (D : va_G) (a : Nat → Nat) (k : Nat → ClassId) (σ : St) (x1 x2 : Int32) {P : Int32 → St → Prop} (hw : w_bSame P σ x1 x2) (sz : Nat) : Met l yX0_same (ws_ yX0_same cX0_same 3 (some .int)) rm_bSame (bPc D a k σ sz [.int x1, .int x2]) (va_Qi P (bB D a k (va_A (bW a k σ) sz)) (va_A (bW a k σ) sz)) 0 0 (va_A (bW a k σ) sz) := by
  refine Met.ofW (cc := cX0_same) (maxL := 3) (ret := (some .int)) (by decide) rfl ?_
  intro p e s m args below meth c s₁ B hml hv
  obtain ⟨rfl, hI, hA⟩ := b_start hv
  have hx := B.exec
  have hb := B.bytes
  have hr := B.returns
  have hlocks := B.notSynchronized
  have hts := atoms_spec (ws := (ws_ yX0_same cX0_same 3 (some .int))) B.pre
  have hts : ∀ w ∈ lw_all, w.before _ s = true := fun w h => hts w (List.mem_cons_of_mem _ h)
  have hown : s.vm.findClass RX0 = some m.cls := findClass_of_methodNamed B.named
  generalize va_A (bW a k σ) sz = A at hI hA ⊢
  have hl := lv_entry ([.ref (a 0), .int x1, .int x2]) (n := 3) (Nat.le_of_ble_eq_true rfl)
  rw [lg_entry_eq]
  generalize (lg_sl ([.ref (a 0), .int x1, .int x2]) ++ List.replicate (3 - (lg_sl ([.ref (a 0), .int x1, .int x2])).length) Slot.unset).toArray = ls at hl ⊢
  have hl : lv_has ls 3 [(0, .ref (a 0)), (1, .int x1), (2, .int x2)] := hl
  change W p l e rm_bSame s m _ below meth c s.heap [] 0 0 _ (F0 m 0 ls [])
  unfold w_bSame at hw
  refine lv_iload_n hx hb dX0_same_0 rfl (lv_at hl 1 rfl) ?_
  refine s_call ⟨hx, hb, hml, hown, hts⟩ (met_bIsRegister l x1) (va_cwS 1 hts (lw_S q64 q65 q14 q66) rfl rfl rfl (by decide +kernel) ⟨Nat.le_of_ble_eq_true rfl, Nat.le_of_ble_eq_true rfl⟩) rfl hl.1 rfl (Nat.le_of_ble_eq_true rfl) dX0_same_1 ⟨Nat.le_of_ble_eq_true rfl, Nat.le_of_ble_eq_true rfl⟩ ?_
  refine lv_if_eq (tgt := 14) hx hb dX0_same_4 (by decide) (fun c_ => ?_) (fun c_ => ?_)
  · have hw := hw.1 c_
    refine lv_iconst (v := -1) hx hb dX0_same_14 (by decide) ?_
    exact b_iret hx hb hr hlocks hI hw dX0_same_15
  have hw := hw.2 c_
  refine lv_iload_n hx hb dX0_same_7 rfl (lv_at hl 2 rfl) ?_
  refine s_call ⟨hx, hb, hml, hown, hts⟩ (met_bIsRegister l x2) (va_cwS 1 hts (lw_S q64 q65 q14 q66) rfl rfl rfl (by decide +kernel) ⟨Nat.le_of_ble_eq_true rfl, Nat.le_of_ble_eq_true rfl⟩) rfl hl.1 rfl (Nat.le_of_ble_eq_true rfl) dX0_same_8 ⟨Nat.le_of_ble_eq_true rfl, Nat.le_of_ble_eq_true rfl⟩ ?_
  refine lv_if_ne (tgt := 16) hx hb dX0_same_11 (by decide) (fun c_ => ?_) (fun c_ => ?_)
  · have hw := hw.2 c_
    refine lv_aload_n hx hb dX0_same_16 rfl (lv_at hl 0 rfl) ?_
    refine b_get hx hb hts hown hI 4 (by decide) rfl q28 (v := .ref (a 4)) rfl dX0_same_17 ?_
    refine lv_iload_n hx hb dX0_same_20 rfl (lv_at hl 1 rfl) ?_
    obtain ⟨g4, hw⟩ := hw
    refine va_zald hx hb hI.1 hI.2.1 4 3 rfl rfl g4 dX0_same_21 ?_
    refine lv_aload_n hx hb dX0_same_22 rfl (lv_at hl 0 rfl) ?_
    refine b_get hx hb hts hown hI 4 (by decide) rfl q28 (v := .ref (a 4)) rfl dX0_same_23 ?_
    refine lv_iload_n hx hb dX0_same_26 rfl (lv_at hl 2 rfl) ?_
    obtain ⟨g3, hw⟩ := hw
    refine va_zald hx hb hI.1 hI.2.1 4 3 rfl rfl g3 dX0_same_27 ?_
    refine lv_icmp_ne (tgt := 50) hx hb dX0_same_28 (by decide) (fun c_ => ?_) (fun c_ => ?_)
    · have hw := hw.2 c_
      refine lv_iconst (v := 0) hx hb dX0_same_50 (by decide) ?_
      exact b_iret hx hb hr hlocks hI hw dX0_same_51
    have hw := hw.1 c_
    refine lv_aload_n hx hb dX0_same_31 rfl (lv_at hl 0 rfl) ?_
    refine b_get hx hb hts hown hI 3 (by decide) rfl q27 (v := .ref (a 3)) rfl dX0_same_32 ?_
    refine lv_iload_n hx hb dX0_same_35 rfl (lv_at hl 1 rfl) ?_
    obtain ⟨g2, hw⟩ := hw
    refine va_iald hx hb hI.1 hI.2.1 3 2 rfl rfl g2 dX0_same_36 ?_
    refine lv_aload_n hx hb dX0_same_37 rfl (lv_at hl 0 rfl) ?_
    refine b_get hx hb hts hown hI 3 (by decide) rfl q27 (v := .ref (a 3)) rfl dX0_same_38 ?_
    refine lv_iload_n hx hb dX0_same_41 rfl (lv_at hl 2 rfl) ?_
    obtain ⟨g1, hw⟩ := hw
    refine va_iald hx hb hI.1 hI.2.1 3 2 rfl rfl g1 dX0_same_42 ?_
    refine lv_icmp_ne (tgt := 50) hx hb dX0_same_43 (by decide) (fun c_ => ?_) (fun c_ => ?_)
    · have hw := hw.2 c_
      refine lv_iconst (v := 0) hx hb dX0_same_50 (by decide) ?_
      exact b_iret hx hb hr hlocks hI hw dX0_same_51
    have hw := hw.1 c_
    refine lv_iconst (v := 1) hx hb dX0_same_46 (by decide) ?_
    refine lv_goto (tgt := 51) hx hb dX0_same_47 (by decide) ?_
    exact b_iret hx hb hr hlocks hI hw dX0_same_51
  have hw := hw.1 c_
  refine lv_iconst (v := -1) hx hb dX0_same_14 (by decide) ?_
  exact b_iret hx hb hr hlocks hI hw dX0_same_15
abbrev rm_bUsed : Room := { frames := 0, cells := 0, slots := 0, locals := 0 }
set_option maxHeartbeats 4000000 in
set_option maxRecDepth 100000 in
theorem met_bUsed (l : Launch) (D : va_G) (a : Nat → Nat) (k : Nat → ClassId) (σ : St) {P : Int32 → St → Prop} (hw : w_bUsed P σ ) (sz : Nat) : Met l yX0_used (ws_ yX0_used cX0_used 1 (some .int)) rm_bUsed (bPc D a k σ sz []) (va_Qi P (bB D a k (va_A (bW a k σ) sz)) (va_A (bW a k σ) sz)) 0 0 (va_A (bW a k σ) sz) := by
  refine Met.ofW (cc := cX0_used) (maxL := 1) (ret := (some .int)) (by decide) rfl ?_
  intro p e s m args below meth c s₁ B hml hv
  obtain ⟨rfl, hI, hA⟩ := b_start hv
  have hx := B.exec
  have hb := B.bytes
  have hr := B.returns
  have hlocks := B.notSynchronized
  have hts := atoms_spec (ws := (ws_ yX0_used cX0_used 1 (some .int))) B.pre
  have hts : ∀ w ∈ lw_all, w.before _ s = true := fun w h => hts w (List.mem_cons_of_mem _ h)
  have hown : s.vm.findClass RX0 = some m.cls := findClass_of_methodNamed B.named
  generalize va_A (bW a k σ) sz = A at hI hA ⊢
  have hl := lv_entry ([.ref (a 0)]) (n := 1) (Nat.le_of_ble_eq_true rfl)
  rw [lg_entry_eq]
  generalize (lg_sl ([.ref (a 0)]) ++ List.replicate (1 - (lg_sl ([.ref (a 0)])).length) Slot.unset).toArray = ls at hl ⊢
  have hl : lv_has ls 1 [(0, .ref (a 0))] := hl
  change W p l e rm_bUsed s m _ below meth c s.heap [] 0 0 _ (F0 m 0 ls [])
  unfold w_bUsed at hw
  refine lv_aload_n hx hb dX0_used_0 rfl (lv_at hl 0 rfl) ?_
  refine b_get hx hb hts hown hI 0 (by decide) rfl q24 (v := .int (σ 0 0)) rfl dX0_used_1 ?_
  exact b_iret hx hb hr hlocks hI hw dX0_used_4
end
section
/-! printed by gen.py: walks of BreakHeapModel -/
abbrev rm_mSet : Room := { frames := 0, cells := 0, slots := 0, locals := 0 }
set_option maxHeartbeats 4000000 in
set_option maxRecDepth 100000 in
theorem met_mSet (l : Launch) (D : va_G) (a : Nat → Nat) (k : Nat → ClassId) (σ : St) (x1 x2 x3 : Int32) {P : St → Prop} (hw : w_mSet P σ x1 x2 x3) (sz : Nat) : Met l yX1_set (ws_ yX1_set cX1_set 4 none) rm_mSet (mPc D a k σ sz [.int x1, .int x2, .int x3]) (va_Qv P (mB D a k (va_A (mW a k σ) sz)) (va_A (mW a k σ) sz)) 0 0 (va_A (mW a k σ) sz) := by
  refine Met.ofW (cc := cX1_set) (maxL := 4) (ret := none) (by decide) rfl ?_
  intro p e s m args below meth c s₁ B hml hv
  obtain ⟨rfl, hI, hA⟩ := m_start hv
  have hx := B.exec
  have hb := B.bytes
  have hr := B.returns
  have hlocks := B.notSynchronized
  have hts := atoms_spec (ws := (ws_ yX1_set cX1_set 4 none)) B.pre
  have hts : ∀ w ∈ lw_all, w.before _ s = true := fun w h => hts w (List.mem_cons_of_mem _ h)
  have hown : s.vm.findClass RX1 = some m.cls := findClass_of_methodNamed B.named
  generalize va_A (mW a k σ) sz = A at hI hA ⊢
  have hl := lv_entry ([.ref (a 0), .int x1, .int x2, .int x3]) (n := 4) (Nat.le_of_ble_eq_true rfl)
  rw [lg_entry_eq]
  generalize (lg_sl ([.ref (a 0), .int x1, .int x2, .int x3]) ++ List.replicate (4 - (lg_sl ([.ref (a 0), .int x1, .int x2, .int x3])).length) Slot.unset).toArray = ls at hl ⊢
  have hl : lv_has ls 4 [(0, .ref (a 0)), (1, .int x1), (2, .int x2), (3, .int x3)] := hl
  change W p l e rm_mSet s m _ below meth c s.heap [] 0 0 _ (F0 m 0 ls [])
  unfold w_mSet at hw
  refine lv_aload_n hx hb dX1_set_0 rfl (lv_at hl 0 rfl) ?_
  refine m_get hx hb hts hown hI 0 (by decide) rfl q141 (v := .ref (a 1)) rfl dX1_set_1 ?_
  refine lv_iload_n hx hb dX1_set_4 rfl (lv_at hl 1 rfl) ?_
  refine lv_iload_n hx hb dX1_set_5 rfl (lv_at hl 2 rfl) ?_
  obtain ⟨g2, hw⟩ := hw
  refine m_zast hx hb hI 1 0 rfl rfl (m_s0 _ _ _ _ _) g2 dX1_set_6 (fun σ1 H locs e_σ1 hI => ?_)
  have hw := hw σ1 e_σ1
  refine lv_aload_n hx hb dX1_set_7 rfl (lv_at hl 0 rfl) ?_
  refine m_get hx hb hts hown hI 1 (by decide) rfl q142 (v := .ref (a 2)) rfl dX1_set_8 ?_
  refine lv_iload_n hx hb dX1_set_11 rfl (lv_at hl 1 rfl) ?_
  refine lv_iload_n hx hb dX1_set_12 rfl (lv_at hl 3 rfl) ?_
  obtain ⟨g4, hw⟩ := hw
  refine m_iast hx hb hI 2 1 rfl rfl (m_s1 _ _ _ _ _) g4 dX1_set_13 (fun σ3 H locs e_σ3 hI => ?_)
  have hw := hw σ3 e_σ3
  exact m_vret hx hb hr hlocks hI hw dX1_set_14
abbrev rm_mTake : Room := { frames := 1, cells := 0, slots := 0, locals := 23 }
set_option maxHeartbeats 4000000 in
set_option maxRecDepth 100000 in
theorem met_mTake (l : Launch) (D : va_G) (a : Nat → Nat) (k : Nat → ClassId) (σ : St) (x1 x2 : Int32) {P : St → Prop} (hw : w_mTake P σ x1 x2) (sz : Nat) : Met l yX1_take (ws_ yX1_take cX1_take 3 none) rm_mTake (mPc D a k σ sz [.int x1, .int x2]) (va_Qv P (mB D a k (va_A (mW a k σ) sz)) (va_A (mW a k σ) sz)) 0 0 (va_A (mW a k σ) sz) := by
  refine Met.ofW (cc := cX1_take) (maxL := 3) (ret := none) (by decide) rfl ?_
  intro p e s m args below meth c s₁ B hml hv
  obtain ⟨rfl, hI, hA⟩ := m_start hv
  have hx := B.exec
  have hb := B.bytes
  have hr := B.returns
  have hlocks := B.notSynchronized
  have hts := atoms_spec (ws := (ws_ yX1_take cX1_take 3 none)) B.pre
  have hts : ∀ w ∈ lw_all, w.before _ s = true := fun w h => hts w (List.mem_cons_of_mem _ h)
  have hown : s.vm.findClass RX1 = some m.cls := findClass_of_methodNamed B.named
  generalize va_A (mW a k σ) sz = A at hI hA ⊢
  have hl := lv_entry ([.ref (a 0), .int x1, .int x2]) (n := 3) (Nat.le_of_ble_eq_true rfl)
  rw [lg_entry_eq]
  generalize (lg_sl ([.ref (a 0), .int x1, .int x2]) ++ List.replicate (3 - (lg_sl ([.ref (a 0), .int x1, .int x2])).length) Slot.unset).toArray = ls at hl ⊢
  have hl : lv_has ls 3 [(0, .ref (a 0)), (1, .int x1), (2, .int x2)] := hl
  change W p l e rm_mTake s m _ below meth c s.heap [] 0 0 _ (F0 m 0 ls [])
  unfold w_mTake at hw
  refine lv_aload_n hx hb dX1_take_0 rfl (lv_at hl 0 rfl) ?_
  refine lv_iload_n hx hb dX1_take_1 rfl (lv_at hl 1 rfl) ?_
  refine lv_aload_n hx hb dX1_take_2 rfl (lv_at hl 0 rfl) ?_
  refine m_get hx hb hts hown hI 0 (by decide) rfl q141 (v := .ref (a 1)) rfl dX1_take_3 ?_
  refine lv_iload_n hx hb dX1_take_6 rfl (lv_at hl 2 rfl) ?_
  obtain ⟨g3, hw⟩ := hw
  refine va_zald hx hb hI.1 hI.2.1 1 0 rfl rfl g3 dX1_take_7 ?_
  refine lv_aload_n hx hb dX1_take_8 rfl (lv_at hl 0 rfl) ?_
  refine m_get hx hb hts hown hI 1 (by decide) rfl q142 (v := .ref (a 2)) rfl dX1_take_9 ?_
  refine lv_iload_n hx hb dX1_take_12 rfl (lv_at hl 2 rfl) ?_
  obtain ⟨g2, hw⟩ := hw
  refine va_iald hx hb hI.1 hI.2.1 2 1 rfl rfl g2 dX1_take_13 ?_
  refine m_callv (As := [.int x1, .int (σ 0 x2.toNatClampNeg), .int (σ 1 x2.toNatClampNeg)]) ⟨hx, hb, hml, hown, hts⟩ (met_mSet l D a k σ x1 (σ 0 x2.toNatClampNeg) (σ 1 x2.toNatClampNeg) hw) (cwV 3 hts (lw_V q177 q179 qs10 q15 q180) rfl rfl rfl (by decide +kernel) ⟨Nat.le_of_ble_eq_true rfl, Nat.le_of_ble_eq_true rfl⟩) hI hA rfl hl.1 rfl (Nat.le_of_ble_eq_true rfl) dX1_take_14 ⟨Nat.le_of_ble_eq_true rfl, Nat.le_of_ble_eq_true rfl⟩ (fun σ1 H locs hw hI => ?_)
  exact m_vret hx hb hr hlocks hI hw dX1_take_17
abbrev rm_mUnused : Room := { frames := 0, cells := 0, slots := 0, locals := 0 }
set_option maxHeartbeats 4000000 in
set_option maxRecDepth 100000 in
theorem wk_mUnused_2 {p : Program} {l : Launch} {e : Env} {s : State} {m : MethodId} {args : Array Value} {below : List Frame} {meth : Method} {c : Code} {Q : State → Prop} {D : va_G} {a : Nat → Nat} {k : Nat → ClassId} {A : Nat → Prop} (hx : p.tables.exec = Jvm.exec) (hb : c.code = cX1_unused) (hml : c.maxLocals = 2) (hown : s.vm.findClass RX1 = some m.cls) (hts : ∀ w ∈ lw_all, w.before args s = true) (hA : ∀ q : Nat, s.heap.size ≤ q → A q)  {K1 : St → Int32 → Prop} {K2 : St → Int32 → Prop} :
    ∀ (n : Nat) (σ : St) (x1 : Int32) (H : Heap) (locs : List Loc) (ls : Array Slot), mI D a k A s σ H locs → lv_has ls 2 [(0, .ref (a 0)), (1, .int x1)] → w_mUnused_2 K1 K2 n σ x1 → (∀ (σ : St) (x1 : Int32) (H : Heap) (locs : List Loc) (ls : Array Slot), mI D a k A s σ H locs → lv_has ls 2 [(0, .ref (a 0)), (1, .int x1)] → K1 σ x1 → W p l e rm_mUnused s m args below meth c H locs 0 0 Q (F0 m 25 ls [])) → (∀ (σ : St) (x1 : Int32) (H : Heap) (locs : List Loc) (ls : Array Slot), mI D a k A s σ H locs → lv_has ls 2 [(0, .ref (a 0)), (1, .int x1)] → K2 σ x1 → W p l e rm_mUnused s m args below meth c H locs 0 0 Q (F0 m 17 ls [])) → W p l e rm_mUnused s m args below meth c H locs 0 0 Q (F0 m 2 ls []) := by
  intro n
  induction n with
  | zero => intro σ x1 H locs ls hI hl hw; exact hw.elim
  | succ n ih =>
    intro σ x1 H locs ls hI hl hw hK1 hK2
    rw [w_mUnused_2] at hw
    refine lv_iload_n hx hb dX1_unused_2 rfl (lv_at hl 1 rfl) ?_
    refine lv_bipush (v := 36) hx hb dX1_unused_3 (by decide) ?_
    refine lv_icmp_ge (tgt := 25) hx hb dX1_unused_5 (by decide) (fun c_ => ?_) (fun c_ => ?_)
    · have hw := hw.1 c_
      exact hK1 σ x1 _ _ _ hI (lv_sub hl [0, 1] rfl) hw
    have hw := hw.2 c_
    refine lv_aload_n hx hb dX1_unused_8 rfl (lv_at hl 0 rfl) ?_
    refine m_get hx hb hts hown hI 2 (by decide) rfl q143 (v := .ref (a 3)) rfl dX1_unused_9 ?_
    refine lv_iload_n hx hb dX1_unused_12 rfl (lv_at hl 1 rfl) ?_
    obtain ⟨g1, hw⟩ := hw
    refine va_iald hx hb hI.1 hI.2.1 3 2 rfl rfl g1 dX1_unused_13 ?_
    refine lv_if_ne (tgt := 19) hx hb dX1_unused_14 (by decide) (fun c_ => ?_) (fun c_ => ?_)
    · have hw := hw.2 c_
      refine lv_iinc (v := (x1 + 1)) (lv' := [(1, .int (x1 + 1)), (0, .ref (a 0))]) hx hb dX1_unused_19 hl (k := 1) rfl rfl (by decide) rfl (fun ls hl => ?_)
      refine lv_goto (tgt := 2) hx hb dX1_unused_22 (by decide) ?_
      exact ih σ (x1 + 1) _ _ _ hI (lv_sub hl [1, 0] rfl) hw hK1 hK2
    have hw := hw.1 c_
    exact hK2 σ x1 _ _ _ hI (lv_sub hl [0, 1] rfl) hw
set_option maxHeartbeats 4000000 in
set_option maxRecDepth 100000 in
theorem met_mUnused (l : Launch) (D : va_G) (a : Nat → Nat) (k : Nat → ClassId) (σ : St) {P : Int32 → St → Prop} (hw : w_mUnused P σ ) (sz : Nat) : Met l yX1_unused (ws_ yX1_unused cX1_unused 2 (some .int)) rm_mUnused (mPc D a k σ sz []) (va_Qi P (mB D a k (va_A (mW a k σ) sz)) (va_A (mW a k σ) sz)) 0 0 (va_A (mW a k σ) sz) := by
  refine Met.ofW (cc := cX1_unused) (maxL := 2) (ret := (some .int)) (by decide) rfl ?_
  intro p e s m args below meth c s₁ B hml hv
  obtain ⟨rfl, hI, hA⟩ := m_start hv
  have hx := B.exec
  have hb := B.bytes
  have hr := B.returns
  have hlocks := B.notSynchronized
  have hts := atoms_spec (ws := (ws_ yX1_unused cX1_unused 2 (some .int))) B.pre
  have hts : ∀ w ∈ lw_all, w.before _ s = true := fun w h => hts w (List.mem_cons_of_mem _ h)
  have hown : s.vm.findClass RX1 = some m.cls := findClass_of_methodNamed B.named
  generalize va_A (mW a k σ) sz = A at hI hA ⊢
  have hl := lv_entry ([.ref (a 0)]) (n := 2) (Nat.le_of_ble_eq_true rfl)
  rw [lg_entry_eq]
  generalize (lg_sl ([.ref (a 0)]) ++ List.replicate (2 - (lg_sl ([.ref (a 0)])).length) Slot.unset).toArray = ls at hl ⊢
  have hl : lv_has ls 2 [(0, .ref (a 0))] := hl
  change W p l e rm_mUnused s m _ below meth c s.heap [] 0 0 _ (F0 m 0 ls [])
  unfold w_mUnused at hw
  refine lv_iconst (v := 0) hx hb dX1_unused_0 (by decide) ?_
  refine lv_istore_n (lv' := [(1, .int 0), (0, .ref (a 0))]) hx hb dX1_unused_1 rfl hl (by decide) rfl (fun ls hl => ?_)
  obtain ⟨n2, hw⟩ := hw
  refine wk_mUnused_2 hx hb hml hown hts hA  n2 σ 0 _ _ _ hI (lv_sub hl [1, 0] rfl) hw (fun σ3 v4 H locs ls hI hl hw => ?_) (fun σ5 v6 H locs ls hI hl hw => ?_)
  · refine lv_iconst (v := 0) hx hb dX1_unused_25 (by decide) ?_
    exact m_iret hx hb hr hlocks hI hw dX1_unused_26
  refine lv_iload_n hx hb dX1_unused_17 rfl (lv_at hl 1 rfl) ?_
  exact m_iret hx hb hr hlocks hI hw dX1_unused_18
abbrev rm_mUsed : Room := { frames := 0, cells := 0, slots := 0, locals := 0 }
set_option maxHeartbeats 4000000 in
set_option maxRecDepth 100000 in
theorem wk_mUsed_4 {p : Program} {l : Launch} {e : Env} {s : State} {m : MethodId} {args : Array Value} {below : List Frame} {meth : Method} {c : Code} {Q : State → Prop} {D : va_G} {a : Nat → Nat} {k : Nat → ClassId} {A : Nat → Prop} (hx : p.tables.exec = Jvm.exec) (hb : c.code = cX1_used) (hml : c.maxLocals = 3) (hown : s.vm.findClass RX1 = some m.cls) (hts : ∀ w ∈ lw_all, w.before args s = true) (hA : ∀ q : Nat, s.heap.size ≤ q → A q)  {K : St → Int32 → Int32 → Prop} :
    ∀ (n : Nat) (σ : St) (x1 : Int32) (x2 : Int32) (H : Heap) (locs : List Loc) (ls : Array Slot), mI D a k A s σ H locs → lv_has ls 3 [(0, .ref (a 0)), (1, .int x1), (2, .int x2)] → w_mUsed_4 K n σ x1 x2 → (∀ (σ : St) (x1 : Int32) (x2 : Int32) (H : Heap) (locs : List Loc) (ls : Array Slot), mI D a k A s σ H locs → lv_has ls 3 [(0, .ref (a 0)), (1, .int x1), (2, .int x2)] → K σ x1 x2 → W p l e rm_mUsed s m args below meth c H locs 0 0 Q (F0 m 36 ls [])) → W p l e rm_mUsed s m args below meth c H locs 0 0 Q (F0 m 4 ls []) := by
  intro n
  induction n with
  | zero => intro σ x1 x2 H locs ls hI hl hw; exact hw.elim
  | succ n ih =>
    intro σ x1 x2 H locs ls hI hl hw hK
    rw [w_mUsed_4] at hw
    refine lv_iload_n hx hb dX1_used_4 rfl (lv_at hl 2 rfl) ?_
    refine lv_bipush (v := 36) hx hb dX1_used_5 (by decide) ?_
    refine lv_icmp_ge (tgt := 36) hx hb dX1_used_7 (by decide) (fun c_ => ?_) (fun c_ => ?_)
    · have hw := hw.1 c_
      exact hK σ x1 x2 _ _ _ hI (lv_sub hl [0, 1, 2] rfl) hw
    have hw := hw.2 c_
    refine lv_aload_n hx hb dX1_used_10 rfl (lv_at hl 0 rfl) ?_
    refine m_get hx hb hts hown hI 2 (by decide) rfl q143 (v := .ref (a 3)) rfl dX1_used_11 ?_
    refine lv_iload_n hx hb dX1_used_14 rfl (lv_at hl 2 rfl) ?_
    obtain ⟨g3, hw⟩ := hw
    refine va_iald hx hb hI.1 hI.2.1 3 2 rfl rfl g3 dX1_used_15 ?_
    refine lv_if_le (tgt := 30) hx hb dX1_used_16 (by decide) (fun c_ => ?_) (fun c_ => ?_)
    · have hw := hw.1 c_
      refine lv_iinc (v := (x2 + 1)) (lv' := [(2, .int (x2 + 1)), (0, .ref (a 0)), (1, .int x1)]) hx hb dX1_used_30 hl (k := 2) rfl rfl (by decide) rfl (fun ls hl => ?_)
      refine lv_goto (tgt := 4) hx hb dX1_used_33 (by decide) ?_
      exact ih σ x1 (x2 + 1) _ _ _ hI (lv_sub hl [1, 2, 0] rfl) hw hK
    have hw := hw.2 c_
    refine lv_iload_n hx hb dX1_used_19 rfl (lv_at hl 1 rfl) ?_
    refine lv_aload_n hx hb dX1_used_20 rfl (lv_at hl 0 rfl) ?_
    refine m_get hx hb hts hown hI 2 (by decide) rfl q143 (v := .ref (a 3)) rfl dX1_used_21 ?_
    refine lv_iload_n hx hb dX1_used_24 rfl (lv_at hl 2 rfl) ?_
    obtain ⟨g2, hw⟩ := hw
    refine va_iald hx hb hI.1 hI.2.1 3 2 rfl rfl g2 dX1_used_25 ?_
    refine lv_iconst (v := 1) hx hb dX1_used_26 (by decide) ?_
    refine lv_iadd hx hb dX1_used_27 ?_
    refine lv_iadd hx hb dX1_used_28 ?_
    refine lv_topi (fun v1 e_v1 => ?_)
    have hw := hw v1 e_v1
    refine lv_istore_n (lv' := [(1, .int v1), (0, .ref (a 0)), (2, .int x2)]) hx hb dX1_used_29 rfl hl (by decide) rfl (fun ls hl => ?_)
    refine lv_iinc (v := (x2 + 1)) (lv' := [(2, .int (x2 + 1)), (1, .int v1), (0, .ref (a 0))]) hx hb dX1_used_30 hl (k := 2) rfl rfl (by decide) rfl (fun ls hl => ?_)
    refine lv_goto (tgt := 4) hx hb dX1_used_33 (by decide) ?_
    exact ih σ v1 (x2 + 1) _ _ _ hI (lv_sub hl [2, 1, 0] rfl) hw hK
set_option maxHeartbeats 4000000 in
set_option maxRecDepth 100000 in
theorem met_mUsed (l : Launch) (D : va_G) (a : Nat → Nat) (k : Nat → ClassId) (σ : St) {P : Int32 → St → Prop} (hw : w_mUsed P σ ) (sz : Nat) : Met l yX1_used (ws_ yX1_used cX1_used 3 (some .int)) rm_mUsed (mPc D a k σ sz []) (va_Qi P (mB D a k (va_A (mW a k σ) sz)) (va_A (mW a k σ) sz)) 0 0 (va_A (mW a k σ) sz) := by
  refine Met.ofW (cc := cX1_used) (maxL := 3) (ret := (some .int)) (by decide) rfl ?_
  intro p e s m args below meth c s₁ B hml hv
  obtain ⟨rfl, hI, hA⟩ := m_start hv
  have hx := B.exec
  have hb := B.bytes
  have hr := B.returns
  have hlocks := B.notSynchronized
  have hts := atoms_spec (ws := (ws_ yX1_used cX1_used 3 (some .int))) B.pre
  have hts : ∀ w ∈ lw_all, w.before _ s = true := fun w h => hts w (List.mem_cons_of_mem _ h)
  have hown : s.vm.findClass RX1 = some m.cls := findClass_of_methodNamed B.named
  generalize va_A (mW a k σ) sz = A at hI hA ⊢
  have hl := lv_entry ([.ref (a 0)]) (n := 3) (Nat.le_of_ble_eq_true rfl)
  rw [lg_entry_eq]
  generalize (lg_sl ([.ref (a 0)]) ++ List.replicate (3 - (lg_sl ([.ref (a 0)])).length) Slot.unset).toArray = ls at hl ⊢
  have hl : lv_has ls 3 [(0, .ref (a 0))] := hl
  change W p l e rm_mUsed s m _ below meth c s.heap [] 0 0 _ (F0 m 0 ls [])
  unfold w_mUsed at hw
  refine lv_iconst (v := 0) hx hb dX1_used_0 (by decide) ?_
  refine lv_istore_n (lv' := [(1, .int 0), (0, .ref (a 0))]) hx hb dX1_used_1 rfl hl (by decide) rfl (fun ls hl => ?_)
  refine lv_iconst (v := 0) hx hb dX1_used_2 (by decide) ?_
  refine lv_istore_n (lv' := [(2, .int 0), (1, .int 0), (0, .ref (a 0))]) hx hb dX1_used_3 rfl hl (by decide) rfl (fun ls hl => ?_)
  obtain ⟨n4, hw⟩ := hw
  refine wk_mUsed_4 hx hb hml hown hts hA  n4 σ 0 0 _ _ _ hI (lv_sub hl [2, 1, 0] rfl) hw (fun σ5 v6 v7 H locs ls hI hl hw => ?_)
  refine lv_iload_n hx hb dX1_used_36 rfl (lv_at hl 1 rfl) ?_
  exact m_iret hx hb hr hlocks hI hw dX1_used_37
abbrev rm_mMark : Room := { frames := 0, cells := 0, slots := 0, locals := 0 }
set_option maxHeartbeats 4000000 in
set_option maxRecDepth 100000 in
theorem wk_mMark_39 {p : Program} {l : Launch} {e : Env} {s : State} {m : MethodId} {args : Array Value} {below : List Frame} {meth : Method} {c : Code} {Q : State → Prop} {D : va_G} {a : Nat → Nat} {k : Nat → ClassId} {A : Nat → Prop} (hx : p.tables.exec = Jvm.exec) (hb : c.code = cX1_mark) (hml : c.maxLocals = 5) (hown : s.vm.findClass RX1 = some m.cls) (hts : ∀ w ∈ lw_all, w.before args s = true) (hA : ∀ q : Nat, s.heap.size ≤ q → A q) (x2 : Int32) {K : St → Int32 → Int32 → Prop} :
    ∀ (n : Nat) (σ : St) (x1 : Int32) (x3 : Int32) (H : Heap) (locs : List Loc) (ls : Array Slot), mI D a k A s σ H locs → lv_has ls 5 [(0, .ref (a 0)), (1, .int x1), (2, .int x2), (3, .int x3)] → w_mMark_39 x2 K n σ x1 x3 → (∀ (σ : St) (x1 : Int32) (x3 : Int32) (H : Heap) (locs : List Loc) (ls : Array Slot), mI D a k A s σ H locs → lv_has ls 5 [(0, .ref (a 0)), (1, .int x1), (2, .int x2), (3, .int x3)] → K σ x1 x3 → W p l e rm_mMark s m args below meth c H locs 0 0 Q (F0 m 144 ls [])) → W p l e rm_mMark s m args below meth c H locs 0 0 Q (F0 m 39 ls []) := by
  intro n
  induction n with
  | zero => intro σ x1 x3 H locs ls hI hl hw; exact hw.elim
  | succ n ih =>
    intro σ x1 x3 H locs ls hI hl hw hK
    rw [w_mMark_39] at hw
    refine lv_iload_n hx hb dX1_mark_39 rfl (lv_at hl 3 rfl) ?_
    refine lv_sipush (v := 222) hx hb dX1_mark_40 (by decide) ?_
    refine lv_icmp_ge (tgt := 144) hx hb dX1_mark_43 (by decide) (fun c_ => ?_) (fun c_ => ?_)
    · have hw := hw.1 c_
      exact hK σ x1 x3 _ _ _ hI (lv_sub hl [0, 1, 2, 3] rfl) hw
    have hw := hw.2 c_
    refine lv_iload_n hx hb dX1_mark_46 rfl (lv_at hl 3 rfl) ?_
    refine lv_bipush (v := 6) hx hb dX1_mark_47 (by decide) ?_
    refine lv_icmp_lt (tgt := 89) hx hb dX1_mark_49 (by decide) (fun c_ => ?_) (fun c_ => ?_)
    · have hw := hw.1 c_
      refine lv_iconst (v := 1) hx hb dX1_mark_89 (by decide) ?_
      refine lv_goto (tgt := 94) hx hb dX1_mark_90 (by decide) ?_
      refine lv_istore (lv' := [(4, .int 1), (0, .ref (a 0)), (1, .int x1), (2, .int x2), (3, .int x3)]) hx hb dX1_mark_94 hl (by decide) rfl (fun ls hl => ?_)
      refine lv_iload hx hb dX1_mark_96 (lv_at hl 0 rfl) ?_
      refine lv_if_eq (tgt := 138) hx hb dX1_mark_98 (by decide) (fun c_ => ?_) (fun c_ => ?_)
      · exact absurd c_ (by decide)
      refine lv_aload_n hx hb dX1_mark_101 rfl (lv_at hl 1 rfl) ?_
      refine m_get hx hb hts hown hI 0 (by decide) rfl q141 (v := .ref (a 1)) rfl dX1_mark_102 ?_
      refine lv_iload_n hx hb dX1_mark_105 rfl (lv_at hl 4 rfl) ?_
      obtain ⟨g6, hw⟩ := hw
      refine va_zald hx hb hI.1 hI.2.1 1 0 rfl rfl g6 dX1_mark_106 ?_
      refine lv_if_eq (tgt := 138) hx hb dX1_mark_107 (by decide) (fun c_ => ?_) (fun c_ => ?_)
      · have hw := hw.1 c_
        refine lv_iinc (v := (x3 + 1)) (lv' := [(3, .int (x3 + 1)), (4, .int 1), (0, .ref (a 0)), (1, .int x1), (2, .int x2)]) hx hb dX1_mark_138 hl (k := 4) rfl rfl (by decide) rfl (fun ls hl => ?_)
        refine lv_goto (tgt := 39) hx hb dX1_mark_141 (by decide) ?_
        exact ih σ x1 (x3 + 1) _ _ _ hI (lv_sub hl [2, 3, 4, 0] rfl) hw hK
      have hw := hw.2 c_
      refine lv_aload_n hx hb dX1_mark_110 rfl (lv_at hl 1 rfl) ?_
      refine m_get hx hb hts hown hI 3 (by decide) rfl q144 (v := .ref (a 4)) rfl dX1_mark_111 ?_
      refine lv_aload_n hx hb dX1_mark_114 rfl (lv_at hl 1 rfl) ?_
      refine m_get hx hb hts hown hI 1 (by decide) rfl q142 (v := .ref (a 2)) rfl dX1_mark_115 ?_
      refine lv_iload_n hx hb dX1_mark_118 rfl (lv_at hl 4 rfl) ?_
      obtain ⟨g5, hw⟩ := hw
      refine va_iald hx hb hI.1 hI.2.1 2 1 rfl rfl g5 dX1_mark_119 ?_
      obtain ⟨g4, hw⟩ := hw
      refine va_zald hx hb hI.1 hI.2.1 4 3 rfl rfl g4 dX1_mark_120 ?_
      refine lv_if_ne (tgt := 138) hx hb dX1_mark_121 (by decide) (fun c_ => ?_) (fun c_ => ?_)
      · have hw := hw.2 c_
        refine lv_iinc (v := (x3 + 1)) (lv' := [(3, .int (x3 + 1)), (4, .int 1), (0, .ref (a 0)), (1, .int x1), (2, .int x2)]) hx hb dX1_mark_138 hl (k := 4) rfl rfl (by decide) rfl (fun ls hl => ?_)
        refine lv_goto (tgt := 39) hx hb dX1_mark_141 (by decide) ?_
        exact ih σ x1 (x3 + 1) _ _ _ hI (lv_sub hl [2, 3, 4, 0] rfl) hw hK
      have hw := hw.1 c_
      refine lv_aload_n hx hb dX1_mark_124 rfl (lv_at hl 1 rfl) ?_
      refine m_get hx hb hts hown hI 3 (by decide) rfl q144 (v := .ref (a 4)) rfl dX1_mark_125 ?_
      refine lv_aload_n hx hb dX1_mark_128 rfl (lv_at hl 1 rfl) ?_
      refine m_get hx hb hts hown hI 1 (by decide) rfl q142 (v := .ref (a 2)) rfl dX1_mark_129 ?_
      refine lv_iload_n hx hb dX1_mark_132 rfl (lv_at hl 4 rfl) ?_
      obtain ⟨g3, hw⟩ := hw
      refine va_iald hx hb hI.1 hI.2.1 2 1 rfl rfl g3 dX1_mark_133 ?_
      refine lv_iconst (v := 1) hx hb dX1_mark_134 (by decide) ?_
      obtain ⟨g2, hw⟩ := hw
      refine m_zast hx hb hI 4 3 rfl rfl (m_s3 _ _ _ _ _) g2 dX1_mark_135 (fun σ1 H locs e_σ1 hI => ?_)
      have hw := hw σ1 e_σ1
      refine lv_iconst (v := 1) hx hb dX1_mark_136 (by decide) ?_
      refine lv_istore_n (lv' := [(1, .int 1), (4, .int 1), (0, .ref (a 0)), (2, .int x2), (3, .int x3)]) hx hb dX1_mark_137 rfl hl (by decide) rfl (fun ls hl => ?_)
      refine lv_iinc (v := (x3 + 1)) (lv' := [(3, .int (x3 + 1)), (1, .int 1), (4, .int 1), (0, .ref (a 0)), (2, .int x2)]) hx hb dX1_mark_138 hl (k := 4) rfl rfl (by decide) rfl (fun ls hl => ?_)
      refine lv_goto (tgt := 39) hx hb dX1_mark_141 (by decide) ?_
      exact ih σ1 1 (x3 + 1) _ _ _ hI (lv_sub hl [3, 1, 4, 0] rfl) hw hK
    have hw := hw.2 c_
    refine lv_aload_n hx hb dX1_mark_52 rfl (lv_at hl 0 rfl) ?_
    refine m_get hx hb hts hown hI 3 (by decide) rfl q144 (v := .ref (a 4)) rfl dX1_mark_53 ?_
    refine lv_iload_n hx hb dX1_mark_56 rfl (lv_at hl 3 rfl) ?_
    refine lv_bipush (v := 6) hx hb dX1_mark_57 (by decide) ?_
    refine lv_isub hx hb dX1_mark_59 ?_
    refine lv_bipush (v := 6) hx hb dX1_mark_60 (by decide) ?_
    refine lv_idiv hx hb dX1_mark_62 (by decide) ?_
    obtain ⟨g14, hw⟩ := hw
    refine va_zald hx hb hI.1 hI.2.1 4 3 rfl rfl g14 dX1_mark_63 ?_
    refine lv_if_eq (tgt := 93) hx hb dX1_mark_64 (by decide) (fun c_ => ?_) (fun c_ => ?_)
    · have hw := hw.1 c_
      refine lv_iconst (v := 0) hx hb dX1_mark_93 (by decide) ?_
      refine lv_istore (lv' := [(4, .int 0), (0, .ref (a 0)), (1, .int x1), (2, .int x2), (3, .int x3)]) hx hb dX1_mark_94 hl (by decide) rfl (fun ls hl => ?_)
      refine lv_iload hx hb dX1_mark_96 (lv_at hl 0 rfl) ?_
      refine lv_if_eq (tgt := 138) hx hb dX1_mark_98 (by decide) (fun c_ => ?_) (fun c_ => ?_)
      rotate_left
      · exact absurd c_ (by decide)
      refine lv_iinc (v := (x3 + 1)) (lv' := [(3, .int (x3 + 1)), (4, .int 0), (0, .ref (a 0)), (1, .int x1), (2, .int x2)]) hx hb dX1_mark_138 hl (k := 4) rfl rfl (by decide) rfl (fun ls hl => ?_)
      refine lv_goto (tgt := 39) hx hb dX1_mark_141 (by decide) ?_
      exact ih σ x1 (x3 + 1) _ _ _ hI (lv_sub hl [2, 3, 4, 0] rfl) hw hK
    have hw := hw.2 c_
    refine lv_iload_n hx hb dX1_mark_67 rfl (lv_at hl 3 rfl) ?_
    refine lv_bipush (v := 6) hx hb dX1_mark_68 (by decide) ?_
    refine lv_isub hx hb dX1_mark_70 ?_
    refine lv_bipush (v := 6) hx hb dX1_mark_71 (by decide) ?_
    refine lv_irem hx hb dX1_mark_73 (by decide) ?_
    refine lv_aload_n hx hb dX1_mark_74 rfl (lv_at hl 0 rfl) ?_
    refine m_get hx hb hts hown hI 2 (by decide) rfl q143 (v := .ref (a 3)) rfl dX1_mark_75 ?_
    refine lv_iload_n hx hb dX1_mark_78 rfl (lv_at hl 3 rfl) ?_
    refine lv_bipush (v := 6) hx hb dX1_mark_79 (by decide) ?_
    refine lv_isub hx hb dX1_mark_81 ?_
    refine lv_bipush (v := 6) hx hb dX1_mark_82 (by decide) ?_
    refine lv_idiv hx hb dX1_mark_84 (by decide) ?_
    obtain ⟨g13, hw⟩ := hw
    refine va_iald hx hb hI.1 hI.2.1 3 2 rfl rfl g13 dX1_mark_85 ?_
    refine lv_icmp_ge (tgt := 93) hx hb dX1_mark_86 (by decide) (fun c_ => ?_) (fun c_ => ?_)
    · have hw := hw.1 c_
      refine lv_iconst (v := 0) hx hb dX1_mark_93 (by decide) ?_
      refine lv_istore (lv' := [(4, .int 0), (0, .ref (a 0)), (1, .int x1), (2, .int x2), (3, .int x3)]) hx hb dX1_mark_94 hl (by decide) rfl (fun ls hl => ?_)
      refine lv_iload hx hb dX1_mark_96 (lv_at hl 0 rfl) ?_
      refine lv_if_eq (tgt := 138) hx hb dX1_mark_98 (by decide) (fun c_ => ?_) (fun c_ => ?_)
      rotate_left
      · exact absurd c_ (by decide)
      refine lv_iinc (v := (x3 + 1)) (lv' := [(3, .int (x3 + 1)), (4, .int 0), (0, .ref (a 0)), (1, .int x1), (2, .int x2)]) hx hb dX1_mark_138 hl (k := 4) rfl rfl (by decide) rfl (fun ls hl => ?_)
      refine lv_goto (tgt := 39) hx hb dX1_mark_141 (by decide) ?_
      exact ih σ x1 (x3 + 1) _ _ _ hI (lv_sub hl [2, 3, 4, 0] rfl) hw hK
    have hw := hw.2 c_
    refine lv_iconst (v := 1) hx hb dX1_mark_89 (by decide) ?_
    refine lv_goto (tgt := 94) hx hb dX1_mark_90 (by decide) ?_
    refine lv_istore (lv' := [(4, .int 1), (0, .ref (a 0)), (1, .int x1), (2, .int x2), (3, .int x3)]) hx hb dX1_mark_94 hl (by decide) rfl (fun ls hl => ?_)
    refine lv_iload hx hb dX1_mark_96 (lv_at hl 0 rfl) ?_
    refine lv_if_eq (tgt := 138) hx hb dX1_mark_98 (by decide) (fun c_ => ?_) (fun c_ => ?_)
    · exact absurd c_ (by decide)
    refine lv_aload_n hx hb dX1_mark_101 rfl (lv_at hl 1 rfl) ?_
    refine m_get hx hb hts hown hI 0 (by decide) rfl q141 (v := .ref (a 1)) rfl dX1_mark_102 ?_
    refine lv_iload_n hx hb dX1_mark_105 rfl (lv_at hl 4 rfl) ?_
    obtain ⟨g12, hw⟩ := hw
    refine va_zald hx hb hI.1 hI.2.1 1 0 rfl rfl g12 dX1_mark_106 ?_
    refine lv_if_eq (tgt := 138) hx hb dX1_mark_107 (by decide) (fun c_ => ?_) (fun c_ => ?_)
    · have hw := hw.1 c_
      refine lv_iinc (v := (x3 + 1)) (lv' := [(3, .int (x3 + 1)), (4, .int 1), (0, .ref (a 0)), (1, .int x1), (2, .int x2)]) hx hb dX1_mark_138 hl (k := 4) rfl rfl (by decide) rfl (fun ls hl => ?_)
      refine lv_goto (tgt := 39) hx hb dX1_mark_141 (by decide) ?_
      exact ih σ x1 (x3 + 1) _ _ _ hI (lv_sub hl [2, 3, 4, 0] rfl) hw hK
    have hw := hw.2 c_
    refine lv_aload_n hx hb dX1_mark_110 rfl (lv_at hl 1 rfl) ?_
    refine m_get hx hb hts hown hI 3 (by decide) rfl q144 (v := .ref (a 4)) rfl dX1_mark_111 ?_
    refine lv_aload_n hx hb dX1_mark_114 rfl (lv_at hl 1 rfl) ?_
    refine m_get hx hb hts hown hI 1 (by decide) rfl q142 (v := .ref (a 2)) rfl dX1_mark_115 ?_
    refine lv_iload_n hx hb dX1_mark_118 rfl (lv_at hl 4 rfl) ?_
    obtain ⟨g11, hw⟩ := hw
    refine va_iald hx hb hI.1 hI.2.1 2 1 rfl rfl g11 dX1_mark_119 ?_
    obtain ⟨g10, hw⟩ := hw
    refine va_zald hx hb hI.1 hI.2.1 4 3 rfl rfl g10 dX1_mark_120 ?_
    refine lv_if_ne (tgt := 138) hx hb dX1_mark_121 (by decide) (fun c_ => ?_) (fun c_ => ?_)
    · have hw := hw.2 c_
      refine lv_iinc (v := (x3 + 1)) (lv' := [(3, .int (x3 + 1)), (4, .int 1), (0, .ref (a 0)), (1, .int x1), (2, .int x2)]) hx hb dX1_mark_138 hl (k := 4) rfl rfl (by decide) rfl (fun ls hl => ?_)
      refine lv_goto (tgt := 39) hx hb dX1_mark_141 (by decide) ?_
      exact ih σ x1 (x3 + 1) _ _ _ hI (lv_sub hl [2, 3, 4, 0] rfl) hw hK
    have hw := hw.1 c_
    refine lv_aload_n hx hb dX1_mark_124 rfl (lv_at hl 1 rfl) ?_
    refine m_get hx hb hts hown hI 3 (by decide) rfl q144 (v := .ref (a 4)) rfl dX1_mark_125 ?_
    refine lv_aload_n hx hb dX1_mark_128 rfl (lv_at hl 1 rfl) ?_
    refine m_get hx hb hts hown hI 1 (by decide) rfl q142 (v := .ref (a 2)) rfl dX1_mark_129 ?_
    refine lv_iload_n hx hb dX1_mark_132 rfl (lv_at hl 4 rfl) ?_
    obtain ⟨g9, hw⟩ := hw
    refine va_iald hx hb hI.1 hI.2.1 2 1 rfl rfl g9 dX1_mark_133 ?_
    refine lv_iconst (v := 1) hx hb dX1_mark_134 (by decide) ?_
    obtain ⟨g8, hw⟩ := hw
    refine m_zast hx hb hI 4 3 rfl rfl (m_s3 _ _ _ _ _) g8 dX1_mark_135 (fun σ7 H locs e_σ7 hI => ?_)
    have hw := hw σ7 e_σ7
    refine lv_iconst (v := 1) hx hb dX1_mark_136 (by decide) ?_
    refine lv_istore_n (lv' := [(1, .int 1), (4, .int 1), (0, .ref (a 0)), (2, .int x2), (3, .int x3)]) hx hb dX1_mark_137 rfl hl (by decide) rfl (fun ls hl => ?_)
    refine lv_iinc (v := (x3 + 1)) (lv' := [(3, .int (x3 + 1)), (1, .int 1), (4, .int 1), (0, .ref (a 0)), (2, .int x2)]) hx hb dX1_mark_138 hl (k := 4) rfl rfl (by decide) rfl (fun ls hl => ?_)
    refine lv_goto (tgt := 39) hx hb dX1_mark_141 (by decide) ?_
    exact ih σ7 1 (x3 + 1) _ _ _ hI (lv_sub hl [3, 1, 4, 0] rfl) hw hK
set_option maxHeartbeats 4000000 in
set_option maxRecDepth 100000 in
theorem wk_mMark_25 {p : Program} {l : Launch} {e : Env} {s : State} {m : MethodId} {args : Array Value} {below : List Frame} {meth : Method} {c : Code} {Q : State → Prop} {D : va_G} {a : Nat → Nat} {k : Nat → ClassId} {A : Nat → Prop} (hx : p.tables.exec = Jvm.exec) (hb : c.code = cX1_mark) (hml : c.maxLocals = 5) (hown : s.vm.findClass RX1 = some m.cls) (hts : ∀ w ∈ lw_all, w.before args s = true) (hA : ∀ q : Nat, s.heap.size ≤ q → A q)  {K : St → Int32 → Int32 → Prop} :
    ∀ (n : Nat) (σ : St) (x1 : Int32) (x2 : Int32) (H : Heap) (locs : List Loc) (ls : Array Slot), mI D a k A s σ H locs → lv_has ls 5 [(0, .ref (a 0)), (1, .int x1), (2, .int x2)] → w_mMark_25 K n σ x1 x2 → (∀ (σ : St) (x1 : Int32) (x2 : Int32) (H : Heap) (locs : List Loc) (ls : Array Slot), mI D a k A s σ H locs → lv_has ls 5 [(0, .ref (a 0)), (1, .int x1), (2, .int x2)] → K σ x1 x2 → W p l e rm_mMark s m args below meth c H locs 0 0 Q (F0 m 150 ls [])) → W p l e rm_mMark s m args below meth c H locs 0 0 Q (F0 m 25 ls []) := by
  intro n
  induction n with
  | zero => intro σ x1 x2 H locs ls hI hl hw; exact hw.elim
  | succ n ih =>
    intro σ x1 x2 H locs ls hI hl hw hK
    rw [w_mMark_25] at hw
    refine lv_iload_n hx hb dX1_mark_25 rfl (lv_at hl 2 rfl) ?_
    refine lv_bipush (v := 37) hx hb dX1_mark_26 (by decide) ?_
    refine lv_icmp_ge (tgt := 150) hx hb dX1_mark_28 (by decide) (fun c_ => ?_) (fun c_ => ?_)
    · have hw := hw.1 c_
      exact hK σ x1 x2 _ _ _ hI (lv_sub hl [0, 1, 2] rfl) hw
    have hw := hw.2 c_
    refine lv_iload_n hx hb dX1_mark_31 rfl (lv_at hl 1 rfl) ?_
    refine lv_if_eq (tgt := 150) hx hb dX1_mark_32 (by decide) (fun c_ => ?_) (fun c_ => ?_)
    · have hw := hw.1 c_
      exact hK σ x1 x2 _ _ _ hI (lv_sub hl [0, 1, 2] rfl) hw
    have hw := hw.2 c_
    refine lv_iconst (v := 0) hx hb dX1_mark_35 (by decide) ?_
    refine lv_istore_n (lv' := [(1, .int 0), (0, .ref (a 0)), (2, .int x2)]) hx hb dX1_mark_36 rfl hl (by decide) rfl (fun ls hl => ?_)
    refine lv_iconst (v := 0) hx hb dX1_mark_37 (by decide) ?_
    refine lv_istore_n (lv' := [(3, .int 0), (1, .int 0), (0, .ref (a 0)), (2, .int x2)]) hx hb dX1_mark_38 rfl hl (by decide) rfl (fun ls hl => ?_)
    obtain ⟨n15, hw⟩ := hw
    refine wk_mMark_39 hx hb hml hown hts hA x2 n15 σ 0 0 _ _ _ hI (lv_sub hl [2, 1, 3, 0] rfl) hw (fun σ16 v17 v18 H locs ls hI hl hw => ?_)
    refine lv_iinc (v := (x2 + 1)) (lv' := [(2, .int (x2 + 1)), (0, .ref (a 0)), (1, .int v17), (3, .int v18)]) hx hb dX1_mark_144 hl (k := 2) rfl rfl (by decide) rfl (fun ls hl => ?_)
    refine lv_goto (tgt := 25) hx hb dX1_mark_147 (by decide) ?_
    exact ih σ16 v17 (x2 + 1) _ _ _ hI (lv_sub hl [1, 2, 0] rfl) hw hK
set_option maxHeartbeats 4000000 in
set_option maxRecDepth 100000 in
theorem wk_mMark_2 {p : Program} {l : Launch} {e : Env} {s : State} {m : MethodId} {args : Array Value} {below : List Frame} {meth : Method} {c : Code} {Q : State → Prop} {D : va_G} {a : Nat → Nat} {k : Nat → ClassId} {A : Nat → Prop} (hx : p.tables.exec = Jvm.exec) (hb : c.code = cX1_mark) (hml : c.maxLocals = 5) (hown : s.vm.findClass RX1 = some m.cls) (hts : ∀ w ∈ lw_all, w.before args s = true) (hA : ∀ q : Nat, s.heap.size ≤ q → A q)  {K : St → Int32 → Prop} :
    ∀ (n : Nat) (σ : St) (x1 : Int32) (H : Heap) (locs : List Loc) (ls : Array Slot), mI D a k A s σ H locs → lv_has ls 5 [(0, .ref (a 0)), (1, .int x1)] → w_mMark_2 K n σ x1 → (∀ (σ : St) (x1 : Int32) (H : Heap) (locs : List Loc) (ls : Array Slot), mI D a k A s σ H locs → lv_has ls 5 [(0, .ref (a 0)), (1, .int x1)] → K σ x1 → W p l e rm_mMark s m args below meth c H locs 0 0 Q (F0 m 21 ls [])) → W p l e rm_mMark s m args below meth c H locs 0 0 Q (F0 m 2 ls []) := by
  intro n
  induction n with
  | zero => intro σ x1 H locs ls hI hl hw; exact hw.elim
  | succ n ih =>
    intro σ x1 H locs ls hI hl hw hK
    rw [w_mMark_2] at hw
    refine lv_iload_n hx hb dX1_mark_2 rfl (lv_at hl 1 rfl) ?_
    refine lv_bipush (v := 36) hx hb dX1_mark_3 (by decide) ?_
    refine lv_icmp_ge (tgt := 21) hx hb dX1_mark_5 (by decide) (fun c_ => ?_) (fun c_ => ?_)
    · have hw := hw.1 c_
      exact hK σ x1 _ _ _ hI (lv_sub hl [0, 1] rfl) hw
    have hw := hw.2 c_
    refine lv_aload_n hx hb dX1_mark_8 rfl (lv_at hl 0 rfl) ?_
    refine m_get hx hb hts hown hI 3 (by decide) rfl q144 (v := .ref (a 4)) rfl dX1_mark_9 ?_
    refine lv_iload_n hx hb dX1_mark_12 rfl (lv_at hl 1 rfl) ?_
    refine lv_iconst (v := 0) hx hb dX1_mark_13 (by decide) ?_
    obtain ⟨g20, hw⟩ := hw
    refine m_zast hx hb hI 4 3 rfl rfl (m_s3 _ _ _ _ _) g20 dX1_mark_14 (fun σ19 H locs e_σ19 hI => ?_)
    have hw := hw σ19 e_σ19
    refine lv_iinc (v := (x1 + 1)) (lv' := [(1, .int (x1 + 1)), (0, .ref (a 0))]) hx hb dX1_mark_15 hl (k := 1) rfl rfl (by decide) rfl (fun ls hl => ?_)
    refine lv_goto (tgt := 2) hx hb dX1_mark_18 (by decide) ?_
    exact ih σ19 (x1 + 1) _ _ _ hI (lv_sub hl [1, 0] rfl) hw hK
set_option maxHeartbeats 4000000 in
set_option maxRecDepth 100000 in
theorem met_mMark (l : Launch) (D : va_G) (a : Nat → Nat) (k : Nat → ClassId) (σ : St) {P : St → Prop} (hw : w_mMark P σ ) (sz : Nat) : Met l yX1_mark (ws_ yX1_mark cX1_mark 5 none) rm_mMark (mPc D a k σ sz []) (va_Qv P (mB D a k (va_A (mW a k σ) sz)) (va_A (mW a k σ) sz)) 0 0 (va_A (mW a k σ) sz) := by
  refine Met.ofW (cc := cX1_mark) (maxL := 5) (ret := none) (by decide) rfl ?_
  intro p e s m args below meth c s₁ B hml hv
  obtain ⟨rfl, hI, hA⟩ := m_start hv
  have hx := B.exec
  have hb := B.bytes
  have hr := B.returns
  have hlocks := B.notSynchronized
  have hts := atoms_spec (ws := (ws_ yX1_mark cX1_mark 5 none)) B.pre
  have hts : ∀ w ∈ lw_all, w.before _ s = true := fun w h => hts w (List.mem_cons_of_mem _ h)
  have hown : s.vm.findClass RX1 = some m.cls := findClass_of_methodNamed B.named
  generalize va_A (mW a k σ) sz = A at hI hA ⊢
  have hl := lv_entry ([.ref (a 0)]) (n := 5) (Nat.le_of_ble_eq_true rfl)
  rw [lg_entry_eq]
  generalize (lg_sl ([.ref (a 0)]) ++ List.replicate (5 - (lg_sl ([.ref (a 0)])).length) Slot.unset).toArray = ls at hl ⊢
  have hl : lv_has ls 5 [(0, .ref (a 0))] := hl
  change W p l e rm_mMark s m _ below meth c s.heap [] 0 0 _ (F0 m 0 ls [])
  unfold w_mMark at hw
  refine lv_iconst (v := 0) hx hb dX1_mark_0 (by decide) ?_
  refine lv_istore_n (lv' := [(1, .int 0), (0, .ref (a 0))]) hx hb dX1_mark_1 rfl hl (by decide) rfl (fun ls hl => ?_)
  obtain ⟨n21, hw⟩ := hw
  refine wk_mMark_2 hx hb hml hown hts hA  n21 σ 0 _ _ _ hI (lv_sub hl [1, 0] rfl) hw (fun σ22 v23 H locs ls hI hl hw => ?_)
  refine lv_iconst (v := 1) hx hb dX1_mark_21 (by decide) ?_
  refine lv_istore_n (lv' := [(1, .int 1), (0, .ref (a 0))]) hx hb dX1_mark_22 rfl hl (by decide) rfl (fun ls hl => ?_)
  refine lv_iconst (v := 0) hx hb dX1_mark_23 (by decide) ?_
  refine lv_istore_n (lv' := [(2, .int 0), (1, .int 1), (0, .ref (a 0))]) hx hb dX1_mark_24 rfl hl (by decide) rfl (fun ls hl => ?_)
  obtain ⟨n24, hw⟩ := hw
  refine wk_mMark_25 hx hb hml hown hts hA  n24 σ22 1 0 _ _ _ hI (lv_sub hl [2, 1, 0] rfl) hw (fun σ25 v26 v27 H locs ls hI hl hw => ?_)
  exact m_vret hx hb hr hlocks hI hw dX1_mark_150
end
section
/-! printed by gen.py: walks of BreakHeapModel -/
abbrev rm_mCollect : Room := { frames := 1, cells := 0, slots := 0, locals := 24 }
set_option maxHeartbeats 4000000 in
set_option maxRecDepth 100000 in
theorem wk_mCollect_6 {p : Program} {l : Launch} {e : Env} {s : State} {m : MethodId} {args : Array Value} {below : List Frame} {meth : Method} {c : Code} {Q : State → Prop} {D : va_G} {a : Nat → Nat} {k : Nat → ClassId} {A : Nat → Prop} (hx : p.tables.exec = Jvm.exec) (hb : c.code = cX1_collect) (hml : c.maxLocals = 2) (hown : s.vm.findClass RX1 = some m.cls) (hts : ∀ w ∈ lw_all, w.before args s = true) (hA : ∀ q : Nat, s.heap.size ≤ q → A q)  {K : St → Int32 → Prop} :
    ∀ (n : Nat) (σ : St) (x1 : Int32) (H : Heap) (locs : List Loc) (ls : Array Slot), mI D a k A s σ H locs → lv_has ls 2 [(0, .ref (a 0)), (1, .int x1)] → w_mCollect_6 K n σ x1 → (∀ (σ : St) (x1 : Int32) (H : Heap) (locs : List Loc) (ls : Array Slot), mI D a k A s σ H locs → lv_has ls 2 [(0, .ref (a 0)), (1, .int x1)] → K σ x1 → W p l e rm_mCollect s m args below meth c H locs 0 0 Q (F0 m 34 ls [])) → W p l e rm_mCollect s m args below meth c H locs 0 0 Q (F0 m 6 ls []) := by
  intro n
  induction n with
  | zero => intro σ x1 H locs ls hI hl hw; exact hw.elim
  | succ n ih =>
    intro σ x1 H locs ls hI hl hw hK
    rw [w_mCollect_6] at hw
    refine lv_iload_n hx hb dX1_collect_6 rfl (lv_at hl 1 rfl) ?_
    refine lv_bipush (v := 36) hx hb dX1_collect_7 (by decide) ?_
    refine lv_icmp_ge (tgt := 34) hx hb dX1_collect_9 (by decide) (fun c_ => ?_) (fun c_ => ?_)
    · have hw := hw.1 c_
      exact hK σ x1 _ _ _ hI (lv_sub hl [0, 1] rfl) hw
    have hw := hw.2 c_
    refine lv_aload_n hx hb dX1_collect_12 rfl (lv_at hl 0 rfl) ?_
    refine m_get hx hb hts hown hI 3 (by decide) rfl q144 (v := .ref (a 4)) rfl dX1_collect_13 ?_
    refine lv_iload_n hx hb dX1_collect_16 rfl (lv_at hl 1 rfl) ?_
    obtain ⟨g3, hw⟩ := hw
    refine va_zald hx hb hI.1 hI.2.1 4 3 rfl rfl g3 dX1_collect_17 ?_
    refine lv_if_ne (tgt := 28) hx hb dX1_collect_18 (by decide) (fun c_ => ?_) (fun c_ => ?_)
    · have hw := hw.2 c_
      refine lv_iinc (v := (x1 + 1)) (lv' := [(1, .int (x1 + 1)), (0, .ref (a 0))]) hx hb dX1_collect_28 hl (k := 1) rfl rfl (by decide) rfl (fun ls hl => ?_)
      refine lv_goto (tgt := 6) hx hb dX1_collect_31 (by decide) ?_
      exact ih σ (x1 + 1) _ _ _ hI (lv_sub hl [1, 0] rfl) hw hK
    have hw := hw.1 c_
    refine lv_aload_n hx hb dX1_collect_21 rfl (lv_at hl 0 rfl) ?_
    refine m_get hx hb hts hown hI 2 (by decide) rfl q143 (v := .ref (a 3)) rfl dX1_collect_22 ?_
    refine lv_iload_n hx hb dX1_collect_25 rfl (lv_at hl 1 rfl) ?_
    refine lv_iconst (v := 0) hx hb dX1_collect_26 (by decide) ?_
    obtain ⟨g2, hw⟩ := hw
    refine m_iast hx hb hI 3 2 rfl rfl (m_s2 _ _ _ _ _) g2 dX1_collect_27 (fun σ1 H locs e_σ1 hI => ?_)
    have hw := hw σ1 e_σ1
    refine lv_iinc (v := (x1 + 1)) (lv' := [(1, .int (x1 + 1)), (0, .ref (a 0))]) hx hb dX1_collect_28 hl (k := 1) rfl rfl (by decide) rfl (fun ls hl => ?_)
    refine lv_goto (tgt := 6) hx hb dX1_collect_31 (by decide) ?_
    exact ih σ1 (x1 + 1) _ _ _ hI (lv_sub hl [1, 0] rfl) hw hK
set_option maxHeartbeats 4000000 in
set_option maxRecDepth 100000 in
theorem met_mCollect (l : Launch) (D : va_G) (a : Nat → Nat) (k : Nat → ClassId) (σ : St) {P : Int32 → St → Prop} (hw : w_mCollect P σ ) (sz : Nat) : Met l yX1_collect (ws_ yX1_collect cX1_collect 2 (some .int)) rm_mCollect (mPc D a k σ sz []) (va_Qi P (mB D a k (va_A (mW a k σ) sz)) (va_A (mW a k σ) sz)) 0 0 (va_A (mW a k σ) sz) := by
  refine Met.ofW (cc := cX1_collect) (maxL := 2) (ret := (some .int)) (by decide) rfl ?_
  intro p e s m args below meth c s₁ B hml hv
  obtain ⟨rfl, hI, hA⟩ := m_start hv
  have hx := B.exec
  have hb := B.bytes
  have hr := B.returns
  have hlocks := B.notSynchronized
  have hts := atoms_spec (ws := (ws_ yX1_collect cX1_collect 2 (some .int))) B.pre
  have hts : ∀ w ∈ lw_all, w.before _ s = true := fun w h => hts w (List.mem_cons_of_mem _ h)
  have hown : s.vm.findClass RX1 = some m.cls := findClass_of_methodNamed B.named
  generalize va_A (mW a k σ) sz = A at hI hA ⊢
  have hl := lv_entry ([.ref (a 0)]) (n := 2) (Nat.le_of_ble_eq_true rfl)
  rw [lg_entry_eq]
  generalize (lg_sl ([.ref (a 0)]) ++ List.replicate (2 - (lg_sl ([.ref (a 0)])).length) Slot.unset).toArray = ls at hl ⊢
  have hl : lv_has ls 2 [(0, .ref (a 0))] := hl
  change W p l e rm_mCollect s m _ below meth c s.heap [] 0 0 _ (F0 m 0 ls [])
  unfold w_mCollect at hw
  refine lv_aload_n hx hb dX1_collect_0 rfl (lv_at hl 0 rfl) ?_
  refine m_callv (As := []) ⟨hx, hb, hml, hown, hts⟩ (met_mMark l D a k σ hw) (cwV 0 hts (lw_V q169 q171 qs8 q15 q172) rfl rfl rfl (by decide +kernel) ⟨Nat.le_of_ble_eq_true rfl, Nat.le_of_ble_eq_true rfl⟩) hI hA rfl hl.1 rfl (Nat.le_of_ble_eq_true rfl) dX1_collect_1 ⟨Nat.le_of_ble_eq_true rfl, Nat.le_of_ble_eq_true rfl⟩ (fun σ4 H locs hw hI => ?_)
  refine lv_iconst (v := 0) hx hb dX1_collect_4 (by decide) ?_
  refine lv_istore_n (lv' := [(1, .int 0), (0, .ref (a 0))]) hx hb dX1_collect_5 rfl hl (by decide) rfl (fun ls hl => ?_)
  obtain ⟨n5, hw⟩ := hw
  refine wk_mCollect_6 hx hb hml hown hts hA  n5 σ4 0 _ _ _ hI (lv_sub hl [1, 0] rfl) hw (fun σ6 v7 H locs ls hI hl hw => ?_)
  refine lv_aload_n hx hb dX1_collect_34 rfl (lv_at hl 0 rfl) ?_
  refine m_calli (As := []) ⟨hx, hb, hml, hown, hts⟩ (met_mUsed l D a k σ6 hw) (cwV 0 hts (lw_V q161 q162 q163 q15 q164) rfl rfl rfl (by decide +kernel) ⟨Nat.le_of_ble_eq_true rfl, Nat.le_of_ble_eq_true rfl⟩) hI hA rfl hl.1 rfl (Nat.le_of_ble_eq_true rfl) dX1_collect_35 ⟨Nat.le_of_ble_eq_true rfl, Nat.le_of_ble_eq_true rfl⟩ (fun r9 σ8 H locs hw hI => ?_)
  exact m_iret hx hb hr hlocks hI hw dX1_collect_38
abbrev rm_mMake : Room := { frames := 2, cells := 0, slots := 0, locals := 45 }
set_option maxHeartbeats 4000000 in
set_option maxRecDepth 100000 in
theorem wk_mMake_69 {p : Program} {l : Launch} {e : Env} {s : State} {m : MethodId} {args : Array Value} {below : List Frame} {meth : Method} {c : Code} {Q : State → Prop} {D : va_G} {a : Nat → Nat} {k : Nat → ClassId} {A : Nat → Prop} (hx : p.tables.exec = Jvm.exec) (hb : c.code = cX1_make) (hml : c.maxLocals = 5) (hown : s.vm.findClass RX1 = some m.cls) (hts : ∀ w ∈ lw_all, w.before args s = true) (hA : ∀ q : Nat, s.heap.size ≤ q → A q) (x1 : Int32) (x2 : Int32) (x3 : Int32) {K : St → Int32 → Prop} :
    ∀ (n : Nat) (σ : St) (x4 : Int32) (H : Heap) (locs : List Loc) (ls : Array Slot), mI D a k A s σ H locs → lv_has ls 5 [(0, .ref (a 0)), (1, .int x1), (2, .int x2), (3, .int x3), (4, .int x4)] → w_mMake_69 x1 x2 x3 K n σ x4 → (∀ (σ : St) (x4 : Int32) (H : Heap) (locs : List Loc) (ls : Array Slot), mI D a k A s σ H locs → lv_has ls 5 [(0, .ref (a 0)), (1, .int x1), (2, .int x2), (3, .int x3), (4, .int x4)] → K σ x4 → W p l e rm_mMake s m args below meth c H locs 0 0 Q (F0 m 98 ls [])) → W p l e rm_mMake s m args below meth c H locs 0 0 Q (F0 m 69 ls []) := by
  intro n
  induction n with
  | zero => intro σ x4 H locs ls hI hl hw; exact hw.elim
  | succ n ih =>
    intro σ x4 H locs ls hI hl hw hK
    rw [w_mMake_69] at hw
    refine lv_iload hx hb dX1_make_69 (lv_at hl 4 rfl) ?_
    refine lv_bipush (v := 6) hx hb dX1_make_71 (by decide) ?_
    refine lv_icmp_ge (tgt := 98) hx hb dX1_make_73 (by decide) (fun c_ => ?_) (fun c_ => ?_)
    · have hw := hw.1 c_
      exact hK σ x4 _ _ _ hI (lv_sub hl [0, 1, 2, 3, 4] rfl) hw
    have hw := hw.2 c_
    refine lv_aload_n hx hb dX1_make_76 rfl (lv_at hl 0 rfl) ?_
    refine lv_bipush (v := 6) hx hb dX1_make_77 (by decide) ?_
    refine lv_bipush (v := 6) hx hb dX1_make_79 (by decide) ?_
    refine lv_iload_n hx hb dX1_make_81 rfl (lv_at hl 3 rfl) ?_
    refine lv_imul hx hb dX1_make_82 ?_
    refine lv_iadd hx hb dX1_make_83 ?_
    refine lv_iload hx hb dX1_make_84 (lv_at hl 4 rfl) ?_
    refine lv_iadd hx hb dX1_make_86 ?_
    refine lv_iconst (v := 0) hx hb dX1_make_87 (by decide) ?_
    refine lv_iconst (v := 0) hx hb dX1_make_88 (by decide) ?_
    refine m_callv (As := [.int ((6 + (6 * x3)) + x4), .int 0, .int 0]) ⟨hx, hb, hml, hown, hts⟩ (met_mSet l D a k σ ((6 + (6 * x3)) + x4) 0 0 hw) (cwV 3 hts (lw_V q177 q179 qs10 q15 q180) rfl rfl rfl (by decide +kernel) ⟨Nat.le_of_ble_eq_true rfl, Nat.le_of_ble_eq_true rfl⟩) hI hA rfl hl.1 rfl (Nat.le_of_ble_eq_true rfl) dX1_make_89 ⟨Nat.le_of_ble_eq_true rfl, Nat.le_of_ble_eq_true rfl⟩ (fun σ1 H locs hw hI => ?_)
    refine lv_iinc (v := (x4 + 1)) (lv' := [(4, .int (x4 + 1)), (0, .ref (a 0)), (1, .int x1), (2, .int x2), (3, .int x3)]) hx hb dX1_make_92 hl (k := 4) rfl rfl (by decide) rfl (fun ls hl => ?_)
    refine lv_goto (tgt := 69) hx hb dX1_make_95 (by decide) ?_
    exact ih σ1 (x4 + 1) _ _ _ hI (lv_sub hl [1, 2, 3, 4, 0] rfl) hw hK
set_option maxHeartbeats 4000000 in
set_option maxRecDepth 100000 in
theorem met_mMake (l : Launch) (D : va_G) (a : Nat → Nat) (k : Nat → ClassId) (σ : St) (x1 x2 : Int32) {P : Int32 → St → Prop} (hw : w_mMake P σ x1 x2) (sz : Nat) : Met l yX1_make (ws_ yX1_make cX1_make 5 (some .int)) rm_mMake (mPc D a k σ sz [.int x1, .int x2]) (va_Qi P (mB D a k (va_A (mW a k σ) sz)) (va_A (mW a k σ) sz)) 0 0 (va_A (mW a k σ) sz) := by
  refine Met.ofW (cc := cX1_make) (maxL := 5) (ret := (some .int)) (by decide) rfl ?_
  intro p e s m args below meth c s₁ B hml hv
  obtain ⟨rfl, hI, hA⟩ := m_start hv
  have hx := B.exec
  have hb := B.bytes
  have hr := B.returns
  have hlocks := B.notSynchronized
  have hts := atoms_spec (ws := (ws_ yX1_make cX1_make 5 (some .int))) B.pre
  have hts : ∀ w ∈ lw_all, w.before _ s = true := fun w h => hts w (List.mem_cons_of_mem _ h)
  have hown : s.vm.findClass RX1 = some m.cls := findClass_of_methodNamed B.named
  generalize va_A (mW a k σ) sz = A at hI hA ⊢
  have hl := lv_entry ([.ref (a 0), .int x1, .int x2]) (n := 5) (Nat.le_of_ble_eq_true rfl)
  rw [lg_entry_eq]
  generalize (lg_sl ([.ref (a 0), .int x1, .int x2]) ++ List.replicate (5 - (lg_sl ([.ref (a 0), .int x1, .int x2])).length) Slot.unset).toArray = ls at hl ⊢
  have hl : lv_has ls 5 [(0, .ref (a 0)), (1, .int x1), (2, .int x2)] := hl
  change W p l e rm_mMake s m _ below meth c s.heap [] 0 0 _ (F0 m 0 ls [])
  unfold w_mMake at hw
  refine lv_iload_n hx hb dX1_make_0 rfl (lv_at hl 1 rfl) ?_
  refine s_call ⟨hx, hb, hml, hown, hts⟩ (met_mBad l x1) (va_cwS 1 hts (lw_S q158 q159 q15 q160) rfl rfl rfl (by decide +kernel) ⟨Nat.le_of_ble_eq_true rfl, Nat.le_of_ble_eq_true rfl⟩) rfl hl.1 rfl (Nat.le_of_ble_eq_true rfl) dX1_make_1 ⟨Nat.le_of_ble_eq_true rfl, Nat.le_of_ble_eq_true rfl⟩ ?_
  refine lv_if_ne (tgt := 18) hx hb dX1_make_4 (by decide) (fun c_ => ?_) (fun c_ => ?_)
  · have hw := hw.2 c_
    refine lv_iconst (v := -1) hx hb dX1_make_18 (by decide) ?_
    exact m_iret hx hb hr hlocks hI hw dX1_make_19
  have hw := hw.1 c_
  refine lv_iload_n hx hb dX1_make_7 rfl (lv_at hl 2 rfl) ?_
  refine lv_iconst (v := 1) hx hb dX1_make_8 (by decide) ?_
  refine lv_icmp_lt (tgt := 18) hx hb dX1_make_9 (by decide) (fun c_ => ?_) (fun c_ => ?_)
  · have hw := hw.1 c_
    refine lv_iconst (v := -1) hx hb dX1_make_18 (by decide) ?_
    exact m_iret hx hb hr hlocks hI hw dX1_make_19
  have hw := hw.2 c_
  refine lv_iload_n hx hb dX1_make_12 rfl (lv_at hl 2 rfl) ?_
  refine lv_bipush (v := 6) hx hb dX1_make_13 (by decide) ?_
  refine lv_icmp_le (tgt := 20) hx hb dX1_make_15 (by decide) (fun c_ => ?_) (fun c_ => ?_)
  · have hw := hw.1 c_
    refine lv_bipush (v := 72) hx hb dX1_make_20 (by decide) ?_
    refine lv_aload_n hx hb dX1_make_22 rfl (lv_at hl 0 rfl) ?_
    refine m_calli (As := []) ⟨hx, hb, hml, hown, hts⟩ (met_mUsed l D a k σ hw) (cwV 0 hts (lw_V q161 q162 q163 q15 q164) rfl rfl rfl (by decide +kernel) ⟨Nat.le_of_ble_eq_true rfl, Nat.le_of_ble_eq_true rfl⟩) hI hA rfl hl.1 rfl (Nat.le_of_ble_eq_true rfl) dX1_make_23 ⟨Nat.le_of_ble_eq_true rfl, Nat.le_of_ble_eq_true rfl⟩ (fun r3 σ2 H locs hw hI => ?_)
    refine lv_isub hx hb dX1_make_26 ?_
    refine lv_iload_n hx hb dX1_make_27 rfl (lv_at hl 2 rfl) ?_
    refine lv_iconst (v := 1) hx hb dX1_make_28 (by decide) ?_
    refine lv_iadd hx hb dX1_make_29 ?_
    refine lv_icmp_ge (tgt := 38) hx hb dX1_make_30 (by decide) (fun c_ => ?_) (fun c_ => ?_)
    · have hw := hw.1 c_
      refine lv_bipush (v := 72) hx hb dX1_make_38 (by decide) ?_
      refine lv_aload_n hx hb dX1_make_40 rfl (lv_at hl 0 rfl) ?_
      refine m_calli (As := []) ⟨hx, hb, hml, hown, hts⟩ (met_mUsed l D a k σ2 hw) (cwV 0 hts (lw_V q161 q162 q163 q15 q164) rfl rfl rfl (by decide +kernel) ⟨Nat.le_of_ble_eq_true rfl, Nat.le_of_ble_eq_true rfl⟩) hI hA rfl hl.1 rfl (Nat.le_of_ble_eq_true rfl) dX1_make_41 ⟨Nat.le_of_ble_eq_true rfl, Nat.le_of_ble_eq_true rfl⟩ (fun r5 σ4 H locs hw hI => ?_)
      refine lv_isub hx hb dX1_make_44 ?_
      refine lv_iload_n hx hb dX1_make_45 rfl (lv_at hl 2 rfl) ?_
      refine lv_iconst (v := 1) hx hb dX1_make_46 (by decide) ?_
      refine lv_iadd hx hb dX1_make_47 ?_
      refine lv_icmp_ge (tgt := 54) hx hb dX1_make_48 (by decide) (fun c_ => ?_) (fun c_ => ?_)
      · have hw := hw.1 c_
        refine lv_aload_n hx hb dX1_make_54 rfl (lv_at hl 0 rfl) ?_
        refine m_calli (As := []) ⟨hx, hb, hml, hown, hts⟩ (met_mUnused l D a k σ4 hw) (cwV 0 hts (lw_V q173 q175 qs9 q15 q176) rfl rfl rfl (by decide +kernel) ⟨Nat.le_of_ble_eq_true rfl, Nat.le_of_ble_eq_true rfl⟩) hI hA rfl hl.1 rfl (Nat.le_of_ble_eq_true rfl) dX1_make_55 ⟨Nat.le_of_ble_eq_true rfl, Nat.le_of_ble_eq_true rfl⟩ (fun r7 σ6 H locs hw hI => ?_)
        refine lv_istore_n (lv' := [(3, .int r7), (0, .ref (a 0)), (1, .int x1), (2, .int x2)]) hx hb dX1_make_58 rfl hl (by decide) rfl (fun ls hl => ?_)
        refine lv_aload_n hx hb dX1_make_59 rfl (lv_at hl 1 rfl) ?_
        refine m_get hx hb hts hown hI 2 (by decide) rfl q143 (v := .ref (a 3)) rfl dX1_make_60 ?_
        refine lv_iload_n hx hb dX1_make_63 rfl (lv_at hl 0 rfl) ?_
        refine lv_iload_n hx hb dX1_make_64 rfl (lv_at hl 3 rfl) ?_
        obtain ⟨g9, hw⟩ := hw
        refine m_iast hx hb hI 3 2 rfl rfl (m_s2 _ _ _ _ _) g9 dX1_make_65 (fun σ8 H locs e_σ8 hI => ?_)
        have hw := hw σ8 e_σ8
        refine lv_iconst (v := 0) hx hb dX1_make_66 (by decide) ?_
        refine lv_istore (lv' := [(4, .int 0), (3, .int r7), (0, .ref (a 0)), (1, .int x1), (2, .int x2)]) hx hb dX1_make_67 hl (by decide) rfl (fun ls hl => ?_)
        obtain ⟨n10, hw⟩ := hw
        refine wk_mMake_69 hx hb hml hown hts hA x1 x2 r7 n10 σ8 0 _ _ _ hI (lv_sub hl [2, 3, 4, 1, 0] rfl) hw (fun σ11 v12 H locs ls hI hl hw => ?_)
        refine lv_aload_n hx hb dX1_make_98 rfl (lv_at hl 0 rfl) ?_
        refine lv_iload_n hx hb dX1_make_99 rfl (lv_at hl 1 rfl) ?_
        refine lv_iconst (v := 1) hx hb dX1_make_100 (by decide) ?_
        refine lv_iload_n hx hb dX1_make_101 rfl (lv_at hl 3 rfl) ?_
        refine m_callv (As := [.int x1, .int 1, .int r7]) ⟨hx, hb, hml, hown, hts⟩ (met_mSet l D a k σ11 x1 1 r7 hw) (cwV 3 hts (lw_V q177 q179 qs10 q15 q180) rfl rfl rfl (by decide +kernel) ⟨Nat.le_of_ble_eq_true rfl, Nat.le_of_ble_eq_true rfl⟩) hI hA rfl hl.1 rfl (Nat.le_of_ble_eq_true rfl) dX1_make_102 ⟨Nat.le_of_ble_eq_true rfl, Nat.le_of_ble_eq_true rfl⟩ (fun σ13 H locs hw hI => ?_)
        refine lv_iconst (v := 0) hx hb dX1_make_105 (by decide) ?_
        exact m_iret hx hb hr hlocks hI hw dX1_make_106
      have hw := hw.2 c_
      refine lv_bipush (v := -2) hx hb dX1_make_51 (by decide) ?_
      exact m_iret hx hb hr hlocks hI hw dX1_make_53
    have hw := hw.2 c_
    refine lv_aload_n hx hb dX1_make_33 rfl (lv_at hl 0 rfl) ?_
    refine m_calli (As := []) ⟨hx, hb, hml, hown, hts⟩ (met_mCollect l D a k σ2 hw) (cwV 0 hts (lw_V q165 q166 q167 q15 q168) rfl rfl rfl (by decide +kernel) ⟨Nat.le_of_ble_eq_true rfl, Nat.le_of_ble_eq_true rfl⟩) hI hA rfl hl.1 rfl (Nat.le_of_ble_eq_true rfl) dX1_make_34 ⟨Nat.le_of_ble_eq_true rfl, Nat.le_of_ble_eq_true rfl⟩ (fun r15 σ14 H locs hw hI => ?_)
    refine lv_pop hx hb dX1_make_37 rfl ?_
    refine lv_bipush (v := 72) hx hb dX1_make_38 (by decide) ?_
    refine lv_aload_n hx hb dX1_make_40 rfl (lv_at hl 0 rfl) ?_
    refine m_calli (As := []) ⟨hx, hb, hml, hown, hts⟩ (met_mUsed l D a k σ14 hw) (cwV 0 hts (lw_V q161 q162 q163 q15 q164) rfl rfl rfl (by decide +kernel) ⟨Nat.le_of_ble_eq_true rfl, Nat.le_of_ble_eq_true rfl⟩) hI hA rfl hl.1 rfl (Nat.le_of_ble_eq_true rfl) dX1_make_41 ⟨Nat.le_of_ble_eq_true rfl, Nat.le_of_ble_eq_true rfl⟩ (fun r17 σ16 H locs hw hI => ?_)
    refine lv_isub hx hb dX1_make_44 ?_
    refine lv_iload_n hx hb dX1_make_45 rfl (lv_at hl 2 rfl) ?_
    refine lv_iconst (v := 1) hx hb dX1_make_46 (by decide) ?_
    refine lv_iadd hx hb dX1_make_47 ?_
    refine lv_icmp_ge (tgt := 54) hx hb dX1_make_48 (by decide) (fun c_ => ?_) (fun c_ => ?_)
    · have hw := hw.1 c_
      refine lv_aload_n hx hb dX1_make_54 rfl (lv_at hl 0 rfl) ?_
      refine m_calli (As := []) ⟨hx, hb, hml, hown, hts⟩ (met_mUnused l D a k σ16 hw) (cwV 0 hts (lw_V q173 q175 qs9 q15 q176) rfl rfl rfl (by decide +kernel) ⟨Nat.le_of_ble_eq_true rfl, Nat.le_of_ble_eq_true rfl⟩) hI hA rfl hl.1 rfl (Nat.le_of_ble_eq_true rfl) dX1_make_55 ⟨Nat.le_of_ble_eq_true rfl, Nat.le_of_ble_eq_true rfl⟩ (fun r19 σ18 H locs hw hI => ?_)
      refine lv_istore_n (lv' := [(3, .int r19), (0, .ref (a 0)), (1, .int x1), (2, .int x2)]) hx hb dX1_make_58 rfl hl (by decide) rfl (fun ls hl => ?_)
      refine lv_aload_n hx hb dX1_make_59 rfl (lv_at hl 1 rfl) ?_
      refine m_get hx hb hts hown hI 2 (by decide) rfl q143 (v := .ref (a 3)) rfl dX1_make_60 ?_
      refine lv_iload_n hx hb dX1_make_63 rfl (lv_at hl 0 rfl) ?_
      refine lv_iload_n hx hb dX1_make_64 rfl (lv_at hl 3 rfl) ?_
      obtain ⟨g21, hw⟩ := hw
      refine m_iast hx hb hI 3 2 rfl rfl (m_s2 _ _ _ _ _) g21 dX1_make_65 (fun σ20 H locs e_σ20 hI => ?_)
      have hw := hw σ20 e_σ20
      refine lv_iconst (v := 0) hx hb dX1_make_66 (by decide) ?_
      refine lv_istore (lv' := [(4, .int 0), (3, .int r19), (0, .ref (a 0)), (1, .int x1), (2, .int x2)]) hx hb dX1_make_67 hl (by decide) rfl (fun ls hl => ?_)
      obtain ⟨n22, hw⟩ := hw
      refine wk_mMake_69 hx hb hml hown hts hA x1 x2 r19 n22 σ20 0 _ _ _ hI (lv_sub hl [2, 3, 4, 1, 0] rfl) hw (fun σ23 v24 H locs ls hI hl hw => ?_)
      refine lv_aload_n hx hb dX1_make_98 rfl (lv_at hl 0 rfl) ?_
      refine lv_iload_n hx hb dX1_make_99 rfl (lv_at hl 1 rfl) ?_
      refine lv_iconst (v := 1) hx hb dX1_make_100 (by decide) ?_
      refine lv_iload_n hx hb dX1_make_101 rfl (lv_at hl 3 rfl) ?_
      refine m_callv (As := [.int x1, .int 1, .int r19]) ⟨hx, hb, hml, hown, hts⟩ (met_mSet l D a k σ23 x1 1 r19 hw) (cwV 3 hts (lw_V q177 q179 qs10 q15 q180) rfl rfl rfl (by decide +kernel) ⟨Nat.le_of_ble_eq_true rfl, Nat.le_of_ble_eq_true rfl⟩) hI hA rfl hl.1 rfl (Nat.le_of_ble_eq_true rfl) dX1_make_102 ⟨Nat.le_of_ble_eq_true rfl, Nat.le_of_ble_eq_true rfl⟩ (fun σ25 H locs hw hI => ?_)
      refine lv_iconst (v := 0) hx hb dX1_make_105 (by decide) ?_
      exact m_iret hx hb hr hlocks hI hw dX1_make_106
    have hw := hw.2 c_
    refine lv_bipush (v := -2) hx hb dX1_make_51 (by decide) ?_
    exact m_iret hx hb hr hlocks hI hw dX1_make_53
  have hw := hw.2 c_
  refine lv_iconst (v := -1) hx hb dX1_make_18 (by decide) ?_
  exact m_iret hx hb hr hlocks hI hw dX1_make_19
abbrev rm_mNumber : Room := { frames := 1, cells := 0, slots := 0, locals := 23 }
set_option maxHeartbeats 4000000 in
set_option maxRecDepth 100000 in
theorem met_mNumber (l : Launch) (D : va_G) (a : Nat → Nat) (k : Nat → ClassId) (σ : St) (x1 x2 : Int32) {P : Int32 → St → Prop} (hw : w_mNumber P σ x1 x2) (sz : Nat) : Met l yX1_number (ws_ yX1_number cX1_number 3 (some .int)) rm_mNumber (mPc D a k σ sz [.int x1, .int x2]) (va_Qi P (mB D a k (va_A (mW a k σ) sz)) (va_A (mW a k σ) sz)) 0 0 (va_A (mW a k σ) sz) := by
  refine Met.ofW (cc := cX1_number) (maxL := 3) (ret := (some .int)) (by decide) rfl ?_
  intro p e s m args below meth c s₁ B hml hv
  obtain ⟨rfl, hI, hA⟩ := m_start hv
  have hx := B.exec
  have hb := B.bytes
  have hr := B.returns
  have hlocks := B.notSynchronized
  have hts := atoms_spec (ws := (ws_ yX1_number cX1_number 3 (some .int))) B.pre
  have hts : ∀ w ∈ lw_all, w.before _ s = true := fun w h => hts w (List.mem_cons_of_mem _ h)
  have hown : s.vm.findClass RX1 = some m.cls := findClass_of_methodNamed B.named
  generalize va_A (mW a k σ) sz = A at hI hA ⊢
  have hl := lv_entry ([.ref (a 0), .int x1, .int x2]) (n := 3) (Nat.le_of_ble_eq_true rfl)
  rw [lg_entry_eq]
  generalize (lg_sl ([.ref (a 0), .int x1, .int x2]) ++ List.replicate (3 - (lg_sl ([.ref (a 0), .int x1, .int x2])).length) Slot.unset).toArray = ls at hl ⊢
  have hl : lv_has ls 3 [(0, .ref (a 0)), (1, .int x1), (2, .int x2)] := hl
  change W p l e rm_mNumber s m _ below meth c s.heap [] 0 0 _ (F0 m 0 ls [])
  unfold w_mNumber at hw
  refine lv_iload_n hx hb dX1_number_0 rfl (lv_at hl 1 rfl) ?_
  refine s_call ⟨hx, hb, hml, hown, hts⟩ (met_mBad l x1) (va_cwS 1 hts (lw_S q158 q159 q15 q160) rfl rfl rfl (by decide +kernel) ⟨Nat.le_of_ble_eq_true rfl, Nat.le_of_ble_eq_true rfl⟩) rfl hl.1 rfl (Nat.le_of_ble_eq_true rfl) dX1_number_1 ⟨Nat.le_of_ble_eq_true rfl, Nat.le_of_ble_eq_true rfl⟩ ?_
  refine lv_if_eq (tgt := 9) hx hb dX1_number_4 (by decide) (fun c_ => ?_) (fun c_ => ?_)
  · have hw := hw.1 c_
    refine lv_aload_n hx hb dX1_number_9 rfl (lv_at hl 0 rfl) ?_
    refine lv_iload_n hx hb dX1_number_10 rfl (lv_at hl 1 rfl) ?_
    refine lv_iconst (v := 0) hx hb dX1_number_11 (by decide) ?_
    refine lv_iload_n hx hb dX1_number_12 rfl (lv_at hl 2 rfl) ?_
    refine m_callv (As := [.int x1, .int 0, .int x2]) ⟨hx, hb, hml, hown, hts⟩ (met_mSet l D a k σ x1 0 x2 hw) (cwV 3 hts (lw_V q177 q179 qs10 q15 q180) rfl rfl rfl (by decide +kernel) ⟨Nat.le_of_ble_eq_true rfl, Nat.le_of_ble_eq_true rfl⟩) hI hA rfl hl.1 rfl (Nat.le_of_ble_eq_true rfl) dX1_number_13 ⟨Nat.le_of_ble_eq_true rfl, Nat.le_of_ble_eq_true rfl⟩ (fun σ1 H locs hw hI => ?_)
    refine lv_iconst (v := 0) hx hb dX1_number_16 (by decide) ?_
    exact m_iret hx hb hr hlocks hI hw dX1_number_17
  have hw := hw.2 c_
  refine lv_iconst (v := -1) hx hb dX1_number_7 (by decide) ?_
  exact m_iret hx hb hr hlocks hI hw dX1_number_8
abbrev rm_mMove : Room := { frames := 2, cells := 0, slots := 0, locals := 45 }
set_option maxHeartbeats 4000000 in
set_option maxRecDepth 100000 in
theorem met_mMove (l : Launch) (D : va_G) (a : Nat → Nat) (k : Nat → ClassId) (σ : St) (x1 x2 : Int32) {P : Int32 → St → Prop} (hw : w_mMove P σ x1 x2) (sz : Nat) : Met l yX1_move (ws_ yX1_move cX1_move 3 (some .int)) rm_mMove (mPc D a k σ sz [.int x1, .int x2]) (va_Qi P (mB D a k (va_A (mW a k σ) sz)) (va_A (mW a k σ) sz)) 0 0 (va_A (mW a k σ) sz) := by
  refine Met.ofW (cc := cX1_move) (maxL := 3) (ret := (some .int)) (by decide) rfl ?_
  intro p e s m args below meth c s₁ B hml hv
  obtain ⟨rfl, hI, hA⟩ := m_start hv
  have hx := B.exec
  have hb := B.bytes
  have hr := B.returns
  have hlocks := B.notSynchronized
  have hts := atoms_spec (ws := (ws_ yX1_move cX1_move 3 (some .int))) B.pre
  have hts : ∀ w ∈ lw_all, w.before _ s = true := fun w h => hts w (List.mem_cons_of_mem _ h)
  have hown : s.vm.findClass RX1 = some m.cls := findClass_of_methodNamed B.named
  generalize va_A (mW a k σ) sz = A at hI hA ⊢
  have hl := lv_entry ([.ref (a 0), .int x1, .int x2]) (n := 3) (Nat.le_of_ble_eq_true rfl)
  rw [lg_entry_eq]
  generalize (lg_sl ([.ref (a 0), .int x1, .int x2]) ++ List.replicate (3 - (lg_sl ([.ref (a 0), .int x1, .int x2])).length) Slot.unset).toArray = ls at hl ⊢
  have hl : lv_has ls 3 [(0, .ref (a 0)), (1, .int x1), (2, .int x2)] := hl
  change W p l e rm_mMove s m _ below meth c s.heap [] 0 0 _ (F0 m 0 ls [])
  unfold w_mMove at hw
  refine lv_iload_n hx hb dX1_move_0 rfl (lv_at hl 1 rfl) ?_
  refine s_call ⟨hx, hb, hml, hown, hts⟩ (met_mBad l x1) (va_cwS 1 hts (lw_S q158 q159 q15 q160) rfl rfl rfl (by decide +kernel) ⟨Nat.le_of_ble_eq_true rfl, Nat.le_of_ble_eq_true rfl⟩) rfl hl.1 rfl (Nat.le_of_ble_eq_true rfl) dX1_move_1 ⟨Nat.le_of_ble_eq_true rfl, Nat.le_of_ble_eq_true rfl⟩ ?_
  refine lv_if_ne (tgt := 14) hx hb dX1_move_4 (by decide) (fun c_ => ?_) (fun c_ => ?_)
  · have hw := hw.2 c_
    refine lv_iconst (v := -1) hx hb dX1_move_14 (by decide) ?_
    exact m_iret hx hb hr hlocks hI hw dX1_move_15
  have hw := hw.1 c_
  refine lv_iload_n hx hb dX1_move_7 rfl (lv_at hl 2 rfl) ?_
  refine s_call ⟨hx, hb, hml, hown, hts⟩ (met_mBad l x2) (va_cwS 1 hts (lw_S q158 q159 q15 q160) rfl rfl rfl (by decide +kernel) ⟨Nat.le_of_ble_eq_true rfl, Nat.le_of_ble_eq_true rfl⟩) rfl hl.1 rfl (Nat.le_of_ble_eq_true rfl) dX1_move_8 ⟨Nat.le_of_ble_eq_true rfl, Nat.le_of_ble_eq_true rfl⟩ ?_
  refine lv_if_eq (tgt := 16) hx hb dX1_move_11 (by decide) (fun c_ => ?_) (fun c_ => ?_)
  · have hw := hw.1 c_
    refine lv_aload_n hx hb dX1_move_16 rfl (lv_at hl 0 rfl) ?_
    refine lv_iload_n hx hb dX1_move_17 rfl (lv_at hl 1 rfl) ?_
    refine lv_iload_n hx hb dX1_move_18 rfl (lv_at hl 2 rfl) ?_
    refine m_callv (As := [.int x1, .int x2]) ⟨hx, hb, hml, hown, hts⟩ (met_mTake l D a k σ x1 x2 hw) (cwV 2 hts (lw_V q189 q191 qs11 q15 q192) rfl rfl rfl (by decide +kernel) ⟨Nat.le_of_ble_eq_true rfl, Nat.le_of_ble_eq_true rfl⟩) hI hA rfl hl.1 rfl (Nat.le_of_ble_eq_true rfl) dX1_move_19 ⟨Nat.le_of_ble_eq_true rfl, Nat.le_of_ble_eq_true rfl⟩ (fun σ1 H locs hw hI => ?_)
    refine lv_iconst (v := 0) hx hb dX1_move_22 (by decide) ?_
    exact m_iret hx hb hr hlocks hI hw dX1_move_23
  have hw := hw.2 c_
  refine lv_iconst (v := -1) hx hb dX1_move_14 (by decide) ?_
  exact m_iret hx hb hr hlocks hI hw dX1_move_15
abbrev rm_mPlace : Room := { frames := 0, cells := 0, slots := 0, locals := 0 }
set_option maxHeartbeats 4000000 in
set_option maxRecDepth 100000 in
theorem met_mPlace (l : Launch) (D : va_G) (a : Nat → Nat) (k : Nat → ClassId) (σ : St) (x1 x2 : Int32) {P : Int32 → St → Prop} (hw : w_mPlace P σ x1 x2) (sz : Nat) : Met l yX1_place (ws_ yX1_place cX1_place 3 (some .int)) rm_mPlace (mPc D a k σ sz [.int x1, .int x2]) (va_Qi P (mB D a k (va_A (mW a k σ) sz)) (va_A (mW a k σ) sz)) 0 0 (va_A (mW a k σ) sz) := by
  refine Met.ofW (cc := cX1_place) (maxL := 3) (ret := (some .int)) (by decide) rfl ?_
  intro p e s m args below meth c s₁ B hml hv
  obtain ⟨rfl, hI, hA⟩ := m_start hv
  have hx := B.exec
  have hb := B.bytes
  have hr := B.returns
  have hlocks := B.notSynchronized
  have hts := atoms_spec (ws := (ws_ yX1_place cX1_place 3 (some .int))) B.pre
  have hts : ∀ w ∈ lw_all, w.before _ s = true := fun w h => hts w (List.mem_cons_of_mem _ h)
  have hown : s.vm.findClass RX1 = some m.cls := findClass_of_methodNamed B.named
  generalize va_A (mW a k σ) sz = A at hI hA ⊢
  have hl := lv_entry ([.ref (a 0), .int x1, .int x2]) (n := 3) (Nat.le_of_ble_eq_true rfl)
  rw [lg_entry_eq]
  generalize (lg_sl ([.ref (a 0), .int x1, .int x2]) ++ List.replicate (3 - (lg_sl ([.ref (a 0), .int x1, .int x2])).length) Slot.unset).toArray = ls at hl ⊢
  have hl : lv_has ls 3 [(0, .ref (a 0)), (1, .int x1), (2, .int x2)] := hl
  change W p l e rm_mPlace s m _ below meth c s.heap [] 0 0 _ (F0 m 0 ls [])
  unfold w_mPlace at hw
  refine lv_aload_n hx hb dX1_place_0 rfl (lv_at hl 0 rfl) ?_
  refine m_get hx hb hts hown hI 0 (by decide) rfl q141 (v := .ref (a 1)) rfl dX1_place_1 ?_
  refine lv_iload_n hx hb dX1_place_4 rfl (lv_at hl 1 rfl) ?_
  obtain ⟨g4, hw⟩ := hw
  refine va_zald hx hb hI.1 hI.2.1 1 0 rfl rfl g4 dX1_place_5 ?_
  refine lv_if_eq (tgt := 28) hx hb dX1_place_6 (by decide) (fun c_ => ?_) (fun c_ => ?_)
  · have hw := hw.1 c_
    refine lv_iconst (v := -1) hx hb dX1_place_28 (by decide) ?_
    exact m_iret hx hb hr hlocks hI hw dX1_place_29
  have hw := hw.2 c_
  refine lv_iload_n hx hb dX1_place_9 rfl (lv_at hl 2 rfl) ?_
  refine lv_if_lt (tgt := 28) hx hb dX1_place_10 (by decide) (fun c_ => ?_) (fun c_ => ?_)
  · have hw := hw.1 c_
    refine lv_iconst (v := -1) hx hb dX1_place_28 (by decide) ?_
    exact m_iret hx hb hr hlocks hI hw dX1_place_29
  have hw := hw.2 c_
  refine lv_iload_n hx hb dX1_place_13 rfl (lv_at hl 2 rfl) ?_
  refine lv_aload_n hx hb dX1_place_14 rfl (lv_at hl 0 rfl) ?_
  refine m_get hx hb hts hown hI 2 (by decide) rfl q143 (v := .ref (a 3)) rfl dX1_place_15 ?_
  refine lv_aload_n hx hb dX1_place_18 rfl (lv_at hl 0 rfl) ?_
  refine m_get hx hb hts hown hI 1 (by decide) rfl q142 (v := .ref (a 2)) rfl dX1_place_19 ?_
  refine lv_iload_n hx hb dX1_place_22 rfl (lv_at hl 1 rfl) ?_
  obtain ⟨g3, hw⟩ := hw
  refine va_iald hx hb hI.1 hI.2.1 2 1 rfl rfl g3 dX1_place_23 ?_
  obtain ⟨g2, hw⟩ := hw
  refine va_iald hx hb hI.1 hI.2.1 3 2 rfl rfl g2 dX1_place_24 ?_
  refine lv_icmp_lt (tgt := 30) hx hb dX1_place_25 (by decide) (fun c_ => ?_) (fun c_ => ?_)
  · have hw := hw.1 c_
    refine lv_bipush (v := 6) hx hb dX1_place_30 (by decide) ?_
    refine lv_bipush (v := 6) hx hb dX1_place_32 (by decide) ?_
    refine lv_aload_n hx hb dX1_place_34 rfl (lv_at hl 0 rfl) ?_
    refine m_get hx hb hts hown hI 1 (by decide) rfl q142 (v := .ref (a 2)) rfl dX1_place_35 ?_
    refine lv_iload_n hx hb dX1_place_38 rfl (lv_at hl 1 rfl) ?_
    obtain ⟨g1, hw⟩ := hw
    refine va_iald hx hb hI.1 hI.2.1 2 1 rfl rfl g1 dX1_place_39 ?_
    refine lv_imul hx hb dX1_place_40 ?_
    refine lv_iadd hx hb dX1_place_41 ?_
    refine lv_iload_n hx hb dX1_place_42 rfl (lv_at hl 2 rfl) ?_
    refine lv_iadd hx hb dX1_place_43 ?_
    exact m_iret hx hb hr hlocks hI hw dX1_place_44
  have hw := hw.2 c_
  refine lv_iconst (v := -1) hx hb dX1_place_28 (by decide) ?_
  exact m_iret hx hb hr hlocks hI hw dX1_place_29
abbrev rm_mStore : Room := { frames := 2, cells := 0, slots := 0, locals := 45 }
set_option maxHeartbeats 4000000 in
set_option maxRecDepth 100000 in
theorem met_mStore (l : Launch) (D : va_G) (a : Nat → Nat) (k : Nat → ClassId) (σ : St) (x1 x2 x3 : Int32) {P : Int32 → St → Prop} (hw : w_mStore P σ x1 x2 x3) (sz : Nat) : Met l yX1_store (ws_ yX1_store cX1_store 5 (some .int)) rm_mStore (mPc D a k σ sz [.int x1, .int x2, .int x3]) (va_Qi P (mB D a k (va_A (mW a k σ) sz)) (va_A (mW a k σ) sz)) 0 0 (va_A (mW a k σ) sz) := by
  refine Met.ofW (cc := cX1_store) (maxL := 5) (ret := (some .int)) (by decide) rfl ?_
  intro p e s m args below meth c s₁ B hml hv
  obtain ⟨rfl, hI, hA⟩ := m_start hv
  have hx := B.exec
  have hb := B.bytes
  have hr := B.returns
  have hlocks := B.notSynchronized
  have hts := atoms_spec (ws := (ws_ yX1_store cX1_store 5 (some .int))) B.pre
  have hts : ∀ w ∈ lw_all, w.before _ s = true := fun w h => hts w (List.mem_cons_of_mem _ h)
  have hown : s.vm.findClass RX1 = some m.cls := findClass_of_methodNamed B.named
  generalize va_A (mW a k σ) sz = A at hI hA ⊢
  have hl := lv_entry ([.ref (a 0), .int x1, .int x2, .int x3]) (n := 5) (Nat.le_of_ble_eq_true rfl)
  rw [lg_entry_eq]
  generalize (lg_sl ([.ref (a 0), .int x1, .int x2, .int x3]) ++ List.replicate (5 - (lg_sl ([.ref (a 0), .int x1, .int x2, .int x3])).length) Slot.unset).toArray = ls at hl ⊢
  have hl : lv_has ls 5 [(0, .ref (a 0)), (1, .int x1), (2, .int x2), (3, .int x3)] := hl
  change W p l e rm_mStore s m _ below meth c s.heap [] 0 0 _ (F0 m 0 ls [])
  unfold w_mStore at hw
  refine lv_iload_n hx hb dX1_store_0 rfl (lv_at hl 1 rfl) ?_
  refine s_call ⟨hx, hb, hml, hown, hts⟩ (met_mBad l x1) (va_cwS 1 hts (lw_S q158 q159 q15 q160) rfl rfl rfl (by decide +kernel) ⟨Nat.le_of_ble_eq_true rfl, Nat.le_of_ble_eq_true rfl⟩) rfl hl.1 rfl (Nat.le_of_ble_eq_true rfl) dX1_store_1 ⟨Nat.le_of_ble_eq_true rfl, Nat.le_of_ble_eq_true rfl⟩ ?_
  refine lv_if_ne (tgt := 14) hx hb dX1_store_4 (by decide) (fun c_ => ?_) (fun c_ => ?_)
  · have hw := hw.2 c_
    refine lv_iconst (v := -1) hx hb dX1_store_14 (by decide) ?_
    exact m_iret hx hb hr hlocks hI hw dX1_store_15
  have hw := hw.1 c_
  refine lv_iload_n hx hb dX1_store_7 rfl (lv_at hl 3 rfl) ?_
  refine s_call ⟨hx, hb, hml, hown, hts⟩ (met_mBad l x3) (va_cwS 1 hts (lw_S q158 q159 q15 q160) rfl rfl rfl (by decide +kernel) ⟨Nat.le_of_ble_eq_true rfl, Nat.le_of_ble_eq_true rfl⟩) rfl hl.1 rfl (Nat.le_of_ble_eq_true rfl) dX1_store_8 ⟨Nat.le_of_ble_eq_true rfl, Nat.le_of_ble_eq_true rfl⟩ ?_
  refine lv_if_eq (tgt := 16) hx hb dX1_store_11 (by decide) (fun c_ => ?_) (fun c_ => ?_)
  · have hw := hw.1 c_
    refine lv_aload_n hx hb dX1_store_16 rfl (lv_at hl 0 rfl) ?_
    refine lv_iload_n hx hb dX1_store_17 rfl (lv_at hl 1 rfl) ?_
    refine lv_iload_n hx hb dX1_store_18 rfl (lv_at hl 2 rfl) ?_
    refine m_calli (As := [.int x1, .int x2]) ⟨hx, hb, hml, hown, hts⟩ (met_mPlace l D a k σ x1 x2 hw) (cwV 2 hts (lw_V q197 q199 qs12 q15 q200) rfl rfl rfl (by decide +kernel) ⟨Nat.le_of_ble_eq_true rfl, Nat.le_of_ble_eq_true rfl⟩) hI hA rfl hl.1 rfl (Nat.le_of_ble_eq_true rfl) dX1_store_19 ⟨Nat.le_of_ble_eq_true rfl, Nat.le_of_ble_eq_true rfl⟩ (fun r2 σ1 H locs hw hI => ?_)
    refine lv_istore (lv' := [(4, .int r2), (0, .ref (a 0)), (1, .int x1), (2, .int x2), (3, .int x3)]) hx hb dX1_store_22 hl (by decide) rfl (fun ls hl => ?_)
    refine lv_iload hx hb dX1_store_24 (lv_at hl 0 rfl) ?_
    refine lv_if_ge (tgt := 32) hx hb dX1_store_26 (by decide) (fun c_ => ?_) (fun c_ => ?_)
    · have hw := hw.1 c_
      refine lv_aload_n hx hb dX1_store_32 rfl (lv_at hl 1 rfl) ?_
      refine lv_iload hx hb dX1_store_33 (lv_at hl 0 rfl) ?_
      refine lv_iload_n hx hb dX1_store_35 rfl (lv_at hl 4 rfl) ?_
      refine m_callv (As := [.int r2, .int x3]) ⟨hx, hb, hml, hown, hts⟩ (met_mTake l D a k σ1 r2 x3 hw) (cwV 2 hts (lw_V q189 q191 qs11 q15 q192) rfl rfl rfl (by decide +kernel) ⟨Nat.le_of_ble_eq_true rfl, Nat.le_of_ble_eq_true rfl⟩) hI hA rfl hl.1 rfl (Nat.le_of_ble_eq_true rfl) dX1_store_36 ⟨Nat.le_of_ble_eq_true rfl, Nat.le_of_ble_eq_true rfl⟩ (fun σ3 H locs hw hI => ?_)
      refine lv_iconst (v := 0) hx hb dX1_store_39 (by decide) ?_
      exact m_iret hx hb hr hlocks hI hw dX1_store_40
    have hw := hw.2 c_
    refine lv_bipush (v := -3) hx hb dX1_store_29 (by decide) ?_
    exact m_iret hx hb hr hlocks hI hw dX1_store_31
  have hw := hw.2 c_
  refine lv_iconst (v := -1) hx hb dX1_store_14 (by decide) ?_
  exact m_iret hx hb hr hlocks hI hw dX1_store_15
abbrev rm_mLoad : Room := { frames := 2, cells := 0, slots := 0, locals := 45 }
set_option maxHeartbeats 4000000 in
set_option maxRecDepth 100000 in
theorem met_mLoad (l : Launch) (D : va_G) (a : Nat → Nat) (k : Nat → ClassId) (σ : St) (x1 x2 x3 : Int32) {P : Int32 → St → Prop} (hw : w_mLoad P σ x1 x2 x3) (sz : Nat) : Met l yX1_load (ws_ yX1_load cX1_load 5 (some .int)) rm_mLoad (mPc D a k σ sz [.int x1, .int x2, .int x3]) (va_Qi P (mB D a k (va_A (mW a k σ) sz)) (va_A (mW a k σ) sz)) 0 0 (va_A (mW a k σ) sz) := by
  refine Met.ofW (cc := cX1_load) (maxL := 5) (ret := (some .int)) (by decide) rfl ?_
  intro p e s m args below meth c s₁ B hml hv
  obtain ⟨rfl, hI, hA⟩ := m_start hv
  have hx := B.exec
  have hb := B.bytes
  have hr := B.returns
  have hlocks := B.notSynchronized
  have hts := atoms_spec (ws := (ws_ yX1_load cX1_load 5 (some .int))) B.pre
  have hts : ∀ w ∈ lw_all, w.before _ s = true := fun w h => hts w (List.mem_cons_of_mem _ h)
  have hown : s.vm.findClass RX1 = some m.cls := findClass_of_methodNamed B.named
  generalize va_A (mW a k σ) sz = A at hI hA ⊢
  have hl := lv_entry ([.ref (a 0), .int x1, .int x2, .int x3]) (n := 5) (Nat.le_of_ble_eq_true rfl)
  rw [lg_entry_eq]
  generalize (lg_sl ([.ref (a 0), .int x1, .int x2, .int x3]) ++ List.replicate (5 - (lg_sl ([.ref (a 0), .int x1, .int x2, .int x3])).length) Slot.unset).toArray = ls at hl ⊢
  have hl : lv_has ls 5 [(0, .ref (a 0)), (1, .int x1), (2, .int x2), (3, .int x3)] := hl
  change W p l e rm_mLoad s m _ below meth c s.heap [] 0 0 _ (F0 m 0 ls [])
  unfold w_mLoad at hw
  refine lv_iload_n hx hb dX1_load_0 rfl (lv_at hl 1 rfl) ?_
  refine s_call ⟨hx, hb, hml, hown, hts⟩ (met_mBad l x1) (va_cwS 1 hts (lw_S q158 q159 q15 q160) rfl rfl rfl (by decide +kernel) ⟨Nat.le_of_ble_eq_true rfl, Nat.le_of_ble_eq_true rfl⟩) rfl hl.1 rfl (Nat.le_of_ble_eq_true rfl) dX1_load_1 ⟨Nat.le_of_ble_eq_true rfl, Nat.le_of_ble_eq_true rfl⟩ ?_
  refine lv_if_ne (tgt := 14) hx hb dX1_load_4 (by decide) (fun c_ => ?_) (fun c_ => ?_)
  · have hw := hw.2 c_
    refine lv_iconst (v := -1) hx hb dX1_load_14 (by decide) ?_
    exact m_iret hx hb hr hlocks hI hw dX1_load_15
  have hw := hw.1 c_
  refine lv_iload_n hx hb dX1_load_7 rfl (lv_at hl 2 rfl) ?_
  refine s_call ⟨hx, hb, hml, hown, hts⟩ (met_mBad l x2) (va_cwS 1 hts (lw_S q158 q159 q15 q160) rfl rfl rfl (by decide +kernel) ⟨Nat.le_of_ble_eq_true rfl, Nat.le_of_ble_eq_true rfl⟩) rfl hl.1 rfl (Nat.le_of_ble_eq_true rfl) dX1_load_8 ⟨Nat.le_of_ble_eq_true rfl, Nat.le_of_ble_eq_true rfl⟩ ?_
  refine lv_if_eq (tgt := 16) hx hb dX1_load_11 (by decide) (fun c_ => ?_) (fun c_ => ?_)
  · have hw := hw.1 c_
    refine lv_aload_n hx hb dX1_load_16 rfl (lv_at hl 0 rfl) ?_
    refine lv_iload_n hx hb dX1_load_17 rfl (lv_at hl 2 rfl) ?_
    refine lv_iload_n hx hb dX1_load_18 rfl (lv_at hl 3 rfl) ?_
    refine m_calli (As := [.int x2, .int x3]) ⟨hx, hb, hml, hown, hts⟩ (met_mPlace l D a k σ x2 x3 hw) (cwV 2 hts (lw_V q197 q199 qs12 q15 q200) rfl rfl rfl (by decide +kernel) ⟨Nat.le_of_ble_eq_true rfl, Nat.le_of_ble_eq_true rfl⟩) hI hA rfl hl.1 rfl (Nat.le_of_ble_eq_true rfl) dX1_load_19 ⟨Nat.le_of_ble_eq_true rfl, Nat.le_of_ble_eq_true rfl⟩ (fun r2 σ1 H locs hw hI => ?_)
    refine lv_istore (lv' := [(4, .int r2), (0, .ref (a 0)), (1, .int x1), (2, .int x2), (3, .int x3)]) hx hb dX1_load_22 hl (by decide) rfl (fun ls hl => ?_)
    refine lv_iload hx hb dX1_load_24 (lv_at hl 0 rfl) ?_
    refine lv_if_ge (tgt := 32) hx hb dX1_load_26 (by decide) (fun c_ => ?_) (fun c_ => ?_)
    · have hw := hw.1 c_
      refine lv_aload_n hx hb dX1_load_32 rfl (lv_at hl 1 rfl) ?_
      refine lv_iload_n hx hb dX1_load_33 rfl (lv_at hl 2 rfl) ?_
      refine lv_iload hx hb dX1_load_34 (lv_at hl 0 rfl) ?_
      refine m_callv (As := [.int x1, .int r2]) ⟨hx, hb, hml, hown, hts⟩ (met_mTake l D a k σ1 x1 r2 hw) (cwV 2 hts (lw_V q189 q191 qs11 q15 q192) rfl rfl rfl (by decide +kernel) ⟨Nat.le_of_ble_eq_true rfl, Nat.le_of_ble_eq_true rfl⟩) hI hA rfl hl.1 rfl (Nat.le_of_ble_eq_true rfl) dX1_load_36 ⟨Nat.le_of_ble_eq_true rfl, Nat.le_of_ble_eq_true rfl⟩ (fun σ3 H locs hw hI => ?_)
      refine lv_iconst (v := 0) hx hb dX1_load_39 (by decide) ?_
      exact m_iret hx hb hr hlocks hI hw dX1_load_40
    have hw := hw.2 c_
    refine lv_bipush (v := -3) hx hb dX1_load_29 (by decide) ?_
    exact m_iret hx hb hr hlocks hI hw dX1_load_31
  have hw := hw.2 c_
  refine lv_iconst (v := -1) hx hb dX1_load_14 (by decide) ?_
  exact m_iret hx hb hr hlocks hI hw dX1_load_15
abbrev rm_mFields : Room := { frames := 1, cells := 0, slots := 0, locals := 20 }
set_option maxHeartbeats 4000000 in
set_option maxRecDepth 100000 in
theorem met_mFields (l : Launch) (D : va_G) (a : Nat → Nat) (k : Nat → ClassId) (σ : St) (x1 : Int32) {P : Int32 → St → Prop} (hw : w_mFields P σ x1) (sz : Nat) : Met l yX1_fields (ws_ yX1_fields cX1_fields 2 (some .int)) rm_mFields (mPc D a k σ sz [.int x1]) (va_Qi P (mB D a k (va_A (mW a k σ) sz)) (va_A (mW a k σ) sz)) 0 0 (va_A (mW a k σ) sz) := by
  refine Met.ofW (cc := cX1_fields) (maxL := 2) (ret := (some .int)) (by decide) rfl ?_
  intro p e s m args below meth c s₁ B hml hv
  obtain ⟨rfl, hI, hA⟩ := m_start hv
  have hx := B.exec
  have hb := B.bytes
  have hr := B.returns
  have hlocks := B.notSynchronized
  have hts := atoms_spec (ws := (ws_ yX1_fields cX1_fields 2 (some .int))) B.pre
  have hts : ∀ w ∈ lw_all, w.before _ s = true := fun w h => hts w (List.mem_cons_of_mem _ h)
  have hown : s.vm.findClass RX1 = some m.cls := findClass_of_methodNamed B.named
  generalize va_A (mW a k σ) sz = A at hI hA ⊢
  have hl := lv_entry ([.ref (a 0), .int x1]) (n := 2) (Nat.le_of_ble_eq_true rfl)
  rw [lg_entry_eq]
  generalize (lg_sl ([.ref (a 0), .int x1]) ++ List.replicate (2 - (lg_sl ([.ref (a 0), .int x1])).length) Slot.unset).toArray = ls at hl ⊢
  have hl : lv_has ls 2 [(0, .ref (a 0)), (1, .int x1)] := hl
  change W p l e rm_mFields s m _ below meth c s.heap [] 0 0 _ (F0 m 0 ls [])
  unfold w_mFields at hw
  refine lv_iload_n hx hb dX1_fields_0 rfl (lv_at hl 1 rfl) ?_
  refine s_call ⟨hx, hb, hml, hown, hts⟩ (met_mBad l x1) (va_cwS 1 hts (lw_S q158 q159 q15 q160) rfl rfl rfl (by decide +kernel) ⟨Nat.le_of_ble_eq_true rfl, Nat.le_of_ble_eq_true rfl⟩) rfl hl.1 rfl (Nat.le_of_ble_eq_true rfl) dX1_fields_1 ⟨Nat.le_of_ble_eq_true rfl, Nat.le_of_ble_eq_true rfl⟩ ?_
  refine lv_if_eq (tgt := 9) hx hb dX1_fields_4 (by decide) (fun c_ => ?_) (fun c_ => ?_)
  · have hw := hw.1 c_
    refine lv_aload_n hx hb dX1_fields_9 rfl (lv_at hl 0 rfl) ?_
    refine m_get hx hb hts hown hI 0 (by decide) rfl q141 (v := .ref (a 1)) rfl dX1_fields_10 ?_
    refine lv_iload_n hx hb dX1_fields_13 rfl (lv_at hl 1 rfl) ?_
    obtain ⟨g3, hw⟩ := hw
    refine va_zald hx hb hI.1 hI.2.1 1 0 rfl rfl g3 dX1_fields_14 ?_
    refine lv_if_eq (tgt := 32) hx hb dX1_fields_15 (by decide) (fun c_ => ?_) (fun c_ => ?_)
    · have hw := hw.1 c_
      refine lv_iconst (v := 0) hx hb dX1_fields_32 (by decide) ?_
      exact m_iret hx hb hr hlocks hI hw dX1_fields_33
    have hw := hw.2 c_
    refine lv_aload_n hx hb dX1_fields_18 rfl (lv_at hl 0 rfl) ?_
    refine m_get hx hb hts hown hI 2 (by decide) rfl q143 (v := .ref (a 3)) rfl dX1_fields_19 ?_
    refine lv_aload_n hx hb dX1_fields_22 rfl (lv_at hl 0 rfl) ?_
    refine m_get hx hb hts hown hI 1 (by decide) rfl q142 (v := .ref (a 2)) rfl dX1_fields_23 ?_
    refine lv_iload_n hx hb dX1_fields_26 rfl (lv_at hl 1 rfl) ?_
    obtain ⟨g2, hw⟩ := hw
    refine va_iald hx hb hI.1 hI.2.1 2 1 rfl rfl g2 dX1_fields_27 ?_
    obtain ⟨g1, hw⟩ := hw
    refine va_iald hx hb hI.1 hI.2.1 3 2 rfl rfl g1 dX1_fields_28 ?_
    refine lv_goto (tgt := 33) hx hb dX1_fields_29 (by decide) ?_
    exact m_iret hx hb hr hlocks hI hw dX1_fields_33
  have hw := hw.2 c_
  refine lv_iconst (v := -1) hx hb dX1_fields_7 (by decide) ?_
  exact m_iret hx hb hr hlocks hI hw dX1_fields_8
abbrev rm_mValue : Room := { frames := 1, cells := 0, slots := 0, locals := 20 }
set_option maxHeartbeats 4000000 in
set_option maxRecDepth 100000 in
theorem met_mValue (l : Launch) (D : va_G) (a : Nat → Nat) (k : Nat → ClassId) (σ : St) (x1 : Int32) {P : Int32 → St → Prop} (hw : w_mValue P σ x1) (sz : Nat) : Met l yX1_value (ws_ yX1_value cX1_value 2 (some .int)) rm_mValue (mPc D a k σ sz [.int x1]) (va_Qi P (mB D a k (va_A (mW a k σ) sz)) (va_A (mW a k σ) sz)) 0 0 (va_A (mW a k σ) sz) := by
  refine Met.ofW (cc := cX1_value) (maxL := 2) (ret := (some .int)) (by decide) rfl ?_
  intro p e s m args below meth c s₁ B hml hv
  obtain ⟨rfl, hI, hA⟩ := m_start hv
  have hx := B.exec
  have hb := B.bytes
  have hr := B.returns
  have hlocks := B.notSynchronized
  have hts := atoms_spec (ws := (ws_ yX1_value cX1_value 2 (some .int))) B.pre
  have hts : ∀ w ∈ lw_all, w.before _ s = true := fun w h => hts w (List.mem_cons_of_mem _ h)
  have hown : s.vm.findClass RX1 = some m.cls := findClass_of_methodNamed B.named
  generalize va_A (mW a k σ) sz = A at hI hA ⊢
  have hl := lv_entry ([.ref (a 0), .int x1]) (n := 2) (Nat.le_of_ble_eq_true rfl)
  rw [lg_entry_eq]
  generalize (lg_sl ([.ref (a 0), .int x1]) ++ List.replicate (2 - (lg_sl ([.ref (a 0), .int x1])).length) Slot.unset).toArray = ls at hl ⊢
  have hl : lv_has ls 2 [(0, .ref (a 0)), (1, .int x1)] := hl
  change W p l e rm_mValue s m _ below meth c s.heap [] 0 0 _ (F0 m 0 ls [])
  unfold w_mValue at hw
  refine lv_iload_n hx hb dX1_value_0 rfl (lv_at hl 1 rfl) ?_
  refine s_call ⟨hx, hb, hml, hown, hts⟩ (met_mBad l x1) (va_cwS 1 hts (lw_S q158 q159 q15 q160) rfl rfl rfl (by decide +kernel) ⟨Nat.le_of_ble_eq_true rfl, Nat.le_of_ble_eq_true rfl⟩) rfl hl.1 rfl (Nat.le_of_ble_eq_true rfl) dX1_value_1 ⟨Nat.le_of_ble_eq_true rfl, Nat.le_of_ble_eq_true rfl⟩ ?_
  refine lv_if_ne (tgt := 16) hx hb dX1_value_4 (by decide) (fun c_ => ?_) (fun c_ => ?_)
  · have hw := hw.2 c_
    refine lv_iconst (v := 0) hx hb dX1_value_16 (by decide) ?_
    refine lv_goto (tgt := 26) hx hb dX1_value_17 (by decide) ?_
    exact m_iret hx hb hr hlocks hI hw dX1_value_26
  have hw := hw.1 c_
  refine lv_aload_n hx hb dX1_value_7 rfl (lv_at hl 0 rfl) ?_
  refine m_get hx hb hts hown hI 0 (by decide) rfl q141 (v := .ref (a 1)) rfl dX1_value_8 ?_
  refine lv_iload_n hx hb dX1_value_11 rfl (lv_at hl 1 rfl) ?_
  obtain ⟨g2, hw⟩ := hw
  refine va_zald hx hb hI.1 hI.2.1 1 0 rfl rfl g2 dX1_value_12 ?_
  refine lv_if_eq (tgt := 20) hx hb dX1_value_13 (by decide) (fun c_ => ?_) (fun c_ => ?_)
  · have hw := hw.1 c_
    refine lv_aload_n hx hb dX1_value_20 rfl (lv_at hl 0 rfl) ?_
    refine m_get hx hb hts hown hI 1 (by decide) rfl q142 (v := .ref (a 2)) rfl dX1_value_21 ?_
    refine lv_iload_n hx hb dX1_value_24 rfl (lv_at hl 1 rfl) ?_
    obtain ⟨g1, hw⟩ := hw
    refine va_iald hx hb hI.1 hI.2.1 2 1 rfl rfl g1 dX1_value_25 ?_
    exact m_iret hx hb hr hlocks hI hw dX1_value_26
  have hw := hw.2 c_
  refine lv_iconst (v := 0) hx hb dX1_value_16 (by decide) ?_
  refine lv_goto (tgt := 26) hx hb dX1_value_17 (by decide) ?_
  exact m_iret hx hb hr hlocks hI hw dX1_value_26
abbrev rm_mSame : Room := { frames := 1, cells := 0, slots := 0, locals := 20 }
set_option maxHeartbeats 4000000 in
set_option maxRecDepth 100000 in
theorem met_mSame (l : Launch) (D : va_G) (a : Nat → Nat) (k : Nat → ClassId) (σ : St) (x1 x2 : Int32) {P : Int32 → St → Prop} (hw : w_mSame P σ x1 x2) (sz : Nat) : Met l yX1_same (ws_ yX1_same cX1_same 3 (some .int)) rm_mSame (mPc D a k σ sz [.int x1, .int x2]) (va_Qi P (mB D a k (va_A (mW a k σ) sz)) (va_A (mW a k σ) sz)) 0 0 (va_A (mW a k σ) sz) := by
  refine Met.ofW (cc := cX1_same) (maxL := 3) (ret := (some .int)) (by decide) rfl ?_
  intro p e s m args below meth c s₁ B hml hv
  obtain ⟨rfl, hI, hA⟩ := m_start hv
  have hx := B.exec
  have hb := B.bytes
  have hr := B.returns
  have hlocks := B.notSynchronized
  have hts := atoms_spec (ws := (ws_ yX1_same cX1_same 3 (some .int))) B.pre
  have hts : ∀ w ∈ lw_all, w.before _ s = true := fun w h => hts w (List.mem_cons_of_mem _ h)
  have hown : s.vm.findClass RX1 = some m.cls := findClass_of_methodNamed B.named
  generalize va_A (mW a k σ) sz = A at hI hA ⊢
  have hl := lv_entry ([.ref (a 0), .int x1, .int x2]) (n := 3) (Nat.le_of_ble_eq_true rfl)
  rw [lg_entry_eq]
  generalize (lg_sl ([.ref (a 0), .int x1, .int x2]) ++ List.replicate (3 - (lg_sl ([.ref (a 0), .int x1, .int x2])).length) Slot.unset).toArray = ls at hl ⊢
  have hl : lv_has ls 3 [(0, .ref (a 0)), (1, .int x1), (2, .int x2)] := hl
  change W p l e rm_mSame s m _ below meth c s.heap [] 0 0 _ (F0 m 0 ls [])
  unfold w_mSame at hw
  refine lv_iload_n hx hb dX1_same_0 rfl (lv_at hl 1 rfl) ?_
  refine s_call ⟨hx, hb, hml, hown, hts⟩ (met_mBad l x1) (va_cwS 1 hts (lw_S q158 q159 q15 q160) rfl rfl rfl (by decide +kernel) ⟨Nat.le_of_ble_eq_true rfl, Nat.le_of_ble_eq_true rfl⟩) rfl hl.1 rfl (Nat.le_of_ble_eq_true rfl) dX1_same_1 ⟨Nat.le_of_ble_eq_true rfl, Nat.le_of_ble_eq_true rfl⟩ ?_
  refine lv_if_ne (tgt := 14) hx hb dX1_same_4 (by decide) (fun c_ => ?_) (fun c_ => ?_)
  · have hw := hw.2 c_
    refine lv_iconst (v := -1) hx hb dX1_same_14 (by decide) ?_
    exact m_iret hx hb hr hlocks hI hw dX1_same_15
  have hw := hw.1 c_
  refine lv_iload_n hx hb dX1_same_7 rfl (lv_at hl 2 rfl) ?_
  refine s_call ⟨hx, hb, hml, hown, hts⟩ (met_mBad l x2) (va_cwS 1 hts (lw_S q158 q159 q15 q160) rfl rfl rfl (by decide +kernel) ⟨Nat.le_of_ble_eq_true rfl, Nat.le_of_ble_eq_true rfl⟩) rfl hl.1 rfl (Nat.le_of_ble_eq_true rfl) dX1_same_8 ⟨Nat.le_of_ble_eq_true rfl, Nat.le_of_ble_eq_true rfl⟩ ?_
  refine lv_if_eq (tgt := 16) hx hb dX1_same_11 (by decide) (fun c_ => ?_) (fun c_ => ?_)
  · have hw := hw.1 c_
    refine lv_aload_n hx hb dX1_same_16 rfl (lv_at hl 0 rfl) ?_
    refine m_get hx hb hts hown hI 0 (by decide) rfl q141 (v := .ref (a 1)) rfl dX1_same_17 ?_
    refine lv_iload_n hx hb dX1_same_20 rfl (lv_at hl 1 rfl) ?_
    obtain ⟨g4, hw⟩ := hw
    refine va_zald hx hb hI.1 hI.2.1 1 0 rfl rfl g4 dX1_same_21 ?_
    refine lv_aload_n hx hb dX1_same_22 rfl (lv_at hl 0 rfl) ?_
    refine m_get hx hb hts hown hI 0 (by decide) rfl q141 (v := .ref (a 1)) rfl dX1_same_23 ?_
    refine lv_iload_n hx hb dX1_same_26 rfl (lv_at hl 2 rfl) ?_
    obtain ⟨g3, hw⟩ := hw
    refine va_zald hx hb hI.1 hI.2.1 1 0 rfl rfl g3 dX1_same_27 ?_
    refine lv_icmp_ne (tgt := 50) hx hb dX1_same_28 (by decide) (fun c_ => ?_) (fun c_ => ?_)
    · have hw := hw.2 c_
      refine lv_iconst (v := 0) hx hb dX1_same_50 (by decide) ?_
      exact m_iret hx hb hr hlocks hI hw dX1_same_51
    have hw := hw.1 c_
    refine lv_aload_n hx hb dX1_same_31 rfl (lv_at hl 0 rfl) ?_
    refine m_get hx hb hts hown hI 1 (by decide) rfl q142 (v := .ref (a 2)) rfl dX1_same_32 ?_
    refine lv_iload_n hx hb dX1_same_35 rfl (lv_at hl 1 rfl) ?_
    obtain ⟨g2, hw⟩ := hw
    refine va_iald hx hb hI.1 hI.2.1 2 1 rfl rfl g2 dX1_same_36 ?_
    refine lv_aload_n hx hb dX1_same_37 rfl (lv_at hl 0 rfl) ?_
    refine m_get hx hb hts hown hI 1 (by decide) rfl q142 (v := .ref (a 2)) rfl dX1_same_38 ?_
    refine lv_iload_n hx hb dX1_same_41 rfl (lv_at hl 2 rfl) ?_
    obtain ⟨g1, hw⟩ := hw
    refine va_iald hx hb hI.1 hI.2.1 2 1 rfl rfl g1 dX1_same_42 ?_
    refine lv_icmp_ne (tgt := 50) hx hb dX1_same_43 (by decide) (fun c_ => ?_) (fun c_ => ?_)
    · have hw := hw.2 c_
      refine lv_iconst (v := 0) hx hb dX1_same_50 (by decide) ?_
      exact m_iret hx hb hr hlocks hI hw dX1_same_51
    have hw := hw.1 c_
    refine lv_iconst (v := 1) hx hb dX1_same_46 (by decide) ?_
    refine lv_goto (tgt := 51) hx hb dX1_same_47 (by decide) ?_
    exact m_iret hx hb hr hlocks hI hw dX1_same_51
  have hw := hw.2 c_
  refine lv_iconst (v := -1) hx hb dX1_same_14 (by decide) ?_
  exact m_iret hx hb hr hlocks hI hw dX1_same_15
end
section
/-! THE CLAIM OUT OF ONE WALK OF THE LAW'S BODY. Your part is whole_start (and what it stands on); all else here is the same for every law, but numbers. -/
def R_law : String := "BreakHeapLaw"
def lw_P (b : Addr) (xs : List Int32) (args : Array Value) (s : State) : Prop := args = #[.ref b] ∧ s.IntsAt b xs ∧ xs.length ≤ 256 ∧ (Jvm.Cond.and given_1 narrow_1).before args s = true
def lw_Q (_ : Array Value) (s : State) (o : Outcome) (t : State) : Prop := o = .returned (some (.int 1)) ∧ Framed s o t [] 600000 7290000
def lw_Z (below : List Frame) (a : Array Value) (s : State) : State → Prop := fun t => ∃ o, t.status = .running ∧ Ended t below o ∧ lw_Q a s o t
/-- the law's own end, with 1 on the stack, nothing written that was there before, its room as the claim has it -/
theorem lw_ret {p : Program} {l : Launch} {e : Env} {s : State} {m : MethodId} {below : List Frame} {meth : Method} {c : Code} {b : Nat} (hx : p.tables.exec = Jvm.exec) (hb : c.code = code) (hr : meth.sig.returnType = ret) (hlocks : meth.locks = false) {pc : Nat} {H : Heap} {ls : Array Slot} (hdg : decode code pc = .ok (.ireturn, 1)) : W p l e room_1 s m #[Value.ref b] below meth c H [] 600000 7290000 (lw_Z below #[Value.ref b] s) (F0 m pc ls [.int 1]) := by
  intro T hT X
  obtain ⟨fs, hret, hrun, hended, hW, hframe⟩ := X.leave (v := some (.int 1)) (hlocks := hlocks) (fun h => by rw [hr] at h; cases h)
  have hmeth' : T.vm.method? m = some meth := X.method'
  refine ⟨T.setFrames fs, ?_, .returned (some (.int 1)), hrun, hended, rfl, ⟨_, rfl⟩, hW, hframe⟩
  jvm_step X.here [X.here.top, hx, hb, hdg, hmeth', hr, ret, narrow_b1]
  (try refine ⟨rfl, ?_⟩); (try refine ⟨rfl, ?_⟩)
  first | (intro acts; rw [hret _ acts rfl rfl rfl]) | rw [hret _ _ rfl rfl rfl]
  exact Steps.refl _
/-- what holds at the law's entry: the machine, the code, the tables' words (any of lw_tbl by 'hts w (by decide +kernel)'), the script of L ints xs at the cell b, what the Statement gives of the start (any of its parts by flat_of_before) -/
def lw_At (p : Program) (s : State) (m : MethodId) (meth : Method) (c : Code) (b L : Nat) (xs : Nat → Int32) : Prop :=
  p.tables.exec = Jvm.exec ∧ c.code = code ∧ meth.sig.returnType = ret ∧ c.maxLocals = 4 ∧ s.vm.findClass R_law = some m.cls ∧ (∀ w ∈ lw_tbl, w.before #[Value.ref b] s = true) ∧ va_X b L xs s s.heap ∧ b < s.heap.size ∧ meth.locks = false ∧ (Jvm.Cond.and given_1 narrow_1).before #[Value.ref b] s = true
end
section
/-! printed by genlaw.py: the constructors -/
def s00 : St := fun _ _ => 0
abbrev bF0 : List Value := [Value.int 0, Value.null, Value.null, Value.null, Value.null, Value.null, Value.int 0, Value.null, Value.int 0, Value.null, Value.null]
theorem bF0_ok : ∀ j, j < 11 → defaultValue (tyX0 j) = vp_V bF0 j := by
  intro j hj
  match j, hj with
  | 0, _ => rfl
  | 1, _ => rfl
  | 2, _ => rfl
  | 3, _ => rfl
  | 4, _ => rfl
  | 5, _ => rfl
  | 6, _ => rfl
  | 7, _ => rfl
  | 8, _ => rfl
  | 9, _ => rfl
  | 10, _ => rfl
  | j + 11, hj => exact absurd hj (by omega)
abbrev rm_bInit : Room := { frames := 1, cells := 8, slots := 348, locals := 12 }
set_option maxHeartbeats 4000000 in
set_option maxRecDepth 100000 in
theorem met_bInit (l : Launch) (D : va_G) (h0 sz : Nat) : Met l yX0_init (ws_ yX0_init cX0_init 1 none) rm_bInit (va_Pc [.ref h0] (fun U => U.heap.size = sz ∧ va_P D vwCl [(h0, .inr (0, bF0))] U.heap ∧ va_K D vwCl [] U ∧ va_D (fun _ => True) [(h0, .inr (0, bF0))])) (va_Qv (fun u : (Nat → Nat) × (Nat → ClassId) => u.1 0 = h0) (fun u t => bB D u.1 u.2 (va_A [(h0, .inr (0, bF0))] sz) s00 t) (va_A [(h0, .inr (0, bF0))] sz)) 8 348 (va_A [(h0, .inr (0, bF0))] sz) := by
  refine Met.ofW (cc := cX0_init) (maxL := 1) (ret := none) (by decide) rfl ?_
  intro p e s m args below meth c s₁ B hml hv
  obtain ⟨rfl, hsz, hP, hK, hD0⟩ := hv
  have hx := B.exec
  have hb := B.bytes
  have hr := B.returns
  have hts := atoms_spec (ws := ws_ yX0_init cX0_init 1 none) B.pre
  have hts : ∀ w ∈ lw_all, w.before _ s = true := fun w h => hts w (List.mem_cons_of_mem _ h)
  have hown : s.vm.findClass RX0 = some m.cls := findClass_of_methodNamed B.named
  have hlocks := B.notSynchronized
  have hin : meth.name = "<init>" := (name_of_methodNamed B.named B.method).1
  subst hsz
  have hD := hD0.self (sz := s.heap.size)
  generalize hAe : va_A [(h0, .inr (0, bF0))] s.heap.size = A at hD ⊢
  have hA : ∀ q : Nat, s.heap.size ≤ q → A q := fun q h => by rw [← hAe]; exact Or.inr h
  have hS : va_S A s.heap s.heap [] := va_S.rf
  have hP : va_P D vwCl [(h0, .inr (0, bF0))] s.heap := hP
  have hl := lv_entry ([.ref h0]) (n := 1) (Nat.le_of_ble_eq_true rfl)
  rw [lg_entry_eq]
  generalize (lg_sl ([.ref h0]) ++ List.replicate (1 - (lg_sl ([.ref h0])).length) Slot.unset).toArray = ls at hl ⊢
  have hl : lv_has ls 1 [(0, .ref h0)] := hl
  change W p l e rm_bInit s m _ below meth c s.heap [] 0 0 _ (F0 m 0 ls [])
  refine lv_aload_n hx hb dX0_init_0 rfl (lv_at hl 0 rfl) ?_
  refine W.objInit hx hb hown (hts _ q21) (hts _ q22) (hts _ q23) rfl (by rw [hml]; exact hl.1) rfl dX0_init_1 (Nat.le_of_ble_eq_true rfl) (Nat.le_of_ble_eq_true rfl) ?_
  refine W.eq (g2 := F0 m 4 ls []) rfl ?_
  refine lv_aload_n hx hb dX0_init_4 rfl (lv_at hl 0 rfl) ?_
  refine lv_bipush (v := 72) hx hb dX0_init_5 (by decide) ?_
  refine va_newa (atype := .int) (N' := 72) (ty := .int) (a0 := (72, .inl (fun _ => 0))) hx hb (hts _ q58) rfl hK hP hD hS hA (fun cA => vp_cell_i cA 72 (fun _ => 0)) (by decide) (by decide) (Nat.le_of_ble_eq_true rfl) (Nat.le_of_ble_eq_true rfl) (Nat.le_of_ble_eq_true rfl) dX0_init_7 (fun g1 c1 H hK hP hD hS => ?_)
  refine W.widen (k := 1) (n := 72) (Nat.le_of_ble_eq_true rfl) (Nat.le_of_ble_eq_true rfl) ?_
  have hK : va_K D vwCl [(c1, .int)] s := hK
  have hP : va_P D vwCl [(h0, .inr (0, [.int 0, .null, .null, .null, .null, .null, .int 0, .null, .int 0, .null, .null])), (g1, .inl (c1, 72, .inl (fun _ => 0)))] H := hP
  have hD : va_D A [(h0, .inr (0, [.int 0, .null, .null, .null, .null, .null, .int 0, .null, .int 0, .null, .null])), (g1, .inl (c1, 72, .inl (fun _ => 0)))] := hD
  refine va_putF (D := D) (ci := 0) (v := .ref g1) (ty := .array .int) (C := RX0) (T := TX0) (N := 11) hx hb hts in_X0 tyX0 tyX0_ok nmX0 hown hK hP hD hS 0 rfl rfl 1 (by decide) (hts _ q25) (fun _ h9 => h9) rfl hin rfl (by decide +kernel) rfl rfl (Nat.le_of_ble_eq_true rfl) dX0_init_9 (fun H locs hP hD hS => ?_)
  have hP : va_P D vwCl [(h0, .inr (0, [.int 0, .ref g1, .null, .null, .null, .null, .int 0, .null, .int 0, .null, .null])), (g1, .inl (c1, 72, .inl (fun _ => 0)))] H := hP
  have hD : va_D A [(h0, .inr (0, [.int 0, .ref g1, .null, .null, .null, .null, .int 0, .null, .int 0, .null, .null])), (g1, .inl (c1, 72, .inl (fun _ => 0)))] := hD
  refine lv_aload_n hx hb dX0_init_12 rfl (lv_at hl 0 rfl) ?_
  refine lv_bipush (v := 72) hx hb dX0_init_13 (by decide) ?_
  refine va_newa (atype := .boolean) (N' := 72) (ty := .boolean) (a0 := (72, .inl (fun _ => 0))) hx hb (hts _ q59) rfl hK hP hD hS hA (fun cA => vp_cell_i cA 72 (fun _ => 0)) (by decide) (by decide) (Nat.le_of_ble_eq_true rfl) (Nat.le_of_ble_eq_true rfl) (Nat.le_of_ble_eq_true rfl) dX0_init_15 (fun g2 c2 H hK hP hD hS => ?_)
  refine W.widen (k := 2) (n := 144) (Nat.le_of_ble_eq_true rfl) (Nat.le_of_ble_eq_true rfl) ?_
  have hK : va_K D vwCl [(c1, .int), (c2, .boolean)] s := hK
  have hP : va_P D vwCl [(h0, .inr (0, [.int 0, .ref g1, .null, .null, .null, .null, .int 0, .null, .int 0, .null, .null])), (g1, .inl (c1, 72, .inl (fun _ => 0))), (g2, .inl (c2, 72, .inl (fun _ => 0)))] H := hP
  have hD : va_D A [(h0, .inr (0, [.int 0, .ref g1, .null, .null, .null, .null, .int 0, .null, .int 0, .null, .null])), (g1, .inl (c1, 72, .inl (fun _ => 0))), (g2, .inl (c2, 72, .inl (fun _ => 0)))] := hD
  refine va_putF (D := D) (ci := 0) (v := .ref g2) (ty := .array .boolean) (C := RX0) (T := TX0) (N := 11) hx hb hts in_X0 tyX0 tyX0_ok nmX0 hown hK hP hD hS 0 rfl rfl 2 (by decide) (hts _ q26) (fun _ h9 => h9) rfl hin rfl (by decide +kernel) rfl rfl (Nat.le_of_ble_eq_true rfl) dX0_init_17 (fun H locs hP hD hS => ?_)
  have hP : va_P D vwCl [(h0, .inr (0, [.int 0, .ref g1, .ref g2, .null, .null, .null, .int 0, .null, .int 0, .null, .null])), (g1, .inl (c1, 72, .inl (fun _ => 0))), (g2, .inl (c2, 72, .inl (fun _ => 0)))] H := hP
  have hD : va_D A [(h0, .inr (0, [.int 0, .ref g1, .ref g2, .null, .null, .null, .int 0, .null, .int 0, .null, .null])), (g1, .inl (c1, 72, .inl (fun _ => 0))), (g2, .inl (c2, 72, .inl (fun _ => 0)))] := hD
  refine lv_aload_n hx hb dX0_init_20 rfl (lv_at hl 0 rfl) ?_
  refine lv_bipush (v := 6) hx hb dX0_init_21 (by decide) ?_
  refine va_newa (atype := .int) (N' := 6) (ty := .int) (a0 := (6, .inl (fun _ => 0))) hx hb (hts _ q58) rfl hK hP hD hS hA (fun cA => vp_cell_i cA 6 (fun _ => 0)) (by decide) (by decide) (Nat.le_of_ble_eq_true rfl) (Nat.le_of_ble_eq_true rfl) (Nat.le_of_ble_eq_true rfl) dX0_init_23 (fun g3 c3 H hK hP hD hS => ?_)
  refine W.widen (k := 3) (n := 150) (Nat.le_of_ble_eq_true rfl) (Nat.le_of_ble_eq_true rfl) ?_
  have hK : va_K D vwCl [(c1, .int), (c2, .boolean), (c3, .int)] s := hK
  have hP : va_P D vwCl [(h0, .inr (0, [.int 0, .ref g1, .ref g2, .null, .null, .null, .int 0, .null, .int 0, .null, .null])), (g1, .inl (c1, 72, .inl (fun _ => 0))), (g2, .inl (c2, 72, .inl (fun _ => 0))), (g3, .inl (c3, 6, .inl (fun _ => 0)))] H := hP
  have hD : va_D A [(h0, .inr (0, [.int 0, .ref g1, .ref g2, .null, .null, .null, .int 0, .null, .int 0, .null, .null])), (g1, .inl (c1, 72, .inl (fun _ => 0))), (g2, .inl (c2, 72, .inl (fun _ => 0))), (g3, .inl (c3, 6, .inl (fun _ => 0)))] := hD
  refine va_putF (D := D) (ci := 0) (v := .ref g3) (ty := .array .int) (C := RX0) (T := TX0) (N := 11) hx hb hts in_X0 tyX0 tyX0_ok nmX0 hown hK hP hD hS 0 rfl rfl 3 (by decide) (hts _ q27) (fun _ h9 => h9) rfl hin rfl (by decide +kernel) rfl rfl (Nat.le_of_ble_eq_true rfl) dX0_init_25 (fun H locs hP hD hS => ?_)
  have hP : va_P D vwCl [(h0, .inr (0, [.int 0, .ref g1, .ref g2, .ref g3, .null, .null, .int 0, .null, .int 0, .null, .null])), (g1, .inl (c1, 72, .inl (fun _ => 0))), (g2, .inl (c2, 72, .inl (fun _ => 0))), (g3, .inl (c3, 6, .inl (fun _ => 0)))] H := hP
  have hD : va_D A [(h0, .inr (0, [.int 0, .ref g1, .ref g2, .ref g3, .null, .null, .int 0, .null, .int 0, .null, .null])), (g1, .inl (c1, 72, .inl (fun _ => 0))), (g2, .inl (c2, 72, .inl (fun _ => 0))), (g3, .inl (c3, 6, .inl (fun _ => 0)))] := hD
  refine lv_aload_n hx hb dX0_init_28 rfl (lv_at hl 0 rfl) ?_
  refine lv_bipush (v := 6) hx hb dX0_init_29 (by decide) ?_
  refine va_newa (atype := .boolean) (N' := 6) (ty := .boolean) (a0 := (6, .inl (fun _ => 0))) hx hb (hts _ q59) rfl hK hP hD hS hA (fun cA => vp_cell_i cA 6 (fun _ => 0)) (by decide) (by decide) (Nat.le_of_ble_eq_true rfl) (Nat.le_of_ble_eq_true rfl) (Nat.le_of_ble_eq_true rfl) dX0_init_31 (fun g4 c4 H hK hP hD hS => ?_)
  refine W.widen (k := 4) (n := 156) (Nat.le_of_ble_eq_true rfl) (Nat.le_of_ble_eq_true rfl) ?_
  have hK : va_K D vwCl [(c1, .int), (c2, .boolean), (c3, .int), (c4, .boolean)] s := hK
  have hP : va_P D vwCl [(h0, .inr (0, [.int 0, .ref g1, .ref g2, .ref g3, .null, .null, .int 0, .null, .int 0, .null, .null])), (g1, .inl (c1, 72, .inl (fun _ => 0))), (g2, .inl (c2, 72, .inl (fun _ => 0))), (g3, .inl (c3, 6, .inl (fun _ => 0))), (g4, .inl (c4, 6, .inl (fun _ => 0)))] H := hP
  have hD : va_D A [(h0, .inr (0, [.int 0, .ref g1, .ref g2, .ref g3, .null, .null, .int 0, .null, .int 0, .null, .null])), (g1, .inl (c1, 72, .inl (fun _ => 0))), (g2, .inl (c2, 72, .inl (fun _ => 0))), (g3, .inl (c3, 6, .inl (fun _ => 0))), (g4, .inl (c4, 6, .inl (fun _ => 0)))] := hD
  refine va_putF (D := D) (ci := 0) (v := .ref g4) (ty := .array .boolean) (C := RX0) (T := TX0) (N := 11) hx hb hts in_X0 tyX0 tyX0_ok nmX0 hown hK hP hD hS 0 rfl rfl 4 (by decide) (hts _ q28) (fun _ h9 => h9) rfl hin rfl (by decide +kernel) rfl rfl (Nat.le_of_ble_eq_true rfl) dX0_init_33 (fun H locs hP hD hS => ?_)
  have hP : va_P D vwCl [(h0, .inr (0, [.int 0, .ref g1, .ref g2, .ref g3, .ref g4, .null, .int 0, .null, .int 0, .null, .null])), (g1, .inl (c1, 72, .inl (fun _ => 0))), (g2, .inl (c2, 72, .inl (fun _ => 0))), (g3, .inl (c3, 6, .inl (fun _ => 0))), (g4, .inl (c4, 6, .inl (fun _ => 0)))] H := hP
  have hD : va_D A [(h0, .inr (0, [.int 0, .ref g1, .ref g2, .ref g3, .ref g4, .null, .int 0, .null, .int 0, .null, .null])), (g1, .inl (c1, 72, .inl (fun _ => 0))), (g2, .inl (c2, 72, .inl (fun _ => 0))), (g3, .inl (c3, 6, .inl (fun _ => 0))), (g4, .inl (c4, 6, .inl (fun _ => 0)))] := hD
  refine lv_aload_n hx hb dX0_init_36 rfl (lv_at hl 0 rfl) ?_
  refine lv_bipush (v := 72) hx hb dX0_init_37 (by decide) ?_
  refine va_newa (atype := .boolean) (N' := 72) (ty := .boolean) (a0 := (72, .inl (fun _ => 0))) hx hb (hts _ q59) rfl hK hP hD hS hA (fun cA => vp_cell_i cA 72 (fun _ => 0)) (by decide) (by decide) (Nat.le_of_ble_eq_true rfl) (Nat.le_of_ble_eq_true rfl) (Nat.le_of_ble_eq_true rfl) dX0_init_39 (fun g5 c5 H hK hP hD hS => ?_)
  refine W.widen (k := 5) (n := 228) (Nat.le_of_ble_eq_true rfl) (Nat.le_of_ble_eq_true rfl) ?_
  have hK : va_K D vwCl [(c1, .int), (c2, .boolean), (c3, .int), (c4, .boolean), (c5, .boolean)] s := hK
  have hP : va_P D vwCl [(h0, .inr (0, [.int 0, .ref g1, .ref g2, .ref g3, .ref g4, .null, .int 0, .null, .int 0, .null, .null])), (g1, .inl (c1, 72, .inl (fun _ => 0))), (g2, .inl (c2, 72, .inl (fun _ => 0))), (g3, .inl (c3, 6, .inl (fun _ => 0))), (g4, .inl (c4, 6, .inl (fun _ => 0))), (g5, .inl (c5, 72, .inl (fun _ => 0)))] H := hP
  have hD : va_D A [(h0, .inr (0, [.int 0, .ref g1, .ref g2, .ref g3, .ref g4, .null, .int 0, .null, .int 0, .null, .null])), (g1, .inl (c1, 72, .inl (fun _ => 0))), (g2, .inl (c2, 72, .inl (fun _ => 0))), (g3, .inl (c3, 6, .inl (fun _ => 0))), (g4, .inl (c4, 6, .inl (fun _ => 0))), (g5, .inl (c5, 72, .inl (fun _ => 0)))] := hD
  refine va_putF (D := D) (ci := 0) (v := .ref g5) (ty := .array .boolean) (C := RX0) (T := TX0) (N := 11) hx hb hts in_X0 tyX0 tyX0_ok nmX0 hown hK hP hD hS 0 rfl rfl 5 (by decide) (hts _ q29) (fun _ h9 => h9) rfl hin rfl (by decide +kernel) rfl rfl (Nat.le_of_ble_eq_true rfl) dX0_init_41 (fun H locs hP hD hS => ?_)
  have hP : va_P D vwCl [(h0, .inr (0, [.int 0, .ref g1, .ref g2, .ref g3, .ref g4, .ref g5, .int 0, .null, .int 0, .null, .null])), (g1, .inl (c1, 72, .inl (fun _ => 0))), (g2, .inl (c2, 72, .inl (fun _ => 0))), (g3, .inl (c3, 6, .inl (fun _ => 0))), (g4, .inl (c4, 6, .inl (fun _ => 0))), (g5, .inl (c5, 72, .inl (fun _ => 0)))] H := hP
  have hD : va_D A [(h0, .inr (0, [.int 0, .ref g1, .ref g2, .ref g3, .ref g4, .ref g5, .int 0, .null, .int 0, .null, .null])), (g1, .inl (c1, 72, .inl (fun _ => 0))), (g2, .inl (c2, 72, .inl (fun _ => 0))), (g3, .inl (c3, 6, .inl (fun _ => 0))), (g4, .inl (c4, 6, .inl (fun _ => 0))), (g5, .inl (c5, 72, .inl (fun _ => 0)))] := hD
  refine lv_aload_n hx hb dX0_init_44 rfl (lv_at hl 0 rfl) ?_
  refine lv_bipush (v := 40) hx hb dX0_init_45 (by decide) ?_
  refine va_newa (atype := .int) (N' := 40) (ty := .int) (a0 := (40, .inl (fun _ => 0))) hx hb (hts _ q58) rfl hK hP hD hS hA (fun cA => vp_cell_i cA 40 (fun _ => 0)) (by decide) (by decide) (Nat.le_of_ble_eq_true rfl) (Nat.le_of_ble_eq_true rfl) (Nat.le_of_ble_eq_true rfl) dX0_init_47 (fun g6 c6 H hK hP hD hS => ?_)
  refine W.widen (k := 6) (n := 268) (Nat.le_of_ble_eq_true rfl) (Nat.le_of_ble_eq_true rfl) ?_
  have hK : va_K D vwCl [(c1, .int), (c2, .boolean), (c3, .int), (c4, .boolean), (c5, .boolean), (c6, .int)] s := hK
  have hP : va_P D vwCl [(h0, .inr (0, [.int 0, .ref g1, .ref g2, .ref g3, .ref g4, .ref g5, .int 0, .null, .int 0, .null, .null])), (g1, .inl (c1, 72, .inl (fun _ => 0))), (g2, .inl (c2, 72, .inl (fun _ => 0))), (g3, .inl (c3, 6, .inl (fun _ => 0))), (g4, .inl (c4, 6, .inl (fun _ => 0))), (g5, .inl (c5, 72, .inl (fun _ => 0))), (g6, .inl (c6, 40, .inl (fun _ => 0)))] H := hP
  have hD : va_D A [(h0, .inr (0, [.int 0, .ref g1, .ref g2, .ref g3, .ref g4, .ref g5, .int 0, .null, .int 0, .null, .null])), (g1, .inl (c1, 72, .inl (fun _ => 0))), (g2, .inl (c2, 72, .inl (fun _ => 0))), (g3, .inl (c3, 6, .inl (fun _ => 0))), (g4, .inl (c4, 6, .inl (fun _ => 0))), (g5, .inl (c5, 72, .inl (fun _ => 0))), (g6, .inl (c6, 40, .inl (fun _ => 0)))] := hD
  refine va_putF (D := D) (ci := 0) (v := .ref g6) (ty := .array .int) (C := RX0) (T := TX0) (N := 11) hx hb hts in_X0 tyX0 tyX0_ok nmX0 hown hK hP hD hS 0 rfl rfl 7 (by decide) (hts _ q31) (fun _ h9 => h9) rfl hin rfl (by decide +kernel) rfl rfl (Nat.le_of_ble_eq_true rfl) dX0_init_49 (fun H locs hP hD hS => ?_)
  have hP : va_P D vwCl [(h0, .inr (0, [.int 0, .ref g1, .ref g2, .ref g3, .ref g4, .ref g5, .int 0, .ref g6, .int 0, .null, .null])), (g1, .inl (c1, 72, .inl (fun _ => 0))), (g2, .inl (c2, 72, .inl (fun _ => 0))), (g3, .inl (c3, 6, .inl (fun _ => 0))), (g4, .inl (c4, 6, .inl (fun _ => 0))), (g5, .inl (c5, 72, .inl (fun _ => 0))), (g6, .inl (c6, 40, .inl (fun _ => 0)))] H := hP
  have hD : va_D A [(h0, .inr (0, [.int 0, .ref g1, .ref g2, .ref g3, .ref g4, .ref g5, .int 0, .ref g6, .int 0, .null, .null])), (g1, .inl (c1, 72, .inl (fun _ => 0))), (g2, .inl (c2, 72, .inl (fun _ => 0))), (g3, .inl (c3, 6, .inl (fun _ => 0))), (g4, .inl (c4, 6, .inl (fun _ => 0))), (g5, .inl (c5, 72, .inl (fun _ => 0))), (g6, .inl (c6, 40, .inl (fun _ => 0)))] := hD
  refine lv_aload_n hx hb dX0_init_52 rfl (lv_at hl 0 rfl) ?_
  refine lv_bipush (v := 40) hx hb dX0_init_53 (by decide) ?_
  refine va_newa (atype := .int) (N' := 40) (ty := .int) (a0 := (40, .inl (fun _ => 0))) hx hb (hts _ q58) rfl hK hP hD hS hA (fun cA => vp_cell_i cA 40 (fun _ => 0)) (by decide) (by decide) (Nat.le_of_ble_eq_true rfl) (Nat.le_of_ble_eq_true rfl) (Nat.le_of_ble_eq_true rfl) dX0_init_55 (fun g7 c7 H hK hP hD hS => ?_)
  refine W.widen (k := 7) (n := 308) (Nat.le_of_ble_eq_true rfl) (Nat.le_of_ble_eq_true rfl) ?_
  have hK : va_K D vwCl [(c1, .int), (c2, .boolean), (c3, .int), (c4, .boolean), (c5, .boolean), (c6, .int), (c7, .int)] s := hK
  have hP : va_P D vwCl [(h0, .inr (0, [.int 0, .ref g1, .ref g2, .ref g3, .ref g4, .ref g5, .int 0, .ref g6, .int 0, .null, .null])), (g1, .inl (c1, 72, .inl (fun _ => 0))), (g2, .inl (c2, 72, .inl (fun _ => 0))), (g3, .inl (c3, 6, .inl (fun _ => 0))), (g4, .inl (c4, 6, .inl (fun _ => 0))), (g5, .inl (c5, 72, .inl (fun _ => 0))), (g6, .inl (c6, 40, .inl (fun _ => 0))), (g7, .inl (c7, 40, .inl (fun _ => 0)))] H := hP
  have hD : va_D A [(h0, .inr (0, [.int 0, .ref g1, .ref g2, .ref g3, .ref g4, .ref g5, .int 0, .ref g6, .int 0, .null, .null])), (g1, .inl (c1, 72, .inl (fun _ => 0))), (g2, .inl (c2, 72, .inl (fun _ => 0))), (g3, .inl (c3, 6, .inl (fun _ => 0))), (g4, .inl (c4, 6, .inl (fun _ => 0))), (g5, .inl (c5, 72, .inl (fun _ => 0))), (g6, .inl (c6, 40, .inl (fun _ => 0))), (g7, .inl (c7, 40, .inl (fun _ => 0)))] := hD
  refine va_putF (D := D) (ci := 0) (v := .ref g7) (ty := .array .int) (C := RX0) (T := TX0) (N := 11) hx hb hts in_X0 tyX0 tyX0_ok nmX0 hown hK hP hD hS 0 rfl rfl 9 (by decide) (hts _ q33) (fun _ h9 => h9) rfl hin rfl (by decide +kernel) rfl rfl (Nat.le_of_ble_eq_true rfl) dX0_init_57 (fun H locs hP hD hS => ?_)
  have hP : va_P D vwCl [(h0, .inr (0, [.int 0, .ref g1, .ref g2, .ref g3, .ref g4, .ref g5, .int 0, .ref g6, .int 0, .ref g7, .null])), (g1, .inl (c1, 72, .inl (fun _ => 0))), (g2, .inl (c2, 72, .inl (fun _ => 0))), (g3, .inl (c3, 6, .inl (fun _ => 0))), (g4, .inl (c4, 6, .inl (fun _ => 0))), (g5, .inl (c5, 72, .inl (fun _ => 0))), (g6, .inl (c6, 40, .inl (fun _ => 0))), (g7, .inl (c7, 40, .inl (fun _ => 0)))] H := hP
  have hD : va_D A [(h0, .inr (0, [.int 0, .ref g1, .ref g2, .ref g3, .ref g4, .ref g5, .int 0, .ref g6, .int 0, .ref g7, .null])), (g1, .inl (c1, 72, .inl (fun _ => 0))), (g2, .inl (c2, 72, .inl (fun _ => 0))), (g3, .inl (c3, 6, .inl (fun _ => 0))), (g4, .inl (c4, 6, .inl (fun _ => 0))), (g5, .inl (c5, 72, .inl (fun _ => 0))), (g6, .inl (c6, 40, .inl (fun _ => 0))), (g7, .inl (c7, 40, .inl (fun _ => 0)))] := hD
  refine lv_aload_n hx hb dX0_init_60 rfl (lv_at hl 0 rfl) ?_
  refine lv_bipush (v := 40) hx hb dX0_init_61 (by decide) ?_
  refine va_newa (atype := .int) (N' := 40) (ty := .int) (a0 := (40, .inl (fun _ => 0))) hx hb (hts _ q58) rfl hK hP hD hS hA (fun cA => vp_cell_i cA 40 (fun _ => 0)) (by decide) (by decide) (Nat.le_of_ble_eq_true rfl) (Nat.le_of_ble_eq_true rfl) (Nat.le_of_ble_eq_true rfl) dX0_init_63 (fun g8 c8 H hK hP hD hS => ?_)
  refine W.widen (k := 8) (n := 348) (Nat.le_of_ble_eq_true rfl) (Nat.le_of_ble_eq_true rfl) ?_
  have hK : va_K D vwCl [(c1, .int), (c2, .boolean), (c3, .int), (c4, .boolean), (c5, .boolean), (c6, .int), (c7, .int), (c8, .int)] s := hK
  have hP : va_P D vwCl [(h0, .inr (0, [.int 0, .ref g1, .ref g2, .ref g3, .ref g4, .ref g5, .int 0, .ref g6, .int 0, .ref g7, .null])), (g1, .inl (c1, 72, .inl (fun _ => 0))), (g2, .inl (c2, 72, .inl (fun _ => 0))), (g3, .inl (c3, 6, .inl (fun _ => 0))), (g4, .inl (c4, 6, .inl (fun _ => 0))), (g5, .inl (c5, 72, .inl (fun _ => 0))), (g6, .inl (c6, 40, .inl (fun _ => 0))), (g7, .inl (c7, 40, .inl (fun _ => 0))), (g8, .inl (c8, 40, .inl (fun _ => 0)))] H := hP
  have hD : va_D A [(h0, .inr (0, [.int 0, .ref g1, .ref g2, .ref g3, .ref g4, .ref g5, .int 0, .ref g6, .int 0, .ref g7, .null])), (g1, .inl (c1, 72, .inl (fun _ => 0))), (g2, .inl (c2, 72, .inl (fun _ => 0))), (g3, .inl (c3, 6, .inl (fun _ => 0))), (g4, .inl (c4, 6, .inl (fun _ => 0))), (g5, .inl (c5, 72, .inl (fun _ => 0))), (g6, .inl (c6, 40, .inl (fun _ => 0))), (g7, .inl (c7, 40, .inl (fun _ => 0))), (g8, .inl (c8, 40, .inl (fun _ => 0)))] := hD
  refine va_putF (D := D) (ci := 0) (v := .ref g8) (ty := .array .int) (C := RX0) (T := TX0) (N := 11) hx hb hts in_X0 tyX0 tyX0_ok nmX0 hown hK hP hD hS 0 rfl rfl 10 (by decide) (hts _ q34) (fun _ h9 => h9) rfl hin rfl (by decide +kernel) rfl rfl (Nat.le_of_ble_eq_true rfl) dX0_init_65 (fun H locs hP hD hS => ?_)
  have hP : va_P D vwCl [(h0, .inr (0, [.int 0, .ref g1, .ref g2, .ref g3, .ref g4, .ref g5, .int 0, .ref g6, .int 0, .ref g7, .ref g8])), (g1, .inl (c1, 72, .inl (fun _ => 0))), (g2, .inl (c2, 72, .inl (fun _ => 0))), (g3, .inl (c3, 6, .inl (fun _ => 0))), (g4, .inl (c4, 6, .inl (fun _ => 0))), (g5, .inl (c5, 72, .inl (fun _ => 0))), (g6, .inl (c6, 40, .inl (fun _ => 0))), (g7, .inl (c7, 40, .inl (fun _ => 0))), (g8, .inl (c8, 40, .inl (fun _ => 0)))] H := hP
  have hD : va_D A [(h0, .inr (0, [.int 0, .ref g1, .ref g2, .ref g3, .ref g4, .ref g5, .int 0, .ref g6, .int 0, .ref g7, .ref g8])), (g1, .inl (c1, 72, .inl (fun _ => 0))), (g2, .inl (c2, 72, .inl (fun _ => 0))), (g3, .inl (c3, 6, .inl (fun _ => 0))), (g4, .inl (c4, 6, .inl (fun _ => 0))), (g5, .inl (c5, 72, .inl (fun _ => 0))), (g6, .inl (c6, 40, .inl (fun _ => 0))), (g7, .inl (c7, 40, .inl (fun _ => 0))), (g8, .inl (c8, 40, .inl (fun _ => 0)))] := hD
  have hP : va_P D vwCl (bW (fun i => [h0, g1, g2, g3, g4, g5, 0, g6, 0, g7, g8, 0].getD i 0) (fun i => [0, c1, c2, c3, c4, c5, 0, c6, 0, c7, c8, 0].getD i 0) s00) H := hP
  have hD : va_D A (bW (fun i => [h0, g1, g2, g3, g4, g5, 0, g6, 0, g7, g8, 0].getD i 0) (fun i => [0, c1, c2, c3, c4, c5, 0, c6, 0, c7, c8, 0].getD i 0) s00) := hD
  have hK : va_K D vwCl (bT (fun i => [0, c1, c2, c3, c4, c5, 0, c6, 0, c7, c8, 0].getD i 0)) s := hK
  exact W.vret hx hb hr (fun t ht hW => ⟨⟨(fun i => [h0, g1, g2, g3, g4, g5, 0, g6, 0, g7, g8, 0].getD i 0, fun i => [0, c1, c2, c3, c4, c5, 0, c6, 0, c7, c8, 0].getD i 0), rfl, rfl, by rw [ht]; exact hP, va_K.moved hW.alike hK, hD⟩, hS.F ht⟩) hS.2.2 dX0_init_68
abbrev mF0 : List Value := [Value.null, Value.null, Value.null, Value.null]
theorem mF0_ok : ∀ j, j < 4 → defaultValue (tyX1 j) = vp_V mF0 j := by
  intro j hj
  match j, hj with
  | 0, _ => rfl
  | 1, _ => rfl
  | 2, _ => rfl
  | 3, _ => rfl
  | j + 4, hj => exact absurd hj (by omega)
abbrev rm_mInit : Room := { frames := 1, cells := 4, slots := 516, locals := 12 }
set_option maxHeartbeats 4000000 in
set_option maxRecDepth 100000 in
theorem met_mInit (l : Launch) (D : va_G) (h0 sz : Nat) : Met l yX1_init (ws_ yX1_init cX1_init 1 none) rm_mInit (va_Pc [.ref h0] (fun U => U.heap.size = sz ∧ va_P D vwCl [(h0, .inr (1, mF0))] U.heap ∧ va_K D vwCl [] U ∧ va_D (fun _ => True) [(h0, .inr (1, mF0))])) (va_Qv (fun u : (Nat → Nat) × (Nat → ClassId) => u.1 0 = h0) (fun u t => mB D u.1 u.2 (va_A [(h0, .inr (1, mF0))] sz) s00 t) (va_A [(h0, .inr (1, mF0))] sz)) 4 516 (va_A [(h0, .inr (1, mF0))] sz) := by
  refine Met.ofW (cc := cX1_init) (maxL := 1) (ret := none) (by decide) rfl ?_
  intro p e s m args below meth c s₁ B hml hv
  obtain ⟨rfl, hsz, hP, hK, hD0⟩ := hv
  have hx := B.exec
  have hb := B.bytes
  have hr := B.returns
  have hts := atoms_spec (ws := ws_ yX1_init cX1_init 1 none) B.pre
  have hts : ∀ w ∈ lw_all, w.before _ s = true := fun w h => hts w (List.mem_cons_of_mem _ h)
  have hown : s.vm.findClass RX1 = some m.cls := findClass_of_methodNamed B.named
  have hlocks := B.notSynchronized
  have hin : meth.name = "<init>" := (name_of_methodNamed B.named B.method).1
  subst hsz
  have hD := hD0.self (sz := s.heap.size)
  generalize hAe : va_A [(h0, .inr (1, mF0))] s.heap.size = A at hD ⊢
  have hA : ∀ q : Nat, s.heap.size ≤ q → A q := fun q h => by rw [← hAe]; exact Or.inr h
  have hS : va_S A s.heap s.heap [] := va_S.rf
  have hP : va_P D vwCl [(h0, .inr (1, mF0))] s.heap := hP
  have hl := lv_entry ([.ref h0]) (n := 1) (Nat.le_of_ble_eq_true rfl)
  rw [lg_entry_eq]
  generalize (lg_sl ([.ref h0]) ++ List.replicate (1 - (lg_sl ([.ref h0])).length) Slot.unset).toArray = ls at hl ⊢
  have hl : lv_has ls 1 [(0, .ref h0)] := hl
  change W p l e rm_mInit s m _ below meth c s.heap [] 0 0 _ (F0 m 0 ls [])
  refine lv_aload_n hx hb dX1_init_0 rfl (lv_at hl 0 rfl) ?_
  refine W.objInit hx hb hown (hts _ q140) (hts _ q22) (hts _ q23) rfl (by rw [hml]; exact hl.1) rfl dX1_init_1 (Nat.le_of_ble_eq_true rfl) (Nat.le_of_ble_eq_true rfl) ?_
  refine W.eq (g2 := F0 m 4 ls []) rfl ?_
  refine lv_aload_n hx hb dX1_init_4 rfl (lv_at hl 0 rfl) ?_
  refine lv_sipush (v := 222) hx hb dX1_init_5 (by decide) ?_
  refine va_newa (atype := .boolean) (N' := 222) (ty := .boolean) (a0 := (222, .inl (fun _ => 0))) hx hb (hts _ q59) rfl hK hP hD hS hA (fun cA => vp_cell_i cA 222 (fun _ => 0)) (by decide) (by decide) (Nat.le_of_ble_eq_true rfl) (Nat.le_of_ble_eq_true rfl) (Nat.le_of_ble_eq_true rfl) dX1_init_8 (fun g1 c1 H hK hP hD hS => ?_)
  refine W.widen (k := 1) (n := 222) (Nat.le_of_ble_eq_true rfl) (Nat.le_of_ble_eq_true rfl) ?_
  have hK : va_K D vwCl [(c1, .boolean)] s := hK
  have hP : va_P D vwCl [(h0, .inr (1, [.null, .null, .null, .null])), (g1, .inl (c1, 222, .inl (fun _ => 0)))] H := hP
  have hD : va_D A [(h0, .inr (1, [.null, .null, .null, .null])), (g1, .inl (c1, 222, .inl (fun _ => 0)))] := hD
  refine va_putF (D := D) (ci := 1) (v := .ref g1) (ty := .array .boolean) (C := RX1) (T := TX1) (N := 4) hx hb hts in_X1 tyX1 tyX1_ok nmX1 hown hK hP hD hS 0 rfl rfl 0 (by decide) (hts _ q141) (fun _ h9 => h9) rfl hin rfl (by decide +kernel) rfl rfl (Nat.le_of_ble_eq_true rfl) dX1_init_10 (fun H locs hP hD hS => ?_)
  have hP : va_P D vwCl [(h0, .inr (1, [.ref g1, .null, .null, .null])), (g1, .inl (c1, 222, .inl (fun _ => 0)))] H := hP
  have hD : va_D A [(h0, .inr (1, [.ref g1, .null, .null, .null])), (g1, .inl (c1, 222, .inl (fun _ => 0)))] := hD
  refine lv_aload_n hx hb dX1_init_13 rfl (lv_at hl 0 rfl) ?_
  refine lv_sipush (v := 222) hx hb dX1_init_14 (by decide) ?_
  refine va_newa (atype := .int) (N' := 222) (ty := .int) (a0 := (222, .inl (fun _ => 0))) hx hb (hts _ q58) rfl hK hP hD hS hA (fun cA => vp_cell_i cA 222 (fun _ => 0)) (by decide) (by decide) (Nat.le_of_ble_eq_true rfl) (Nat.le_of_ble_eq_true rfl) (Nat.le_of_ble_eq_true rfl) dX1_init_17 (fun g2 c2 H hK hP hD hS => ?_)
  refine W.widen (k := 2) (n := 444) (Nat.le_of_ble_eq_true rfl) (Nat.le_of_ble_eq_true rfl) ?_
  have hK : va_K D vwCl [(c1, .boolean), (c2, .int)] s := hK
  have hP : va_P D vwCl [(h0, .inr (1, [.ref g1, .null, .null, .null])), (g1, .inl (c1, 222, .inl (fun _ => 0))), (g2, .inl (c2, 222, .inl (fun _ => 0)))] H := hP
  have hD : va_D A [(h0, .inr (1, [.ref g1, .null, .null, .null])), (g1, .inl (c1, 222, .inl (fun _ => 0))), (g2, .inl (c2, 222, .inl (fun _ => 0)))] := hD
  refine va_putF (D := D) (ci := 1) (v := .ref g2) (ty := .array .int) (C := RX1) (T := TX1) (N := 4) hx hb hts in_X1 tyX1 tyX1_ok nmX1 hown hK hP hD hS 0 rfl rfl 1 (by decide) (hts _ q142) (fun _ h9 => h9) rfl hin rfl (by decide +kernel) rfl rfl (Nat.le_of_ble_eq_true rfl) dX1_init_19 (fun H locs hP hD hS => ?_)
  have hP : va_P D vwCl [(h0, .inr (1, [.ref g1, .ref g2, .null, .null])), (g1, .inl (c1, 222, .inl (fun _ => 0))), (g2, .inl (c2, 222, .inl (fun _ => 0)))] H := hP
  have hD : va_D A [(h0, .inr (1, [.ref g1, .ref g2, .null, .null])), (g1, .inl (c1, 222, .inl (fun _ => 0))), (g2, .inl (c2, 222, .inl (fun _ => 0)))] := hD
  refine lv_aload_n hx hb dX1_init_22 rfl (lv_at hl 0 rfl) ?_
  refine lv_bipush (v := 36) hx hb dX1_init_23 (by decide) ?_
  refine va_newa (atype := .int) (N' := 36) (ty := .int) (a0 := (36, .inl (fun _ => 0))) hx hb (hts _ q58) rfl hK hP hD hS hA (fun cA => vp_cell_i cA 36 (fun _ => 0)) (by decide) (by decide) (Nat.le_of_ble_eq_true rfl) (Nat.le_of_ble_eq_true rfl) (Nat.le_of_ble_eq_true rfl) dX1_init_25 (fun g3 c3 H hK hP hD hS => ?_)
  refine W.widen (k := 3) (n := 480) (Nat.le_of_ble_eq_true rfl) (Nat.le_of_ble_eq_true rfl) ?_
  have hK : va_K D vwCl [(c1, .boolean), (c2, .int), (c3, .int)] s := hK
  have hP : va_P D vwCl [(h0, .inr (1, [.ref g1, .ref g2, .null, .null])), (g1, .inl (c1, 222, .inl (fun _ => 0))), (g2, .inl (c2, 222, .inl (fun _ => 0))), (g3, .inl (c3, 36, .inl (fun _ => 0)))] H := hP
  have hD : va_D A [(h0, .inr (1, [.ref g1, .ref g2, .null, .null])), (g1, .inl (c1, 222, .inl (fun _ => 0))), (g2, .inl (c2, 222, .inl (fun _ => 0))), (g3, .inl (c3, 36, .inl (fun _ => 0)))] := hD
  refine va_putF (D := D) (ci := 1) (v := .ref g3) (ty := .array .int) (C := RX1) (T := TX1) (N := 4) hx hb hts in_X1 tyX1 tyX1_ok nmX1 hown hK hP hD hS 0 rfl rfl 2 (by decide) (hts _ q143) (fun _ h9 => h9) rfl hin rfl (by decide +kernel) rfl rfl (Nat.le_of_ble_eq_true rfl) dX1_init_27 (fun H locs hP hD hS => ?_)
  have hP : va_P D vwCl [(h0, .inr (1, [.ref g1, .ref g2, .ref g3, .null])), (g1, .inl (c1, 222, .inl (fun _ => 0))), (g2, .inl (c2, 222, .inl (fun _ => 0))), (g3, .inl (c3, 36, .inl (fun _ => 0)))] H := hP
  have hD : va_D A [(h0, .inr (1, [.ref g1, .ref g2, .ref g3, .null])), (g1, .inl (c1, 222, .inl (fun _ => 0))), (g2, .inl (c2, 222, .inl (fun _ => 0))), (g3, .inl (c3, 36, .inl (fun _ => 0)))] := hD
  refine lv_aload_n hx hb dX1_init_30 rfl (lv_at hl 0 rfl) ?_
  refine lv_bipush (v := 36) hx hb dX1_init_31 (by decide) ?_
  refine va_newa (atype := .boolean) (N' := 36) (ty := .boolean) (a0 := (36, .inl (fun _ => 0))) hx hb (hts _ q59) rfl hK hP hD hS hA (fun cA => vp_cell_i cA 36 (fun _ => 0)) (by decide) (by decide) (Nat.le_of_ble_eq_true rfl) (Nat.le_of_ble_eq_true rfl) (Nat.le_of_ble_eq_true rfl) dX1_init_33 (fun g4 c4 H hK hP hD hS => ?_)
  refine W.widen (k := 4) (n := 516) (Nat.le_of_ble_eq_true rfl) (Nat.le_of_ble_eq_true rfl) ?_
  have hK : va_K D vwCl [(c1, .boolean), (c2, .int), (c3, .int), (c4, .boolean)] s := hK
  have hP : va_P D vwCl [(h0, .inr (1, [.ref g1, .ref g2, .ref g3, .null])), (g1, .inl (c1, 222, .inl (fun _ => 0))), (g2, .inl (c2, 222, .inl (fun _ => 0))), (g3, .inl (c3, 36, .inl (fun _ => 0))), (g4, .inl (c4, 36, .inl (fun _ => 0)))] H := hP
  have hD : va_D A [(h0, .inr (1, [.ref g1, .ref g2, .ref g3, .null])), (g1, .inl (c1, 222, .inl (fun _ => 0))), (g2, .inl (c2, 222, .inl (fun _ => 0))), (g3, .inl (c3, 36, .inl (fun _ => 0))), (g4, .inl (c4, 36, .inl (fun _ => 0)))] := hD
  refine va_putF (D := D) (ci := 1) (v := .ref g4) (ty := .array .boolean) (C := RX1) (T := TX1) (N := 4) hx hb hts in_X1 tyX1 tyX1_ok nmX1 hown hK hP hD hS 0 rfl rfl 3 (by decide) (hts _ q144) (fun _ h9 => h9) rfl hin rfl (by decide +kernel) rfl rfl (Nat.le_of_ble_eq_true rfl) dX1_init_35 (fun H locs hP hD hS => ?_)
  have hP : va_P D vwCl [(h0, .inr (1, [.ref g1, .ref g2, .ref g3, .ref g4])), (g1, .inl (c1, 222, .inl (fun _ => 0))), (g2, .inl (c2, 222, .inl (fun _ => 0))), (g3, .inl (c3, 36, .inl (fun _ => 0))), (g4, .inl (c4, 36, .inl (fun _ => 0)))] H := hP
  have hD : va_D A [(h0, .inr (1, [.ref g1, .ref g2, .ref g3, .ref g4])), (g1, .inl (c1, 222, .inl (fun _ => 0))), (g2, .inl (c2, 222, .inl (fun _ => 0))), (g3, .inl (c3, 36, .inl (fun _ => 0))), (g4, .inl (c4, 36, .inl (fun _ => 0)))] := hD
  have hP : va_P D vwCl (mW (fun i => [h0, g1, g2, g3, g4, 0, 0, 0, 0, 0, 0, 0].getD i 0) (fun i => [c1, c2, c3, c4, 0, 0, 0, 0, 0, 0, 0, 0].getD i 0) s00) H := hP
  have hD : va_D A (mW (fun i => [h0, g1, g2, g3, g4, 0, 0, 0, 0, 0, 0, 0].getD i 0) (fun i => [c1, c2, c3, c4, 0, 0, 0, 0, 0, 0, 0, 0].getD i 0) s00) := hD
  have hK : va_K D vwCl (mT (fun i => [c1, c2, c3, c4, 0, 0, 0, 0, 0, 0, 0, 0].getD i 0)) s := hK
  exact W.vret hx hb hr (fun t ht hW => ⟨⟨(fun i => [h0, g1, g2, g3, g4, 0, 0, 0, 0, 0, 0, 0].getD i 0, fun i => [c1, c2, c3, c4, 0, 0, 0, 0, 0, 0, 0, 0].getD i 0), rfl, rfl, by rw [ht]; exact hP, va_K.moved hW.alike hK, hD⟩, hS.F ht⟩) hS.2.2 dX1_init_38
end
section
/-! printed by genlaw.py: the law's world, calls and loop -/
def lI (D : va_G) (a : Nat → Nat) (k : Nat → ClassId) (a' : Nat → Nat) (k' : Nat → ClassId) (A : Nat → Prop) (s : State) (σ τ : St) (H : Heap) (locs : List Loc) : Prop := va_K D vwCl (bT k ++ mT k') s ∧ va_P D vwCl (bW a k σ ++ mW a' k' τ) H ∧ va_D A (bW a k σ ++ mW a' k' τ) ∧ va_S A s.heap H locs
theorem lt_cond {L i : Nat} (hL : L < 1000) (hi : i < 1000) (h : L < i + 4) : Int32.ofNat L - 4 < nI i := by
  rw [Int32.lt_iff_toInt_lt, show Int32.ofNat L - 4 = nI L - nI 4 from rfl, pk_sub_toInt (by omega) (by omega), nI_toInt (by omega)]
  omega
theorem lt_cond_not {L i : Nat} (hL : L < 1000) (hi : i < 1000) (h : ¬ Int32.ofNat L - 4 < nI i) : i + 4 ≤ L := by
  rcases Nat.lt_or_ge L (i + 4) with q | q
  · exact absurd (lt_cond hL hi q) h
  · exact q
section LROW
variable {p : Program} {l : Launch} {e : Env} {R : Room} {s : State} {m : MethodId} {args : Array Value} {below : List Frame} {meth : Method} {c : Code} {H : Heap} {locs : List Loc} {cells slots : Nat} {Q : State → Prop} {cc : ByteArray} {pc : Nat} {ls : Array Slot} {rest st : List Value} {D : va_G} {A : Nat → Prop} {a a' : Nat → Nat} {k k' : Nat → ClassId} {σ τ : St}
theorem l_callB {own : String} {nL maxL index n : Nat} {y : MethodName} {bytes : ByteArray} {ret : Option FieldType} {rm : Room} {As : List Value} {P : Int32 → St → Prop} (S : CallFix p m c cc nL s args lw_all own) (hM : ∀ sz : Nat, Met l y (ws_ y bytes maxL ret) rm (bPc D a k σ sz As) (va_Qi P (bB D a k (va_A (bW a k σ) sz)) (va_A (bW a k σ) sz)) 0 0 (va_A (bW a k σ) sz)) (cw : CallW R s args own RX0 index y bytes maxL ret (ws_ y bytes maxL ret) rm 0 0 n) (hI : lI D a k a' k' A s σ τ H locs) (hA : ∀ q : Nat, s.heap.size ≤ q → A q) (hn : As.length = n) (hsize : ls.size = nL) (hst : st = As.reverse ++ .ref (a 0) :: rest) (hW : (rest.map fun v => v.category).sum ≤ 8) (hdg : decode cc pc = .ok (.invokevirtual index, 3)) (hf : cells + 0 ≤ R.cells ∧ slots + 0 ≤ R.slots)
    (kk : ∀ (r : Int32) (σ1 : St) (H1 : Heap) (locs1 : List Loc), P r σ1 → lI D a k a' k' A s σ1 τ H1 locs1 → W p l e R s m args below meth c H1 locs1 cells slots Q (F0 m (pc + 3) ls (.int r :: rest))) : W p l e R s m args below meth c H locs cells slots Q (F0 m pc ls st) := by
  obtain ⟨hK, hP, hD, hS⟩ := hI
  have hPc := hP.sub (ws' := bW a k σ) [0, 1, 2, 3, 4, 5, 6, 7, 8] rfl
  have hDc := hD.sub (ws' := bW a k σ) [0, 1, 2, 3, 4, 5, 6, 7, 8] (by decide) rfl
  have hKc := hK.sub (tys' := bT k) [0, 1, 2, 3, 4, 5, 6, 7] rfl
  have hFc := va_free (wc := bW a k σ) hD hS hA [0, 1, 2, 3, 4, 5, 6, 7, 8] rfl
  refine va_calli (va_runV (As := As) (rest := rest) S (hM H.size) cw ⟨fun a U g mk q => by obtain ⟨q0, q1, qP, qK, qD⟩ := q; exact ⟨q0, q1, qP, va_K.moved (u := U) (U := U.calling g mk a) (Vm.Alike.refl U.vm) qK, qD⟩, va_recv hKc hPc (ci := 0) (q0 := 0) rfl rfl, fun U hU hW => ⟨rfl, by rw [hU], by rw [hU]; exact hPc, va_K.moved hW.alike hKc, hDc.weaken (fun _ _ _ _ => trivial)⟩⟩ rfl hn hsize hst (lv_room hW) hdg hf) hS (fun q _ h => hFc q h) hFc (fun r u t H1 locs1 ht hvm hw hB hz hk hS1 => ?_)
  obtain ⟨hP1, hK1, hD1⟩ := hB
  rw [ht] at hP1
  obtain ⟨hP2, hD2⟩ := va_join (wr := mW a' k' τ) (w1 := bW a k u) hP hD [0, 1, 2, 3, 4, 5, 6, 7, 8] [9, 10, 11, 12, 13] rfl rfl (by decide) (by decide) hk hFc hP1 hD1
  exact kk r u H1 locs1 hw ⟨hK, hP2.sub [5, 6, 7, 8, 9, 10, 11, 12, 13, 0, 1, 2, 3, 4] rfl, hD2.sub [5, 6, 7, 8, 9, 10, 11, 12, 13, 0, 1, 2, 3, 4] (by decide) rfl, hS1⟩
theorem l_callM {own : String} {nL maxL index n : Nat} {y : MethodName} {bytes : ByteArray} {ret : Option FieldType} {rm : Room} {As : List Value} {P : Int32 → St → Prop} (S : CallFix p m c cc nL s args lw_all own) (hM : ∀ sz : Nat, Met l y (ws_ y bytes maxL ret) rm (mPc D a' k' τ sz As) (va_Qi P (mB D a' k' (va_A (mW a' k' τ) sz)) (va_A (mW a' k' τ) sz)) 0 0 (va_A (mW a' k' τ) sz)) (cw : CallW R s args own RX1 index y bytes maxL ret (ws_ y bytes maxL ret) rm 0 0 n) (hI : lI D a k a' k' A s σ τ H locs) (hA : ∀ q : Nat, s.heap.size ≤ q → A q) (hn : As.length = n) (hsize : ls.size = nL) (hst : st = As.reverse ++ .ref (a' 0) :: rest) (hW : (rest.map fun v => v.category).sum ≤ 8) (hdg : decode cc pc = .ok (.invokevirtual index, 3)) (hf : cells + 0 ≤ R.cells ∧ slots + 0 ≤ R.slots)
    (kk : ∀ (r : Int32) (σ1 : St) (H1 : Heap) (locs1 : List Loc), P r σ1 → lI D a k a' k' A s σ σ1 H1 locs1 → W p l e R s m args below meth c H1 locs1 cells slots Q (F0 m (pc + 3) ls (.int r :: rest))) : W p l e R s m args below meth c H locs cells slots Q (F0 m pc ls st) := by
  obtain ⟨hK, hP, hD, hS⟩ := hI
  have hPc := hP.sub (ws' := mW a' k' τ) [9, 10, 11, 12, 13] rfl
  have hDc := hD.sub (ws' := mW a' k' τ) [9, 10, 11, 12, 13] (by decide) rfl
  have hKc := hK.sub (tys' := mT k') [8, 9, 10, 11] rfl
  have hFc := va_free (wc := mW a' k' τ) hD hS hA [9, 10, 11, 12, 13] rfl
  refine va_calli (va_runV (As := As) (rest := rest) S (hM H.size) cw ⟨fun a U g mk q => by obtain ⟨q0, q1, qP, qK, qD⟩ := q; exact ⟨q0, q1, qP, va_K.moved (u := U) (U := U.calling g mk a) (Vm.Alike.refl U.vm) qK, qD⟩, va_recv hKc hPc (ci := 1) (q0 := 0) rfl rfl, fun U hU hW => ⟨rfl, by rw [hU], by rw [hU]; exact hPc, va_K.moved hW.alike hKc, hDc.weaken (fun _ _ _ _ => trivial)⟩⟩ rfl hn hsize hst (lv_room hW) hdg hf) hS (fun q _ h => hFc q h) hFc (fun r u t H1 locs1 ht hvm hw hB hz hk hS1 => ?_)
  obtain ⟨hP1, hK1, hD1⟩ := hB
  rw [ht] at hP1
  obtain ⟨hP2, hD2⟩ := va_join (wr := bW a k σ) (w1 := mW a' k' u) hP hD [9, 10, 11, 12, 13] [0, 1, 2, 3, 4, 5, 6, 7, 8] rfl rfl (by decide) (by decide) hk hFc hP1 hD1
  exact kk r u H1 locs1 hw ⟨hK, hP2, hD2, hS1⟩
end LROW
set_option maxHeartbeats 4000000 in
set_option maxRecDepth 100000 in
/-- the law's loop at its head, i ints read: the two objects agree -/
theorem law_loop {p : Program} {l : Launch} {e : Env} {s : State} {m : MethodId} {below : List Frame} {meth : Method} {c : Code} {D : va_G} {a a' : Nat → Nat} {k k' : Nat → ClassId} {b L : Nat} {xs : Nat → Int32} (hL : L ≤ 256) (C0 : lw_At p s m meth c b L xs) :
    ∀ (n i : Nat) (σ τ : St) (H : Heap) (locs : List Loc) (ls : Array Slot), i < 1000 → L + 1 ≤ i + n → Inv σ τ → lI D a k a' k' (fun q : Nat => s.heap.size ≤ q) s σ τ H locs → lv_has ls 4 [(0, .ref b), (1, .ref (a 0)), (2, .ref (a' 0)), (3, .int (nI i))] → W p l e room_1 s m #[Value.ref b] below meth c H locs 14 879 (lw_Z below #[Value.ref b] s) (F0 m 18 ls []) := by
  obtain ⟨hx, hb, hr, hml, hown, hts0, hX, hbl, hlocks, hgv⟩ := C0
  have hts : ∀ w ∈ lw_all, w.before #[Value.ref b] s = true := fun w h => hts0 w (lw_all_tbl h)
  have hA : ∀ q : Nat, s.heap.size ≤ q → (fun q : Nat => s.heap.size ≤ q) q := fun _ h => h
  have hbA : ¬ (fun q : Nat => s.heap.size ≤ q) b := Nat.not_le.mpr hbl
  have hend : ∀ (H : Heap) (locs : List Loc) (ls : Array Slot), va_S (fun q : Nat => s.heap.size ≤ q) s.heap H locs → W p l e room_1 s m #[Value.ref b] below meth c H locs 14 879 (lw_Z below #[Value.ref b] s) (F0 m 384 ls []) := by
    intro H locs ls hS
    refine lv_iconst (v := 1) hx hb dL_law_384 (by decide) ?_
    refine va_forget (fun q hq => hS.2.2 q hq) ?_
    refine W.widen (k := 600000) (n := 7290000) (Nat.le_of_ble_eq_true rfl) (Nat.le_of_ble_eq_true rfl) ?_
    exact lw_ret hx hb hr hlocks dL_law_385
  intro n
  induction n with
  | zero =>
    intro i σ τ H locs ls hi hn hJ hI hl
    refine lv_iload_n hx hb dL_law_18 rfl (lv_at hl 3 rfl) ?_
    refine lv_aload_n hx hb dL_law_19 rfl (lv_at hl 0 rfl) ?_
    refine va_slen hx hb hX hbl hbA hI.2.2.2 dL_law_20 ?_
    refine lv_iconst (v := 4) hx hb dL_law_21 (by decide) ?_
    refine lv_isub hx hb dL_law_22 ?_
    refine lv_icmp_gt (tgt := 384) hx hb dL_law_23 (by decide) (fun c_ => hend H locs ls hI.2.2.2) (fun c_ => absurd ?_ c_)
    exact lt_cond (by omega) hi (by omega)
  | succ n ih =>
    intro i σ τ H locs ls hi hn hJ hI hl
    refine lv_iload_n hx hb dL_law_18 rfl (lv_at hl 3 rfl) ?_
    refine lv_aload_n hx hb dL_law_19 rfl (lv_at hl 0 rfl) ?_
    refine va_slen hx hb hX hbl hbA hI.2.2.2 dL_law_20 ?_
    refine lv_iconst (v := 4) hx hb dL_law_21 (by decide) ?_
    refine lv_isub hx hb dL_law_22 ?_
    refine lv_icmp_gt (tgt := 384) hx hb dL_law_23 (by decide) (fun c_ => hend H locs ls hI.2.2.2) (fun c_ => ?_)
    have hi4 : i + 4 ≤ L := lt_cond_not (by omega) hi c_
    have v0 : vp_in (nI i) L := vp_in_nI (by omega) (by omega)
    have v1 : vp_in (nI i + 1) L := by rw [nI_1]; exact vp_in_nI (by omega) (by omega)
    have v2 : vp_in (nI i + 2) L := by rw [show (2 : Int32) = nI 2 from rfl, nI_add]; exact vp_in_nI (by omega) (by omega)
    have v3 : vp_in (nI i + 3) L := by rw [show (3 : Int32) = nI 3 from rfl, nI_add]; exact vp_in_nI (by omega) (by omega)
    have h378 : ∀ (σ τ : St) (H : Heap) (locs : List Loc) (ls : Array Slot), Inv σ τ → lI D a k a' k' (fun q : Nat => s.heap.size ≤ q) s σ τ H locs → lv_has ls 4 [(0, .ref b), (1, .ref (a 0)), (2, .ref (a' 0)), (3, .int (nI i))] → W p l e room_1 s m #[Value.ref b] below meth c H locs 14 879 (lw_Z below #[Value.ref b] s) (F0 m 378 ls []) := by
      intro σ τ H locs ls hJ hI hl
      refine lv_iinc (v := nI (i + 4)) (lv' := [(3, .int (nI (i + 4))), (0, .ref b), (1, .ref (a 0)), (2, .ref (a' 0))]) hx hb dL_law_378 hl (k := 3) rfl (by rw [show Int32.ofInt 4 = nI 4 from rfl, nI_add]) (by decide) rfl (fun ls hl => ?_)
      refine lv_goto (tgt := 18) hx hb dL_law_381 (by decide) ?_
      exact ih (i + 4) σ τ H locs ls (by omega) (by omega) hJ hI (lv_sub hl [1, 2, 3, 0] rfl)
    refine lv_aload_n hx hb dL_law_26 rfl (lv_at hl 0 rfl) ?_
    refine lv_iload_n hx hb dL_law_27 rfl (lv_at hl 3 rfl) ?_
    refine va_sld hx hb hX hbl hbA hI.2.2.2 v0 dL_law_28 ?_
    refine lv_bipush (v := 15) hx hb dL_law_29 (by decide) ?_
    refine lv_iand hx hb dL_law_31 ?_
    obtain ⟨j, hj, ej⟩ := pk_andE (xs (nI i).toNatClampNeg) (m := 15) 4 (by decide)
    rw [ej]
    have hj : j < 16 := hj
    by_cases h9 : 10 ≤ j
    · refine lv_tableOut (tgt := 378) hx hb dL_law_32 (Or.inr ?_) (by decide) ?_
      · rw [nI_toInt (by omega)]; omega
      · exact h378 σ τ H locs ls hJ hI hl
    have hc : j = 0 ∨ j = 1 ∨ j = 2 ∨ j = 3 ∨ j = 4 ∨ j = 5 ∨ j = 6 ∨ j = 7 ∨ j = 8 ∨ j = 9 := by omega
    rcases hc with e | e | e | e | e | e | e | e | e | e <;> subst e
    · refine lv_tableIn (off := 56) (tgt := 88) hx hb dL_law_32 (by decide) (by decide) (by decide) (by decide) ?_
      refine lv_aload_n hx hb dL_law_88 rfl (lv_at hl 1 rfl) ?_
      refine lv_aload_n hx hb dL_law_89 rfl (lv_at hl 0 rfl) ?_
      refine lv_iload_n hx hb dL_law_90 rfl (lv_at hl 3 rfl) ?_
      refine lv_iconst (v := 1) hx hb dL_law_91 (by decide) ?_
      refine lv_iadd hx hb dL_law_92 ?_
      refine va_sld hx hb hX hbl hbA hI.2.2.2 v1 dL_law_93 ?_
      refine lv_aload_n hx hb dL_law_94 rfl (lv_at hl 0 rfl) ?_
      refine lv_iload_n hx hb dL_law_95 rfl (lv_at hl 3 rfl) ?_
      refine lv_iconst (v := 2) hx hb dL_law_96 (by decide) ?_
      refine lv_iadd hx hb dL_law_97 ?_
      refine va_sld hx hb hX hbl hbA hI.2.2.2 v2 dL_law_98 ?_
      have hw := op_make hJ (xs (nI i + 1).toNatClampNeg) (xs (nI i + 2).toNatClampNeg)
      refine l_callB (As := [.int (xs (nI i + 1).toNatClampNeg), .int (xs (nI i + 2).toNatClampNeg)]) ⟨hx, hb, hml, hown, hts⟩ (met_bMake l D a k σ (xs (nI i + 1).toNatClampNeg) (xs (nI i + 2).toNatClampNeg) hw) (cwV 2 hts (lw_V q60 q61 q62 q14 q63) rfl rfl rfl (by decide +kernel) ⟨Nat.le_of_ble_eq_true rfl, Nat.le_of_ble_eq_true rfl⟩) hI hA rfl hl.1 rfl (Nat.le_of_ble_eq_true rfl) dL_law_99 ⟨Nat.le_of_ble_eq_true rfl, Nat.le_of_ble_eq_true rfl⟩ (fun r1 σ1 H locs hw hI => ?_)
      refine lv_aload_n hx hb dL_law_102 rfl (lv_at hl 2 rfl) ?_
      refine lv_aload_n hx hb dL_law_103 rfl (lv_at hl 0 rfl) ?_
      refine lv_iload_n hx hb dL_law_104 rfl (lv_at hl 3 rfl) ?_
      refine lv_iconst (v := 1) hx hb dL_law_105 (by decide) ?_
      refine lv_iadd hx hb dL_law_106 ?_
      refine va_sld hx hb hX hbl hbA hI.2.2.2 v1 dL_law_107 ?_
      refine lv_aload_n hx hb dL_law_108 rfl (lv_at hl 0 rfl) ?_
      refine lv_iload_n hx hb dL_law_109 rfl (lv_at hl 3 rfl) ?_
      refine lv_iconst (v := 2) hx hb dL_law_110 (by decide) ?_
      refine lv_iadd hx hb dL_law_111 ?_
      refine va_sld hx hb hX hbl hbA hI.2.2.2 v2 dL_law_112 ?_
      refine l_callM (As := [.int (xs (nI i + 1).toNatClampNeg), .int (xs (nI i + 2).toNatClampNeg)]) ⟨hx, hb, hml, hown, hts⟩ (met_mMake l D a' k' τ (xs (nI i + 1).toNatClampNeg) (xs (nI i + 2).toNatClampNeg) hw) (cwV 2 hts (lw_V q154 q155 q156 q15 q157) rfl rfl rfl (by decide +kernel) ⟨Nat.le_of_ble_eq_true rfl, Nat.le_of_ble_eq_true rfl⟩) hI hA rfl hl.1 rfl (Nat.le_of_ble_eq_true rfl) dL_law_113 ⟨Nat.le_of_ble_eq_true rfl, Nat.le_of_ble_eq_true rfl⟩ (fun r2 τ1 H locs hw hI => ?_)
      refine lv_icmp_eq (tgt := 378) hx hb dL_law_116 (by decide) (fun _ => ?_) (fun c_ => absurd hw.1 c_)
      exact h378 σ1 τ1 H locs ls hw.2 hI hl
    · refine lv_tableIn (off := 89) (tgt := 121) hx hb dL_law_32 (by decide) (by decide) (by decide) (by decide) ?_
      refine lv_aload_n hx hb dL_law_121 rfl (lv_at hl 1 rfl) ?_
      refine lv_aload_n hx hb dL_law_122 rfl (lv_at hl 0 rfl) ?_
      refine lv_iload_n hx hb dL_law_123 rfl (lv_at hl 3 rfl) ?_
      refine lv_iconst (v := 1) hx hb dL_law_124 (by decide) ?_
      refine lv_iadd hx hb dL_law_125 ?_
      refine va_sld hx hb hX hbl hbA hI.2.2.2 v1 dL_law_126 ?_
      refine lv_aload_n hx hb dL_law_127 rfl (lv_at hl 0 rfl) ?_
      refine lv_iload_n hx hb dL_law_128 rfl (lv_at hl 3 rfl) ?_
      refine lv_iconst (v := 2) hx hb dL_law_129 (by decide) ?_
      refine lv_iadd hx hb dL_law_130 ?_
      refine va_sld hx hb hX hbl hbA hI.2.2.2 v2 dL_law_131 ?_
      have hw := op_number hJ (xs (nI i + 1).toNatClampNeg) (xs (nI i + 2).toNatClampNeg)
      refine l_callB (As := [.int (xs (nI i + 1).toNatClampNeg), .int (xs (nI i + 2).toNatClampNeg)]) ⟨hx, hb, hml, hown, hts⟩ (met_bNumber l D a k σ (xs (nI i + 1).toNatClampNeg) (xs (nI i + 2).toNatClampNeg) hw) (cwV 2 hts (lw_V q95 q96 q97 q14 q98) rfl rfl rfl (by decide +kernel) ⟨Nat.le_of_ble_eq_true rfl, Nat.le_of_ble_eq_true rfl⟩) hI hA rfl hl.1 rfl (Nat.le_of_ble_eq_true rfl) dL_law_132 ⟨Nat.le_of_ble_eq_true rfl, Nat.le_of_ble_eq_true rfl⟩ (fun r1 σ1 H locs hw hI => ?_)
      refine lv_aload_n hx hb dL_law_135 rfl (lv_at hl 2 rfl) ?_
      refine lv_aload_n hx hb dL_law_136 rfl (lv_at hl 0 rfl) ?_
      refine lv_iload_n hx hb dL_law_137 rfl (lv_at hl 3 rfl) ?_
      refine lv_iconst (v := 1) hx hb dL_law_138 (by decide) ?_
      refine lv_iadd hx hb dL_law_139 ?_
      refine va_sld hx hb hX hbl hbA hI.2.2.2 v1 dL_law_140 ?_
      refine lv_aload_n hx hb dL_law_141 rfl (lv_at hl 0 rfl) ?_
      refine lv_iload_n hx hb dL_law_142 rfl (lv_at hl 3 rfl) ?_
      refine lv_iconst (v := 2) hx hb dL_law_143 (by decide) ?_
      refine lv_iadd hx hb dL_law_144 ?_
      refine va_sld hx hb hX hbl hbA hI.2.2.2 v2 dL_law_145 ?_
      refine l_callM (As := [.int (xs (nI i + 1).toNatClampNeg), .int (xs (nI i + 2).toNatClampNeg)]) ⟨hx, hb, hml, hown, hts⟩ (met_mNumber l D a' k' τ (xs (nI i + 1).toNatClampNeg) (xs (nI i + 2).toNatClampNeg) hw) (cwV 2 hts (lw_V q181 q182 q183 q15 q184) rfl rfl rfl (by decide +kernel) ⟨Nat.le_of_ble_eq_true rfl, Nat.le_of_ble_eq_true rfl⟩) hI hA rfl hl.1 rfl (Nat.le_of_ble_eq_true rfl) dL_law_146 ⟨Nat.le_of_ble_eq_true rfl, Nat.le_of_ble_eq_true rfl⟩ (fun r2 τ1 H locs hw hI => ?_)
      refine lv_icmp_eq (tgt := 378) hx hb dL_law_149 (by decide) (fun _ => ?_) (fun c_ => absurd hw.1 c_)
      exact h378 σ1 τ1 H locs ls hw.2 hI hl
    · refine lv_tableIn (off := 122) (tgt := 154) hx hb dL_law_32 (by decide) (by decide) (by decide) (by decide) ?_
      refine lv_aload_n hx hb dL_law_154 rfl (lv_at hl 1 rfl) ?_
      refine lv_aload_n hx hb dL_law_155 rfl (lv_at hl 0 rfl) ?_
      refine lv_iload_n hx hb dL_law_156 rfl (lv_at hl 3 rfl) ?_
      refine lv_iconst (v := 1) hx hb dL_law_157 (by decide) ?_
      refine lv_iadd hx hb dL_law_158 ?_
      refine va_sld hx hb hX hbl hbA hI.2.2.2 v1 dL_law_159 ?_
      refine lv_aload_n hx hb dL_law_160 rfl (lv_at hl 0 rfl) ?_
      refine lv_iload_n hx hb dL_law_161 rfl (lv_at hl 3 rfl) ?_
      refine lv_iconst (v := 2) hx hb dL_law_162 (by decide) ?_
      refine lv_iadd hx hb dL_law_163 ?_
      refine va_sld hx hb hX hbl hbA hI.2.2.2 v2 dL_law_164 ?_
      have hw := op_move hJ (xs (nI i + 1).toNatClampNeg) (xs (nI i + 2).toNatClampNeg)
      refine l_callB (As := [.int (xs (nI i + 1).toNatClampNeg), .int (xs (nI i + 2).toNatClampNeg)]) ⟨hx, hb, hml, hown, hts⟩ (met_bMove l D a k σ (xs (nI i + 1).toNatClampNeg) (xs (nI i + 2).toNatClampNeg) hw) (cwV 2 hts (lw_V q99 q100 q101 q14 q102) rfl rfl rfl (by decide +kernel) ⟨Nat.le_of_ble_eq_true rfl, Nat.le_of_ble_eq_true rfl⟩) hI hA rfl hl.1 rfl (Nat.le_of_ble_eq_true rfl) dL_law_165 ⟨Nat.le_of_ble_eq_true rfl, Nat.le_of_ble_eq_true rfl⟩ (fun r1 σ1 H locs hw hI => ?_)
      refine lv_aload_n hx hb dL_law_168 rfl (lv_at hl 2 rfl) ?_
      refine lv_aload_n hx hb dL_law_169 rfl (lv_at hl 0 rfl) ?_
      refine lv_iload_n hx hb dL_law_170 rfl (lv_at hl 3 rfl) ?_
      refine lv_iconst (v := 1) hx hb dL_law_171 (by decide) ?_
      refine lv_iadd hx hb dL_law_172 ?_
      refine va_sld hx hb hX hbl hbA hI.2.2.2 v1 dL_law_173 ?_
      refine lv_aload_n hx hb dL_law_174 rfl (lv_at hl 0 rfl) ?_
      refine lv_iload_n hx hb dL_law_175 rfl (lv_at hl 3 rfl) ?_
      refine lv_iconst (v := 2) hx hb dL_law_176 (by decide) ?_
      refine lv_iadd hx hb dL_law_177 ?_
      refine va_sld hx hb hX hbl hbA hI.2.2.2 v2 dL_law_178 ?_
      refine l_callM (As := [.int (xs (nI i + 1).toNatClampNeg), .int (xs (nI i + 2).toNatClampNeg)]) ⟨hx, hb, hml, hown, hts⟩ (met_mMove l D a' k' τ (xs (nI i + 1).toNatClampNeg) (xs (nI i + 2).toNatClampNeg) hw) (cwV 2 hts (lw_V q185 q186 q187 q15 q188) rfl rfl rfl (by decide +kernel) ⟨Nat.le_of_ble_eq_true rfl, Nat.le_of_ble_eq_true rfl⟩) hI hA rfl hl.1 rfl (Nat.le_of_ble_eq_true rfl) dL_law_179 ⟨Nat.le_of_ble_eq_true rfl, Nat.le_of_ble_eq_true rfl⟩ (fun r2 τ1 H locs hw hI => ?_)
      refine lv_icmp_eq (tgt := 378) hx hb dL_law_182 (by decide) (fun _ => ?_) (fun c_ => absurd hw.1 c_)
      exact h378 σ1 τ1 H locs ls hw.2 hI hl
    · refine lv_tableIn (off := 155) (tgt := 187) hx hb dL_law_32 (by decide) (by decide) (by decide) (by decide) ?_
      refine lv_aload_n hx hb dL_law_187 rfl (lv_at hl 1 rfl) ?_
      refine lv_aload_n hx hb dL_law_188 rfl (lv_at hl 0 rfl) ?_
      refine lv_iload_n hx hb dL_law_189 rfl (lv_at hl 3 rfl) ?_
      refine lv_iconst (v := 1) hx hb dL_law_190 (by decide) ?_
      refine lv_iadd hx hb dL_law_191 ?_
      refine va_sld hx hb hX hbl hbA hI.2.2.2 v1 dL_law_192 ?_
      refine lv_aload_n hx hb dL_law_193 rfl (lv_at hl 0 rfl) ?_
      refine lv_iload_n hx hb dL_law_194 rfl (lv_at hl 3 rfl) ?_
      refine lv_iconst (v := 2) hx hb dL_law_195 (by decide) ?_
      refine lv_iadd hx hb dL_law_196 ?_
      refine va_sld hx hb hX hbl hbA hI.2.2.2 v2 dL_law_197 ?_
      refine lv_aload_n hx hb dL_law_198 rfl (lv_at hl 0 rfl) ?_
      refine lv_iload_n hx hb dL_law_199 rfl (lv_at hl 3 rfl) ?_
      refine lv_iconst (v := 3) hx hb dL_law_200 (by decide) ?_
      refine lv_iadd hx hb dL_law_201 ?_
      refine va_sld hx hb hX hbl hbA hI.2.2.2 v3 dL_law_202 ?_
      have hw := op_store hJ (xs (nI i + 1).toNatClampNeg) (xs (nI i + 2).toNatClampNeg) (xs (nI i + 3).toNatClampNeg)
      refine l_callB (As := [.int (xs (nI i + 1).toNatClampNeg), .int (xs (nI i + 2).toNatClampNeg), .int (xs (nI i + 3).toNatClampNeg)]) ⟨hx, hb, hml, hown, hts⟩ (met_bStore l D a k σ (xs (nI i + 1).toNatClampNeg) (xs (nI i + 2).toNatClampNeg) (xs (nI i + 3).toNatClampNeg) hw) (cwV 3 hts (lw_V q103 q104 q105 q14 q106) rfl rfl rfl (by decide +kernel) ⟨Nat.le_of_ble_eq_true rfl, Nat.le_of_ble_eq_true rfl⟩) hI hA rfl hl.1 rfl (Nat.le_of_ble_eq_true rfl) dL_law_203 ⟨Nat.le_of_ble_eq_true rfl, Nat.le_of_ble_eq_true rfl⟩ (fun r1 σ1 H locs hw hI => ?_)
      refine lv_aload_n hx hb dL_law_206 rfl (lv_at hl 2 rfl) ?_
      refine lv_aload_n hx hb dL_law_207 rfl (lv_at hl 0 rfl) ?_
      refine lv_iload_n hx hb dL_law_208 rfl (lv_at hl 3 rfl) ?_
      refine lv_iconst (v := 1) hx hb dL_law_209 (by decide) ?_
      refine lv_iadd hx hb dL_law_210 ?_
      refine va_sld hx hb hX hbl hbA hI.2.2.2 v1 dL_law_211 ?_
      refine lv_aload_n hx hb dL_law_212 rfl (lv_at hl 0 rfl) ?_
      refine lv_iload_n hx hb dL_law_213 rfl (lv_at hl 3 rfl) ?_
      refine lv_iconst (v := 2) hx hb dL_law_214 (by decide) ?_
      refine lv_iadd hx hb dL_law_215 ?_
      refine va_sld hx hb hX hbl hbA hI.2.2.2 v2 dL_law_216 ?_
      refine lv_aload_n hx hb dL_law_217 rfl (lv_at hl 0 rfl) ?_
      refine lv_iload_n hx hb dL_law_218 rfl (lv_at hl 3 rfl) ?_
      refine lv_iconst (v := 3) hx hb dL_law_219 (by decide) ?_
      refine lv_iadd hx hb dL_law_220 ?_
      refine va_sld hx hb hX hbl hbA hI.2.2.2 v3 dL_law_221 ?_
      refine l_callM (As := [.int (xs (nI i + 1).toNatClampNeg), .int (xs (nI i + 2).toNatClampNeg), .int (xs (nI i + 3).toNatClampNeg)]) ⟨hx, hb, hml, hown, hts⟩ (met_mStore l D a' k' τ (xs (nI i + 1).toNatClampNeg) (xs (nI i + 2).toNatClampNeg) (xs (nI i + 3).toNatClampNeg) hw) (cwV 3 hts (lw_V q193 q194 q195 q15 q196) rfl rfl rfl (by decide +kernel) ⟨Nat.le_of_ble_eq_true rfl, Nat.le_of_ble_eq_true rfl⟩) hI hA rfl hl.1 rfl (Nat.le_of_ble_eq_true rfl) dL_law_222 ⟨Nat.le_of_ble_eq_true rfl, Nat.le_of_ble_eq_true rfl⟩ (fun r2 τ1 H locs hw hI => ?_)
      refine lv_icmp_eq (tgt := 378) hx hb dL_law_225 (by decide) (fun _ => ?_) (fun c_ => absurd hw.1 c_)
      exact h378 σ1 τ1 H locs ls hw.2 hI hl
    · refine lv_tableIn (off := 198) (tgt := 230) hx hb dL_law_32 (by decide) (by decide) (by decide) (by decide) ?_
      refine lv_aload_n hx hb dL_law_230 rfl (lv_at hl 1 rfl) ?_
      refine lv_aload_n hx hb dL_law_231 rfl (lv_at hl 0 rfl) ?_
      refine lv_iload_n hx hb dL_law_232 rfl (lv_at hl 3 rfl) ?_
      refine lv_iconst (v := 1) hx hb dL_law_233 (by decide) ?_
      refine lv_iadd hx hb dL_law_234 ?_
      refine va_sld hx hb hX hbl hbA hI.2.2.2 v1 dL_law_235 ?_
      refine lv_aload_n hx hb dL_law_236 rfl (lv_at hl 0 rfl) ?_
      refine lv_iload_n hx hb dL_law_237 rfl (lv_at hl 3 rfl) ?_
      refine lv_iconst (v := 2) hx hb dL_law_238 (by decide) ?_
      refine lv_iadd hx hb dL_law_239 ?_
      refine va_sld hx hb hX hbl hbA hI.2.2.2 v2 dL_law_240 ?_
      refine lv_aload_n hx hb dL_law_241 rfl (lv_at hl 0 rfl) ?_
      refine lv_iload_n hx hb dL_law_242 rfl (lv_at hl 3 rfl) ?_
      refine lv_iconst (v := 3) hx hb dL_law_243 (by decide) ?_
      refine lv_iadd hx hb dL_law_244 ?_
      refine va_sld hx hb hX hbl hbA hI.2.2.2 v3 dL_law_245 ?_
      have hw := op_load hJ (xs (nI i + 1).toNatClampNeg) (xs (nI i + 2).toNatClampNeg) (xs (nI i + 3).toNatClampNeg)
      refine l_callB (As := [.int (xs (nI i + 1).toNatClampNeg), .int (xs (nI i + 2).toNatClampNeg), .int (xs (nI i + 3).toNatClampNeg)]) ⟨hx, hb, hml, hown, hts⟩ (met_bLoad l D a k σ (xs (nI i + 1).toNatClampNeg) (xs (nI i + 2).toNatClampNeg) (xs (nI i + 3).toNatClampNeg) hw) (cwV 3 hts (lw_V q111 q112 q113 q14 q114) rfl rfl rfl (by decide +kernel) ⟨Nat.le_of_ble_eq_true rfl, Nat.le_of_ble_eq_true rfl⟩) hI hA rfl hl.1 rfl (Nat.le_of_ble_eq_true rfl) dL_law_246 ⟨Nat.le_of_ble_eq_true rfl, Nat.le_of_ble_eq_true rfl⟩ (fun r1 σ1 H locs hw hI => ?_)
      refine lv_aload_n hx hb dL_law_249 rfl (lv_at hl 2 rfl) ?_
      refine lv_aload_n hx hb dL_law_250 rfl (lv_at hl 0 rfl) ?_
      refine lv_iload_n hx hb dL_law_251 rfl (lv_at hl 3 rfl) ?_
      refine lv_iconst (v := 1) hx hb dL_law_252 (by decide) ?_
      refine lv_iadd hx hb dL_law_253 ?_
      refine va_sld hx hb hX hbl hbA hI.2.2.2 v1 dL_law_254 ?_
      refine lv_aload_n hx hb dL_law_255 rfl (lv_at hl 0 rfl) ?_
      refine lv_iload_n hx hb dL_law_256 rfl (lv_at hl 3 rfl) ?_
      refine lv_iconst (v := 2) hx hb dL_law_257 (by decide) ?_
      refine lv_iadd hx hb dL_law_258 ?_
      refine va_sld hx hb hX hbl hbA hI.2.2.2 v2 dL_law_259 ?_
      refine lv_aload_n hx hb dL_law_260 rfl (lv_at hl 0 rfl) ?_
      refine lv_iload_n hx hb dL_law_261 rfl (lv_at hl 3 rfl) ?_
      refine lv_iconst (v := 3) hx hb dL_law_262 (by decide) ?_
      refine lv_iadd hx hb dL_law_263 ?_
      refine va_sld hx hb hX hbl hbA hI.2.2.2 v3 dL_law_264 ?_
      refine l_callM (As := [.int (xs (nI i + 1).toNatClampNeg), .int (xs (nI i + 2).toNatClampNeg), .int (xs (nI i + 3).toNatClampNeg)]) ⟨hx, hb, hml, hown, hts⟩ (met_mLoad l D a' k' τ (xs (nI i + 1).toNatClampNeg) (xs (nI i + 2).toNatClampNeg) (xs (nI i + 3).toNatClampNeg) hw) (cwV 3 hts (lw_V q201 q202 q203 q15 q204) rfl rfl rfl (by decide +kernel) ⟨Nat.le_of_ble_eq_true rfl, Nat.le_of_ble_eq_true rfl⟩) hI hA rfl hl.1 rfl (Nat.le_of_ble_eq_true rfl) dL_law_265 ⟨Nat.le_of_ble_eq_true rfl, Nat.le_of_ble_eq_true rfl⟩ (fun r2 τ1 H locs hw hI => ?_)
      refine lv_icmp_eq (tgt := 378) hx hb dL_law_268 (by decide) (fun _ => ?_) (fun c_ => absurd hw.1 c_)
      exact h378 σ1 τ1 H locs ls hw.2 hI hl
    · refine lv_tableIn (off := 241) (tgt := 273) hx hb dL_law_32 (by decide) (by decide) (by decide) (by decide) ?_
      refine lv_aload_n hx hb dL_law_273 rfl (lv_at hl 1 rfl) ?_
      have hw := op_collect hJ 
      refine l_callB (As := []) ⟨hx, hb, hml, hown, hts⟩ (met_bCollect l D a k σ  hw) (cwV 0 hts (lw_V q115 q116 q117 q14 q118) rfl rfl rfl (by decide +kernel) ⟨Nat.le_of_ble_eq_true rfl, Nat.le_of_ble_eq_true rfl⟩) hI hA rfl hl.1 rfl (Nat.le_of_ble_eq_true rfl) dL_law_274 ⟨Nat.le_of_ble_eq_true rfl, Nat.le_of_ble_eq_true rfl⟩ (fun r1 σ1 H locs hw hI => ?_)
      refine lv_aload_n hx hb dL_law_277 rfl (lv_at hl 2 rfl) ?_
      refine l_callM (As := []) ⟨hx, hb, hml, hown, hts⟩ (met_mCollect l D a' k' τ  hw) (cwV 0 hts (lw_V q205 q166 q167 q15 q168) rfl rfl rfl (by decide +kernel) ⟨Nat.le_of_ble_eq_true rfl, Nat.le_of_ble_eq_true rfl⟩) hI hA rfl hl.1 rfl (Nat.le_of_ble_eq_true rfl) dL_law_278 ⟨Nat.le_of_ble_eq_true rfl, Nat.le_of_ble_eq_true rfl⟩ (fun r2 τ1 H locs hw hI => ?_)
      refine lv_icmp_eq (tgt := 378) hx hb dL_law_281 (by decide) (fun _ => ?_) (fun c_ => absurd hw.1 c_)
      exact h378 σ1 τ1 H locs ls hw.2 hI hl
    · refine lv_tableIn (off := 254) (tgt := 286) hx hb dL_law_32 (by decide) (by decide) (by decide) (by decide) ?_
      refine lv_aload_n hx hb dL_law_286 rfl (lv_at hl 1 rfl) ?_
      refine lv_aload_n hx hb dL_law_287 rfl (lv_at hl 0 rfl) ?_
      refine lv_iload_n hx hb dL_law_288 rfl (lv_at hl 3 rfl) ?_
      refine lv_iconst (v := 1) hx hb dL_law_289 (by decide) ?_
      refine lv_iadd hx hb dL_law_290 ?_
      refine va_sld hx hb hX hbl hbA hI.2.2.2 v1 dL_law_291 ?_
      have hw := op_fields hJ (xs (nI i + 1).toNatClampNeg)
      refine l_callB (As := [.int (xs (nI i + 1).toNatClampNeg)]) ⟨hx, hb, hml, hown, hts⟩ (met_bFields l D a k σ (xs (nI i + 1).toNatClampNeg) hw) (cwV 1 hts (lw_V q119 q120 q121 q14 q122) rfl rfl rfl (by decide +kernel) ⟨Nat.le_of_ble_eq_true rfl, Nat.le_of_ble_eq_true rfl⟩) hI hA rfl hl.1 rfl (Nat.le_of_ble_eq_true rfl) dL_law_292 ⟨Nat.le_of_ble_eq_true rfl, Nat.le_of_ble_eq_true rfl⟩ (fun r1 σ1 H locs hw hI => ?_)
      refine lv_aload_n hx hb dL_law_295 rfl (lv_at hl 2 rfl) ?_
      refine lv_aload_n hx hb dL_law_296 rfl (lv_at hl 0 rfl) ?_
      refine lv_iload_n hx hb dL_law_297 rfl (lv_at hl 3 rfl) ?_
      refine lv_iconst (v := 1) hx hb dL_law_298 (by decide) ?_
      refine lv_iadd hx hb dL_law_299 ?_
      refine va_sld hx hb hX hbl hbA hI.2.2.2 v1 dL_law_300 ?_
      refine l_callM (As := [.int (xs (nI i + 1).toNatClampNeg)]) ⟨hx, hb, hml, hown, hts⟩ (met_mFields l D a' k' τ (xs (nI i + 1).toNatClampNeg) hw) (cwV 1 hts (lw_V q206 q207 q208 q15 q209) rfl rfl rfl (by decide +kernel) ⟨Nat.le_of_ble_eq_true rfl, Nat.le_of_ble_eq_true rfl⟩) hI hA rfl hl.1 rfl (Nat.le_of_ble_eq_true rfl) dL_law_301 ⟨Nat.le_of_ble_eq_true rfl, Nat.le_of_ble_eq_true rfl⟩ (fun r2 τ1 H locs hw hI => ?_)
      refine lv_icmp_eq (tgt := 378) hx hb dL_law_304 (by decide) (fun _ => ?_) (fun c_ => absurd hw.1 c_)
      exact h378 σ1 τ1 H locs ls hw.2 hI hl
    · refine lv_tableIn (off := 277) (tgt := 309) hx hb dL_law_32 (by decide) (by decide) (by decide) (by decide) ?_
      refine lv_aload_n hx hb dL_law_309 rfl (lv_at hl 1 rfl) ?_
      refine lv_aload_n hx hb dL_law_310 rfl (lv_at hl 0 rfl) ?_
      refine lv_iload_n hx hb dL_law_311 rfl (lv_at hl 3 rfl) ?_
      refine lv_iconst (v := 1) hx hb dL_law_312 (by decide) ?_
      refine lv_iadd hx hb dL_law_313 ?_
      refine va_sld hx hb hX hbl hbA hI.2.2.2 v1 dL_law_314 ?_
      have hw := op_value hJ (xs (nI i + 1).toNatClampNeg)
      refine l_callB (As := [.int (xs (nI i + 1).toNatClampNeg)]) ⟨hx, hb, hml, hown, hts⟩ (met_bValue l D a k σ (xs (nI i + 1).toNatClampNeg) hw) (cwV 1 hts (lw_V q123 q124 q125 q14 q126) rfl rfl rfl (by decide +kernel) ⟨Nat.le_of_ble_eq_true rfl, Nat.le_of_ble_eq_true rfl⟩) hI hA rfl hl.1 rfl (Nat.le_of_ble_eq_true rfl) dL_law_315 ⟨Nat.le_of_ble_eq_true rfl, Nat.le_of_ble_eq_true rfl⟩ (fun r1 σ1 H locs hw hI => ?_)
      refine lv_aload_n hx hb dL_law_318 rfl (lv_at hl 2 rfl) ?_
      refine lv_aload_n hx hb dL_law_319 rfl (lv_at hl 0 rfl) ?_
      refine lv_iload_n hx hb dL_law_320 rfl (lv_at hl 3 rfl) ?_
      refine lv_iconst (v := 1) hx hb dL_law_321 (by decide) ?_
      refine lv_iadd hx hb dL_law_322 ?_
      refine va_sld hx hb hX hbl hbA hI.2.2.2 v1 dL_law_323 ?_
      refine l_callM (As := [.int (xs (nI i + 1).toNatClampNeg)]) ⟨hx, hb, hml, hown, hts⟩ (met_mValue l D a' k' τ (xs (nI i + 1).toNatClampNeg) hw) (cwV 1 hts (lw_V q210 q211 q212 q15 q213) rfl rfl rfl (by decide +kernel) ⟨Nat.le_of_ble_eq_true rfl, Nat.le_of_ble_eq_true rfl⟩) hI hA rfl hl.1 rfl (Nat.le_of_ble_eq_true rfl) dL_law_324 ⟨Nat.le_of_ble_eq_true rfl, Nat.le_of_ble_eq_true rfl⟩ (fun r2 τ1 H locs hw hI => ?_)
      refine lv_icmp_eq (tgt := 378) hx hb dL_law_327 (by decide) (fun _ => ?_) (fun c_ => absurd hw.1 c_)
      exact h378 σ1 τ1 H locs ls hw.2 hI hl
    · refine lv_tableIn (off := 300) (tgt := 332) hx hb dL_law_32 (by decide) (by decide) (by decide) (by decide) ?_
      refine lv_aload_n hx hb dL_law_332 rfl (lv_at hl 1 rfl) ?_
      refine lv_aload_n hx hb dL_law_333 rfl (lv_at hl 0 rfl) ?_
      refine lv_iload_n hx hb dL_law_334 rfl (lv_at hl 3 rfl) ?_
      refine lv_iconst (v := 1) hx hb dL_law_335 (by decide) ?_
      refine lv_iadd hx hb dL_law_336 ?_
      refine va_sld hx hb hX hbl hbA hI.2.2.2 v1 dL_law_337 ?_
      refine lv_aload_n hx hb dL_law_338 rfl (lv_at hl 0 rfl) ?_
      refine lv_iload_n hx hb dL_law_339 rfl (lv_at hl 3 rfl) ?_
      refine lv_iconst (v := 2) hx hb dL_law_340 (by decide) ?_
      refine lv_iadd hx hb dL_law_341 ?_
      refine va_sld hx hb hX hbl hbA hI.2.2.2 v2 dL_law_342 ?_
      have hw := op_same hJ (xs (nI i + 1).toNatClampNeg) (xs (nI i + 2).toNatClampNeg)
      refine l_callB (As := [.int (xs (nI i + 1).toNatClampNeg), .int (xs (nI i + 2).toNatClampNeg)]) ⟨hx, hb, hml, hown, hts⟩ (met_bSame l D a k σ (xs (nI i + 1).toNatClampNeg) (xs (nI i + 2).toNatClampNeg) hw) (cwV 2 hts (lw_V q127 q128 q129 q14 q130) rfl rfl rfl (by decide +kernel) ⟨Nat.le_of_ble_eq_true rfl, Nat.le_of_ble_eq_true rfl⟩) hI hA rfl hl.1 rfl (Nat.le_of_ble_eq_true rfl) dL_law_343 ⟨Nat.le_of_ble_eq_true rfl, Nat.le_of_ble_eq_true rfl⟩ (fun r1 σ1 H locs hw hI => ?_)
      refine lv_aload_n hx hb dL_law_346 rfl (lv_at hl 2 rfl) ?_
      refine lv_aload_n hx hb dL_law_347 rfl (lv_at hl 0 rfl) ?_
      refine lv_iload_n hx hb dL_law_348 rfl (lv_at hl 3 rfl) ?_
      refine lv_iconst (v := 1) hx hb dL_law_349 (by decide) ?_
      refine lv_iadd hx hb dL_law_350 ?_
      refine va_sld hx hb hX hbl hbA hI.2.2.2 v1 dL_law_351 ?_
      refine lv_aload_n hx hb dL_law_352 rfl (lv_at hl 0 rfl) ?_
      refine lv_iload_n hx hb dL_law_353 rfl (lv_at hl 3 rfl) ?_
      refine lv_iconst (v := 2) hx hb dL_law_354 (by decide) ?_
      refine lv_iadd hx hb dL_law_355 ?_
      refine va_sld hx hb hX hbl hbA hI.2.2.2 v2 dL_law_356 ?_
      refine l_callM (As := [.int (xs (nI i + 1).toNatClampNeg), .int (xs (nI i + 2).toNatClampNeg)]) ⟨hx, hb, hml, hown, hts⟩ (met_mSame l D a' k' τ (xs (nI i + 1).toNatClampNeg) (xs (nI i + 2).toNatClampNeg) hw) (cwV 2 hts (lw_V q214 q215 q216 q15 q217) rfl rfl rfl (by decide +kernel) ⟨Nat.le_of_ble_eq_true rfl, Nat.le_of_ble_eq_true rfl⟩) hI hA rfl hl.1 rfl (Nat.le_of_ble_eq_true rfl) dL_law_357 ⟨Nat.le_of_ble_eq_true rfl, Nat.le_of_ble_eq_true rfl⟩ (fun r2 τ1 H locs hw hI => ?_)
      refine lv_icmp_eq (tgt := 378) hx hb dL_law_360 (by decide) (fun _ => ?_) (fun c_ => absurd hw.1 c_)
      exact h378 σ1 τ1 H locs ls hw.2 hI hl
    · refine lv_tableIn (off := 333) (tgt := 365) hx hb dL_law_32 (by decide) (by decide) (by decide) (by decide) ?_
      refine lv_aload_n hx hb dL_law_365 rfl (lv_at hl 1 rfl) ?_
      have hw := op_used hJ 
      refine l_callB (As := []) ⟨hx, hb, hml, hown, hts⟩ (met_bUsed l D a k σ  hw) (cwV 0 hts (lw_V q131 q132 q133 q14 q134) rfl rfl rfl (by decide +kernel) ⟨Nat.le_of_ble_eq_true rfl, Nat.le_of_ble_eq_true rfl⟩) hI hA rfl hl.1 rfl (Nat.le_of_ble_eq_true rfl) dL_law_366 ⟨Nat.le_of_ble_eq_true rfl, Nat.le_of_ble_eq_true rfl⟩ (fun r1 σ1 H locs hw hI => ?_)
      refine lv_aload_n hx hb dL_law_369 rfl (lv_at hl 2 rfl) ?_
      refine l_callM (As := []) ⟨hx, hb, hml, hown, hts⟩ (met_mUsed l D a' k' τ  hw) (cwV 0 hts (lw_V q218 q162 q163 q15 q164) rfl rfl rfl (by decide +kernel) ⟨Nat.le_of_ble_eq_true rfl, Nat.le_of_ble_eq_true rfl⟩) hI hA rfl hl.1 rfl (Nat.le_of_ble_eq_true rfl) dL_law_370 ⟨Nat.le_of_ble_eq_true rfl, Nat.le_of_ble_eq_true rfl⟩ (fun r2 τ1 H locs hw hI => ?_)
      refine lv_icmp_eq (tgt := 378) hx hb dL_law_373 (by decide) (fun _ => ?_) (fun c_ => absurd hw.1 c_)
      exact h378 σ1 τ1 H locs ls hw.2 hI hl
end
section
set_option maxHeartbeats 4000000 in
set_option maxRecDepth 100000 in
/-- the law, from its entry -/
theorem whole_start {p : Program} {e : Env} {s : State} {m : MethodId} {below : List Frame} {meth : Method} {c : Code} (l : Launch) {b L : Nat} {xs : Nat → Int32} (hL : L ≤ 256) (C0 : lw_At p s m meth c b L xs) : W p l e room_1 s m #[Value.ref b] below meth c s.heap [] 0 0 (lw_Z below #[Value.ref b] s) (entryFrame m ([Value.ref b] : List Value).toArray 4) := by
  obtain ⟨hx, hb, hr, hml, hown, hts0, hX, hbl, hlocks, hgv⟩ := id C0
  have hts : ∀ w ∈ lw_all, w.before #[Value.ref b] s = true := fun w h => hts0 w (lw_all_tbl h)
  have hA : ∀ q : Nat, s.heap.size ≤ q → (fun q : Nat => s.heap.size ≤ q) q := fun _ h => h
  obtain ⟨c0, iS0, hKn0⟩ := u_known (C := RX0) (T := TX0) (N := 11) (n := 11) hts0 (fun w h => lw_all_tbl (in_X0 w h)) (hts0 _ (lw_all_tbl q17))
  obtain ⟨c1, iS1, hKn1⟩ := u_known (C := RX1) (T := TX1) (N := 4) (n := 4) hts0 (fun w h => lw_all_tbl (in_X1 w h)) (hts0 _ (lw_all_tbl q136))
  obtain ⟨dC, dI, hKcl⟩ : ∃ (dC : Nat → ClassId) (dI : Nat → Nat → Nat), ∀ (k : Nat) (q : vw_C), vwCl[k]? = some q → u_Kn s q.1 q.2.1 q.2.2 (dC k) (dI k) := by
    refine ⟨fun k => if k = 0 then c0 else c1, fun k => if k = 0 then iS0 else iS1, ?_⟩
    intro k q hq
    match k, hq with
    | 0, hq => cases hq; exact hKn0
    | 1, hq => cases hq; exact hKn1
    | k + 2, hq => simp [vwCl] at hq
  have hS : va_S (fun q : Nat => s.heap.size ≤ q) s.heap s.heap [] := va_S.rf
  have hK : va_K (dC, dI) vwCl [] s := ⟨hKcl, fun k q h => by simp at h⟩
  have hP : va_P (dC, dI) vwCl [] s.heap := fun k q h => by simp at h
  have hD : va_D (fun q : Nat => s.heap.size ≤ q) [] := ⟨fun i j p q h => by simp at h, fun k q h => by simp at h⟩
  have hl := lv_entry ([.ref b]) (n := 4) (Nat.le_of_ble_eq_true rfl)
  rw [lg_entry_eq]
  generalize (lg_sl ([.ref b]) ++ List.replicate (4 - (lg_sl ([.ref b])).length) Slot.unset).toArray = ls at hl ⊢
  have hl : lv_has ls 4 [(0, .ref b)] := hl
  refine va_new (D := (dC, dI)) (ci := 0) (fs := bF0) (C := RX0) (T := TX0) (N := 11) hx hb hts in_X0 tyX0 tyX0_ok hown (hts _ q16) (hts _ q17) (hts _ q14) hK hP hD hS hA rfl bF0_ok (Nat.le_of_ble_eq_true rfl) (Nat.le_of_ble_eq_true rfl) dL_law_0 (fun h0 H hP hD hS => ?_)
  have hP : va_P (dC, dI) vwCl [(h0, .inr (0, bF0))] H := hP
  have hD : va_D (fun q : Nat => s.heap.size ≤ q) [(h0, .inr (0, bF0))] := hD
  refine W.widen (k := 1) (n := 11) (Nat.le_of_ble_eq_true rfl) (Nat.le_of_ble_eq_true rfl) ?_
  refine lv_dup hx hb dL_law_3 rfl ?_
  have hPc := hP
  have hDc := hD
  have hKc := hK
  have hFc := va_free (wc := [(h0, .inr (0, bF0))]) hD hS hA [0] rfl
  refine va_callv (va_runI (As := []) (rest := [.ref h0]) ⟨hx, hb, hml, hown, hts⟩ (met_bInit l (dC, dI) h0 H.size) (cwI 0 hts (lw_meth q20) rfl rfl rfl (hts _ q14) (hts _ q18) (hts _ q19) rfl (by decide +kernel) ⟨Nat.le_of_ble_eq_true rfl, Nat.le_of_ble_eq_true rfl⟩) ⟨fun a U g mk q => by obtain ⟨q0, q1, qP, qK, qD⟩ := q; exact ⟨q0, q1, qP, va_K.moved (u := U) (U := U.calling g mk a) (Vm.Alike.refl U.vm) qK, qD⟩, fun U hU hW => ⟨rfl, by rw [hU], by rw [hU]; exact hPc, va_K.moved hW.alike hKc, hDc.weaken (fun _ _ _ _ => trivial)⟩⟩ rfl rfl hl.1 rfl (lv_room (Nat.le_of_ble_eq_true rfl)) dL_law_4 ⟨Nat.le_of_ble_eq_true rfl, Nat.le_of_ble_eq_true rfl⟩) hS (fun q _ h => hFc q h) hFc (fun u t H1 locs ht hvm hu hB hz1 hk1 hS => ?_)
  obtain ⟨a, k⟩ := u
  have hu : a 0 = h0 := hu
  subst hu
  obtain ⟨hP1, hK1, hD1⟩ := hB
  rw [ht] at hP1
  have hK : va_K (dC, dI) vwCl (bT k) s := va_K.moved hvm.symm hK1
  obtain ⟨hP, hD⟩ := va_join (wr := []) (w1 := bW a k s00) hP hD [0] [] rfl rfl (by decide) (by decide) hk1 hFc hP1 hD1
  have hP : va_P (dC, dI) vwCl (bW a k s00) H1 := hP
  have hD : va_D (fun q : Nat => s.heap.size ≤ q) (bW a k s00) := hD
  refine W.widen (k := 9) (n := 359) (Nat.le_of_ble_eq_true rfl) (Nat.le_of_ble_eq_true rfl) ?_
  refine lv_astore_n (lv' := [(1, .ref (a 0)), (0, .ref b)]) hx hb dL_law_7 rfl hl (by decide) rfl (fun ls hl => ?_)
  refine va_new (D := (dC, dI)) (ci := 1) (fs := mF0) (C := RX1) (T := TX1) (N := 4) hx hb hts in_X1 tyX1 tyX1_ok hown (hts _ q135) (hts _ q136) (hts _ q15) hK hP hD hS hA rfl mF0_ok (Nat.le_of_ble_eq_true rfl) (Nat.le_of_ble_eq_true rfl) dL_law_8 (fun h1 H hP hD hS => ?_)
  refine W.widen (k := 10) (n := 363) (Nat.le_of_ble_eq_true rfl) (Nat.le_of_ble_eq_true rfl) ?_
  refine lv_dup hx hb dL_law_11 rfl ?_
  have hPc := hP.sub (ws' := [(h1, .inr (1, mF0))]) [9] rfl
  have hDc := hD.sub (ws' := [(h1, .inr (1, mF0))]) [9] (by decide) rfl
  have hKc := hK.sub (tys' := []) [] rfl
  have hFc := va_free (wc := [(h1, .inr (1, mF0))]) hD hS hA [9] rfl
  refine va_callv (va_runI (As := []) (rest := [.ref h1]) ⟨hx, hb, hml, hown, hts⟩ (met_mInit l (dC, dI) h1 H.size) (cwI 0 hts (lw_meth q139) rfl rfl rfl (hts _ q15) (hts _ q137) (hts _ q138) rfl (by decide +kernel) ⟨Nat.le_of_ble_eq_true rfl, Nat.le_of_ble_eq_true rfl⟩) ⟨fun a U g mk q => by obtain ⟨q0, q1, qP, qK, qD⟩ := q; exact ⟨q0, q1, qP, va_K.moved (u := U) (U := U.calling g mk a) (Vm.Alike.refl U.vm) qK, qD⟩, fun U hU hW => ⟨rfl, by rw [hU], by rw [hU]; exact hPc, va_K.moved hW.alike hKc, hDc.weaken (fun _ _ _ _ => trivial)⟩⟩ rfl rfl hl.1 rfl (lv_room (Nat.le_of_ble_eq_true rfl)) dL_law_12 ⟨Nat.le_of_ble_eq_true rfl, Nat.le_of_ble_eq_true rfl⟩) hS (fun q _ h => hFc q h) hFc (fun u t H2 locs ht hvm hu hB hz1 hk1 hS => ?_)
  obtain ⟨a', k'⟩ := u
  have hu : a' 0 = h1 := hu
  subst hu
  obtain ⟨hP1, hK1, hD1⟩ := hB
  rw [ht] at hP1
  have hK : va_K (dC, dI) vwCl (bT k ++ mT k') s := hK.app (va_K.moved hvm.symm hK1)
  obtain ⟨hP, hD⟩ := va_join (wr := bW a k s00) (w1 := mW a' k' s00) hP hD [9] [0, 1, 2, 3, 4, 5, 6, 7, 8] rfl rfl (by decide) (by decide) hk1 hFc hP1 hD1
  refine W.widen (k := 14) (n := 879) (Nat.le_of_ble_eq_true rfl) (Nat.le_of_ble_eq_true rfl) ?_
  refine lv_astore_n (lv' := [(2, .ref (a' 0)), (1, .ref (a 0)), (0, .ref b)]) hx hb dL_law_15 rfl hl (by decide) rfl (fun ls hl => ?_)
  refine lv_iconst (v := 0) hx hb dL_law_16 (by decide) ?_
  refine lv_istore_n (lv' := [(3, .int 0), (2, .ref (a' 0)), (1, .ref (a 0)), (0, .ref b)]) hx hb dL_law_17 rfl hl (by decide) rfl (fun ls hl => ?_)
  exact law_loop (D := (dC, dI)) (a := a) (a' := a') (k := k) (k' := k') hL C0 (L + 1) 0 s00 s00 H2 locs ls (by omega) (by omega) (inv_0 (fun _ _ => rfl) (fun _ _ => rfl)) ⟨hK, hP, hD, hS⟩ (lv_sub hl [3, 2, 1, 0] rfl)
end
section
set_option maxHeartbeats 4000000 in
theorem lw_walk (l : Launch) (b : Addr) (xs : List Int32) : MetFree l x (headSpec (Jvm.Cond.code x code maxLocals ret :: tables_1) room_1) (lw_P b xs) (fun _ _ _ _ _ => True) lw_Q := by
  refine MetFree.of_bodyS (code := code) (maxLocals := maxLocals) (ret := ret) (by decide) ?_ ?_
  · intro args s m h hn
    obtain ⟨meth, c, h1, h2, h3, h4, h5, h6, -, -⟩ := Cond.code_spec hn (atoms_spec (ws := Jvm.Cond.code x code maxLocals ret :: tables_1) h _ List.mem_cons_self)
    exact ⟨meth, c, h1, h2, h3, h4, h5, h6⟩
  · intro p e s m args below meth c s₁ B hml0 hP _
    obtain ⟨rfl, hx, hbd, hgv⟩ := hP
    obtain ⟨scr, harrAt, hlist, hof, hsmall⟩ := hx
    obtain ⟨hcb, hkn, -, -⟩ := State.arrayAt?_spec harrAt
    have hown : s.vm.findClass R_law = some m.cls := findClass_of_methodNamed B.named
    have hts0 : ∀ c ∈ (Jvm.Cond.code x code maxLocals ret :: tables_1), c.before #[Value.ref b] s = true := atoms_spec (ws := Jvm.Cond.code x code maxLocals ret :: tables_1) B.pre
    have hts : ∀ w ∈ lw_tbl, w.before #[Value.ref b] s = true := k2_hts_sels lw_privs (fun w hw => hts0 w (List.mem_cons_of_mem _ hw)) lw_privs_ok
    have hml : c.maxLocals = 4 := B.maxLocals_eq (hts0 _ List.mem_cons_self)
    have X₀ : Stand p l e room_1 s m #[Value.ref b] below meth c s₁ [] 0 0 := Stand.of_body B
    have hh0 : s₁.heap = s.heap := by rw [B.state]; rfl
    have hsz : scr.slots.size = xs.length := by rw [← Array.length_toList, hlist, List.length_map]
    have hval : ∀ j : Nat, j < xs.length → scr.slots[j]? = some (.int (xs.getD j 0)) := fun j hj => by
      rw [← Array.getElem?_toList, hlist]
      simp [hj]
    have hbl : b < s.heap.size := (Array.getElem?_eq_some_iff.mp hcb).1
    have hX : va_X b xs.length (fun j => xs.getD j 0) s s.heap := ⟨scr, hcb, hof, hkn, hsz, hval⟩
    have K : W p l e room_1 s m #[Value.ref b] below meth c s₁.heap [] 0 0 (lw_Z below #[Value.ref b] s) (entryFrame m ([Value.ref b] : List Value).toArray 4) := by
      rw [hh0]
      exact whole_start l hbd ⟨B.exec, B.bytes, B.returns, hml, hown, hts, hX, hbl, B.notSynchronized, hgv⟩
    obtain ⟨t, a1, o, b1, b2, b3⟩ := K s₁ rfl X₀
    exact ⟨t, o, a1, b1, b2, b3⟩
theorem lw_pre_spec {args : Array Value} {s : State} (h : (Jvm.Cond.and given_1 narrow_1).before args s = true) (hr : rest_1_c.before args s = true) : ∃ (b : Addr) (xs : List Int32), lw_P b xs args s := by
  have hs := flat_of_before _ h
  have hq := flat_of_before _ hr
  have hc : (Cond.count 1).before args s = true := hs _ (by decide +kernel)
  have harr : (Cond.arrayOf (.arg 0) .int).before args s = true := hs _ (by decide +kernel)
  have hle : (Cond.le (.length (.arg 0)) (.int 256)).before args s = true := hs _ (by decide +kernel)
  have hlen : (Cond.isInt (.length (.arg 0))).before args s = true := hq _ (by decide +kernel)
  have hall : (Cond.all (.arg 0) (.isInt (.elem (.arg 0) (.index 0)))).before args s = true := hq _ (by decide +kernel)
  obtain ⟨b, xs, hb, hx⟩ := State.ints_of_pre rfl harr hlen hall
  have hsm : xs.length < 2 ^ 31 := hx.choose_spec.2.2.2
  have hev : (Term.length (.arg 0)).eval args s none [] s = some (.int xs.length.toInt32) := hx.length_eval hb
  have hv := Cond.le_ints hev (show (Term.int 256).eval args s none [] s = some (.int 256) from rfl)
  have hd : xs.length.toInt32 ≤ 256 := by
    simpa [Cond.before, Cond.holds, hv] using hle
  have hN : xs.length ≤ 256 := (Int32.ofNat_le_ofNat hsm (by decide)).mp (show Int32.ofNat xs.length ≤ Int32.ofNat 256 from hd)
  exact ⟨b, xs, Cond.one_arg hc (show args[0]? = some (.ref b) from hb), hx, hN, h⟩
theorem lw_comes (l : Launch) : Comes l x (Jvm.Cond.code x code maxLocals ret :: tables_1) room_1 (fun tb e args s => Calls_1 tb e args s ∧ rest_1 tb e args s ∧ Pre_1 tb e args s)
    (fun _ _ args s o t => lw_Q args s o t) := by
  intro p e ha hc hk s m args below hf hfit hheap happ hpre
  obtain ⟨b, xs, hP⟩ := lw_pre_spec hpre.2.2 hpre.2.1
  obtain ⟨k, o, h1, h2, h3, hQ⟩ := lw_walk l b xs p e ha hc hk s m args below hf ((Spec.applies_iff_loose hf).mp happ).1 hP trivial
  exact ⟨k, o, h1, h2, h3, hQ⟩
theorem lw_frame {s t : State} {o : Outcome} {args : Array Value} (h : Framed s o t [] 600000 7290000) :
    Framed s o t (fieldLocs frame_1_writes args s ++ arrayLocs frame_1_arrays args s ++ staticLocs frame_1_statics s) 600000 7290000 := h
theorem lw_limb (L : Cond) (hL : ∀ (args : Array Value) (s t : State), L.after args s (.returned (some (.int 1))) t = true) :
    ArmFor flags0 classFile x code maxLocals ret World_1 tables_1 room_1 Calls_1 rest_1 Pre_1
      (fun tb e a s o t => postC L tb e a s o t ∧ Framed s o t (fieldLocs frame_1_writes a s ++ arrayLocs frame_1_arrays a s ++ staticLocs frame_1_statics s) 600000 7290000) := by
  intro l _ _ _ p e ha hc hk s m args below hf hfit hheap happ hpre
  obtain ⟨k, o, h1, h2, h3, rfl, hF⟩ := lw_comes l p e ha hc hk s m args below hf hfit hheap happ hpre
  exact ⟨k, _, h1, h2, h3, hL args s _, lw_frame hF⟩
theorem i_vc : Claimed_1_1 ∧ Claimed_1_2 := ⟨lw_limb limb_1_1 (fun args s t => by simp [limb_1_1, Cond.after, Cond.holds, Cond.value]), lw_limb limb_1_2 (fun args s t => Cond.after_iff.mpr (by
  first | (rw [show limb_1_2 = Cond.eq .result (.int 1) from rfl, Cond.eq_ints (x := 1) (y := 1) rfl rfl]; simp; done) | (simp [limb_1_2, Cond.value, Term.eval]; done)))⟩
end
