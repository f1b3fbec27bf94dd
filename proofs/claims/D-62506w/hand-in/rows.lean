section
-- ===== PART A: goes FIRST, ahead of the names: the tables' words, and 'selects' of the private methods out of them =====
/-- a private method of a class that the tables say can be made, by its rows of tables_1 -/
def lw_okq (q : MethodName × Nat) : Prop := (q.1.cls ≠ "java/lang/invoke/MethodHandle" ∧ q.1.cls ≠ "java/lang/invoke/VarHandle") ∧ Cond.instantiable q.1.cls q.2 ∈ tables_1 ∧ Cond.privateMethod q.1 ∈ tables_1 ∧ Cond.instanceMethod q.1 ∈ tables_1
set_option maxRecDepth 100000
theorem lw_p0 : lw_okq (⟨"FrontierWatch", "rebuild", "()V"⟩, 13) := ⟨⟨by decide +kernel, by decide +kernel⟩, List.mem_of_getElem? (i := 4) rfl, List.mem_of_getElem? (i := 12) rfl, List.mem_of_getElem? (i := 13) rfl⟩
theorem lw_p1 : lw_okq (⟨"FrontierWatch", "addSum", "(II)V"⟩, 13) := ⟨⟨by decide +kernel, by decide +kernel⟩, List.mem_of_getElem? (i := 4) rfl, List.mem_of_getElem? (i := 16) rfl, List.mem_of_getElem? (i := 17) rfl⟩
theorem lw_p2 : lw_okq (⟨"FrontierWatch", "joinOver", "(II)V"⟩, 13) := ⟨⟨by decide +kernel, by decide +kernel⟩, List.mem_of_getElem? (i := 4) rfl, List.mem_of_getElem? (i := 20) rfl, List.mem_of_getElem? (i := 21) rfl⟩
theorem lw_p3 : lw_okq (⟨"FrontierWatch", "count", "(III)V"⟩, 13) := ⟨⟨by decide +kernel, by decide +kernel⟩, List.mem_of_getElem? (i := 4) rfl, List.mem_of_getElem? (i := 24) rfl, List.mem_of_getElem? (i := 25) rfl⟩
theorem lw_p4 : lw_okq (⟨"FrontierWatch", "tokenAt", "(II)I"⟩, 13) := ⟨⟨by decide +kernel, by decide +kernel⟩, List.mem_of_getElem? (i := 4) rfl, List.mem_of_getElem? (i := 91) rfl, List.mem_of_getElem? (i := 92) rfl⟩
theorem lw_p5 : lw_okq (⟨"FrontierWatch", "reaches", "(IIII)Z"⟩, 13) := ⟨⟨by decide +kernel, by decide +kernel⟩, List.mem_of_getElem? (i := 4) rfl, List.mem_of_getElem? (i := 107) rfl, List.mem_of_getElem? (i := 108) rfl⟩
theorem lw_p6 : lw_okq (⟨"FrontierWatch", "firstMark", "(III)I"⟩, 13) := ⟨⟨by decide +kernel, by decide +kernel⟩, List.mem_of_getElem? (i := 4) rfl, List.mem_of_getElem? (i := 115) rfl, List.mem_of_getElem? (i := 116) rfl⟩
theorem lw_p7 : lw_okq (⟨"FrontierWatchModel", "find", "(III)I"⟩, 10) := ⟨⟨by decide +kernel, by decide +kernel⟩, List.mem_of_getElem? (i := 127) rfl, List.mem_of_getElem? (i := 187) rfl, List.mem_of_getElem? (i := 188) rfl⟩
theorem lw_p8 : lw_okq (⟨"FrontierWatchModel", "spreadTokens", "()V"⟩, 10) := ⟨⟨by decide +kernel, by decide +kernel⟩, List.mem_of_getElem? (i := 127) rfl, List.mem_of_getElem? (i := 199) rfl, List.mem_of_getElem? (i := 200) rfl⟩
theorem lw_p9 : lw_okq (⟨"FrontierWatchModel", "empty", "()V"⟩, 10) := ⟨⟨by decide +kernel, by decide +kernel⟩, List.mem_of_getElem? (i := 127) rfl, List.mem_of_getElem? (i := 203) rfl, List.mem_of_getElem? (i := 204) rfl⟩
theorem lw_p10 : lw_okq (⟨"FrontierWatchModel", "set", "(III)V"⟩, 10) := ⟨⟨by decide +kernel, by decide +kernel⟩, List.mem_of_getElem? (i := 127) rfl, List.mem_of_getElem? (i := 207) rfl, List.mem_of_getElem? (i := 208) rfl⟩
theorem lw_p11 : lw_okq (⟨"FrontierWatchModel", "spread", "()V"⟩, 10) := ⟨⟨by decide +kernel, by decide +kernel⟩, List.mem_of_getElem? (i := 127) rfl, List.mem_of_getElem? (i := 211) rfl, List.mem_of_getElem? (i := 212) rfl⟩
theorem lw_p12 : lw_okq (⟨"FrontierWatchModel", "below", "(IIIZ)Z"⟩, 10) := ⟨⟨by decide +kernel, by decide +kernel⟩, List.mem_of_getElem? (i := 127) rfl, List.mem_of_getElem? (i := 215) rfl, List.mem_of_getElem? (i := 216) rfl⟩
theorem lw_p13 : lw_okq (⟨"FrontierWatchModel", "inFront", "(III)Z"⟩, 10) := ⟨⟨by decide +kernel, by decide +kernel⟩, List.mem_of_getElem? (i := 127) rfl, List.mem_of_getElem? (i := 227) rfl, List.mem_of_getElem? (i := 228) rfl⟩
def lw_privs_1 : List (MethodName × Nat) := [(⟨"FrontierWatch", "rebuild", "()V"⟩, 13), (⟨"FrontierWatch", "addSum", "(II)V"⟩, 13), (⟨"FrontierWatch", "joinOver", "(II)V"⟩, 13), (⟨"FrontierWatch", "count", "(III)V"⟩, 13), (⟨"FrontierWatch", "tokenAt", "(II)I"⟩, 13), (⟨"FrontierWatch", "reaches", "(IIII)Z"⟩, 13), (⟨"FrontierWatch", "firstMark", "(III)I"⟩, 13), (⟨"FrontierWatchModel", "find", "(III)I"⟩, 10), (⟨"FrontierWatchModel", "spreadTokens", "()V"⟩, 10), (⟨"FrontierWatchModel", "empty", "()V"⟩, 10), (⟨"FrontierWatchModel", "set", "(III)V"⟩, 10), (⟨"FrontierWatchModel", "spread", "()V"⟩, 10), (⟨"FrontierWatchModel", "below", "(IIIZ)Z"⟩, 10), (⟨"FrontierWatchModel", "inFront", "(III)Z"⟩, 10)]
theorem lw_r1 : ∀ q ∈ lw_privs_1, lw_okq q := List.forall_mem_cons.mpr ⟨lw_p0, List.forall_mem_cons.mpr ⟨lw_p1, List.forall_mem_cons.mpr ⟨lw_p2, List.forall_mem_cons.mpr ⟨lw_p3, List.forall_mem_cons.mpr ⟨lw_p4, List.forall_mem_cons.mpr ⟨lw_p5, List.forall_mem_cons.mpr ⟨lw_p6, List.forall_mem_cons.mpr ⟨lw_p7, List.forall_mem_cons.mpr ⟨lw_p8, List.forall_mem_cons.mpr ⟨lw_p9, List.forall_mem_cons.mpr ⟨lw_p10, List.forall_mem_cons.mpr ⟨lw_p11, List.forall_mem_cons.mpr ⟨lw_p12, List.forall_mem_cons.mpr ⟨lw_p13, fun _ h => absurd h List.not_mem_nil⟩⟩⟩⟩⟩⟩⟩⟩⟩⟩⟩⟩⟩⟩
def lw_privs : List (MethodName × Nat) := lw_privs_1
def lw_tbl : List Cond := k2_sels lw_privs ++ tables_1
theorem lw_privs_ok : ∀ q ∈ lw_privs, lw_okq q := lw_r1
-- ===== ONE list of words for every method: the tables' words that hold all through a run =====
def lw_all : List Cond := lw_tbl.filter goodWord
/-- a word of the tables by its place: claim/WORDS.tsv -/
theorem lw_w {w : Cond} (i : Nat) (h : lw_tbl[i]? = some w) (g : goodWord w = true) : w ∈ lw_all := List.mem_filter.mpr ⟨List.mem_of_getElem? h, g⟩
theorem lw_all_tbl {w : Cond} (h : w ∈ lw_all) : w ∈ lw_tbl := (List.mem_filter.mp h).1
theorem lw_self : GoodIn lw_all lw_all := fun w h => ⟨h, good_of_word (List.mem_filter.mp h).2⟩
/-- a class's field words, by their places -/
theorem lw_in (ws : List Cond) (ps : List Nat) (hp : ws = ps.filterMap (fun i => lw_tbl[i]?)) (hg : ws.all goodWord = true) : ∀ w ∈ ws, w ∈ lw_all := by
  intro w h
  have h1 := List.all_eq_true.mp hg w h
  rw [hp] at h
  obtain ⟨i, -, hi⟩ := List.mem_filterMap.mp h
  exact lw_w i hi h1
/-- the words of a contract for the method y with code b, L locals, answer r -/
abbrev ws_ (y : MethodName) (b : ByteArray) (L : Nat) (r : Option FieldType) : List Cond := Cond.code y b L r :: lw_all
theorem lw_meth {y : MethodName} {b : ByteArray} {L : Nat} {r : Option FieldType} (h : Cond.code y b L r ∈ lw_all) : GoodIn lw_all (ws_ y b L r) := by
  intro w hw
  rcases List.mem_cons.mp hw with e | e
  · rw [e]
    exact lw_self _ h
  · exact lw_self _ e
theorem lw_app {a c : List Cond} (ha : ∀ w ∈ a, w ∈ lw_all) (hc : GoodIn lw_all c) : GoodIn lw_all (a ++ c) := by
  intro w hw
  rcases List.mem_append.mp hw with e | e
  · exact lw_self w (ha w e)
  · exact hc w e
/-- what a call through an object asks: cwV n hts (lw_V ..) -/
theorem lw_V {own : String} {idx : Nat} {C : String} {y : MethodName} {b : ByteArray} {L : Nat} {r : Option FieldType} (h1 : Cond.methodLink own idx y ∈ lw_all) (h2 : Cond.instanceMethod y ∈ lw_all) (h3 : Cond.selects C y y ∈ lw_all) (h4 : Cond.initialized C ∈ lw_all) (h5 : Cond.code y b L r ∈ lw_all) : GoodIn lw_all (wsV own idx C y (ws_ y b L r)) := by
  refine lw_app ?_ (lw_meth h5)
  intro w hw
  simp only [List.mem_cons, List.not_mem_nil, or_false] at hw
  rcases hw with e | e | e | e
  · rw [e]; exact h1
  · rw [e]; exact h2
  · rw [e]; exact h3
  · rw [e]; exact h4
/-- what a static call asks: va_cwS n hts (lw_S ..) -/
theorem lw_S {own : String} {idx : Nat} {y : MethodName} {b : ByteArray} {L : Nat} {r : Option FieldType} (h1 : Cond.methodLink own idx y ∈ lw_all) (h2 : Cond.static y ∈ lw_all) (h3 : Cond.initialized y.cls ∈ lw_all) (h4 : Cond.code y b L r ∈ lw_all) : GoodIn lw_all (va_wsS own idx y (ws_ y b L r)) := by
  refine lw_app ?_ (lw_meth h4)
  intro w hw
  simp only [List.mem_cons, List.not_mem_nil, or_false] at hw
  rcases hw with e | e | e
  · rw [e]; exact h1
  · rw [e]; exact h2
  · rw [e]; exact h3
/-- the words of a contract for a method WITH HANDLERS (hh: its table) -/
abbrev wsW_ (y : MethodName) (b : ByteArray) (L : Nat) (r : Option FieldType) (hh : List (Nat × Nat × Nat × Nat)) : List Cond := Cond.codeWith y b L r hh :: lw_all
theorem lw_methW {y : MethodName} {b : ByteArray} {L : Nat} {r : Option FieldType} {hh : List (Nat × Nat × Nat × Nat)} (h : Cond.codeWith y b L r hh ∈ lw_all) : GoodIn lw_all (wsW_ y b L r hh) := by
  intro w hw
  rcases List.mem_cons.mp hw with e | e
  · rw [e]
    exact lw_self _ h
  · exact lw_self _ e
/-- any list of words by their places (lw_in), good -/
theorem lw_good {ws : List Cond} (h : ∀ w ∈ ws, w ∈ lw_all) : GoodIn lw_all ws := fun w hw => lw_self w (h w hw)
/-- what a call of a method with handlers asks: vx_cwVW n hts (lw_VW ..), vx_cwSW n hts (lw_SW ..) -/
theorem lw_VW {own : String} {idx : Nat} {C : String} {y : MethodName} {b : ByteArray} {L : Nat} {r : Option FieldType} {hh : List (Nat × Nat × Nat × Nat)} (h1 : Cond.methodLink own idx y ∈ lw_all) (h2 : Cond.instanceMethod y ∈ lw_all) (h3 : Cond.selects C y y ∈ lw_all) (h4 : Cond.initialized C ∈ lw_all) (h5 : Cond.codeWith y b L r hh ∈ lw_all) : GoodIn lw_all (wsV own idx C y (wsW_ y b L r hh)) := by
  refine lw_app ?_ (lw_methW h5)
  intro w hw
  simp only [List.mem_cons, List.not_mem_nil, or_false] at hw
  rcases hw with e | e | e | e
  · rw [e]; exact h1
  · rw [e]; exact h2
  · rw [e]; exact h3
  · rw [e]; exact h4
theorem lw_SW {own : String} {idx : Nat} {y : MethodName} {b : ByteArray} {L : Nat} {r : Option FieldType} {hh : List (Nat × Nat × Nat × Nat)} (h1 : Cond.methodLink own idx y ∈ lw_all) (h2 : Cond.static y ∈ lw_all) (h3 : Cond.initialized y.cls ∈ lw_all) (h4 : Cond.codeWith y b L r hh ∈ lw_all) : GoodIn lw_all (va_wsS own idx y (wsW_ y b L r hh)) := by
  refine lw_app ?_ (lw_methW h4)
  intro w hw
  simp only [List.mem_cons, List.not_mem_nil, or_false] at hw
  rcases hw with e | e | e
  · rw [e]; exact h1
  · rw [e]; exact h2
  · rw [e]; exact h3
/-- a word by its place in its run of the tables -/
theorem lw_at {r : List Cond} (hr : ∀ w ∈ r, w ∈ lw_tbl) {w : Cond} (i : Nat) (h : r[i]? = some w) : w ∈ lw_tbl := hr w (List.mem_of_getElem? h)
theorem lw_g {w : Cond} (h : w ∈ lw_tbl) (g : goodWord w = true) : w ∈ lw_all := List.mem_filter.mpr ⟨h, g⟩
theorem lw_ms : ∀ w ∈ k2_sels lw_privs, w ∈ lw_tbl := fun w h => show w ∈ k2_sels lw_privs ++ tables_1 from List.mem_append_left _ h
theorem lw_m0 : ∀ w ∈ tables_1, w ∈ lw_tbl := fun w h => show w ∈ k2_sels lw_privs ++ tables_1 from List.mem_append_right (k2_sels lw_privs) h
theorem qs0 : (Cond.selects "FrontierWatch" ⟨"FrontierWatch", "rebuild", "()V"⟩ ⟨"FrontierWatch", "rebuild", "()V"⟩) ∈ lw_all := lw_g (lw_at lw_ms 0 rfl) rfl
theorem qs1 : (Cond.selects "FrontierWatch" ⟨"FrontierWatch", "addSum", "(II)V"⟩ ⟨"FrontierWatch", "addSum", "(II)V"⟩) ∈ lw_all := lw_g (lw_at lw_ms 1 rfl) rfl
theorem qs2 : (Cond.selects "FrontierWatch" ⟨"FrontierWatch", "joinOver", "(II)V"⟩ ⟨"FrontierWatch", "joinOver", "(II)V"⟩) ∈ lw_all := lw_g (lw_at lw_ms 2 rfl) rfl
theorem qs3 : (Cond.selects "FrontierWatch" ⟨"FrontierWatch", "count", "(III)V"⟩ ⟨"FrontierWatch", "count", "(III)V"⟩) ∈ lw_all := lw_g (lw_at lw_ms 3 rfl) rfl
theorem qs4 : (Cond.selects "FrontierWatch" ⟨"FrontierWatch", "tokenAt", "(II)I"⟩ ⟨"FrontierWatch", "tokenAt", "(II)I"⟩) ∈ lw_all := lw_g (lw_at lw_ms 4 rfl) rfl
theorem qs5 : (Cond.selects "FrontierWatch" ⟨"FrontierWatch", "reaches", "(IIII)Z"⟩ ⟨"FrontierWatch", "reaches", "(IIII)Z"⟩) ∈ lw_all := lw_g (lw_at lw_ms 5 rfl) rfl
theorem qs6 : (Cond.selects "FrontierWatch" ⟨"FrontierWatch", "firstMark", "(III)I"⟩ ⟨"FrontierWatch", "firstMark", "(III)I"⟩) ∈ lw_all := lw_g (lw_at lw_ms 6 rfl) rfl
theorem qs7 : (Cond.selects "FrontierWatchModel" ⟨"FrontierWatchModel", "find", "(III)I"⟩ ⟨"FrontierWatchModel", "find", "(III)I"⟩) ∈ lw_all := lw_g (lw_at lw_ms 7 rfl) rfl
theorem qs8 : (Cond.selects "FrontierWatchModel" ⟨"FrontierWatchModel", "spreadTokens", "()V"⟩ ⟨"FrontierWatchModel", "spreadTokens", "()V"⟩) ∈ lw_all := lw_g (lw_at lw_ms 8 rfl) rfl
theorem qs9 : (Cond.selects "FrontierWatchModel" ⟨"FrontierWatchModel", "empty", "()V"⟩ ⟨"FrontierWatchModel", "empty", "()V"⟩) ∈ lw_all := lw_g (lw_at lw_ms 9 rfl) rfl
theorem qs10 : (Cond.selects "FrontierWatchModel" ⟨"FrontierWatchModel", "set", "(III)V"⟩ ⟨"FrontierWatchModel", "set", "(III)V"⟩) ∈ lw_all := lw_g (lw_at lw_ms 10 rfl) rfl
theorem qs11 : (Cond.selects "FrontierWatchModel" ⟨"FrontierWatchModel", "spread", "()V"⟩ ⟨"FrontierWatchModel", "spread", "()V"⟩) ∈ lw_all := lw_g (lw_at lw_ms 11 rfl) rfl
theorem qs12 : (Cond.selects "FrontierWatchModel" ⟨"FrontierWatchModel", "below", "(IIIZ)Z"⟩ ⟨"FrontierWatchModel", "below", "(IIIZ)Z"⟩) ∈ lw_all := lw_g (lw_at lw_ms 12 rfl) rfl
theorem qs13 : (Cond.selects "FrontierWatchModel" ⟨"FrontierWatchModel", "inFront", "(III)Z"⟩ ⟨"FrontierWatchModel", "inFront", "(III)Z"⟩) ∈ lw_all := lw_g (lw_at lw_ms 13 rfl) rfl
end
section
/-! FrontierWatch -/
set_option maxRecDepth 100000
def RX0 : String := "FrontierWatch"
def TX0 : u_T := fun k => match k with
  | 0 => ("FrontierWatch", "lines", "I", false)
  | 1 => ("FrontierWatch", "fromOf", "[I", true)
  | 2 => ("FrontierWatch", "toOf", "[I", true)
  | 3 => ("FrontierWatch", "addA", "[I", true)
  | 4 => ("FrontierWatch", "addB", "[I", true)
  | 5 => ("FrontierWatch", "tokens", "I", false)
  | 6 => ("FrontierWatch", "placeOf", "[I", true)
  | 7 => ("FrontierWatch", "timeOf", "[I", true)
  | 8 => ("FrontierWatch", "sumCount", "[I", true)
  | 9 => ("FrontierWatch", "sums", "[I", true)
  | 10 => ("FrontierWatch", "gathered", "I", false)
  | 11 => ("FrontierWatch", "gather", "[I", true)
  | _ => ("FrontierWatch", "marks", "[I", true)
def tyX0 : Nat → FieldType := fun k => match k with
  | 0 => .int
  | 1 => .array .int
  | 2 => .array .int
  | 3 => .array .int
  | 4 => .array .int
  | 5 => .int
  | 6 => .array .int
  | 7 => .array .int
  | 8 => .array .int
  | 9 => .array .int
  | 10 => .int
  | 11 => .array .int
  | _ => .array .int
abbrev wsX00 : List Cond := u_ws RX0 TX0 13
set_option maxRecDepth 100000 in
theorem nmX0 : ∀ a, a < 13 → ∀ b, b < 13 → a ≠ b → (TX0 a).2.1 ≠ (TX0 b).2.1 := by decide +kernel
set_option maxRecDepth 100000 in
theorem tyX0_ok : ∀ k, k < 13 → parseFieldDescriptor (TX0 k).2.2.1 = some (tyX0 k) := by decide +kernel
abbrev cX0_init : ByteArray := prog_1_method_1_code
def yX0_init : MethodName := ⟨RX0, "<init>", "()V"⟩
theorem dX0_init_0 : decode cX0_init 0 = .ok (.aload_n 0, 1) := by decide +kernel
theorem dX0_init_1 : decode cX0_init 1 = .ok (.invokespecial 1, 3) := by decide +kernel
theorem dX0_init_4 : decode cX0_init 4 = .ok (.aload_n 0, 1) := by decide +kernel
theorem dX0_init_5 : decode cX0_init 5 = .ok (.bipush 12, 2) := by decide +kernel
theorem dX0_init_7 : decode cX0_init 7 = .ok (.newarray .int, 2) := by decide +kernel
theorem dX0_init_9 : decode cX0_init 9 = .ok (.putfield 7, 3) := by decide +kernel
theorem dX0_init_12 : decode cX0_init 12 = .ok (.aload_n 0, 1) := by decide +kernel
theorem dX0_init_13 : decode cX0_init 13 = .ok (.bipush 12, 2) := by decide +kernel
theorem dX0_init_15 : decode cX0_init 15 = .ok (.newarray .int, 2) := by decide +kernel
theorem dX0_init_17 : decode cX0_init 17 = .ok (.putfield 13, 3) := by decide +kernel
theorem dX0_init_20 : decode cX0_init 20 = .ok (.aload_n 0, 1) := by decide +kernel
theorem dX0_init_21 : decode cX0_init 21 = .ok (.bipush 12, 2) := by decide +kernel
theorem dX0_init_23 : decode cX0_init 23 = .ok (.newarray .int, 2) := by decide +kernel
theorem dX0_init_25 : decode cX0_init 25 = .ok (.putfield 16, 3) := by decide +kernel
theorem dX0_init_28 : decode cX0_init 28 = .ok (.aload_n 0, 1) := by decide +kernel
theorem dX0_init_29 : decode cX0_init 29 = .ok (.bipush 12, 2) := by decide +kernel
theorem dX0_init_31 : decode cX0_init 31 = .ok (.newarray .int, 2) := by decide +kernel
theorem dX0_init_33 : decode cX0_init 33 = .ok (.putfield 19, 3) := by decide +kernel
theorem dX0_init_36 : decode cX0_init 36 = .ok (.aload_n 0, 1) := by decide +kernel
theorem dX0_init_37 : decode cX0_init 37 = .ok (.bipush 20, 2) := by decide +kernel
theorem dX0_init_39 : decode cX0_init 39 = .ok (.newarray .int, 2) := by decide +kernel
theorem dX0_init_41 : decode cX0_init 41 = .ok (.putfield 22, 3) := by decide +kernel
theorem dX0_init_44 : decode cX0_init 44 = .ok (.aload_n 0, 1) := by decide +kernel
theorem dX0_init_45 : decode cX0_init 45 = .ok (.bipush 20, 2) := by decide +kernel
theorem dX0_init_47 : decode cX0_init 47 = .ok (.newarray .int, 2) := by decide +kernel
theorem dX0_init_49 : decode cX0_init 49 = .ok (.putfield 25, 3) := by decide +kernel
theorem dX0_init_52 : decode cX0_init 52 = .ok (.aload_n 0, 1) := by decide +kernel
theorem dX0_init_53 : decode cX0_init 53 = .ok (.bipush 49, 2) := by decide +kernel
theorem dX0_init_55 : decode cX0_init 55 = .ok (.newarray .int, 2) := by decide +kernel
theorem dX0_init_57 : decode cX0_init 57 = .ok (.putfield 28, 3) := by decide +kernel
theorem dX0_init_60 : decode cX0_init 60 = .ok (.aload_n 0, 1) := by decide +kernel
theorem dX0_init_61 : decode cX0_init 61 = .ok (.sipush 931, 3) := by decide +kernel
theorem dX0_init_64 : decode cX0_init 64 = .ok (.newarray .int, 2) := by decide +kernel
theorem dX0_init_66 : decode cX0_init 66 = .ok (.putfield 31, 3) := by decide +kernel
theorem dX0_init_69 : decode cX0_init 69 = .ok (.aload_n 0, 1) := by decide +kernel
theorem dX0_init_70 : decode cX0_init 70 = .ok (.bipush 40, 2) := by decide +kernel
theorem dX0_init_72 : decode cX0_init 72 = .ok (.newarray .int, 2) := by decide +kernel
theorem dX0_init_74 : decode cX0_init 74 = .ok (.putfield 34, 3) := by decide +kernel
theorem dX0_init_77 : decode cX0_init 77 = .ok (.aload_n 0, 1) := by decide +kernel
theorem dX0_init_78 : decode cX0_init 78 = .ok (.sipush 1792, 3) := by decide +kernel
theorem dX0_init_81 : decode cX0_init 81 = .ok (.newarray .int, 2) := by decide +kernel
theorem dX0_init_83 : decode cX0_init 83 = .ok (.putfield 37, 3) := by decide +kernel
theorem dX0_init_86 : decode cX0_init 86 = .ok (.aload_n 0, 1) := by decide +kernel
theorem dX0_init_87 : decode cX0_init 87 = .ok (.invokevirtual 40, 3) := by decide +kernel
theorem dX0_init_90 : decode cX0_init 90 = .ok (.return_, 1) := by decide +kernel
abbrev cX0_rebuild : ByteArray := prog_1_method_18_code
def yX0_rebuild : MethodName := ⟨RX0, "rebuild", "()V"⟩
theorem dX0_rebuild_0 : decode cX0_rebuild 0 = .ok (.iconst 0, 1) := by decide +kernel
theorem dX0_rebuild_1 : decode cX0_rebuild 1 = .ok (.istore_n 1, 1) := by decide +kernel
theorem dX0_rebuild_2 : decode cX0_rebuild 2 = .ok (.iload_n 1, 1) := by decide +kernel
theorem dX0_rebuild_3 : decode cX0_rebuild 3 = .ok (.bipush 49, 2) := by decide +kernel
theorem dX0_rebuild_5 : decode cX0_rebuild 5 = .ok (.if_icmp .ge 37, 3) := by decide +kernel
theorem dX0_rebuild_8 : decode cX0_rebuild 8 = .ok (.aload_n 0, 1) := by decide +kernel
theorem dX0_rebuild_9 : decode cX0_rebuild 9 = .ok (.getfield 28, 3) := by decide +kernel
theorem dX0_rebuild_12 : decode cX0_rebuild 12 = .ok (.iload_n 1, 1) := by decide +kernel
theorem dX0_rebuild_13 : decode cX0_rebuild 13 = .ok (.iload_n 1, 1) := by decide +kernel
theorem dX0_rebuild_14 : decode cX0_rebuild 14 = .ok (.bipush 8, 2) := by decide +kernel
theorem dX0_rebuild_16 : decode cX0_rebuild 16 = .ok (.irem, 1) := by decide +kernel
theorem dX0_rebuild_17 : decode cX0_rebuild 17 = .ok (.ifCond .ne 7, 3) := by decide +kernel
theorem dX0_rebuild_20 : decode cX0_rebuild 20 = .ok (.iconst 1, 1) := by decide +kernel
theorem dX0_rebuild_21 : decode cX0_rebuild 21 = .ok (.goto 4, 3) := by decide +kernel
theorem dX0_rebuild_24 : decode cX0_rebuild 24 = .ok (.iconst 0, 1) := by decide +kernel
theorem dX0_rebuild_25 : decode cX0_rebuild 25 = .ok (.iastore, 1) := by decide +kernel
theorem dX0_rebuild_26 : decode cX0_rebuild 26 = .ok (.aload_n 0, 1) := by decide +kernel
theorem dX0_rebuild_27 : decode cX0_rebuild 27 = .ok (.getfield 31, 3) := by decide +kernel
theorem dX0_rebuild_30 : decode cX0_rebuild 30 = .ok (.bipush 19, 2) := by decide +kernel
theorem dX0_rebuild_32 : decode cX0_rebuild 32 = .ok (.iload_n 1, 1) := by decide +kernel
theorem dX0_rebuild_33 : decode cX0_rebuild 33 = .ok (.imul, 1) := by decide +kernel
theorem dX0_rebuild_34 : decode cX0_rebuild 34 = .ok (.iconst 0, 1) := by decide +kernel
theorem dX0_rebuild_35 : decode cX0_rebuild 35 = .ok (.iastore, 1) := by decide +kernel
theorem dX0_rebuild_36 : decode cX0_rebuild 36 = .ok (.iinc 1 1, 3) := by decide +kernel
theorem dX0_rebuild_39 : decode cX0_rebuild 39 = .ok (.goto (-37), 3) := by decide +kernel
theorem dX0_rebuild_42 : decode cX0_rebuild 42 = .ok (.iconst 0, 1) := by decide +kernel
theorem dX0_rebuild_43 : decode cX0_rebuild 43 = .ok (.istore_n 1, 1) := by decide +kernel
theorem dX0_rebuild_44 : decode cX0_rebuild 44 = .ok (.iload_n 1, 1) := by decide +kernel
theorem dX0_rebuild_45 : decode cX0_rebuild 45 = .ok (.aload_n 0, 1) := by decide +kernel
theorem dX0_rebuild_46 : decode cX0_rebuild 46 = .ok (.getfield 47, 3) := by decide +kernel
theorem dX0_rebuild_49 : decode cX0_rebuild 49 = .ok (.if_icmp .ge 60, 3) := by decide +kernel
theorem dX0_rebuild_52 : decode cX0_rebuild 52 = .ok (.aload_n 0, 1) := by decide +kernel
theorem dX0_rebuild_53 : decode cX0_rebuild 53 = .ok (.getfield 7, 3) := by decide +kernel
theorem dX0_rebuild_56 : decode cX0_rebuild 56 = .ok (.iload_n 1, 1) := by decide +kernel
theorem dX0_rebuild_57 : decode cX0_rebuild 57 = .ok (.iaload, 1) := by decide +kernel
theorem dX0_rebuild_58 : decode cX0_rebuild 58 = .ok (.aload_n 0, 1) := by decide +kernel
theorem dX0_rebuild_59 : decode cX0_rebuild 59 = .ok (.getfield 13, 3) := by decide +kernel
theorem dX0_rebuild_62 : decode cX0_rebuild 62 = .ok (.iload_n 1, 1) := by decide +kernel
theorem dX0_rebuild_63 : decode cX0_rebuild 63 = .ok (.iaload, 1) := by decide +kernel
theorem dX0_rebuild_64 : decode cX0_rebuild 64 = .ok (.if_icmp .eq 39, 3) := by decide +kernel
theorem dX0_rebuild_67 : decode cX0_rebuild 67 = .ok (.aload_n 0, 1) := by decide +kernel
theorem dX0_rebuild_68 : decode cX0_rebuild 68 = .ok (.bipush 7, 2) := by decide +kernel
theorem dX0_rebuild_70 : decode cX0_rebuild 70 = .ok (.aload_n 0, 1) := by decide +kernel
theorem dX0_rebuild_71 : decode cX0_rebuild 71 = .ok (.getfield 7, 3) := by decide +kernel
theorem dX0_rebuild_74 : decode cX0_rebuild 74 = .ok (.iload_n 1, 1) := by decide +kernel
theorem dX0_rebuild_75 : decode cX0_rebuild 75 = .ok (.iaload, 1) := by decide +kernel
theorem dX0_rebuild_76 : decode cX0_rebuild 76 = .ok (.imul, 1) := by decide +kernel
theorem dX0_rebuild_77 : decode cX0_rebuild 77 = .ok (.aload_n 0, 1) := by decide +kernel
theorem dX0_rebuild_78 : decode cX0_rebuild 78 = .ok (.getfield 13, 3) := by decide +kernel
theorem dX0_rebuild_81 : decode cX0_rebuild 81 = .ok (.iload_n 1, 1) := by decide +kernel
theorem dX0_rebuild_82 : decode cX0_rebuild 82 = .ok (.iaload, 1) := by decide +kernel
theorem dX0_rebuild_83 : decode cX0_rebuild 83 = .ok (.iadd, 1) := by decide +kernel
theorem dX0_rebuild_84 : decode cX0_rebuild 84 = .ok (.bipush 64, 2) := by decide +kernel
theorem dX0_rebuild_86 : decode cX0_rebuild 86 = .ok (.aload_n 0, 1) := by decide +kernel
theorem dX0_rebuild_87 : decode cX0_rebuild 87 = .ok (.getfield 16, 3) := by decide +kernel
theorem dX0_rebuild_90 : decode cX0_rebuild 90 = .ok (.iload_n 1, 1) := by decide +kernel
theorem dX0_rebuild_91 : decode cX0_rebuild 91 = .ok (.iaload, 1) := by decide +kernel
theorem dX0_rebuild_92 : decode cX0_rebuild 92 = .ok (.imul, 1) := by decide +kernel
theorem dX0_rebuild_93 : decode cX0_rebuild 93 = .ok (.aload_n 0, 1) := by decide +kernel
theorem dX0_rebuild_94 : decode cX0_rebuild 94 = .ok (.getfield 19, 3) := by decide +kernel
theorem dX0_rebuild_97 : decode cX0_rebuild 97 = .ok (.iload_n 1, 1) := by decide +kernel
theorem dX0_rebuild_98 : decode cX0_rebuild 98 = .ok (.iaload, 1) := by decide +kernel
theorem dX0_rebuild_99 : decode cX0_rebuild 99 = .ok (.iadd, 1) := by decide +kernel
theorem dX0_rebuild_100 : decode cX0_rebuild 100 = .ok (.invokevirtual 74, 3) := by decide +kernel
theorem dX0_rebuild_103 : decode cX0_rebuild 103 = .ok (.iinc 1 1, 3) := by decide +kernel
theorem dX0_rebuild_106 : decode cX0_rebuild 106 = .ok (.goto (-62), 3) := by decide +kernel
theorem dX0_rebuild_109 : decode cX0_rebuild 109 = .ok (.iconst 0, 1) := by decide +kernel
theorem dX0_rebuild_110 : decode cX0_rebuild 110 = .ok (.istore_n 1, 1) := by decide +kernel
theorem dX0_rebuild_111 : decode cX0_rebuild 111 = .ok (.iload_n 1, 1) := by decide +kernel
theorem dX0_rebuild_112 : decode cX0_rebuild 112 = .ok (.bipush 7, 2) := by decide +kernel
theorem dX0_rebuild_114 : decode cX0_rebuild 114 = .ok (.if_icmp .ge 29, 3) := by decide +kernel
theorem dX0_rebuild_117 : decode cX0_rebuild 117 = .ok (.iconst 0, 1) := by decide +kernel
theorem dX0_rebuild_118 : decode cX0_rebuild 118 = .ok (.istore_n 2, 1) := by decide +kernel
theorem dX0_rebuild_119 : decode cX0_rebuild 119 = .ok (.iload_n 2, 1) := by decide +kernel
theorem dX0_rebuild_120 : decode cX0_rebuild 120 = .ok (.bipush 49, 2) := by decide +kernel
theorem dX0_rebuild_122 : decode cX0_rebuild 122 = .ok (.if_icmp .ge 15, 3) := by decide +kernel
theorem dX0_rebuild_125 : decode cX0_rebuild 125 = .ok (.aload_n 0, 1) := by decide +kernel
theorem dX0_rebuild_126 : decode cX0_rebuild 126 = .ok (.iload_n 2, 1) := by decide +kernel
theorem dX0_rebuild_127 : decode cX0_rebuild 127 = .ok (.iload_n 1, 1) := by decide +kernel
theorem dX0_rebuild_128 : decode cX0_rebuild 128 = .ok (.invokevirtual 78, 3) := by decide +kernel
theorem dX0_rebuild_131 : decode cX0_rebuild 131 = .ok (.iinc 2 1, 3) := by decide +kernel
theorem dX0_rebuild_134 : decode cX0_rebuild 134 = .ok (.goto (-15), 3) := by decide +kernel
theorem dX0_rebuild_137 : decode cX0_rebuild 137 = .ok (.iinc 1 1, 3) := by decide +kernel
theorem dX0_rebuild_140 : decode cX0_rebuild 140 = .ok (.goto (-29), 3) := by decide +kernel
theorem dX0_rebuild_143 : decode cX0_rebuild 143 = .ok (.iconst 0, 1) := by decide +kernel
theorem dX0_rebuild_144 : decode cX0_rebuild 144 = .ok (.istore_n 1, 1) := by decide +kernel
theorem dX0_rebuild_145 : decode cX0_rebuild 145 = .ok (.iload_n 1, 1) := by decide +kernel
theorem dX0_rebuild_146 : decode cX0_rebuild 146 = .ok (.sipush 1792, 3) := by decide +kernel
theorem dX0_rebuild_149 : decode cX0_rebuild 149 = .ok (.if_icmp .ge 16, 3) := by decide +kernel
theorem dX0_rebuild_152 : decode cX0_rebuild 152 = .ok (.aload_n 0, 1) := by decide +kernel
theorem dX0_rebuild_153 : decode cX0_rebuild 153 = .ok (.getfield 37, 3) := by decide +kernel
theorem dX0_rebuild_156 : decode cX0_rebuild 156 = .ok (.iload_n 1, 1) := by decide +kernel
theorem dX0_rebuild_157 : decode cX0_rebuild 157 = .ok (.iconst 0, 1) := by decide +kernel
theorem dX0_rebuild_158 : decode cX0_rebuild 158 = .ok (.iastore, 1) := by decide +kernel
theorem dX0_rebuild_159 : decode cX0_rebuild 159 = .ok (.iinc 1 1, 3) := by decide +kernel
theorem dX0_rebuild_162 : decode cX0_rebuild 162 = .ok (.goto (-17), 3) := by decide +kernel
theorem dX0_rebuild_165 : decode cX0_rebuild 165 = .ok (.iconst 0, 1) := by decide +kernel
theorem dX0_rebuild_166 : decode cX0_rebuild 166 = .ok (.istore_n 1, 1) := by decide +kernel
theorem dX0_rebuild_167 : decode cX0_rebuild 167 = .ok (.iload_n 1, 1) := by decide +kernel
theorem dX0_rebuild_168 : decode cX0_rebuild 168 = .ok (.aload_n 0, 1) := by decide +kernel
theorem dX0_rebuild_169 : decode cX0_rebuild 169 = .ok (.getfield 55, 3) := by decide +kernel
theorem dX0_rebuild_172 : decode cX0_rebuild 172 = .ok (.if_icmp .ge 26, 3) := by decide +kernel
theorem dX0_rebuild_175 : decode cX0_rebuild 175 = .ok (.aload_n 0, 1) := by decide +kernel
theorem dX0_rebuild_176 : decode cX0_rebuild 176 = .ok (.aload_n 0, 1) := by decide +kernel
theorem dX0_rebuild_177 : decode cX0_rebuild 177 = .ok (.getfield 22, 3) := by decide +kernel
theorem dX0_rebuild_180 : decode cX0_rebuild 180 = .ok (.iload_n 1, 1) := by decide +kernel
theorem dX0_rebuild_181 : decode cX0_rebuild 181 = .ok (.iaload, 1) := by decide +kernel
theorem dX0_rebuild_182 : decode cX0_rebuild 182 = .ok (.aload_n 0, 1) := by decide +kernel
theorem dX0_rebuild_183 : decode cX0_rebuild 183 = .ok (.getfield 25, 3) := by decide +kernel
theorem dX0_rebuild_186 : decode cX0_rebuild 186 = .ok (.iload_n 1, 1) := by decide +kernel
theorem dX0_rebuild_187 : decode cX0_rebuild 187 = .ok (.iaload, 1) := by decide +kernel
theorem dX0_rebuild_188 : decode cX0_rebuild 188 = .ok (.iconst 1, 1) := by decide +kernel
theorem dX0_rebuild_189 : decode cX0_rebuild 189 = .ok (.invokevirtual 58, 3) := by decide +kernel
theorem dX0_rebuild_192 : decode cX0_rebuild 192 = .ok (.iinc 1 1, 3) := by decide +kernel
theorem dX0_rebuild_195 : decode cX0_rebuild 195 = .ok (.goto (-28), 3) := by decide +kernel
theorem dX0_rebuild_198 : decode cX0_rebuild 198 = .ok (.return_, 1) := by decide +kernel
abbrev cX0_addSum : ByteArray := prog_1_method_20_code
def yX0_addSum : MethodName := ⟨RX0, "addSum", "(II)V"⟩
theorem dX0_addSum_0 : decode cX0_addSum 0 = .ok (.bipush 19, 2) := by decide +kernel
theorem dX0_addSum_2 : decode cX0_addSum 2 = .ok (.iload_n 1, 1) := by decide +kernel
theorem dX0_addSum_3 : decode cX0_addSum 3 = .ok (.imul, 1) := by decide +kernel
theorem dX0_addSum_4 : decode cX0_addSum 4 = .ok (.istore_n 3, 1) := by decide +kernel
theorem dX0_addSum_5 : decode cX0_addSum 5 = .ok (.aload_n 0, 1) := by decide +kernel
theorem dX0_addSum_6 : decode cX0_addSum 6 = .ok (.iconst 0, 1) := by decide +kernel
theorem dX0_addSum_7 : decode cX0_addSum 7 = .ok (.putfield 81, 3) := by decide +kernel
theorem dX0_addSum_10 : decode cX0_addSum 10 = .ok (.iconst 0, 1) := by decide +kernel
theorem dX0_addSum_11 : decode cX0_addSum 11 = .ok (.istore 4, 2) := by decide +kernel
theorem dX0_addSum_13 : decode cX0_addSum 13 = .ok (.iload_n 3, 1) := by decide +kernel
theorem dX0_addSum_14 : decode cX0_addSum 14 = .ok (.istore 5, 2) := by decide +kernel
theorem dX0_addSum_16 : decode cX0_addSum 16 = .ok (.iload 5, 2) := by decide +kernel
theorem dX0_addSum_18 : decode cX0_addSum 18 = .ok (.iload_n 3, 1) := by decide +kernel
theorem dX0_addSum_19 : decode cX0_addSum 19 = .ok (.aload_n 0, 1) := by decide +kernel
theorem dX0_addSum_20 : decode cX0_addSum 20 = .ok (.getfield 28, 3) := by decide +kernel
theorem dX0_addSum_23 : decode cX0_addSum 23 = .ok (.iload_n 1, 1) := by decide +kernel
theorem dX0_addSum_24 : decode cX0_addSum 24 = .ok (.iaload, 1) := by decide +kernel
theorem dX0_addSum_25 : decode cX0_addSum 25 = .ok (.iadd, 1) := by decide +kernel
theorem dX0_addSum_26 : decode cX0_addSum 26 = .ok (.if_icmp .ge 161, 3) := by decide +kernel
theorem dX0_addSum_29 : decode cX0_addSum 29 = .ok (.aload_n 0, 1) := by decide +kernel
theorem dX0_addSum_30 : decode cX0_addSum 30 = .ok (.getfield 31, 3) := by decide +kernel
theorem dX0_addSum_33 : decode cX0_addSum 33 = .ok (.iload 5, 2) := by decide +kernel
theorem dX0_addSum_35 : decode cX0_addSum 35 = .ok (.iaload, 1) := by decide +kernel
theorem dX0_addSum_36 : decode cX0_addSum 36 = .ok (.bipush 6, 2) := by decide +kernel
theorem dX0_addSum_38 : decode cX0_addSum 38 = .ok (.ishr, 1) := by decide +kernel
theorem dX0_addSum_39 : decode cX0_addSum 39 = .ok (.iload_n 2, 1) := by decide +kernel
theorem dX0_addSum_40 : decode cX0_addSum 40 = .ok (.bipush 6, 2) := by decide +kernel
theorem dX0_addSum_42 : decode cX0_addSum 42 = .ok (.ishr, 1) := by decide +kernel
theorem dX0_addSum_43 : decode cX0_addSum 43 = .ok (.if_icmp .gt 7, 3) := by decide +kernel
theorem dX0_addSum_46 : decode cX0_addSum 46 = .ok (.iconst 1, 1) := by decide +kernel
theorem dX0_addSum_47 : decode cX0_addSum 47 = .ok (.goto 4, 3) := by decide +kernel
theorem dX0_addSum_50 : decode cX0_addSum 50 = .ok (.iconst 0, 1) := by decide +kernel
theorem dX0_addSum_51 : decode cX0_addSum 51 = .ok (.istore 6, 2) := by decide +kernel
theorem dX0_addSum_53 : decode cX0_addSum 53 = .ok (.iload 6, 2) := by decide +kernel
theorem dX0_addSum_55 : decode cX0_addSum 55 = .ok (.ifCond .eq 21, 3) := by decide +kernel
theorem dX0_addSum_58 : decode cX0_addSum 58 = .ok (.aload_n 0, 1) := by decide +kernel
theorem dX0_addSum_59 : decode cX0_addSum 59 = .ok (.getfield 31, 3) := by decide +kernel
theorem dX0_addSum_62 : decode cX0_addSum 62 = .ok (.iload 5, 2) := by decide +kernel
theorem dX0_addSum_64 : decode cX0_addSum 64 = .ok (.iaload, 1) := by decide +kernel
theorem dX0_addSum_65 : decode cX0_addSum 65 = .ok (.bipush 63, 2) := by decide +kernel
theorem dX0_addSum_67 : decode cX0_addSum 67 = .ok (.iand, 1) := by decide +kernel
theorem dX0_addSum_68 : decode cX0_addSum 68 = .ok (.iload_n 2, 1) := by decide +kernel
theorem dX0_addSum_69 : decode cX0_addSum 69 = .ok (.bipush 63, 2) := by decide +kernel
theorem dX0_addSum_71 : decode cX0_addSum 71 = .ok (.iand, 1) := by decide +kernel
theorem dX0_addSum_72 : decode cX0_addSum 72 = .ok (.if_icmp .gt 4, 3) := by decide +kernel
theorem dX0_addSum_75 : decode cX0_addSum 75 = .ok (.return_, 1) := by decide +kernel
theorem dX0_addSum_76 : decode cX0_addSum 76 = .ok (.iload 6, 2) := by decide +kernel
theorem dX0_addSum_78 : decode cX0_addSum 78 = .ok (.ifCond .ne 31, 3) := by decide +kernel
theorem dX0_addSum_81 : decode cX0_addSum 81 = .ok (.iload 4, 2) := by decide +kernel
theorem dX0_addSum_83 : decode cX0_addSum 83 = .ok (.ifCond .ne 26, 3) := by decide +kernel
theorem dX0_addSum_86 : decode cX0_addSum 86 = .ok (.aload_n 0, 1) := by decide +kernel
theorem dX0_addSum_87 : decode cX0_addSum 87 = .ok (.getfield 34, 3) := by decide +kernel
theorem dX0_addSum_90 : decode cX0_addSum 90 = .ok (.aload_n 0, 1) := by decide +kernel
theorem dX0_addSum_91 : decode cX0_addSum 91 = .ok (.getfield 81, 3) := by decide +kernel
theorem dX0_addSum_94 : decode cX0_addSum 94 = .ok (.iload_n 2, 1) := by decide +kernel
theorem dX0_addSum_95 : decode cX0_addSum 95 = .ok (.iastore, 1) := by decide +kernel
theorem dX0_addSum_96 : decode cX0_addSum 96 = .ok (.aload_n 0, 1) := by decide +kernel
theorem dX0_addSum_97 : decode cX0_addSum 97 = .ok (.dup, 1) := by decide +kernel
theorem dX0_addSum_98 : decode cX0_addSum 98 = .ok (.getfield 81, 3) := by decide +kernel
theorem dX0_addSum_101 : decode cX0_addSum 101 = .ok (.iconst 1, 1) := by decide +kernel
theorem dX0_addSum_102 : decode cX0_addSum 102 = .ok (.iadd, 1) := by decide +kernel
theorem dX0_addSum_103 : decode cX0_addSum 103 = .ok (.putfield 81, 3) := by decide +kernel
theorem dX0_addSum_106 : decode cX0_addSum 106 = .ok (.iconst 1, 1) := by decide +kernel
theorem dX0_addSum_107 : decode cX0_addSum 107 = .ok (.istore 4, 2) := by decide +kernel
theorem dX0_addSum_109 : decode cX0_addSum 109 = .ok (.iload_n 2, 1) := by decide +kernel
theorem dX0_addSum_110 : decode cX0_addSum 110 = .ok (.bipush 6, 2) := by decide +kernel
theorem dX0_addSum_112 : decode cX0_addSum 112 = .ok (.ishr, 1) := by decide +kernel
theorem dX0_addSum_113 : decode cX0_addSum 113 = .ok (.aload_n 0, 1) := by decide +kernel
theorem dX0_addSum_114 : decode cX0_addSum 114 = .ok (.getfield 31, 3) := by decide +kernel
theorem dX0_addSum_117 : decode cX0_addSum 117 = .ok (.iload 5, 2) := by decide +kernel
theorem dX0_addSum_119 : decode cX0_addSum 119 = .ok (.iaload, 1) := by decide +kernel
theorem dX0_addSum_120 : decode cX0_addSum 120 = .ok (.bipush 6, 2) := by decide +kernel
theorem dX0_addSum_122 : decode cX0_addSum 122 = .ok (.ishr, 1) := by decide +kernel
theorem dX0_addSum_123 : decode cX0_addSum 123 = .ok (.if_icmp .gt 24, 3) := by decide +kernel
theorem dX0_addSum_126 : decode cX0_addSum 126 = .ok (.iload_n 2, 1) := by decide +kernel
theorem dX0_addSum_127 : decode cX0_addSum 127 = .ok (.bipush 63, 2) := by decide +kernel
theorem dX0_addSum_129 : decode cX0_addSum 129 = .ok (.iand, 1) := by decide +kernel
theorem dX0_addSum_130 : decode cX0_addSum 130 = .ok (.aload_n 0, 1) := by decide +kernel
theorem dX0_addSum_131 : decode cX0_addSum 131 = .ok (.getfield 31, 3) := by decide +kernel
theorem dX0_addSum_134 : decode cX0_addSum 134 = .ok (.iload 5, 2) := by decide +kernel
theorem dX0_addSum_136 : decode cX0_addSum 136 = .ok (.iaload, 1) := by decide +kernel
theorem dX0_addSum_137 : decode cX0_addSum 137 = .ok (.bipush 63, 2) := by decide +kernel
theorem dX0_addSum_139 : decode cX0_addSum 139 = .ok (.iand, 1) := by decide +kernel
theorem dX0_addSum_140 : decode cX0_addSum 140 = .ok (.if_icmp .gt 7, 3) := by decide +kernel
theorem dX0_addSum_143 : decode cX0_addSum 143 = .ok (.iconst 1, 1) := by decide +kernel
theorem dX0_addSum_144 : decode cX0_addSum 144 = .ok (.goto 4, 3) := by decide +kernel
theorem dX0_addSum_147 : decode cX0_addSum 147 = .ok (.iconst 0, 1) := by decide +kernel
theorem dX0_addSum_148 : decode cX0_addSum 148 = .ok (.istore 7, 2) := by decide +kernel
theorem dX0_addSum_150 : decode cX0_addSum 150 = .ok (.iload 7, 2) := by decide +kernel
theorem dX0_addSum_152 : decode cX0_addSum 152 = .ok (.ifCond .ne 29, 3) := by decide +kernel
theorem dX0_addSum_155 : decode cX0_addSum 155 = .ok (.aload_n 0, 1) := by decide +kernel
theorem dX0_addSum_156 : decode cX0_addSum 156 = .ok (.getfield 34, 3) := by decide +kernel
theorem dX0_addSum_159 : decode cX0_addSum 159 = .ok (.aload_n 0, 1) := by decide +kernel
theorem dX0_addSum_160 : decode cX0_addSum 160 = .ok (.getfield 81, 3) := by decide +kernel
theorem dX0_addSum_163 : decode cX0_addSum 163 = .ok (.aload_n 0, 1) := by decide +kernel
theorem dX0_addSum_164 : decode cX0_addSum 164 = .ok (.getfield 31, 3) := by decide +kernel
theorem dX0_addSum_167 : decode cX0_addSum 167 = .ok (.iload 5, 2) := by decide +kernel
theorem dX0_addSum_169 : decode cX0_addSum 169 = .ok (.iaload, 1) := by decide +kernel
theorem dX0_addSum_170 : decode cX0_addSum 170 = .ok (.iastore, 1) := by decide +kernel
theorem dX0_addSum_171 : decode cX0_addSum 171 = .ok (.aload_n 0, 1) := by decide +kernel
theorem dX0_addSum_172 : decode cX0_addSum 172 = .ok (.dup, 1) := by decide +kernel
theorem dX0_addSum_173 : decode cX0_addSum 173 = .ok (.getfield 81, 3) := by decide +kernel
theorem dX0_addSum_176 : decode cX0_addSum 176 = .ok (.iconst 1, 1) := by decide +kernel
theorem dX0_addSum_177 : decode cX0_addSum 177 = .ok (.iadd, 1) := by decide +kernel
theorem dX0_addSum_178 : decode cX0_addSum 178 = .ok (.putfield 81, 3) := by decide +kernel
theorem dX0_addSum_181 : decode cX0_addSum 181 = .ok (.iinc 5 1, 3) := by decide +kernel
theorem dX0_addSum_184 : decode cX0_addSum 184 = .ok (.goto (-168), 3) := by decide +kernel
theorem dX0_addSum_187 : decode cX0_addSum 187 = .ok (.iload 4, 2) := by decide +kernel
theorem dX0_addSum_189 : decode cX0_addSum 189 = .ok (.ifCond .ne 23, 3) := by decide +kernel
theorem dX0_addSum_192 : decode cX0_addSum 192 = .ok (.aload_n 0, 1) := by decide +kernel
theorem dX0_addSum_193 : decode cX0_addSum 193 = .ok (.getfield 34, 3) := by decide +kernel
theorem dX0_addSum_196 : decode cX0_addSum 196 = .ok (.aload_n 0, 1) := by decide +kernel
theorem dX0_addSum_197 : decode cX0_addSum 197 = .ok (.getfield 81, 3) := by decide +kernel
theorem dX0_addSum_200 : decode cX0_addSum 200 = .ok (.iload_n 2, 1) := by decide +kernel
theorem dX0_addSum_201 : decode cX0_addSum 201 = .ok (.iastore, 1) := by decide +kernel
theorem dX0_addSum_202 : decode cX0_addSum 202 = .ok (.aload_n 0, 1) := by decide +kernel
theorem dX0_addSum_203 : decode cX0_addSum 203 = .ok (.dup, 1) := by decide +kernel
theorem dX0_addSum_204 : decode cX0_addSum 204 = .ok (.getfield 81, 3) := by decide +kernel
theorem dX0_addSum_207 : decode cX0_addSum 207 = .ok (.iconst 1, 1) := by decide +kernel
theorem dX0_addSum_208 : decode cX0_addSum 208 = .ok (.iadd, 1) := by decide +kernel
theorem dX0_addSum_209 : decode cX0_addSum 209 = .ok (.putfield 81, 3) := by decide +kernel
theorem dX0_addSum_212 : decode cX0_addSum 212 = .ok (.iconst 0, 1) := by decide +kernel
theorem dX0_addSum_213 : decode cX0_addSum 213 = .ok (.istore 5, 2) := by decide +kernel
theorem dX0_addSum_215 : decode cX0_addSum 215 = .ok (.iload 5, 2) := by decide +kernel
theorem dX0_addSum_217 : decode cX0_addSum 217 = .ok (.aload_n 0, 1) := by decide +kernel
theorem dX0_addSum_218 : decode cX0_addSum 218 = .ok (.getfield 81, 3) := by decide +kernel
theorem dX0_addSum_221 : decode cX0_addSum 221 = .ok (.if_icmp .ge 25, 3) := by decide +kernel
theorem dX0_addSum_224 : decode cX0_addSum 224 = .ok (.aload_n 0, 1) := by decide +kernel
theorem dX0_addSum_225 : decode cX0_addSum 225 = .ok (.getfield 31, 3) := by decide +kernel
theorem dX0_addSum_228 : decode cX0_addSum 228 = .ok (.iload_n 3, 1) := by decide +kernel
theorem dX0_addSum_229 : decode cX0_addSum 229 = .ok (.iload 5, 2) := by decide +kernel
theorem dX0_addSum_231 : decode cX0_addSum 231 = .ok (.iadd, 1) := by decide +kernel
theorem dX0_addSum_232 : decode cX0_addSum 232 = .ok (.aload_n 0, 1) := by decide +kernel
theorem dX0_addSum_233 : decode cX0_addSum 233 = .ok (.getfield 34, 3) := by decide +kernel
theorem dX0_addSum_236 : decode cX0_addSum 236 = .ok (.iload 5, 2) := by decide +kernel
theorem dX0_addSum_238 : decode cX0_addSum 238 = .ok (.iaload, 1) := by decide +kernel
theorem dX0_addSum_239 : decode cX0_addSum 239 = .ok (.iastore, 1) := by decide +kernel
theorem dX0_addSum_240 : decode cX0_addSum 240 = .ok (.iinc 5 1, 3) := by decide +kernel
theorem dX0_addSum_243 : decode cX0_addSum 243 = .ok (.goto (-28), 3) := by decide +kernel
theorem dX0_addSum_246 : decode cX0_addSum 246 = .ok (.aload_n 0, 1) := by decide +kernel
theorem dX0_addSum_247 : decode cX0_addSum 247 = .ok (.getfield 28, 3) := by decide +kernel
theorem dX0_addSum_250 : decode cX0_addSum 250 = .ok (.iload_n 1, 1) := by decide +kernel
theorem dX0_addSum_251 : decode cX0_addSum 251 = .ok (.aload_n 0, 1) := by decide +kernel
theorem dX0_addSum_252 : decode cX0_addSum 252 = .ok (.getfield 81, 3) := by decide +kernel
theorem dX0_addSum_255 : decode cX0_addSum 255 = .ok (.iastore, 1) := by decide +kernel
theorem dX0_addSum_256 : decode cX0_addSum 256 = .ok (.return_, 1) := by decide +kernel
abbrev cX0_joinOver : ByteArray := prog_1_method_19_code
def yX0_joinOver : MethodName := ⟨RX0, "joinOver", "(II)V"⟩
theorem dX0_joinOver_0 : decode cX0_joinOver 0 = .ok (.bipush 7, 2) := by decide +kernel
theorem dX0_joinOver_2 : decode cX0_joinOver 2 = .ok (.iload_n 1, 1) := by decide +kernel
theorem dX0_joinOver_3 : decode cX0_joinOver 3 = .ok (.bipush 7, 2) := by decide +kernel
theorem dX0_joinOver_5 : decode cX0_joinOver 5 = .ok (.idiv, 1) := by decide +kernel
theorem dX0_joinOver_6 : decode cX0_joinOver 6 = .ok (.imul, 1) := by decide +kernel
theorem dX0_joinOver_7 : decode cX0_joinOver 7 = .ok (.iload_n 2, 1) := by decide +kernel
theorem dX0_joinOver_8 : decode cX0_joinOver 8 = .ok (.iadd, 1) := by decide +kernel
theorem dX0_joinOver_9 : decode cX0_joinOver 9 = .ok (.istore_n 3, 1) := by decide +kernel
theorem dX0_joinOver_10 : decode cX0_joinOver 10 = .ok (.bipush 7, 2) := by decide +kernel
theorem dX0_joinOver_12 : decode cX0_joinOver 12 = .ok (.iload_n 2, 1) := by decide +kernel
theorem dX0_joinOver_13 : decode cX0_joinOver 13 = .ok (.imul, 1) := by decide +kernel
theorem dX0_joinOver_14 : decode cX0_joinOver 14 = .ok (.iload_n 1, 1) := by decide +kernel
theorem dX0_joinOver_15 : decode cX0_joinOver 15 = .ok (.bipush 7, 2) := by decide +kernel
theorem dX0_joinOver_17 : decode cX0_joinOver 17 = .ok (.irem, 1) := by decide +kernel
theorem dX0_joinOver_18 : decode cX0_joinOver 18 = .ok (.iadd, 1) := by decide +kernel
theorem dX0_joinOver_19 : decode cX0_joinOver 19 = .ok (.istore 4, 2) := by decide +kernel
theorem dX0_joinOver_21 : decode cX0_joinOver 21 = .ok (.iload_n 1, 1) := by decide +kernel
theorem dX0_joinOver_22 : decode cX0_joinOver 22 = .ok (.bipush 7, 2) := by decide +kernel
theorem dX0_joinOver_24 : decode cX0_joinOver 24 = .ok (.idiv, 1) := by decide +kernel
theorem dX0_joinOver_25 : decode cX0_joinOver 25 = .ok (.iload_n 2, 1) := by decide +kernel
theorem dX0_joinOver_26 : decode cX0_joinOver 26 = .ok (.if_icmp .eq 18, 3) := by decide +kernel
theorem dX0_joinOver_29 : decode cX0_joinOver 29 = .ok (.iload_n 1, 1) := by decide +kernel
theorem dX0_joinOver_30 : decode cX0_joinOver 30 = .ok (.bipush 7, 2) := by decide +kernel
theorem dX0_joinOver_32 : decode cX0_joinOver 32 = .ok (.irem, 1) := by decide +kernel
theorem dX0_joinOver_33 : decode cX0_joinOver 33 = .ok (.iload_n 2, 1) := by decide +kernel
theorem dX0_joinOver_34 : decode cX0_joinOver 34 = .ok (.if_icmp .eq 10, 3) := by decide +kernel
theorem dX0_joinOver_37 : decode cX0_joinOver 37 = .ok (.iload_n 1, 1) := by decide +kernel
theorem dX0_joinOver_38 : decode cX0_joinOver 38 = .ok (.bipush 8, 2) := by decide +kernel
theorem dX0_joinOver_40 : decode cX0_joinOver 40 = .ok (.irem, 1) := by decide +kernel
theorem dX0_joinOver_41 : decode cX0_joinOver 41 = .ok (.ifCond .ne 4, 3) := by decide +kernel
theorem dX0_joinOver_44 : decode cX0_joinOver 44 = .ok (.return_, 1) := by decide +kernel
theorem dX0_joinOver_45 : decode cX0_joinOver 45 = .ok (.iconst 0, 1) := by decide +kernel
theorem dX0_joinOver_46 : decode cX0_joinOver 46 = .ok (.istore 5, 2) := by decide +kernel
theorem dX0_joinOver_48 : decode cX0_joinOver 48 = .ok (.iload 5, 2) := by decide +kernel
theorem dX0_joinOver_50 : decode cX0_joinOver 50 = .ok (.aload_n 0, 1) := by decide +kernel
theorem dX0_joinOver_51 : decode cX0_joinOver 51 = .ok (.getfield 28, 3) := by decide +kernel
theorem dX0_joinOver_54 : decode cX0_joinOver 54 = .ok (.iload_n 3, 1) := by decide +kernel
theorem dX0_joinOver_55 : decode cX0_joinOver 55 = .ok (.iaload, 1) := by decide +kernel
theorem dX0_joinOver_56 : decode cX0_joinOver 56 = .ok (.if_icmp .ge 61, 3) := by decide +kernel
theorem dX0_joinOver_59 : decode cX0_joinOver 59 = .ok (.iconst 0, 1) := by decide +kernel
theorem dX0_joinOver_60 : decode cX0_joinOver 60 = .ok (.istore 6, 2) := by decide +kernel
theorem dX0_joinOver_62 : decode cX0_joinOver 62 = .ok (.iload 6, 2) := by decide +kernel
theorem dX0_joinOver_64 : decode cX0_joinOver 64 = .ok (.aload_n 0, 1) := by decide +kernel
theorem dX0_joinOver_65 : decode cX0_joinOver 65 = .ok (.getfield 28, 3) := by decide +kernel
theorem dX0_joinOver_68 : decode cX0_joinOver 68 = .ok (.iload 4, 2) := by decide +kernel
theorem dX0_joinOver_70 : decode cX0_joinOver 70 = .ok (.iaload, 1) := by decide +kernel
theorem dX0_joinOver_71 : decode cX0_joinOver 71 = .ok (.if_icmp .ge 40, 3) := by decide +kernel
theorem dX0_joinOver_74 : decode cX0_joinOver 74 = .ok (.aload_n 0, 1) := by decide +kernel
theorem dX0_joinOver_75 : decode cX0_joinOver 75 = .ok (.iload_n 1, 1) := by decide +kernel
theorem dX0_joinOver_76 : decode cX0_joinOver 76 = .ok (.aload_n 0, 1) := by decide +kernel
theorem dX0_joinOver_77 : decode cX0_joinOver 77 = .ok (.getfield 31, 3) := by decide +kernel
theorem dX0_joinOver_80 : decode cX0_joinOver 80 = .ok (.bipush 19, 2) := by decide +kernel
theorem dX0_joinOver_82 : decode cX0_joinOver 82 = .ok (.iload_n 3, 1) := by decide +kernel
theorem dX0_joinOver_83 : decode cX0_joinOver 83 = .ok (.imul, 1) := by decide +kernel
theorem dX0_joinOver_84 : decode cX0_joinOver 84 = .ok (.iload 5, 2) := by decide +kernel
theorem dX0_joinOver_86 : decode cX0_joinOver 86 = .ok (.iadd, 1) := by decide +kernel
theorem dX0_joinOver_87 : decode cX0_joinOver 87 = .ok (.iaload, 1) := by decide +kernel
theorem dX0_joinOver_88 : decode cX0_joinOver 88 = .ok (.aload_n 0, 1) := by decide +kernel
theorem dX0_joinOver_89 : decode cX0_joinOver 89 = .ok (.getfield 31, 3) := by decide +kernel
theorem dX0_joinOver_92 : decode cX0_joinOver 92 = .ok (.bipush 19, 2) := by decide +kernel
theorem dX0_joinOver_94 : decode cX0_joinOver 94 = .ok (.iload 4, 2) := by decide +kernel
theorem dX0_joinOver_96 : decode cX0_joinOver 96 = .ok (.imul, 1) := by decide +kernel
theorem dX0_joinOver_97 : decode cX0_joinOver 97 = .ok (.iload 6, 2) := by decide +kernel
theorem dX0_joinOver_99 : decode cX0_joinOver 99 = .ok (.iadd, 1) := by decide +kernel
theorem dX0_joinOver_100 : decode cX0_joinOver 100 = .ok (.iaload, 1) := by decide +kernel
theorem dX0_joinOver_101 : decode cX0_joinOver 101 = .ok (.iadd, 1) := by decide +kernel
theorem dX0_joinOver_102 : decode cX0_joinOver 102 = .ok (.invokevirtual 74, 3) := by decide +kernel
theorem dX0_joinOver_105 : decode cX0_joinOver 105 = .ok (.iinc 6 1, 3) := by decide +kernel
theorem dX0_joinOver_108 : decode cX0_joinOver 108 = .ok (.goto (-46), 3) := by decide +kernel
theorem dX0_joinOver_111 : decode cX0_joinOver 111 = .ok (.iinc 5 1, 3) := by decide +kernel
theorem dX0_joinOver_114 : decode cX0_joinOver 114 = .ok (.goto (-66), 3) := by decide +kernel
theorem dX0_joinOver_117 : decode cX0_joinOver 117 = .ok (.return_, 1) := by decide +kernel
abbrev cX0_count : ByteArray := prog_1_method_17_code
def yX0_count : MethodName := ⟨RX0, "count", "(III)V"⟩
theorem dX0_count_0 : decode cX0_count 0 = .ok (.iconst 0, 1) := by decide +kernel
theorem dX0_count_1 : decode cX0_count 1 = .ok (.istore 4, 2) := by decide +kernel
theorem dX0_count_3 : decode cX0_count 3 = .ok (.iload 4, 2) := by decide +kernel
theorem dX0_count_5 : decode cX0_count 5 = .ok (.bipush 7, 2) := by decide +kernel
theorem dX0_count_7 : decode cX0_count 7 = .ok (.if_icmp .ge 120, 3) := by decide +kernel
theorem dX0_count_10 : decode cX0_count 10 = .ok (.bipush 7, 2) := by decide +kernel
theorem dX0_count_12 : decode cX0_count 12 = .ok (.iload_n 1, 1) := by decide +kernel
theorem dX0_count_13 : decode cX0_count 13 = .ok (.imul, 1) := by decide +kernel
theorem dX0_count_14 : decode cX0_count 14 = .ok (.iload 4, 2) := by decide +kernel
theorem dX0_count_16 : decode cX0_count 16 = .ok (.iadd, 1) := by decide +kernel
theorem dX0_count_17 : decode cX0_count 17 = .ok (.istore 5, 2) := by decide +kernel
theorem dX0_count_19 : decode cX0_count 19 = .ok (.bipush 19, 2) := by decide +kernel
theorem dX0_count_21 : decode cX0_count 21 = .ok (.iload 5, 2) := by decide +kernel
theorem dX0_count_23 : decode cX0_count 23 = .ok (.imul, 1) := by decide +kernel
theorem dX0_count_24 : decode cX0_count 24 = .ok (.istore 6, 2) := by decide +kernel
theorem dX0_count_26 : decode cX0_count 26 = .ok (.iload 6, 2) := by decide +kernel
theorem dX0_count_28 : decode cX0_count 28 = .ok (.bipush 19, 2) := by decide +kernel
theorem dX0_count_30 : decode cX0_count 30 = .ok (.iload 5, 2) := by decide +kernel
theorem dX0_count_32 : decode cX0_count 32 = .ok (.imul, 1) := by decide +kernel
theorem dX0_count_33 : decode cX0_count 33 = .ok (.aload_n 0, 1) := by decide +kernel
theorem dX0_count_34 : decode cX0_count 34 = .ok (.getfield 28, 3) := by decide +kernel
theorem dX0_count_37 : decode cX0_count 37 = .ok (.iload 5, 2) := by decide +kernel
theorem dX0_count_39 : decode cX0_count 39 = .ok (.iaload, 1) := by decide +kernel
theorem dX0_count_40 : decode cX0_count 40 = .ok (.iadd, 1) := by decide +kernel
theorem dX0_count_41 : decode cX0_count 41 = .ok (.if_icmp .ge 80, 3) := by decide +kernel
theorem dX0_count_44 : decode cX0_count 44 = .ok (.iload_n 2, 1) := by decide +kernel
theorem dX0_count_45 : decode cX0_count 45 = .ok (.iconst 4, 1) := by decide +kernel
theorem dX0_count_46 : decode cX0_count 46 = .ok (.ishr, 1) := by decide +kernel
theorem dX0_count_47 : decode cX0_count 47 = .ok (.aload_n 0, 1) := by decide +kernel
theorem dX0_count_48 : decode cX0_count 48 = .ok (.getfield 31, 3) := by decide +kernel
theorem dX0_count_51 : decode cX0_count 51 = .ok (.iload 6, 2) := by decide +kernel
theorem dX0_count_53 : decode cX0_count 53 = .ok (.iaload, 1) := by decide +kernel
theorem dX0_count_54 : decode cX0_count 54 = .ok (.bipush 6, 2) := by decide +kernel
theorem dX0_count_56 : decode cX0_count 56 = .ok (.ishr, 1) := by decide +kernel
theorem dX0_count_57 : decode cX0_count 57 = .ok (.iadd, 1) := by decide +kernel
theorem dX0_count_58 : decode cX0_count 58 = .ok (.istore 7, 2) := by decide +kernel
theorem dX0_count_60 : decode cX0_count 60 = .ok (.iload_n 2, 1) := by decide +kernel
theorem dX0_count_61 : decode cX0_count 61 = .ok (.bipush 15, 2) := by decide +kernel
theorem dX0_count_63 : decode cX0_count 63 = .ok (.iand, 1) := by decide +kernel
theorem dX0_count_64 : decode cX0_count 64 = .ok (.aload_n 0, 1) := by decide +kernel
theorem dX0_count_65 : decode cX0_count 65 = .ok (.getfield 31, 3) := by decide +kernel
theorem dX0_count_68 : decode cX0_count 68 = .ok (.iload 6, 2) := by decide +kernel
theorem dX0_count_70 : decode cX0_count 70 = .ok (.iaload, 1) := by decide +kernel
theorem dX0_count_71 : decode cX0_count 71 = .ok (.bipush 63, 2) := by decide +kernel
theorem dX0_count_73 : decode cX0_count 73 = .ok (.iand, 1) := by decide +kernel
theorem dX0_count_74 : decode cX0_count 74 = .ok (.iadd, 1) := by decide +kernel
theorem dX0_count_75 : decode cX0_count 75 = .ok (.istore 8, 2) := by decide +kernel
theorem dX0_count_77 : decode cX0_count 77 = .ok (.iload 7, 2) := by decide +kernel
theorem dX0_count_79 : decode cX0_count 79 = .ok (.bipush 15, 2) := by decide +kernel
theorem dX0_count_81 : decode cX0_count 81 = .ok (.if_icmp .gt 34, 3) := by decide +kernel
theorem dX0_count_84 : decode cX0_count 84 = .ok (.iload 8, 2) := by decide +kernel
theorem dX0_count_86 : decode cX0_count 86 = .ok (.bipush 15, 2) := by decide +kernel
theorem dX0_count_88 : decode cX0_count 88 = .ok (.if_icmp .gt 27, 3) := by decide +kernel
theorem dX0_count_91 : decode cX0_count 91 = .ok (.aload_n 0, 1) := by decide +kernel
theorem dX0_count_92 : decode cX0_count 92 = .ok (.getfield 37, 3) := by decide +kernel
theorem dX0_count_95 : decode cX0_count 95 = .ok (.sipush 256, 3) := by decide +kernel
theorem dX0_count_98 : decode cX0_count 98 = .ok (.iload 4, 2) := by decide +kernel
theorem dX0_count_100 : decode cX0_count 100 = .ok (.imul, 1) := by decide +kernel
theorem dX0_count_101 : decode cX0_count 101 = .ok (.bipush 16, 2) := by decide +kernel
theorem dX0_count_103 : decode cX0_count 103 = .ok (.iload 7, 2) := by decide +kernel
theorem dX0_count_105 : decode cX0_count 105 = .ok (.imul, 1) := by decide +kernel
theorem dX0_count_106 : decode cX0_count 106 = .ok (.iadd, 1) := by decide +kernel
theorem dX0_count_107 : decode cX0_count 107 = .ok (.iload 8, 2) := by decide +kernel
theorem dX0_count_109 : decode cX0_count 109 = .ok (.iadd, 1) := by decide +kernel
theorem dX0_count_110 : decode cX0_count 110 = .ok (.dup2, 1) := by decide +kernel
theorem dX0_count_111 : decode cX0_count 111 = .ok (.iaload, 1) := by decide +kernel
theorem dX0_count_112 : decode cX0_count 112 = .ok (.iload_n 3, 1) := by decide +kernel
theorem dX0_count_113 : decode cX0_count 113 = .ok (.iadd, 1) := by decide +kernel
theorem dX0_count_114 : decode cX0_count 114 = .ok (.iastore, 1) := by decide +kernel
theorem dX0_count_115 : decode cX0_count 115 = .ok (.iinc 6 1, 3) := by decide +kernel
theorem dX0_count_118 : decode cX0_count 118 = .ok (.goto (-92), 3) := by decide +kernel
theorem dX0_count_121 : decode cX0_count 121 = .ok (.iinc 4 1, 3) := by decide +kernel
theorem dX0_count_124 : decode cX0_count 124 = .ok (.goto (-121), 3) := by decide +kernel
theorem dX0_count_127 : decode cX0_count 127 = .ok (.return_, 1) := by decide +kernel
abbrev cX0_link : ByteArray := prog_1_method_2_code
def yX0_link : MethodName := ⟨RX0, "link", "(IIII)I"⟩
theorem dX0_link_0 : decode cX0_link 0 = .ok (.iload_n 1, 1) := by decide +kernel
theorem dX0_link_1 : decode cX0_link 1 = .ok (.invokestatic 43, 3) := by decide +kernel
theorem dX0_link_4 : decode cX0_link 4 = .ok (.ifCond .eq 39, 3) := by decide +kernel
theorem dX0_link_7 : decode cX0_link 7 = .ok (.iload_n 2, 1) := by decide +kernel
theorem dX0_link_8 : decode cX0_link 8 = .ok (.invokestatic 43, 3) := by decide +kernel
theorem dX0_link_11 : decode cX0_link 11 = .ok (.ifCond .eq 32, 3) := by decide +kernel
theorem dX0_link_14 : decode cX0_link 14 = .ok (.iload_n 3, 1) := by decide +kernel
theorem dX0_link_15 : decode cX0_link 15 = .ok (.ifCond .lt 28, 3) := by decide +kernel
theorem dX0_link_18 : decode cX0_link 18 = .ok (.iload_n 3, 1) := by decide +kernel
theorem dX0_link_19 : decode cX0_link 19 = .ok (.iconst 3, 1) := by decide +kernel
theorem dX0_link_20 : decode cX0_link 20 = .ok (.if_icmp .gt 23, 3) := by decide +kernel
theorem dX0_link_23 : decode cX0_link 23 = .ok (.iload 4, 2) := by decide +kernel
theorem dX0_link_25 : decode cX0_link 25 = .ok (.ifCond .lt 18, 3) := by decide +kernel
theorem dX0_link_28 : decode cX0_link 28 = .ok (.iload 4, 2) := by decide +kernel
theorem dX0_link_30 : decode cX0_link 30 = .ok (.iconst 3, 1) := by decide +kernel
theorem dX0_link_31 : decode cX0_link 31 = .ok (.if_icmp .gt 12, 3) := by decide +kernel
theorem dX0_link_34 : decode cX0_link 34 = .ok (.aload_n 0, 1) := by decide +kernel
theorem dX0_link_35 : decode cX0_link 35 = .ok (.getfield 47, 3) := by decide +kernel
theorem dX0_link_38 : decode cX0_link 38 = .ok (.bipush 12, 2) := by decide +kernel
theorem dX0_link_40 : decode cX0_link 40 = .ok (.if_icmp .lt 5, 3) := by decide +kernel
theorem dX0_link_43 : decode cX0_link 43 = .ok (.iconst (-1), 1) := by decide +kernel
theorem dX0_link_44 : decode cX0_link 44 = .ok (.ireturn, 1) := by decide +kernel
theorem dX0_link_45 : decode cX0_link 45 = .ok (.aload_n 0, 1) := by decide +kernel
theorem dX0_link_46 : decode cX0_link 46 = .ok (.getfield 7, 3) := by decide +kernel
theorem dX0_link_49 : decode cX0_link 49 = .ok (.aload_n 0, 1) := by decide +kernel
theorem dX0_link_50 : decode cX0_link 50 = .ok (.getfield 47, 3) := by decide +kernel
theorem dX0_link_53 : decode cX0_link 53 = .ok (.iload_n 1, 1) := by decide +kernel
theorem dX0_link_54 : decode cX0_link 54 = .ok (.iastore, 1) := by decide +kernel
theorem dX0_link_55 : decode cX0_link 55 = .ok (.aload_n 0, 1) := by decide +kernel
theorem dX0_link_56 : decode cX0_link 56 = .ok (.getfield 13, 3) := by decide +kernel
theorem dX0_link_59 : decode cX0_link 59 = .ok (.aload_n 0, 1) := by decide +kernel
theorem dX0_link_60 : decode cX0_link 60 = .ok (.getfield 47, 3) := by decide +kernel
theorem dX0_link_63 : decode cX0_link 63 = .ok (.iload_n 2, 1) := by decide +kernel
theorem dX0_link_64 : decode cX0_link 64 = .ok (.iastore, 1) := by decide +kernel
theorem dX0_link_65 : decode cX0_link 65 = .ok (.aload_n 0, 1) := by decide +kernel
theorem dX0_link_66 : decode cX0_link 66 = .ok (.getfield 16, 3) := by decide +kernel
theorem dX0_link_69 : decode cX0_link 69 = .ok (.aload_n 0, 1) := by decide +kernel
theorem dX0_link_70 : decode cX0_link 70 = .ok (.getfield 47, 3) := by decide +kernel
theorem dX0_link_73 : decode cX0_link 73 = .ok (.iload_n 3, 1) := by decide +kernel
theorem dX0_link_74 : decode cX0_link 74 = .ok (.iastore, 1) := by decide +kernel
theorem dX0_link_75 : decode cX0_link 75 = .ok (.aload_n 0, 1) := by decide +kernel
theorem dX0_link_76 : decode cX0_link 76 = .ok (.getfield 19, 3) := by decide +kernel
theorem dX0_link_79 : decode cX0_link 79 = .ok (.aload_n 0, 1) := by decide +kernel
theorem dX0_link_80 : decode cX0_link 80 = .ok (.getfield 47, 3) := by decide +kernel
theorem dX0_link_83 : decode cX0_link 83 = .ok (.iload 4, 2) := by decide +kernel
theorem dX0_link_85 : decode cX0_link 85 = .ok (.iastore, 1) := by decide +kernel
theorem dX0_link_86 : decode cX0_link 86 = .ok (.aload_n 0, 1) := by decide +kernel
theorem dX0_link_87 : decode cX0_link 87 = .ok (.dup, 1) := by decide +kernel
theorem dX0_link_88 : decode cX0_link 88 = .ok (.getfield 47, 3) := by decide +kernel
theorem dX0_link_91 : decode cX0_link 91 = .ok (.iconst 1, 1) := by decide +kernel
theorem dX0_link_92 : decode cX0_link 92 = .ok (.iadd, 1) := by decide +kernel
theorem dX0_link_93 : decode cX0_link 93 = .ok (.putfield 47, 3) := by decide +kernel
theorem dX0_link_96 : decode cX0_link 96 = .ok (.aload_n 0, 1) := by decide +kernel
theorem dX0_link_97 : decode cX0_link 97 = .ok (.invokevirtual 40, 3) := by decide +kernel
theorem dX0_link_100 : decode cX0_link 100 = .ok (.aload_n 0, 1) := by decide +kernel
theorem dX0_link_101 : decode cX0_link 101 = .ok (.getfield 47, 3) := by decide +kernel
theorem dX0_link_104 : decode cX0_link 104 = .ok (.ireturn, 1) := by decide +kernel
abbrev cX0_isPlace : ByteArray := prog_1_method_15_code
def yX0_isPlace : MethodName := ⟨RX0, "isPlace", "(I)Z"⟩
theorem dX0_isPlace_0 : decode cX0_isPlace 0 = .ok (.iload_n 0, 1) := by decide +kernel
theorem dX0_isPlace_1 : decode cX0_isPlace 1 = .ok (.ifCond .lt 13, 3) := by decide +kernel
theorem dX0_isPlace_4 : decode cX0_isPlace 4 = .ok (.iload_n 0, 1) := by decide +kernel
theorem dX0_isPlace_5 : decode cX0_isPlace 5 = .ok (.bipush 6, 2) := by decide +kernel
theorem dX0_isPlace_7 : decode cX0_isPlace 7 = .ok (.if_icmp .gt 7, 3) := by decide +kernel
theorem dX0_isPlace_10 : decode cX0_isPlace 10 = .ok (.iconst 1, 1) := by decide +kernel
theorem dX0_isPlace_11 : decode cX0_isPlace 11 = .ok (.goto 4, 3) := by decide +kernel
theorem dX0_isPlace_14 : decode cX0_isPlace 14 = .ok (.iconst 0, 1) := by decide +kernel
theorem dX0_isPlace_15 : decode cX0_isPlace 15 = .ok (.ireturn, 1) := by decide +kernel
abbrev cX0_unlink : ByteArray := prog_1_method_3_code
def yX0_unlink : MethodName := ⟨RX0, "unlink", "(I)I"⟩
theorem dX0_unlink_0 : decode cX0_unlink 0 = .ok (.iload_n 1, 1) := by decide +kernel
theorem dX0_unlink_1 : decode cX0_unlink 1 = .ok (.ifCond .lt 11, 3) := by decide +kernel
theorem dX0_unlink_4 : decode cX0_unlink 4 = .ok (.iload_n 1, 1) := by decide +kernel
theorem dX0_unlink_5 : decode cX0_unlink 5 = .ok (.aload_n 0, 1) := by decide +kernel
theorem dX0_unlink_6 : decode cX0_unlink 6 = .ok (.getfield 47, 3) := by decide +kernel
theorem dX0_unlink_9 : decode cX0_unlink 9 = .ok (.if_icmp .lt 5, 3) := by decide +kernel
theorem dX0_unlink_12 : decode cX0_unlink 12 = .ok (.iconst (-1), 1) := by decide +kernel
theorem dX0_unlink_13 : decode cX0_unlink 13 = .ok (.ireturn, 1) := by decide +kernel
theorem dX0_unlink_14 : decode cX0_unlink 14 = .ok (.aload_n 0, 1) := by decide +kernel
theorem dX0_unlink_15 : decode cX0_unlink 15 = .ok (.dup, 1) := by decide +kernel
theorem dX0_unlink_16 : decode cX0_unlink 16 = .ok (.getfield 47, 3) := by decide +kernel
theorem dX0_unlink_19 : decode cX0_unlink 19 = .ok (.iconst 1, 1) := by decide +kernel
theorem dX0_unlink_20 : decode cX0_unlink 20 = .ok (.isub, 1) := by decide +kernel
theorem dX0_unlink_21 : decode cX0_unlink 21 = .ok (.putfield 47, 3) := by decide +kernel
theorem dX0_unlink_24 : decode cX0_unlink 24 = .ok (.iload_n 1, 1) := by decide +kernel
theorem dX0_unlink_25 : decode cX0_unlink 25 = .ok (.istore_n 2, 1) := by decide +kernel
theorem dX0_unlink_26 : decode cX0_unlink 26 = .ok (.iload_n 2, 1) := by decide +kernel
theorem dX0_unlink_27 : decode cX0_unlink 27 = .ok (.aload_n 0, 1) := by decide +kernel
theorem dX0_unlink_28 : decode cX0_unlink 28 = .ok (.getfield 47, 3) := by decide +kernel
theorem dX0_unlink_31 : decode cX0_unlink 31 = .ok (.if_icmp .ge 65, 3) := by decide +kernel
theorem dX0_unlink_34 : decode cX0_unlink 34 = .ok (.aload_n 0, 1) := by decide +kernel
theorem dX0_unlink_35 : decode cX0_unlink 35 = .ok (.getfield 7, 3) := by decide +kernel
theorem dX0_unlink_38 : decode cX0_unlink 38 = .ok (.iload_n 2, 1) := by decide +kernel
theorem dX0_unlink_39 : decode cX0_unlink 39 = .ok (.aload_n 0, 1) := by decide +kernel
theorem dX0_unlink_40 : decode cX0_unlink 40 = .ok (.getfield 7, 3) := by decide +kernel
theorem dX0_unlink_43 : decode cX0_unlink 43 = .ok (.iload_n 2, 1) := by decide +kernel
theorem dX0_unlink_44 : decode cX0_unlink 44 = .ok (.iconst 1, 1) := by decide +kernel
theorem dX0_unlink_45 : decode cX0_unlink 45 = .ok (.iadd, 1) := by decide +kernel
theorem dX0_unlink_46 : decode cX0_unlink 46 = .ok (.iaload, 1) := by decide +kernel
theorem dX0_unlink_47 : decode cX0_unlink 47 = .ok (.iastore, 1) := by decide +kernel
theorem dX0_unlink_48 : decode cX0_unlink 48 = .ok (.aload_n 0, 1) := by decide +kernel
theorem dX0_unlink_49 : decode cX0_unlink 49 = .ok (.getfield 13, 3) := by decide +kernel
theorem dX0_unlink_52 : decode cX0_unlink 52 = .ok (.iload_n 2, 1) := by decide +kernel
theorem dX0_unlink_53 : decode cX0_unlink 53 = .ok (.aload_n 0, 1) := by decide +kernel
theorem dX0_unlink_54 : decode cX0_unlink 54 = .ok (.getfield 13, 3) := by decide +kernel
theorem dX0_unlink_57 : decode cX0_unlink 57 = .ok (.iload_n 2, 1) := by decide +kernel
theorem dX0_unlink_58 : decode cX0_unlink 58 = .ok (.iconst 1, 1) := by decide +kernel
theorem dX0_unlink_59 : decode cX0_unlink 59 = .ok (.iadd, 1) := by decide +kernel
theorem dX0_unlink_60 : decode cX0_unlink 60 = .ok (.iaload, 1) := by decide +kernel
theorem dX0_unlink_61 : decode cX0_unlink 61 = .ok (.iastore, 1) := by decide +kernel
theorem dX0_unlink_62 : decode cX0_unlink 62 = .ok (.aload_n 0, 1) := by decide +kernel
theorem dX0_unlink_63 : decode cX0_unlink 63 = .ok (.getfield 16, 3) := by decide +kernel
theorem dX0_unlink_66 : decode cX0_unlink 66 = .ok (.iload_n 2, 1) := by decide +kernel
theorem dX0_unlink_67 : decode cX0_unlink 67 = .ok (.aload_n 0, 1) := by decide +kernel
theorem dX0_unlink_68 : decode cX0_unlink 68 = .ok (.getfield 16, 3) := by decide +kernel
theorem dX0_unlink_71 : decode cX0_unlink 71 = .ok (.iload_n 2, 1) := by decide +kernel
theorem dX0_unlink_72 : decode cX0_unlink 72 = .ok (.iconst 1, 1) := by decide +kernel
theorem dX0_unlink_73 : decode cX0_unlink 73 = .ok (.iadd, 1) := by decide +kernel
theorem dX0_unlink_74 : decode cX0_unlink 74 = .ok (.iaload, 1) := by decide +kernel
theorem dX0_unlink_75 : decode cX0_unlink 75 = .ok (.iastore, 1) := by decide +kernel
theorem dX0_unlink_76 : decode cX0_unlink 76 = .ok (.aload_n 0, 1) := by decide +kernel
theorem dX0_unlink_77 : decode cX0_unlink 77 = .ok (.getfield 19, 3) := by decide +kernel
theorem dX0_unlink_80 : decode cX0_unlink 80 = .ok (.iload_n 2, 1) := by decide +kernel
theorem dX0_unlink_81 : decode cX0_unlink 81 = .ok (.aload_n 0, 1) := by decide +kernel
theorem dX0_unlink_82 : decode cX0_unlink 82 = .ok (.getfield 19, 3) := by decide +kernel
theorem dX0_unlink_85 : decode cX0_unlink 85 = .ok (.iload_n 2, 1) := by decide +kernel
theorem dX0_unlink_86 : decode cX0_unlink 86 = .ok (.iconst 1, 1) := by decide +kernel
theorem dX0_unlink_87 : decode cX0_unlink 87 = .ok (.iadd, 1) := by decide +kernel
theorem dX0_unlink_88 : decode cX0_unlink 88 = .ok (.iaload, 1) := by decide +kernel
theorem dX0_unlink_89 : decode cX0_unlink 89 = .ok (.iastore, 1) := by decide +kernel
theorem dX0_unlink_90 : decode cX0_unlink 90 = .ok (.iinc 2 1, 3) := by decide +kernel
theorem dX0_unlink_93 : decode cX0_unlink 93 = .ok (.goto (-67), 3) := by decide +kernel
theorem dX0_unlink_96 : decode cX0_unlink 96 = .ok (.aload_n 0, 1) := by decide +kernel
theorem dX0_unlink_97 : decode cX0_unlink 97 = .ok (.invokevirtual 40, 3) := by decide +kernel
theorem dX0_unlink_100 : decode cX0_unlink 100 = .ok (.aload_n 0, 1) := by decide +kernel
theorem dX0_unlink_101 : decode cX0_unlink 101 = .ok (.getfield 47, 3) := by decide +kernel
theorem dX0_unlink_104 : decode cX0_unlink 104 = .ok (.ireturn, 1) := by decide +kernel
abbrev cX0_put : ByteArray := prog_1_method_4_code
def yX0_put : MethodName := ⟨RX0, "put", "(III)I"⟩
theorem dX0_put_0 : decode cX0_put 0 = .ok (.iload_n 1, 1) := by decide +kernel
theorem dX0_put_1 : decode cX0_put 1 = .ok (.invokestatic 43, 3) := by decide +kernel
theorem dX0_put_4 : decode cX0_put 4 = .ok (.ifCond .eq 20, 3) := by decide +kernel
theorem dX0_put_7 : decode cX0_put 7 = .ok (.iload_n 2, 1) := by decide +kernel
theorem dX0_put_8 : decode cX0_put 8 = .ok (.iload_n 3, 1) := by decide +kernel
theorem dX0_put_9 : decode cX0_put 9 = .ok (.invokestatic 51, 3) := by decide +kernel
theorem dX0_put_12 : decode cX0_put 12 = .ok (.ifCond .eq 12, 3) := by decide +kernel
theorem dX0_put_15 : decode cX0_put 15 = .ok (.aload_n 0, 1) := by decide +kernel
theorem dX0_put_16 : decode cX0_put 16 = .ok (.getfield 55, 3) := by decide +kernel
theorem dX0_put_19 : decode cX0_put 19 = .ok (.bipush 20, 2) := by decide +kernel
theorem dX0_put_21 : decode cX0_put 21 = .ok (.if_icmp .lt 5, 3) := by decide +kernel
theorem dX0_put_24 : decode cX0_put 24 = .ok (.iconst (-1), 1) := by decide +kernel
theorem dX0_put_25 : decode cX0_put 25 = .ok (.ireturn, 1) := by decide +kernel
theorem dX0_put_26 : decode cX0_put 26 = .ok (.aload_n 0, 1) := by decide +kernel
theorem dX0_put_27 : decode cX0_put 27 = .ok (.getfield 22, 3) := by decide +kernel
theorem dX0_put_30 : decode cX0_put 30 = .ok (.aload_n 0, 1) := by decide +kernel
theorem dX0_put_31 : decode cX0_put 31 = .ok (.getfield 55, 3) := by decide +kernel
theorem dX0_put_34 : decode cX0_put 34 = .ok (.iload_n 1, 1) := by decide +kernel
theorem dX0_put_35 : decode cX0_put 35 = .ok (.iastore, 1) := by decide +kernel
theorem dX0_put_36 : decode cX0_put 36 = .ok (.aload_n 0, 1) := by decide +kernel
theorem dX0_put_37 : decode cX0_put 37 = .ok (.getfield 25, 3) := by decide +kernel
theorem dX0_put_40 : decode cX0_put 40 = .ok (.aload_n 0, 1) := by decide +kernel
theorem dX0_put_41 : decode cX0_put 41 = .ok (.getfield 55, 3) := by decide +kernel
theorem dX0_put_44 : decode cX0_put 44 = .ok (.bipush 16, 2) := by decide +kernel
theorem dX0_put_46 : decode cX0_put 46 = .ok (.iload_n 2, 1) := by decide +kernel
theorem dX0_put_47 : decode cX0_put 47 = .ok (.imul, 1) := by decide +kernel
theorem dX0_put_48 : decode cX0_put 48 = .ok (.iload_n 3, 1) := by decide +kernel
theorem dX0_put_49 : decode cX0_put 49 = .ok (.iadd, 1) := by decide +kernel
theorem dX0_put_50 : decode cX0_put 50 = .ok (.iastore, 1) := by decide +kernel
theorem dX0_put_51 : decode cX0_put 51 = .ok (.aload_n 0, 1) := by decide +kernel
theorem dX0_put_52 : decode cX0_put 52 = .ok (.dup, 1) := by decide +kernel
theorem dX0_put_53 : decode cX0_put 53 = .ok (.getfield 55, 3) := by decide +kernel
theorem dX0_put_56 : decode cX0_put 56 = .ok (.iconst 1, 1) := by decide +kernel
theorem dX0_put_57 : decode cX0_put 57 = .ok (.iadd, 1) := by decide +kernel
theorem dX0_put_58 : decode cX0_put 58 = .ok (.putfield 55, 3) := by decide +kernel
theorem dX0_put_61 : decode cX0_put 61 = .ok (.aload_n 0, 1) := by decide +kernel
theorem dX0_put_62 : decode cX0_put 62 = .ok (.iload_n 1, 1) := by decide +kernel
theorem dX0_put_63 : decode cX0_put 63 = .ok (.bipush 16, 2) := by decide +kernel
theorem dX0_put_65 : decode cX0_put 65 = .ok (.iload_n 2, 1) := by decide +kernel
theorem dX0_put_66 : decode cX0_put 66 = .ok (.imul, 1) := by decide +kernel
theorem dX0_put_67 : decode cX0_put 67 = .ok (.iload_n 3, 1) := by decide +kernel
theorem dX0_put_68 : decode cX0_put 68 = .ok (.iadd, 1) := by decide +kernel
theorem dX0_put_69 : decode cX0_put 69 = .ok (.iconst 1, 1) := by decide +kernel
theorem dX0_put_70 : decode cX0_put 70 = .ok (.invokevirtual 58, 3) := by decide +kernel
theorem dX0_put_73 : decode cX0_put 73 = .ok (.aload_n 0, 1) := by decide +kernel
theorem dX0_put_74 : decode cX0_put 74 = .ok (.getfield 55, 3) := by decide +kernel
theorem dX0_put_77 : decode cX0_put 77 = .ok (.ireturn, 1) := by decide +kernel
abbrev cX0_isTime : ByteArray := prog_1_method_16_code
def yX0_isTime : MethodName := ⟨RX0, "isTime", "(II)Z"⟩
theorem dX0_isTime_0 : decode cX0_isTime 0 = .ok (.iload_n 0, 1) := by decide +kernel
theorem dX0_isTime_1 : decode cX0_isTime 1 = .ok (.ifCond .lt 23, 3) := by decide +kernel
theorem dX0_isTime_4 : decode cX0_isTime 4 = .ok (.iload_n 0, 1) := by decide +kernel
theorem dX0_isTime_5 : decode cX0_isTime 5 = .ok (.bipush 15, 2) := by decide +kernel
theorem dX0_isTime_7 : decode cX0_isTime 7 = .ok (.if_icmp .gt 17, 3) := by decide +kernel
theorem dX0_isTime_10 : decode cX0_isTime 10 = .ok (.iload_n 1, 1) := by decide +kernel
theorem dX0_isTime_11 : decode cX0_isTime 11 = .ok (.ifCond .lt 13, 3) := by decide +kernel
theorem dX0_isTime_14 : decode cX0_isTime 14 = .ok (.iload_n 1, 1) := by decide +kernel
theorem dX0_isTime_15 : decode cX0_isTime 15 = .ok (.bipush 15, 2) := by decide +kernel
theorem dX0_isTime_17 : decode cX0_isTime 17 = .ok (.if_icmp .gt 7, 3) := by decide +kernel
theorem dX0_isTime_20 : decode cX0_isTime 20 = .ok (.iconst 1, 1) := by decide +kernel
theorem dX0_isTime_21 : decode cX0_isTime 21 = .ok (.goto 4, 3) := by decide +kernel
theorem dX0_isTime_24 : decode cX0_isTime 24 = .ok (.iconst 0, 1) := by decide +kernel
theorem dX0_isTime_25 : decode cX0_isTime 25 = .ok (.ireturn, 1) := by decide +kernel
abbrev cX0_take : ByteArray := prog_1_method_5_code
def yX0_take : MethodName := ⟨RX0, "take", "(III)I"⟩
theorem dX0_take_0 : decode cX0_take 0 = .ok (.iload_n 1, 1) := by decide +kernel
theorem dX0_take_1 : decode cX0_take 1 = .ok (.invokestatic 43, 3) := by decide +kernel
theorem dX0_take_4 : decode cX0_take 4 = .ok (.ifCond .eq 25, 3) := by decide +kernel
theorem dX0_take_7 : decode cX0_take 7 = .ok (.iload_n 2, 1) := by decide +kernel
theorem dX0_take_8 : decode cX0_take 8 = .ok (.iload_n 3, 1) := by decide +kernel
theorem dX0_take_9 : decode cX0_take 9 = .ok (.invokestatic 51, 3) := by decide +kernel
theorem dX0_take_12 : decode cX0_take 12 = .ok (.ifCond .eq 17, 3) := by decide +kernel
theorem dX0_take_15 : decode cX0_take 15 = .ok (.aload_n 0, 1) := by decide +kernel
theorem dX0_take_16 : decode cX0_take 16 = .ok (.iload_n 1, 1) := by decide +kernel
theorem dX0_take_17 : decode cX0_take 17 = .ok (.bipush 16, 2) := by decide +kernel
theorem dX0_take_19 : decode cX0_take 19 = .ok (.iload_n 2, 1) := by decide +kernel
theorem dX0_take_20 : decode cX0_take 20 = .ok (.imul, 1) := by decide +kernel
theorem dX0_take_21 : decode cX0_take 21 = .ok (.iload_n 3, 1) := by decide +kernel
theorem dX0_take_22 : decode cX0_take 22 = .ok (.iadd, 1) := by decide +kernel
theorem dX0_take_23 : decode cX0_take 23 = .ok (.invokevirtual 62, 3) := by decide +kernel
theorem dX0_take_26 : decode cX0_take 26 = .ok (.goto 4, 3) := by decide +kernel
theorem dX0_take_29 : decode cX0_take 29 = .ok (.iconst (-1), 1) := by decide +kernel
theorem dX0_take_30 : decode cX0_take 30 = .ok (.istore 4, 2) := by decide +kernel
theorem dX0_take_32 : decode cX0_take 32 = .ok (.iload 4, 2) := by decide +kernel
theorem dX0_take_34 : decode cX0_take 34 = .ok (.ifCond .ge 5, 3) := by decide +kernel
theorem dX0_take_37 : decode cX0_take 37 = .ok (.iconst (-1), 1) := by decide +kernel
theorem dX0_take_38 : decode cX0_take 38 = .ok (.ireturn, 1) := by decide +kernel
theorem dX0_take_39 : decode cX0_take 39 = .ok (.aload_n 0, 1) := by decide +kernel
theorem dX0_take_40 : decode cX0_take 40 = .ok (.dup, 1) := by decide +kernel
theorem dX0_take_41 : decode cX0_take 41 = .ok (.getfield 55, 3) := by decide +kernel
theorem dX0_take_44 : decode cX0_take 44 = .ok (.iconst 1, 1) := by decide +kernel
theorem dX0_take_45 : decode cX0_take 45 = .ok (.isub, 1) := by decide +kernel
theorem dX0_take_46 : decode cX0_take 46 = .ok (.putfield 55, 3) := by decide +kernel
theorem dX0_take_49 : decode cX0_take 49 = .ok (.aload_n 0, 1) := by decide +kernel
theorem dX0_take_50 : decode cX0_take 50 = .ok (.getfield 22, 3) := by decide +kernel
theorem dX0_take_53 : decode cX0_take 53 = .ok (.iload 4, 2) := by decide +kernel
theorem dX0_take_55 : decode cX0_take 55 = .ok (.aload_n 0, 1) := by decide +kernel
theorem dX0_take_56 : decode cX0_take 56 = .ok (.getfield 22, 3) := by decide +kernel
theorem dX0_take_59 : decode cX0_take 59 = .ok (.aload_n 0, 1) := by decide +kernel
theorem dX0_take_60 : decode cX0_take 60 = .ok (.getfield 55, 3) := by decide +kernel
theorem dX0_take_63 : decode cX0_take 63 = .ok (.iaload, 1) := by decide +kernel
theorem dX0_take_64 : decode cX0_take 64 = .ok (.iastore, 1) := by decide +kernel
theorem dX0_take_65 : decode cX0_take 65 = .ok (.aload_n 0, 1) := by decide +kernel
theorem dX0_take_66 : decode cX0_take 66 = .ok (.getfield 25, 3) := by decide +kernel
theorem dX0_take_69 : decode cX0_take 69 = .ok (.iload 4, 2) := by decide +kernel
theorem dX0_take_71 : decode cX0_take 71 = .ok (.aload_n 0, 1) := by decide +kernel
theorem dX0_take_72 : decode cX0_take 72 = .ok (.getfield 25, 3) := by decide +kernel
theorem dX0_take_75 : decode cX0_take 75 = .ok (.aload_n 0, 1) := by decide +kernel
theorem dX0_take_76 : decode cX0_take 76 = .ok (.getfield 55, 3) := by decide +kernel
theorem dX0_take_79 : decode cX0_take 79 = .ok (.iaload, 1) := by decide +kernel
theorem dX0_take_80 : decode cX0_take 80 = .ok (.iastore, 1) := by decide +kernel
theorem dX0_take_81 : decode cX0_take 81 = .ok (.aload_n 0, 1) := by decide +kernel
theorem dX0_take_82 : decode cX0_take 82 = .ok (.iload_n 1, 1) := by decide +kernel
theorem dX0_take_83 : decode cX0_take 83 = .ok (.bipush 16, 2) := by decide +kernel
theorem dX0_take_85 : decode cX0_take 85 = .ok (.iload_n 2, 1) := by decide +kernel
theorem dX0_take_86 : decode cX0_take 86 = .ok (.imul, 1) := by decide +kernel
theorem dX0_take_87 : decode cX0_take 87 = .ok (.iload_n 3, 1) := by decide +kernel
theorem dX0_take_88 : decode cX0_take 88 = .ok (.iadd, 1) := by decide +kernel
theorem dX0_take_89 : decode cX0_take 89 = .ok (.iconst (-1), 1) := by decide +kernel
theorem dX0_take_90 : decode cX0_take 90 = .ok (.invokevirtual 58, 3) := by decide +kernel
theorem dX0_take_93 : decode cX0_take 93 = .ok (.aload_n 0, 1) := by decide +kernel
theorem dX0_take_94 : decode cX0_take 94 = .ok (.getfield 55, 3) := by decide +kernel
theorem dX0_take_97 : decode cX0_take 97 = .ok (.ireturn, 1) := by decide +kernel
abbrev cX0_tokenAt : ByteArray := prog_1_method_7_code
def yX0_tokenAt : MethodName := ⟨RX0, "tokenAt", "(II)I"⟩
theorem dX0_tokenAt_0 : decode cX0_tokenAt 0 = .ok (.iconst 0, 1) := by decide +kernel
theorem dX0_tokenAt_1 : decode cX0_tokenAt 1 = .ok (.istore_n 3, 1) := by decide +kernel
theorem dX0_tokenAt_2 : decode cX0_tokenAt 2 = .ok (.iload_n 3, 1) := by decide +kernel
theorem dX0_tokenAt_3 : decode cX0_tokenAt 3 = .ok (.aload_n 0, 1) := by decide +kernel
theorem dX0_tokenAt_4 : decode cX0_tokenAt 4 = .ok (.getfield 55, 3) := by decide +kernel
theorem dX0_tokenAt_7 : decode cX0_tokenAt 7 = .ok (.if_icmp .ge 31, 3) := by decide +kernel
theorem dX0_tokenAt_10 : decode cX0_tokenAt 10 = .ok (.aload_n 0, 1) := by decide +kernel
theorem dX0_tokenAt_11 : decode cX0_tokenAt 11 = .ok (.getfield 22, 3) := by decide +kernel
theorem dX0_tokenAt_14 : decode cX0_tokenAt 14 = .ok (.iload_n 3, 1) := by decide +kernel
theorem dX0_tokenAt_15 : decode cX0_tokenAt 15 = .ok (.iaload, 1) := by decide +kernel
theorem dX0_tokenAt_16 : decode cX0_tokenAt 16 = .ok (.iload_n 1, 1) := by decide +kernel
theorem dX0_tokenAt_17 : decode cX0_tokenAt 17 = .ok (.if_icmp .ne 15, 3) := by decide +kernel
theorem dX0_tokenAt_20 : decode cX0_tokenAt 20 = .ok (.aload_n 0, 1) := by decide +kernel
theorem dX0_tokenAt_21 : decode cX0_tokenAt 21 = .ok (.getfield 25, 3) := by decide +kernel
theorem dX0_tokenAt_24 : decode cX0_tokenAt 24 = .ok (.iload_n 3, 1) := by decide +kernel
theorem dX0_tokenAt_25 : decode cX0_tokenAt 25 = .ok (.iaload, 1) := by decide +kernel
theorem dX0_tokenAt_26 : decode cX0_tokenAt 26 = .ok (.iload_n 2, 1) := by decide +kernel
theorem dX0_tokenAt_27 : decode cX0_tokenAt 27 = .ok (.if_icmp .ne 5, 3) := by decide +kernel
theorem dX0_tokenAt_30 : decode cX0_tokenAt 30 = .ok (.iload_n 3, 1) := by decide +kernel
theorem dX0_tokenAt_31 : decode cX0_tokenAt 31 = .ok (.ireturn, 1) := by decide +kernel
theorem dX0_tokenAt_32 : decode cX0_tokenAt 32 = .ok (.iinc 3 1, 3) := by decide +kernel
theorem dX0_tokenAt_35 : decode cX0_tokenAt 35 = .ok (.goto (-33), 3) := by decide +kernel
theorem dX0_tokenAt_38 : decode cX0_tokenAt 38 = .ok (.iconst (-1), 1) := by decide +kernel
theorem dX0_tokenAt_39 : decode cX0_tokenAt 39 = .ok (.ireturn, 1) := by decide +kernel
abbrev cX0_pass : ByteArray := prog_1_method_6_code
def yX0_pass : MethodName := ⟨RX0, "pass", "(III)I"⟩
theorem dX0_pass_0 : decode cX0_pass 0 = .ok (.iload_n 1, 1) := by decide +kernel
theorem dX0_pass_1 : decode cX0_pass 1 = .ok (.ifCond .lt 19, 3) := by decide +kernel
theorem dX0_pass_4 : decode cX0_pass 4 = .ok (.iload_n 1, 1) := by decide +kernel
theorem dX0_pass_5 : decode cX0_pass 5 = .ok (.aload_n 0, 1) := by decide +kernel
theorem dX0_pass_6 : decode cX0_pass 6 = .ok (.getfield 47, 3) := by decide +kernel
theorem dX0_pass_9 : decode cX0_pass 9 = .ok (.if_icmp .ge 11, 3) := by decide +kernel
theorem dX0_pass_12 : decode cX0_pass 12 = .ok (.iload_n 2, 1) := by decide +kernel
theorem dX0_pass_13 : decode cX0_pass 13 = .ok (.iload_n 3, 1) := by decide +kernel
theorem dX0_pass_14 : decode cX0_pass 14 = .ok (.invokestatic 51, 3) := by decide +kernel
theorem dX0_pass_17 : decode cX0_pass 17 = .ok (.ifCond .ne 5, 3) := by decide +kernel
theorem dX0_pass_20 : decode cX0_pass 20 = .ok (.iconst (-1), 1) := by decide +kernel
theorem dX0_pass_21 : decode cX0_pass 21 = .ok (.ireturn, 1) := by decide +kernel
theorem dX0_pass_22 : decode cX0_pass 22 = .ok (.aload_n 0, 1) := by decide +kernel
theorem dX0_pass_23 : decode cX0_pass 23 = .ok (.aload_n 0, 1) := by decide +kernel
theorem dX0_pass_24 : decode cX0_pass 24 = .ok (.getfield 7, 3) := by decide +kernel
theorem dX0_pass_27 : decode cX0_pass 27 = .ok (.iload_n 1, 1) := by decide +kernel
theorem dX0_pass_28 : decode cX0_pass 28 = .ok (.iaload, 1) := by decide +kernel
theorem dX0_pass_29 : decode cX0_pass 29 = .ok (.bipush 16, 2) := by decide +kernel
theorem dX0_pass_31 : decode cX0_pass 31 = .ok (.iload_n 2, 1) := by decide +kernel
theorem dX0_pass_32 : decode cX0_pass 32 = .ok (.imul, 1) := by decide +kernel
theorem dX0_pass_33 : decode cX0_pass 33 = .ok (.iload_n 3, 1) := by decide +kernel
theorem dX0_pass_34 : decode cX0_pass 34 = .ok (.iadd, 1) := by decide +kernel
theorem dX0_pass_35 : decode cX0_pass 35 = .ok (.invokevirtual 62, 3) := by decide +kernel
theorem dX0_pass_38 : decode cX0_pass 38 = .ok (.istore 4, 2) := by decide +kernel
theorem dX0_pass_40 : decode cX0_pass 40 = .ok (.iload 4, 2) := by decide +kernel
theorem dX0_pass_42 : decode cX0_pass 42 = .ok (.ifCond .ge 5, 3) := by decide +kernel
theorem dX0_pass_45 : decode cX0_pass 45 = .ok (.iconst (-1), 1) := by decide +kernel
theorem dX0_pass_46 : decode cX0_pass 46 = .ok (.ireturn, 1) := by decide +kernel
theorem dX0_pass_47 : decode cX0_pass 47 = .ok (.iload_n 2, 1) := by decide +kernel
theorem dX0_pass_48 : decode cX0_pass 48 = .ok (.aload_n 0, 1) := by decide +kernel
theorem dX0_pass_49 : decode cX0_pass 49 = .ok (.getfield 16, 3) := by decide +kernel
theorem dX0_pass_52 : decode cX0_pass 52 = .ok (.iload_n 1, 1) := by decide +kernel
theorem dX0_pass_53 : decode cX0_pass 53 = .ok (.iaload, 1) := by decide +kernel
theorem dX0_pass_54 : decode cX0_pass 54 = .ok (.iadd, 1) := by decide +kernel
theorem dX0_pass_55 : decode cX0_pass 55 = .ok (.bipush 15, 2) := by decide +kernel
theorem dX0_pass_57 : decode cX0_pass 57 = .ok (.if_icmp .gt 16, 3) := by decide +kernel
theorem dX0_pass_60 : decode cX0_pass 60 = .ok (.iload_n 3, 1) := by decide +kernel
theorem dX0_pass_61 : decode cX0_pass 61 = .ok (.aload_n 0, 1) := by decide +kernel
theorem dX0_pass_62 : decode cX0_pass 62 = .ok (.getfield 19, 3) := by decide +kernel
theorem dX0_pass_65 : decode cX0_pass 65 = .ok (.iload_n 1, 1) := by decide +kernel
theorem dX0_pass_66 : decode cX0_pass 66 = .ok (.iaload, 1) := by decide +kernel
theorem dX0_pass_67 : decode cX0_pass 67 = .ok (.iadd, 1) := by decide +kernel
theorem dX0_pass_68 : decode cX0_pass 68 = .ok (.bipush 15, 2) := by decide +kernel
theorem dX0_pass_70 : decode cX0_pass 70 = .ok (.if_icmp .le 6, 3) := by decide +kernel
theorem dX0_pass_73 : decode cX0_pass 73 = .ok (.bipush (-2), 2) := by decide +kernel
theorem dX0_pass_75 : decode cX0_pass 75 = .ok (.ireturn, 1) := by decide +kernel
theorem dX0_pass_76 : decode cX0_pass 76 = .ok (.aload_n 0, 1) := by decide +kernel
theorem dX0_pass_77 : decode cX0_pass 77 = .ok (.aload_n 0, 1) := by decide +kernel
theorem dX0_pass_78 : decode cX0_pass 78 = .ok (.getfield 22, 3) := by decide +kernel
theorem dX0_pass_81 : decode cX0_pass 81 = .ok (.iload 4, 2) := by decide +kernel
theorem dX0_pass_83 : decode cX0_pass 83 = .ok (.iaload, 1) := by decide +kernel
theorem dX0_pass_84 : decode cX0_pass 84 = .ok (.aload_n 0, 1) := by decide +kernel
theorem dX0_pass_85 : decode cX0_pass 85 = .ok (.getfield 25, 3) := by decide +kernel
theorem dX0_pass_88 : decode cX0_pass 88 = .ok (.iload 4, 2) := by decide +kernel
theorem dX0_pass_90 : decode cX0_pass 90 = .ok (.iaload, 1) := by decide +kernel
theorem dX0_pass_91 : decode cX0_pass 91 = .ok (.iconst (-1), 1) := by decide +kernel
theorem dX0_pass_92 : decode cX0_pass 92 = .ok (.invokevirtual 58, 3) := by decide +kernel
theorem dX0_pass_95 : decode cX0_pass 95 = .ok (.aload_n 0, 1) := by decide +kernel
theorem dX0_pass_96 : decode cX0_pass 96 = .ok (.getfield 22, 3) := by decide +kernel
theorem dX0_pass_99 : decode cX0_pass 99 = .ok (.iload 4, 2) := by decide +kernel
theorem dX0_pass_101 : decode cX0_pass 101 = .ok (.aload_n 0, 1) := by decide +kernel
theorem dX0_pass_102 : decode cX0_pass 102 = .ok (.getfield 13, 3) := by decide +kernel
theorem dX0_pass_105 : decode cX0_pass 105 = .ok (.iload_n 1, 1) := by decide +kernel
theorem dX0_pass_106 : decode cX0_pass 106 = .ok (.iaload, 1) := by decide +kernel
theorem dX0_pass_107 : decode cX0_pass 107 = .ok (.iastore, 1) := by decide +kernel
theorem dX0_pass_108 : decode cX0_pass 108 = .ok (.aload_n 0, 1) := by decide +kernel
theorem dX0_pass_109 : decode cX0_pass 109 = .ok (.getfield 25, 3) := by decide +kernel
theorem dX0_pass_112 : decode cX0_pass 112 = .ok (.iload 4, 2) := by decide +kernel
theorem dX0_pass_114 : decode cX0_pass 114 = .ok (.dup2, 1) := by decide +kernel
theorem dX0_pass_115 : decode cX0_pass 115 = .ok (.iaload, 1) := by decide +kernel
theorem dX0_pass_116 : decode cX0_pass 116 = .ok (.bipush 16, 2) := by decide +kernel
theorem dX0_pass_118 : decode cX0_pass 118 = .ok (.aload_n 0, 1) := by decide +kernel
theorem dX0_pass_119 : decode cX0_pass 119 = .ok (.getfield 16, 3) := by decide +kernel
theorem dX0_pass_122 : decode cX0_pass 122 = .ok (.iload_n 1, 1) := by decide +kernel
theorem dX0_pass_123 : decode cX0_pass 123 = .ok (.iaload, 1) := by decide +kernel
theorem dX0_pass_124 : decode cX0_pass 124 = .ok (.imul, 1) := by decide +kernel
theorem dX0_pass_125 : decode cX0_pass 125 = .ok (.aload_n 0, 1) := by decide +kernel
theorem dX0_pass_126 : decode cX0_pass 126 = .ok (.getfield 19, 3) := by decide +kernel
theorem dX0_pass_129 : decode cX0_pass 129 = .ok (.iload_n 1, 1) := by decide +kernel
theorem dX0_pass_130 : decode cX0_pass 130 = .ok (.iaload, 1) := by decide +kernel
theorem dX0_pass_131 : decode cX0_pass 131 = .ok (.iadd, 1) := by decide +kernel
theorem dX0_pass_132 : decode cX0_pass 132 = .ok (.iadd, 1) := by decide +kernel
theorem dX0_pass_133 : decode cX0_pass 133 = .ok (.iastore, 1) := by decide +kernel
theorem dX0_pass_134 : decode cX0_pass 134 = .ok (.aload_n 0, 1) := by decide +kernel
theorem dX0_pass_135 : decode cX0_pass 135 = .ok (.aload_n 0, 1) := by decide +kernel
theorem dX0_pass_136 : decode cX0_pass 136 = .ok (.getfield 22, 3) := by decide +kernel
theorem dX0_pass_139 : decode cX0_pass 139 = .ok (.iload 4, 2) := by decide +kernel
theorem dX0_pass_141 : decode cX0_pass 141 = .ok (.iaload, 1) := by decide +kernel
theorem dX0_pass_142 : decode cX0_pass 142 = .ok (.aload_n 0, 1) := by decide +kernel
theorem dX0_pass_143 : decode cX0_pass 143 = .ok (.getfield 25, 3) := by decide +kernel
theorem dX0_pass_146 : decode cX0_pass 146 = .ok (.iload 4, 2) := by decide +kernel
theorem dX0_pass_148 : decode cX0_pass 148 = .ok (.iaload, 1) := by decide +kernel
theorem dX0_pass_149 : decode cX0_pass 149 = .ok (.iconst 1, 1) := by decide +kernel
theorem dX0_pass_150 : decode cX0_pass 150 = .ok (.invokevirtual 58, 3) := by decide +kernel
theorem dX0_pass_153 : decode cX0_pass 153 = .ok (.iconst 0, 1) := by decide +kernel
theorem dX0_pass_154 : decode cX0_pass 154 = .ok (.ireturn, 1) := by decide +kernel
abbrev cX0_possible : ByteArray := prog_1_method_8_code
def yX0_possible : MethodName := ⟨RX0, "possible", "(III)I"⟩
theorem dX0_possible_0 : decode cX0_possible 0 = .ok (.iload_n 1, 1) := by decide +kernel
theorem dX0_possible_1 : decode cX0_possible 1 = .ok (.invokestatic 43, 3) := by decide +kernel
theorem dX0_possible_4 : decode cX0_possible 4 = .ok (.ifCond .eq 11, 3) := by decide +kernel
theorem dX0_possible_7 : decode cX0_possible 7 = .ok (.iload_n 2, 1) := by decide +kernel
theorem dX0_possible_8 : decode cX0_possible 8 = .ok (.iload_n 3, 1) := by decide +kernel
theorem dX0_possible_9 : decode cX0_possible 9 = .ok (.invokestatic 51, 3) := by decide +kernel
theorem dX0_possible_12 : decode cX0_possible 12 = .ok (.ifCond .ne 5, 3) := by decide +kernel
theorem dX0_possible_15 : decode cX0_possible 15 = .ok (.iconst (-1), 1) := by decide +kernel
theorem dX0_possible_16 : decode cX0_possible 16 = .ok (.ireturn, 1) := by decide +kernel
theorem dX0_possible_17 : decode cX0_possible 17 = .ok (.iconst 0, 1) := by decide +kernel
theorem dX0_possible_18 : decode cX0_possible 18 = .ok (.istore 4, 2) := by decide +kernel
theorem dX0_possible_20 : decode cX0_possible 20 = .ok (.iload 4, 2) := by decide +kernel
theorem dX0_possible_22 : decode cX0_possible 22 = .ok (.iload_n 2, 1) := by decide +kernel
theorem dX0_possible_23 : decode cX0_possible 23 = .ok (.if_icmp .gt 48, 3) := by decide +kernel
theorem dX0_possible_26 : decode cX0_possible 26 = .ok (.iconst 0, 1) := by decide +kernel
theorem dX0_possible_27 : decode cX0_possible 27 = .ok (.istore 5, 2) := by decide +kernel
theorem dX0_possible_29 : decode cX0_possible 29 = .ok (.iload 5, 2) := by decide +kernel
theorem dX0_possible_31 : decode cX0_possible 31 = .ok (.iload_n 3, 1) := by decide +kernel
theorem dX0_possible_32 : decode cX0_possible 32 = .ok (.if_icmp .gt 33, 3) := by decide +kernel
theorem dX0_possible_35 : decode cX0_possible 35 = .ok (.aload_n 0, 1) := by decide +kernel
theorem dX0_possible_36 : decode cX0_possible 36 = .ok (.getfield 37, 3) := by decide +kernel
theorem dX0_possible_39 : decode cX0_possible 39 = .ok (.sipush 256, 3) := by decide +kernel
theorem dX0_possible_42 : decode cX0_possible 42 = .ok (.iload_n 1, 1) := by decide +kernel
theorem dX0_possible_43 : decode cX0_possible 43 = .ok (.imul, 1) := by decide +kernel
theorem dX0_possible_44 : decode cX0_possible 44 = .ok (.bipush 16, 2) := by decide +kernel
theorem dX0_possible_46 : decode cX0_possible 46 = .ok (.iload 4, 2) := by decide +kernel
theorem dX0_possible_48 : decode cX0_possible 48 = .ok (.imul, 1) := by decide +kernel
theorem dX0_possible_49 : decode cX0_possible 49 = .ok (.iadd, 1) := by decide +kernel
theorem dX0_possible_50 : decode cX0_possible 50 = .ok (.iload 5, 2) := by decide +kernel
theorem dX0_possible_52 : decode cX0_possible 52 = .ok (.iadd, 1) := by decide +kernel
theorem dX0_possible_53 : decode cX0_possible 53 = .ok (.iaload, 1) := by decide +kernel
theorem dX0_possible_54 : decode cX0_possible 54 = .ok (.ifCond .le 5, 3) := by decide +kernel
theorem dX0_possible_57 : decode cX0_possible 57 = .ok (.iconst 1, 1) := by decide +kernel
theorem dX0_possible_58 : decode cX0_possible 58 = .ok (.ireturn, 1) := by decide +kernel
theorem dX0_possible_59 : decode cX0_possible 59 = .ok (.iinc 5 1, 3) := by decide +kernel
theorem dX0_possible_62 : decode cX0_possible 62 = .ok (.goto (-33), 3) := by decide +kernel
theorem dX0_possible_65 : decode cX0_possible 65 = .ok (.iinc 4 1, 3) := by decide +kernel
theorem dX0_possible_68 : decode cX0_possible 68 = .ok (.goto (-48), 3) := by decide +kernel
theorem dX0_possible_71 : decode cX0_possible 71 = .ok (.iconst 0, 1) := by decide +kernel
theorem dX0_possible_72 : decode cX0_possible 72 = .ok (.ireturn, 1) := by decide +kernel
abbrev cX0_ready : ByteArray := prog_1_method_9_code
def yX0_ready : MethodName := ⟨RX0, "ready", "(III)I"⟩
theorem dX0_ready_0 : decode cX0_ready 0 = .ok (.iload_n 1, 1) := by decide +kernel
theorem dX0_ready_1 : decode cX0_ready 1 = .ok (.invokestatic 43, 3) := by decide +kernel
theorem dX0_ready_4 : decode cX0_ready 4 = .ok (.ifCond .eq 11, 3) := by decide +kernel
theorem dX0_ready_7 : decode cX0_ready 7 = .ok (.iload_n 2, 1) := by decide +kernel
theorem dX0_ready_8 : decode cX0_ready 8 = .ok (.iload_n 3, 1) := by decide +kernel
theorem dX0_ready_9 : decode cX0_ready 9 = .ok (.invokestatic 51, 3) := by decide +kernel
theorem dX0_ready_12 : decode cX0_ready 12 = .ok (.ifCond .ne 5, 3) := by decide +kernel
theorem dX0_ready_15 : decode cX0_ready 15 = .ok (.iconst (-1), 1) := by decide +kernel
theorem dX0_ready_16 : decode cX0_ready 16 = .ok (.ireturn, 1) := by decide +kernel
theorem dX0_ready_17 : decode cX0_ready 17 = .ok (.iconst 0, 1) := by decide +kernel
theorem dX0_ready_18 : decode cX0_ready 18 = .ok (.istore 4, 2) := by decide +kernel
theorem dX0_ready_20 : decode cX0_ready 20 = .ok (.iconst 0, 1) := by decide +kernel
theorem dX0_ready_21 : decode cX0_ready 21 = .ok (.istore 5, 2) := by decide +kernel
theorem dX0_ready_23 : decode cX0_ready 23 = .ok (.iload 5, 2) := by decide +kernel
theorem dX0_ready_25 : decode cX0_ready 25 = .ok (.aload_n 0, 1) := by decide +kernel
theorem dX0_ready_26 : decode cX0_ready 26 = .ok (.getfield 55, 3) := by decide +kernel
theorem dX0_ready_29 : decode cX0_ready 29 = .ok (.if_icmp .ge 77, 3) := by decide +kernel
theorem dX0_ready_32 : decode cX0_ready 32 = .ok (.aload_n 0, 1) := by decide +kernel
theorem dX0_ready_33 : decode cX0_ready 33 = .ok (.getfield 22, 3) := by decide +kernel
theorem dX0_ready_36 : decode cX0_ready 36 = .ok (.iload 5, 2) := by decide +kernel
theorem dX0_ready_38 : decode cX0_ready 38 = .ok (.iaload, 1) := by decide +kernel
theorem dX0_ready_39 : decode cX0_ready 39 = .ok (.iload_n 1, 1) := by decide +kernel
theorem dX0_ready_40 : decode cX0_ready 40 = .ok (.if_icmp .ne 23, 3) := by decide +kernel
theorem dX0_ready_43 : decode cX0_ready 43 = .ok (.aload_n 0, 1) := by decide +kernel
theorem dX0_ready_44 : decode cX0_ready 44 = .ok (.getfield 25, 3) := by decide +kernel
theorem dX0_ready_47 : decode cX0_ready 47 = .ok (.iload 5, 2) := by decide +kernel
theorem dX0_ready_49 : decode cX0_ready 49 = .ok (.iaload, 1) := by decide +kernel
theorem dX0_ready_50 : decode cX0_ready 50 = .ok (.bipush 16, 2) := by decide +kernel
theorem dX0_ready_52 : decode cX0_ready 52 = .ok (.iload_n 2, 1) := by decide +kernel
theorem dX0_ready_53 : decode cX0_ready 53 = .ok (.imul, 1) := by decide +kernel
theorem dX0_ready_54 : decode cX0_ready 54 = .ok (.iload_n 3, 1) := by decide +kernel
theorem dX0_ready_55 : decode cX0_ready 55 = .ok (.iadd, 1) := by decide +kernel
theorem dX0_ready_56 : decode cX0_ready 56 = .ok (.if_icmp .ne 7, 3) := by decide +kernel
theorem dX0_ready_59 : decode cX0_ready 59 = .ok (.iconst 1, 1) := by decide +kernel
theorem dX0_ready_60 : decode cX0_ready 60 = .ok (.goto 4, 3) := by decide +kernel
theorem dX0_ready_63 : decode cX0_ready 63 = .ok (.iconst 0, 1) := by decide +kernel
theorem dX0_ready_64 : decode cX0_ready 64 = .ok (.istore 6, 2) := by decide +kernel
theorem dX0_ready_66 : decode cX0_ready 66 = .ok (.iload 4, 2) := by decide +kernel
theorem dX0_ready_68 : decode cX0_ready 68 = .ok (.iload 6, 2) := by decide +kernel
theorem dX0_ready_70 : decode cX0_ready 70 = .ok (.ifCond .eq 7, 3) := by decide +kernel
theorem dX0_ready_73 : decode cX0_ready 73 = .ok (.iconst 1, 1) := by decide +kernel
theorem dX0_ready_74 : decode cX0_ready 74 = .ok (.goto 4, 3) := by decide +kernel
theorem dX0_ready_77 : decode cX0_ready 77 = .ok (.iconst 0, 1) := by decide +kernel
theorem dX0_ready_78 : decode cX0_ready 78 = .ok (.iadd, 1) := by decide +kernel
theorem dX0_ready_79 : decode cX0_ready 79 = .ok (.istore 4, 2) := by decide +kernel
theorem dX0_ready_81 : decode cX0_ready 81 = .ok (.iload 6, 2) := by decide +kernel
theorem dX0_ready_83 : decode cX0_ready 83 = .ok (.ifCond .ne 17, 3) := by decide +kernel
theorem dX0_ready_86 : decode cX0_ready 86 = .ok (.aload_n 0, 1) := by decide +kernel
theorem dX0_ready_87 : decode cX0_ready 87 = .ok (.iload 5, 2) := by decide +kernel
theorem dX0_ready_89 : decode cX0_ready 89 = .ok (.iload_n 1, 1) := by decide +kernel
theorem dX0_ready_90 : decode cX0_ready 90 = .ok (.iload_n 2, 1) := by decide +kernel
theorem dX0_ready_91 : decode cX0_ready 91 = .ok (.iload_n 3, 1) := by decide +kernel
theorem dX0_ready_92 : decode cX0_ready 92 = .ok (.invokevirtual 66, 3) := by decide +kernel
theorem dX0_ready_95 : decode cX0_ready 95 = .ok (.ifCond .eq 5, 3) := by decide +kernel
theorem dX0_ready_98 : decode cX0_ready 98 = .ok (.iconst 0, 1) := by decide +kernel
theorem dX0_ready_99 : decode cX0_ready 99 = .ok (.ireturn, 1) := by decide +kernel
theorem dX0_ready_100 : decode cX0_ready 100 = .ok (.iinc 5 1, 3) := by decide +kernel
theorem dX0_ready_103 : decode cX0_ready 103 = .ok (.goto (-80), 3) := by decide +kernel
theorem dX0_ready_106 : decode cX0_ready 106 = .ok (.iload 4, 2) := by decide +kernel
theorem dX0_ready_108 : decode cX0_ready 108 = .ok (.ifCond .le 7, 3) := by decide +kernel
theorem dX0_ready_111 : decode cX0_ready 111 = .ok (.iconst 1, 1) := by decide +kernel
theorem dX0_ready_112 : decode cX0_ready 112 = .ok (.goto 4, 3) := by decide +kernel
theorem dX0_ready_115 : decode cX0_ready 115 = .ok (.iconst 0, 1) := by decide +kernel
theorem dX0_ready_116 : decode cX0_ready 116 = .ok (.ireturn, 1) := by decide +kernel
abbrev cX0_reaches : ByteArray := prog_1_method_10_code
def yX0_reaches : MethodName := ⟨RX0, "reaches", "(IIII)Z"⟩
theorem dX0_reaches_0 : decode cX0_reaches 0 = .ok (.bipush 7, 2) := by decide +kernel
theorem dX0_reaches_2 : decode cX0_reaches 2 = .ok (.aload_n 0, 1) := by decide +kernel
theorem dX0_reaches_3 : decode cX0_reaches 3 = .ok (.getfield 22, 3) := by decide +kernel
theorem dX0_reaches_6 : decode cX0_reaches 6 = .ok (.iload_n 1, 1) := by decide +kernel
theorem dX0_reaches_7 : decode cX0_reaches 7 = .ok (.iaload, 1) := by decide +kernel
theorem dX0_reaches_8 : decode cX0_reaches 8 = .ok (.imul, 1) := by decide +kernel
theorem dX0_reaches_9 : decode cX0_reaches 9 = .ok (.iload_n 2, 1) := by decide +kernel
theorem dX0_reaches_10 : decode cX0_reaches 10 = .ok (.iadd, 1) := by decide +kernel
theorem dX0_reaches_11 : decode cX0_reaches 11 = .ok (.istore 5, 2) := by decide +kernel
theorem dX0_reaches_13 : decode cX0_reaches 13 = .ok (.iload_n 3, 1) := by decide +kernel
theorem dX0_reaches_14 : decode cX0_reaches 14 = .ok (.aload_n 0, 1) := by decide +kernel
theorem dX0_reaches_15 : decode cX0_reaches 15 = .ok (.getfield 25, 3) := by decide +kernel
theorem dX0_reaches_18 : decode cX0_reaches 18 = .ok (.iload_n 1, 1) := by decide +kernel
theorem dX0_reaches_19 : decode cX0_reaches 19 = .ok (.iaload, 1) := by decide +kernel
theorem dX0_reaches_20 : decode cX0_reaches 20 = .ok (.iconst 4, 1) := by decide +kernel
theorem dX0_reaches_21 : decode cX0_reaches 21 = .ok (.ishr, 1) := by decide +kernel
theorem dX0_reaches_22 : decode cX0_reaches 22 = .ok (.isub, 1) := by decide +kernel
theorem dX0_reaches_23 : decode cX0_reaches 23 = .ok (.istore 6, 2) := by decide +kernel
theorem dX0_reaches_25 : decode cX0_reaches 25 = .ok (.iload 4, 2) := by decide +kernel
theorem dX0_reaches_27 : decode cX0_reaches 27 = .ok (.aload_n 0, 1) := by decide +kernel
theorem dX0_reaches_28 : decode cX0_reaches 28 = .ok (.getfield 25, 3) := by decide +kernel
theorem dX0_reaches_31 : decode cX0_reaches 31 = .ok (.iload_n 1, 1) := by decide +kernel
theorem dX0_reaches_32 : decode cX0_reaches 32 = .ok (.iaload, 1) := by decide +kernel
theorem dX0_reaches_33 : decode cX0_reaches 33 = .ok (.bipush 15, 2) := by decide +kernel
theorem dX0_reaches_35 : decode cX0_reaches 35 = .ok (.iand, 1) := by decide +kernel
theorem dX0_reaches_36 : decode cX0_reaches 36 = .ok (.isub, 1) := by decide +kernel
theorem dX0_reaches_37 : decode cX0_reaches 37 = .ok (.istore 7, 2) := by decide +kernel
theorem dX0_reaches_39 : decode cX0_reaches 39 = .ok (.bipush 19, 2) := by decide +kernel
theorem dX0_reaches_41 : decode cX0_reaches 41 = .ok (.iload 5, 2) := by decide +kernel
theorem dX0_reaches_43 : decode cX0_reaches 43 = .ok (.imul, 1) := by decide +kernel
theorem dX0_reaches_44 : decode cX0_reaches 44 = .ok (.istore 8, 2) := by decide +kernel
theorem dX0_reaches_46 : decode cX0_reaches 46 = .ok (.iload 8, 2) := by decide +kernel
theorem dX0_reaches_48 : decode cX0_reaches 48 = .ok (.bipush 19, 2) := by decide +kernel
theorem dX0_reaches_50 : decode cX0_reaches 50 = .ok (.iload 5, 2) := by decide +kernel
theorem dX0_reaches_52 : decode cX0_reaches 52 = .ok (.imul, 1) := by decide +kernel
theorem dX0_reaches_53 : decode cX0_reaches 53 = .ok (.aload_n 0, 1) := by decide +kernel
theorem dX0_reaches_54 : decode cX0_reaches 54 = .ok (.getfield 28, 3) := by decide +kernel
theorem dX0_reaches_57 : decode cX0_reaches 57 = .ok (.iload 5, 2) := by decide +kernel
theorem dX0_reaches_59 : decode cX0_reaches 59 = .ok (.iaload, 1) := by decide +kernel
theorem dX0_reaches_60 : decode cX0_reaches 60 = .ok (.iadd, 1) := by decide +kernel
theorem dX0_reaches_61 : decode cX0_reaches 61 = .ok (.if_icmp .ge 41, 3) := by decide +kernel
theorem dX0_reaches_64 : decode cX0_reaches 64 = .ok (.aload_n 0, 1) := by decide +kernel
theorem dX0_reaches_65 : decode cX0_reaches 65 = .ok (.getfield 31, 3) := by decide +kernel
theorem dX0_reaches_68 : decode cX0_reaches 68 = .ok (.iload 8, 2) := by decide +kernel
theorem dX0_reaches_70 : decode cX0_reaches 70 = .ok (.iaload, 1) := by decide +kernel
theorem dX0_reaches_71 : decode cX0_reaches 71 = .ok (.bipush 6, 2) := by decide +kernel
theorem dX0_reaches_73 : decode cX0_reaches 73 = .ok (.ishr, 1) := by decide +kernel
theorem dX0_reaches_74 : decode cX0_reaches 74 = .ok (.iload 6, 2) := by decide +kernel
theorem dX0_reaches_76 : decode cX0_reaches 76 = .ok (.if_icmp .gt 20, 3) := by decide +kernel
theorem dX0_reaches_79 : decode cX0_reaches 79 = .ok (.aload_n 0, 1) := by decide +kernel
theorem dX0_reaches_80 : decode cX0_reaches 80 = .ok (.getfield 31, 3) := by decide +kernel
theorem dX0_reaches_83 : decode cX0_reaches 83 = .ok (.iload 8, 2) := by decide +kernel
theorem dX0_reaches_85 : decode cX0_reaches 85 = .ok (.iaload, 1) := by decide +kernel
theorem dX0_reaches_86 : decode cX0_reaches 86 = .ok (.bipush 63, 2) := by decide +kernel
theorem dX0_reaches_88 : decode cX0_reaches 88 = .ok (.iand, 1) := by decide +kernel
theorem dX0_reaches_89 : decode cX0_reaches 89 = .ok (.iload 7, 2) := by decide +kernel
theorem dX0_reaches_91 : decode cX0_reaches 91 = .ok (.if_icmp .gt 5, 3) := by decide +kernel
theorem dX0_reaches_94 : decode cX0_reaches 94 = .ok (.iconst 1, 1) := by decide +kernel
theorem dX0_reaches_95 : decode cX0_reaches 95 = .ok (.ireturn, 1) := by decide +kernel
theorem dX0_reaches_96 : decode cX0_reaches 96 = .ok (.iinc 8 1, 3) := by decide +kernel
theorem dX0_reaches_99 : decode cX0_reaches 99 = .ok (.goto (-53), 3) := by decide +kernel
theorem dX0_reaches_102 : decode cX0_reaches 102 = .ok (.iconst 0, 1) := by decide +kernel
theorem dX0_reaches_103 : decode cX0_reaches 103 = .ok (.ireturn, 1) := by decide +kernel
abbrev cX0_front : ByteArray := prog_1_method_11_code
def yX0_front : MethodName := ⟨RX0, "front", "(I)I"⟩
theorem dX0_front_0 : decode cX0_front 0 = .ok (.iload_n 1, 1) := by decide +kernel
theorem dX0_front_1 : decode cX0_front 1 = .ok (.invokestatic 43, 3) := by decide +kernel
theorem dX0_front_4 : decode cX0_front 4 = .ok (.ifCond .ne 5, 3) := by decide +kernel
theorem dX0_front_7 : decode cX0_front 7 = .ok (.iconst (-1), 1) := by decide +kernel
theorem dX0_front_8 : decode cX0_front 8 = .ok (.ireturn, 1) := by decide +kernel
theorem dX0_front_9 : decode cX0_front 9 = .ok (.iconst 0, 1) := by decide +kernel
theorem dX0_front_10 : decode cX0_front 10 = .ok (.istore_n 2, 1) := by decide +kernel
theorem dX0_front_11 : decode cX0_front 11 = .ok (.bipush 16, 2) := by decide +kernel
theorem dX0_front_13 : decode cX0_front 13 = .ok (.istore_n 3, 1) := by decide +kernel
theorem dX0_front_14 : decode cX0_front 14 = .ok (.iconst 0, 1) := by decide +kernel
theorem dX0_front_15 : decode cX0_front 15 = .ok (.istore 4, 2) := by decide +kernel
theorem dX0_front_17 : decode cX0_front 17 = .ok (.iload 4, 2) := by decide +kernel
theorem dX0_front_19 : decode cX0_front 19 = .ok (.bipush 16, 2) := by decide +kernel
theorem dX0_front_21 : decode cX0_front 21 = .ok (.if_icmp .ge 36, 3) := by decide +kernel
theorem dX0_front_24 : decode cX0_front 24 = .ok (.aload_n 0, 1) := by decide +kernel
theorem dX0_front_25 : decode cX0_front 25 = .ok (.iload_n 1, 1) := by decide +kernel
theorem dX0_front_26 : decode cX0_front 26 = .ok (.iload 4, 2) := by decide +kernel
theorem dX0_front_28 : decode cX0_front 28 = .ok (.iload_n 3, 1) := by decide +kernel
theorem dX0_front_29 : decode cX0_front 29 = .ok (.invokevirtual 70, 3) := by decide +kernel
theorem dX0_front_32 : decode cX0_front 32 = .ok (.istore 5, 2) := by decide +kernel
theorem dX0_front_34 : decode cX0_front 34 = .ok (.iload_n 2, 1) := by decide +kernel
theorem dX0_front_35 : decode cX0_front 35 = .ok (.iload 5, 2) := by decide +kernel
theorem dX0_front_37 : decode cX0_front 37 = .ok (.iload_n 3, 1) := by decide +kernel
theorem dX0_front_38 : decode cX0_front 38 = .ok (.if_icmp .ge 7, 3) := by decide +kernel
theorem dX0_front_41 : decode cX0_front 41 = .ok (.iconst 1, 1) := by decide +kernel
theorem dX0_front_42 : decode cX0_front 42 = .ok (.goto 4, 3) := by decide +kernel
theorem dX0_front_45 : decode cX0_front 45 = .ok (.iconst 0, 1) := by decide +kernel
theorem dX0_front_46 : decode cX0_front 46 = .ok (.iadd, 1) := by decide +kernel
theorem dX0_front_47 : decode cX0_front 47 = .ok (.istore_n 2, 1) := by decide +kernel
theorem dX0_front_48 : decode cX0_front 48 = .ok (.iload 5, 2) := by decide +kernel
theorem dX0_front_50 : decode cX0_front 50 = .ok (.istore_n 3, 1) := by decide +kernel
theorem dX0_front_51 : decode cX0_front 51 = .ok (.iinc 4 1, 3) := by decide +kernel
theorem dX0_front_54 : decode cX0_front 54 = .ok (.goto (-37), 3) := by decide +kernel
theorem dX0_front_57 : decode cX0_front 57 = .ok (.iload_n 2, 1) := by decide +kernel
theorem dX0_front_58 : decode cX0_front 58 = .ok (.ireturn, 1) := by decide +kernel
abbrev cX0_firstMark : ByteArray := prog_1_method_14_code
def yX0_firstMark : MethodName := ⟨RX0, "firstMark", "(III)I"⟩
theorem dX0_firstMark_0 : decode cX0_firstMark 0 = .ok (.iconst 0, 1) := by decide +kernel
theorem dX0_firstMark_1 : decode cX0_firstMark 1 = .ok (.istore 4, 2) := by decide +kernel
theorem dX0_firstMark_3 : decode cX0_firstMark 3 = .ok (.iload 4, 2) := by decide +kernel
theorem dX0_firstMark_5 : decode cX0_firstMark 5 = .ok (.iload_n 3, 1) := by decide +kernel
theorem dX0_firstMark_6 : decode cX0_firstMark 6 = .ok (.if_icmp .ge 33, 3) := by decide +kernel
theorem dX0_firstMark_9 : decode cX0_firstMark 9 = .ok (.aload_n 0, 1) := by decide +kernel
theorem dX0_firstMark_10 : decode cX0_firstMark 10 = .ok (.getfield 37, 3) := by decide +kernel
theorem dX0_firstMark_13 : decode cX0_firstMark 13 = .ok (.sipush 256, 3) := by decide +kernel
theorem dX0_firstMark_16 : decode cX0_firstMark 16 = .ok (.iload_n 1, 1) := by decide +kernel
theorem dX0_firstMark_17 : decode cX0_firstMark 17 = .ok (.imul, 1) := by decide +kernel
theorem dX0_firstMark_18 : decode cX0_firstMark 18 = .ok (.bipush 16, 2) := by decide +kernel
theorem dX0_firstMark_20 : decode cX0_firstMark 20 = .ok (.iload_n 2, 1) := by decide +kernel
theorem dX0_firstMark_21 : decode cX0_firstMark 21 = .ok (.imul, 1) := by decide +kernel
theorem dX0_firstMark_22 : decode cX0_firstMark 22 = .ok (.iadd, 1) := by decide +kernel
theorem dX0_firstMark_23 : decode cX0_firstMark 23 = .ok (.iload 4, 2) := by decide +kernel
theorem dX0_firstMark_25 : decode cX0_firstMark 25 = .ok (.iadd, 1) := by decide +kernel
theorem dX0_firstMark_26 : decode cX0_firstMark 26 = .ok (.iaload, 1) := by decide +kernel
theorem dX0_firstMark_27 : decode cX0_firstMark 27 = .ok (.ifCond .le 6, 3) := by decide +kernel
theorem dX0_firstMark_30 : decode cX0_firstMark 30 = .ok (.iload 4, 2) := by decide +kernel
theorem dX0_firstMark_32 : decode cX0_firstMark 32 = .ok (.ireturn, 1) := by decide +kernel
theorem dX0_firstMark_33 : decode cX0_firstMark 33 = .ok (.iinc 4 1, 3) := by decide +kernel
theorem dX0_firstMark_36 : decode cX0_firstMark 36 = .ok (.goto (-33), 3) := by decide +kernel
theorem dX0_firstMark_39 : decode cX0_firstMark 39 = .ok (.iload_n 3, 1) := by decide +kernel
theorem dX0_firstMark_40 : decode cX0_firstMark 40 = .ok (.ireturn, 1) := by decide +kernel
abbrev cX0_frontAt : ByteArray := prog_1_method_12_code
def yX0_frontAt : MethodName := ⟨RX0, "frontAt", "(II)I"⟩
theorem dX0_frontAt_0 : decode cX0_frontAt 0 = .ok (.iload_n 1, 1) := by decide +kernel
theorem dX0_frontAt_1 : decode cX0_frontAt 1 = .ok (.invokestatic 43, 3) := by decide +kernel
theorem dX0_frontAt_4 : decode cX0_frontAt 4 = .ok (.ifCond .eq 7, 3) := by decide +kernel
theorem dX0_frontAt_7 : decode cX0_frontAt 7 = .ok (.iload_n 2, 1) := by decide +kernel
theorem dX0_frontAt_8 : decode cX0_frontAt 8 = .ok (.ifCond .ge 5, 3) := by decide +kernel
theorem dX0_frontAt_11 : decode cX0_frontAt 11 = .ok (.iconst (-1), 1) := by decide +kernel
theorem dX0_frontAt_12 : decode cX0_frontAt 12 = .ok (.ireturn, 1) := by decide +kernel
theorem dX0_frontAt_13 : decode cX0_frontAt 13 = .ok (.iload_n 2, 1) := by decide +kernel
theorem dX0_frontAt_14 : decode cX0_frontAt 14 = .ok (.istore_n 3, 1) := by decide +kernel
theorem dX0_frontAt_15 : decode cX0_frontAt 15 = .ok (.bipush 16, 2) := by decide +kernel
theorem dX0_frontAt_17 : decode cX0_frontAt 17 = .ok (.istore 4, 2) := by decide +kernel
theorem dX0_frontAt_19 : decode cX0_frontAt 19 = .ok (.iconst 0, 1) := by decide +kernel
theorem dX0_frontAt_20 : decode cX0_frontAt 20 = .ok (.istore 5, 2) := by decide +kernel
theorem dX0_frontAt_22 : decode cX0_frontAt 22 = .ok (.iload 5, 2) := by decide +kernel
theorem dX0_frontAt_24 : decode cX0_frontAt 24 = .ok (.bipush 16, 2) := by decide +kernel
theorem dX0_frontAt_26 : decode cX0_frontAt 26 = .ok (.if_icmp .ge 47, 3) := by decide +kernel
theorem dX0_frontAt_29 : decode cX0_frontAt 29 = .ok (.aload_n 0, 1) := by decide +kernel
theorem dX0_frontAt_30 : decode cX0_frontAt 30 = .ok (.iload_n 1, 1) := by decide +kernel
theorem dX0_frontAt_31 : decode cX0_frontAt 31 = .ok (.iload 5, 2) := by decide +kernel
theorem dX0_frontAt_33 : decode cX0_frontAt 33 = .ok (.iload 4, 2) := by decide +kernel
theorem dX0_frontAt_35 : decode cX0_frontAt 35 = .ok (.invokevirtual 70, 3) := by decide +kernel
theorem dX0_frontAt_38 : decode cX0_frontAt 38 = .ok (.istore 6, 2) := by decide +kernel
theorem dX0_frontAt_40 : decode cX0_frontAt 40 = .ok (.iload 6, 2) := by decide +kernel
theorem dX0_frontAt_42 : decode cX0_frontAt 42 = .ok (.iload 4, 2) := by decide +kernel
theorem dX0_frontAt_44 : decode cX0_frontAt 44 = .ok (.if_icmp .ge 19, 3) := by decide +kernel
theorem dX0_frontAt_47 : decode cX0_frontAt 47 = .ok (.iload_n 3, 1) := by decide +kernel
theorem dX0_frontAt_48 : decode cX0_frontAt 48 = .ok (.ifCond .ne 12, 3) := by decide +kernel
theorem dX0_frontAt_51 : decode cX0_frontAt 51 = .ok (.bipush 16, 2) := by decide +kernel
theorem dX0_frontAt_53 : decode cX0_frontAt 53 = .ok (.iload 5, 2) := by decide +kernel
theorem dX0_frontAt_55 : decode cX0_frontAt 55 = .ok (.imul, 1) := by decide +kernel
theorem dX0_frontAt_56 : decode cX0_frontAt 56 = .ok (.iload 6, 2) := by decide +kernel
theorem dX0_frontAt_58 : decode cX0_frontAt 58 = .ok (.iadd, 1) := by decide +kernel
theorem dX0_frontAt_59 : decode cX0_frontAt 59 = .ok (.ireturn, 1) := by decide +kernel
theorem dX0_frontAt_60 : decode cX0_frontAt 60 = .ok (.iinc 3 (-1), 3) := by decide +kernel
theorem dX0_frontAt_63 : decode cX0_frontAt 63 = .ok (.iload 6, 2) := by decide +kernel
theorem dX0_frontAt_65 : decode cX0_frontAt 65 = .ok (.istore 4, 2) := by decide +kernel
theorem dX0_frontAt_67 : decode cX0_frontAt 67 = .ok (.iinc 5 1, 3) := by decide +kernel
theorem dX0_frontAt_70 : decode cX0_frontAt 70 = .ok (.goto (-48), 3) := by decide +kernel
theorem dX0_frontAt_73 : decode cX0_frontAt 73 = .ok (.iconst (-1), 1) := by decide +kernel
theorem dX0_frontAt_74 : decode cX0_frontAt 74 = .ok (.ireturn, 1) := by decide +kernel
abbrev cX0_shortest : ByteArray := prog_1_method_13_code
def yX0_shortest : MethodName := ⟨RX0, "shortest", "(II)I"⟩
theorem dX0_shortest_0 : decode cX0_shortest 0 = .ok (.iload_n 1, 1) := by decide +kernel
theorem dX0_shortest_1 : decode cX0_shortest 1 = .ok (.invokestatic 43, 3) := by decide +kernel
theorem dX0_shortest_4 : decode cX0_shortest 4 = .ok (.ifCond .eq 24, 3) := by decide +kernel
theorem dX0_shortest_7 : decode cX0_shortest 7 = .ok (.iload_n 2, 1) := by decide +kernel
theorem dX0_shortest_8 : decode cX0_shortest 8 = .ok (.invokestatic 43, 3) := by decide +kernel
theorem dX0_shortest_11 : decode cX0_shortest 11 = .ok (.ifCond .eq 17, 3) := by decide +kernel
theorem dX0_shortest_14 : decode cX0_shortest 14 = .ok (.aload_n 0, 1) := by decide +kernel
theorem dX0_shortest_15 : decode cX0_shortest 15 = .ok (.getfield 28, 3) := by decide +kernel
theorem dX0_shortest_18 : decode cX0_shortest 18 = .ok (.bipush 7, 2) := by decide +kernel
theorem dX0_shortest_20 : decode cX0_shortest 20 = .ok (.iload_n 1, 1) := by decide +kernel
theorem dX0_shortest_21 : decode cX0_shortest 21 = .ok (.imul, 1) := by decide +kernel
theorem dX0_shortest_22 : decode cX0_shortest 22 = .ok (.iload_n 2, 1) := by decide +kernel
theorem dX0_shortest_23 : decode cX0_shortest 23 = .ok (.iadd, 1) := by decide +kernel
theorem dX0_shortest_24 : decode cX0_shortest 24 = .ok (.iaload, 1) := by decide +kernel
theorem dX0_shortest_25 : decode cX0_shortest 25 = .ok (.goto 4, 3) := by decide +kernel
theorem dX0_shortest_28 : decode cX0_shortest 28 = .ok (.iconst (-1), 1) := by decide +kernel
theorem dX0_shortest_29 : decode cX0_shortest 29 = .ok (.ireturn, 1) := by decide +kernel
theorem q15 : (Jvm.Cond.initialized "FrontierWatch") ∈ lw_all := lw_g (lw_at lw_m0 1 rfl) rfl
theorem q18 : (Jvm.Cond.instantiable "FrontierWatch" (13 : Nat)) ∈ lw_all := lw_g (lw_at lw_m0 4 rfl) rfl
theorem q20 : (Jvm.Cond.instanceMethod ({ cls := "FrontierWatch", name := "<init>", desc := "()V" } : Jvm.MethodName)) ∈ lw_all := lw_g (lw_at lw_m0 6 rfl) rfl
theorem q21 : (Jvm.Cond.code ({ cls := "FrontierWatch", name := "<init>", desc := "()V" } : Jvm.MethodName) prog_1_method_1_code (1 : Nat) (Option.none : Option Jvm.ClassFile.FieldType)) ∈ lw_all := lw_g (lw_at lw_m0 7 rfl) rfl
theorem q22 : (Jvm.Cond.methodLink "FrontierWatch" (1 : Nat) ({ cls := "java/lang/Object", name := "<init>", desc := "()V" } : Jvm.MethodName)) ∈ lw_all := lw_g (lw_at lw_m0 8 rfl) rfl
theorem q25 : (Jvm.Cond.methodLink "FrontierWatch" (40 : Nat) ({ cls := "FrontierWatch", name := "rebuild", desc := "()V" } : Jvm.MethodName)) ∈ lw_all := lw_g (lw_at lw_m0 11 rfl) rfl
theorem q26 : (Jvm.Cond.privateMethod ({ cls := "FrontierWatch", name := "rebuild", desc := "()V" } : Jvm.MethodName)) ∈ lw_tbl := lw_at lw_m0 12 rfl
theorem q27 : (Jvm.Cond.instanceMethod ({ cls := "FrontierWatch", name := "rebuild", desc := "()V" } : Jvm.MethodName)) ∈ lw_all := lw_g (lw_at lw_m0 13 rfl) rfl
theorem q28 : (Jvm.Cond.code ({ cls := "FrontierWatch", name := "rebuild", desc := "()V" } : Jvm.MethodName) prog_1_method_18_code (3 : Nat) (Option.none : Option Jvm.ClassFile.FieldType)) ∈ lw_all := lw_g (lw_at lw_m0 14 rfl) rfl
theorem q29 : (Jvm.Cond.methodLink "FrontierWatch" (74 : Nat) ({ cls := "FrontierWatch", name := "addSum", desc := "(II)V" } : Jvm.MethodName)) ∈ lw_all := lw_g (lw_at lw_m0 15 rfl) rfl
theorem q30 : (Jvm.Cond.privateMethod ({ cls := "FrontierWatch", name := "addSum", desc := "(II)V" } : Jvm.MethodName)) ∈ lw_tbl := lw_at lw_m0 16 rfl
theorem q31 : (Jvm.Cond.instanceMethod ({ cls := "FrontierWatch", name := "addSum", desc := "(II)V" } : Jvm.MethodName)) ∈ lw_all := lw_g (lw_at lw_m0 17 rfl) rfl
theorem q32 : (Jvm.Cond.code ({ cls := "FrontierWatch", name := "addSum", desc := "(II)V" } : Jvm.MethodName) prog_1_method_20_code (8 : Nat) (Option.none : Option Jvm.ClassFile.FieldType)) ∈ lw_all := lw_g (lw_at lw_m0 18 rfl) rfl
theorem q33 : (Jvm.Cond.methodLink "FrontierWatch" (78 : Nat) ({ cls := "FrontierWatch", name := "joinOver", desc := "(II)V" } : Jvm.MethodName)) ∈ lw_all := lw_g (lw_at lw_m0 19 rfl) rfl
theorem q34 : (Jvm.Cond.privateMethod ({ cls := "FrontierWatch", name := "joinOver", desc := "(II)V" } : Jvm.MethodName)) ∈ lw_tbl := lw_at lw_m0 20 rfl
theorem q35 : (Jvm.Cond.instanceMethod ({ cls := "FrontierWatch", name := "joinOver", desc := "(II)V" } : Jvm.MethodName)) ∈ lw_all := lw_g (lw_at lw_m0 21 rfl) rfl
theorem q36 : (Jvm.Cond.code ({ cls := "FrontierWatch", name := "joinOver", desc := "(II)V" } : Jvm.MethodName) prog_1_method_19_code (7 : Nat) (Option.none : Option Jvm.ClassFile.FieldType)) ∈ lw_all := lw_g (lw_at lw_m0 22 rfl) rfl
theorem q37 : (Jvm.Cond.methodLink "FrontierWatch" (58 : Nat) ({ cls := "FrontierWatch", name := "count", desc := "(III)V" } : Jvm.MethodName)) ∈ lw_all := lw_g (lw_at lw_m0 23 rfl) rfl
theorem q38 : (Jvm.Cond.privateMethod ({ cls := "FrontierWatch", name := "count", desc := "(III)V" } : Jvm.MethodName)) ∈ lw_tbl := lw_at lw_m0 24 rfl
theorem q39 : (Jvm.Cond.instanceMethod ({ cls := "FrontierWatch", name := "count", desc := "(III)V" } : Jvm.MethodName)) ∈ lw_all := lw_g (lw_at lw_m0 25 rfl) rfl
theorem q40 : (Jvm.Cond.code ({ cls := "FrontierWatch", name := "count", desc := "(III)V" } : Jvm.MethodName) prog_1_method_17_code (9 : Nat) (Option.none : Option Jvm.ClassFile.FieldType)) ∈ lw_all := lw_g (lw_at lw_m0 26 rfl) rfl
theorem q41 : (Jvm.Cond.fieldLink "FrontierWatch" (47 : Nat) "FrontierWatch" "lines" "I") ∈ lw_all := lw_g (lw_at lw_m0 27 rfl) rfl
theorem q42 : (Jvm.Cond.fieldLink "FrontierWatch" (7 : Nat) "FrontierWatch" "fromOf" "[I") ∈ lw_all := lw_g (lw_at lw_m0 28 rfl) rfl
theorem q43 : (Jvm.Cond.fieldLink "FrontierWatch" (13 : Nat) "FrontierWatch" "toOf" "[I") ∈ lw_all := lw_g (lw_at lw_m0 29 rfl) rfl
theorem q44 : (Jvm.Cond.fieldLink "FrontierWatch" (16 : Nat) "FrontierWatch" "addA" "[I") ∈ lw_all := lw_g (lw_at lw_m0 30 rfl) rfl
theorem q45 : (Jvm.Cond.fieldLink "FrontierWatch" (19 : Nat) "FrontierWatch" "addB" "[I") ∈ lw_all := lw_g (lw_at lw_m0 31 rfl) rfl
theorem q46 : (Jvm.Cond.fieldLink "FrontierWatch" (55 : Nat) "FrontierWatch" "tokens" "I") ∈ lw_all := lw_g (lw_at lw_m0 32 rfl) rfl
theorem q47 : (Jvm.Cond.fieldLink "FrontierWatch" (22 : Nat) "FrontierWatch" "placeOf" "[I") ∈ lw_all := lw_g (lw_at lw_m0 33 rfl) rfl
theorem q48 : (Jvm.Cond.fieldLink "FrontierWatch" (25 : Nat) "FrontierWatch" "timeOf" "[I") ∈ lw_all := lw_g (lw_at lw_m0 34 rfl) rfl
theorem q49 : (Jvm.Cond.fieldLink "FrontierWatch" (28 : Nat) "FrontierWatch" "sumCount" "[I") ∈ lw_all := lw_g (lw_at lw_m0 35 rfl) rfl
theorem q50 : (Jvm.Cond.fieldLink "FrontierWatch" (31 : Nat) "FrontierWatch" "sums" "[I") ∈ lw_all := lw_g (lw_at lw_m0 36 rfl) rfl
theorem q51 : (Jvm.Cond.fieldLink "FrontierWatch" (81 : Nat) "FrontierWatch" "gathered" "I") ∈ lw_all := lw_g (lw_at lw_m0 37 rfl) rfl
theorem q52 : (Jvm.Cond.fieldLink "FrontierWatch" (34 : Nat) "FrontierWatch" "gather" "[I") ∈ lw_all := lw_g (lw_at lw_m0 38 rfl) rfl
theorem q53 : (Jvm.Cond.fieldLink "FrontierWatch" (37 : Nat) "FrontierWatch" "marks" "[I") ∈ lw_all := lw_g (lw_at lw_m0 39 rfl) rfl
theorem q54 : (Jvm.Cond.lays "FrontierWatch" "FrontierWatch" "lines" "I") ∈ lw_all := lw_g (lw_at lw_m0 40 rfl) rfl
theorem q55 : (Jvm.Cond.soleField "FrontierWatch" "lines") ∈ lw_all := lw_g (lw_at lw_m0 41 rfl) rfl
theorem q56 : (Jvm.Cond.laysFinal "FrontierWatch" "FrontierWatch" "fromOf" "[I") ∈ lw_all := lw_g (lw_at lw_m0 42 rfl) rfl
theorem q57 : (Jvm.Cond.soleField "FrontierWatch" "fromOf") ∈ lw_all := lw_g (lw_at lw_m0 43 rfl) rfl
theorem q58 : (Jvm.Cond.laysFinal "FrontierWatch" "FrontierWatch" "toOf" "[I") ∈ lw_all := lw_g (lw_at lw_m0 44 rfl) rfl
theorem q59 : (Jvm.Cond.soleField "FrontierWatch" "toOf") ∈ lw_all := lw_g (lw_at lw_m0 45 rfl) rfl
theorem q60 : (Jvm.Cond.laysFinal "FrontierWatch" "FrontierWatch" "addA" "[I") ∈ lw_all := lw_g (lw_at lw_m0 46 rfl) rfl
theorem q61 : (Jvm.Cond.soleField "FrontierWatch" "addA") ∈ lw_all := lw_g (lw_at lw_m0 47 rfl) rfl
theorem q62 : (Jvm.Cond.laysFinal "FrontierWatch" "FrontierWatch" "addB" "[I") ∈ lw_all := lw_g (lw_at lw_m0 48 rfl) rfl
theorem q63 : (Jvm.Cond.soleField "FrontierWatch" "addB") ∈ lw_all := lw_g (lw_at lw_m0 49 rfl) rfl
theorem q64 : (Jvm.Cond.lays "FrontierWatch" "FrontierWatch" "tokens" "I") ∈ lw_all := lw_g (lw_at lw_m0 50 rfl) rfl
theorem q65 : (Jvm.Cond.soleField "FrontierWatch" "tokens") ∈ lw_all := lw_g (lw_at lw_m0 51 rfl) rfl
theorem q66 : (Jvm.Cond.laysFinal "FrontierWatch" "FrontierWatch" "placeOf" "[I") ∈ lw_all := lw_g (lw_at lw_m0 52 rfl) rfl
theorem q67 : (Jvm.Cond.soleField "FrontierWatch" "placeOf") ∈ lw_all := lw_g (lw_at lw_m0 53 rfl) rfl
theorem q68 : (Jvm.Cond.laysFinal "FrontierWatch" "FrontierWatch" "timeOf" "[I") ∈ lw_all := lw_g (lw_at lw_m0 54 rfl) rfl
theorem q69 : (Jvm.Cond.soleField "FrontierWatch" "timeOf") ∈ lw_all := lw_g (lw_at lw_m0 55 rfl) rfl
theorem q70 : (Jvm.Cond.laysFinal "FrontierWatch" "FrontierWatch" "sumCount" "[I") ∈ lw_all := lw_g (lw_at lw_m0 56 rfl) rfl
theorem q71 : (Jvm.Cond.soleField "FrontierWatch" "sumCount") ∈ lw_all := lw_g (lw_at lw_m0 57 rfl) rfl
theorem q72 : (Jvm.Cond.laysFinal "FrontierWatch" "FrontierWatch" "sums" "[I") ∈ lw_all := lw_g (lw_at lw_m0 58 rfl) rfl
theorem q73 : (Jvm.Cond.soleField "FrontierWatch" "sums") ∈ lw_all := lw_g (lw_at lw_m0 59 rfl) rfl
theorem q74 : (Jvm.Cond.lays "FrontierWatch" "FrontierWatch" "gathered" "I") ∈ lw_all := lw_g (lw_at lw_m0 60 rfl) rfl
theorem q75 : (Jvm.Cond.soleField "FrontierWatch" "gathered") ∈ lw_all := lw_g (lw_at lw_m0 61 rfl) rfl
theorem q76 : (Jvm.Cond.laysFinal "FrontierWatch" "FrontierWatch" "gather" "[I") ∈ lw_all := lw_g (lw_at lw_m0 62 rfl) rfl
theorem q77 : (Jvm.Cond.soleField "FrontierWatch" "gather") ∈ lw_all := lw_g (lw_at lw_m0 63 rfl) rfl
theorem q78 : (Jvm.Cond.laysFinal "FrontierWatch" "FrontierWatch" "marks" "[I") ∈ lw_all := lw_g (lw_at lw_m0 64 rfl) rfl
theorem q79 : (Jvm.Cond.soleField "FrontierWatch" "marks") ∈ lw_all := lw_g (lw_at lw_m0 65 rfl) rfl
theorem q80 : (Jvm.Cond.superclass "FrontierWatch" "java/lang/Object") ∈ lw_all := lw_g (lw_at lw_m0 66 rfl) rfl
theorem q83 : (Jvm.Cond.instanceMethod ({ cls := "FrontierWatch", name := "link", desc := "(IIII)I" } : Jvm.MethodName)) ∈ lw_all := lw_g (lw_at lw_m0 69 rfl) rfl
theorem q84 : (Jvm.Cond.selects "FrontierWatch" ({ cls := "FrontierWatch", name := "link", desc := "(IIII)I" } : Jvm.MethodName) ({ cls := "FrontierWatch", name := "link", desc := "(IIII)I" } : Jvm.MethodName)) ∈ lw_all := lw_g (lw_at lw_m0 70 rfl) rfl
theorem q85 : (Jvm.Cond.code ({ cls := "FrontierWatch", name := "link", desc := "(IIII)I" } : Jvm.MethodName) prog_1_method_2_code (5 : Nat) (Option.some Jvm.ClassFile.FieldType.int)) ∈ lw_all := lw_g (lw_at lw_m0 71 rfl) rfl
theorem q86 : (Jvm.Cond.methodLink "FrontierWatch" (43 : Nat) ({ cls := "FrontierWatch", name := "isPlace", desc := "(I)Z" } : Jvm.MethodName)) ∈ lw_all := lw_g (lw_at lw_m0 72 rfl) rfl
theorem q87 : (Jvm.Cond.static ({ cls := "FrontierWatch", name := "isPlace", desc := "(I)Z" } : Jvm.MethodName)) ∈ lw_all := lw_g (lw_at lw_m0 73 rfl) rfl
theorem q88 : (Jvm.Cond.code ({ cls := "FrontierWatch", name := "isPlace", desc := "(I)Z" } : Jvm.MethodName) prog_1_method_15_code (1 : Nat) (Option.some Jvm.ClassFile.FieldType.boolean)) ∈ lw_all := lw_g (lw_at lw_m0 74 rfl) rfl
theorem q90 : (Jvm.Cond.instanceMethod ({ cls := "FrontierWatch", name := "unlink", desc := "(I)I" } : Jvm.MethodName)) ∈ lw_all := lw_g (lw_at lw_m0 76 rfl) rfl
theorem q91 : (Jvm.Cond.selects "FrontierWatch" ({ cls := "FrontierWatch", name := "unlink", desc := "(I)I" } : Jvm.MethodName) ({ cls := "FrontierWatch", name := "unlink", desc := "(I)I" } : Jvm.MethodName)) ∈ lw_all := lw_g (lw_at lw_m0 77 rfl) rfl
theorem q92 : (Jvm.Cond.code ({ cls := "FrontierWatch", name := "unlink", desc := "(I)I" } : Jvm.MethodName) prog_1_method_3_code (3 : Nat) (Option.some Jvm.ClassFile.FieldType.int)) ∈ lw_all := lw_g (lw_at lw_m0 78 rfl) rfl
theorem q94 : (Jvm.Cond.instanceMethod ({ cls := "FrontierWatch", name := "put", desc := "(III)I" } : Jvm.MethodName)) ∈ lw_all := lw_g (lw_at lw_m0 80 rfl) rfl
theorem q95 : (Jvm.Cond.selects "FrontierWatch" ({ cls := "FrontierWatch", name := "put", desc := "(III)I" } : Jvm.MethodName) ({ cls := "FrontierWatch", name := "put", desc := "(III)I" } : Jvm.MethodName)) ∈ lw_all := lw_g (lw_at lw_m0 81 rfl) rfl
theorem q96 : (Jvm.Cond.code ({ cls := "FrontierWatch", name := "put", desc := "(III)I" } : Jvm.MethodName) prog_1_method_4_code (4 : Nat) (Option.some Jvm.ClassFile.FieldType.int)) ∈ lw_all := lw_g (lw_at lw_m0 82 rfl) rfl
theorem q97 : (Jvm.Cond.methodLink "FrontierWatch" (51 : Nat) ({ cls := "FrontierWatch", name := "isTime", desc := "(II)Z" } : Jvm.MethodName)) ∈ lw_all := lw_g (lw_at lw_m0 83 rfl) rfl
theorem q98 : (Jvm.Cond.static ({ cls := "FrontierWatch", name := "isTime", desc := "(II)Z" } : Jvm.MethodName)) ∈ lw_all := lw_g (lw_at lw_m0 84 rfl) rfl
theorem q99 : (Jvm.Cond.code ({ cls := "FrontierWatch", name := "isTime", desc := "(II)Z" } : Jvm.MethodName) prog_1_method_16_code (2 : Nat) (Option.some Jvm.ClassFile.FieldType.boolean)) ∈ lw_all := lw_g (lw_at lw_m0 85 rfl) rfl
theorem q101 : (Jvm.Cond.instanceMethod ({ cls := "FrontierWatch", name := "take", desc := "(III)I" } : Jvm.MethodName)) ∈ lw_all := lw_g (lw_at lw_m0 87 rfl) rfl
theorem q102 : (Jvm.Cond.selects "FrontierWatch" ({ cls := "FrontierWatch", name := "take", desc := "(III)I" } : Jvm.MethodName) ({ cls := "FrontierWatch", name := "take", desc := "(III)I" } : Jvm.MethodName)) ∈ lw_all := lw_g (lw_at lw_m0 88 rfl) rfl
theorem q103 : (Jvm.Cond.code ({ cls := "FrontierWatch", name := "take", desc := "(III)I" } : Jvm.MethodName) prog_1_method_5_code (5 : Nat) (Option.some Jvm.ClassFile.FieldType.int)) ∈ lw_all := lw_g (lw_at lw_m0 89 rfl) rfl
theorem q104 : (Jvm.Cond.methodLink "FrontierWatch" (62 : Nat) ({ cls := "FrontierWatch", name := "tokenAt", desc := "(II)I" } : Jvm.MethodName)) ∈ lw_all := lw_g (lw_at lw_m0 90 rfl) rfl
theorem q105 : (Jvm.Cond.privateMethod ({ cls := "FrontierWatch", name := "tokenAt", desc := "(II)I" } : Jvm.MethodName)) ∈ lw_tbl := lw_at lw_m0 91 rfl
theorem q106 : (Jvm.Cond.instanceMethod ({ cls := "FrontierWatch", name := "tokenAt", desc := "(II)I" } : Jvm.MethodName)) ∈ lw_all := lw_g (lw_at lw_m0 92 rfl) rfl
theorem q107 : (Jvm.Cond.code ({ cls := "FrontierWatch", name := "tokenAt", desc := "(II)I" } : Jvm.MethodName) prog_1_method_7_code (4 : Nat) (Option.some Jvm.ClassFile.FieldType.int)) ∈ lw_all := lw_g (lw_at lw_m0 93 rfl) rfl
theorem q109 : (Jvm.Cond.instanceMethod ({ cls := "FrontierWatch", name := "pass", desc := "(III)I" } : Jvm.MethodName)) ∈ lw_all := lw_g (lw_at lw_m0 95 rfl) rfl
theorem q110 : (Jvm.Cond.selects "FrontierWatch" ({ cls := "FrontierWatch", name := "pass", desc := "(III)I" } : Jvm.MethodName) ({ cls := "FrontierWatch", name := "pass", desc := "(III)I" } : Jvm.MethodName)) ∈ lw_all := lw_g (lw_at lw_m0 96 rfl) rfl
theorem q111 : (Jvm.Cond.code ({ cls := "FrontierWatch", name := "pass", desc := "(III)I" } : Jvm.MethodName) prog_1_method_6_code (5 : Nat) (Option.some Jvm.ClassFile.FieldType.int)) ∈ lw_all := lw_g (lw_at lw_m0 97 rfl) rfl
theorem q113 : (Jvm.Cond.instanceMethod ({ cls := "FrontierWatch", name := "possible", desc := "(III)I" } : Jvm.MethodName)) ∈ lw_all := lw_g (lw_at lw_m0 99 rfl) rfl
theorem q114 : (Jvm.Cond.selects "FrontierWatch" ({ cls := "FrontierWatch", name := "possible", desc := "(III)I" } : Jvm.MethodName) ({ cls := "FrontierWatch", name := "possible", desc := "(III)I" } : Jvm.MethodName)) ∈ lw_all := lw_g (lw_at lw_m0 100 rfl) rfl
theorem q115 : (Jvm.Cond.code ({ cls := "FrontierWatch", name := "possible", desc := "(III)I" } : Jvm.MethodName) prog_1_method_8_code (6 : Nat) (Option.some Jvm.ClassFile.FieldType.int)) ∈ lw_all := lw_g (lw_at lw_m0 101 rfl) rfl
theorem q117 : (Jvm.Cond.instanceMethod ({ cls := "FrontierWatch", name := "ready", desc := "(III)I" } : Jvm.MethodName)) ∈ lw_all := lw_g (lw_at lw_m0 103 rfl) rfl
theorem q118 : (Jvm.Cond.selects "FrontierWatch" ({ cls := "FrontierWatch", name := "ready", desc := "(III)I" } : Jvm.MethodName) ({ cls := "FrontierWatch", name := "ready", desc := "(III)I" } : Jvm.MethodName)) ∈ lw_all := lw_g (lw_at lw_m0 104 rfl) rfl
theorem q119 : (Jvm.Cond.code ({ cls := "FrontierWatch", name := "ready", desc := "(III)I" } : Jvm.MethodName) prog_1_method_9_code (7 : Nat) (Option.some Jvm.ClassFile.FieldType.int)) ∈ lw_all := lw_g (lw_at lw_m0 105 rfl) rfl
theorem q120 : (Jvm.Cond.methodLink "FrontierWatch" (66 : Nat) ({ cls := "FrontierWatch", name := "reaches", desc := "(IIII)Z" } : Jvm.MethodName)) ∈ lw_all := lw_g (lw_at lw_m0 106 rfl) rfl
theorem q121 : (Jvm.Cond.privateMethod ({ cls := "FrontierWatch", name := "reaches", desc := "(IIII)Z" } : Jvm.MethodName)) ∈ lw_tbl := lw_at lw_m0 107 rfl
theorem q122 : (Jvm.Cond.instanceMethod ({ cls := "FrontierWatch", name := "reaches", desc := "(IIII)Z" } : Jvm.MethodName)) ∈ lw_all := lw_g (lw_at lw_m0 108 rfl) rfl
theorem q123 : (Jvm.Cond.code ({ cls := "FrontierWatch", name := "reaches", desc := "(IIII)Z" } : Jvm.MethodName) prog_1_method_10_code (9 : Nat) (Option.some Jvm.ClassFile.FieldType.boolean)) ∈ lw_all := lw_g (lw_at lw_m0 109 rfl) rfl
theorem q125 : (Jvm.Cond.instanceMethod ({ cls := "FrontierWatch", name := "front", desc := "(I)I" } : Jvm.MethodName)) ∈ lw_all := lw_g (lw_at lw_m0 111 rfl) rfl
theorem q126 : (Jvm.Cond.selects "FrontierWatch" ({ cls := "FrontierWatch", name := "front", desc := "(I)I" } : Jvm.MethodName) ({ cls := "FrontierWatch", name := "front", desc := "(I)I" } : Jvm.MethodName)) ∈ lw_all := lw_g (lw_at lw_m0 112 rfl) rfl
theorem q127 : (Jvm.Cond.code ({ cls := "FrontierWatch", name := "front", desc := "(I)I" } : Jvm.MethodName) prog_1_method_11_code (6 : Nat) (Option.some Jvm.ClassFile.FieldType.int)) ∈ lw_all := lw_g (lw_at lw_m0 113 rfl) rfl
theorem q128 : (Jvm.Cond.methodLink "FrontierWatch" (70 : Nat) ({ cls := "FrontierWatch", name := "firstMark", desc := "(III)I" } : Jvm.MethodName)) ∈ lw_all := lw_g (lw_at lw_m0 114 rfl) rfl
theorem q129 : (Jvm.Cond.privateMethod ({ cls := "FrontierWatch", name := "firstMark", desc := "(III)I" } : Jvm.MethodName)) ∈ lw_tbl := lw_at lw_m0 115 rfl
theorem q130 : (Jvm.Cond.instanceMethod ({ cls := "FrontierWatch", name := "firstMark", desc := "(III)I" } : Jvm.MethodName)) ∈ lw_all := lw_g (lw_at lw_m0 116 rfl) rfl
theorem q131 : (Jvm.Cond.code ({ cls := "FrontierWatch", name := "firstMark", desc := "(III)I" } : Jvm.MethodName) prog_1_method_14_code (5 : Nat) (Option.some Jvm.ClassFile.FieldType.int)) ∈ lw_all := lw_g (lw_at lw_m0 117 rfl) rfl
theorem q133 : (Jvm.Cond.instanceMethod ({ cls := "FrontierWatch", name := "frontAt", desc := "(II)I" } : Jvm.MethodName)) ∈ lw_all := lw_g (lw_at lw_m0 119 rfl) rfl
theorem q134 : (Jvm.Cond.selects "FrontierWatch" ({ cls := "FrontierWatch", name := "frontAt", desc := "(II)I" } : Jvm.MethodName) ({ cls := "FrontierWatch", name := "frontAt", desc := "(II)I" } : Jvm.MethodName)) ∈ lw_all := lw_g (lw_at lw_m0 120 rfl) rfl
theorem q135 : (Jvm.Cond.code ({ cls := "FrontierWatch", name := "frontAt", desc := "(II)I" } : Jvm.MethodName) prog_1_method_12_code (7 : Nat) (Option.some Jvm.ClassFile.FieldType.int)) ∈ lw_all := lw_g (lw_at lw_m0 121 rfl) rfl
theorem q137 : (Jvm.Cond.instanceMethod ({ cls := "FrontierWatch", name := "shortest", desc := "(II)I" } : Jvm.MethodName)) ∈ lw_all := lw_g (lw_at lw_m0 123 rfl) rfl
theorem q138 : (Jvm.Cond.selects "FrontierWatch" ({ cls := "FrontierWatch", name := "shortest", desc := "(II)I" } : Jvm.MethodName) ({ cls := "FrontierWatch", name := "shortest", desc := "(II)I" } : Jvm.MethodName)) ∈ lw_all := lw_g (lw_at lw_m0 124 rfl) rfl
theorem q139 : (Jvm.Cond.code ({ cls := "FrontierWatch", name := "shortest", desc := "(II)I" } : Jvm.MethodName) prog_1_method_13_code (3 : Nat) (Option.some Jvm.ClassFile.FieldType.int)) ∈ lw_all := lw_g (lw_at lw_m0 125 rfl) rfl
theorem in_X0 : ∀ w ∈ wsX00, w ∈ lw_all := lw_in wsX00 [54, 56, 58, 60, 62, 64, 66, 68, 70, 72, 74, 76, 78] (by decide +kernel) (by decide +kernel)
end
section
/-! FrontierWatchModel -/
set_option maxRecDepth 100000
def RX1 : String := "FrontierWatchModel"
def TX1 : u_T := fun k => match k with
  | 0 => ("FrontierWatchModel", "lines", "I", false)
  | 1 => ("FrontierWatchModel", "froms", "[I", true)
  | 2 => ("FrontierWatchModel", "tos", "[I", true)
  | 3 => ("FrontierWatchModel", "firsts", "[I", true)
  | 4 => ("FrontierWatchModel", "seconds", "[I", true)
  | 5 => ("FrontierWatchModel", "tokens", "I", false)
  | 6 => ("FrontierWatchModel", "places", "[I", true)
  | 7 => ("FrontierWatchModel", "as", "[I", true)
  | 8 => ("FrontierWatchModel", "bs", "[I", true)
  | _ => ("FrontierWatchModel", "there", "[Z", true)
def tyX1 : Nat → FieldType := fun k => match k with
  | 0 => .int
  | 1 => .array .int
  | 2 => .array .int
  | 3 => .array .int
  | 4 => .array .int
  | 5 => .int
  | 6 => .array .int
  | 7 => .array .int
  | 8 => .array .int
  | _ => .array .boolean
abbrev wsX10 : List Cond := u_ws RX1 TX1 10
theorem nmX1 : ∀ a, a < 10 → ∀ b, b < 10 → a ≠ b → (TX1 a).2.1 ≠ (TX1 b).2.1 := by decide +kernel
theorem tyX1_ok : ∀ k, k < 10 → parseFieldDescriptor (TX1 k).2.2.1 = some (tyX1 k) := by decide +kernel
abbrev cX1_init : ByteArray := prog_3_method_1_code
def yX1_init : MethodName := ⟨RX1, "<init>", "()V"⟩
theorem dX1_init_0 : decode cX1_init 0 = .ok (.aload_n 0, 1) := by decide +kernel
theorem dX1_init_1 : decode cX1_init 1 = .ok (.invokespecial 1, 3) := by decide +kernel
theorem dX1_init_4 : decode cX1_init 4 = .ok (.aload_n 0, 1) := by decide +kernel
theorem dX1_init_5 : decode cX1_init 5 = .ok (.bipush 12, 2) := by decide +kernel
theorem dX1_init_7 : decode cX1_init 7 = .ok (.newarray .int, 2) := by decide +kernel
theorem dX1_init_9 : decode cX1_init 9 = .ok (.putfield 7, 3) := by decide +kernel
theorem dX1_init_12 : decode cX1_init 12 = .ok (.aload_n 0, 1) := by decide +kernel
theorem dX1_init_13 : decode cX1_init 13 = .ok (.bipush 12, 2) := by decide +kernel
theorem dX1_init_15 : decode cX1_init 15 = .ok (.newarray .int, 2) := by decide +kernel
theorem dX1_init_17 : decode cX1_init 17 = .ok (.putfield 13, 3) := by decide +kernel
theorem dX1_init_20 : decode cX1_init 20 = .ok (.aload_n 0, 1) := by decide +kernel
theorem dX1_init_21 : decode cX1_init 21 = .ok (.bipush 12, 2) := by decide +kernel
theorem dX1_init_23 : decode cX1_init 23 = .ok (.newarray .int, 2) := by decide +kernel
theorem dX1_init_25 : decode cX1_init 25 = .ok (.putfield 16, 3) := by decide +kernel
theorem dX1_init_28 : decode cX1_init 28 = .ok (.aload_n 0, 1) := by decide +kernel
theorem dX1_init_29 : decode cX1_init 29 = .ok (.bipush 12, 2) := by decide +kernel
theorem dX1_init_31 : decode cX1_init 31 = .ok (.newarray .int, 2) := by decide +kernel
theorem dX1_init_33 : decode cX1_init 33 = .ok (.putfield 19, 3) := by decide +kernel
theorem dX1_init_36 : decode cX1_init 36 = .ok (.aload_n 0, 1) := by decide +kernel
theorem dX1_init_37 : decode cX1_init 37 = .ok (.bipush 20, 2) := by decide +kernel
theorem dX1_init_39 : decode cX1_init 39 = .ok (.newarray .int, 2) := by decide +kernel
theorem dX1_init_41 : decode cX1_init 41 = .ok (.putfield 22, 3) := by decide +kernel
theorem dX1_init_44 : decode cX1_init 44 = .ok (.aload_n 0, 1) := by decide +kernel
theorem dX1_init_45 : decode cX1_init 45 = .ok (.bipush 20, 2) := by decide +kernel
theorem dX1_init_47 : decode cX1_init 47 = .ok (.newarray .int, 2) := by decide +kernel
theorem dX1_init_49 : decode cX1_init 49 = .ok (.putfield 25, 3) := by decide +kernel
theorem dX1_init_52 : decode cX1_init 52 = .ok (.aload_n 0, 1) := by decide +kernel
theorem dX1_init_53 : decode cX1_init 53 = .ok (.bipush 20, 2) := by decide +kernel
theorem dX1_init_55 : decode cX1_init 55 = .ok (.newarray .int, 2) := by decide +kernel
theorem dX1_init_57 : decode cX1_init 57 = .ok (.putfield 28, 3) := by decide +kernel
theorem dX1_init_60 : decode cX1_init 60 = .ok (.aload_n 0, 1) := by decide +kernel
theorem dX1_init_61 : decode cX1_init 61 = .ok (.sipush 2527, 3) := by decide +kernel
theorem dX1_init_64 : decode cX1_init 64 = .ok (.newarray .boolean, 2) := by decide +kernel
theorem dX1_init_66 : decode cX1_init 66 = .ok (.putfield 31, 3) := by decide +kernel
theorem dX1_init_69 : decode cX1_init 69 = .ok (.return_, 1) := by decide +kernel
abbrev cX1_link : ByteArray := prog_3_method_4_code
def yX1_link : MethodName := ⟨RX1, "link", "(IIII)I"⟩
theorem dX1_link_0 : decode cX1_link 0 = .ok (.iload_n 1, 1) := by decide +kernel
theorem dX1_link_1 : decode cX1_link 1 = .ok (.invokestatic 35, 3) := by decide +kernel
theorem dX1_link_4 : decode cX1_link 4 = .ok (.ifCond .ne 39, 3) := by decide +kernel
theorem dX1_link_7 : decode cX1_link 7 = .ok (.iload_n 2, 1) := by decide +kernel
theorem dX1_link_8 : decode cX1_link 8 = .ok (.invokestatic 35, 3) := by decide +kernel
theorem dX1_link_11 : decode cX1_link 11 = .ok (.ifCond .ne 32, 3) := by decide +kernel
theorem dX1_link_14 : decode cX1_link 14 = .ok (.iload_n 3, 1) := by decide +kernel
theorem dX1_link_15 : decode cX1_link 15 = .ok (.ifCond .lt 28, 3) := by decide +kernel
theorem dX1_link_18 : decode cX1_link 18 = .ok (.iload_n 3, 1) := by decide +kernel
theorem dX1_link_19 : decode cX1_link 19 = .ok (.iconst 3, 1) := by decide +kernel
theorem dX1_link_20 : decode cX1_link 20 = .ok (.if_icmp .gt 23, 3) := by decide +kernel
theorem dX1_link_23 : decode cX1_link 23 = .ok (.iload 4, 2) := by decide +kernel
theorem dX1_link_25 : decode cX1_link 25 = .ok (.ifCond .lt 18, 3) := by decide +kernel
theorem dX1_link_28 : decode cX1_link 28 = .ok (.iload 4, 2) := by decide +kernel
theorem dX1_link_30 : decode cX1_link 30 = .ok (.iconst 3, 1) := by decide +kernel
theorem dX1_link_31 : decode cX1_link 31 = .ok (.if_icmp .gt 12, 3) := by decide +kernel
theorem dX1_link_34 : decode cX1_link 34 = .ok (.aload_n 0, 1) := by decide +kernel
theorem dX1_link_35 : decode cX1_link 35 = .ok (.getfield 39, 3) := by decide +kernel
theorem dX1_link_38 : decode cX1_link 38 = .ok (.bipush 12, 2) := by decide +kernel
theorem dX1_link_40 : decode cX1_link 40 = .ok (.if_icmp .ne 5, 3) := by decide +kernel
theorem dX1_link_43 : decode cX1_link 43 = .ok (.iconst (-1), 1) := by decide +kernel
theorem dX1_link_44 : decode cX1_link 44 = .ok (.ireturn, 1) := by decide +kernel
theorem dX1_link_45 : decode cX1_link 45 = .ok (.aload_n 0, 1) := by decide +kernel
theorem dX1_link_46 : decode cX1_link 46 = .ok (.getfield 7, 3) := by decide +kernel
theorem dX1_link_49 : decode cX1_link 49 = .ok (.aload_n 0, 1) := by decide +kernel
theorem dX1_link_50 : decode cX1_link 50 = .ok (.getfield 39, 3) := by decide +kernel
theorem dX1_link_53 : decode cX1_link 53 = .ok (.iload_n 1, 1) := by decide +kernel
theorem dX1_link_54 : decode cX1_link 54 = .ok (.iastore, 1) := by decide +kernel
theorem dX1_link_55 : decode cX1_link 55 = .ok (.aload_n 0, 1) := by decide +kernel
theorem dX1_link_56 : decode cX1_link 56 = .ok (.getfield 13, 3) := by decide +kernel
theorem dX1_link_59 : decode cX1_link 59 = .ok (.aload_n 0, 1) := by decide +kernel
theorem dX1_link_60 : decode cX1_link 60 = .ok (.getfield 39, 3) := by decide +kernel
theorem dX1_link_63 : decode cX1_link 63 = .ok (.iload_n 2, 1) := by decide +kernel
theorem dX1_link_64 : decode cX1_link 64 = .ok (.iastore, 1) := by decide +kernel
theorem dX1_link_65 : decode cX1_link 65 = .ok (.aload_n 0, 1) := by decide +kernel
theorem dX1_link_66 : decode cX1_link 66 = .ok (.getfield 16, 3) := by decide +kernel
theorem dX1_link_69 : decode cX1_link 69 = .ok (.aload_n 0, 1) := by decide +kernel
theorem dX1_link_70 : decode cX1_link 70 = .ok (.getfield 39, 3) := by decide +kernel
theorem dX1_link_73 : decode cX1_link 73 = .ok (.iload_n 3, 1) := by decide +kernel
theorem dX1_link_74 : decode cX1_link 74 = .ok (.iastore, 1) := by decide +kernel
theorem dX1_link_75 : decode cX1_link 75 = .ok (.aload_n 0, 1) := by decide +kernel
theorem dX1_link_76 : decode cX1_link 76 = .ok (.getfield 19, 3) := by decide +kernel
theorem dX1_link_79 : decode cX1_link 79 = .ok (.aload_n 0, 1) := by decide +kernel
theorem dX1_link_80 : decode cX1_link 80 = .ok (.getfield 39, 3) := by decide +kernel
theorem dX1_link_83 : decode cX1_link 83 = .ok (.iload 4, 2) := by decide +kernel
theorem dX1_link_85 : decode cX1_link 85 = .ok (.iastore, 1) := by decide +kernel
theorem dX1_link_86 : decode cX1_link 86 = .ok (.aload_n 0, 1) := by decide +kernel
theorem dX1_link_87 : decode cX1_link 87 = .ok (.dup, 1) := by decide +kernel
theorem dX1_link_88 : decode cX1_link 88 = .ok (.getfield 39, 3) := by decide +kernel
theorem dX1_link_91 : decode cX1_link 91 = .ok (.iconst 1, 1) := by decide +kernel
theorem dX1_link_92 : decode cX1_link 92 = .ok (.iadd, 1) := by decide +kernel
theorem dX1_link_93 : decode cX1_link 93 = .ok (.putfield 39, 3) := by decide +kernel
theorem dX1_link_96 : decode cX1_link 96 = .ok (.aload_n 0, 1) := by decide +kernel
theorem dX1_link_97 : decode cX1_link 97 = .ok (.getfield 39, 3) := by decide +kernel
theorem dX1_link_100 : decode cX1_link 100 = .ok (.ireturn, 1) := by decide +kernel
abbrev cX1_badPlace : ByteArray := prog_3_method_2_code
def yX1_badPlace : MethodName := ⟨RX1, "badPlace", "(I)Z"⟩
theorem dX1_badPlace_0 : decode cX1_badPlace 0 = .ok (.iload_n 0, 1) := by decide +kernel
theorem dX1_badPlace_1 : decode cX1_badPlace 1 = .ok (.ifCond .lt 9, 3) := by decide +kernel
theorem dX1_badPlace_4 : decode cX1_badPlace 4 = .ok (.iload_n 0, 1) := by decide +kernel
theorem dX1_badPlace_5 : decode cX1_badPlace 5 = .ok (.bipush 6, 2) := by decide +kernel
theorem dX1_badPlace_7 : decode cX1_badPlace 7 = .ok (.if_icmp .le 7, 3) := by decide +kernel
theorem dX1_badPlace_10 : decode cX1_badPlace 10 = .ok (.iconst 1, 1) := by decide +kernel
theorem dX1_badPlace_11 : decode cX1_badPlace 11 = .ok (.goto 4, 3) := by decide +kernel
theorem dX1_badPlace_14 : decode cX1_badPlace 14 = .ok (.iconst 0, 1) := by decide +kernel
theorem dX1_badPlace_15 : decode cX1_badPlace 15 = .ok (.ireturn, 1) := by decide +kernel
abbrev cX1_unlink : ByteArray := prog_3_method_5_code
def yX1_unlink : MethodName := ⟨RX1, "unlink", "(I)I"⟩
theorem dX1_unlink_0 : decode cX1_unlink 0 = .ok (.iload_n 1, 1) := by decide +kernel
theorem dX1_unlink_1 : decode cX1_unlink 1 = .ok (.ifCond .lt 11, 3) := by decide +kernel
theorem dX1_unlink_4 : decode cX1_unlink 4 = .ok (.iload_n 1, 1) := by decide +kernel
theorem dX1_unlink_5 : decode cX1_unlink 5 = .ok (.aload_n 0, 1) := by decide +kernel
theorem dX1_unlink_6 : decode cX1_unlink 6 = .ok (.getfield 39, 3) := by decide +kernel
theorem dX1_unlink_9 : decode cX1_unlink 9 = .ok (.if_icmp .lt 5, 3) := by decide +kernel
theorem dX1_unlink_12 : decode cX1_unlink 12 = .ok (.iconst (-1), 1) := by decide +kernel
theorem dX1_unlink_13 : decode cX1_unlink 13 = .ok (.ireturn, 1) := by decide +kernel
theorem dX1_unlink_14 : decode cX1_unlink 14 = .ok (.aload_n 0, 1) := by decide +kernel
theorem dX1_unlink_15 : decode cX1_unlink 15 = .ok (.dup, 1) := by decide +kernel
theorem dX1_unlink_16 : decode cX1_unlink 16 = .ok (.getfield 39, 3) := by decide +kernel
theorem dX1_unlink_19 : decode cX1_unlink 19 = .ok (.iconst 1, 1) := by decide +kernel
theorem dX1_unlink_20 : decode cX1_unlink 20 = .ok (.isub, 1) := by decide +kernel
theorem dX1_unlink_21 : decode cX1_unlink 21 = .ok (.putfield 39, 3) := by decide +kernel
theorem dX1_unlink_24 : decode cX1_unlink 24 = .ok (.iload_n 1, 1) := by decide +kernel
theorem dX1_unlink_25 : decode cX1_unlink 25 = .ok (.istore_n 2, 1) := by decide +kernel
theorem dX1_unlink_26 : decode cX1_unlink 26 = .ok (.iload_n 2, 1) := by decide +kernel
theorem dX1_unlink_27 : decode cX1_unlink 27 = .ok (.aload_n 0, 1) := by decide +kernel
theorem dX1_unlink_28 : decode cX1_unlink 28 = .ok (.getfield 39, 3) := by decide +kernel
theorem dX1_unlink_31 : decode cX1_unlink 31 = .ok (.if_icmp .ge 65, 3) := by decide +kernel
theorem dX1_unlink_34 : decode cX1_unlink 34 = .ok (.aload_n 0, 1) := by decide +kernel
theorem dX1_unlink_35 : decode cX1_unlink 35 = .ok (.getfield 7, 3) := by decide +kernel
theorem dX1_unlink_38 : decode cX1_unlink 38 = .ok (.iload_n 2, 1) := by decide +kernel
theorem dX1_unlink_39 : decode cX1_unlink 39 = .ok (.aload_n 0, 1) := by decide +kernel
theorem dX1_unlink_40 : decode cX1_unlink 40 = .ok (.getfield 7, 3) := by decide +kernel
theorem dX1_unlink_43 : decode cX1_unlink 43 = .ok (.iload_n 2, 1) := by decide +kernel
theorem dX1_unlink_44 : decode cX1_unlink 44 = .ok (.iconst 1, 1) := by decide +kernel
theorem dX1_unlink_45 : decode cX1_unlink 45 = .ok (.iadd, 1) := by decide +kernel
theorem dX1_unlink_46 : decode cX1_unlink 46 = .ok (.iaload, 1) := by decide +kernel
theorem dX1_unlink_47 : decode cX1_unlink 47 = .ok (.iastore, 1) := by decide +kernel
theorem dX1_unlink_48 : decode cX1_unlink 48 = .ok (.aload_n 0, 1) := by decide +kernel
theorem dX1_unlink_49 : decode cX1_unlink 49 = .ok (.getfield 13, 3) := by decide +kernel
theorem dX1_unlink_52 : decode cX1_unlink 52 = .ok (.iload_n 2, 1) := by decide +kernel
theorem dX1_unlink_53 : decode cX1_unlink 53 = .ok (.aload_n 0, 1) := by decide +kernel
theorem dX1_unlink_54 : decode cX1_unlink 54 = .ok (.getfield 13, 3) := by decide +kernel
theorem dX1_unlink_57 : decode cX1_unlink 57 = .ok (.iload_n 2, 1) := by decide +kernel
theorem dX1_unlink_58 : decode cX1_unlink 58 = .ok (.iconst 1, 1) := by decide +kernel
theorem dX1_unlink_59 : decode cX1_unlink 59 = .ok (.iadd, 1) := by decide +kernel
theorem dX1_unlink_60 : decode cX1_unlink 60 = .ok (.iaload, 1) := by decide +kernel
theorem dX1_unlink_61 : decode cX1_unlink 61 = .ok (.iastore, 1) := by decide +kernel
theorem dX1_unlink_62 : decode cX1_unlink 62 = .ok (.aload_n 0, 1) := by decide +kernel
theorem dX1_unlink_63 : decode cX1_unlink 63 = .ok (.getfield 16, 3) := by decide +kernel
theorem dX1_unlink_66 : decode cX1_unlink 66 = .ok (.iload_n 2, 1) := by decide +kernel
theorem dX1_unlink_67 : decode cX1_unlink 67 = .ok (.aload_n 0, 1) := by decide +kernel
theorem dX1_unlink_68 : decode cX1_unlink 68 = .ok (.getfield 16, 3) := by decide +kernel
theorem dX1_unlink_71 : decode cX1_unlink 71 = .ok (.iload_n 2, 1) := by decide +kernel
theorem dX1_unlink_72 : decode cX1_unlink 72 = .ok (.iconst 1, 1) := by decide +kernel
theorem dX1_unlink_73 : decode cX1_unlink 73 = .ok (.iadd, 1) := by decide +kernel
theorem dX1_unlink_74 : decode cX1_unlink 74 = .ok (.iaload, 1) := by decide +kernel
theorem dX1_unlink_75 : decode cX1_unlink 75 = .ok (.iastore, 1) := by decide +kernel
theorem dX1_unlink_76 : decode cX1_unlink 76 = .ok (.aload_n 0, 1) := by decide +kernel
theorem dX1_unlink_77 : decode cX1_unlink 77 = .ok (.getfield 19, 3) := by decide +kernel
theorem dX1_unlink_80 : decode cX1_unlink 80 = .ok (.iload_n 2, 1) := by decide +kernel
theorem dX1_unlink_81 : decode cX1_unlink 81 = .ok (.aload_n 0, 1) := by decide +kernel
theorem dX1_unlink_82 : decode cX1_unlink 82 = .ok (.getfield 19, 3) := by decide +kernel
theorem dX1_unlink_85 : decode cX1_unlink 85 = .ok (.iload_n 2, 1) := by decide +kernel
theorem dX1_unlink_86 : decode cX1_unlink 86 = .ok (.iconst 1, 1) := by decide +kernel
theorem dX1_unlink_87 : decode cX1_unlink 87 = .ok (.iadd, 1) := by decide +kernel
theorem dX1_unlink_88 : decode cX1_unlink 88 = .ok (.iaload, 1) := by decide +kernel
theorem dX1_unlink_89 : decode cX1_unlink 89 = .ok (.iastore, 1) := by decide +kernel
theorem dX1_unlink_90 : decode cX1_unlink 90 = .ok (.iinc 2 1, 3) := by decide +kernel
theorem dX1_unlink_93 : decode cX1_unlink 93 = .ok (.goto (-67), 3) := by decide +kernel
theorem dX1_unlink_96 : decode cX1_unlink 96 = .ok (.aload_n 0, 1) := by decide +kernel
theorem dX1_unlink_97 : decode cX1_unlink 97 = .ok (.getfield 39, 3) := by decide +kernel
theorem dX1_unlink_100 : decode cX1_unlink 100 = .ok (.ireturn, 1) := by decide +kernel
abbrev cX1_put : ByteArray := prog_3_method_6_code
def yX1_put : MethodName := ⟨RX1, "put", "(III)I"⟩
theorem dX1_put_0 : decode cX1_put 0 = .ok (.iload_n 1, 1) := by decide +kernel
theorem dX1_put_1 : decode cX1_put 1 = .ok (.invokestatic 35, 3) := by decide +kernel
theorem dX1_put_4 : decode cX1_put 4 = .ok (.ifCond .ne 20, 3) := by decide +kernel
theorem dX1_put_7 : decode cX1_put 7 = .ok (.iload_n 2, 1) := by decide +kernel
theorem dX1_put_8 : decode cX1_put 8 = .ok (.iload_n 3, 1) := by decide +kernel
theorem dX1_put_9 : decode cX1_put 9 = .ok (.invokestatic 43, 3) := by decide +kernel
theorem dX1_put_12 : decode cX1_put 12 = .ok (.ifCond .ne 12, 3) := by decide +kernel
theorem dX1_put_15 : decode cX1_put 15 = .ok (.aload_n 0, 1) := by decide +kernel
theorem dX1_put_16 : decode cX1_put 16 = .ok (.getfield 47, 3) := by decide +kernel
theorem dX1_put_19 : decode cX1_put 19 = .ok (.bipush 20, 2) := by decide +kernel
theorem dX1_put_21 : decode cX1_put 21 = .ok (.if_icmp .ne 5, 3) := by decide +kernel
theorem dX1_put_24 : decode cX1_put 24 = .ok (.iconst (-1), 1) := by decide +kernel
theorem dX1_put_25 : decode cX1_put 25 = .ok (.ireturn, 1) := by decide +kernel
theorem dX1_put_26 : decode cX1_put 26 = .ok (.aload_n 0, 1) := by decide +kernel
theorem dX1_put_27 : decode cX1_put 27 = .ok (.getfield 22, 3) := by decide +kernel
theorem dX1_put_30 : decode cX1_put 30 = .ok (.aload_n 0, 1) := by decide +kernel
theorem dX1_put_31 : decode cX1_put 31 = .ok (.getfield 47, 3) := by decide +kernel
theorem dX1_put_34 : decode cX1_put 34 = .ok (.iload_n 1, 1) := by decide +kernel
theorem dX1_put_35 : decode cX1_put 35 = .ok (.iastore, 1) := by decide +kernel
theorem dX1_put_36 : decode cX1_put 36 = .ok (.aload_n 0, 1) := by decide +kernel
theorem dX1_put_37 : decode cX1_put 37 = .ok (.getfield 25, 3) := by decide +kernel
theorem dX1_put_40 : decode cX1_put 40 = .ok (.aload_n 0, 1) := by decide +kernel
theorem dX1_put_41 : decode cX1_put 41 = .ok (.getfield 47, 3) := by decide +kernel
theorem dX1_put_44 : decode cX1_put 44 = .ok (.iload_n 2, 1) := by decide +kernel
theorem dX1_put_45 : decode cX1_put 45 = .ok (.iastore, 1) := by decide +kernel
theorem dX1_put_46 : decode cX1_put 46 = .ok (.aload_n 0, 1) := by decide +kernel
theorem dX1_put_47 : decode cX1_put 47 = .ok (.getfield 28, 3) := by decide +kernel
theorem dX1_put_50 : decode cX1_put 50 = .ok (.aload_n 0, 1) := by decide +kernel
theorem dX1_put_51 : decode cX1_put 51 = .ok (.getfield 47, 3) := by decide +kernel
theorem dX1_put_54 : decode cX1_put 54 = .ok (.iload_n 3, 1) := by decide +kernel
theorem dX1_put_55 : decode cX1_put 55 = .ok (.iastore, 1) := by decide +kernel
theorem dX1_put_56 : decode cX1_put 56 = .ok (.aload_n 0, 1) := by decide +kernel
theorem dX1_put_57 : decode cX1_put 57 = .ok (.dup, 1) := by decide +kernel
theorem dX1_put_58 : decode cX1_put 58 = .ok (.getfield 47, 3) := by decide +kernel
theorem dX1_put_61 : decode cX1_put 61 = .ok (.iconst 1, 1) := by decide +kernel
theorem dX1_put_62 : decode cX1_put 62 = .ok (.iadd, 1) := by decide +kernel
theorem dX1_put_63 : decode cX1_put 63 = .ok (.putfield 47, 3) := by decide +kernel
theorem dX1_put_66 : decode cX1_put 66 = .ok (.aload_n 0, 1) := by decide +kernel
theorem dX1_put_67 : decode cX1_put 67 = .ok (.getfield 47, 3) := by decide +kernel
theorem dX1_put_70 : decode cX1_put 70 = .ok (.ireturn, 1) := by decide +kernel
abbrev cX1_badTime : ByteArray := prog_3_method_3_code
def yX1_badTime : MethodName := ⟨RX1, "badTime", "(II)Z"⟩
theorem dX1_badTime_0 : decode cX1_badTime 0 = .ok (.iload_n 0, 1) := by decide +kernel
theorem dX1_badTime_1 : decode cX1_badTime 1 = .ok (.ifCond .lt 19, 3) := by decide +kernel
theorem dX1_badTime_4 : decode cX1_badTime 4 = .ok (.iload_n 0, 1) := by decide +kernel
theorem dX1_badTime_5 : decode cX1_badTime 5 = .ok (.bipush 15, 2) := by decide +kernel
theorem dX1_badTime_7 : decode cX1_badTime 7 = .ok (.if_icmp .gt 13, 3) := by decide +kernel
theorem dX1_badTime_10 : decode cX1_badTime 10 = .ok (.iload_n 1, 1) := by decide +kernel
theorem dX1_badTime_11 : decode cX1_badTime 11 = .ok (.ifCond .lt 9, 3) := by decide +kernel
theorem dX1_badTime_14 : decode cX1_badTime 14 = .ok (.iload_n 1, 1) := by decide +kernel
theorem dX1_badTime_15 : decode cX1_badTime 15 = .ok (.bipush 15, 2) := by decide +kernel
theorem dX1_badTime_17 : decode cX1_badTime 17 = .ok (.if_icmp .le 7, 3) := by decide +kernel
theorem dX1_badTime_20 : decode cX1_badTime 20 = .ok (.iconst 1, 1) := by decide +kernel
theorem dX1_badTime_21 : decode cX1_badTime 21 = .ok (.goto 4, 3) := by decide +kernel
theorem dX1_badTime_24 : decode cX1_badTime 24 = .ok (.iconst 0, 1) := by decide +kernel
theorem dX1_badTime_25 : decode cX1_badTime 25 = .ok (.ireturn, 1) := by decide +kernel
abbrev cX1_take : ByteArray := prog_3_method_8_code
def yX1_take : MethodName := ⟨RX1, "take", "(III)I"⟩
theorem dX1_take_0 : decode cX1_take 0 = .ok (.aload_n 0, 1) := by decide +kernel
theorem dX1_take_1 : decode cX1_take 1 = .ok (.iload_n 1, 1) := by decide +kernel
theorem dX1_take_2 : decode cX1_take 2 = .ok (.iload_n 2, 1) := by decide +kernel
theorem dX1_take_3 : decode cX1_take 3 = .ok (.iload_n 3, 1) := by decide +kernel
theorem dX1_take_4 : decode cX1_take 4 = .ok (.invokevirtual 50, 3) := by decide +kernel
theorem dX1_take_7 : decode cX1_take 7 = .ok (.istore 4, 2) := by decide +kernel
theorem dX1_take_9 : decode cX1_take 9 = .ok (.iload 4, 2) := by decide +kernel
theorem dX1_take_11 : decode cX1_take 11 = .ok (.ifCond .ge 5, 3) := by decide +kernel
theorem dX1_take_14 : decode cX1_take 14 = .ok (.iconst (-1), 1) := by decide +kernel
theorem dX1_take_15 : decode cX1_take 15 = .ok (.ireturn, 1) := by decide +kernel
theorem dX1_take_16 : decode cX1_take 16 = .ok (.aload_n 0, 1) := by decide +kernel
theorem dX1_take_17 : decode cX1_take 17 = .ok (.dup, 1) := by decide +kernel
theorem dX1_take_18 : decode cX1_take 18 = .ok (.getfield 47, 3) := by decide +kernel
theorem dX1_take_21 : decode cX1_take 21 = .ok (.iconst 1, 1) := by decide +kernel
theorem dX1_take_22 : decode cX1_take 22 = .ok (.isub, 1) := by decide +kernel
theorem dX1_take_23 : decode cX1_take 23 = .ok (.putfield 47, 3) := by decide +kernel
theorem dX1_take_26 : decode cX1_take 26 = .ok (.aload_n 0, 1) := by decide +kernel
theorem dX1_take_27 : decode cX1_take 27 = .ok (.getfield 22, 3) := by decide +kernel
theorem dX1_take_30 : decode cX1_take 30 = .ok (.iload 4, 2) := by decide +kernel
theorem dX1_take_32 : decode cX1_take 32 = .ok (.aload_n 0, 1) := by decide +kernel
theorem dX1_take_33 : decode cX1_take 33 = .ok (.getfield 22, 3) := by decide +kernel
theorem dX1_take_36 : decode cX1_take 36 = .ok (.aload_n 0, 1) := by decide +kernel
theorem dX1_take_37 : decode cX1_take 37 = .ok (.getfield 47, 3) := by decide +kernel
theorem dX1_take_40 : decode cX1_take 40 = .ok (.iaload, 1) := by decide +kernel
theorem dX1_take_41 : decode cX1_take 41 = .ok (.iastore, 1) := by decide +kernel
theorem dX1_take_42 : decode cX1_take 42 = .ok (.aload_n 0, 1) := by decide +kernel
theorem dX1_take_43 : decode cX1_take 43 = .ok (.getfield 25, 3) := by decide +kernel
theorem dX1_take_46 : decode cX1_take 46 = .ok (.iload 4, 2) := by decide +kernel
theorem dX1_take_48 : decode cX1_take 48 = .ok (.aload_n 0, 1) := by decide +kernel
theorem dX1_take_49 : decode cX1_take 49 = .ok (.getfield 25, 3) := by decide +kernel
theorem dX1_take_52 : decode cX1_take 52 = .ok (.aload_n 0, 1) := by decide +kernel
theorem dX1_take_53 : decode cX1_take 53 = .ok (.getfield 47, 3) := by decide +kernel
theorem dX1_take_56 : decode cX1_take 56 = .ok (.iaload, 1) := by decide +kernel
theorem dX1_take_57 : decode cX1_take 57 = .ok (.iastore, 1) := by decide +kernel
theorem dX1_take_58 : decode cX1_take 58 = .ok (.aload_n 0, 1) := by decide +kernel
theorem dX1_take_59 : decode cX1_take 59 = .ok (.getfield 28, 3) := by decide +kernel
theorem dX1_take_62 : decode cX1_take 62 = .ok (.iload 4, 2) := by decide +kernel
theorem dX1_take_64 : decode cX1_take 64 = .ok (.aload_n 0, 1) := by decide +kernel
theorem dX1_take_65 : decode cX1_take 65 = .ok (.getfield 28, 3) := by decide +kernel
theorem dX1_take_68 : decode cX1_take 68 = .ok (.aload_n 0, 1) := by decide +kernel
theorem dX1_take_69 : decode cX1_take 69 = .ok (.getfield 47, 3) := by decide +kernel
theorem dX1_take_72 : decode cX1_take 72 = .ok (.iaload, 1) := by decide +kernel
theorem dX1_take_73 : decode cX1_take 73 = .ok (.iastore, 1) := by decide +kernel
theorem dX1_take_74 : decode cX1_take 74 = .ok (.aload_n 0, 1) := by decide +kernel
theorem dX1_take_75 : decode cX1_take 75 = .ok (.getfield 47, 3) := by decide +kernel
theorem dX1_take_78 : decode cX1_take 78 = .ok (.ireturn, 1) := by decide +kernel
abbrev cX1_find : ByteArray := prog_3_method_7_code
def yX1_find : MethodName := ⟨RX1, "find", "(III)I"⟩
theorem dX1_find_0 : decode cX1_find 0 = .ok (.iconst 0, 1) := by decide +kernel
theorem dX1_find_1 : decode cX1_find 1 = .ok (.istore 4, 2) := by decide +kernel
theorem dX1_find_3 : decode cX1_find 3 = .ok (.iload 4, 2) := by decide +kernel
theorem dX1_find_5 : decode cX1_find 5 = .ok (.aload_n 0, 1) := by decide +kernel
theorem dX1_find_6 : decode cX1_find 6 = .ok (.getfield 47, 3) := by decide +kernel
theorem dX1_find_9 : decode cX1_find 9 = .ok (.if_icmp .ge 45, 3) := by decide +kernel
theorem dX1_find_12 : decode cX1_find 12 = .ok (.aload_n 0, 1) := by decide +kernel
theorem dX1_find_13 : decode cX1_find 13 = .ok (.getfield 22, 3) := by decide +kernel
theorem dX1_find_16 : decode cX1_find 16 = .ok (.iload 4, 2) := by decide +kernel
theorem dX1_find_18 : decode cX1_find 18 = .ok (.iaload, 1) := by decide +kernel
theorem dX1_find_19 : decode cX1_find 19 = .ok (.iload_n 1, 1) := by decide +kernel
theorem dX1_find_20 : decode cX1_find 20 = .ok (.if_icmp .ne 28, 3) := by decide +kernel
theorem dX1_find_23 : decode cX1_find 23 = .ok (.aload_n 0, 1) := by decide +kernel
theorem dX1_find_24 : decode cX1_find 24 = .ok (.getfield 25, 3) := by decide +kernel
theorem dX1_find_27 : decode cX1_find 27 = .ok (.iload 4, 2) := by decide +kernel
theorem dX1_find_29 : decode cX1_find 29 = .ok (.iaload, 1) := by decide +kernel
theorem dX1_find_30 : decode cX1_find 30 = .ok (.iload_n 2, 1) := by decide +kernel
theorem dX1_find_31 : decode cX1_find 31 = .ok (.if_icmp .ne 17, 3) := by decide +kernel
theorem dX1_find_34 : decode cX1_find 34 = .ok (.aload_n 0, 1) := by decide +kernel
theorem dX1_find_35 : decode cX1_find 35 = .ok (.getfield 28, 3) := by decide +kernel
theorem dX1_find_38 : decode cX1_find 38 = .ok (.iload 4, 2) := by decide +kernel
theorem dX1_find_40 : decode cX1_find 40 = .ok (.iaload, 1) := by decide +kernel
theorem dX1_find_41 : decode cX1_find 41 = .ok (.iload_n 3, 1) := by decide +kernel
theorem dX1_find_42 : decode cX1_find 42 = .ok (.if_icmp .ne 6, 3) := by decide +kernel
theorem dX1_find_45 : decode cX1_find 45 = .ok (.iload 4, 2) := by decide +kernel
theorem dX1_find_47 : decode cX1_find 47 = .ok (.ireturn, 1) := by decide +kernel
theorem dX1_find_48 : decode cX1_find 48 = .ok (.iinc 4 1, 3) := by decide +kernel
theorem dX1_find_51 : decode cX1_find 51 = .ok (.goto (-48), 3) := by decide +kernel
theorem dX1_find_54 : decode cX1_find 54 = .ok (.iconst (-1), 1) := by decide +kernel
theorem dX1_find_55 : decode cX1_find 55 = .ok (.ireturn, 1) := by decide +kernel
abbrev cX1_pass : ByteArray := prog_3_method_9_code
def yX1_pass : MethodName := ⟨RX1, "pass", "(III)I"⟩
theorem dX1_pass_0 : decode cX1_pass 0 = .ok (.iload_n 1, 1) := by decide +kernel
theorem dX1_pass_1 : decode cX1_pass 1 = .ok (.ifCond .lt 11, 3) := by decide +kernel
theorem dX1_pass_4 : decode cX1_pass 4 = .ok (.iload_n 1, 1) := by decide +kernel
theorem dX1_pass_5 : decode cX1_pass 5 = .ok (.aload_n 0, 1) := by decide +kernel
theorem dX1_pass_6 : decode cX1_pass 6 = .ok (.getfield 39, 3) := by decide +kernel
theorem dX1_pass_9 : decode cX1_pass 9 = .ok (.if_icmp .lt 7, 3) := by decide +kernel
theorem dX1_pass_12 : decode cX1_pass 12 = .ok (.iconst (-1), 1) := by decide +kernel
theorem dX1_pass_13 : decode cX1_pass 13 = .ok (.goto 15, 3) := by decide +kernel
theorem dX1_pass_16 : decode cX1_pass 16 = .ok (.aload_n 0, 1) := by decide +kernel
theorem dX1_pass_17 : decode cX1_pass 17 = .ok (.aload_n 0, 1) := by decide +kernel
theorem dX1_pass_18 : decode cX1_pass 18 = .ok (.getfield 7, 3) := by decide +kernel
theorem dX1_pass_21 : decode cX1_pass 21 = .ok (.iload_n 1, 1) := by decide +kernel
theorem dX1_pass_22 : decode cX1_pass 22 = .ok (.iaload, 1) := by decide +kernel
theorem dX1_pass_23 : decode cX1_pass 23 = .ok (.iload_n 2, 1) := by decide +kernel
theorem dX1_pass_24 : decode cX1_pass 24 = .ok (.iload_n 3, 1) := by decide +kernel
theorem dX1_pass_25 : decode cX1_pass 25 = .ok (.invokevirtual 50, 3) := by decide +kernel
theorem dX1_pass_28 : decode cX1_pass 28 = .ok (.istore 4, 2) := by decide +kernel
theorem dX1_pass_30 : decode cX1_pass 30 = .ok (.iload 4, 2) := by decide +kernel
theorem dX1_pass_32 : decode cX1_pass 32 = .ok (.ifCond .ge 5, 3) := by decide +kernel
theorem dX1_pass_35 : decode cX1_pass 35 = .ok (.iconst (-1), 1) := by decide +kernel
theorem dX1_pass_36 : decode cX1_pass 36 = .ok (.ireturn, 1) := by decide +kernel
theorem dX1_pass_37 : decode cX1_pass 37 = .ok (.iload_n 2, 1) := by decide +kernel
theorem dX1_pass_38 : decode cX1_pass 38 = .ok (.aload_n 0, 1) := by decide +kernel
theorem dX1_pass_39 : decode cX1_pass 39 = .ok (.getfield 16, 3) := by decide +kernel
theorem dX1_pass_42 : decode cX1_pass 42 = .ok (.iload_n 1, 1) := by decide +kernel
theorem dX1_pass_43 : decode cX1_pass 43 = .ok (.iaload, 1) := by decide +kernel
theorem dX1_pass_44 : decode cX1_pass 44 = .ok (.iadd, 1) := by decide +kernel
theorem dX1_pass_45 : decode cX1_pass 45 = .ok (.iload_n 3, 1) := by decide +kernel
theorem dX1_pass_46 : decode cX1_pass 46 = .ok (.aload_n 0, 1) := by decide +kernel
theorem dX1_pass_47 : decode cX1_pass 47 = .ok (.getfield 19, 3) := by decide +kernel
theorem dX1_pass_50 : decode cX1_pass 50 = .ok (.iload_n 1, 1) := by decide +kernel
theorem dX1_pass_51 : decode cX1_pass 51 = .ok (.iaload, 1) := by decide +kernel
theorem dX1_pass_52 : decode cX1_pass 52 = .ok (.iadd, 1) := by decide +kernel
theorem dX1_pass_53 : decode cX1_pass 53 = .ok (.invokestatic 43, 3) := by decide +kernel
theorem dX1_pass_56 : decode cX1_pass 56 = .ok (.ifCond .eq 6, 3) := by decide +kernel
theorem dX1_pass_59 : decode cX1_pass 59 = .ok (.bipush (-2), 2) := by decide +kernel
theorem dX1_pass_61 : decode cX1_pass 61 = .ok (.ireturn, 1) := by decide +kernel
theorem dX1_pass_62 : decode cX1_pass 62 = .ok (.aload_n 0, 1) := by decide +kernel
theorem dX1_pass_63 : decode cX1_pass 63 = .ok (.getfield 22, 3) := by decide +kernel
theorem dX1_pass_66 : decode cX1_pass 66 = .ok (.iload 4, 2) := by decide +kernel
theorem dX1_pass_68 : decode cX1_pass 68 = .ok (.aload_n 0, 1) := by decide +kernel
theorem dX1_pass_69 : decode cX1_pass 69 = .ok (.getfield 13, 3) := by decide +kernel
theorem dX1_pass_72 : decode cX1_pass 72 = .ok (.iload_n 1, 1) := by decide +kernel
theorem dX1_pass_73 : decode cX1_pass 73 = .ok (.iaload, 1) := by decide +kernel
theorem dX1_pass_74 : decode cX1_pass 74 = .ok (.iastore, 1) := by decide +kernel
theorem dX1_pass_75 : decode cX1_pass 75 = .ok (.aload_n 0, 1) := by decide +kernel
theorem dX1_pass_76 : decode cX1_pass 76 = .ok (.getfield 25, 3) := by decide +kernel
theorem dX1_pass_79 : decode cX1_pass 79 = .ok (.iload 4, 2) := by decide +kernel
theorem dX1_pass_81 : decode cX1_pass 81 = .ok (.iload_n 2, 1) := by decide +kernel
theorem dX1_pass_82 : decode cX1_pass 82 = .ok (.aload_n 0, 1) := by decide +kernel
theorem dX1_pass_83 : decode cX1_pass 83 = .ok (.getfield 16, 3) := by decide +kernel
theorem dX1_pass_86 : decode cX1_pass 86 = .ok (.iload_n 1, 1) := by decide +kernel
theorem dX1_pass_87 : decode cX1_pass 87 = .ok (.iaload, 1) := by decide +kernel
theorem dX1_pass_88 : decode cX1_pass 88 = .ok (.iadd, 1) := by decide +kernel
theorem dX1_pass_89 : decode cX1_pass 89 = .ok (.iastore, 1) := by decide +kernel
theorem dX1_pass_90 : decode cX1_pass 90 = .ok (.aload_n 0, 1) := by decide +kernel
theorem dX1_pass_91 : decode cX1_pass 91 = .ok (.getfield 28, 3) := by decide +kernel
theorem dX1_pass_94 : decode cX1_pass 94 = .ok (.iload 4, 2) := by decide +kernel
theorem dX1_pass_96 : decode cX1_pass 96 = .ok (.iload_n 3, 1) := by decide +kernel
theorem dX1_pass_97 : decode cX1_pass 97 = .ok (.aload_n 0, 1) := by decide +kernel
theorem dX1_pass_98 : decode cX1_pass 98 = .ok (.getfield 19, 3) := by decide +kernel
theorem dX1_pass_101 : decode cX1_pass 101 = .ok (.iload_n 1, 1) := by decide +kernel
theorem dX1_pass_102 : decode cX1_pass 102 = .ok (.iaload, 1) := by decide +kernel
theorem dX1_pass_103 : decode cX1_pass 103 = .ok (.iadd, 1) := by decide +kernel
theorem dX1_pass_104 : decode cX1_pass 104 = .ok (.iastore, 1) := by decide +kernel
theorem dX1_pass_105 : decode cX1_pass 105 = .ok (.iconst 0, 1) := by decide +kernel
theorem dX1_pass_106 : decode cX1_pass 106 = .ok (.ireturn, 1) := by decide +kernel
abbrev cX1_possible : ByteArray := prog_3_method_15_code
def yX1_possible : MethodName := ⟨RX1, "possible", "(III)I"⟩
theorem dX1_possible_0 : decode cX1_possible 0 = .ok (.iload_n 1, 1) := by decide +kernel
theorem dX1_possible_1 : decode cX1_possible 1 = .ok (.invokestatic 35, 3) := by decide +kernel
theorem dX1_possible_4 : decode cX1_possible 4 = .ok (.ifCond .ne 11, 3) := by decide +kernel
theorem dX1_possible_7 : decode cX1_possible 7 = .ok (.iload_n 2, 1) := by decide +kernel
theorem dX1_possible_8 : decode cX1_possible 8 = .ok (.iload_n 3, 1) := by decide +kernel
theorem dX1_possible_9 : decode cX1_possible 9 = .ok (.invokestatic 43, 3) := by decide +kernel
theorem dX1_possible_12 : decode cX1_possible 12 = .ok (.ifCond .eq 5, 3) := by decide +kernel
theorem dX1_possible_15 : decode cX1_possible 15 = .ok (.iconst (-1), 1) := by decide +kernel
theorem dX1_possible_16 : decode cX1_possible 16 = .ok (.ireturn, 1) := by decide +kernel
theorem dX1_possible_17 : decode cX1_possible 17 = .ok (.aload_n 0, 1) := by decide +kernel
theorem dX1_possible_18 : decode cX1_possible 18 = .ok (.invokevirtual 64, 3) := by decide +kernel
theorem dX1_possible_21 : decode cX1_possible 21 = .ok (.aload_n 0, 1) := by decide +kernel
theorem dX1_possible_22 : decode cX1_possible 22 = .ok (.iload_n 1, 1) := by decide +kernel
theorem dX1_possible_23 : decode cX1_possible 23 = .ok (.iload_n 2, 1) := by decide +kernel
theorem dX1_possible_24 : decode cX1_possible 24 = .ok (.iload_n 3, 1) := by decide +kernel
theorem dX1_possible_25 : decode cX1_possible 25 = .ok (.iconst 0, 1) := by decide +kernel
theorem dX1_possible_26 : decode cX1_possible 26 = .ok (.invokevirtual 67, 3) := by decide +kernel
theorem dX1_possible_29 : decode cX1_possible 29 = .ok (.ifCond .eq 7, 3) := by decide +kernel
theorem dX1_possible_32 : decode cX1_possible 32 = .ok (.iconst 1, 1) := by decide +kernel
theorem dX1_possible_33 : decode cX1_possible 33 = .ok (.goto 4, 3) := by decide +kernel
theorem dX1_possible_36 : decode cX1_possible 36 = .ok (.iconst 0, 1) := by decide +kernel
theorem dX1_possible_37 : decode cX1_possible 37 = .ok (.ireturn, 1) := by decide +kernel
abbrev cX1_spreadTokens : ByteArray := prog_3_method_13_code
def yX1_spreadTokens : MethodName := ⟨RX1, "spreadTokens", "()V"⟩
theorem dX1_spreadTokens_0 : decode cX1_spreadTokens 0 = .ok (.aload_n 0, 1) := by decide +kernel
theorem dX1_spreadTokens_1 : decode cX1_spreadTokens 1 = .ok (.invokevirtual 54, 3) := by decide +kernel
theorem dX1_spreadTokens_4 : decode cX1_spreadTokens 4 = .ok (.iconst 0, 1) := by decide +kernel
theorem dX1_spreadTokens_5 : decode cX1_spreadTokens 5 = .ok (.istore_n 1, 1) := by decide +kernel
theorem dX1_spreadTokens_6 : decode cX1_spreadTokens 6 = .ok (.iload_n 1, 1) := by decide +kernel
theorem dX1_spreadTokens_7 : decode cX1_spreadTokens 7 = .ok (.aload_n 0, 1) := by decide +kernel
theorem dX1_spreadTokens_8 : decode cX1_spreadTokens 8 = .ok (.getfield 47, 3) := by decide +kernel
theorem dX1_spreadTokens_11 : decode cX1_spreadTokens 11 = .ok (.if_icmp .ge 31, 3) := by decide +kernel
theorem dX1_spreadTokens_14 : decode cX1_spreadTokens 14 = .ok (.aload_n 0, 1) := by decide +kernel
theorem dX1_spreadTokens_15 : decode cX1_spreadTokens 15 = .ok (.aload_n 0, 1) := by decide +kernel
theorem dX1_spreadTokens_16 : decode cX1_spreadTokens 16 = .ok (.getfield 22, 3) := by decide +kernel
theorem dX1_spreadTokens_19 : decode cX1_spreadTokens 19 = .ok (.iload_n 1, 1) := by decide +kernel
theorem dX1_spreadTokens_20 : decode cX1_spreadTokens 20 = .ok (.iaload, 1) := by decide +kernel
theorem dX1_spreadTokens_21 : decode cX1_spreadTokens 21 = .ok (.aload_n 0, 1) := by decide +kernel
theorem dX1_spreadTokens_22 : decode cX1_spreadTokens 22 = .ok (.getfield 25, 3) := by decide +kernel
theorem dX1_spreadTokens_25 : decode cX1_spreadTokens 25 = .ok (.iload_n 1, 1) := by decide +kernel
theorem dX1_spreadTokens_26 : decode cX1_spreadTokens 26 = .ok (.iaload, 1) := by decide +kernel
theorem dX1_spreadTokens_27 : decode cX1_spreadTokens 27 = .ok (.aload_n 0, 1) := by decide +kernel
theorem dX1_spreadTokens_28 : decode cX1_spreadTokens 28 = .ok (.getfield 28, 3) := by decide +kernel
theorem dX1_spreadTokens_31 : decode cX1_spreadTokens 31 = .ok (.iload_n 1, 1) := by decide +kernel
theorem dX1_spreadTokens_32 : decode cX1_spreadTokens 32 = .ok (.iaload, 1) := by decide +kernel
theorem dX1_spreadTokens_33 : decode cX1_spreadTokens 33 = .ok (.invokevirtual 57, 3) := by decide +kernel
theorem dX1_spreadTokens_36 : decode cX1_spreadTokens 36 = .ok (.iinc 1 1, 3) := by decide +kernel
theorem dX1_spreadTokens_39 : decode cX1_spreadTokens 39 = .ok (.goto (-33), 3) := by decide +kernel
theorem dX1_spreadTokens_42 : decode cX1_spreadTokens 42 = .ok (.aload_n 0, 1) := by decide +kernel
theorem dX1_spreadTokens_43 : decode cX1_spreadTokens 43 = .ok (.invokevirtual 61, 3) := by decide +kernel
theorem dX1_spreadTokens_46 : decode cX1_spreadTokens 46 = .ok (.return_, 1) := by decide +kernel
abbrev cX1_empty : ByteArray := prog_3_method_10_code
def yX1_empty : MethodName := ⟨RX1, "empty", "()V"⟩
theorem dX1_empty_0 : decode cX1_empty 0 = .ok (.iconst 0, 1) := by decide +kernel
theorem dX1_empty_1 : decode cX1_empty 1 = .ok (.istore_n 1, 1) := by decide +kernel
theorem dX1_empty_2 : decode cX1_empty 2 = .ok (.iload_n 1, 1) := by decide +kernel
theorem dX1_empty_3 : decode cX1_empty 3 = .ok (.sipush 2527, 3) := by decide +kernel
theorem dX1_empty_6 : decode cX1_empty 6 = .ok (.if_icmp .ge 16, 3) := by decide +kernel
theorem dX1_empty_9 : decode cX1_empty 9 = .ok (.aload_n 0, 1) := by decide +kernel
theorem dX1_empty_10 : decode cX1_empty 10 = .ok (.getfield 31, 3) := by decide +kernel
theorem dX1_empty_13 : decode cX1_empty 13 = .ok (.iload_n 1, 1) := by decide +kernel
theorem dX1_empty_14 : decode cX1_empty 14 = .ok (.iconst 0, 1) := by decide +kernel
theorem dX1_empty_15 : decode cX1_empty 15 = .ok (.bastore, 1) := by decide +kernel
theorem dX1_empty_16 : decode cX1_empty 16 = .ok (.iinc 1 1, 3) := by decide +kernel
theorem dX1_empty_19 : decode cX1_empty 19 = .ok (.goto (-17), 3) := by decide +kernel
theorem dX1_empty_22 : decode cX1_empty 22 = .ok (.return_, 1) := by decide +kernel
abbrev cX1_set : ByteArray := prog_3_method_11_code
def yX1_set : MethodName := ⟨RX1, "set", "(III)V"⟩
theorem dX1_set_0 : decode cX1_set 0 = .ok (.aload_n 0, 1) := by decide +kernel
theorem dX1_set_1 : decode cX1_set 1 = .ok (.getfield 31, 3) := by decide +kernel
theorem dX1_set_4 : decode cX1_set 4 = .ok (.sipush 361, 3) := by decide +kernel
theorem dX1_set_7 : decode cX1_set 7 = .ok (.iload_n 1, 1) := by decide +kernel
theorem dX1_set_8 : decode cX1_set 8 = .ok (.imul, 1) := by decide +kernel
theorem dX1_set_9 : decode cX1_set 9 = .ok (.bipush 19, 2) := by decide +kernel
theorem dX1_set_11 : decode cX1_set 11 = .ok (.iload_n 2, 1) := by decide +kernel
theorem dX1_set_12 : decode cX1_set 12 = .ok (.imul, 1) := by decide +kernel
theorem dX1_set_13 : decode cX1_set 13 = .ok (.iadd, 1) := by decide +kernel
theorem dX1_set_14 : decode cX1_set 14 = .ok (.iload_n 3, 1) := by decide +kernel
theorem dX1_set_15 : decode cX1_set 15 = .ok (.iadd, 1) := by decide +kernel
theorem dX1_set_16 : decode cX1_set 16 = .ok (.iconst 1, 1) := by decide +kernel
theorem dX1_set_17 : decode cX1_set 17 = .ok (.bastore, 1) := by decide +kernel
theorem dX1_set_18 : decode cX1_set 18 = .ok (.return_, 1) := by decide +kernel
abbrev cX1_spread : ByteArray := prog_3_method_12_code
def yX1_spread : MethodName := ⟨RX1, "spread", "()V"⟩
theorem dX1_spread_0 : decode cX1_spread 0 = .ok (.iconst 1, 1) := by decide +kernel
theorem dX1_spread_1 : decode cX1_spread 1 = .ok (.istore_n 1, 1) := by decide +kernel
theorem dX1_spread_2 : decode cX1_spread 2 = .ok (.iload_n 1, 1) := by decide +kernel
theorem dX1_spread_3 : decode cX1_spread 3 = .ok (.ifCond .eq 170, 3) := by decide +kernel
theorem dX1_spread_6 : decode cX1_spread 6 = .ok (.iconst 0, 1) := by decide +kernel
theorem dX1_spread_7 : decode cX1_spread 7 = .ok (.istore_n 1, 1) := by decide +kernel
theorem dX1_spread_8 : decode cX1_spread 8 = .ok (.iconst 0, 1) := by decide +kernel
theorem dX1_spread_9 : decode cX1_spread 9 = .ok (.istore_n 2, 1) := by decide +kernel
theorem dX1_spread_10 : decode cX1_spread 10 = .ok (.iload_n 2, 1) := by decide +kernel
theorem dX1_spread_11 : decode cX1_spread 11 = .ok (.sipush 4332, 3) := by decide +kernel
theorem dX1_spread_14 : decode cX1_spread 14 = .ok (.if_icmp .ge 156, 3) := by decide +kernel
theorem dX1_spread_17 : decode cX1_spread 17 = .ok (.iload_n 2, 1) := by decide +kernel
theorem dX1_spread_18 : decode cX1_spread 18 = .ok (.sipush 361, 3) := by decide +kernel
theorem dX1_spread_21 : decode cX1_spread 21 = .ok (.idiv, 1) := by decide +kernel
theorem dX1_spread_22 : decode cX1_spread 22 = .ok (.istore_n 3, 1) := by decide +kernel
theorem dX1_spread_23 : decode cX1_spread 23 = .ok (.iload_n 2, 1) := by decide +kernel
theorem dX1_spread_24 : decode cX1_spread 24 = .ok (.bipush 19, 2) := by decide +kernel
theorem dX1_spread_26 : decode cX1_spread 26 = .ok (.idiv, 1) := by decide +kernel
theorem dX1_spread_27 : decode cX1_spread 27 = .ok (.bipush 19, 2) := by decide +kernel
theorem dX1_spread_29 : decode cX1_spread 29 = .ok (.irem, 1) := by decide +kernel
theorem dX1_spread_30 : decode cX1_spread 30 = .ok (.istore 4, 2) := by decide +kernel
theorem dX1_spread_32 : decode cX1_spread 32 = .ok (.iload_n 2, 1) := by decide +kernel
theorem dX1_spread_33 : decode cX1_spread 33 = .ok (.bipush 19, 2) := by decide +kernel
theorem dX1_spread_35 : decode cX1_spread 35 = .ok (.irem, 1) := by decide +kernel
theorem dX1_spread_36 : decode cX1_spread 36 = .ok (.istore 5, 2) := by decide +kernel
theorem dX1_spread_38 : decode cX1_spread 38 = .ok (.iload_n 3, 1) := by decide +kernel
theorem dX1_spread_39 : decode cX1_spread 39 = .ok (.aload_n 0, 1) := by decide +kernel
theorem dX1_spread_40 : decode cX1_spread 40 = .ok (.getfield 39, 3) := by decide +kernel
theorem dX1_spread_43 : decode cX1_spread 43 = .ok (.if_icmp .ge 121, 3) := by decide +kernel
theorem dX1_spread_46 : decode cX1_spread 46 = .ok (.aload_n 0, 1) := by decide +kernel
theorem dX1_spread_47 : decode cX1_spread 47 = .ok (.getfield 31, 3) := by decide +kernel
theorem dX1_spread_50 : decode cX1_spread 50 = .ok (.sipush 361, 3) := by decide +kernel
theorem dX1_spread_53 : decode cX1_spread 53 = .ok (.aload_n 0, 1) := by decide +kernel
theorem dX1_spread_54 : decode cX1_spread 54 = .ok (.getfield 7, 3) := by decide +kernel
theorem dX1_spread_57 : decode cX1_spread 57 = .ok (.iload_n 3, 1) := by decide +kernel
theorem dX1_spread_58 : decode cX1_spread 58 = .ok (.iaload, 1) := by decide +kernel
theorem dX1_spread_59 : decode cX1_spread 59 = .ok (.imul, 1) := by decide +kernel
theorem dX1_spread_60 : decode cX1_spread 60 = .ok (.bipush 19, 2) := by decide +kernel
theorem dX1_spread_62 : decode cX1_spread 62 = .ok (.iload 4, 2) := by decide +kernel
theorem dX1_spread_64 : decode cX1_spread 64 = .ok (.imul, 1) := by decide +kernel
theorem dX1_spread_65 : decode cX1_spread 65 = .ok (.iadd, 1) := by decide +kernel
theorem dX1_spread_66 : decode cX1_spread 66 = .ok (.iload 5, 2) := by decide +kernel
theorem dX1_spread_68 : decode cX1_spread 68 = .ok (.iadd, 1) := by decide +kernel
theorem dX1_spread_69 : decode cX1_spread 69 = .ok (.baload, 1) := by decide +kernel
theorem dX1_spread_70 : decode cX1_spread 70 = .ok (.ifCond .eq 94, 3) := by decide +kernel
theorem dX1_spread_73 : decode cX1_spread 73 = .ok (.iload 4, 2) := by decide +kernel
theorem dX1_spread_75 : decode cX1_spread 75 = .ok (.aload_n 0, 1) := by decide +kernel
theorem dX1_spread_76 : decode cX1_spread 76 = .ok (.getfield 16, 3) := by decide +kernel
theorem dX1_spread_79 : decode cX1_spread 79 = .ok (.iload_n 3, 1) := by decide +kernel
theorem dX1_spread_80 : decode cX1_spread 80 = .ok (.iaload, 1) := by decide +kernel
theorem dX1_spread_81 : decode cX1_spread 81 = .ok (.iadd, 1) := by decide +kernel
theorem dX1_spread_82 : decode cX1_spread 82 = .ok (.bipush 19, 2) := by decide +kernel
theorem dX1_spread_84 : decode cX1_spread 84 = .ok (.if_icmp .ge 80, 3) := by decide +kernel
theorem dX1_spread_87 : decode cX1_spread 87 = .ok (.iload 5, 2) := by decide +kernel
theorem dX1_spread_89 : decode cX1_spread 89 = .ok (.aload_n 0, 1) := by decide +kernel
theorem dX1_spread_90 : decode cX1_spread 90 = .ok (.getfield 19, 3) := by decide +kernel
theorem dX1_spread_93 : decode cX1_spread 93 = .ok (.iload_n 3, 1) := by decide +kernel
theorem dX1_spread_94 : decode cX1_spread 94 = .ok (.iaload, 1) := by decide +kernel
theorem dX1_spread_95 : decode cX1_spread 95 = .ok (.iadd, 1) := by decide +kernel
theorem dX1_spread_96 : decode cX1_spread 96 = .ok (.bipush 19, 2) := by decide +kernel
theorem dX1_spread_98 : decode cX1_spread 98 = .ok (.if_icmp .ge 66, 3) := by decide +kernel
theorem dX1_spread_101 : decode cX1_spread 101 = .ok (.sipush 361, 3) := by decide +kernel
theorem dX1_spread_104 : decode cX1_spread 104 = .ok (.aload_n 0, 1) := by decide +kernel
theorem dX1_spread_105 : decode cX1_spread 105 = .ok (.getfield 13, 3) := by decide +kernel
theorem dX1_spread_108 : decode cX1_spread 108 = .ok (.iload_n 3, 1) := by decide +kernel
theorem dX1_spread_109 : decode cX1_spread 109 = .ok (.iaload, 1) := by decide +kernel
theorem dX1_spread_110 : decode cX1_spread 110 = .ok (.imul, 1) := by decide +kernel
theorem dX1_spread_111 : decode cX1_spread 111 = .ok (.bipush 19, 2) := by decide +kernel
theorem dX1_spread_113 : decode cX1_spread 113 = .ok (.iload 4, 2) := by decide +kernel
theorem dX1_spread_115 : decode cX1_spread 115 = .ok (.aload_n 0, 1) := by decide +kernel
theorem dX1_spread_116 : decode cX1_spread 116 = .ok (.getfield 16, 3) := by decide +kernel
theorem dX1_spread_119 : decode cX1_spread 119 = .ok (.iload_n 3, 1) := by decide +kernel
theorem dX1_spread_120 : decode cX1_spread 120 = .ok (.iaload, 1) := by decide +kernel
theorem dX1_spread_121 : decode cX1_spread 121 = .ok (.iadd, 1) := by decide +kernel
theorem dX1_spread_122 : decode cX1_spread 122 = .ok (.imul, 1) := by decide +kernel
theorem dX1_spread_123 : decode cX1_spread 123 = .ok (.iadd, 1) := by decide +kernel
theorem dX1_spread_124 : decode cX1_spread 124 = .ok (.iload 5, 2) := by decide +kernel
theorem dX1_spread_126 : decode cX1_spread 126 = .ok (.iadd, 1) := by decide +kernel
theorem dX1_spread_127 : decode cX1_spread 127 = .ok (.aload_n 0, 1) := by decide +kernel
theorem dX1_spread_128 : decode cX1_spread 128 = .ok (.getfield 19, 3) := by decide +kernel
theorem dX1_spread_131 : decode cX1_spread 131 = .ok (.iload_n 3, 1) := by decide +kernel
theorem dX1_spread_132 : decode cX1_spread 132 = .ok (.iaload, 1) := by decide +kernel
theorem dX1_spread_133 : decode cX1_spread 133 = .ok (.iadd, 1) := by decide +kernel
theorem dX1_spread_134 : decode cX1_spread 134 = .ok (.istore 6, 2) := by decide +kernel
theorem dX1_spread_136 : decode cX1_spread 136 = .ok (.iload_n 1, 1) := by decide +kernel
theorem dX1_spread_137 : decode cX1_spread 137 = .ok (.ifCond .ne 13, 3) := by decide +kernel
theorem dX1_spread_140 : decode cX1_spread 140 = .ok (.aload_n 0, 1) := by decide +kernel
theorem dX1_spread_141 : decode cX1_spread 141 = .ok (.getfield 31, 3) := by decide +kernel
theorem dX1_spread_144 : decode cX1_spread 144 = .ok (.iload 6, 2) := by decide +kernel
theorem dX1_spread_146 : decode cX1_spread 146 = .ok (.baload, 1) := by decide +kernel
theorem dX1_spread_147 : decode cX1_spread 147 = .ok (.ifCond .ne 7, 3) := by decide +kernel
theorem dX1_spread_150 : decode cX1_spread 150 = .ok (.iconst 1, 1) := by decide +kernel
theorem dX1_spread_151 : decode cX1_spread 151 = .ok (.goto 4, 3) := by decide +kernel
theorem dX1_spread_154 : decode cX1_spread 154 = .ok (.iconst 0, 1) := by decide +kernel
theorem dX1_spread_155 : decode cX1_spread 155 = .ok (.istore_n 1, 1) := by decide +kernel
theorem dX1_spread_156 : decode cX1_spread 156 = .ok (.aload_n 0, 1) := by decide +kernel
theorem dX1_spread_157 : decode cX1_spread 157 = .ok (.getfield 31, 3) := by decide +kernel
theorem dX1_spread_160 : decode cX1_spread 160 = .ok (.iload 6, 2) := by decide +kernel
theorem dX1_spread_162 : decode cX1_spread 162 = .ok (.iconst 1, 1) := by decide +kernel
theorem dX1_spread_163 : decode cX1_spread 163 = .ok (.bastore, 1) := by decide +kernel
theorem dX1_spread_164 : decode cX1_spread 164 = .ok (.iinc 2 1, 3) := by decide +kernel
theorem dX1_spread_167 : decode cX1_spread 167 = .ok (.goto (-157), 3) := by decide +kernel
theorem dX1_spread_170 : decode cX1_spread 170 = .ok (.goto (-168), 3) := by decide +kernel
theorem dX1_spread_173 : decode cX1_spread 173 = .ok (.return_, 1) := by decide +kernel
abbrev cX1_below : ByteArray := prog_3_method_14_code
def yX1_below : MethodName := ⟨RX1, "below", "(IIIZ)Z"⟩
theorem dX1_below_0 : decode cX1_below 0 = .ok (.iconst 0, 1) := by decide +kernel
theorem dX1_below_1 : decode cX1_below 1 = .ok (.istore 5, 2) := by decide +kernel
theorem dX1_below_3 : decode cX1_below 3 = .ok (.iload 5, 2) := by decide +kernel
theorem dX1_below_5 : decode cX1_below 5 = .ok (.iload_n 2, 1) := by decide +kernel
theorem dX1_below_6 : decode cX1_below 6 = .ok (.if_icmp .gt 65, 3) := by decide +kernel
theorem dX1_below_9 : decode cX1_below 9 = .ok (.iconst 0, 1) := by decide +kernel
theorem dX1_below_10 : decode cX1_below 10 = .ok (.istore 6, 2) := by decide +kernel
theorem dX1_below_12 : decode cX1_below 12 = .ok (.iload 6, 2) := by decide +kernel
theorem dX1_below_14 : decode cX1_below 14 = .ok (.iload_n 3, 1) := by decide +kernel
theorem dX1_below_15 : decode cX1_below 15 = .ok (.if_icmp .gt 50, 3) := by decide +kernel
theorem dX1_below_18 : decode cX1_below 18 = .ok (.aload_n 0, 1) := by decide +kernel
theorem dX1_below_19 : decode cX1_below 19 = .ok (.getfield 31, 3) := by decide +kernel
theorem dX1_below_22 : decode cX1_below 22 = .ok (.sipush 361, 3) := by decide +kernel
theorem dX1_below_25 : decode cX1_below 25 = .ok (.iload_n 1, 1) := by decide +kernel
theorem dX1_below_26 : decode cX1_below 26 = .ok (.imul, 1) := by decide +kernel
theorem dX1_below_27 : decode cX1_below 27 = .ok (.bipush 19, 2) := by decide +kernel
theorem dX1_below_29 : decode cX1_below 29 = .ok (.iload 5, 2) := by decide +kernel
theorem dX1_below_31 : decode cX1_below 31 = .ok (.imul, 1) := by decide +kernel
theorem dX1_below_32 : decode cX1_below 32 = .ok (.iadd, 1) := by decide +kernel
theorem dX1_below_33 : decode cX1_below 33 = .ok (.iload 6, 2) := by decide +kernel
theorem dX1_below_35 : decode cX1_below 35 = .ok (.iadd, 1) := by decide +kernel
theorem dX1_below_36 : decode cX1_below 36 = .ok (.baload, 1) := by decide +kernel
theorem dX1_below_37 : decode cX1_below 37 = .ok (.ifCond .eq 22, 3) := by decide +kernel
theorem dX1_below_40 : decode cX1_below 40 = .ok (.iload 4, 2) := by decide +kernel
theorem dX1_below_42 : decode cX1_below 42 = .ok (.ifCond .eq 15, 3) := by decide +kernel
theorem dX1_below_45 : decode cX1_below 45 = .ok (.iload 5, 2) := by decide +kernel
theorem dX1_below_47 : decode cX1_below 47 = .ok (.iload_n 2, 1) := by decide +kernel
theorem dX1_below_48 : decode cX1_below 48 = .ok (.if_icmp .ne 9, 3) := by decide +kernel
theorem dX1_below_51 : decode cX1_below 51 = .ok (.iload 6, 2) := by decide +kernel
theorem dX1_below_53 : decode cX1_below 53 = .ok (.iload_n 3, 1) := by decide +kernel
theorem dX1_below_54 : decode cX1_below 54 = .ok (.if_icmp .eq 5, 3) := by decide +kernel
theorem dX1_below_57 : decode cX1_below 57 = .ok (.iconst 1, 1) := by decide +kernel
theorem dX1_below_58 : decode cX1_below 58 = .ok (.ireturn, 1) := by decide +kernel
theorem dX1_below_59 : decode cX1_below 59 = .ok (.iinc 6 1, 3) := by decide +kernel
theorem dX1_below_62 : decode cX1_below 62 = .ok (.goto (-50), 3) := by decide +kernel
theorem dX1_below_65 : decode cX1_below 65 = .ok (.iinc 5 1, 3) := by decide +kernel
theorem dX1_below_68 : decode cX1_below 68 = .ok (.goto (-65), 3) := by decide +kernel
theorem dX1_below_71 : decode cX1_below 71 = .ok (.iconst 0, 1) := by decide +kernel
theorem dX1_below_72 : decode cX1_below 72 = .ok (.ireturn, 1) := by decide +kernel
abbrev cX1_ready : ByteArray := prog_3_method_16_code
def yX1_ready : MethodName := ⟨RX1, "ready", "(III)I"⟩
theorem dX1_ready_0 : decode cX1_ready 0 = .ok (.iload_n 1, 1) := by decide +kernel
theorem dX1_ready_1 : decode cX1_ready 1 = .ok (.invokestatic 35, 3) := by decide +kernel
theorem dX1_ready_4 : decode cX1_ready 4 = .ok (.ifCond .ne 11, 3) := by decide +kernel
theorem dX1_ready_7 : decode cX1_ready 7 = .ok (.iload_n 2, 1) := by decide +kernel
theorem dX1_ready_8 : decode cX1_ready 8 = .ok (.iload_n 3, 1) := by decide +kernel
theorem dX1_ready_9 : decode cX1_ready 9 = .ok (.invokestatic 43, 3) := by decide +kernel
theorem dX1_ready_12 : decode cX1_ready 12 = .ok (.ifCond .eq 5, 3) := by decide +kernel
theorem dX1_ready_15 : decode cX1_ready 15 = .ok (.iconst (-1), 1) := by decide +kernel
theorem dX1_ready_16 : decode cX1_ready 16 = .ok (.ireturn, 1) := by decide +kernel
theorem dX1_ready_17 : decode cX1_ready 17 = .ok (.aload_n 0, 1) := by decide +kernel
theorem dX1_ready_18 : decode cX1_ready 18 = .ok (.iload_n 1, 1) := by decide +kernel
theorem dX1_ready_19 : decode cX1_ready 19 = .ok (.iload_n 2, 1) := by decide +kernel
theorem dX1_ready_20 : decode cX1_ready 20 = .ok (.iload_n 3, 1) := by decide +kernel
theorem dX1_ready_21 : decode cX1_ready 21 = .ok (.invokevirtual 50, 3) := by decide +kernel
theorem dX1_ready_24 : decode cX1_ready 24 = .ok (.ifCond .ge 5, 3) := by decide +kernel
theorem dX1_ready_27 : decode cX1_ready 27 = .ok (.iconst 0, 1) := by decide +kernel
theorem dX1_ready_28 : decode cX1_ready 28 = .ok (.ireturn, 1) := by decide +kernel
theorem dX1_ready_29 : decode cX1_ready 29 = .ok (.aload_n 0, 1) := by decide +kernel
theorem dX1_ready_30 : decode cX1_ready 30 = .ok (.invokevirtual 54, 3) := by decide +kernel
theorem dX1_ready_33 : decode cX1_ready 33 = .ok (.iconst 0, 1) := by decide +kernel
theorem dX1_ready_34 : decode cX1_ready 34 = .ok (.istore 4, 2) := by decide +kernel
theorem dX1_ready_36 : decode cX1_ready 36 = .ok (.iload 4, 2) := by decide +kernel
theorem dX1_ready_38 : decode cX1_ready 38 = .ok (.aload_n 0, 1) := by decide +kernel
theorem dX1_ready_39 : decode cX1_ready 39 = .ok (.getfield 47, 3) := by decide +kernel
theorem dX1_ready_42 : decode cX1_ready 42 = .ok (.if_icmp .ge 67, 3) := by decide +kernel
theorem dX1_ready_45 : decode cX1_ready 45 = .ok (.aload_n 0, 1) := by decide +kernel
theorem dX1_ready_46 : decode cX1_ready 46 = .ok (.getfield 22, 3) := by decide +kernel
theorem dX1_ready_49 : decode cX1_ready 49 = .ok (.iload 4, 2) := by decide +kernel
theorem dX1_ready_51 : decode cX1_ready 51 = .ok (.iaload, 1) := by decide +kernel
theorem dX1_ready_52 : decode cX1_ready 52 = .ok (.iload_n 1, 1) := by decide +kernel
theorem dX1_ready_53 : decode cX1_ready 53 = .ok (.if_icmp .ne 25, 3) := by decide +kernel
theorem dX1_ready_56 : decode cX1_ready 56 = .ok (.aload_n 0, 1) := by decide +kernel
theorem dX1_ready_57 : decode cX1_ready 57 = .ok (.getfield 25, 3) := by decide +kernel
theorem dX1_ready_60 : decode cX1_ready 60 = .ok (.iload 4, 2) := by decide +kernel
theorem dX1_ready_62 : decode cX1_ready 62 = .ok (.iaload, 1) := by decide +kernel
theorem dX1_ready_63 : decode cX1_ready 63 = .ok (.iload_n 2, 1) := by decide +kernel
theorem dX1_ready_64 : decode cX1_ready 64 = .ok (.if_icmp .ne 14, 3) := by decide +kernel
theorem dX1_ready_67 : decode cX1_ready 67 = .ok (.aload_n 0, 1) := by decide +kernel
theorem dX1_ready_68 : decode cX1_ready 68 = .ok (.getfield 28, 3) := by decide +kernel
theorem dX1_ready_71 : decode cX1_ready 71 = .ok (.iload 4, 2) := by decide +kernel
theorem dX1_ready_73 : decode cX1_ready 73 = .ok (.iaload, 1) := by decide +kernel
theorem dX1_ready_74 : decode cX1_ready 74 = .ok (.iload_n 3, 1) := by decide +kernel
theorem dX1_ready_75 : decode cX1_ready 75 = .ok (.if_icmp .eq 28, 3) := by decide +kernel
theorem dX1_ready_78 : decode cX1_ready 78 = .ok (.aload_n 0, 1) := by decide +kernel
theorem dX1_ready_79 : decode cX1_ready 79 = .ok (.aload_n 0, 1) := by decide +kernel
theorem dX1_ready_80 : decode cX1_ready 80 = .ok (.getfield 22, 3) := by decide +kernel
theorem dX1_ready_83 : decode cX1_ready 83 = .ok (.iload 4, 2) := by decide +kernel
theorem dX1_ready_85 : decode cX1_ready 85 = .ok (.iaload, 1) := by decide +kernel
theorem dX1_ready_86 : decode cX1_ready 86 = .ok (.aload_n 0, 1) := by decide +kernel
theorem dX1_ready_87 : decode cX1_ready 87 = .ok (.getfield 25, 3) := by decide +kernel
theorem dX1_ready_90 : decode cX1_ready 90 = .ok (.iload 4, 2) := by decide +kernel
theorem dX1_ready_92 : decode cX1_ready 92 = .ok (.iaload, 1) := by decide +kernel
theorem dX1_ready_93 : decode cX1_ready 93 = .ok (.aload_n 0, 1) := by decide +kernel
theorem dX1_ready_94 : decode cX1_ready 94 = .ok (.getfield 28, 3) := by decide +kernel
theorem dX1_ready_97 : decode cX1_ready 97 = .ok (.iload 4, 2) := by decide +kernel
theorem dX1_ready_99 : decode cX1_ready 99 = .ok (.iaload, 1) := by decide +kernel
theorem dX1_ready_100 : decode cX1_ready 100 = .ok (.invokevirtual 57, 3) := by decide +kernel
theorem dX1_ready_103 : decode cX1_ready 103 = .ok (.iinc 4 1, 3) := by decide +kernel
theorem dX1_ready_106 : decode cX1_ready 106 = .ok (.goto (-70), 3) := by decide +kernel
theorem dX1_ready_109 : decode cX1_ready 109 = .ok (.aload_n 0, 1) := by decide +kernel
theorem dX1_ready_110 : decode cX1_ready 110 = .ok (.invokevirtual 61, 3) := by decide +kernel
theorem dX1_ready_113 : decode cX1_ready 113 = .ok (.aload_n 0, 1) := by decide +kernel
theorem dX1_ready_114 : decode cX1_ready 114 = .ok (.iload_n 1, 1) := by decide +kernel
theorem dX1_ready_115 : decode cX1_ready 115 = .ok (.iload_n 2, 1) := by decide +kernel
theorem dX1_ready_116 : decode cX1_ready 116 = .ok (.iload_n 3, 1) := by decide +kernel
theorem dX1_ready_117 : decode cX1_ready 117 = .ok (.iconst 0, 1) := by decide +kernel
theorem dX1_ready_118 : decode cX1_ready 118 = .ok (.invokevirtual 67, 3) := by decide +kernel
theorem dX1_ready_121 : decode cX1_ready 121 = .ok (.ifCond .eq 7, 3) := by decide +kernel
theorem dX1_ready_124 : decode cX1_ready 124 = .ok (.iconst 0, 1) := by decide +kernel
theorem dX1_ready_125 : decode cX1_ready 125 = .ok (.goto 4, 3) := by decide +kernel
theorem dX1_ready_128 : decode cX1_ready 128 = .ok (.iconst 1, 1) := by decide +kernel
theorem dX1_ready_129 : decode cX1_ready 129 = .ok (.ireturn, 1) := by decide +kernel
abbrev cX1_front : ByteArray := prog_3_method_18_code
def yX1_front : MethodName := ⟨RX1, "front", "(I)I"⟩
theorem dX1_front_0 : decode cX1_front 0 = .ok (.iload_n 1, 1) := by decide +kernel
theorem dX1_front_1 : decode cX1_front 1 = .ok (.invokestatic 35, 3) := by decide +kernel
theorem dX1_front_4 : decode cX1_front 4 = .ok (.ifCond .eq 5, 3) := by decide +kernel
theorem dX1_front_7 : decode cX1_front 7 = .ok (.iconst (-1), 1) := by decide +kernel
theorem dX1_front_8 : decode cX1_front 8 = .ok (.ireturn, 1) := by decide +kernel
theorem dX1_front_9 : decode cX1_front 9 = .ok (.aload_n 0, 1) := by decide +kernel
theorem dX1_front_10 : decode cX1_front 10 = .ok (.invokevirtual 64, 3) := by decide +kernel
theorem dX1_front_13 : decode cX1_front 13 = .ok (.iconst 0, 1) := by decide +kernel
theorem dX1_front_14 : decode cX1_front 14 = .ok (.istore_n 2, 1) := by decide +kernel
theorem dX1_front_15 : decode cX1_front 15 = .ok (.iconst 0, 1) := by decide +kernel
theorem dX1_front_16 : decode cX1_front 16 = .ok (.istore_n 3, 1) := by decide +kernel
theorem dX1_front_17 : decode cX1_front 17 = .ok (.iload_n 3, 1) := by decide +kernel
theorem dX1_front_18 : decode cX1_front 18 = .ok (.sipush 256, 3) := by decide +kernel
theorem dX1_front_21 : decode cX1_front 21 = .ok (.if_icmp .ge 28, 3) := by decide +kernel
theorem dX1_front_24 : decode cX1_front 24 = .ok (.aload_n 0, 1) := by decide +kernel
theorem dX1_front_25 : decode cX1_front 25 = .ok (.iload_n 1, 1) := by decide +kernel
theorem dX1_front_26 : decode cX1_front 26 = .ok (.iload_n 3, 1) := by decide +kernel
theorem dX1_front_27 : decode cX1_front 27 = .ok (.bipush 16, 2) := by decide +kernel
theorem dX1_front_29 : decode cX1_front 29 = .ok (.idiv, 1) := by decide +kernel
theorem dX1_front_30 : decode cX1_front 30 = .ok (.iload_n 3, 1) := by decide +kernel
theorem dX1_front_31 : decode cX1_front 31 = .ok (.bipush 16, 2) := by decide +kernel
theorem dX1_front_33 : decode cX1_front 33 = .ok (.irem, 1) := by decide +kernel
theorem dX1_front_34 : decode cX1_front 34 = .ok (.invokevirtual 71, 3) := by decide +kernel
theorem dX1_front_37 : decode cX1_front 37 = .ok (.ifCond .eq 6, 3) := by decide +kernel
theorem dX1_front_40 : decode cX1_front 40 = .ok (.iinc 2 1, 3) := by decide +kernel
theorem dX1_front_43 : decode cX1_front 43 = .ok (.iinc 3 1, 3) := by decide +kernel
theorem dX1_front_46 : decode cX1_front 46 = .ok (.goto (-29), 3) := by decide +kernel
theorem dX1_front_49 : decode cX1_front 49 = .ok (.iload_n 2, 1) := by decide +kernel
theorem dX1_front_50 : decode cX1_front 50 = .ok (.ireturn, 1) := by decide +kernel
abbrev cX1_inFront : ByteArray := prog_3_method_17_code
def yX1_inFront : MethodName := ⟨RX1, "inFront", "(III)Z"⟩
theorem dX1_inFront_0 : decode cX1_inFront 0 = .ok (.aload_n 0, 1) := by decide +kernel
theorem dX1_inFront_1 : decode cX1_inFront 1 = .ok (.getfield 31, 3) := by decide +kernel
theorem dX1_inFront_4 : decode cX1_inFront 4 = .ok (.sipush 361, 3) := by decide +kernel
theorem dX1_inFront_7 : decode cX1_inFront 7 = .ok (.iload_n 1, 1) := by decide +kernel
theorem dX1_inFront_8 : decode cX1_inFront 8 = .ok (.imul, 1) := by decide +kernel
theorem dX1_inFront_9 : decode cX1_inFront 9 = .ok (.bipush 19, 2) := by decide +kernel
theorem dX1_inFront_11 : decode cX1_inFront 11 = .ok (.iload_n 2, 1) := by decide +kernel
theorem dX1_inFront_12 : decode cX1_inFront 12 = .ok (.imul, 1) := by decide +kernel
theorem dX1_inFront_13 : decode cX1_inFront 13 = .ok (.iadd, 1) := by decide +kernel
theorem dX1_inFront_14 : decode cX1_inFront 14 = .ok (.iload_n 3, 1) := by decide +kernel
theorem dX1_inFront_15 : decode cX1_inFront 15 = .ok (.iadd, 1) := by decide +kernel
theorem dX1_inFront_16 : decode cX1_inFront 16 = .ok (.baload, 1) := by decide +kernel
theorem dX1_inFront_17 : decode cX1_inFront 17 = .ok (.ifCond .eq 18, 3) := by decide +kernel
theorem dX1_inFront_20 : decode cX1_inFront 20 = .ok (.aload_n 0, 1) := by decide +kernel
theorem dX1_inFront_21 : decode cX1_inFront 21 = .ok (.iload_n 1, 1) := by decide +kernel
theorem dX1_inFront_22 : decode cX1_inFront 22 = .ok (.iload_n 2, 1) := by decide +kernel
theorem dX1_inFront_23 : decode cX1_inFront 23 = .ok (.iload_n 3, 1) := by decide +kernel
theorem dX1_inFront_24 : decode cX1_inFront 24 = .ok (.iconst 1, 1) := by decide +kernel
theorem dX1_inFront_25 : decode cX1_inFront 25 = .ok (.invokevirtual 67, 3) := by decide +kernel
theorem dX1_inFront_28 : decode cX1_inFront 28 = .ok (.ifCond .ne 7, 3) := by decide +kernel
theorem dX1_inFront_31 : decode cX1_inFront 31 = .ok (.iconst 1, 1) := by decide +kernel
theorem dX1_inFront_32 : decode cX1_inFront 32 = .ok (.goto 4, 3) := by decide +kernel
theorem dX1_inFront_35 : decode cX1_inFront 35 = .ok (.iconst 0, 1) := by decide +kernel
theorem dX1_inFront_36 : decode cX1_inFront 36 = .ok (.ireturn, 1) := by decide +kernel
abbrev cX1_frontAt : ByteArray := prog_3_method_19_code
def yX1_frontAt : MethodName := ⟨RX1, "frontAt", "(II)I"⟩
theorem dX1_frontAt_0 : decode cX1_frontAt 0 = .ok (.iload_n 1, 1) := by decide +kernel
theorem dX1_frontAt_1 : decode cX1_frontAt 1 = .ok (.invokestatic 35, 3) := by decide +kernel
theorem dX1_frontAt_4 : decode cX1_frontAt 4 = .ok (.ifCond .eq 5, 3) := by decide +kernel
theorem dX1_frontAt_7 : decode cX1_frontAt 7 = .ok (.iconst (-1), 1) := by decide +kernel
theorem dX1_frontAt_8 : decode cX1_frontAt 8 = .ok (.ireturn, 1) := by decide +kernel
theorem dX1_frontAt_9 : decode cX1_frontAt 9 = .ok (.aload_n 0, 1) := by decide +kernel
theorem dX1_frontAt_10 : decode cX1_frontAt 10 = .ok (.invokevirtual 64, 3) := by decide +kernel
theorem dX1_frontAt_13 : decode cX1_frontAt 13 = .ok (.iconst 0, 1) := by decide +kernel
theorem dX1_frontAt_14 : decode cX1_frontAt 14 = .ok (.istore_n 3, 1) := by decide +kernel
theorem dX1_frontAt_15 : decode cX1_frontAt 15 = .ok (.iconst 0, 1) := by decide +kernel
theorem dX1_frontAt_16 : decode cX1_frontAt 16 = .ok (.istore 4, 2) := by decide +kernel
theorem dX1_frontAt_18 : decode cX1_frontAt 18 = .ok (.iload 4, 2) := by decide +kernel
theorem dX1_frontAt_20 : decode cX1_frontAt 20 = .ok (.sipush 256, 3) := by decide +kernel
theorem dX1_frontAt_23 : decode cX1_frontAt 23 = .ok (.if_icmp .ge 38, 3) := by decide +kernel
theorem dX1_frontAt_26 : decode cX1_frontAt 26 = .ok (.aload_n 0, 1) := by decide +kernel
theorem dX1_frontAt_27 : decode cX1_frontAt 27 = .ok (.iload_n 1, 1) := by decide +kernel
theorem dX1_frontAt_28 : decode cX1_frontAt 28 = .ok (.iload 4, 2) := by decide +kernel
theorem dX1_frontAt_30 : decode cX1_frontAt 30 = .ok (.bipush 16, 2) := by decide +kernel
theorem dX1_frontAt_32 : decode cX1_frontAt 32 = .ok (.idiv, 1) := by decide +kernel
theorem dX1_frontAt_33 : decode cX1_frontAt 33 = .ok (.iload 4, 2) := by decide +kernel
theorem dX1_frontAt_35 : decode cX1_frontAt 35 = .ok (.bipush 16, 2) := by decide +kernel
theorem dX1_frontAt_37 : decode cX1_frontAt 37 = .ok (.irem, 1) := by decide +kernel
theorem dX1_frontAt_38 : decode cX1_frontAt 38 = .ok (.invokevirtual 71, 3) := by decide +kernel
theorem dX1_frontAt_41 : decode cX1_frontAt 41 = .ok (.ifCond .eq 14, 3) := by decide +kernel
theorem dX1_frontAt_44 : decode cX1_frontAt 44 = .ok (.iload_n 3, 1) := by decide +kernel
theorem dX1_frontAt_45 : decode cX1_frontAt 45 = .ok (.iload_n 2, 1) := by decide +kernel
theorem dX1_frontAt_46 : decode cX1_frontAt 46 = .ok (.if_icmp .ne 6, 3) := by decide +kernel
theorem dX1_frontAt_49 : decode cX1_frontAt 49 = .ok (.iload 4, 2) := by decide +kernel
theorem dX1_frontAt_51 : decode cX1_frontAt 51 = .ok (.ireturn, 1) := by decide +kernel
theorem dX1_frontAt_52 : decode cX1_frontAt 52 = .ok (.iinc 3 1, 3) := by decide +kernel
theorem dX1_frontAt_55 : decode cX1_frontAt 55 = .ok (.iinc 4 1, 3) := by decide +kernel
theorem dX1_frontAt_58 : decode cX1_frontAt 58 = .ok (.goto (-40), 3) := by decide +kernel
theorem dX1_frontAt_61 : decode cX1_frontAt 61 = .ok (.iconst (-1), 1) := by decide +kernel
theorem dX1_frontAt_62 : decode cX1_frontAt 62 = .ok (.ireturn, 1) := by decide +kernel
abbrev cX1_shortest : ByteArray := prog_3_method_20_code
def yX1_shortest : MethodName := ⟨RX1, "shortest", "(II)I"⟩
theorem dX1_shortest_0 : decode cX1_shortest 0 = .ok (.iload_n 1, 1) := by decide +kernel
theorem dX1_shortest_1 : decode cX1_shortest 1 = .ok (.invokestatic 35, 3) := by decide +kernel
theorem dX1_shortest_4 : decode cX1_shortest 4 = .ok (.ifCond .ne 10, 3) := by decide +kernel
theorem dX1_shortest_7 : decode cX1_shortest 7 = .ok (.iload_n 2, 1) := by decide +kernel
theorem dX1_shortest_8 : decode cX1_shortest 8 = .ok (.invokestatic 35, 3) := by decide +kernel
theorem dX1_shortest_11 : decode cX1_shortest 11 = .ok (.ifCond .eq 5, 3) := by decide +kernel
theorem dX1_shortest_14 : decode cX1_shortest 14 = .ok (.iconst (-1), 1) := by decide +kernel
theorem dX1_shortest_15 : decode cX1_shortest 15 = .ok (.ireturn, 1) := by decide +kernel
theorem dX1_shortest_16 : decode cX1_shortest 16 = .ok (.aload_n 0, 1) := by decide +kernel
theorem dX1_shortest_17 : decode cX1_shortest 17 = .ok (.invokevirtual 54, 3) := by decide +kernel
theorem dX1_shortest_20 : decode cX1_shortest 20 = .ok (.aload_n 0, 1) := by decide +kernel
theorem dX1_shortest_21 : decode cX1_shortest 21 = .ok (.iload_n 1, 1) := by decide +kernel
theorem dX1_shortest_22 : decode cX1_shortest 22 = .ok (.iconst 0, 1) := by decide +kernel
theorem dX1_shortest_23 : decode cX1_shortest 23 = .ok (.iconst 0, 1) := by decide +kernel
theorem dX1_shortest_24 : decode cX1_shortest 24 = .ok (.invokevirtual 57, 3) := by decide +kernel
theorem dX1_shortest_27 : decode cX1_shortest 27 = .ok (.aload_n 0, 1) := by decide +kernel
theorem dX1_shortest_28 : decode cX1_shortest 28 = .ok (.invokevirtual 61, 3) := by decide +kernel
theorem dX1_shortest_31 : decode cX1_shortest 31 = .ok (.iconst 0, 1) := by decide +kernel
theorem dX1_shortest_32 : decode cX1_shortest 32 = .ok (.istore_n 3, 1) := by decide +kernel
theorem dX1_shortest_33 : decode cX1_shortest 33 = .ok (.iconst 0, 1) := by decide +kernel
theorem dX1_shortest_34 : decode cX1_shortest 34 = .ok (.istore 4, 2) := by decide +kernel
theorem dX1_shortest_36 : decode cX1_shortest 36 = .ok (.iload 4, 2) := by decide +kernel
theorem dX1_shortest_38 : decode cX1_shortest 38 = .ok (.sipush 361, 3) := by decide +kernel
theorem dX1_shortest_41 : decode cX1_shortest 41 = .ok (.if_icmp .ge 30, 3) := by decide +kernel
theorem dX1_shortest_44 : decode cX1_shortest 44 = .ok (.aload_n 0, 1) := by decide +kernel
theorem dX1_shortest_45 : decode cX1_shortest 45 = .ok (.iload_n 2, 1) := by decide +kernel
theorem dX1_shortest_46 : decode cX1_shortest 46 = .ok (.iload 4, 2) := by decide +kernel
theorem dX1_shortest_48 : decode cX1_shortest 48 = .ok (.bipush 19, 2) := by decide +kernel
theorem dX1_shortest_50 : decode cX1_shortest 50 = .ok (.idiv, 1) := by decide +kernel
theorem dX1_shortest_51 : decode cX1_shortest 51 = .ok (.iload 4, 2) := by decide +kernel
theorem dX1_shortest_53 : decode cX1_shortest 53 = .ok (.bipush 19, 2) := by decide +kernel
theorem dX1_shortest_55 : decode cX1_shortest 55 = .ok (.irem, 1) := by decide +kernel
theorem dX1_shortest_56 : decode cX1_shortest 56 = .ok (.invokevirtual 71, 3) := by decide +kernel
theorem dX1_shortest_59 : decode cX1_shortest 59 = .ok (.ifCond .eq 6, 3) := by decide +kernel
theorem dX1_shortest_62 : decode cX1_shortest 62 = .ok (.iinc 3 1, 3) := by decide +kernel
theorem dX1_shortest_65 : decode cX1_shortest 65 = .ok (.iinc 4 1, 3) := by decide +kernel
theorem dX1_shortest_68 : decode cX1_shortest 68 = .ok (.goto (-32), 3) := by decide +kernel
theorem dX1_shortest_71 : decode cX1_shortest 71 = .ok (.iload_n 3, 1) := by decide +kernel
theorem dX1_shortest_72 : decode cX1_shortest 72 = .ok (.ireturn, 1) := by decide +kernel
theorem q16 : (Jvm.Cond.initialized "FrontierWatchModel") ∈ lw_all := lw_g (lw_at lw_m0 2 rfl) rfl
theorem q141 : (Jvm.Cond.instantiable "FrontierWatchModel" (10 : Nat)) ∈ lw_all := lw_g (lw_at lw_m0 127 rfl) rfl
theorem q143 : (Jvm.Cond.instanceMethod ({ cls := "FrontierWatchModel", name := "<init>", desc := "()V" } : Jvm.MethodName)) ∈ lw_all := lw_g (lw_at lw_m0 129 rfl) rfl
theorem q144 : (Jvm.Cond.code ({ cls := "FrontierWatchModel", name := "<init>", desc := "()V" } : Jvm.MethodName) prog_3_method_1_code (1 : Nat) (Option.none : Option Jvm.ClassFile.FieldType)) ∈ lw_all := lw_g (lw_at lw_m0 130 rfl) rfl
theorem q145 : (Jvm.Cond.methodLink "FrontierWatchModel" (1 : Nat) ({ cls := "java/lang/Object", name := "<init>", desc := "()V" } : Jvm.MethodName)) ∈ lw_all := lw_g (lw_at lw_m0 131 rfl) rfl
theorem q146 : (Jvm.Cond.fieldLink "FrontierWatchModel" (39 : Nat) "FrontierWatchModel" "lines" "I") ∈ lw_all := lw_g (lw_at lw_m0 132 rfl) rfl
theorem q147 : (Jvm.Cond.fieldLink "FrontierWatchModel" (7 : Nat) "FrontierWatchModel" "froms" "[I") ∈ lw_all := lw_g (lw_at lw_m0 133 rfl) rfl
theorem q148 : (Jvm.Cond.fieldLink "FrontierWatchModel" (13 : Nat) "FrontierWatchModel" "tos" "[I") ∈ lw_all := lw_g (lw_at lw_m0 134 rfl) rfl
theorem q149 : (Jvm.Cond.fieldLink "FrontierWatchModel" (16 : Nat) "FrontierWatchModel" "firsts" "[I") ∈ lw_all := lw_g (lw_at lw_m0 135 rfl) rfl
theorem q150 : (Jvm.Cond.fieldLink "FrontierWatchModel" (19 : Nat) "FrontierWatchModel" "seconds" "[I") ∈ lw_all := lw_g (lw_at lw_m0 136 rfl) rfl
theorem q151 : (Jvm.Cond.fieldLink "FrontierWatchModel" (47 : Nat) "FrontierWatchModel" "tokens" "I") ∈ lw_all := lw_g (lw_at lw_m0 137 rfl) rfl
theorem q152 : (Jvm.Cond.fieldLink "FrontierWatchModel" (22 : Nat) "FrontierWatchModel" "places" "[I") ∈ lw_all := lw_g (lw_at lw_m0 138 rfl) rfl
theorem q153 : (Jvm.Cond.fieldLink "FrontierWatchModel" (25 : Nat) "FrontierWatchModel" "as" "[I") ∈ lw_all := lw_g (lw_at lw_m0 139 rfl) rfl
theorem q154 : (Jvm.Cond.fieldLink "FrontierWatchModel" (28 : Nat) "FrontierWatchModel" "bs" "[I") ∈ lw_all := lw_g (lw_at lw_m0 140 rfl) rfl
theorem q155 : (Jvm.Cond.fieldLink "FrontierWatchModel" (31 : Nat) "FrontierWatchModel" "there" "[Z") ∈ lw_all := lw_g (lw_at lw_m0 141 rfl) rfl
theorem q156 : (Jvm.Cond.lays "FrontierWatchModel" "FrontierWatchModel" "lines" "I") ∈ lw_all := lw_g (lw_at lw_m0 142 rfl) rfl
theorem q157 : (Jvm.Cond.soleField "FrontierWatchModel" "lines") ∈ lw_all := lw_g (lw_at lw_m0 143 rfl) rfl
theorem q158 : (Jvm.Cond.laysFinal "FrontierWatchModel" "FrontierWatchModel" "froms" "[I") ∈ lw_all := lw_g (lw_at lw_m0 144 rfl) rfl
theorem q159 : (Jvm.Cond.soleField "FrontierWatchModel" "froms") ∈ lw_all := lw_g (lw_at lw_m0 145 rfl) rfl
theorem q160 : (Jvm.Cond.laysFinal "FrontierWatchModel" "FrontierWatchModel" "tos" "[I") ∈ lw_all := lw_g (lw_at lw_m0 146 rfl) rfl
theorem q161 : (Jvm.Cond.soleField "FrontierWatchModel" "tos") ∈ lw_all := lw_g (lw_at lw_m0 147 rfl) rfl
theorem q162 : (Jvm.Cond.laysFinal "FrontierWatchModel" "FrontierWatchModel" "firsts" "[I") ∈ lw_all := lw_g (lw_at lw_m0 148 rfl) rfl
theorem q163 : (Jvm.Cond.soleField "FrontierWatchModel" "firsts") ∈ lw_all := lw_g (lw_at lw_m0 149 rfl) rfl
theorem q164 : (Jvm.Cond.laysFinal "FrontierWatchModel" "FrontierWatchModel" "seconds" "[I") ∈ lw_all := lw_g (lw_at lw_m0 150 rfl) rfl
theorem q165 : (Jvm.Cond.soleField "FrontierWatchModel" "seconds") ∈ lw_all := lw_g (lw_at lw_m0 151 rfl) rfl
theorem q166 : (Jvm.Cond.lays "FrontierWatchModel" "FrontierWatchModel" "tokens" "I") ∈ lw_all := lw_g (lw_at lw_m0 152 rfl) rfl
theorem q167 : (Jvm.Cond.soleField "FrontierWatchModel" "tokens") ∈ lw_all := lw_g (lw_at lw_m0 153 rfl) rfl
theorem q168 : (Jvm.Cond.laysFinal "FrontierWatchModel" "FrontierWatchModel" "places" "[I") ∈ lw_all := lw_g (lw_at lw_m0 154 rfl) rfl
theorem q169 : (Jvm.Cond.soleField "FrontierWatchModel" "places") ∈ lw_all := lw_g (lw_at lw_m0 155 rfl) rfl
theorem q170 : (Jvm.Cond.laysFinal "FrontierWatchModel" "FrontierWatchModel" "as" "[I") ∈ lw_all := lw_g (lw_at lw_m0 156 rfl) rfl
theorem q171 : (Jvm.Cond.soleField "FrontierWatchModel" "as") ∈ lw_all := lw_g (lw_at lw_m0 157 rfl) rfl
theorem q172 : (Jvm.Cond.laysFinal "FrontierWatchModel" "FrontierWatchModel" "bs" "[I") ∈ lw_all := lw_g (lw_at lw_m0 158 rfl) rfl
theorem q173 : (Jvm.Cond.soleField "FrontierWatchModel" "bs") ∈ lw_all := lw_g (lw_at lw_m0 159 rfl) rfl
theorem q174 : (Jvm.Cond.laysFinal "FrontierWatchModel" "FrontierWatchModel" "there" "[Z") ∈ lw_all := lw_g (lw_at lw_m0 160 rfl) rfl
theorem q175 : (Jvm.Cond.soleField "FrontierWatchModel" "there") ∈ lw_all := lw_g (lw_at lw_m0 161 rfl) rfl
theorem q176 : (Jvm.Cond.superclass "FrontierWatchModel" "java/lang/Object") ∈ lw_all := lw_g (lw_at lw_m0 162 rfl) rfl
theorem q179 : (Jvm.Cond.instanceMethod ({ cls := "FrontierWatchModel", name := "link", desc := "(IIII)I" } : Jvm.MethodName)) ∈ lw_all := lw_g (lw_at lw_m0 165 rfl) rfl
theorem q180 : (Jvm.Cond.selects "FrontierWatchModel" ({ cls := "FrontierWatchModel", name := "link", desc := "(IIII)I" } : Jvm.MethodName) ({ cls := "FrontierWatchModel", name := "link", desc := "(IIII)I" } : Jvm.MethodName)) ∈ lw_all := lw_g (lw_at lw_m0 166 rfl) rfl
theorem q181 : (Jvm.Cond.code ({ cls := "FrontierWatchModel", name := "link", desc := "(IIII)I" } : Jvm.MethodName) prog_3_method_4_code (5 : Nat) (Option.some Jvm.ClassFile.FieldType.int)) ∈ lw_all := lw_g (lw_at lw_m0 167 rfl) rfl
theorem q182 : (Jvm.Cond.methodLink "FrontierWatchModel" (35 : Nat) ({ cls := "FrontierWatchModel", name := "badPlace", desc := "(I)Z" } : Jvm.MethodName)) ∈ lw_all := lw_g (lw_at lw_m0 168 rfl) rfl
theorem q183 : (Jvm.Cond.static ({ cls := "FrontierWatchModel", name := "badPlace", desc := "(I)Z" } : Jvm.MethodName)) ∈ lw_all := lw_g (lw_at lw_m0 169 rfl) rfl
theorem q184 : (Jvm.Cond.code ({ cls := "FrontierWatchModel", name := "badPlace", desc := "(I)Z" } : Jvm.MethodName) prog_3_method_2_code (1 : Nat) (Option.some Jvm.ClassFile.FieldType.boolean)) ∈ lw_all := lw_g (lw_at lw_m0 170 rfl) rfl
theorem q186 : (Jvm.Cond.instanceMethod ({ cls := "FrontierWatchModel", name := "unlink", desc := "(I)I" } : Jvm.MethodName)) ∈ lw_all := lw_g (lw_at lw_m0 172 rfl) rfl
theorem q187 : (Jvm.Cond.selects "FrontierWatchModel" ({ cls := "FrontierWatchModel", name := "unlink", desc := "(I)I" } : Jvm.MethodName) ({ cls := "FrontierWatchModel", name := "unlink", desc := "(I)I" } : Jvm.MethodName)) ∈ lw_all := lw_g (lw_at lw_m0 173 rfl) rfl
theorem q188 : (Jvm.Cond.code ({ cls := "FrontierWatchModel", name := "unlink", desc := "(I)I" } : Jvm.MethodName) prog_3_method_5_code (3 : Nat) (Option.some Jvm.ClassFile.FieldType.int)) ∈ lw_all := lw_g (lw_at lw_m0 174 rfl) rfl
theorem q190 : (Jvm.Cond.instanceMethod ({ cls := "FrontierWatchModel", name := "put", desc := "(III)I" } : Jvm.MethodName)) ∈ lw_all := lw_g (lw_at lw_m0 176 rfl) rfl
theorem q191 : (Jvm.Cond.selects "FrontierWatchModel" ({ cls := "FrontierWatchModel", name := "put", desc := "(III)I" } : Jvm.MethodName) ({ cls := "FrontierWatchModel", name := "put", desc := "(III)I" } : Jvm.MethodName)) ∈ lw_all := lw_g (lw_at lw_m0 177 rfl) rfl
theorem q192 : (Jvm.Cond.code ({ cls := "FrontierWatchModel", name := "put", desc := "(III)I" } : Jvm.MethodName) prog_3_method_6_code (4 : Nat) (Option.some Jvm.ClassFile.FieldType.int)) ∈ lw_all := lw_g (lw_at lw_m0 178 rfl) rfl
theorem q193 : (Jvm.Cond.methodLink "FrontierWatchModel" (43 : Nat) ({ cls := "FrontierWatchModel", name := "badTime", desc := "(II)Z" } : Jvm.MethodName)) ∈ lw_all := lw_g (lw_at lw_m0 179 rfl) rfl
theorem q194 : (Jvm.Cond.static ({ cls := "FrontierWatchModel", name := "badTime", desc := "(II)Z" } : Jvm.MethodName)) ∈ lw_all := lw_g (lw_at lw_m0 180 rfl) rfl
theorem q195 : (Jvm.Cond.code ({ cls := "FrontierWatchModel", name := "badTime", desc := "(II)Z" } : Jvm.MethodName) prog_3_method_3_code (2 : Nat) (Option.some Jvm.ClassFile.FieldType.boolean)) ∈ lw_all := lw_g (lw_at lw_m0 181 rfl) rfl
theorem q197 : (Jvm.Cond.instanceMethod ({ cls := "FrontierWatchModel", name := "take", desc := "(III)I" } : Jvm.MethodName)) ∈ lw_all := lw_g (lw_at lw_m0 183 rfl) rfl
theorem q198 : (Jvm.Cond.selects "FrontierWatchModel" ({ cls := "FrontierWatchModel", name := "take", desc := "(III)I" } : Jvm.MethodName) ({ cls := "FrontierWatchModel", name := "take", desc := "(III)I" } : Jvm.MethodName)) ∈ lw_all := lw_g (lw_at lw_m0 184 rfl) rfl
theorem q199 : (Jvm.Cond.code ({ cls := "FrontierWatchModel", name := "take", desc := "(III)I" } : Jvm.MethodName) prog_3_method_8_code (5 : Nat) (Option.some Jvm.ClassFile.FieldType.int)) ∈ lw_all := lw_g (lw_at lw_m0 185 rfl) rfl
theorem q200 : (Jvm.Cond.methodLink "FrontierWatchModel" (50 : Nat) ({ cls := "FrontierWatchModel", name := "find", desc := "(III)I" } : Jvm.MethodName)) ∈ lw_all := lw_g (lw_at lw_m0 186 rfl) rfl
theorem q201 : (Jvm.Cond.privateMethod ({ cls := "FrontierWatchModel", name := "find", desc := "(III)I" } : Jvm.MethodName)) ∈ lw_tbl := lw_at lw_m0 187 rfl
theorem q202 : (Jvm.Cond.instanceMethod ({ cls := "FrontierWatchModel", name := "find", desc := "(III)I" } : Jvm.MethodName)) ∈ lw_all := lw_g (lw_at lw_m0 188 rfl) rfl
theorem q203 : (Jvm.Cond.code ({ cls := "FrontierWatchModel", name := "find", desc := "(III)I" } : Jvm.MethodName) prog_3_method_7_code (5 : Nat) (Option.some Jvm.ClassFile.FieldType.int)) ∈ lw_all := lw_g (lw_at lw_m0 189 rfl) rfl
theorem q205 : (Jvm.Cond.instanceMethod ({ cls := "FrontierWatchModel", name := "pass", desc := "(III)I" } : Jvm.MethodName)) ∈ lw_all := lw_g (lw_at lw_m0 191 rfl) rfl
theorem q206 : (Jvm.Cond.selects "FrontierWatchModel" ({ cls := "FrontierWatchModel", name := "pass", desc := "(III)I" } : Jvm.MethodName) ({ cls := "FrontierWatchModel", name := "pass", desc := "(III)I" } : Jvm.MethodName)) ∈ lw_all := lw_g (lw_at lw_m0 192 rfl) rfl
theorem q207 : (Jvm.Cond.code ({ cls := "FrontierWatchModel", name := "pass", desc := "(III)I" } : Jvm.MethodName) prog_3_method_9_code (5 : Nat) (Option.some Jvm.ClassFile.FieldType.int)) ∈ lw_all := lw_g (lw_at lw_m0 193 rfl) rfl
theorem q209 : (Jvm.Cond.instanceMethod ({ cls := "FrontierWatchModel", name := "possible", desc := "(III)I" } : Jvm.MethodName)) ∈ lw_all := lw_g (lw_at lw_m0 195 rfl) rfl
theorem q210 : (Jvm.Cond.selects "FrontierWatchModel" ({ cls := "FrontierWatchModel", name := "possible", desc := "(III)I" } : Jvm.MethodName) ({ cls := "FrontierWatchModel", name := "possible", desc := "(III)I" } : Jvm.MethodName)) ∈ lw_all := lw_g (lw_at lw_m0 196 rfl) rfl
theorem q211 : (Jvm.Cond.code ({ cls := "FrontierWatchModel", name := "possible", desc := "(III)I" } : Jvm.MethodName) prog_3_method_15_code (4 : Nat) (Option.some Jvm.ClassFile.FieldType.int)) ∈ lw_all := lw_g (lw_at lw_m0 197 rfl) rfl
theorem q212 : (Jvm.Cond.methodLink "FrontierWatchModel" (64 : Nat) ({ cls := "FrontierWatchModel", name := "spreadTokens", desc := "()V" } : Jvm.MethodName)) ∈ lw_all := lw_g (lw_at lw_m0 198 rfl) rfl
theorem q213 : (Jvm.Cond.privateMethod ({ cls := "FrontierWatchModel", name := "spreadTokens", desc := "()V" } : Jvm.MethodName)) ∈ lw_tbl := lw_at lw_m0 199 rfl
theorem q214 : (Jvm.Cond.instanceMethod ({ cls := "FrontierWatchModel", name := "spreadTokens", desc := "()V" } : Jvm.MethodName)) ∈ lw_all := lw_g (lw_at lw_m0 200 rfl) rfl
theorem q215 : (Jvm.Cond.code ({ cls := "FrontierWatchModel", name := "spreadTokens", desc := "()V" } : Jvm.MethodName) prog_3_method_13_code (2 : Nat) (Option.none : Option Jvm.ClassFile.FieldType)) ∈ lw_all := lw_g (lw_at lw_m0 201 rfl) rfl
theorem q216 : (Jvm.Cond.methodLink "FrontierWatchModel" (54 : Nat) ({ cls := "FrontierWatchModel", name := "empty", desc := "()V" } : Jvm.MethodName)) ∈ lw_all := lw_g (lw_at lw_m0 202 rfl) rfl
theorem q217 : (Jvm.Cond.privateMethod ({ cls := "FrontierWatchModel", name := "empty", desc := "()V" } : Jvm.MethodName)) ∈ lw_tbl := lw_at lw_m0 203 rfl
theorem q218 : (Jvm.Cond.instanceMethod ({ cls := "FrontierWatchModel", name := "empty", desc := "()V" } : Jvm.MethodName)) ∈ lw_all := lw_g (lw_at lw_m0 204 rfl) rfl
theorem q219 : (Jvm.Cond.code ({ cls := "FrontierWatchModel", name := "empty", desc := "()V" } : Jvm.MethodName) prog_3_method_10_code (2 : Nat) (Option.none : Option Jvm.ClassFile.FieldType)) ∈ lw_all := lw_g (lw_at lw_m0 205 rfl) rfl
theorem q220 : (Jvm.Cond.methodLink "FrontierWatchModel" (57 : Nat) ({ cls := "FrontierWatchModel", name := "set", desc := "(III)V" } : Jvm.MethodName)) ∈ lw_all := lw_g (lw_at lw_m0 206 rfl) rfl
theorem q221 : (Jvm.Cond.privateMethod ({ cls := "FrontierWatchModel", name := "set", desc := "(III)V" } : Jvm.MethodName)) ∈ lw_tbl := lw_at lw_m0 207 rfl
theorem q222 : (Jvm.Cond.instanceMethod ({ cls := "FrontierWatchModel", name := "set", desc := "(III)V" } : Jvm.MethodName)) ∈ lw_all := lw_g (lw_at lw_m0 208 rfl) rfl
theorem q223 : (Jvm.Cond.code ({ cls := "FrontierWatchModel", name := "set", desc := "(III)V" } : Jvm.MethodName) prog_3_method_11_code (4 : Nat) (Option.none : Option Jvm.ClassFile.FieldType)) ∈ lw_all := lw_g (lw_at lw_m0 209 rfl) rfl
theorem q224 : (Jvm.Cond.methodLink "FrontierWatchModel" (61 : Nat) ({ cls := "FrontierWatchModel", name := "spread", desc := "()V" } : Jvm.MethodName)) ∈ lw_all := lw_g (lw_at lw_m0 210 rfl) rfl
theorem q225 : (Jvm.Cond.privateMethod ({ cls := "FrontierWatchModel", name := "spread", desc := "()V" } : Jvm.MethodName)) ∈ lw_tbl := lw_at lw_m0 211 rfl
theorem q226 : (Jvm.Cond.instanceMethod ({ cls := "FrontierWatchModel", name := "spread", desc := "()V" } : Jvm.MethodName)) ∈ lw_all := lw_g (lw_at lw_m0 212 rfl) rfl
theorem q227 : (Jvm.Cond.code ({ cls := "FrontierWatchModel", name := "spread", desc := "()V" } : Jvm.MethodName) prog_3_method_12_code (7 : Nat) (Option.none : Option Jvm.ClassFile.FieldType)) ∈ lw_all := lw_g (lw_at lw_m0 213 rfl) rfl
theorem q228 : (Jvm.Cond.methodLink "FrontierWatchModel" (67 : Nat) ({ cls := "FrontierWatchModel", name := "below", desc := "(IIIZ)Z" } : Jvm.MethodName)) ∈ lw_all := lw_g (lw_at lw_m0 214 rfl) rfl
theorem q229 : (Jvm.Cond.privateMethod ({ cls := "FrontierWatchModel", name := "below", desc := "(IIIZ)Z" } : Jvm.MethodName)) ∈ lw_tbl := lw_at lw_m0 215 rfl
theorem q230 : (Jvm.Cond.instanceMethod ({ cls := "FrontierWatchModel", name := "below", desc := "(IIIZ)Z" } : Jvm.MethodName)) ∈ lw_all := lw_g (lw_at lw_m0 216 rfl) rfl
theorem q231 : (Jvm.Cond.code ({ cls := "FrontierWatchModel", name := "below", desc := "(IIIZ)Z" } : Jvm.MethodName) prog_3_method_14_code (7 : Nat) (Option.some Jvm.ClassFile.FieldType.boolean)) ∈ lw_all := lw_g (lw_at lw_m0 217 rfl) rfl
theorem q233 : (Jvm.Cond.instanceMethod ({ cls := "FrontierWatchModel", name := "ready", desc := "(III)I" } : Jvm.MethodName)) ∈ lw_all := lw_g (lw_at lw_m0 219 rfl) rfl
theorem q234 : (Jvm.Cond.selects "FrontierWatchModel" ({ cls := "FrontierWatchModel", name := "ready", desc := "(III)I" } : Jvm.MethodName) ({ cls := "FrontierWatchModel", name := "ready", desc := "(III)I" } : Jvm.MethodName)) ∈ lw_all := lw_g (lw_at lw_m0 220 rfl) rfl
theorem q235 : (Jvm.Cond.code ({ cls := "FrontierWatchModel", name := "ready", desc := "(III)I" } : Jvm.MethodName) prog_3_method_16_code (5 : Nat) (Option.some Jvm.ClassFile.FieldType.int)) ∈ lw_all := lw_g (lw_at lw_m0 221 rfl) rfl
theorem q237 : (Jvm.Cond.instanceMethod ({ cls := "FrontierWatchModel", name := "front", desc := "(I)I" } : Jvm.MethodName)) ∈ lw_all := lw_g (lw_at lw_m0 223 rfl) rfl
theorem q238 : (Jvm.Cond.selects "FrontierWatchModel" ({ cls := "FrontierWatchModel", name := "front", desc := "(I)I" } : Jvm.MethodName) ({ cls := "FrontierWatchModel", name := "front", desc := "(I)I" } : Jvm.MethodName)) ∈ lw_all := lw_g (lw_at lw_m0 224 rfl) rfl
theorem q239 : (Jvm.Cond.code ({ cls := "FrontierWatchModel", name := "front", desc := "(I)I" } : Jvm.MethodName) prog_3_method_18_code (4 : Nat) (Option.some Jvm.ClassFile.FieldType.int)) ∈ lw_all := lw_g (lw_at lw_m0 225 rfl) rfl
theorem q240 : (Jvm.Cond.methodLink "FrontierWatchModel" (71 : Nat) ({ cls := "FrontierWatchModel", name := "inFront", desc := "(III)Z" } : Jvm.MethodName)) ∈ lw_all := lw_g (lw_at lw_m0 226 rfl) rfl
theorem q241 : (Jvm.Cond.privateMethod ({ cls := "FrontierWatchModel", name := "inFront", desc := "(III)Z" } : Jvm.MethodName)) ∈ lw_tbl := lw_at lw_m0 227 rfl
theorem q242 : (Jvm.Cond.instanceMethod ({ cls := "FrontierWatchModel", name := "inFront", desc := "(III)Z" } : Jvm.MethodName)) ∈ lw_all := lw_g (lw_at lw_m0 228 rfl) rfl
theorem q243 : (Jvm.Cond.code ({ cls := "FrontierWatchModel", name := "inFront", desc := "(III)Z" } : Jvm.MethodName) prog_3_method_17_code (4 : Nat) (Option.some Jvm.ClassFile.FieldType.boolean)) ∈ lw_all := lw_g (lw_at lw_m0 229 rfl) rfl
theorem q245 : (Jvm.Cond.instanceMethod ({ cls := "FrontierWatchModel", name := "frontAt", desc := "(II)I" } : Jvm.MethodName)) ∈ lw_all := lw_g (lw_at lw_m0 231 rfl) rfl
theorem q246 : (Jvm.Cond.selects "FrontierWatchModel" ({ cls := "FrontierWatchModel", name := "frontAt", desc := "(II)I" } : Jvm.MethodName) ({ cls := "FrontierWatchModel", name := "frontAt", desc := "(II)I" } : Jvm.MethodName)) ∈ lw_all := lw_g (lw_at lw_m0 232 rfl) rfl
theorem q247 : (Jvm.Cond.code ({ cls := "FrontierWatchModel", name := "frontAt", desc := "(II)I" } : Jvm.MethodName) prog_3_method_19_code (5 : Nat) (Option.some Jvm.ClassFile.FieldType.int)) ∈ lw_all := lw_g (lw_at lw_m0 233 rfl) rfl
theorem q249 : (Jvm.Cond.instanceMethod ({ cls := "FrontierWatchModel", name := "shortest", desc := "(II)I" } : Jvm.MethodName)) ∈ lw_all := lw_g (lw_at lw_m0 235 rfl) rfl
theorem q250 : (Jvm.Cond.selects "FrontierWatchModel" ({ cls := "FrontierWatchModel", name := "shortest", desc := "(II)I" } : Jvm.MethodName) ({ cls := "FrontierWatchModel", name := "shortest", desc := "(II)I" } : Jvm.MethodName)) ∈ lw_all := lw_g (lw_at lw_m0 236 rfl) rfl
theorem q251 : (Jvm.Cond.code ({ cls := "FrontierWatchModel", name := "shortest", desc := "(II)I" } : Jvm.MethodName) prog_3_method_20_code (5 : Nat) (Option.some Jvm.ClassFile.FieldType.int)) ∈ lw_all := lw_g (lw_at lw_m0 237 rfl) rfl
theorem in_X1 : ∀ w ∈ wsX10, w ∈ lw_all := lw_in wsX10 [156, 158, 160, 162, 164, 166, 168, 170, 172, 174] (by decide +kernel) (by decide +kernel)

/-! java/lang/Object -/
set_option maxRecDepth 100000
def RJ0 : String := "java/lang/Object"
abbrev cJ0_init : ByteArray := object_method_1_code
def yJ0_init : MethodName := ⟨RJ0, "<init>", "()V"⟩
theorem dJ0_init_0 : decode cJ0_init 0 = .ok (.return_, 1) := by decide +kernel
theorem q23 : (Jvm.Cond.instanceMethod ({ cls := "java/lang/Object", name := "<init>", desc := "()V" } : Jvm.MethodName)) ∈ lw_all := lw_g (lw_at lw_m0 9 rfl) rfl
theorem q24 : (Jvm.Cond.code ({ cls := "java/lang/Object", name := "<init>", desc := "()V" } : Jvm.MethodName) object_method_1_code (1 : Nat) (Option.none : Option Jvm.ClassFile.FieldType)) ∈ lw_all := lw_g (lw_at lw_m0 10 rfl) rfl

theorem q14 : (Jvm.Cond.initialized "FrontierWatchLaw") ∈ lw_all := lw_g (lw_at lw_m0 0 rfl) rfl
set_option maxRecDepth 100000
theorem q17 : (Jvm.Cond.classLink "FrontierWatchLaw" (7 : Nat) "FrontierWatch") ∈ lw_all := lw_g (lw_at lw_m0 3 rfl) rfl
theorem q19 : (Jvm.Cond.methodLink "FrontierWatchLaw" (9 : Nat) ({ cls := "FrontierWatch", name := "<init>", desc := "()V" } : Jvm.MethodName)) ∈ lw_all := lw_g (lw_at lw_m0 5 rfl) rfl
theorem q82 : (Jvm.Cond.methodLink "FrontierWatchLaw" (13 : Nat) ({ cls := "FrontierWatch", name := "link", desc := "(IIII)I" } : Jvm.MethodName)) ∈ lw_all := lw_g (lw_at lw_m0 68 rfl) rfl
theorem q89 : (Jvm.Cond.methodLink "FrontierWatchLaw" (18 : Nat) ({ cls := "FrontierWatch", name := "unlink", desc := "(I)I" } : Jvm.MethodName)) ∈ lw_all := lw_g (lw_at lw_m0 75 rfl) rfl
theorem q93 : (Jvm.Cond.methodLink "FrontierWatchLaw" (23 : Nat) ({ cls := "FrontierWatch", name := "put", desc := "(III)I" } : Jvm.MethodName)) ∈ lw_all := lw_g (lw_at lw_m0 79 rfl) rfl
theorem q100 : (Jvm.Cond.methodLink "FrontierWatchLaw" (28 : Nat) ({ cls := "FrontierWatch", name := "take", desc := "(III)I" } : Jvm.MethodName)) ∈ lw_all := lw_g (lw_at lw_m0 86 rfl) rfl
theorem q108 : (Jvm.Cond.methodLink "FrontierWatchLaw" (32 : Nat) ({ cls := "FrontierWatch", name := "pass", desc := "(III)I" } : Jvm.MethodName)) ∈ lw_all := lw_g (lw_at lw_m0 94 rfl) rfl
theorem q112 : (Jvm.Cond.methodLink "FrontierWatchLaw" (36 : Nat) ({ cls := "FrontierWatch", name := "possible", desc := "(III)I" } : Jvm.MethodName)) ∈ lw_all := lw_g (lw_at lw_m0 98 rfl) rfl
theorem q116 : (Jvm.Cond.methodLink "FrontierWatchLaw" (40 : Nat) ({ cls := "FrontierWatch", name := "ready", desc := "(III)I" } : Jvm.MethodName)) ∈ lw_all := lw_g (lw_at lw_m0 102 rfl) rfl
theorem q124 : (Jvm.Cond.methodLink "FrontierWatchLaw" (44 : Nat) ({ cls := "FrontierWatch", name := "front", desc := "(I)I" } : Jvm.MethodName)) ∈ lw_all := lw_g (lw_at lw_m0 110 rfl) rfl
theorem q132 : (Jvm.Cond.methodLink "FrontierWatchLaw" (48 : Nat) ({ cls := "FrontierWatch", name := "frontAt", desc := "(II)I" } : Jvm.MethodName)) ∈ lw_all := lw_g (lw_at lw_m0 118 rfl) rfl
theorem q136 : (Jvm.Cond.methodLink "FrontierWatchLaw" (53 : Nat) ({ cls := "FrontierWatch", name := "shortest", desc := "(II)I" } : Jvm.MethodName)) ∈ lw_all := lw_g (lw_at lw_m0 122 rfl) rfl
theorem q140 : (Jvm.Cond.classLink "FrontierWatchLaw" (10 : Nat) "FrontierWatchModel") ∈ lw_all := lw_g (lw_at lw_m0 126 rfl) rfl
theorem q142 : (Jvm.Cond.methodLink "FrontierWatchLaw" (12 : Nat) ({ cls := "FrontierWatchModel", name := "<init>", desc := "()V" } : Jvm.MethodName)) ∈ lw_all := lw_g (lw_at lw_m0 128 rfl) rfl
theorem q178 : (Jvm.Cond.methodLink "FrontierWatchLaw" (17 : Nat) ({ cls := "FrontierWatchModel", name := "link", desc := "(IIII)I" } : Jvm.MethodName)) ∈ lw_all := lw_g (lw_at lw_m0 164 rfl) rfl
theorem q185 : (Jvm.Cond.methodLink "FrontierWatchLaw" (22 : Nat) ({ cls := "FrontierWatchModel", name := "unlink", desc := "(I)I" } : Jvm.MethodName)) ∈ lw_all := lw_g (lw_at lw_m0 171 rfl) rfl
theorem q189 : (Jvm.Cond.methodLink "FrontierWatchLaw" (27 : Nat) ({ cls := "FrontierWatchModel", name := "put", desc := "(III)I" } : Jvm.MethodName)) ∈ lw_all := lw_g (lw_at lw_m0 175 rfl) rfl
theorem q196 : (Jvm.Cond.methodLink "FrontierWatchLaw" (31 : Nat) ({ cls := "FrontierWatchModel", name := "take", desc := "(III)I" } : Jvm.MethodName)) ∈ lw_all := lw_g (lw_at lw_m0 182 rfl) rfl
theorem q204 : (Jvm.Cond.methodLink "FrontierWatchLaw" (35 : Nat) ({ cls := "FrontierWatchModel", name := "pass", desc := "(III)I" } : Jvm.MethodName)) ∈ lw_all := lw_g (lw_at lw_m0 190 rfl) rfl
theorem q208 : (Jvm.Cond.methodLink "FrontierWatchLaw" (39 : Nat) ({ cls := "FrontierWatchModel", name := "possible", desc := "(III)I" } : Jvm.MethodName)) ∈ lw_all := lw_g (lw_at lw_m0 194 rfl) rfl
theorem q232 : (Jvm.Cond.methodLink "FrontierWatchLaw" (43 : Nat) ({ cls := "FrontierWatchModel", name := "ready", desc := "(III)I" } : Jvm.MethodName)) ∈ lw_all := lw_g (lw_at lw_m0 218 rfl) rfl
theorem q236 : (Jvm.Cond.methodLink "FrontierWatchLaw" (47 : Nat) ({ cls := "FrontierWatchModel", name := "front", desc := "(I)I" } : Jvm.MethodName)) ∈ lw_all := lw_g (lw_at lw_m0 222 rfl) rfl
theorem q244 : (Jvm.Cond.methodLink "FrontierWatchLaw" (52 : Nat) ({ cls := "FrontierWatchModel", name := "frontAt", desc := "(II)I" } : Jvm.MethodName)) ∈ lw_all := lw_g (lw_at lw_m0 230 rfl) rfl
theorem q248 : (Jvm.Cond.methodLink "FrontierWatchLaw" (56 : Nat) ({ cls := "FrontierWatchModel", name := "shortest", desc := "(II)I" } : Jvm.MethodName)) ∈ lw_all := lw_g (lw_at lw_m0 234 rfl) rfl

theorem q81 : (Jvm.Cond.arrayClass Jvm.ClassFile.FieldType.int) ∈ lw_all := lw_g (lw_at lw_m0 67 rfl) rfl
set_option maxRecDepth 100000
theorem q177 : (Jvm.Cond.arrayClass Jvm.ClassFile.FieldType.boolean) ∈ lw_all := lw_g (lw_at lw_m0 163 rfl) rfl
end
section
/-! the law's own entry -/
set_option maxRecDepth 100000
abbrev cL_law : ByteArray := code
theorem dL_law_0 : decode cL_law 0 = .ok (.new 7, 3) := by decide +kernel
theorem dL_law_3 : decode cL_law 3 = .ok (.dup, 1) := by decide +kernel
theorem dL_law_4 : decode cL_law 4 = .ok (.invokespecial 9, 3) := by decide +kernel
theorem dL_law_7 : decode cL_law 7 = .ok (.astore_n 1, 1) := by decide +kernel
theorem dL_law_8 : decode cL_law 8 = .ok (.new 10, 3) := by decide +kernel
theorem dL_law_11 : decode cL_law 11 = .ok (.dup, 1) := by decide +kernel
theorem dL_law_12 : decode cL_law 12 = .ok (.invokespecial 12, 3) := by decide +kernel
theorem dL_law_15 : decode cL_law 15 = .ok (.astore_n 2, 1) := by decide +kernel
theorem dL_law_16 : decode cL_law 16 = .ok (.iconst 0, 1) := by decide +kernel
theorem dL_law_17 : decode cL_law 17 = .ok (.istore_n 3, 1) := by decide +kernel
theorem dL_law_18 : decode cL_law 18 = .ok (.iload_n 3, 1) := by decide +kernel
theorem dL_law_19 : decode cL_law 19 = .ok (.aload_n 0, 1) := by decide +kernel
theorem dL_law_20 : decode cL_law 20 = .ok (.arraylength, 1) := by decide +kernel
theorem dL_law_21 : decode cL_law 21 = .ok (.iconst 5, 1) := by decide +kernel
theorem dL_law_22 : decode cL_law 22 = .ok (.isub, 1) := by decide +kernel
theorem dL_law_23 : decode cL_law 23 = .ok (.if_icmp .gt 451, 3) := by decide +kernel
theorem dL_law_26 : decode cL_law 26 = .ok (.aload_n 0, 1) := by decide +kernel
theorem dL_law_27 : decode cL_law 27 = .ok (.iload_n 3, 1) := by decide +kernel
theorem dL_law_28 : decode cL_law 28 = .ok (.iaload, 1) := by decide +kernel
theorem dL_law_29 : decode cL_law 29 = .ok (.bipush 15, 2) := by decide +kernel
theorem dL_law_31 : decode cL_law 31 = .ok (.iand, 1) := by decide +kernel
theorem dL_law_32 : decode cL_law 32 = .ok (.tableswitch 436 0 9 #[56, 109, 132, 175, 218, 261, 304, 347, 370, 403], 56) := by decide +kernel
theorem dL_law_88 : decode cL_law 88 = .ok (.aload_n 1, 1) := by decide +kernel
theorem dL_law_89 : decode cL_law 89 = .ok (.aload_n 0, 1) := by decide +kernel
theorem dL_law_90 : decode cL_law 90 = .ok (.iload_n 3, 1) := by decide +kernel
theorem dL_law_91 : decode cL_law 91 = .ok (.iconst 1, 1) := by decide +kernel
theorem dL_law_92 : decode cL_law 92 = .ok (.iadd, 1) := by decide +kernel
theorem dL_law_93 : decode cL_law 93 = .ok (.iaload, 1) := by decide +kernel
theorem dL_law_94 : decode cL_law 94 = .ok (.aload_n 0, 1) := by decide +kernel
theorem dL_law_95 : decode cL_law 95 = .ok (.iload_n 3, 1) := by decide +kernel
theorem dL_law_96 : decode cL_law 96 = .ok (.iconst 2, 1) := by decide +kernel
theorem dL_law_97 : decode cL_law 97 = .ok (.iadd, 1) := by decide +kernel
theorem dL_law_98 : decode cL_law 98 = .ok (.iaload, 1) := by decide +kernel
theorem dL_law_99 : decode cL_law 99 = .ok (.aload_n 0, 1) := by decide +kernel
theorem dL_law_100 : decode cL_law 100 = .ok (.iload_n 3, 1) := by decide +kernel
theorem dL_law_101 : decode cL_law 101 = .ok (.iconst 3, 1) := by decide +kernel
theorem dL_law_102 : decode cL_law 102 = .ok (.iadd, 1) := by decide +kernel
theorem dL_law_103 : decode cL_law 103 = .ok (.iaload, 1) := by decide +kernel
theorem dL_law_104 : decode cL_law 104 = .ok (.aload_n 0, 1) := by decide +kernel
theorem dL_law_105 : decode cL_law 105 = .ok (.iload_n 3, 1) := by decide +kernel
theorem dL_law_106 : decode cL_law 106 = .ok (.iconst 4, 1) := by decide +kernel
theorem dL_law_107 : decode cL_law 107 = .ok (.iadd, 1) := by decide +kernel
theorem dL_law_108 : decode cL_law 108 = .ok (.iaload, 1) := by decide +kernel
theorem dL_law_109 : decode cL_law 109 = .ok (.invokevirtual 13, 3) := by decide +kernel
theorem dL_law_112 : decode cL_law 112 = .ok (.aload_n 2, 1) := by decide +kernel
theorem dL_law_113 : decode cL_law 113 = .ok (.aload_n 0, 1) := by decide +kernel
theorem dL_law_114 : decode cL_law 114 = .ok (.iload_n 3, 1) := by decide +kernel
theorem dL_law_115 : decode cL_law 115 = .ok (.iconst 1, 1) := by decide +kernel
theorem dL_law_116 : decode cL_law 116 = .ok (.iadd, 1) := by decide +kernel
theorem dL_law_117 : decode cL_law 117 = .ok (.iaload, 1) := by decide +kernel
theorem dL_law_118 : decode cL_law 118 = .ok (.aload_n 0, 1) := by decide +kernel
theorem dL_law_119 : decode cL_law 119 = .ok (.iload_n 3, 1) := by decide +kernel
theorem dL_law_120 : decode cL_law 120 = .ok (.iconst 2, 1) := by decide +kernel
theorem dL_law_121 : decode cL_law 121 = .ok (.iadd, 1) := by decide +kernel
theorem dL_law_122 : decode cL_law 122 = .ok (.iaload, 1) := by decide +kernel
theorem dL_law_123 : decode cL_law 123 = .ok (.aload_n 0, 1) := by decide +kernel
theorem dL_law_124 : decode cL_law 124 = .ok (.iload_n 3, 1) := by decide +kernel
theorem dL_law_125 : decode cL_law 125 = .ok (.iconst 3, 1) := by decide +kernel
theorem dL_law_126 : decode cL_law 126 = .ok (.iadd, 1) := by decide +kernel
theorem dL_law_127 : decode cL_law 127 = .ok (.iaload, 1) := by decide +kernel
theorem dL_law_128 : decode cL_law 128 = .ok (.aload_n 0, 1) := by decide +kernel
theorem dL_law_129 : decode cL_law 129 = .ok (.iload_n 3, 1) := by decide +kernel
theorem dL_law_130 : decode cL_law 130 = .ok (.iconst 4, 1) := by decide +kernel
theorem dL_law_131 : decode cL_law 131 = .ok (.iadd, 1) := by decide +kernel
theorem dL_law_132 : decode cL_law 132 = .ok (.iaload, 1) := by decide +kernel
theorem dL_law_133 : decode cL_law 133 = .ok (.invokevirtual 17, 3) := by decide +kernel
theorem dL_law_136 : decode cL_law 136 = .ok (.if_icmp .eq 332, 3) := by decide +kernel
theorem dL_law_139 : decode cL_law 139 = .ok (.iconst 0, 1) := by decide +kernel
theorem dL_law_140 : decode cL_law 140 = .ok (.ireturn, 1) := by decide +kernel
theorem dL_law_141 : decode cL_law 141 = .ok (.aload_n 1, 1) := by decide +kernel
theorem dL_law_142 : decode cL_law 142 = .ok (.aload_n 0, 1) := by decide +kernel
theorem dL_law_143 : decode cL_law 143 = .ok (.iload_n 3, 1) := by decide +kernel
theorem dL_law_144 : decode cL_law 144 = .ok (.iconst 1, 1) := by decide +kernel
theorem dL_law_145 : decode cL_law 145 = .ok (.iadd, 1) := by decide +kernel
theorem dL_law_146 : decode cL_law 146 = .ok (.iaload, 1) := by decide +kernel
theorem dL_law_147 : decode cL_law 147 = .ok (.invokevirtual 18, 3) := by decide +kernel
theorem dL_law_150 : decode cL_law 150 = .ok (.aload_n 2, 1) := by decide +kernel
theorem dL_law_151 : decode cL_law 151 = .ok (.aload_n 0, 1) := by decide +kernel
theorem dL_law_152 : decode cL_law 152 = .ok (.iload_n 3, 1) := by decide +kernel
theorem dL_law_153 : decode cL_law 153 = .ok (.iconst 1, 1) := by decide +kernel
theorem dL_law_154 : decode cL_law 154 = .ok (.iadd, 1) := by decide +kernel
theorem dL_law_155 : decode cL_law 155 = .ok (.iaload, 1) := by decide +kernel
theorem dL_law_156 : decode cL_law 156 = .ok (.invokevirtual 22, 3) := by decide +kernel
theorem dL_law_159 : decode cL_law 159 = .ok (.if_icmp .eq 309, 3) := by decide +kernel
theorem dL_law_162 : decode cL_law 162 = .ok (.iconst 0, 1) := by decide +kernel
theorem dL_law_163 : decode cL_law 163 = .ok (.ireturn, 1) := by decide +kernel
theorem dL_law_164 : decode cL_law 164 = .ok (.aload_n 1, 1) := by decide +kernel
theorem dL_law_165 : decode cL_law 165 = .ok (.aload_n 0, 1) := by decide +kernel
theorem dL_law_166 : decode cL_law 166 = .ok (.iload_n 3, 1) := by decide +kernel
theorem dL_law_167 : decode cL_law 167 = .ok (.iconst 1, 1) := by decide +kernel
theorem dL_law_168 : decode cL_law 168 = .ok (.iadd, 1) := by decide +kernel
theorem dL_law_169 : decode cL_law 169 = .ok (.iaload, 1) := by decide +kernel
theorem dL_law_170 : decode cL_law 170 = .ok (.aload_n 0, 1) := by decide +kernel
theorem dL_law_171 : decode cL_law 171 = .ok (.iload_n 3, 1) := by decide +kernel
theorem dL_law_172 : decode cL_law 172 = .ok (.iconst 2, 1) := by decide +kernel
theorem dL_law_173 : decode cL_law 173 = .ok (.iadd, 1) := by decide +kernel
theorem dL_law_174 : decode cL_law 174 = .ok (.iaload, 1) := by decide +kernel
theorem dL_law_175 : decode cL_law 175 = .ok (.aload_n 0, 1) := by decide +kernel
theorem dL_law_176 : decode cL_law 176 = .ok (.iload_n 3, 1) := by decide +kernel
theorem dL_law_177 : decode cL_law 177 = .ok (.iconst 3, 1) := by decide +kernel
theorem dL_law_178 : decode cL_law 178 = .ok (.iadd, 1) := by decide +kernel
theorem dL_law_179 : decode cL_law 179 = .ok (.iaload, 1) := by decide +kernel
theorem dL_law_180 : decode cL_law 180 = .ok (.invokevirtual 23, 3) := by decide +kernel
theorem dL_law_183 : decode cL_law 183 = .ok (.aload_n 2, 1) := by decide +kernel
theorem dL_law_184 : decode cL_law 184 = .ok (.aload_n 0, 1) := by decide +kernel
theorem dL_law_185 : decode cL_law 185 = .ok (.iload_n 3, 1) := by decide +kernel
theorem dL_law_186 : decode cL_law 186 = .ok (.iconst 1, 1) := by decide +kernel
theorem dL_law_187 : decode cL_law 187 = .ok (.iadd, 1) := by decide +kernel
theorem dL_law_188 : decode cL_law 188 = .ok (.iaload, 1) := by decide +kernel
theorem dL_law_189 : decode cL_law 189 = .ok (.aload_n 0, 1) := by decide +kernel
theorem dL_law_190 : decode cL_law 190 = .ok (.iload_n 3, 1) := by decide +kernel
theorem dL_law_191 : decode cL_law 191 = .ok (.iconst 2, 1) := by decide +kernel
theorem dL_law_192 : decode cL_law 192 = .ok (.iadd, 1) := by decide +kernel
theorem dL_law_193 : decode cL_law 193 = .ok (.iaload, 1) := by decide +kernel
theorem dL_law_194 : decode cL_law 194 = .ok (.aload_n 0, 1) := by decide +kernel
theorem dL_law_195 : decode cL_law 195 = .ok (.iload_n 3, 1) := by decide +kernel
theorem dL_law_196 : decode cL_law 196 = .ok (.iconst 3, 1) := by decide +kernel
theorem dL_law_197 : decode cL_law 197 = .ok (.iadd, 1) := by decide +kernel
theorem dL_law_198 : decode cL_law 198 = .ok (.iaload, 1) := by decide +kernel
theorem dL_law_199 : decode cL_law 199 = .ok (.invokevirtual 27, 3) := by decide +kernel
theorem dL_law_202 : decode cL_law 202 = .ok (.if_icmp .eq 266, 3) := by decide +kernel
theorem dL_law_205 : decode cL_law 205 = .ok (.iconst 0, 1) := by decide +kernel
theorem dL_law_206 : decode cL_law 206 = .ok (.ireturn, 1) := by decide +kernel
theorem dL_law_207 : decode cL_law 207 = .ok (.aload_n 1, 1) := by decide +kernel
theorem dL_law_208 : decode cL_law 208 = .ok (.aload_n 0, 1) := by decide +kernel
theorem dL_law_209 : decode cL_law 209 = .ok (.iload_n 3, 1) := by decide +kernel
theorem dL_law_210 : decode cL_law 210 = .ok (.iconst 1, 1) := by decide +kernel
theorem dL_law_211 : decode cL_law 211 = .ok (.iadd, 1) := by decide +kernel
theorem dL_law_212 : decode cL_law 212 = .ok (.iaload, 1) := by decide +kernel
theorem dL_law_213 : decode cL_law 213 = .ok (.aload_n 0, 1) := by decide +kernel
theorem dL_law_214 : decode cL_law 214 = .ok (.iload_n 3, 1) := by decide +kernel
theorem dL_law_215 : decode cL_law 215 = .ok (.iconst 2, 1) := by decide +kernel
theorem dL_law_216 : decode cL_law 216 = .ok (.iadd, 1) := by decide +kernel
theorem dL_law_217 : decode cL_law 217 = .ok (.iaload, 1) := by decide +kernel
theorem dL_law_218 : decode cL_law 218 = .ok (.aload_n 0, 1) := by decide +kernel
theorem dL_law_219 : decode cL_law 219 = .ok (.iload_n 3, 1) := by decide +kernel
theorem dL_law_220 : decode cL_law 220 = .ok (.iconst 3, 1) := by decide +kernel
theorem dL_law_221 : decode cL_law 221 = .ok (.iadd, 1) := by decide +kernel
theorem dL_law_222 : decode cL_law 222 = .ok (.iaload, 1) := by decide +kernel
theorem dL_law_223 : decode cL_law 223 = .ok (.invokevirtual 28, 3) := by decide +kernel
theorem dL_law_226 : decode cL_law 226 = .ok (.aload_n 2, 1) := by decide +kernel
theorem dL_law_227 : decode cL_law 227 = .ok (.aload_n 0, 1) := by decide +kernel
theorem dL_law_228 : decode cL_law 228 = .ok (.iload_n 3, 1) := by decide +kernel
theorem dL_law_229 : decode cL_law 229 = .ok (.iconst 1, 1) := by decide +kernel
theorem dL_law_230 : decode cL_law 230 = .ok (.iadd, 1) := by decide +kernel
theorem dL_law_231 : decode cL_law 231 = .ok (.iaload, 1) := by decide +kernel
theorem dL_law_232 : decode cL_law 232 = .ok (.aload_n 0, 1) := by decide +kernel
theorem dL_law_233 : decode cL_law 233 = .ok (.iload_n 3, 1) := by decide +kernel
theorem dL_law_234 : decode cL_law 234 = .ok (.iconst 2, 1) := by decide +kernel
theorem dL_law_235 : decode cL_law 235 = .ok (.iadd, 1) := by decide +kernel
theorem dL_law_236 : decode cL_law 236 = .ok (.iaload, 1) := by decide +kernel
theorem dL_law_237 : decode cL_law 237 = .ok (.aload_n 0, 1) := by decide +kernel
theorem dL_law_238 : decode cL_law 238 = .ok (.iload_n 3, 1) := by decide +kernel
theorem dL_law_239 : decode cL_law 239 = .ok (.iconst 3, 1) := by decide +kernel
theorem dL_law_240 : decode cL_law 240 = .ok (.iadd, 1) := by decide +kernel
theorem dL_law_241 : decode cL_law 241 = .ok (.iaload, 1) := by decide +kernel
theorem dL_law_242 : decode cL_law 242 = .ok (.invokevirtual 31, 3) := by decide +kernel
theorem dL_law_245 : decode cL_law 245 = .ok (.if_icmp .eq 223, 3) := by decide +kernel
theorem dL_law_248 : decode cL_law 248 = .ok (.iconst 0, 1) := by decide +kernel
theorem dL_law_249 : decode cL_law 249 = .ok (.ireturn, 1) := by decide +kernel
theorem dL_law_250 : decode cL_law 250 = .ok (.aload_n 1, 1) := by decide +kernel
theorem dL_law_251 : decode cL_law 251 = .ok (.aload_n 0, 1) := by decide +kernel
theorem dL_law_252 : decode cL_law 252 = .ok (.iload_n 3, 1) := by decide +kernel
theorem dL_law_253 : decode cL_law 253 = .ok (.iconst 1, 1) := by decide +kernel
theorem dL_law_254 : decode cL_law 254 = .ok (.iadd, 1) := by decide +kernel
theorem dL_law_255 : decode cL_law 255 = .ok (.iaload, 1) := by decide +kernel
theorem dL_law_256 : decode cL_law 256 = .ok (.aload_n 0, 1) := by decide +kernel
theorem dL_law_257 : decode cL_law 257 = .ok (.iload_n 3, 1) := by decide +kernel
theorem dL_law_258 : decode cL_law 258 = .ok (.iconst 2, 1) := by decide +kernel
theorem dL_law_259 : decode cL_law 259 = .ok (.iadd, 1) := by decide +kernel
theorem dL_law_260 : decode cL_law 260 = .ok (.iaload, 1) := by decide +kernel
theorem dL_law_261 : decode cL_law 261 = .ok (.aload_n 0, 1) := by decide +kernel
theorem dL_law_262 : decode cL_law 262 = .ok (.iload_n 3, 1) := by decide +kernel
theorem dL_law_263 : decode cL_law 263 = .ok (.iconst 3, 1) := by decide +kernel
theorem dL_law_264 : decode cL_law 264 = .ok (.iadd, 1) := by decide +kernel
theorem dL_law_265 : decode cL_law 265 = .ok (.iaload, 1) := by decide +kernel
theorem dL_law_266 : decode cL_law 266 = .ok (.invokevirtual 32, 3) := by decide +kernel
theorem dL_law_269 : decode cL_law 269 = .ok (.aload_n 2, 1) := by decide +kernel
theorem dL_law_270 : decode cL_law 270 = .ok (.aload_n 0, 1) := by decide +kernel
theorem dL_law_271 : decode cL_law 271 = .ok (.iload_n 3, 1) := by decide +kernel
theorem dL_law_272 : decode cL_law 272 = .ok (.iconst 1, 1) := by decide +kernel
theorem dL_law_273 : decode cL_law 273 = .ok (.iadd, 1) := by decide +kernel
theorem dL_law_274 : decode cL_law 274 = .ok (.iaload, 1) := by decide +kernel
theorem dL_law_275 : decode cL_law 275 = .ok (.aload_n 0, 1) := by decide +kernel
theorem dL_law_276 : decode cL_law 276 = .ok (.iload_n 3, 1) := by decide +kernel
theorem dL_law_277 : decode cL_law 277 = .ok (.iconst 2, 1) := by decide +kernel
theorem dL_law_278 : decode cL_law 278 = .ok (.iadd, 1) := by decide +kernel
theorem dL_law_279 : decode cL_law 279 = .ok (.iaload, 1) := by decide +kernel
theorem dL_law_280 : decode cL_law 280 = .ok (.aload_n 0, 1) := by decide +kernel
theorem dL_law_281 : decode cL_law 281 = .ok (.iload_n 3, 1) := by decide +kernel
theorem dL_law_282 : decode cL_law 282 = .ok (.iconst 3, 1) := by decide +kernel
theorem dL_law_283 : decode cL_law 283 = .ok (.iadd, 1) := by decide +kernel
theorem dL_law_284 : decode cL_law 284 = .ok (.iaload, 1) := by decide +kernel
theorem dL_law_285 : decode cL_law 285 = .ok (.invokevirtual 35, 3) := by decide +kernel
theorem dL_law_288 : decode cL_law 288 = .ok (.if_icmp .eq 180, 3) := by decide +kernel
theorem dL_law_291 : decode cL_law 291 = .ok (.iconst 0, 1) := by decide +kernel
theorem dL_law_292 : decode cL_law 292 = .ok (.ireturn, 1) := by decide +kernel
theorem dL_law_293 : decode cL_law 293 = .ok (.aload_n 1, 1) := by decide +kernel
theorem dL_law_294 : decode cL_law 294 = .ok (.aload_n 0, 1) := by decide +kernel
theorem dL_law_295 : decode cL_law 295 = .ok (.iload_n 3, 1) := by decide +kernel
theorem dL_law_296 : decode cL_law 296 = .ok (.iconst 1, 1) := by decide +kernel
theorem dL_law_297 : decode cL_law 297 = .ok (.iadd, 1) := by decide +kernel
theorem dL_law_298 : decode cL_law 298 = .ok (.iaload, 1) := by decide +kernel
theorem dL_law_299 : decode cL_law 299 = .ok (.aload_n 0, 1) := by decide +kernel
theorem dL_law_300 : decode cL_law 300 = .ok (.iload_n 3, 1) := by decide +kernel
theorem dL_law_301 : decode cL_law 301 = .ok (.iconst 2, 1) := by decide +kernel
theorem dL_law_302 : decode cL_law 302 = .ok (.iadd, 1) := by decide +kernel
theorem dL_law_303 : decode cL_law 303 = .ok (.iaload, 1) := by decide +kernel
theorem dL_law_304 : decode cL_law 304 = .ok (.aload_n 0, 1) := by decide +kernel
theorem dL_law_305 : decode cL_law 305 = .ok (.iload_n 3, 1) := by decide +kernel
theorem dL_law_306 : decode cL_law 306 = .ok (.iconst 3, 1) := by decide +kernel
theorem dL_law_307 : decode cL_law 307 = .ok (.iadd, 1) := by decide +kernel
theorem dL_law_308 : decode cL_law 308 = .ok (.iaload, 1) := by decide +kernel
theorem dL_law_309 : decode cL_law 309 = .ok (.invokevirtual 36, 3) := by decide +kernel
theorem dL_law_312 : decode cL_law 312 = .ok (.aload_n 2, 1) := by decide +kernel
theorem dL_law_313 : decode cL_law 313 = .ok (.aload_n 0, 1) := by decide +kernel
theorem dL_law_314 : decode cL_law 314 = .ok (.iload_n 3, 1) := by decide +kernel
theorem dL_law_315 : decode cL_law 315 = .ok (.iconst 1, 1) := by decide +kernel
theorem dL_law_316 : decode cL_law 316 = .ok (.iadd, 1) := by decide +kernel
theorem dL_law_317 : decode cL_law 317 = .ok (.iaload, 1) := by decide +kernel
theorem dL_law_318 : decode cL_law 318 = .ok (.aload_n 0, 1) := by decide +kernel
theorem dL_law_319 : decode cL_law 319 = .ok (.iload_n 3, 1) := by decide +kernel
theorem dL_law_320 : decode cL_law 320 = .ok (.iconst 2, 1) := by decide +kernel
theorem dL_law_321 : decode cL_law 321 = .ok (.iadd, 1) := by decide +kernel
theorem dL_law_322 : decode cL_law 322 = .ok (.iaload, 1) := by decide +kernel
theorem dL_law_323 : decode cL_law 323 = .ok (.aload_n 0, 1) := by decide +kernel
theorem dL_law_324 : decode cL_law 324 = .ok (.iload_n 3, 1) := by decide +kernel
theorem dL_law_325 : decode cL_law 325 = .ok (.iconst 3, 1) := by decide +kernel
theorem dL_law_326 : decode cL_law 326 = .ok (.iadd, 1) := by decide +kernel
theorem dL_law_327 : decode cL_law 327 = .ok (.iaload, 1) := by decide +kernel
theorem dL_law_328 : decode cL_law 328 = .ok (.invokevirtual 39, 3) := by decide +kernel
theorem dL_law_331 : decode cL_law 331 = .ok (.if_icmp .eq 137, 3) := by decide +kernel
theorem dL_law_334 : decode cL_law 334 = .ok (.iconst 0, 1) := by decide +kernel
theorem dL_law_335 : decode cL_law 335 = .ok (.ireturn, 1) := by decide +kernel
theorem dL_law_336 : decode cL_law 336 = .ok (.aload_n 1, 1) := by decide +kernel
theorem dL_law_337 : decode cL_law 337 = .ok (.aload_n 0, 1) := by decide +kernel
theorem dL_law_338 : decode cL_law 338 = .ok (.iload_n 3, 1) := by decide +kernel
theorem dL_law_339 : decode cL_law 339 = .ok (.iconst 1, 1) := by decide +kernel
theorem dL_law_340 : decode cL_law 340 = .ok (.iadd, 1) := by decide +kernel
theorem dL_law_341 : decode cL_law 341 = .ok (.iaload, 1) := by decide +kernel
theorem dL_law_342 : decode cL_law 342 = .ok (.aload_n 0, 1) := by decide +kernel
theorem dL_law_343 : decode cL_law 343 = .ok (.iload_n 3, 1) := by decide +kernel
theorem dL_law_344 : decode cL_law 344 = .ok (.iconst 2, 1) := by decide +kernel
theorem dL_law_345 : decode cL_law 345 = .ok (.iadd, 1) := by decide +kernel
theorem dL_law_346 : decode cL_law 346 = .ok (.iaload, 1) := by decide +kernel
theorem dL_law_347 : decode cL_law 347 = .ok (.aload_n 0, 1) := by decide +kernel
theorem dL_law_348 : decode cL_law 348 = .ok (.iload_n 3, 1) := by decide +kernel
theorem dL_law_349 : decode cL_law 349 = .ok (.iconst 3, 1) := by decide +kernel
theorem dL_law_350 : decode cL_law 350 = .ok (.iadd, 1) := by decide +kernel
theorem dL_law_351 : decode cL_law 351 = .ok (.iaload, 1) := by decide +kernel
theorem dL_law_352 : decode cL_law 352 = .ok (.invokevirtual 40, 3) := by decide +kernel
theorem dL_law_355 : decode cL_law 355 = .ok (.aload_n 2, 1) := by decide +kernel
theorem dL_law_356 : decode cL_law 356 = .ok (.aload_n 0, 1) := by decide +kernel
theorem dL_law_357 : decode cL_law 357 = .ok (.iload_n 3, 1) := by decide +kernel
theorem dL_law_358 : decode cL_law 358 = .ok (.iconst 1, 1) := by decide +kernel
theorem dL_law_359 : decode cL_law 359 = .ok (.iadd, 1) := by decide +kernel
theorem dL_law_360 : decode cL_law 360 = .ok (.iaload, 1) := by decide +kernel
theorem dL_law_361 : decode cL_law 361 = .ok (.aload_n 0, 1) := by decide +kernel
theorem dL_law_362 : decode cL_law 362 = .ok (.iload_n 3, 1) := by decide +kernel
theorem dL_law_363 : decode cL_law 363 = .ok (.iconst 2, 1) := by decide +kernel
theorem dL_law_364 : decode cL_law 364 = .ok (.iadd, 1) := by decide +kernel
theorem dL_law_365 : decode cL_law 365 = .ok (.iaload, 1) := by decide +kernel
theorem dL_law_366 : decode cL_law 366 = .ok (.aload_n 0, 1) := by decide +kernel
theorem dL_law_367 : decode cL_law 367 = .ok (.iload_n 3, 1) := by decide +kernel
theorem dL_law_368 : decode cL_law 368 = .ok (.iconst 3, 1) := by decide +kernel
theorem dL_law_369 : decode cL_law 369 = .ok (.iadd, 1) := by decide +kernel
theorem dL_law_370 : decode cL_law 370 = .ok (.iaload, 1) := by decide +kernel
theorem dL_law_371 : decode cL_law 371 = .ok (.invokevirtual 43, 3) := by decide +kernel
theorem dL_law_374 : decode cL_law 374 = .ok (.if_icmp .eq 94, 3) := by decide +kernel
theorem dL_law_377 : decode cL_law 377 = .ok (.iconst 0, 1) := by decide +kernel
theorem dL_law_378 : decode cL_law 378 = .ok (.ireturn, 1) := by decide +kernel
theorem dL_law_379 : decode cL_law 379 = .ok (.aload_n 1, 1) := by decide +kernel
theorem dL_law_380 : decode cL_law 380 = .ok (.aload_n 0, 1) := by decide +kernel
theorem dL_law_381 : decode cL_law 381 = .ok (.iload_n 3, 1) := by decide +kernel
theorem dL_law_382 : decode cL_law 382 = .ok (.iconst 1, 1) := by decide +kernel
theorem dL_law_383 : decode cL_law 383 = .ok (.iadd, 1) := by decide +kernel
theorem dL_law_384 : decode cL_law 384 = .ok (.iaload, 1) := by decide +kernel
theorem dL_law_385 : decode cL_law 385 = .ok (.invokevirtual 44, 3) := by decide +kernel
theorem dL_law_388 : decode cL_law 388 = .ok (.aload_n 2, 1) := by decide +kernel
theorem dL_law_389 : decode cL_law 389 = .ok (.aload_n 0, 1) := by decide +kernel
theorem dL_law_390 : decode cL_law 390 = .ok (.iload_n 3, 1) := by decide +kernel
theorem dL_law_391 : decode cL_law 391 = .ok (.iconst 1, 1) := by decide +kernel
theorem dL_law_392 : decode cL_law 392 = .ok (.iadd, 1) := by decide +kernel
theorem dL_law_393 : decode cL_law 393 = .ok (.iaload, 1) := by decide +kernel
theorem dL_law_394 : decode cL_law 394 = .ok (.invokevirtual 47, 3) := by decide +kernel
theorem dL_law_397 : decode cL_law 397 = .ok (.if_icmp .eq 71, 3) := by decide +kernel
theorem dL_law_400 : decode cL_law 400 = .ok (.iconst 0, 1) := by decide +kernel
theorem dL_law_401 : decode cL_law 401 = .ok (.ireturn, 1) := by decide +kernel
theorem dL_law_402 : decode cL_law 402 = .ok (.aload_n 1, 1) := by decide +kernel
theorem dL_law_403 : decode cL_law 403 = .ok (.aload_n 0, 1) := by decide +kernel
theorem dL_law_404 : decode cL_law 404 = .ok (.iload_n 3, 1) := by decide +kernel
theorem dL_law_405 : decode cL_law 405 = .ok (.iconst 1, 1) := by decide +kernel
theorem dL_law_406 : decode cL_law 406 = .ok (.iadd, 1) := by decide +kernel
theorem dL_law_407 : decode cL_law 407 = .ok (.iaload, 1) := by decide +kernel
theorem dL_law_408 : decode cL_law 408 = .ok (.aload_n 0, 1) := by decide +kernel
theorem dL_law_409 : decode cL_law 409 = .ok (.iload_n 3, 1) := by decide +kernel
theorem dL_law_410 : decode cL_law 410 = .ok (.iconst 2, 1) := by decide +kernel
theorem dL_law_411 : decode cL_law 411 = .ok (.iadd, 1) := by decide +kernel
theorem dL_law_412 : decode cL_law 412 = .ok (.iaload, 1) := by decide +kernel
theorem dL_law_413 : decode cL_law 413 = .ok (.invokevirtual 48, 3) := by decide +kernel
theorem dL_law_416 : decode cL_law 416 = .ok (.aload_n 2, 1) := by decide +kernel
theorem dL_law_417 : decode cL_law 417 = .ok (.aload_n 0, 1) := by decide +kernel
theorem dL_law_418 : decode cL_law 418 = .ok (.iload_n 3, 1) := by decide +kernel
theorem dL_law_419 : decode cL_law 419 = .ok (.iconst 1, 1) := by decide +kernel
theorem dL_law_420 : decode cL_law 420 = .ok (.iadd, 1) := by decide +kernel
theorem dL_law_421 : decode cL_law 421 = .ok (.iaload, 1) := by decide +kernel
theorem dL_law_422 : decode cL_law 422 = .ok (.aload_n 0, 1) := by decide +kernel
theorem dL_law_423 : decode cL_law 423 = .ok (.iload_n 3, 1) := by decide +kernel
theorem dL_law_424 : decode cL_law 424 = .ok (.iconst 2, 1) := by decide +kernel
theorem dL_law_425 : decode cL_law 425 = .ok (.iadd, 1) := by decide +kernel
theorem dL_law_426 : decode cL_law 426 = .ok (.iaload, 1) := by decide +kernel
theorem dL_law_427 : decode cL_law 427 = .ok (.invokevirtual 52, 3) := by decide +kernel
theorem dL_law_430 : decode cL_law 430 = .ok (.if_icmp .eq 38, 3) := by decide +kernel
theorem dL_law_433 : decode cL_law 433 = .ok (.iconst 0, 1) := by decide +kernel
theorem dL_law_434 : decode cL_law 434 = .ok (.ireturn, 1) := by decide +kernel
theorem dL_law_435 : decode cL_law 435 = .ok (.aload_n 1, 1) := by decide +kernel
theorem dL_law_436 : decode cL_law 436 = .ok (.aload_n 0, 1) := by decide +kernel
theorem dL_law_437 : decode cL_law 437 = .ok (.iload_n 3, 1) := by decide +kernel
theorem dL_law_438 : decode cL_law 438 = .ok (.iconst 1, 1) := by decide +kernel
theorem dL_law_439 : decode cL_law 439 = .ok (.iadd, 1) := by decide +kernel
theorem dL_law_440 : decode cL_law 440 = .ok (.iaload, 1) := by decide +kernel
theorem dL_law_441 : decode cL_law 441 = .ok (.aload_n 0, 1) := by decide +kernel
theorem dL_law_442 : decode cL_law 442 = .ok (.iload_n 3, 1) := by decide +kernel
theorem dL_law_443 : decode cL_law 443 = .ok (.iconst 2, 1) := by decide +kernel
theorem dL_law_444 : decode cL_law 444 = .ok (.iadd, 1) := by decide +kernel
theorem dL_law_445 : decode cL_law 445 = .ok (.iaload, 1) := by decide +kernel
theorem dL_law_446 : decode cL_law 446 = .ok (.invokevirtual 53, 3) := by decide +kernel
theorem dL_law_449 : decode cL_law 449 = .ok (.aload_n 2, 1) := by decide +kernel
theorem dL_law_450 : decode cL_law 450 = .ok (.aload_n 0, 1) := by decide +kernel
theorem dL_law_451 : decode cL_law 451 = .ok (.iload_n 3, 1) := by decide +kernel
theorem dL_law_452 : decode cL_law 452 = .ok (.iconst 1, 1) := by decide +kernel
theorem dL_law_453 : decode cL_law 453 = .ok (.iadd, 1) := by decide +kernel
theorem dL_law_454 : decode cL_law 454 = .ok (.iaload, 1) := by decide +kernel
theorem dL_law_455 : decode cL_law 455 = .ok (.aload_n 0, 1) := by decide +kernel
theorem dL_law_456 : decode cL_law 456 = .ok (.iload_n 3, 1) := by decide +kernel
theorem dL_law_457 : decode cL_law 457 = .ok (.iconst 2, 1) := by decide +kernel
theorem dL_law_458 : decode cL_law 458 = .ok (.iadd, 1) := by decide +kernel
theorem dL_law_459 : decode cL_law 459 = .ok (.iaload, 1) := by decide +kernel
theorem dL_law_460 : decode cL_law 460 = .ok (.invokevirtual 56, 3) := by decide +kernel
theorem dL_law_463 : decode cL_law 463 = .ok (.if_icmp .eq 5, 3) := by decide +kernel
theorem dL_law_466 : decode cL_law 466 = .ok (.iconst 0, 1) := by decide +kernel
theorem dL_law_467 : decode cL_law 467 = .ok (.ireturn, 1) := by decide +kernel
theorem dL_law_468 : decode cL_law 468 = .ok (.iinc 3 5, 3) := by decide +kernel
theorem dL_law_471 : decode cL_law 471 = .ok (.goto (-453), 3) := by decide +kernel
theorem dL_law_474 : decode cL_law 474 = .ok (.iconst 1, 1) := by decide +kernel
theorem dL_law_475 : decode cL_law 475 = .ok (.ireturn, 1) := by decide +kernel
end
section
/-! ROWS OVER NUMBERS: the machine's ints as nI of naturals -/
section NW
variable {p : Program} {l : Launch} {e : Env} {R : Room} {s : State} {m : MethodId} {args : Array Value} {below : List Frame} {meth : Method} {c : Code} {H : Heap} {locs : List Loc} {cells slots : Nat} {Q : State → Prop} {cc : ByteArray} {pc : Nat} {ls : Array Slot} {rest : List Value}
theorem nw_iadd (hx : p.tables.exec = Jvm.exec) (hb : c.code = cc) {a b : Nat} (hd : decode cc pc = .ok (.iadd, 1)) (k : W p l e R s m args below meth c H locs cells slots Q (F0 m (pc + 1) ls (.int (nI (a + b)) :: rest))) : W p l e R s m args below meth c H locs cells slots Q (F0 m pc ls (.int (nI b) :: .int (nI a) :: rest)) := lv_iadd hx hb hd (by rw [nI_add]; exact k)
theorem nw_isub (hx : p.tables.exec = Jvm.exec) (hb : c.code = cc) {a b : Nat} (hd : decode cc pc = .ok (.isub, 1)) (h : b ≤ a) (k : W p l e R s m args below meth c H locs cells slots Q (F0 m (pc + 1) ls (.int (nI (a - b)) :: rest))) : W p l e R s m args below meth c H locs cells slots Q (F0 m pc ls (.int (nI b) :: .int (nI a) :: rest)) := lv_isub hx hb hd (by rw [pk_sub h]; exact k)
theorem nw_imul (hx : p.tables.exec = Jvm.exec) (hb : c.code = cc) {a b : Nat} (hd : decode cc pc = .ok (.imul, 1)) (k : W p l e R s m args below meth c H locs cells slots Q (F0 m (pc + 1) ls (.int (nI (a * b)) :: rest))) : W p l e R s m args below meth c H locs cells slots Q (F0 m pc ls (.int (nI b) :: .int (nI a) :: rest)) := lv_imul hx hb hd (by rw [pk_mul]; exact k)
theorem nw_idiv (hx : p.tables.exec = Jvm.exec) (hb : c.code = cc) {a b : Nat} (hd : decode cc pc = .ok (.idiv, 1)) (h : a < 2147483648 ∧ 0 < b ∧ b < 2147483648) (k : W p l e R s m args below meth c H locs cells slots Q (F0 m (pc + 1) ls (.int (nI (a / b)) :: rest))) : W p l e R s m args below meth c H locs cells slots Q (F0 m pc ls (.int (nI b) :: .int (nI a) :: rest)) := lv_idiv hx hb hd (nI_ne0 h.2.1 h.2.2) (by rw [pk_div h.1 h.2.1 h.2.2]; exact k)
theorem nw_irem (hx : p.tables.exec = Jvm.exec) (hb : c.code = cc) {a b : Nat} (hd : decode cc pc = .ok (.irem, 1)) (h : a < 2147483648 ∧ 0 < b ∧ b < 2147483648) (k : W p l e R s m args below meth c H locs cells slots Q (F0 m (pc + 1) ls (.int (nI (a % b)) :: rest))) : W p l e R s m args below meth c H locs cells slots Q (F0 m pc ls (.int (nI b) :: .int (nI a) :: rest)) := lv_irem hx hb hd (nI_ne0 h.2.1 h.2.2) (by rw [pk_rem h.1 h.2.1 h.2.2]; exact k)
theorem nw_shr4 (hx : p.tables.exec = Jvm.exec) (hb : c.code = cc) {a : Nat} (hd : decode cc pc = .ok (.ishr, 1)) (h : a < 2147483648) (k : W p l e R s m args below meth c H locs cells slots Q (F0 m (pc + 1) ls (.int (nI (a / 16)) :: rest))) : W p l e R s m args below meth c H locs cells slots Q (F0 m pc ls (.int (nI 4) :: .int (nI a) :: rest)) := lv_ishr hx hb hd (by rw [pk_shrN h (nI 4 &&& 31) 4 (by decide +kernel)]; exact k)
theorem nw_shr6 (hx : p.tables.exec = Jvm.exec) (hb : c.code = cc) {a : Nat} (hd : decode cc pc = .ok (.ishr, 1)) (h : a < 2147483648) (k : W p l e R s m args below meth c H locs cells slots Q (F0 m (pc + 1) ls (.int (nI (a / 64)) :: rest))) : W p l e R s m args below meth c H locs cells slots Q (F0 m pc ls (.int (nI 6) :: .int (nI a) :: rest)) := lv_ishr hx hb hd (by rw [pk_shrN h (nI 6 &&& 31) 6 (by decide +kernel)]; exact k)
theorem nw_and15 (hx : p.tables.exec = Jvm.exec) (hb : c.code = cc) {a : Nat} (hd : decode cc pc = .ok (.iand, 1)) (h : a < 2147483648) (k : W p l e R s m args below meth c H locs cells slots Q (F0 m (pc + 1) ls (.int (nI (a % 16)) :: rest))) : W p l e R s m args below meth c H locs cells slots Q (F0 m pc ls (.int (nI 15) :: .int (nI a) :: rest)) := lv_iand hx hb hd (by rw [pk_andN (n := a) (by omega) (m := nI 15) 4 (by decide +kernel)]; exact k)
theorem nw_and63 (hx : p.tables.exec = Jvm.exec) (hb : c.code = cc) {a : Nat} (hd : decode cc pc = .ok (.iand, 1)) (h : a < 2147483648) (k : W p l e R s m args below meth c H locs cells slots Q (F0 m (pc + 1) ls (.int (nI (a % 64)) :: rest))) : W p l e R s m args below meth c H locs cells slots Q (F0 m pc ls (.int (nI 63) :: .int (nI a) :: rest)) := lv_iand hx hb hd (by rw [pk_andN (n := a) (by omega) (m := nI 63) 6 (by decide +kernel)]; exact k)
theorem nw_ge (hx : p.tables.exec = Jvm.exec) (hb : c.code = cc) {a b : Nat} {off : Int} {tgt : Nat} (hd : decode cc pc = .ok (.if_icmp .ge off, 3)) (ht : (pc : Int) + off = (tgt : Int)) (h : a < 2147483648 ∧ b < 2147483648) (kt : b ≤ a → W p l e R s m args below meth c H locs cells slots Q (F0 m tgt ls rest)) (kf : a < b → W p l e R s m args below meth c H locs cells slots Q (F0 m (pc + 3) ls rest)) : W p l e R s m args below meth c H locs cells slots Q (F0 m pc ls (.int (nI b) :: .int (nI a) :: rest)) := lv_icmp_ge hx hb hd ht (fun q => kt ((nI_leI h.2 h.1).mp q)) (fun q => kf (by have q2 : ¬ (b ≤ a) := (fun z => q ((nI_leI h.2 h.1).mpr z)); omega))
theorem nw_gt (hx : p.tables.exec = Jvm.exec) (hb : c.code = cc) {a b : Nat} {off : Int} {tgt : Nat} (hd : decode cc pc = .ok (.if_icmp .gt off, 3)) (ht : (pc : Int) + off = (tgt : Int)) (h : a < 2147483648 ∧ b < 2147483648) (kt : b < a → W p l e R s m args below meth c H locs cells slots Q (F0 m tgt ls rest)) (kf : a ≤ b → W p l e R s m args below meth c H locs cells slots Q (F0 m (pc + 3) ls rest)) : W p l e R s m args below meth c H locs cells slots Q (F0 m pc ls (.int (nI b) :: .int (nI a) :: rest)) := lv_icmp_gt hx hb hd ht (fun q => kt ((nI_ltI h.2 h.1).mp q)) (fun q => kf (by have q2 : ¬ (b < a) := (fun z => q ((nI_ltI h.2 h.1).mpr z)); omega))
theorem nw_lt (hx : p.tables.exec = Jvm.exec) (hb : c.code = cc) {a b : Nat} {off : Int} {tgt : Nat} (hd : decode cc pc = .ok (.if_icmp .lt off, 3)) (ht : (pc : Int) + off = (tgt : Int)) (h : a < 2147483648 ∧ b < 2147483648) (kt : a < b → W p l e R s m args below meth c H locs cells slots Q (F0 m tgt ls rest)) (kf : b ≤ a → W p l e R s m args below meth c H locs cells slots Q (F0 m (pc + 3) ls rest)) : W p l e R s m args below meth c H locs cells slots Q (F0 m pc ls (.int (nI b) :: .int (nI a) :: rest)) := lv_icmp_lt hx hb hd ht (fun q => kt ((nI_ltI h.1 h.2).mp q)) (fun q => kf (by have q2 : ¬ (a < b) := (fun z => q ((nI_ltI h.1 h.2).mpr z)); omega))
theorem nw_le (hx : p.tables.exec = Jvm.exec) (hb : c.code = cc) {a b : Nat} {off : Int} {tgt : Nat} (hd : decode cc pc = .ok (.if_icmp .le off, 3)) (ht : (pc : Int) + off = (tgt : Int)) (h : a < 2147483648 ∧ b < 2147483648) (kt : a ≤ b → W p l e R s m args below meth c H locs cells slots Q (F0 m tgt ls rest)) (kf : b < a → W p l e R s m args below meth c H locs cells slots Q (F0 m (pc + 3) ls rest)) : W p l e R s m args below meth c H locs cells slots Q (F0 m pc ls (.int (nI b) :: .int (nI a) :: rest)) := lv_icmp_le hx hb hd ht (fun q => kt ((nI_leI h.1 h.2).mp q)) (fun q => kf (by have q2 : ¬ (a ≤ b) := (fun z => q ((nI_leI h.1 h.2).mpr z)); omega))
theorem nw_eq (hx : p.tables.exec = Jvm.exec) (hb : c.code = cc) {a b : Nat} {off : Int} {tgt : Nat} (hd : decode cc pc = .ok (.if_icmp .eq off, 3)) (ht : (pc : Int) + off = (tgt : Int)) (h : a < 2147483648 ∧ b < 2147483648) (kt : a = b → W p l e R s m args below meth c H locs cells slots Q (F0 m tgt ls rest)) (kf : a ≠ b → W p l e R s m args below meth c H locs cells slots Q (F0 m (pc + 3) ls rest)) : W p l e R s m args below meth c H locs cells slots Q (F0 m pc ls (.int (nI b) :: .int (nI a) :: rest)) := lv_icmp_eq hx hb hd ht (fun q => kt ((nI_eq h.1 h.2).mp q)) (fun q => kf (fun z => q ((nI_eq h.1 h.2).mpr z)))
theorem nw_ne (hx : p.tables.exec = Jvm.exec) (hb : c.code = cc) {a b : Nat} {off : Int} {tgt : Nat} (hd : decode cc pc = .ok (.if_icmp .ne off, 3)) (ht : (pc : Int) + off = (tgt : Int)) (h : a < 2147483648 ∧ b < 2147483648) (kt : a ≠ b → W p l e R s m args below meth c H locs cells slots Q (F0 m tgt ls rest)) (kf : a = b → W p l e R s m args below meth c H locs cells slots Q (F0 m (pc + 3) ls rest)) : W p l e R s m args below meth c H locs cells slots Q (F0 m pc ls (.int (nI b) :: .int (nI a) :: rest)) := lv_icmp_ne hx hb hd ht (fun q => kt (fun z => q ((nI_eq h.1 h.2).mpr z))) (fun q => kf ((nI_eq h.1 h.2).mp q))
theorem nw_z0 {a : Nat} (h : a < 2147483648) : nI a = 0 ↔ a = 0 := by rw [← nI_0]; exact nI_eq h (by omega)
theorem nw_zle {a : Nat} (h : a < 2147483648) : nI a ≤ 0 ↔ a = 0 := by rw [← nI_0, nI_leI h (by omega)]; omega
theorem nw_ifeq (hx : p.tables.exec = Jvm.exec) (hb : c.code = cc) {a : Nat} {off : Int} {tgt : Nat} (hd : decode cc pc = .ok (.ifCond .eq off, 3)) (ht : (pc : Int) + off = (tgt : Int)) (h : a < 2147483648) (kt : a = 0 → W p l e R s m args below meth c H locs cells slots Q (F0 m tgt ls rest)) (kf : a ≠ 0 → W p l e R s m args below meth c H locs cells slots Q (F0 m (pc + 3) ls rest)) : W p l e R s m args below meth c H locs cells slots Q (F0 m pc ls (.int (nI a) :: rest)) := lv_if_eq hx hb hd ht (fun q => kt ((nw_z0 h).mp q)) (fun q => kf (fun z => q ((nw_z0 h).mpr z)))
theorem nw_ifne (hx : p.tables.exec = Jvm.exec) (hb : c.code = cc) {a : Nat} {off : Int} {tgt : Nat} (hd : decode cc pc = .ok (.ifCond .ne off, 3)) (ht : (pc : Int) + off = (tgt : Int)) (h : a < 2147483648) (kt : a ≠ 0 → W p l e R s m args below meth c H locs cells slots Q (F0 m tgt ls rest)) (kf : a = 0 → W p l e R s m args below meth c H locs cells slots Q (F0 m (pc + 3) ls rest)) : W p l e R s m args below meth c H locs cells slots Q (F0 m pc ls (.int (nI a) :: rest)) := lv_if_ne hx hb hd ht (fun q => kt (fun z => q ((nw_z0 h).mpr z))) (fun q => kf ((nw_z0 h).mp q))
theorem nw_ifle (hx : p.tables.exec = Jvm.exec) (hb : c.code = cc) {a : Nat} {off : Int} {tgt : Nat} (hd : decode cc pc = .ok (.ifCond .le off, 3)) (ht : (pc : Int) + off = (tgt : Int)) (h : a < 2147483648) (kt : a = 0 → W p l e R s m args below meth c H locs cells slots Q (F0 m tgt ls rest)) (kf : 0 < a → W p l e R s m args below meth c H locs cells slots Q (F0 m (pc + 3) ls rest)) : W p l e R s m args below meth c H locs cells slots Q (F0 m pc ls (.int (nI a) :: rest)) := lv_if_le hx hb hd ht (fun q => kt ((nw_zle h).mp q)) (fun q => kf (Nat.pos_of_ne_zero (fun z => q ((nw_zle h).mpr z))))
theorem nw_ifge (hx : p.tables.exec = Jvm.exec) (hb : c.code = cc) {a : Nat} {off : Int} {tgt : Nat} (hd : decode cc pc = .ok (.ifCond .ge off, 3)) (ht : (pc : Int) + off = (tgt : Int)) (h : a < 2147483648) (kt : W p l e R s m args below meth c H locs cells slots Q (F0 m tgt ls rest)) : W p l e R s m args below meth c H locs cells slots Q (F0 m pc ls (.int (nI a) :: rest)) := lv_if_ge hx hb hd ht (fun _ => kt) (fun q => absurd (nI_pos' h) q)
theorem nw_ifgem (hx : p.tables.exec = Jvm.exec) (hb : c.code = cc) {off : Int} {tgt : Nat} (hd : decode cc pc = .ok (.ifCond .ge off, 3)) (ht : (pc : Int) + off = (tgt : Int)) (kf : W p l e R s m args below meth c H locs cells slots Q (F0 m (pc + 3) ls rest)) : W p l e R s m args below meth c H locs cells slots Q (F0 m pc ls (.int (-1) :: rest)) := lv_if_ge hx hb hd ht (fun q => absurd q (by decide)) (fun _ => kf)
theorem nw_top {a : Nat} (k : ∀ v : Nat, v = a → W p l e R s m args below meth c H locs cells slots Q (F0 m pc ls (.int (nI v) :: rest))) : W p l e R s m args below meth c H locs cells slots Q (F0 m pc ls (.int (nI a) :: rest)) := k a rfl
theorem nw_inc (a : Nat) : nI a + Int32.ofInt 1 = nI (a + 1) := by rw [show Int32.ofInt 1 = (1 : Int32) by decide]; exact nI_1 a
theorem nw_inc5 (a : Nat) : nI a + Int32.ofInt 5 = nI (a + 5) := by rw [show Int32.ofInt 5 = nI 5 by decide +kernel]; exact nI_add a 5
end NW
theorem nw_toInt {x : Int32} {n : Nat} (h0 : 0 ≤ x.toInt) (h1 : x.toInt ≤ (n : Int)) (hn : n < 2147483648) : ∃ j : Nat, j ≤ n ∧ x = nI j := by
  refine ⟨x.toInt.toNat, by omega, ?_⟩
  apply Int32.toInt_inj.mp
  rw [nI_toInt (by omega)]
  omega
theorem nw_lt0 {x : Int32} : x < 0 ↔ x.toInt < 0 := by rw [Int32.lt_iff_toInt_lt, Int32.toInt_zero]
theorem nw_le_c {x : Int32} {n : Nat} (hn : n < 2147483648) : x ≤ nI n ↔ x.toInt ≤ (n : Int) := by rw [Int32.le_iff_toInt_le, nI_toInt hn]
theorem nw_lt_c {x : Int32} {n : Nat} (hn : n < 2147483648) : nI n < x ↔ (n : Int) < x.toInt := by rw [Int32.lt_iff_toInt_lt, nI_toInt hn]
theorem nw_xlt_c {x : Int32} {n : Nat} (hn : n < 2147483648) : x < nI n ↔ x.toInt < (n : Int) := by rw [Int32.lt_iff_toInt_lt, nI_toInt hn]
theorem nw_cle_x {x : Int32} {n : Nat} (hn : n < 2147483648) : nI n ≤ x ↔ (n : Int) ≤ x.toInt := by rw [Int32.le_iff_toInt_le, nI_toInt hn]
def nA (g : Nat → Nat) : Nat → Int32 := fun i => nI (g i)
def au (f : Nat → Nat → Nat) (k j x : Nat) : Nat → Nat → Nat := fun k' j' => if k' = k ∧ j' = j then x else f k' j'
def su (f : Nat → Nat) (k x : Nat) : Nat → Nat := fun k' => if k' = k then x else f k'
theorem su_s (f : Nat → Nat) (k x : Nat) : su f k x k = x := if_pos rfl
theorem su_n (f : Nat → Nat) {k k' : Nat} (x : Nat) (h : k' ≠ k) : su f k x k' = f k' := if_neg h
theorem au_s (f : Nat → Nat → Nat) (k j x : Nat) : au f k j x k j = x := if_pos ⟨rfl, rfl⟩
theorem au_j (f : Nat → Nat → Nat) (k : Nat) {j j' : Nat} (x : Nat) (h : j' ≠ j) : au f k j x k j' = f k j' := if_neg (fun q => h q.2)
theorem au_k (f : Nat → Nat → Nat) {k k' : Nat} (j x : Nat) (h : k' ≠ k) : au f k j x k' = f k' := by
  funext j'
  exact if_neg (fun q => h q.1)
/-- one array, one place set -/
def nu (g : Nat → Nat) (j x : Nat) : Nat → Nat := fun j' => if j' = j then x else g j'
theorem nu_s (g : Nat → Nat) (j x : Nat) : nu g j x j = x := if_pos rfl
theorem nu_n (g : Nat → Nat) {j j' : Nat} (x : Nat) (h : j' ≠ j) : nu g j x j' = g j' := if_neg h
theorem au_nu (f : Nat → Nat → Nat) (k j x : Nat) : au f k j x k = nu (f k) j x := by
  funext j'
  by_cases h : j' = j
  · rw [h, au_s, nu_s]
  · rw [au_j f k x h, nu_n _ x h]
theorem nA_au_s (f : Nat → Nat → Nat) (k j x : Nat) : nA (au f k j x k) = upd (nA (f k)) j (nI x) := by
  funext i
  by_cases h : i = j
  · subst h; show nI (au f k i x k i) = if i = i then nI x else nA (f k) i
    rw [au_s, if_pos rfl]
  · show nI (au f k j x k i) = if i = j then nI x else nA (f k) i
    rw [au_j f k x h, if_neg h]; rfl
theorem nA_au_n (f : Nat → Nat → Nat) {k k' : Nat} (j x : Nat) (h : k' ≠ k) : nA (au f k j x k') = nA (f k') := by rw [au_k f j x h]
theorem va_one {U : State} {c1 c2 : ClassId} (h1 : va_RA U c1 .int) (h2 : va_RA U c2 .int) : c1 = c2 := Option.some.inj (h1.symm.trans h2)
end
section
/-! THE WORLD OF FrontierWatch -/
abbrev vwCl : List vw_C := [(RX0, TX0, 13), (RX1, TX1, 10)]
abbrev xO (h : Nat → Nat) (sc : Nat → Nat) : List Value := [.int (nI (sc 0)), .ref (h 1), .ref (h 2), .ref (h 3), .ref (h 4), .int (nI (sc 5)), .ref (h 5), .ref (h 6), .ref (h 7), .ref (h 8), .int (nI (sc 10)), .ref (h 9), .ref (h 10)]
def xW (h : Nat → Nat) (d : ClassId) (sc : Nat → Nat) (ar : Nat → Nat → Nat) : va_W := [(h 0, .inr (0, xO h sc)), (h 1, .inl (d, 12, .inl (nA (ar 1)))), (h 2, .inl (d, 12, .inl (nA (ar 2)))), (h 3, .inl (d, 12, .inl (nA (ar 3)))), (h 4, .inl (d, 12, .inl (nA (ar 4)))), (h 5, .inl (d, 20, .inl (nA (ar 5)))), (h 6, .inl (d, 20, .inl (nA (ar 6)))), (h 7, .inl (d, 49, .inl (nA (ar 7)))), (h 8, .inl (d, 931, .inl (nA (ar 8)))), (h 9, .inl (d, 40, .inl (nA (ar 9)))), (h 10, .inl (d, 1792, .inl (nA (ar 10))))]
def xN (k : Nat) : Nat := match k with
  | 1 => 12
  | 2 => 12
  | 3 => 12
  | 4 => 12
  | 5 => 20
  | 6 => 20
  | 7 => 49
  | 8 => 931
  | 9 => 40
  | _ => 1792
def xD (d : ClassId) (k : Nat) : ClassId := d
theorem x_at {h : Nat → Nat} {d : ClassId} {sc : Nat → Nat} {ar : Nat → Nat → Nat} (k : Nat) (h1 : 1 ≤ k) (h2 : k ≤ 10) : (xW h d sc ar)[k]? = some (h k, .inl (xD d k, xN k, .inl (nA (ar k)))) := by
  rcases (show k = 1 ∨ k = 2 ∨ k = 3 ∨ k = 4 ∨ k = 5 ∨ k = 6 ∨ k = 7 ∨ k = 8 ∨ k = 9 ∨ k = 10 by omega) with rfl | rfl | rfl | rfl | rfl | rfl | rfl | rfl | rfl | rfl <;> rfl
theorem x_N (k : Nat) : xN k < 2147483648 := by
  unfold xN; split <;> decide
theorem x_set {h : Nat → Nat} {d : ClassId} {sc : Nat → Nat} {ar : Nat → Nat → Nat} (k : Nat) (h1 : 1 ≤ k) (h2 : k ≤ 10) (j v : Nat) : (xW h d sc ar).set k (h k, .inl (xD d k, xN k, .inl (upd (nA (ar k)) j (nI v)))) = xW h d sc (au ar k j v) := by
  rcases (show k = 1 ∨ k = 2 ∨ k = 3 ∨ k = 4 ∨ k = 5 ∨ k = 6 ∨ k = 7 ∨ k = 8 ∨ k = 9 ∨ k = 10 by omega) with rfl | rfl | rfl | rfl | rfl | rfl | rfl | rfl | rfl | rfl
  · show _ = ([(h 0, .inr (0, xO h sc)), (h 1, .inl (d, 12, .inl (nA (au ar 1 j v 1)))), (h 2, .inl (d, 12, .inl (nA (au ar 1 j v 2)))), (h 3, .inl (d, 12, .inl (nA (au ar 1 j v 3)))), (h 4, .inl (d, 12, .inl (nA (au ar 1 j v 4)))), (h 5, .inl (d, 20, .inl (nA (au ar 1 j v 5)))), (h 6, .inl (d, 20, .inl (nA (au ar 1 j v 6)))), (h 7, .inl (d, 49, .inl (nA (au ar 1 j v 7)))), (h 8, .inl (d, 931, .inl (nA (au ar 1 j v 8)))), (h 9, .inl (d, 40, .inl (nA (au ar 1 j v 9)))), (h 10, .inl (d, 1792, .inl (nA (au ar 1 j v 10))))] : va_W)
    rw [nA_au_s, nA_au_n ar (k := 1) (k' := 2) j v (by decide), nA_au_n ar (k := 1) (k' := 3) j v (by decide), nA_au_n ar (k := 1) (k' := 4) j v (by decide), nA_au_n ar (k := 1) (k' := 5) j v (by decide), nA_au_n ar (k := 1) (k' := 6) j v (by decide), nA_au_n ar (k := 1) (k' := 7) j v (by decide), nA_au_n ar (k := 1) (k' := 8) j v (by decide), nA_au_n ar (k := 1) (k' := 9) j v (by decide), nA_au_n ar (k := 1) (k' := 10) j v (by decide)]; rfl
  · show _ = ([(h 0, .inr (0, xO h sc)), (h 1, .inl (d, 12, .inl (nA (au ar 2 j v 1)))), (h 2, .inl (d, 12, .inl (nA (au ar 2 j v 2)))), (h 3, .inl (d, 12, .inl (nA (au ar 2 j v 3)))), (h 4, .inl (d, 12, .inl (nA (au ar 2 j v 4)))), (h 5, .inl (d, 20, .inl (nA (au ar 2 j v 5)))), (h 6, .inl (d, 20, .inl (nA (au ar 2 j v 6)))), (h 7, .inl (d, 49, .inl (nA (au ar 2 j v 7)))), (h 8, .inl (d, 931, .inl (nA (au ar 2 j v 8)))), (h 9, .inl (d, 40, .inl (nA (au ar 2 j v 9)))), (h 10, .inl (d, 1792, .inl (nA (au ar 2 j v 10))))] : va_W)
    rw [nA_au_s, nA_au_n ar (k := 2) (k' := 1) j v (by decide), nA_au_n ar (k := 2) (k' := 3) j v (by decide), nA_au_n ar (k := 2) (k' := 4) j v (by decide), nA_au_n ar (k := 2) (k' := 5) j v (by decide), nA_au_n ar (k := 2) (k' := 6) j v (by decide), nA_au_n ar (k := 2) (k' := 7) j v (by decide), nA_au_n ar (k := 2) (k' := 8) j v (by decide), nA_au_n ar (k := 2) (k' := 9) j v (by decide), nA_au_n ar (k := 2) (k' := 10) j v (by decide)]; rfl
  · show _ = ([(h 0, .inr (0, xO h sc)), (h 1, .inl (d, 12, .inl (nA (au ar 3 j v 1)))), (h 2, .inl (d, 12, .inl (nA (au ar 3 j v 2)))), (h 3, .inl (d, 12, .inl (nA (au ar 3 j v 3)))), (h 4, .inl (d, 12, .inl (nA (au ar 3 j v 4)))), (h 5, .inl (d, 20, .inl (nA (au ar 3 j v 5)))), (h 6, .inl (d, 20, .inl (nA (au ar 3 j v 6)))), (h 7, .inl (d, 49, .inl (nA (au ar 3 j v 7)))), (h 8, .inl (d, 931, .inl (nA (au ar 3 j v 8)))), (h 9, .inl (d, 40, .inl (nA (au ar 3 j v 9)))), (h 10, .inl (d, 1792, .inl (nA (au ar 3 j v 10))))] : va_W)
    rw [nA_au_s, nA_au_n ar (k := 3) (k' := 1) j v (by decide), nA_au_n ar (k := 3) (k' := 2) j v (by decide), nA_au_n ar (k := 3) (k' := 4) j v (by decide), nA_au_n ar (k := 3) (k' := 5) j v (by decide), nA_au_n ar (k := 3) (k' := 6) j v (by decide), nA_au_n ar (k := 3) (k' := 7) j v (by decide), nA_au_n ar (k := 3) (k' := 8) j v (by decide), nA_au_n ar (k := 3) (k' := 9) j v (by decide), nA_au_n ar (k := 3) (k' := 10) j v (by decide)]; rfl
  · show _ = ([(h 0, .inr (0, xO h sc)), (h 1, .inl (d, 12, .inl (nA (au ar 4 j v 1)))), (h 2, .inl (d, 12, .inl (nA (au ar 4 j v 2)))), (h 3, .inl (d, 12, .inl (nA (au ar 4 j v 3)))), (h 4, .inl (d, 12, .inl (nA (au ar 4 j v 4)))), (h 5, .inl (d, 20, .inl (nA (au ar 4 j v 5)))), (h 6, .inl (d, 20, .inl (nA (au ar 4 j v 6)))), (h 7, .inl (d, 49, .inl (nA (au ar 4 j v 7)))), (h 8, .inl (d, 931, .inl (nA (au ar 4 j v 8)))), (h 9, .inl (d, 40, .inl (nA (au ar 4 j v 9)))), (h 10, .inl (d, 1792, .inl (nA (au ar 4 j v 10))))] : va_W)
    rw [nA_au_s, nA_au_n ar (k := 4) (k' := 1) j v (by decide), nA_au_n ar (k := 4) (k' := 2) j v (by decide), nA_au_n ar (k := 4) (k' := 3) j v (by decide), nA_au_n ar (k := 4) (k' := 5) j v (by decide), nA_au_n ar (k := 4) (k' := 6) j v (by decide), nA_au_n ar (k := 4) (k' := 7) j v (by decide), nA_au_n ar (k := 4) (k' := 8) j v (by decide), nA_au_n ar (k := 4) (k' := 9) j v (by decide), nA_au_n ar (k := 4) (k' := 10) j v (by decide)]; rfl
  · show _ = ([(h 0, .inr (0, xO h sc)), (h 1, .inl (d, 12, .inl (nA (au ar 5 j v 1)))), (h 2, .inl (d, 12, .inl (nA (au ar 5 j v 2)))), (h 3, .inl (d, 12, .inl (nA (au ar 5 j v 3)))), (h 4, .inl (d, 12, .inl (nA (au ar 5 j v 4)))), (h 5, .inl (d, 20, .inl (nA (au ar 5 j v 5)))), (h 6, .inl (d, 20, .inl (nA (au ar 5 j v 6)))), (h 7, .inl (d, 49, .inl (nA (au ar 5 j v 7)))), (h 8, .inl (d, 931, .inl (nA (au ar 5 j v 8)))), (h 9, .inl (d, 40, .inl (nA (au ar 5 j v 9)))), (h 10, .inl (d, 1792, .inl (nA (au ar 5 j v 10))))] : va_W)
    rw [nA_au_s, nA_au_n ar (k := 5) (k' := 1) j v (by decide), nA_au_n ar (k := 5) (k' := 2) j v (by decide), nA_au_n ar (k := 5) (k' := 3) j v (by decide), nA_au_n ar (k := 5) (k' := 4) j v (by decide), nA_au_n ar (k := 5) (k' := 6) j v (by decide), nA_au_n ar (k := 5) (k' := 7) j v (by decide), nA_au_n ar (k := 5) (k' := 8) j v (by decide), nA_au_n ar (k := 5) (k' := 9) j v (by decide), nA_au_n ar (k := 5) (k' := 10) j v (by decide)]; rfl
  · show _ = ([(h 0, .inr (0, xO h sc)), (h 1, .inl (d, 12, .inl (nA (au ar 6 j v 1)))), (h 2, .inl (d, 12, .inl (nA (au ar 6 j v 2)))), (h 3, .inl (d, 12, .inl (nA (au ar 6 j v 3)))), (h 4, .inl (d, 12, .inl (nA (au ar 6 j v 4)))), (h 5, .inl (d, 20, .inl (nA (au ar 6 j v 5)))), (h 6, .inl (d, 20, .inl (nA (au ar 6 j v 6)))), (h 7, .inl (d, 49, .inl (nA (au ar 6 j v 7)))), (h 8, .inl (d, 931, .inl (nA (au ar 6 j v 8)))), (h 9, .inl (d, 40, .inl (nA (au ar 6 j v 9)))), (h 10, .inl (d, 1792, .inl (nA (au ar 6 j v 10))))] : va_W)
    rw [nA_au_s, nA_au_n ar (k := 6) (k' := 1) j v (by decide), nA_au_n ar (k := 6) (k' := 2) j v (by decide), nA_au_n ar (k := 6) (k' := 3) j v (by decide), nA_au_n ar (k := 6) (k' := 4) j v (by decide), nA_au_n ar (k := 6) (k' := 5) j v (by decide), nA_au_n ar (k := 6) (k' := 7) j v (by decide), nA_au_n ar (k := 6) (k' := 8) j v (by decide), nA_au_n ar (k := 6) (k' := 9) j v (by decide), nA_au_n ar (k := 6) (k' := 10) j v (by decide)]; rfl
  · show _ = ([(h 0, .inr (0, xO h sc)), (h 1, .inl (d, 12, .inl (nA (au ar 7 j v 1)))), (h 2, .inl (d, 12, .inl (nA (au ar 7 j v 2)))), (h 3, .inl (d, 12, .inl (nA (au ar 7 j v 3)))), (h 4, .inl (d, 12, .inl (nA (au ar 7 j v 4)))), (h 5, .inl (d, 20, .inl (nA (au ar 7 j v 5)))), (h 6, .inl (d, 20, .inl (nA (au ar 7 j v 6)))), (h 7, .inl (d, 49, .inl (nA (au ar 7 j v 7)))), (h 8, .inl (d, 931, .inl (nA (au ar 7 j v 8)))), (h 9, .inl (d, 40, .inl (nA (au ar 7 j v 9)))), (h 10, .inl (d, 1792, .inl (nA (au ar 7 j v 10))))] : va_W)
    rw [nA_au_s, nA_au_n ar (k := 7) (k' := 1) j v (by decide), nA_au_n ar (k := 7) (k' := 2) j v (by decide), nA_au_n ar (k := 7) (k' := 3) j v (by decide), nA_au_n ar (k := 7) (k' := 4) j v (by decide), nA_au_n ar (k := 7) (k' := 5) j v (by decide), nA_au_n ar (k := 7) (k' := 6) j v (by decide), nA_au_n ar (k := 7) (k' := 8) j v (by decide), nA_au_n ar (k := 7) (k' := 9) j v (by decide), nA_au_n ar (k := 7) (k' := 10) j v (by decide)]; rfl
  · show _ = ([(h 0, .inr (0, xO h sc)), (h 1, .inl (d, 12, .inl (nA (au ar 8 j v 1)))), (h 2, .inl (d, 12, .inl (nA (au ar 8 j v 2)))), (h 3, .inl (d, 12, .inl (nA (au ar 8 j v 3)))), (h 4, .inl (d, 12, .inl (nA (au ar 8 j v 4)))), (h 5, .inl (d, 20, .inl (nA (au ar 8 j v 5)))), (h 6, .inl (d, 20, .inl (nA (au ar 8 j v 6)))), (h 7, .inl (d, 49, .inl (nA (au ar 8 j v 7)))), (h 8, .inl (d, 931, .inl (nA (au ar 8 j v 8)))), (h 9, .inl (d, 40, .inl (nA (au ar 8 j v 9)))), (h 10, .inl (d, 1792, .inl (nA (au ar 8 j v 10))))] : va_W)
    rw [nA_au_s, nA_au_n ar (k := 8) (k' := 1) j v (by decide), nA_au_n ar (k := 8) (k' := 2) j v (by decide), nA_au_n ar (k := 8) (k' := 3) j v (by decide), nA_au_n ar (k := 8) (k' := 4) j v (by decide), nA_au_n ar (k := 8) (k' := 5) j v (by decide), nA_au_n ar (k := 8) (k' := 6) j v (by decide), nA_au_n ar (k := 8) (k' := 7) j v (by decide), nA_au_n ar (k := 8) (k' := 9) j v (by decide), nA_au_n ar (k := 8) (k' := 10) j v (by decide)]; rfl
  · show _ = ([(h 0, .inr (0, xO h sc)), (h 1, .inl (d, 12, .inl (nA (au ar 9 j v 1)))), (h 2, .inl (d, 12, .inl (nA (au ar 9 j v 2)))), (h 3, .inl (d, 12, .inl (nA (au ar 9 j v 3)))), (h 4, .inl (d, 12, .inl (nA (au ar 9 j v 4)))), (h 5, .inl (d, 20, .inl (nA (au ar 9 j v 5)))), (h 6, .inl (d, 20, .inl (nA (au ar 9 j v 6)))), (h 7, .inl (d, 49, .inl (nA (au ar 9 j v 7)))), (h 8, .inl (d, 931, .inl (nA (au ar 9 j v 8)))), (h 9, .inl (d, 40, .inl (nA (au ar 9 j v 9)))), (h 10, .inl (d, 1792, .inl (nA (au ar 9 j v 10))))] : va_W)
    rw [nA_au_s, nA_au_n ar (k := 9) (k' := 1) j v (by decide), nA_au_n ar (k := 9) (k' := 2) j v (by decide), nA_au_n ar (k := 9) (k' := 3) j v (by decide), nA_au_n ar (k := 9) (k' := 4) j v (by decide), nA_au_n ar (k := 9) (k' := 5) j v (by decide), nA_au_n ar (k := 9) (k' := 6) j v (by decide), nA_au_n ar (k := 9) (k' := 7) j v (by decide), nA_au_n ar (k := 9) (k' := 8) j v (by decide), nA_au_n ar (k := 9) (k' := 10) j v (by decide)]; rfl
  · show _ = ([(h 0, .inr (0, xO h sc)), (h 1, .inl (d, 12, .inl (nA (au ar 10 j v 1)))), (h 2, .inl (d, 12, .inl (nA (au ar 10 j v 2)))), (h 3, .inl (d, 12, .inl (nA (au ar 10 j v 3)))), (h 4, .inl (d, 12, .inl (nA (au ar 10 j v 4)))), (h 5, .inl (d, 20, .inl (nA (au ar 10 j v 5)))), (h 6, .inl (d, 20, .inl (nA (au ar 10 j v 6)))), (h 7, .inl (d, 49, .inl (nA (au ar 10 j v 7)))), (h 8, .inl (d, 931, .inl (nA (au ar 10 j v 8)))), (h 9, .inl (d, 40, .inl (nA (au ar 10 j v 9)))), (h 10, .inl (d, 1792, .inl (nA (au ar 10 j v 10))))] : va_W)
    rw [nA_au_s, nA_au_n ar (k := 10) (k' := 1) j v (by decide), nA_au_n ar (k := 10) (k' := 2) j v (by decide), nA_au_n ar (k := 10) (k' := 3) j v (by decide), nA_au_n ar (k := 10) (k' := 4) j v (by decide), nA_au_n ar (k := 10) (k' := 5) j v (by decide), nA_au_n ar (k := 10) (k' := 6) j v (by decide), nA_au_n ar (k := 10) (k' := 7) j v (by decide), nA_au_n ar (k := 10) (k' := 8) j v (by decide), nA_au_n ar (k := 10) (k' := 9) j v (by decide)]; rfl
theorem x_setO {h : Nat → Nat} {d : ClassId} {sc : Nat → Nat} {ar : Nat → Nat → Nat} (k : Nat) (hk : k = 0 ∨ k = 5 ∨ k = 10) (v : Nat) : (xW h d sc ar).set 0 (h 0, .inr (0, (xO h sc).set k (.int (nI v)))) = xW h d (su sc k v) ar := by
  rcases hk with rfl | rfl | rfl
  · show _ = ([(h 0, .inr (0, [.int (nI (su sc 0 v 0)), .ref (h 1), .ref (h 2), .ref (h 3), .ref (h 4), .int (nI (su sc 0 v 5)), .ref (h 5), .ref (h 6), .ref (h 7), .ref (h 8), .int (nI (su sc 0 v 10)), .ref (h 9), .ref (h 10)])), (h 1, .inl (d, 12, .inl (nA (ar 1)))), (h 2, .inl (d, 12, .inl (nA (ar 2)))), (h 3, .inl (d, 12, .inl (nA (ar 3)))), (h 4, .inl (d, 12, .inl (nA (ar 4)))), (h 5, .inl (d, 20, .inl (nA (ar 5)))), (h 6, .inl (d, 20, .inl (nA (ar 6)))), (h 7, .inl (d, 49, .inl (nA (ar 7)))), (h 8, .inl (d, 931, .inl (nA (ar 8)))), (h 9, .inl (d, 40, .inl (nA (ar 9)))), (h 10, .inl (d, 1792, .inl (nA (ar 10))))] : va_W)
    rw [su_s, su_n sc (k := 0) (k' := 5) v (by decide), su_n sc (k := 0) (k' := 10) v (by decide)]; rfl
  · show _ = ([(h 0, .inr (0, [.int (nI (su sc 5 v 0)), .ref (h 1), .ref (h 2), .ref (h 3), .ref (h 4), .int (nI (su sc 5 v 5)), .ref (h 5), .ref (h 6), .ref (h 7), .ref (h 8), .int (nI (su sc 5 v 10)), .ref (h 9), .ref (h 10)])), (h 1, .inl (d, 12, .inl (nA (ar 1)))), (h 2, .inl (d, 12, .inl (nA (ar 2)))), (h 3, .inl (d, 12, .inl (nA (ar 3)))), (h 4, .inl (d, 12, .inl (nA (ar 4)))), (h 5, .inl (d, 20, .inl (nA (ar 5)))), (h 6, .inl (d, 20, .inl (nA (ar 6)))), (h 7, .inl (d, 49, .inl (nA (ar 7)))), (h 8, .inl (d, 931, .inl (nA (ar 8)))), (h 9, .inl (d, 40, .inl (nA (ar 9)))), (h 10, .inl (d, 1792, .inl (nA (ar 10))))] : va_W)
    rw [su_s, su_n sc (k := 5) (k' := 0) v (by decide), su_n sc (k := 5) (k' := 10) v (by decide)]; rfl
  · show _ = ([(h 0, .inr (0, [.int (nI (su sc 10 v 0)), .ref (h 1), .ref (h 2), .ref (h 3), .ref (h 4), .int (nI (su sc 10 v 5)), .ref (h 5), .ref (h 6), .ref (h 7), .ref (h 8), .int (nI (su sc 10 v 10)), .ref (h 9), .ref (h 10)])), (h 1, .inl (d, 12, .inl (nA (ar 1)))), (h 2, .inl (d, 12, .inl (nA (ar 2)))), (h 3, .inl (d, 12, .inl (nA (ar 3)))), (h 4, .inl (d, 12, .inl (nA (ar 4)))), (h 5, .inl (d, 20, .inl (nA (ar 5)))), (h 6, .inl (d, 20, .inl (nA (ar 6)))), (h 7, .inl (d, 49, .inl (nA (ar 7)))), (h 8, .inl (d, 931, .inl (nA (ar 8)))), (h 9, .inl (d, 40, .inl (nA (ar 9)))), (h 10, .inl (d, 1792, .inl (nA (ar 10))))] : va_W)
    rw [su_s, su_n sc (k := 10) (k' := 0) v (by decide), su_n sc (k := 10) (k' := 5) v (by decide)]; rfl
theorem x_T1 (k : Nat) : (TX0 k).1 = RX0 := by
  unfold TX0; split <;> rfl
def xH (dC : Nat → ClassId) (dI : Nat → Nat → Nat) (A : Nat → Prop) (H0 : Heap) (h : Nat → Nat) (d : ClassId) (sc : Nat → Nat) (ar : Nat → Nat → Nat) (H : Heap) (locs : List Loc) : Prop := va_P (dC, dI) vwCl (xW h d sc ar) H ∧ va_D A (xW h d sc ar) ∧ va_S A H0 H locs
def xF (p : Program) (m : MethodId) (c : Code) (cc : ByteArray) (nL : Nat) (s : State) (args : Array Value) (dC : Nat → ClassId) (dI : Nat → Nat → Nat) (d : ClassId) : Prop := CallFix p m c cc nL s args lw_all RX0 ∧ va_K (dC, dI) vwCl [(d, .int)] s
section XK
variable {p : Program} {l : Launch} {e : Env} {R : Room} {s : State} {m : MethodId} {args : Array Value} {below : List Frame} {meth : Method} {c : Code} {H : Heap} {locs : List Loc} {cells slots : Nat} {Q : State → Prop} {cc : ByteArray} {pc : Nat} {ls : Array Slot} {rest : List Value}
variable {dC : Nat → ClassId} {dI : Nat → Nat → Nat} {A : Nat → Prop} {H0 : Heap} {h : Nat → Nat} {d : ClassId} {sc : Nat → Nat} {ar : Nat → Nat → Nat} {nL : Nat}
theorem x_get (F : xF p m c cc nL s args dC dI d) (hH : xH dC dI A H0 h d sc ar H locs) (k : Nat) (hk : k < 13) {index : Nat} (hl : Cond.fieldLink RX0 index RX0 (TX0 k).2.1 (TX0 k).2.2.1 ∈ lw_all) {v : Value} (hv : (xO h sc)[k]? = some v) (hd : decode cc pc = .ok (.getfield index, 3)) (kk : W p l e R s m args below meth c H locs cells slots Q (F0 m (pc + 3) ls (v :: rest))) : W p l e R s m args below meth c H locs cells slots Q (F0 m pc ls (.ref (h 0) :: rest)) :=
  va_get (D := (dC, dI)) (ci := 0) (C := RX0) (T := TX0) (N := 13) F.1.1 F.1.2.1 F.1.2.2.2.2 in_X0 F.1.2.2.2.1 F.2 hH.1 0 rfl rfl k hk (F.1.2.2.2.2 _ hl) (fun z h9 => by rw [x_T1] at h9; exact h9) hv hd kk
theorem x_getv (F : xF p m c cc nL s args dC dI d) (hH : xH dC dI A H0 h d sc ar H locs) (k : Nat) (hk : k < 13) {index : Nat} (hl : Cond.fieldLink RX0 index RX0 (TX0 k).2.1 (TX0 k).2.2.1 ∈ lw_all) {a v : Nat} (hv : (xO h sc)[k]? = some (.int (nI a))) (ha : a = v) (hd : decode cc pc = .ok (.getfield index, 3)) (kk : W p l e R s m args below meth c H locs cells slots Q (F0 m (pc + 3) ls (.int (nI v) :: rest))) : W p l e R s m args below meth c H locs cells slots Q (F0 m pc ls (.ref (h 0) :: rest)) := by
  subst ha
  exact x_get F hH k hk hl hv hd kk
theorem x_put (F : xF p m c cc nL s args dC dI d) (hH : xH dC dI A H0 h d sc ar H locs) (k : Nat) (hk : k = 0 ∨ k = 5 ∨ k = 10) {index : Nat} (hl : Cond.fieldLink RX0 index RX0 (TX0 k).2.1 (TX0 k).2.2.1 ∈ lw_all) {v : Nat} (hd : decode cc pc = .ok (.putfield index, 3)) (kk : ∀ (sc' : Nat → Nat) (H1 : Heap) (locs1 : List Loc), sc' = su sc k v → xH dC dI A H0 h d sc' ar H1 locs1 → W p l e R s m args below meth c H1 locs1 cells slots Q (F0 m (pc + 3) ls (rest))) : W p l e R s m args below meth c H locs cells slots Q (F0 m pc ls (.int (nI v) :: .ref (h 0) :: rest)) := by
  refine va_put (D := (dC, dI)) (ci := 0) (v := .int (nI v)) (ty := .int) (C := RX0) (T := TX0) (N := 13) F.1.1 F.1.2.1 F.1.2.2.2.2 in_X0 tyX0 tyX0_ok nmX0 F.1.2.2.2.1 F.2 hH.1 hH.2.1 hH.2.2 0 rfl rfl k (by omega) (F.1.2.2.2.2 _ hl) (fun z h9 => by rw [x_T1] at h9; exact h9) ?_ ?_ rfl rfl (show k < 13 by omega) hd (fun H1 locs1 hP hD hS => ?_)
  · rcases hk with rfl | rfl | rfl <;> rfl
  · rcases hk with rfl | rfl | rfl <;> decide +kernel
  · rw [x_setO k hk v] at hP hD
    exact kk _ H1 locs1 rfl ⟨hP, hD, hS⟩
theorem x_ald (F : xF p m c cc nL s args dC dI d) (hH : xH dC dI A H0 h d sc ar H locs) (k : Nat) {N j : Nat} (hN : xN k = N) (h1 : 1 ≤ k) (h2 : k ≤ 10) (hj : j < N) (hd : decode cc pc = .ok (.iaload, 1)) (kk : W p l e R s m args below meth c H locs cells slots Q (F0 m (pc + 1) ls (.int (nI (ar k j)) :: rest))) : W p l e R s m args below meth c H locs cells slots Q (F0 m pc ls (.int (nI j) :: .ref (h k) :: rest)) := by
  refine va_iald F.1.1 F.1.2.1 F.2 hH.1 k 0 (x_at k h1 h2) rfl (vp_in_nI (by rw [hN]; exact hj) (x_N k)) hd ?_
  rw [nI_clamp (by have := x_N k; omega)]
  exact kk
theorem x_aldv (F : xF p m c cc nL s args dC dI d) (hH : xH dC dI A H0 h d sc ar H locs) (k : Nat) {N j v : Nat} (hN : xN k = N) (h1 : 1 ≤ k) (h2 : k ≤ 10) (hj : j < N) (hv : ar k j = v) (hd : decode cc pc = .ok (.iaload, 1)) (kk : W p l e R s m args below meth c H locs cells slots Q (F0 m (pc + 1) ls (.int (nI v) :: rest))) : W p l e R s m args below meth c H locs cells slots Q (F0 m pc ls (.int (nI j) :: .ref (h k) :: rest)) := by
  subst hv
  exact x_ald F hH k hN h1 h2 hj hd kk
theorem x_ast (F : xF p m c cc nL s args dC dI d) (hH : xH dC dI A H0 h d sc ar H locs) (k : Nat) {N j v : Nat} (hN : xN k = N) (h1 : 1 ≤ k) (h2 : k ≤ 10) (hj : j < N) (hd : decode cc pc = .ok (.iastore, 1)) (kk : ∀ (ar' : Nat → Nat → Nat) (H1 : Heap) (locs1 : List Loc), ar' = au ar k j v → xH dC dI A H0 h d sc ar' H1 locs1 → W p l e R s m args below meth c H1 locs1 cells slots Q (F0 m (pc + 1) ls (rest))) : W p l e R s m args below meth c H locs cells slots Q (F0 m pc ls (.int (nI v) :: .int (nI j) :: .ref (h k) :: rest)) := by
  refine va_iast F.1.1 F.1.2.1 F.2 hH.1 hH.2.1 hH.2.2 k 0 (x_at k h1 h2) rfl (vp_in_nI (by rw [hN]; exact hj) (x_N k)) hd (fun H1 locs1 hP hD hS => ?_)
  rw [nI_clamp (by have := x_N k; omega), x_set k h1 h2] at hP hD
  exact kk _ H1 locs1 rfl ⟨hP, hD, hS⟩
/-- a store of any int that is a number -/
theorem x_astE (F : xF p m c cc nL s args dC dI d) (hH : xH dC dI A H0 h d sc ar H locs) (k : Nat) {N j v : Nat} {z : Int32} (hz : z = nI v) (hN : xN k = N) (h1 : 1 ≤ k) (h2 : k ≤ 10) (hj : j < N) (hd : decode cc pc = .ok (.iastore, 1)) (kk : ∀ (ar' : Nat → Nat → Nat) (H1 : Heap) (locs1 : List Loc), ar' = au ar k j v → xH dC dI A H0 h d sc ar' H1 locs1 → W p l e R s m args below meth c H1 locs1 cells slots Q (F0 m (pc + 1) ls (rest))) : W p l e R s m args below meth c H locs cells slots Q (F0 m pc ls (.int z :: .int (nI j) :: .ref (h k) :: rest)) := by
  rw [hz]
  exact x_ast F hH k hN h1 h2 hj hd kk
end XK
abbrev x_Pc (dC : Nat → ClassId) (dI : Nat → Nat → Nat) (h : Nat → Nat) (d : ClassId) (sz : Nat) (sc : Nat → Nat) (ar : Nat → Nat → Nat) (av : List Value) : Array Value → State → Prop := va_Pc av (fun U => U.heap.size = sz ∧ va_P (dC, dI) vwCl (xW h d sc ar) U.heap ∧ va_K (dC, dI) vwCl [(d, .int)] U ∧ va_D (fun _ => True) (xW h d sc ar))
def x_B (dC : Nat → ClassId) (dI : Nat → Nat → Nat) (A : Nat → Prop) (h : Nat → Nat) (d : ClassId) (u : (Nat → Nat) × (Nat → Nat → Nat)) (t : State) : Prop := va_P (dC, dI) vwCl (xW h d u.1 u.2) t.heap ∧ va_K (dC, dI) vwCl [(d, .int)] t ∧ va_D A (xW h d u.1 u.2)
abbrev x_A (h : Nat → Nat) (d : ClassId) (sc : Nat → Nat) (ar : Nat → Nat → Nat) (sz : Nat) : Nat → Prop := va_A (xW h d sc ar) sz
theorem x_headi {l : Launch} {dC : Nat → ClassId} {dI : Nat → Nat → Nat} {h : Nat → Nat} {d : ClassId} {sz : Nat} {sc : Nat → Nat} {ar : Nat → Nat → Nat} {av : List Value} {y : MethodName} {cc : ByteArray} {maxL : Nat} {ret : Option FieldType} {rm : Room} {post : Int32 → ((Nat → Nat) × (Nat → Nat → Nat)) → Prop}
    (hy : plainName y.cls = true) (hc : y.cls = RX0) (hav : (lg_sl av).length ≤ maxL)
    (body : ∀ (p : Program) (e : Env) (s : State) (m : MethodId) (below : List Frame) (meth : Method) (c : Code) (A : Nat → Prop) (av' : Array Value) (QQ : State → Prop), meth.sig.returnType = ret → meth.locks = false → xF p m c cc maxL s av' dC dI d → (∀ q : Nat, s.heap.size ≤ q → A q) → xH dC dI A s.heap h d sc ar s.heap [] → QQ = MQ below (va_Qi post (x_B dC dI A h d) A) av' s 0 0 A → ∀ ls : Array Slot, lv_has ls maxL (lv_args 0 av) → W p l e rm s m av' below meth c s.heap [] 0 0 QQ (F0 m 0 ls [])) :
    Met l y (ws_ y cc maxL ret) rm (x_Pc dC dI h d sz sc ar av) (va_Qi post (x_B dC dI (x_A h d sc ar sz) h d) (x_A h d sc ar sz)) 0 0 (x_A h d sc ar sz) := by
  refine Met.ofW (cc := cc) (maxL := maxL) (ret := ret) hy rfl ?_
  intro p e s m args below meth c s₁ B hml hv
  obtain ⟨rfl, hsz, hP, hK, hD0⟩ := hv
  have hts := atoms_spec (ws := ws_ y cc maxL ret) B.pre
  have hts : ∀ w ∈ lw_all, w.before _ s = true := fun w h => hts w (List.mem_cons_of_mem _ h)
  have hown : s.vm.findClass RX0 = some m.cls := hc ▸ findClass_of_methodNamed B.named
  subst hsz
  have hD := hD0.self (sz := s.heap.size)
  have hl := lv_entry av (n := maxL) hav
  rw [lg_entry_eq]
  exact body p e s m below meth c (x_A h d sc ar s.heap.size) _ _ B.returns B.notSynchronized ⟨⟨B.exec, B.bytes, hml, hown, hts⟩, hK⟩ (fun q h => Or.inr h) ⟨hP, hD, va_S.rf⟩ rfl _ hl
theorem x_headv {l : Launch} {dC : Nat → ClassId} {dI : Nat → Nat → Nat} {h : Nat → Nat} {d : ClassId} {sz : Nat} {sc : Nat → Nat} {ar : Nat → Nat → Nat} {av : List Value} {y : MethodName} {cc : ByteArray} {maxL : Nat} {ret : Option FieldType} {rm : Room} {post : ((Nat → Nat) × (Nat → Nat → Nat)) → Prop}
    (hy : plainName y.cls = true) (hc : y.cls = RX0) (hav : (lg_sl av).length ≤ maxL)
    (body : ∀ (p : Program) (e : Env) (s : State) (m : MethodId) (below : List Frame) (meth : Method) (c : Code) (A : Nat → Prop) (av' : Array Value) (QQ : State → Prop), meth.sig.returnType = ret → meth.locks = false → xF p m c cc maxL s av' dC dI d → (∀ q : Nat, s.heap.size ≤ q → A q) → xH dC dI A s.heap h d sc ar s.heap [] → QQ = MQ below (va_Qv post (x_B dC dI A h d) A) av' s 0 0 A → ∀ ls : Array Slot, lv_has ls maxL (lv_args 0 av) → W p l e rm s m av' below meth c s.heap [] 0 0 QQ (F0 m 0 ls [])) :
    Met l y (ws_ y cc maxL ret) rm (x_Pc dC dI h d sz sc ar av) (va_Qv post (x_B dC dI (x_A h d sc ar sz) h d) (x_A h d sc ar sz)) 0 0 (x_A h d sc ar sz) := by
  refine Met.ofW (cc := cc) (maxL := maxL) (ret := ret) hy rfl ?_
  intro p e s m args below meth c s₁ B hml hv
  obtain ⟨rfl, hsz, hP, hK, hD0⟩ := hv
  have hts := atoms_spec (ws := ws_ y cc maxL ret) B.pre
  have hts : ∀ w ∈ lw_all, w.before _ s = true := fun w h => hts w (List.mem_cons_of_mem _ h)
  have hown : s.vm.findClass RX0 = some m.cls := hc ▸ findClass_of_methodNamed B.named
  subst hsz
  have hD := hD0.self (sz := s.heap.size)
  have hl := lv_entry av (n := maxL) hav
  rw [lg_entry_eq]
  exact body p e s m below meth c (x_A h d sc ar s.heap.size) _ _ B.returns B.notSynchronized ⟨⟨B.exec, B.bytes, hml, hown, hts⟩, hK⟩ (fun q h => Or.inr h) ⟨hP, hD, va_S.rf⟩ rfl _ hl
section XC
variable {p : Program} {l : Launch} {e : Env} {R : Room} {s : State} {m : MethodId} {args : Array Value} {below : List Frame} {meth : Method} {c : Code} {H : Heap} {locs : List Loc} {cells slots : Nat} {Q : State → Prop} {cc : ByteArray} {pc : Nat} {ls : Array Slot} {rest : List Value}
variable {dC : Nat → ClassId} {dI : Nat → Nat → Nat} {A : Nat → Prop} {h : Nat → Nat} {d : ClassId} {sc : Nat → Nat} {ar : Nat → Nat → Nat} {nL : Nat}
theorem x_iret (F : xF p m c cc nL s args dC dI d) (hH : xH dC dI A s.heap h d sc ar H locs) (hr : meth.sig.returnType = some .int) (hlk : meth.locks = false) {post : Int32 → ((Nat → Nat) × (Nat → Nat → Nat)) → Prop} (hQ : Q = MQ below (va_Qi post (x_B dC dI A h d) A) args s cells slots A) {v : Int32} (hp : post v (sc, ar)) (hd : decode cc pc = .ok (.ireturn, 1)) : W p l e R s m args below meth c H locs cells slots Q (F0 m pc ls [.int v]) := by
  rw [hQ]
  exact W.iret F.1.1 F.1.2.1 hr (fun t ht hW => ⟨⟨v, (sc, ar), rfl, hp, by rw [ht]; exact hH.1, va_K.moved hW.alike F.2, hH.2.1⟩, hH.2.2.F ht⟩) hH.2.2.2.2 hd hlk
theorem x_zret (F : xF p m c cc nL s args dC dI d) (hH : xH dC dI A s.heap h d sc ar H locs) (hr : meth.sig.returnType = some .boolean) (hlk : meth.locks = false) {post : Int32 → ((Nat → Nat) × (Nat → Nat → Nat)) → Prop} (hQ : Q = MQ below (va_Qi post (x_B dC dI A h d) A) args s cells slots A) {v : Int32} (hn : narrow .boolean (.int v) = .int v) (hp : post v (sc, ar)) (hd : decode cc pc = .ok (.ireturn, 1)) : W p l e R s m args below meth c H locs cells slots Q (F0 m pc ls [.int v]) := by
  rw [hQ]
  exact W.zret F.1.1 F.1.2.1 hr hn (fun t ht hW => ⟨⟨v, (sc, ar), rfl, hp, by rw [ht]; exact hH.1, va_K.moved hW.alike F.2, hH.2.1⟩, hH.2.2.F ht⟩) hH.2.2.2.2 hd hlk
theorem x_vret (F : xF p m c cc nL s args dC dI d) (hH : xH dC dI A s.heap h d sc ar H locs) (hr : meth.sig.returnType = none) (hlk : meth.locks = false) {post : ((Nat → Nat) × (Nat → Nat → Nat)) → Prop} (hQ : Q = MQ below (va_Qv post (x_B dC dI A h d) A) args s cells slots A) (hp : post (sc, ar)) (hd : decode cc pc = .ok (.return_, 1)) : W p l e R s m args below meth c H locs cells slots Q (F0 m pc ls []) := by
  rw [hQ]
  exact W.vret F.1.1 F.1.2.1 hr (fun t ht hW => ⟨⟨(sc, ar), rfl, hp, by rw [ht]; exact hH.1, va_K.moved hW.alike F.2, hH.2.1⟩, hH.2.2.F ht⟩) hH.2.2.2.2 hd hlk
/-- a call of a method of the same object that makes nothing -/
theorem x_calli (F : xF p m c cc nL s args dC dI d) (hH : xH dC dI A s.heap h d sc ar H locs) (hA : ∀ q : Nat, s.heap.size ≤ q → A q) {y : MethodName} {bytes : ByteArray} {maxL n index : Nat} {ret : Option FieldType} {rm : Room} {As : List Value} {post : Int32 → ((Nat → Nat) × (Nat → Nat → Nat)) → Prop}
    (hM : ∀ sz, Met l y (ws_ y bytes maxL ret) rm (x_Pc dC dI h d sz sc ar (.ref (h 0) :: As)) (va_Qi post (x_B dC dI (x_A h d sc ar sz) h d) (x_A h d sc ar sz)) 0 0 (x_A h d sc ar sz))
    (cw : CallW R s args RX0 RX0 index y bytes maxL ret (ws_ y bytes maxL ret) rm 0 0 n) (hn : As.length = n) (hsz : ls.size = nL) (hW : (rest.map fun v => v.category).sum ≤ 8) {st : List Value} (hst : st = As.reverse ++ .ref (h 0) :: rest) (hd : decode cc pc = .ok (.invokevirtual index, 3)) (hf : cells ≤ R.cells ∧ slots ≤ R.slots)
    (kk : ∀ (r : Int32) (sc1 : Nat → Nat) (ar1 : Nat → Nat → Nat) (H1 : Heap) (locs1 : List Loc), post r (sc1, ar1) → xH dC dI A s.heap h d sc1 ar1 H1 locs1 → W p l e R s m args below meth c H1 locs1 cells slots Q (F0 m (pc + 3) ls (.int r :: rest))) : W p l e R s m args below meth c H locs cells slots Q (F0 m pc ls st) := by
  obtain ⟨hP, hD, hS⟩ := hH
  obtain ⟨hFx, hK⟩ := F
  have hFc : ∀ q, va_A (xW h d sc ar) H.size q → A q := by
    intro q hq
    rcases hq with ⟨k, e', hk⟩ | hq
    · exact hD.2 k _ hk
    · exact hA q (Nat.le_trans hS.1 hq)
  refine va_calli (va_runV (g := F0 m pc ls st) (As := As) (rest := rest) hFx (hM H.size) cw ⟨fun a U g mk q => by obtain ⟨q0, q1, qP, qK, qD⟩ := q; exact ⟨q0, q1, qP, va_K.moved (u := U) (U := U.calling g mk a) (Vm.Alike.refl U.vm) qK, qD⟩, va_recv hK hP (ci := 0) (q0 := 0) rfl rfl, fun U hU hW => ⟨rfl, by rw [hU], by rw [hU]; exact hP, va_K.moved hW.alike hK, hD.weaken (fun _ _ _ _ => trivial)⟩⟩ rfl hn hsz hst (lv_room hW) hd hf) hS (fun q _ h => hFc q h) hFc (fun r u t H1 locs1 ht hvm hw hB hz hk hS => ?_)
  obtain ⟨sc1, ar1⟩ := u
  obtain ⟨hP1, hK1, hD1⟩ := hB
  rw [ht] at hP1
  exact kk r sc1 ar1 H1 locs1 hw ⟨hP1, hD1.weaken (fun k q hq hh => by
    rcases hh with ⟨k2, e2, h2⟩ | h2
    · exact hFc _ (Or.inl ⟨k2, e2, h2⟩)
    · exact hFc _ (Or.inr h2)), hS⟩
/-- a call of a method of the same object that makes nothing -/
theorem x_callv (F : xF p m c cc nL s args dC dI d) (hH : xH dC dI A s.heap h d sc ar H locs) (hA : ∀ q : Nat, s.heap.size ≤ q → A q) {y : MethodName} {bytes : ByteArray} {maxL n index : Nat} {ret : Option FieldType} {rm : Room} {As : List Value} {post : ((Nat → Nat) × (Nat → Nat → Nat)) → Prop}
    (hM : ∀ sz, Met l y (ws_ y bytes maxL ret) rm (x_Pc dC dI h d sz sc ar (.ref (h 0) :: As)) (va_Qv post (x_B dC dI (x_A h d sc ar sz) h d) (x_A h d sc ar sz)) 0 0 (x_A h d sc ar sz))
    (cw : CallW R s args RX0 RX0 index y bytes maxL ret (ws_ y bytes maxL ret) rm 0 0 n) (hn : As.length = n) (hsz : ls.size = nL) (hW : (rest.map fun v => v.category).sum ≤ 8) {st : List Value} (hst : st = As.reverse ++ .ref (h 0) :: rest) (hd : decode cc pc = .ok (.invokevirtual index, 3)) (hf : cells ≤ R.cells ∧ slots ≤ R.slots)
    (kk : ∀ (sc1 : Nat → Nat) (ar1 : Nat → Nat → Nat) (H1 : Heap) (locs1 : List Loc), post (sc1, ar1) → xH dC dI A s.heap h d sc1 ar1 H1 locs1 → W p l e R s m args below meth c H1 locs1 cells slots Q (F0 m (pc + 3) ls (rest))) : W p l e R s m args below meth c H locs cells slots Q (F0 m pc ls st) := by
  obtain ⟨hP, hD, hS⟩ := hH
  obtain ⟨hFx, hK⟩ := F
  have hFc : ∀ q, va_A (xW h d sc ar) H.size q → A q := by
    intro q hq
    rcases hq with ⟨k, e', hk⟩ | hq
    · exact hD.2 k _ hk
    · exact hA q (Nat.le_trans hS.1 hq)
  refine va_callv (va_runV (g := F0 m pc ls st) (As := As) (rest := rest) hFx (hM H.size) cw ⟨fun a U g mk q => by obtain ⟨q0, q1, qP, qK, qD⟩ := q; exact ⟨q0, q1, qP, va_K.moved (u := U) (U := U.calling g mk a) (Vm.Alike.refl U.vm) qK, qD⟩, va_recv hK hP (ci := 0) (q0 := 0) rfl rfl, fun U hU hW => ⟨rfl, by rw [hU], by rw [hU]; exact hP, va_K.moved hW.alike hK, hD.weaken (fun _ _ _ _ => trivial)⟩⟩ rfl hn hsz hst (lv_room hW) hd hf) hS (fun q _ h => hFc q h) hFc (fun u t H1 locs1 ht hvm hw hB hz hk hS => ?_)
  obtain ⟨sc1, ar1⟩ := u
  obtain ⟨hP1, hK1, hD1⟩ := hB
  rw [ht] at hP1
  exact kk sc1 ar1 H1 locs1 hw ⟨hP1, hD1.weaken (fun k q hq hh => by
    rcases hh with ⟨k2, e2, h2⟩ | h2
    · exact hFc _ (Or.inl ⟨k2, e2, h2⟩)
    · exact hFc _ (Or.inr h2)), hS⟩
/-- a static method that touches nothing -/
theorem x_calls (F : xF p m c cc nL s args dC dI d) (hH : xH dC dI A s.heap h d sc ar H locs) {y : MethodName} {bytes : ByteArray} {maxL n index : Nat} {ret : Option FieldType} {rm : Room} {As : List Value} {post : Int32 → Prop}
    (hM : Met l y (ws_ y bytes maxL ret) rm (va_Pc As (fun _ => True)) (va_Qi (fun r (_ : Unit) => post r) (fun _ _ => True) (fun _ => False)) 0 0 (fun _ => False))
    (cw : CallB R s args RX0 index y bytes maxL ret (ws_ y bytes maxL ret) rm 0 0 n ∧ (Cond.static y).before args s = true) (hn : As.length = n) (hsz : ls.size = nL) (hW : (rest.map fun v => v.category).sum ≤ 8) {st : List Value} (hst : st = As.reverse ++ rest) (hd : decode cc pc = .ok (.invokestatic index, 3)) (hf : cells ≤ R.cells ∧ slots ≤ R.slots)
    (kk : ∀ (r : Int32) (H1 : Heap) (locs1 : List Loc), post r → xH dC dI A s.heap h d sc ar H1 locs1 → W p l e R s m args below meth c H1 locs1 cells slots Q (F0 m (pc + 3) ls (.int r :: rest))) : W p l e R s m args below meth c H locs cells slots Q (F0 m pc ls st) := by
  obtain ⟨hP, hD, hS⟩ := hH
  refine va_calli (va_runS (g := F0 m pc ls st) (As := As) (rest := rest) F.1 hM cw ⟨fun a U g mk q => q, fun U hU hW => ⟨rfl, trivial⟩⟩ rfl hn hsz hst (lv_room hW) hd hf) hS (fun q _ h => h.elim) (fun q h => h.elim) (fun r u t H1 locs1 ht hvm hw hB hz hk hS => ?_)
  exact kk r H1 locs1 hw ⟨hP.kept (fun k q hq => hk q.1 (hP k q hq).lt (fun z => z)), hD, hS⟩
end XC
end
section
/-! THE WORLD OF FrontierWatchModel -/
abbrev yO (h : Nat → Nat) (sc : Nat → Nat) : List Value := [.int (nI (sc 0)), .ref (h 1), .ref (h 2), .ref (h 3), .ref (h 4), .int (nI (sc 5)), .ref (h 5), .ref (h 6), .ref (h 7), .ref (h 8)]
def yW (h : Nat → Nat) (d : ClassId) (dz : ClassId) (sc : Nat → Nat) (ar : Nat → Nat → Nat) : va_W := [(h 0, .inr (1, yO h sc)), (h 1, .inl (d, 12, .inl (nA (ar 1)))), (h 2, .inl (d, 12, .inl (nA (ar 2)))), (h 3, .inl (d, 12, .inl (nA (ar 3)))), (h 4, .inl (d, 12, .inl (nA (ar 4)))), (h 5, .inl (d, 20, .inl (nA (ar 5)))), (h 6, .inl (d, 20, .inl (nA (ar 6)))), (h 7, .inl (d, 20, .inl (nA (ar 7)))), (h 8, .inl (dz, 2527, .inl (nA (ar 8))))]
def yN (k : Nat) : Nat := match k with
  | 1 => 12
  | 2 => 12
  | 3 => 12
  | 4 => 12
  | 5 => 20
  | 6 => 20
  | 7 => 20
  | _ => 2527
def yD (d : ClassId) (dz : ClassId) (k : Nat) : ClassId := if k = 8 then dz else d
theorem y_at {h : Nat → Nat} {d : ClassId} {dz : ClassId} {sc : Nat → Nat} {ar : Nat → Nat → Nat} (k : Nat) (h1 : 1 ≤ k) (h2 : k ≤ 8) : (yW h d dz sc ar)[k]? = some (h k, .inl (yD d dz k, yN k, .inl (nA (ar k)))) := by
  rcases (show k = 1 ∨ k = 2 ∨ k = 3 ∨ k = 4 ∨ k = 5 ∨ k = 6 ∨ k = 7 ∨ k = 8 by omega) with rfl | rfl | rfl | rfl | rfl | rfl | rfl | rfl <;> rfl
theorem y_N (k : Nat) : yN k < 2147483648 := by
  unfold yN; split <;> decide
theorem y_set {h : Nat → Nat} {d : ClassId} {dz : ClassId} {sc : Nat → Nat} {ar : Nat → Nat → Nat} (k : Nat) (h1 : 1 ≤ k) (h2 : k ≤ 8) (j v : Nat) : (yW h d dz sc ar).set k (h k, .inl (yD d dz k, yN k, .inl (upd (nA (ar k)) j (nI v)))) = yW h d dz sc (au ar k j v) := by
  rcases (show k = 1 ∨ k = 2 ∨ k = 3 ∨ k = 4 ∨ k = 5 ∨ k = 6 ∨ k = 7 ∨ k = 8 by omega) with rfl | rfl | rfl | rfl | rfl | rfl | rfl | rfl
  · show _ = ([(h 0, .inr (1, yO h sc)), (h 1, .inl (d, 12, .inl (nA (au ar 1 j v 1)))), (h 2, .inl (d, 12, .inl (nA (au ar 1 j v 2)))), (h 3, .inl (d, 12, .inl (nA (au ar 1 j v 3)))), (h 4, .inl (d, 12, .inl (nA (au ar 1 j v 4)))), (h 5, .inl (d, 20, .inl (nA (au ar 1 j v 5)))), (h 6, .inl (d, 20, .inl (nA (au ar 1 j v 6)))), (h 7, .inl (d, 20, .inl (nA (au ar 1 j v 7)))), (h 8, .inl (dz, 2527, .inl (nA (au ar 1 j v 8))))] : va_W)
    rw [nA_au_s, nA_au_n ar (k := 1) (k' := 2) j v (by decide), nA_au_n ar (k := 1) (k' := 3) j v (by decide), nA_au_n ar (k := 1) (k' := 4) j v (by decide), nA_au_n ar (k := 1) (k' := 5) j v (by decide), nA_au_n ar (k := 1) (k' := 6) j v (by decide), nA_au_n ar (k := 1) (k' := 7) j v (by decide), nA_au_n ar (k := 1) (k' := 8) j v (by decide)]; rfl
  · show _ = ([(h 0, .inr (1, yO h sc)), (h 1, .inl (d, 12, .inl (nA (au ar 2 j v 1)))), (h 2, .inl (d, 12, .inl (nA (au ar 2 j v 2)))), (h 3, .inl (d, 12, .inl (nA (au ar 2 j v 3)))), (h 4, .inl (d, 12, .inl (nA (au ar 2 j v 4)))), (h 5, .inl (d, 20, .inl (nA (au ar 2 j v 5)))), (h 6, .inl (d, 20, .inl (nA (au ar 2 j v 6)))), (h 7, .inl (d, 20, .inl (nA (au ar 2 j v 7)))), (h 8, .inl (dz, 2527, .inl (nA (au ar 2 j v 8))))] : va_W)
    rw [nA_au_s, nA_au_n ar (k := 2) (k' := 1) j v (by decide), nA_au_n ar (k := 2) (k' := 3) j v (by decide), nA_au_n ar (k := 2) (k' := 4) j v (by decide), nA_au_n ar (k := 2) (k' := 5) j v (by decide), nA_au_n ar (k := 2) (k' := 6) j v (by decide), nA_au_n ar (k := 2) (k' := 7) j v (by decide), nA_au_n ar (k := 2) (k' := 8) j v (by decide)]; rfl
  · show _ = ([(h 0, .inr (1, yO h sc)), (h 1, .inl (d, 12, .inl (nA (au ar 3 j v 1)))), (h 2, .inl (d, 12, .inl (nA (au ar 3 j v 2)))), (h 3, .inl (d, 12, .inl (nA (au ar 3 j v 3)))), (h 4, .inl (d, 12, .inl (nA (au ar 3 j v 4)))), (h 5, .inl (d, 20, .inl (nA (au ar 3 j v 5)))), (h 6, .inl (d, 20, .inl (nA (au ar 3 j v 6)))), (h 7, .inl (d, 20, .inl (nA (au ar 3 j v 7)))), (h 8, .inl (dz, 2527, .inl (nA (au ar 3 j v 8))))] : va_W)
    rw [nA_au_s, nA_au_n ar (k := 3) (k' := 1) j v (by decide), nA_au_n ar (k := 3) (k' := 2) j v (by decide), nA_au_n ar (k := 3) (k' := 4) j v (by decide), nA_au_n ar (k := 3) (k' := 5) j v (by decide), nA_au_n ar (k := 3) (k' := 6) j v (by decide), nA_au_n ar (k := 3) (k' := 7) j v (by decide), nA_au_n ar (k := 3) (k' := 8) j v (by decide)]; rfl
  · show _ = ([(h 0, .inr (1, yO h sc)), (h 1, .inl (d, 12, .inl (nA (au ar 4 j v 1)))), (h 2, .inl (d, 12, .inl (nA (au ar 4 j v 2)))), (h 3, .inl (d, 12, .inl (nA (au ar 4 j v 3)))), (h 4, .inl (d, 12, .inl (nA (au ar 4 j v 4)))), (h 5, .inl (d, 20, .inl (nA (au ar 4 j v 5)))), (h 6, .inl (d, 20, .inl (nA (au ar 4 j v 6)))), (h 7, .inl (d, 20, .inl (nA (au ar 4 j v 7)))), (h 8, .inl (dz, 2527, .inl (nA (au ar 4 j v 8))))] : va_W)
    rw [nA_au_s, nA_au_n ar (k := 4) (k' := 1) j v (by decide), nA_au_n ar (k := 4) (k' := 2) j v (by decide), nA_au_n ar (k := 4) (k' := 3) j v (by decide), nA_au_n ar (k := 4) (k' := 5) j v (by decide), nA_au_n ar (k := 4) (k' := 6) j v (by decide), nA_au_n ar (k := 4) (k' := 7) j v (by decide), nA_au_n ar (k := 4) (k' := 8) j v (by decide)]; rfl
  · show _ = ([(h 0, .inr (1, yO h sc)), (h 1, .inl (d, 12, .inl (nA (au ar 5 j v 1)))), (h 2, .inl (d, 12, .inl (nA (au ar 5 j v 2)))), (h 3, .inl (d, 12, .inl (nA (au ar 5 j v 3)))), (h 4, .inl (d, 12, .inl (nA (au ar 5 j v 4)))), (h 5, .inl (d, 20, .inl (nA (au ar 5 j v 5)))), (h 6, .inl (d, 20, .inl (nA (au ar 5 j v 6)))), (h 7, .inl (d, 20, .inl (nA (au ar 5 j v 7)))), (h 8, .inl (dz, 2527, .inl (nA (au ar 5 j v 8))))] : va_W)
    rw [nA_au_s, nA_au_n ar (k := 5) (k' := 1) j v (by decide), nA_au_n ar (k := 5) (k' := 2) j v (by decide), nA_au_n ar (k := 5) (k' := 3) j v (by decide), nA_au_n ar (k := 5) (k' := 4) j v (by decide), nA_au_n ar (k := 5) (k' := 6) j v (by decide), nA_au_n ar (k := 5) (k' := 7) j v (by decide), nA_au_n ar (k := 5) (k' := 8) j v (by decide)]; rfl
  · show _ = ([(h 0, .inr (1, yO h sc)), (h 1, .inl (d, 12, .inl (nA (au ar 6 j v 1)))), (h 2, .inl (d, 12, .inl (nA (au ar 6 j v 2)))), (h 3, .inl (d, 12, .inl (nA (au ar 6 j v 3)))), (h 4, .inl (d, 12, .inl (nA (au ar 6 j v 4)))), (h 5, .inl (d, 20, .inl (nA (au ar 6 j v 5)))), (h 6, .inl (d, 20, .inl (nA (au ar 6 j v 6)))), (h 7, .inl (d, 20, .inl (nA (au ar 6 j v 7)))), (h 8, .inl (dz, 2527, .inl (nA (au ar 6 j v 8))))] : va_W)
    rw [nA_au_s, nA_au_n ar (k := 6) (k' := 1) j v (by decide), nA_au_n ar (k := 6) (k' := 2) j v (by decide), nA_au_n ar (k := 6) (k' := 3) j v (by decide), nA_au_n ar (k := 6) (k' := 4) j v (by decide), nA_au_n ar (k := 6) (k' := 5) j v (by decide), nA_au_n ar (k := 6) (k' := 7) j v (by decide), nA_au_n ar (k := 6) (k' := 8) j v (by decide)]; rfl
  · show _ = ([(h 0, .inr (1, yO h sc)), (h 1, .inl (d, 12, .inl (nA (au ar 7 j v 1)))), (h 2, .inl (d, 12, .inl (nA (au ar 7 j v 2)))), (h 3, .inl (d, 12, .inl (nA (au ar 7 j v 3)))), (h 4, .inl (d, 12, .inl (nA (au ar 7 j v 4)))), (h 5, .inl (d, 20, .inl (nA (au ar 7 j v 5)))), (h 6, .inl (d, 20, .inl (nA (au ar 7 j v 6)))), (h 7, .inl (d, 20, .inl (nA (au ar 7 j v 7)))), (h 8, .inl (dz, 2527, .inl (nA (au ar 7 j v 8))))] : va_W)
    rw [nA_au_s, nA_au_n ar (k := 7) (k' := 1) j v (by decide), nA_au_n ar (k := 7) (k' := 2) j v (by decide), nA_au_n ar (k := 7) (k' := 3) j v (by decide), nA_au_n ar (k := 7) (k' := 4) j v (by decide), nA_au_n ar (k := 7) (k' := 5) j v (by decide), nA_au_n ar (k := 7) (k' := 6) j v (by decide), nA_au_n ar (k := 7) (k' := 8) j v (by decide)]; rfl
  · show _ = ([(h 0, .inr (1, yO h sc)), (h 1, .inl (d, 12, .inl (nA (au ar 8 j v 1)))), (h 2, .inl (d, 12, .inl (nA (au ar 8 j v 2)))), (h 3, .inl (d, 12, .inl (nA (au ar 8 j v 3)))), (h 4, .inl (d, 12, .inl (nA (au ar 8 j v 4)))), (h 5, .inl (d, 20, .inl (nA (au ar 8 j v 5)))), (h 6, .inl (d, 20, .inl (nA (au ar 8 j v 6)))), (h 7, .inl (d, 20, .inl (nA (au ar 8 j v 7)))), (h 8, .inl (dz, 2527, .inl (nA (au ar 8 j v 8))))] : va_W)
    rw [nA_au_s, nA_au_n ar (k := 8) (k' := 1) j v (by decide), nA_au_n ar (k := 8) (k' := 2) j v (by decide), nA_au_n ar (k := 8) (k' := 3) j v (by decide), nA_au_n ar (k := 8) (k' := 4) j v (by decide), nA_au_n ar (k := 8) (k' := 5) j v (by decide), nA_au_n ar (k := 8) (k' := 6) j v (by decide), nA_au_n ar (k := 8) (k' := 7) j v (by decide)]; rfl
theorem y_setO {h : Nat → Nat} {d : ClassId} {dz : ClassId} {sc : Nat → Nat} {ar : Nat → Nat → Nat} (k : Nat) (hk : k = 0 ∨ k = 5) (v : Nat) : (yW h d dz sc ar).set 0 (h 0, .inr (1, (yO h sc).set k (.int (nI v)))) = yW h d dz (su sc k v) ar := by
  rcases hk with rfl | rfl
  · show _ = ([(h 0, .inr (1, [.int (nI (su sc 0 v 0)), .ref (h 1), .ref (h 2), .ref (h 3), .ref (h 4), .int (nI (su sc 0 v 5)), .ref (h 5), .ref (h 6), .ref (h 7), .ref (h 8)])), (h 1, .inl (d, 12, .inl (nA (ar 1)))), (h 2, .inl (d, 12, .inl (nA (ar 2)))), (h 3, .inl (d, 12, .inl (nA (ar 3)))), (h 4, .inl (d, 12, .inl (nA (ar 4)))), (h 5, .inl (d, 20, .inl (nA (ar 5)))), (h 6, .inl (d, 20, .inl (nA (ar 6)))), (h 7, .inl (d, 20, .inl (nA (ar 7)))), (h 8, .inl (dz, 2527, .inl (nA (ar 8))))] : va_W)
    rw [su_s, su_n sc (k := 0) (k' := 5) v (by decide)]; rfl
  · show _ = ([(h 0, .inr (1, [.int (nI (su sc 5 v 0)), .ref (h 1), .ref (h 2), .ref (h 3), .ref (h 4), .int (nI (su sc 5 v 5)), .ref (h 5), .ref (h 6), .ref (h 7), .ref (h 8)])), (h 1, .inl (d, 12, .inl (nA (ar 1)))), (h 2, .inl (d, 12, .inl (nA (ar 2)))), (h 3, .inl (d, 12, .inl (nA (ar 3)))), (h 4, .inl (d, 12, .inl (nA (ar 4)))), (h 5, .inl (d, 20, .inl (nA (ar 5)))), (h 6, .inl (d, 20, .inl (nA (ar 6)))), (h 7, .inl (d, 20, .inl (nA (ar 7)))), (h 8, .inl (dz, 2527, .inl (nA (ar 8))))] : va_W)
    rw [su_s, su_n sc (k := 5) (k' := 0) v (by decide)]; rfl
theorem y_T1 (k : Nat) : (TX1 k).1 = RX1 := by
  unfold TX1; split <;> rfl
def yH (dC : Nat → ClassId) (dI : Nat → Nat → Nat) (A : Nat → Prop) (H0 : Heap) (h : Nat → Nat) (d : ClassId) (dz : ClassId) (sc : Nat → Nat) (ar : Nat → Nat → Nat) (H : Heap) (locs : List Loc) : Prop := va_P (dC, dI) vwCl (yW h d dz sc ar) H ∧ va_D A (yW h d dz sc ar) ∧ va_S A H0 H locs
def yF (p : Program) (m : MethodId) (c : Code) (cc : ByteArray) (nL : Nat) (s : State) (args : Array Value) (dC : Nat → ClassId) (dI : Nat → Nat → Nat) (d : ClassId) (dz : ClassId) : Prop := CallFix p m c cc nL s args lw_all RX1 ∧ va_K (dC, dI) vwCl [(d, .int), (dz, .boolean)] s
section YK
variable {p : Program} {l : Launch} {e : Env} {R : Room} {s : State} {m : MethodId} {args : Array Value} {below : List Frame} {meth : Method} {c : Code} {H : Heap} {locs : List Loc} {cells slots : Nat} {Q : State → Prop} {cc : ByteArray} {pc : Nat} {ls : Array Slot} {rest : List Value}
variable {dC : Nat → ClassId} {dI : Nat → Nat → Nat} {A : Nat → Prop} {H0 : Heap} {h : Nat → Nat} {d : ClassId} {dz : ClassId} {sc : Nat → Nat} {ar : Nat → Nat → Nat} {nL : Nat}
theorem y_get (F : yF p m c cc nL s args dC dI d dz) (hH : yH dC dI A H0 h d dz sc ar H locs) (k : Nat) (hk : k < 10) {index : Nat} (hl : Cond.fieldLink RX1 index RX1 (TX1 k).2.1 (TX1 k).2.2.1 ∈ lw_all) {v : Value} (hv : (yO h sc)[k]? = some v) (hd : decode cc pc = .ok (.getfield index, 3)) (kk : W p l e R s m args below meth c H locs cells slots Q (F0 m (pc + 3) ls (v :: rest))) : W p l e R s m args below meth c H locs cells slots Q (F0 m pc ls (.ref (h 0) :: rest)) :=
  va_get (D := (dC, dI)) (ci := 1) (C := RX1) (T := TX1) (N := 10) F.1.1 F.1.2.1 F.1.2.2.2.2 in_X1 F.1.2.2.2.1 F.2 hH.1 0 rfl rfl k hk (F.1.2.2.2.2 _ hl) (fun z h9 => by rw [y_T1] at h9; exact h9) hv hd kk
theorem y_getv (F : yF p m c cc nL s args dC dI d dz) (hH : yH dC dI A H0 h d dz sc ar H locs) (k : Nat) (hk : k < 10) {index : Nat} (hl : Cond.fieldLink RX1 index RX1 (TX1 k).2.1 (TX1 k).2.2.1 ∈ lw_all) {a v : Nat} (hv : (yO h sc)[k]? = some (.int (nI a))) (ha : a = v) (hd : decode cc pc = .ok (.getfield index, 3)) (kk : W p l e R s m args below meth c H locs cells slots Q (F0 m (pc + 3) ls (.int (nI v) :: rest))) : W p l e R s m args below meth c H locs cells slots Q (F0 m pc ls (.ref (h 0) :: rest)) := by
  subst ha
  exact y_get F hH k hk hl hv hd kk
theorem y_put (F : yF p m c cc nL s args dC dI d dz) (hH : yH dC dI A H0 h d dz sc ar H locs) (k : Nat) (hk : k = 0 ∨ k = 5) {index : Nat} (hl : Cond.fieldLink RX1 index RX1 (TX1 k).2.1 (TX1 k).2.2.1 ∈ lw_all) {v : Nat} (hd : decode cc pc = .ok (.putfield index, 3)) (kk : ∀ (sc' : Nat → Nat) (H1 : Heap) (locs1 : List Loc), sc' = su sc k v → yH dC dI A H0 h d dz sc' ar H1 locs1 → W p l e R s m args below meth c H1 locs1 cells slots Q (F0 m (pc + 3) ls (rest))) : W p l e R s m args below meth c H locs cells slots Q (F0 m pc ls (.int (nI v) :: .ref (h 0) :: rest)) := by
  refine va_put (D := (dC, dI)) (ci := 1) (v := .int (nI v)) (ty := .int) (C := RX1) (T := TX1) (N := 10) F.1.1 F.1.2.1 F.1.2.2.2.2 in_X1 tyX1 tyX1_ok nmX1 F.1.2.2.2.1 F.2 hH.1 hH.2.1 hH.2.2 0 rfl rfl k (by omega) (F.1.2.2.2.2 _ hl) (fun z h9 => by rw [y_T1] at h9; exact h9) ?_ ?_ rfl rfl (show k < 10 by omega) hd (fun H1 locs1 hP hD hS => ?_)
  · rcases hk with rfl | rfl <;> rfl
  · rcases hk with rfl | rfl <;> decide +kernel
  · rw [y_setO k hk v] at hP hD
    exact kk _ H1 locs1 rfl ⟨hP, hD, hS⟩
theorem y_ald (F : yF p m c cc nL s args dC dI d dz) (hH : yH dC dI A H0 h d dz sc ar H locs) (k : Nat) {N j : Nat} (hN : yN k = N) (h1 : 1 ≤ k) (h2 : k ≤ 7) (hj : j < N) (hd : decode cc pc = .ok (.iaload, 1)) (kk : W p l e R s m args below meth c H locs cells slots Q (F0 m (pc + 1) ls (.int (nI (ar k j)) :: rest))) : W p l e R s m args below meth c H locs cells slots Q (F0 m pc ls (.int (nI j) :: .ref (h k) :: rest)) := by
  refine va_iald F.1.1 F.1.2.1 F.2 hH.1 k 0 (show (yW h d dz sc ar)[k]? = some (h k, .inl (d, yN k, .inl (nA (ar k)))) from by rw [y_at k h1 (by omega)]; unfold yD; rw [if_neg (by omega)]) rfl (vp_in_nI (by rw [hN]; exact hj) (y_N k)) hd ?_
  rw [nI_clamp (by have := y_N k; omega)]
  exact kk
theorem y_aldv (F : yF p m c cc nL s args dC dI d dz) (hH : yH dC dI A H0 h d dz sc ar H locs) (k : Nat) {N j v : Nat} (hN : yN k = N) (h1 : 1 ≤ k) (h2 : k ≤ 7) (hj : j < N) (hv : ar k j = v) (hd : decode cc pc = .ok (.iaload, 1)) (kk : W p l e R s m args below meth c H locs cells slots Q (F0 m (pc + 1) ls (.int (nI v) :: rest))) : W p l e R s m args below meth c H locs cells slots Q (F0 m pc ls (.int (nI j) :: .ref (h k) :: rest)) := by
  subst hv
  exact y_ald F hH k hN h1 h2 hj hd kk
theorem y_ast (F : yF p m c cc nL s args dC dI d dz) (hH : yH dC dI A H0 h d dz sc ar H locs) (k : Nat) {N j v : Nat} (hN : yN k = N) (h1 : 1 ≤ k) (h2 : k ≤ 7) (hj : j < N) (hd : decode cc pc = .ok (.iastore, 1)) (kk : ∀ (ar' : Nat → Nat → Nat) (H1 : Heap) (locs1 : List Loc), ar' = au ar k j v → yH dC dI A H0 h d dz sc ar' H1 locs1 → W p l e R s m args below meth c H1 locs1 cells slots Q (F0 m (pc + 1) ls (rest))) : W p l e R s m args below meth c H locs cells slots Q (F0 m pc ls (.int (nI v) :: .int (nI j) :: .ref (h k) :: rest)) := by
  refine va_iast F.1.1 F.1.2.1 F.2 hH.1 hH.2.1 hH.2.2 k 0 (show (yW h d dz sc ar)[k]? = some (h k, .inl (d, yN k, .inl (nA (ar k)))) from by rw [y_at k h1 (by omega)]; unfold yD; rw [if_neg (by omega)]) rfl (vp_in_nI (by rw [hN]; exact hj) (y_N k)) hd (fun H1 locs1 hP hD hS => ?_)
  have e := y_set (h := h) (d := d) (dz := dz) (sc := sc) (ar := ar) k h1 (by omega) j v
  unfold yD at e
  rw [if_neg (by omega)] at e
  rw [nI_clamp (by have := y_N k; omega), e] at hP hD
  exact kk _ H1 locs1 rfl ⟨hP, hD, hS⟩
theorem y_zald (F : yF p m c cc nL s args dC dI d dz) (hH : yH dC dI A H0 h d dz sc ar H locs) {j : Nat} (hj : j < 2527) (hd : decode cc pc = .ok (.baload, 1)) (kk : W p l e R s m args below meth c H locs cells slots Q (F0 m (pc + 1) ls (.int (nI (ar 8 j)) :: rest))) : W p l e R s m args below meth c H locs cells slots Q (F0 m pc ls (.int (nI j) :: .ref (h 8) :: rest)) := by
  refine va_zald F.1.1 F.1.2.1 F.2 hH.1 8 1 (cA := dz) (n := 2527) (f := nA (ar 8)) rfl rfl (vp_in_nI hj (by decide)) hd ?_
  rw [nI_clamp (by omega)]
  exact kk
theorem y_zaldv (F : yF p m c cc nL s args dC dI d dz) (hH : yH dC dI A H0 h d dz sc ar H locs) {j v : Nat} (hj : j < 2527) (hv : ar 8 j = v) (hd : decode cc pc = .ok (.baload, 1)) (kk : W p l e R s m args below meth c H locs cells slots Q (F0 m (pc + 1) ls (.int (nI v) :: rest))) : W p l e R s m args below meth c H locs cells slots Q (F0 m pc ls (.int (nI j) :: .ref (h 8) :: rest)) := by
  subst hv
  exact y_zald F hH hj hd kk
theorem y_zast (F : yF p m c cc nL s args dC dI d dz) (hH : yH dC dI A H0 h d dz sc ar H locs) {j v : Nat} (hv : v = 0 ∨ v = 1) (hj : j < 2527) (hd : decode cc pc = .ok (.bastore, 1)) (kk : ∀ (ar' : Nat → Nat → Nat) (H1 : Heap) (locs1 : List Loc), ar' = au ar 8 j v → yH dC dI A H0 h d dz sc ar' H1 locs1 → W p l e R s m args below meth c H1 locs1 cells slots Q (F0 m (pc + 1) ls (rest))) : W p l e R s m args below meth c H locs cells slots Q (F0 m pc ls (.int (nI v) :: .int (nI j) :: .ref (h 8) :: rest)) := by
  refine va_zast F.1.1 F.1.2.1 F.2 hH.1 hH.2.1 hH.2.2 8 1 (cA := dz) (n := 2527) (f := nA (ar 8)) rfl rfl (vp_in_nI hj (by decide)) hd (fun H1 locs1 hP hD hS => ?_)
  have e := y_set (h := h) (d := d) (dz := dz) (sc := sc) (ar := ar) 8 (by decide) (by decide) j v
  have ev : vp_nar .boolean (nI v) = nI v := by rcases hv with rfl | rfl <;> decide +kernel
  rw [nI_clamp (by omega), ev] at hP hD
  exact kk _ H1 locs1 rfl ⟨by rw [← e]; exact hP, by rw [← e]; exact hD, hS⟩
end YK
abbrev y_Pc (dC : Nat → ClassId) (dI : Nat → Nat → Nat) (h : Nat → Nat) (d : ClassId) (dz : ClassId) (sz : Nat) (sc : Nat → Nat) (ar : Nat → Nat → Nat) (av : List Value) : Array Value → State → Prop := va_Pc av (fun U => U.heap.size = sz ∧ va_P (dC, dI) vwCl (yW h d dz sc ar) U.heap ∧ va_K (dC, dI) vwCl [(d, .int), (dz, .boolean)] U ∧ va_D (fun _ => True) (yW h d dz sc ar))
def y_B (dC : Nat → ClassId) (dI : Nat → Nat → Nat) (A : Nat → Prop) (h : Nat → Nat) (d : ClassId) (dz : ClassId) (u : (Nat → Nat) × (Nat → Nat → Nat)) (t : State) : Prop := va_P (dC, dI) vwCl (yW h d dz u.1 u.2) t.heap ∧ va_K (dC, dI) vwCl [(d, .int), (dz, .boolean)] t ∧ va_D A (yW h d dz u.1 u.2)
abbrev y_A (h : Nat → Nat) (d : ClassId) (dz : ClassId) (sc : Nat → Nat) (ar : Nat → Nat → Nat) (sz : Nat) : Nat → Prop := va_A (yW h d dz sc ar) sz
theorem y_headi {l : Launch} {dC : Nat → ClassId} {dI : Nat → Nat → Nat} {h : Nat → Nat} {d : ClassId} {dz : ClassId} {sz : Nat} {sc : Nat → Nat} {ar : Nat → Nat → Nat} {av : List Value} {y : MethodName} {cc : ByteArray} {maxL : Nat} {ret : Option FieldType} {rm : Room} {post : Int32 → ((Nat → Nat) × (Nat → Nat → Nat)) → Prop}
    (hy : plainName y.cls = true) (hc : y.cls = RX1) (hav : (lg_sl av).length ≤ maxL)
    (body : ∀ (p : Program) (e : Env) (s : State) (m : MethodId) (below : List Frame) (meth : Method) (c : Code) (A : Nat → Prop) (av' : Array Value) (QQ : State → Prop), meth.sig.returnType = ret → meth.locks = false → yF p m c cc maxL s av' dC dI d dz → (∀ q : Nat, s.heap.size ≤ q → A q) → yH dC dI A s.heap h d dz sc ar s.heap [] → QQ = MQ below (va_Qi post (y_B dC dI A h d dz) A) av' s 0 0 A → ∀ ls : Array Slot, lv_has ls maxL (lv_args 0 av) → W p l e rm s m av' below meth c s.heap [] 0 0 QQ (F0 m 0 ls [])) :
    Met l y (ws_ y cc maxL ret) rm (y_Pc dC dI h d dz sz sc ar av) (va_Qi post (y_B dC dI (y_A h d dz sc ar sz) h d dz) (y_A h d dz sc ar sz)) 0 0 (y_A h d dz sc ar sz) := by
  refine Met.ofW (cc := cc) (maxL := maxL) (ret := ret) hy rfl ?_
  intro p e s m args below meth c s₁ B hml hv
  obtain ⟨rfl, hsz, hP, hK, hD0⟩ := hv
  have hts := atoms_spec (ws := ws_ y cc maxL ret) B.pre
  have hts : ∀ w ∈ lw_all, w.before _ s = true := fun w h => hts w (List.mem_cons_of_mem _ h)
  have hown : s.vm.findClass RX1 = some m.cls := hc ▸ findClass_of_methodNamed B.named
  subst hsz
  have hD := hD0.self (sz := s.heap.size)
  have hl := lv_entry av (n := maxL) hav
  rw [lg_entry_eq]
  exact body p e s m below meth c (y_A h d dz sc ar s.heap.size) _ _ B.returns B.notSynchronized ⟨⟨B.exec, B.bytes, hml, hown, hts⟩, hK⟩ (fun q h => Or.inr h) ⟨hP, hD, va_S.rf⟩ rfl _ hl
theorem y_headv {l : Launch} {dC : Nat → ClassId} {dI : Nat → Nat → Nat} {h : Nat → Nat} {d : ClassId} {dz : ClassId} {sz : Nat} {sc : Nat → Nat} {ar : Nat → Nat → Nat} {av : List Value} {y : MethodName} {cc : ByteArray} {maxL : Nat} {ret : Option FieldType} {rm : Room} {post : ((Nat → Nat) × (Nat → Nat → Nat)) → Prop}
    (hy : plainName y.cls = true) (hc : y.cls = RX1) (hav : (lg_sl av).length ≤ maxL)
    (body : ∀ (p : Program) (e : Env) (s : State) (m : MethodId) (below : List Frame) (meth : Method) (c : Code) (A : Nat → Prop) (av' : Array Value) (QQ : State → Prop), meth.sig.returnType = ret → meth.locks = false → yF p m c cc maxL s av' dC dI d dz → (∀ q : Nat, s.heap.size ≤ q → A q) → yH dC dI A s.heap h d dz sc ar s.heap [] → QQ = MQ below (va_Qv post (y_B dC dI A h d dz) A) av' s 0 0 A → ∀ ls : Array Slot, lv_has ls maxL (lv_args 0 av) → W p l e rm s m av' below meth c s.heap [] 0 0 QQ (F0 m 0 ls [])) :
    Met l y (ws_ y cc maxL ret) rm (y_Pc dC dI h d dz sz sc ar av) (va_Qv post (y_B dC dI (y_A h d dz sc ar sz) h d dz) (y_A h d dz sc ar sz)) 0 0 (y_A h d dz sc ar sz) := by
  refine Met.ofW (cc := cc) (maxL := maxL) (ret := ret) hy rfl ?_
  intro p e s m args below meth c s₁ B hml hv
  obtain ⟨rfl, hsz, hP, hK, hD0⟩ := hv
  have hts := atoms_spec (ws := ws_ y cc maxL ret) B.pre
  have hts : ∀ w ∈ lw_all, w.before _ s = true := fun w h => hts w (List.mem_cons_of_mem _ h)
  have hown : s.vm.findClass RX1 = some m.cls := hc ▸ findClass_of_methodNamed B.named
  subst hsz
  have hD := hD0.self (sz := s.heap.size)
  have hl := lv_entry av (n := maxL) hav
  rw [lg_entry_eq]
  exact body p e s m below meth c (y_A h d dz sc ar s.heap.size) _ _ B.returns B.notSynchronized ⟨⟨B.exec, B.bytes, hml, hown, hts⟩, hK⟩ (fun q h => Or.inr h) ⟨hP, hD, va_S.rf⟩ rfl _ hl
section YC
variable {p : Program} {l : Launch} {e : Env} {R : Room} {s : State} {m : MethodId} {args : Array Value} {below : List Frame} {meth : Method} {c : Code} {H : Heap} {locs : List Loc} {cells slots : Nat} {Q : State → Prop} {cc : ByteArray} {pc : Nat} {ls : Array Slot} {rest : List Value}
variable {dC : Nat → ClassId} {dI : Nat → Nat → Nat} {A : Nat → Prop} {h : Nat → Nat} {d : ClassId} {dz : ClassId} {sc : Nat → Nat} {ar : Nat → Nat → Nat} {nL : Nat}
theorem y_iret (F : yF p m c cc nL s args dC dI d dz) (hH : yH dC dI A s.heap h d dz sc ar H locs) (hr : meth.sig.returnType = some .int) (hlk : meth.locks = false) {post : Int32 → ((Nat → Nat) × (Nat → Nat → Nat)) → Prop} (hQ : Q = MQ below (va_Qi post (y_B dC dI A h d dz) A) args s cells slots A) {v : Int32} (hp : post v (sc, ar)) (hd : decode cc pc = .ok (.ireturn, 1)) : W p l e R s m args below meth c H locs cells slots Q (F0 m pc ls [.int v]) := by
  rw [hQ]
  exact W.iret F.1.1 F.1.2.1 hr (fun t ht hW => ⟨⟨v, (sc, ar), rfl, hp, by rw [ht]; exact hH.1, va_K.moved hW.alike F.2, hH.2.1⟩, hH.2.2.F ht⟩) hH.2.2.2.2 hd hlk
theorem y_zret (F : yF p m c cc nL s args dC dI d dz) (hH : yH dC dI A s.heap h d dz sc ar H locs) (hr : meth.sig.returnType = some .boolean) (hlk : meth.locks = false) {post : Int32 → ((Nat → Nat) × (Nat → Nat → Nat)) → Prop} (hQ : Q = MQ below (va_Qi post (y_B dC dI A h d dz) A) args s cells slots A) {v : Int32} (hn : narrow .boolean (.int v) = .int v) (hp : post v (sc, ar)) (hd : decode cc pc = .ok (.ireturn, 1)) : W p l e R s m args below meth c H locs cells slots Q (F0 m pc ls [.int v]) := by
  rw [hQ]
  exact W.zret F.1.1 F.1.2.1 hr hn (fun t ht hW => ⟨⟨v, (sc, ar), rfl, hp, by rw [ht]; exact hH.1, va_K.moved hW.alike F.2, hH.2.1⟩, hH.2.2.F ht⟩) hH.2.2.2.2 hd hlk
theorem y_vret (F : yF p m c cc nL s args dC dI d dz) (hH : yH dC dI A s.heap h d dz sc ar H locs) (hr : meth.sig.returnType = none) (hlk : meth.locks = false) {post : ((Nat → Nat) × (Nat → Nat → Nat)) → Prop} (hQ : Q = MQ below (va_Qv post (y_B dC dI A h d dz) A) args s cells slots A) (hp : post (sc, ar)) (hd : decode cc pc = .ok (.return_, 1)) : W p l e R s m args below meth c H locs cells slots Q (F0 m pc ls []) := by
  rw [hQ]
  exact W.vret F.1.1 F.1.2.1 hr (fun t ht hW => ⟨⟨(sc, ar), rfl, hp, by rw [ht]; exact hH.1, va_K.moved hW.alike F.2, hH.2.1⟩, hH.2.2.F ht⟩) hH.2.2.2.2 hd hlk
/-- a call of a method of the same object that makes nothing -/
theorem y_calli (F : yF p m c cc nL s args dC dI d dz) (hH : yH dC dI A s.heap h d dz sc ar H locs) (hA : ∀ q : Nat, s.heap.size ≤ q → A q) {y : MethodName} {bytes : ByteArray} {maxL n index : Nat} {ret : Option FieldType} {rm : Room} {As : List Value} {post : Int32 → ((Nat → Nat) × (Nat → Nat → Nat)) → Prop}
    (hM : ∀ sz, Met l y (ws_ y bytes maxL ret) rm (y_Pc dC dI h d dz sz sc ar (.ref (h 0) :: As)) (va_Qi post (y_B dC dI (y_A h d dz sc ar sz) h d dz) (y_A h d dz sc ar sz)) 0 0 (y_A h d dz sc ar sz))
    (cw : CallW R s args RX1 RX1 index y bytes maxL ret (ws_ y bytes maxL ret) rm 0 0 n) (hn : As.length = n) (hsz : ls.size = nL) (hW : (rest.map fun v => v.category).sum ≤ 8) {st : List Value} (hst : st = As.reverse ++ .ref (h 0) :: rest) (hd : decode cc pc = .ok (.invokevirtual index, 3)) (hf : cells ≤ R.cells ∧ slots ≤ R.slots)
    (kk : ∀ (r : Int32) (sc1 : Nat → Nat) (ar1 : Nat → Nat → Nat) (H1 : Heap) (locs1 : List Loc), post r (sc1, ar1) → yH dC dI A s.heap h d dz sc1 ar1 H1 locs1 → W p l e R s m args below meth c H1 locs1 cells slots Q (F0 m (pc + 3) ls (.int r :: rest))) : W p l e R s m args below meth c H locs cells slots Q (F0 m pc ls st) := by
  obtain ⟨hP, hD, hS⟩ := hH
  obtain ⟨hFx, hK⟩ := F
  have hFc : ∀ q, va_A (yW h d dz sc ar) H.size q → A q := by
    intro q hq
    rcases hq with ⟨k, e', hk⟩ | hq
    · exact hD.2 k _ hk
    · exact hA q (Nat.le_trans hS.1 hq)
  refine va_calli (va_runV (g := F0 m pc ls st) (As := As) (rest := rest) hFx (hM H.size) cw ⟨fun a U g mk q => by obtain ⟨q0, q1, qP, qK, qD⟩ := q; exact ⟨q0, q1, qP, va_K.moved (u := U) (U := U.calling g mk a) (Vm.Alike.refl U.vm) qK, qD⟩, va_recv hK hP (ci := 1) (q0 := 0) rfl rfl, fun U hU hW => ⟨rfl, by rw [hU], by rw [hU]; exact hP, va_K.moved hW.alike hK, hD.weaken (fun _ _ _ _ => trivial)⟩⟩ rfl hn hsz hst (lv_room hW) hd hf) hS (fun q _ h => hFc q h) hFc (fun r u t H1 locs1 ht hvm hw hB hz hk hS => ?_)
  obtain ⟨sc1, ar1⟩ := u
  obtain ⟨hP1, hK1, hD1⟩ := hB
  rw [ht] at hP1
  exact kk r sc1 ar1 H1 locs1 hw ⟨hP1, hD1.weaken (fun k q hq hh => by
    rcases hh with ⟨k2, e2, h2⟩ | h2
    · exact hFc _ (Or.inl ⟨k2, e2, h2⟩)
    · exact hFc _ (Or.inr h2)), hS⟩
/-- a call of a method of the same object that makes nothing -/
theorem y_callv (F : yF p m c cc nL s args dC dI d dz) (hH : yH dC dI A s.heap h d dz sc ar H locs) (hA : ∀ q : Nat, s.heap.size ≤ q → A q) {y : MethodName} {bytes : ByteArray} {maxL n index : Nat} {ret : Option FieldType} {rm : Room} {As : List Value} {post : ((Nat → Nat) × (Nat → Nat → Nat)) → Prop}
    (hM : ∀ sz, Met l y (ws_ y bytes maxL ret) rm (y_Pc dC dI h d dz sz sc ar (.ref (h 0) :: As)) (va_Qv post (y_B dC dI (y_A h d dz sc ar sz) h d dz) (y_A h d dz sc ar sz)) 0 0 (y_A h d dz sc ar sz))
    (cw : CallW R s args RX1 RX1 index y bytes maxL ret (ws_ y bytes maxL ret) rm 0 0 n) (hn : As.length = n) (hsz : ls.size = nL) (hW : (rest.map fun v => v.category).sum ≤ 8) {st : List Value} (hst : st = As.reverse ++ .ref (h 0) :: rest) (hd : decode cc pc = .ok (.invokevirtual index, 3)) (hf : cells ≤ R.cells ∧ slots ≤ R.slots)
    (kk : ∀ (sc1 : Nat → Nat) (ar1 : Nat → Nat → Nat) (H1 : Heap) (locs1 : List Loc), post (sc1, ar1) → yH dC dI A s.heap h d dz sc1 ar1 H1 locs1 → W p l e R s m args below meth c H1 locs1 cells slots Q (F0 m (pc + 3) ls (rest))) : W p l e R s m args below meth c H locs cells slots Q (F0 m pc ls st) := by
  obtain ⟨hP, hD, hS⟩ := hH
  obtain ⟨hFx, hK⟩ := F
  have hFc : ∀ q, va_A (yW h d dz sc ar) H.size q → A q := by
    intro q hq
    rcases hq with ⟨k, e', hk⟩ | hq
    · exact hD.2 k _ hk
    · exact hA q (Nat.le_trans hS.1 hq)
  refine va_callv (va_runV (g := F0 m pc ls st) (As := As) (rest := rest) hFx (hM H.size) cw ⟨fun a U g mk q => by obtain ⟨q0, q1, qP, qK, qD⟩ := q; exact ⟨q0, q1, qP, va_K.moved (u := U) (U := U.calling g mk a) (Vm.Alike.refl U.vm) qK, qD⟩, va_recv hK hP (ci := 1) (q0 := 0) rfl rfl, fun U hU hW => ⟨rfl, by rw [hU], by rw [hU]; exact hP, va_K.moved hW.alike hK, hD.weaken (fun _ _ _ _ => trivial)⟩⟩ rfl hn hsz hst (lv_room hW) hd hf) hS (fun q _ h => hFc q h) hFc (fun u t H1 locs1 ht hvm hw hB hz hk hS => ?_)
  obtain ⟨sc1, ar1⟩ := u
  obtain ⟨hP1, hK1, hD1⟩ := hB
  rw [ht] at hP1
  exact kk sc1 ar1 H1 locs1 hw ⟨hP1, hD1.weaken (fun k q hq hh => by
    rcases hh with ⟨k2, e2, h2⟩ | h2
    · exact hFc _ (Or.inl ⟨k2, e2, h2⟩)
    · exact hFc _ (Or.inr h2)), hS⟩
/-- a static method that touches nothing -/
theorem y_calls (F : yF p m c cc nL s args dC dI d dz) (hH : yH dC dI A s.heap h d dz sc ar H locs) {y : MethodName} {bytes : ByteArray} {maxL n index : Nat} {ret : Option FieldType} {rm : Room} {As : List Value} {post : Int32 → Prop}
    (hM : Met l y (ws_ y bytes maxL ret) rm (va_Pc As (fun _ => True)) (va_Qi (fun r (_ : Unit) => post r) (fun _ _ => True) (fun _ => False)) 0 0 (fun _ => False))
    (cw : CallB R s args RX1 index y bytes maxL ret (ws_ y bytes maxL ret) rm 0 0 n ∧ (Cond.static y).before args s = true) (hn : As.length = n) (hsz : ls.size = nL) (hW : (rest.map fun v => v.category).sum ≤ 8) {st : List Value} (hst : st = As.reverse ++ rest) (hd : decode cc pc = .ok (.invokestatic index, 3)) (hf : cells ≤ R.cells ∧ slots ≤ R.slots)
    (kk : ∀ (r : Int32) (H1 : Heap) (locs1 : List Loc), post r → yH dC dI A s.heap h d dz sc ar H1 locs1 → W p l e R s m args below meth c H1 locs1 cells slots Q (F0 m (pc + 3) ls (.int r :: rest))) : W p l e R s m args below meth c H locs cells slots Q (F0 m pc ls st) := by
  obtain ⟨hP, hD, hS⟩ := hH
  refine va_calli (va_runS (g := F0 m pc ls st) (As := As) (rest := rest) F.1 hM cw ⟨fun a U g mk q => q, fun U hU hW => ⟨rfl, trivial⟩⟩ rfl hn hsz hst (lv_room hW) hd hf) hS (fun q _ h => h.elim) (fun q h => h.elim) (fun r u t H1 locs1 ht hvm hw hB hz hk hS => ?_)
  exact kk r H1 locs1 hw ⟨hP.kept (fun k q hq => hk q.1 (hP k q hq).lt (fun z => z)), hD, hS⟩
end YC
end
section
/-! static methods that touch nothing -/
abbrev r_ (k : Nat) : Room := { frames := k, cells := 0, slots := 0, locals := 28 * k }
theorem st_head {l : Launch} {av : List Value} {y : MethodName} {cc : ByteArray} {maxL : Nat} {ret : Option FieldType} {rm : Room} {post : Int32 → Prop}
    (hy : plainName y.cls = true) (hav : (lg_sl av).length ≤ maxL)
    (body : ∀ (p : Program) (e : Env) (s : State) (m : MethodId) (below : List Frame) (meth : Method) (c : Code), p.tables.exec = Jvm.exec → c.code = cc → meth.sig.returnType = ret → meth.locks = false → va_S (fun _ => False) s.heap s.heap [] → ∀ ls : Array Slot, lv_has ls maxL (lv_args 0 av) → W p l e rm s m av.toArray below meth c s.heap [] 0 0 (MQ below (va_Qi (fun r (_ : Unit) => post r) (fun _ _ => True) (fun _ => False)) av.toArray s 0 0 (fun _ => False)) (F0 m 0 ls [])) :
    Met l y (ws_ y cc maxL ret) rm (va_Pc av (fun _ => True)) (va_Qi (fun r (_ : Unit) => post r) (fun _ _ => True) (fun _ => False)) 0 0 (fun _ => False) := by
  refine Met.ofW (cc := cc) (maxL := maxL) (ret := ret) hy rfl ?_
  intro p e s m args below meth c s₁ B hml hv
  obtain ⟨rfl, -⟩ := hv
  have hl := lv_entry av (n := maxL) hav
  rw [lg_entry_eq]
  exact body p e s m below meth c B.exec B.bytes B.returns B.notSynchronized va_S.rf _ hl
end
section
/-! PURE 1: counts; the list that addSum makes; walks and Floyd-Warshall. No program in sight. -/
noncomputable def fc_i (P : Prop) : Nat := @ite Nat P (Classical.propDecidable P) 1 0
theorem fc_i_t {P : Prop} (h : P) : fc_i P = 1 := by unfold fc_i; rw [if_pos h]
theorem fc_i_f {P : Prop} (h : ¬ P) : fc_i P = 0 := by unfold fc_i; rw [if_neg h]
theorem fc_i_le (P : Prop) : fc_i P ≤ 1 := by
  by_cases h : P
  · rw [fc_i_t h]; exact Nat.le_refl 1
  · rw [fc_i_f h]; exact Nat.zero_le 1
noncomputable def fc_n (F : Nat → Prop) : Nat → Nat
  | 0 => 0
  | n + 1 => fc_n F n + fc_i (F n)
theorem fc_0 (F : Nat → Prop) : fc_n F 0 = 0 := rfl
theorem fc_s (F : Nat → Prop) (n : Nat) : fc_n F (n + 1) = fc_n F n + fc_i (F n) := rfl
theorem fc_t {F : Nat → Prop} {n : Nat} (h : F n) : fc_n F (n + 1) = fc_n F n + 1 := by rw [fc_s, fc_i_t h]
theorem fc_f {F : Nat → Prop} {n : Nat} (h : ¬ F n) : fc_n F (n + 1) = fc_n F n := by rw [fc_s, fc_i_f h]; rfl
theorem fc_congr {F G : Nat → Prop} {n : Nat} (h : ∀ k, k < n → (F k ↔ G k)) : fc_n F n = fc_n G n := by
  induction n with
  | zero => rfl
  | succ n ih =>
    have ih := ih (fun k hk => h k (by omega))
    rw [fc_s, fc_s, ih, propext (h n (by omega))]
theorem fc_none {F : Nat → Prop} {n : Nat} (h : ∀ k, k < n → ¬ F k) : fc_n F n = 0 := by
  induction n with
  | zero => rfl
  | succ n ih => rw [fc_f (h n (by omega))]; exact ih (fun k hk => h k (by omega))
theorem fc_le (F : Nat → Prop) (n : Nat) : fc_n F n ≤ n := by
  induction n with
  | zero => exact Nat.le_refl 0
  | succ n ih => have := fc_i_le (F n); rw [fc_s]; omega
theorem fc_mono {F : Nat → Prop} {a b : Nat} (h : a ≤ b) : fc_n F a ≤ fc_n F b := by
  induction b with
  | zero => rw [show a = 0 by omega]; exact Nat.le_refl _
  | succ b ih =>
    by_cases e : a = b + 1
    · rw [e]; exact Nat.le_refl _
    · have := ih (by omega); rw [fc_s]; omega
theorem fc_lt {F : Nat → Prop} {a b : Nat} (h : a < b) (ha : F a) : fc_n F a < fc_n F b := by
  have h1 : fc_n F (a + 1) ≤ fc_n F b := fc_mono h
  rw [fc_t ha] at h1
  omega
theorem fc_pos {F : Nat → Prop} {n : Nat} : 0 < fc_n F n ↔ ∃ k, k < n ∧ F k := by
  constructor
  · intro h
    induction n with
    | zero => rw [fc_0] at h; omega
    | succ n ih =>
      by_cases e : F n
      · exact ⟨n, by omega, e⟩
      · rw [fc_f e] at h
        obtain ⟨k, hk, hF⟩ := ih h
        exact ⟨k, by omega, hF⟩
  · rintro ⟨k, hk, hF⟩
    have := fc_lt hk hF
    omega
theorem fc_add (F : Nat → Prop) (a b : Nat) : fc_n F (a + b) = fc_n F a + fc_n (fun k => F (a + k)) b := by
  induction b with
  | zero => rfl
  | succ b ih =>
    have e : a + (b + 1) = (a + b) + 1 := by omega
    rw [e, fc_s, ih, fc_s]; omega
theorem fc_swap {F G : Nat → Prop} {n k : Nat} (hk : k < n) (h : ∀ j, j < n → j ≠ k → (F j ↔ G j)) : fc_n F n + fc_i (G k) = fc_n G n + fc_i (F k) := by
  induction n with
  | zero => omega
  | succ n ih =>
    rw [fc_s, fc_s]
    by_cases e : k = n
    · subst e
      have := fc_congr (F := F) (G := G) (n := k) (fun j hj => h j (by omega) (by omega))
      omega
    · have h1 := ih (by omega) (fun j hj hne => h j (by omega) hne)
      have h2 : fc_i (F n) = fc_i (G n) := by rw [propext (h n (by omega) (fun q => e q.symm))]
      omega
theorem fc_one {F : Nat → Prop} {n k : Nat} (hk : k < n) (hF : F k) (hu : ∀ j, j < n → F j → j = k) : fc_n F n = 1 := by
  have h := fc_swap (F := F) (G := fun _ => False) hk (fun j hj hne => ⟨fun q => hne (hu j hj q), fun q => q.elim⟩)
  rw [fc_none (F := fun _ => False) (fun _ _ q => q), fc_i_t hF, fc_i_f (P := False) (fun q => q)] at h
  omega
theorem fc_list {L : List Nat} {n : Nat} (hn : L.Nodup) (hb : ∀ t, t ∈ L → t < n) : fc_n (fun t => t ∈ L) n = L.length := by
  induction L with
  | nil => exact fc_none (fun k _ q => by cases q)
  | cons a L ih =>
    rw [List.nodup_cons] at hn
    have h1 := ih hn.2 (fun t ht => hb t (List.mem_cons_of_mem _ ht))
    have h2 := fc_swap (F := fun t => t ∈ a :: L) (G := fun t => t ∈ L) (n := n) (k := a) (hb a List.mem_cons_self) (fun j hj hne => by
      constructor
      · intro q
        rcases List.mem_cons.mp q with e | e
        · exact absurd e hne
        · exact e
      · exact fun q => List.mem_cons_of_mem _ q)
    rw [fc_i_t (P := a ∈ a :: L) List.mem_cons_self, fc_i_f hn.1, h1] at h2
    rw [List.length_cons]
    exact h2
/-! the list that addSum makes -/
abbrev fa_le (x y : Nat) : Prop := x / 64 ≤ y / 64 ∧ x % 64 ≤ y % 64
def fa_stair (l : List Nat) : Prop := l.Pairwise (fun x y => x / 64 < y / 64 ∧ y % 64 < x % 64)
def fa_go (s : Nat) : List Nat → List Nat → Bool → Option (List Nat × Bool)
  | [], L, b => some (L, b)
  | x :: xs, L, b =>
    if x / 64 ≤ s / 64 ∧ x % 64 ≤ s % 64 then none
    else fa_go s xs ((if x / 64 ≤ s / 64 ∨ b = true then L else L ++ [s]) ++ (if s / 64 ≤ x / 64 ∧ s % 64 ≤ x % 64 then [] else [x])) (b || decide (s / 64 < x / 64))
def fa_fin (s : Nat) (o : Option (List Nat × Bool)) (l : List Nat) : List Nat := match o with
  | none => l
  | some (L, b) => if b = true then L else L ++ [s]
def fa_add (l : List Nat) (s : Nat) : List Nat := fa_fin s (fa_go s l [] false) l
theorem fa_go_none {s : Nat} : ∀ (l L : List Nat) (b : Bool), (∃ x, x ∈ l ∧ fa_le x s) → fa_go s l L b = none := by
  intro l
  induction l with
  | nil => rintro L b ⟨x, hx, -⟩; cases hx
  | cons y l ih =>
    rintro L b ⟨x, hx, h⟩
    by_cases hy : y / 64 ≤ s / 64 ∧ y % 64 ≤ s % 64
    · rw [fa_go, if_pos hy]
    · rw [fa_go, if_neg hy]
      rcases List.mem_cons.mp hx with e | e
      · rw [e] at h; exact absurd h hy
      · exact ih _ _ ⟨x, e, h⟩
theorem fa_dom {l : List Nat} {s : Nat} (h : ∃ x, x ∈ l ∧ fa_le x s) : fa_add l s = l := by
  unfold fa_add
  rw [fa_go_none l [] false h]
  rfl
theorem fa_go_T {s : Nat} : ∀ (l L : List Nat), (∀ x, x ∈ l → ¬ fa_le x s) → fa_go s l L true = some (L ++ l.filter (fun x => !decide (s / 64 ≤ x / 64 ∧ s % 64 ≤ x % 64)), true) := by
  intro l
  induction l with
  | nil => intro L _; rw [fa_go]; simp
  | cons y l ih =>
    intro L h
    have hy : ¬ (y / 64 ≤ s / 64 ∧ y % 64 ≤ s % 64) := h y List.mem_cons_self
    rw [fa_go, if_neg hy, if_pos (Or.inr rfl), Bool.true_or, ih _ (fun x hx => h x (List.mem_cons_of_mem _ hx))]
    by_cases hb : s / 64 ≤ y / 64 ∧ s % 64 ≤ y % 64
    · rw [if_pos hb, List.filter_cons_of_neg (by simp [hb])]; simp
    · rw [if_neg hb, List.filter_cons_of_pos (by simp only [decide_eq_false hb]; rfl)]; simp
theorem fa_go_F {s : Nat} (l0 : List Nat) : ∀ (l L : List Nat), (∀ x, x ∈ l → ¬ fa_le x s) → fa_stair l → fa_fin s (fa_go s l L false) l0 = L ++ l.filter (fun x => decide (x / 64 < s / 64)) ++ s :: l.filter (fun x => decide (s / 64 < x / 64 ∧ x % 64 < s % 64)) := by
  intro l
  induction l with
  | nil => intro L _ _; rw [fa_go]; simp [fa_fin]
  | cons y l ih =>
    intro L h hs
    have hy : ¬ (y / 64 ≤ s / 64 ∧ y % 64 ≤ s % 64) := h y List.mem_cons_self
    have hl : ∀ x, x ∈ l → ¬ fa_le x s := fun x hx => h x (List.mem_cons_of_mem _ hx)
    unfold fa_stair at hs
    rw [List.pairwise_cons] at hs
    rw [fa_go, if_neg hy]
    by_cases hb : y / 64 ≤ s / 64
    · have hq : s % 64 < y % 64 := Nat.lt_of_not_le (fun q => hy ⟨hb, q⟩)
      rw [if_pos (Or.inl hb), decide_eq_false (show ¬ s / 64 < y / 64 by omega), Bool.false_or, ih _ hl hs.2]
      rw [List.filter_cons_of_neg (p := fun x => decide (s / 64 < x / 64 ∧ x % 64 < s % 64)) (by simp; omega)]
      by_cases hp : y / 64 < s / 64
      · rw [if_neg (show ¬ (s / 64 ≤ y / 64 ∧ s % 64 ≤ y % 64) by omega), List.filter_cons_of_pos (by simpa using hp)]; simp
      · rw [if_pos (show s / 64 ≤ y / 64 ∧ s % 64 ≤ y % 64 by omega), List.filter_cons_of_neg (by simpa using hp)]; simp
    · have hb2 : s / 64 < y / 64 := by omega
      rw [if_neg (show ¬ (y / 64 ≤ s / 64 ∨ false = true) by simp; omega), decide_eq_true hb2, Bool.or_true, fa_go_T _ _ hl]
      have e1 : (y :: l).filter (fun x => decide (x / 64 < s / 64)) = [] := by
        rw [List.filter_eq_nil_iff]
        intro a ha
        rcases List.mem_cons.mp ha with e | e
        · rw [e]; simp; omega
        · have := (hs.1 a e).1; simp; omega
      have e2 : l.filter (fun x => !decide (s / 64 ≤ x / 64 ∧ s % 64 ≤ x % 64)) = l.filter (fun x => decide (s / 64 < x / 64 ∧ x % 64 < s % 64)) := by
        apply List.filter_congr
        intro a ha
        have := (hs.1 a ha).1
        by_cases hc : s % 64 ≤ a % 64
        · rw [decide_eq_true (show s / 64 ≤ a / 64 ∧ s % 64 ≤ a % 64 by omega), decide_eq_false (show ¬ (s / 64 < a / 64 ∧ a % 64 < s % 64) by omega)]; rfl
        · rw [decide_eq_false (show ¬ (s / 64 ≤ a / 64 ∧ s % 64 ≤ a % 64) by omega), decide_eq_true (show s / 64 < a / 64 ∧ a % 64 < s % 64 by omega)]; rfl
      rw [e1, e2]
      by_cases hc : s % 64 ≤ y % 64
      · rw [if_pos (show s / 64 ≤ y / 64 ∧ s % 64 ≤ y % 64 by omega), List.filter_cons_of_neg (by simp; omega)]; simp [fa_fin]
      · rw [if_neg (show ¬ (s / 64 ≤ y / 64 ∧ s % 64 ≤ y % 64) by omega), List.filter_cons_of_pos (by simp; omega)]; simp [fa_fin]
theorem fa_closed {l : List Nat} {s : Nat} (h : ∀ x, x ∈ l → ¬ fa_le x s) (hs : fa_stair l) : fa_add l s = l.filter (fun x => decide (x / 64 < s / 64)) ++ s :: l.filter (fun x => decide (s / 64 < x / 64 ∧ x % 64 < s % 64)) := by
  unfold fa_add
  rw [fa_go_F l l [] h hs]
  simp
theorem fa_spec {l : List Nat} (s : Nat) (hs : fa_stair l) : fa_stair (fa_add l s) ∧ (∀ y, y ∈ fa_add l s → y ∈ l ∨ y = s) ∧ (∀ y, y ∈ l ∨ y = s → ∃ z, z ∈ fa_add l s ∧ fa_le z y) := by
  by_cases hd : ∃ x, x ∈ l ∧ fa_le x s
  · rw [fa_dom hd]
    refine ⟨hs, fun y hy => Or.inl hy, fun y hy => ?_⟩
    rcases hy with e | e
    · exact ⟨y, e, Nat.le_refl _, Nat.le_refl _⟩
    · rw [e]; exact hd
  · have h : ∀ x, x ∈ l → ¬ fa_le x s := fun x hx q => hd ⟨x, hx, q⟩
    rw [fa_closed h hs]
    refine ⟨?_, fun y hy => ?_, fun y hy => ?_⟩
    · unfold fa_stair at hs ⊢
      rw [List.pairwise_append]
      refine ⟨hs.filter _, ?_, ?_⟩
      · rw [List.pairwise_cons]
        refine ⟨fun a ha => ?_, hs.filter _⟩
        have := (List.mem_filter.mp ha).2
        simpa using this
      · intro a ha b hb
        have ha1 := List.mem_filter.mp ha
        have ha2 : a / 64 < s / 64 := by simpa using ha1.2
        have ha3 : s % 64 < a % 64 := Nat.lt_of_not_le (fun q => h a ha1.1 ⟨by omega, q⟩)
        rcases List.mem_cons.mp hb with e | e
        · rw [e]; exact ⟨ha2, ha3⟩
        · have hb1 : s / 64 < b / 64 ∧ b % 64 < s % 64 := by simpa using (List.mem_filter.mp e).2
          omega
    · rcases List.mem_append.mp hy with e | e
      · exact Or.inl (List.mem_filter.mp e).1
      · rcases List.mem_cons.mp e with e | e
        · exact Or.inr e
        · exact Or.inl (List.mem_filter.mp e).1
    · have hsm : s ∈ l.filter (fun x => decide (x / 64 < s / 64)) ++ s :: l.filter (fun x => decide (s / 64 < x / 64 ∧ x % 64 < s % 64)) := List.mem_append_right _ List.mem_cons_self
      rcases hy with e | e
      · by_cases hb : s / 64 ≤ y / 64 ∧ s % 64 ≤ y % 64
        · exact ⟨s, hsm, hb⟩
        · refine ⟨y, ?_, Nat.le_refl _, Nat.le_refl _⟩
          by_cases hp : y / 64 < s / 64
          · exact List.mem_append_left _ (List.mem_filter.mpr ⟨e, by simpa using hp⟩)
          · have hyl : ¬ (y / 64 ≤ s / 64 ∧ y % 64 ≤ s % 64) := h y e
            refine List.mem_append_right _ (List.mem_cons_of_mem _ (List.mem_filter.mpr ⟨e, ?_⟩))
            simp
            omega
      · rw [e]; exact ⟨s, hsm, Nat.le_refl _, Nat.le_refl _⟩
theorem fa_len_b {N : Nat} : ∀ (l : List Nat) (b : Nat), fa_stair l → (∀ s, s ∈ l → b ≤ s / 64 ∧ s / 64 ≤ N) → l = [] ∨ l.length + b ≤ N + 1 := by
  intro l
  induction l with
  | nil => intro b _ _; exact Or.inl rfl
  | cons x l ih =>
    intro b hs hb
    unfold fa_stair at hs
    rw [List.pairwise_cons] at hs
    right
    have hx := hb x List.mem_cons_self
    rcases ih (b + 1) hs.2 (fun s hsm => ⟨by have := (hs.1 s hsm).1; omega, (hb s (List.mem_cons_of_mem _ hsm)).2⟩) with e | e
    · rw [e]; simp; omega
    · rw [List.length_cons]; omega
theorem fa_len {l : List Nat} {N : Nat} (hs : fa_stair l) (hb : ∀ s, s ∈ l → s / 64 ≤ N) : l.length ≤ N + 1 := by
  rcases fa_len_b l 0 hs (fun s h => ⟨Nat.zero_le _, hb s h⟩) with e | e
  · rw [e]; exact Nat.zero_le _
  · omega
theorem fa_stair_nil : fa_stair [] := List.Pairwise.nil
theorem fa_stair_one (s : Nat) : fa_stair [s] := by unfold fa_stair; simp
/-- no two places of a stair hold the same number -/
theorem fa_stair_inj {l : List Nat} (hs : fa_stair l) : l.Nodup := by
  unfold fa_stair at hs
  exact List.Pairwise.imp (fun {a b} h e => by rw [e] at h; omega) hs
end
section
/-! PURE 2: walks by their lists of places, loop erasure, simple ways, the step of Floyd-Warshall -/
def fw_k (E : Nat → Nat → Nat → Nat → Prop) : List Nat → Nat → Nat → Prop
  | [], p, q => p = 0 ∧ q = 0
  | [_], p, q => p = 0 ∧ q = 0
  | u :: v :: ns, p, q => ∃ p1 q1 p2 q2, E u v p1 q1 ∧ fw_k E (v :: ns) p2 q2 ∧ p = p1 + p2 ∧ q = q1 + q2
section FW
variable {E : Nat → Nat → Nat → Nat → Prop}
theorem fw_split : ∀ (al : List Nat) (v : Nat) (be : List Nat) (p q : Nat), fw_k E (al ++ v :: be) p q → ∃ p1 q1 p2 q2, fw_k E (al ++ [v]) p1 q1 ∧ fw_k E (v :: be) p2 q2 ∧ p = p1 + p2 ∧ q = q1 + q2 := by
  intro al
  induction al with
  | nil =>
    intro v be p q h
    exact ⟨0, 0, p, q, ⟨rfl, rfl⟩, h, by omega, by omega⟩
  | cons u al ih =>
    intro v be p q h
    cases al with
    | nil =>
      obtain ⟨p1, q1, p2, q2, hE, h2, e1, e2⟩ := h
      exact ⟨p1, q1, p2, q2, ⟨p1, q1, 0, 0, hE, ⟨rfl, rfl⟩, by omega, by omega⟩, h2, e1, e2⟩
    | cons w al =>
      obtain ⟨p1, q1, p2, q2, hE, h2, e1, e2⟩ := h
      obtain ⟨a1, b1, a2, b2, h3, h4, e3, e4⟩ := ih v be p2 q2 h2
      exact ⟨p1 + a1, q1 + b1, a2, b2, ⟨p1, q1, a1, b1, hE, h3, rfl, rfl⟩, h4, by omega, by omega⟩
theorem fw_join : ∀ (al : List Nat) (v : Nat) (be : List Nat) (p1 q1 p2 q2 : Nat), fw_k E (al ++ [v]) p1 q1 → fw_k E (v :: be) p2 q2 → fw_k E (al ++ v :: be) (p1 + p2) (q1 + q2) := by
  intro al
  induction al with
  | nil =>
    intro v be p1 q1 p2 q2 h1 h2
    obtain ⟨e1, e2⟩ := h1
    rw [e1, e2, Nat.zero_add, Nat.zero_add]
    exact h2
  | cons u al ih =>
    intro v be p1 q1 p2 q2 h1 h2
    cases al with
    | nil =>
      obtain ⟨a1, b1, a2, b2, hE, ⟨e3, e4⟩, e1, e2⟩ := h1
      exact ⟨a1, b1, p2, q2, hE, h2, by omega, by omega⟩
    | cons w al =>
      obtain ⟨a1, b1, a2, b2, hE, h3, e1, e2⟩ := h1
      exact ⟨a1, b1, a2 + p2, b2 + q2, hE, ih v be a2 b2 p2 q2 h3 h2, by omega, by omega⟩
theorem fw_last_app {al be : List Nat} {v : Nat} : (al ++ v :: be).getLast? = (v :: be).getLast? := by
  rw [List.getLast?_append, List.getLast?_cons]
  rfl
/-- a walk's loops cut out -/
theorem fw_er : ∀ (X : List Nat) (l m p q : Nat), fw_k E X p q → X.head? = some l → X.getLast? = some m → ∃ (Y : List Nat) (p' q' : Nat), Y.Nodup ∧ fw_k E Y p' q' ∧ Y.head? = some l ∧ Y.getLast? = some m ∧ (∀ v, v ∈ Y → v ∈ X) ∧ p' ≤ p ∧ q' ≤ q := by
  intro X
  induction X with
  | nil => intro l m p q _ h; cases h
  | cons u X ih =>
    intro l m p q hk hh hm
    have hul : u = l := Option.some.inj hh
    subst hul
    cases X with
    | nil =>
      exact ⟨[u], p, q, by simp, hk, rfl, hm, fun v hv => hv, Nat.le_refl _, Nat.le_refl _⟩
    | cons v ns =>
      obtain ⟨p1, q1, p2, q2, hE, h2, e1, e2⟩ := hk
      rw [List.getLast?_cons_cons] at hm
      obtain ⟨Y, a, b, hn, hY, hYh, hYm, hsub, ha, hb⟩ := ih v m p2 q2 h2 rfl hm
      by_cases hu : u ∈ Y
      · obtain ⟨al, be, e⟩ := List.append_of_mem hu
        subst e
        obtain ⟨c1, d1, c2, d2, -, h4, e3, e4⟩ := fw_split al u be a b hY
        rw [List.nodup_append] at hn
        refine ⟨u :: be, c2, d2, hn.2.1, h4, rfl, ?_, fun w hw => List.mem_cons_of_mem _ (hsub w (List.mem_append_right _ hw)), by omega, by omega⟩
        rw [← hYm, fw_last_app]
      · cases Y with
        | nil => cases hYh
        | cons y Y =>
          have e : y = v := Option.some.inj hYh
          subst e
          refine ⟨u :: y :: Y, p1 + a, q1 + b, List.nodup_cons.mpr ⟨hu, hn⟩, ⟨p1, q1, a, b, hE, hY, rfl, rfl⟩, rfl, by rw [List.getLast?_cons_cons]; exact hYm, fun w hw => ?_, by omega, by omega⟩
          rcases List.mem_cons.mp hw with e | e
          · rw [e]; exact List.mem_cons_self
          · exact List.mem_cons_of_mem _ (hsub w e)
/-- a simple way from l to m over places below d -/
def fw_S (E : Nat → Nat → Nat → Nat → Prop) (d l m p q : Nat) : Prop := ∃ X : List Nat, X.Nodup ∧ fw_k E X p q ∧ X.head? = some l ∧ X.getLast? = some m ∧ ∀ v, v ∈ X → v < d ∨ v = l ∨ v = m
/-- any way -/
def fw_W (E : Nat → Nat → Nat → Nat → Prop) (l m p q : Nat) : Prop := ∃ X : List Nat, fw_k E X p q ∧ X.head? = some l ∧ X.getLast? = some m
theorem fw_S_W {d l m p q : Nat} (h : fw_S E d l m p q) : fw_W E l m p q := by
  obtain ⟨X, -, h1, h2, h3, -⟩ := h
  exact ⟨X, h1, h2, h3⟩
theorem fw_k_bound (hE : ∀ u v p q, E u v p q → p ≤ 3 ∧ q ≤ 3) : ∀ (X : List Nat) (p q : Nat), fw_k E X p q → p ≤ 3 * (X.length - 1) ∧ q ≤ 3 * (X.length - 1) := by
  intro X
  induction X with
  | nil => rintro p q ⟨e1, e2⟩; omega
  | cons u X ih =>
    intro p q h
    cases X with
    | nil => obtain ⟨e1, e2⟩ := h; omega
    | cons v ns =>
      obtain ⟨p1, q1, p2, q2, h1, h2, e1, e2⟩ := h
      have a := hE u v p1 q1 h1
      have b := ih p2 q2 h2
      simp only [List.length_cons] at b ⊢
      omega
theorem fw_S_bound (hE : ∀ u v p q, E u v p q → p ≤ 3 ∧ q ≤ 3) {d l m p q : Nat} (hd : d ≤ 7) (hl : l < 7) (hm : m < 7) (h : fw_S E d l m p q) : p ≤ 18 ∧ q ≤ 18 := by
  obtain ⟨X, h1, h2, -, -, h5⟩ := h
  have hX : X.length ≤ (List.range 7).length := List.Nodup.length_le_of_subset h1 (fun v hv => by
    rw [List.mem_range]
    have := h5 v hv
    omega)
  rw [List.length_range] at hX
  have := fw_k_bound hE X p q h2
  omega
theorem fw_S_mono {d l m p q : Nat} (h : fw_S E d l m p q) : fw_S E (d + 1) l m p q := by
  obtain ⟨X, h1, h2, h3, h4, h5⟩ := h
  exact ⟨X, h1, h2, h3, h4, fun v hv => by have := h5 v hv; omega⟩
theorem fw_S_skip {d l m p q : Nat} (hd : d = l ∨ d = m) (h : fw_S E (d + 1) l m p q) : fw_S E d l m p q := by
  obtain ⟨X, h1, h2, h3, h4, h5⟩ := h
  exact ⟨X, h1, h2, h3, h4, fun v hv => by have := h5 v hv; omega⟩
theorem fw_head_cons {X : List Nat} {l : Nat} (h : X.head? = some l) : ∃ X', X = l :: X' := by
  cases X with
  | nil => cases h
  | cons u X => exact ⟨X, by rw [Option.some.inj h]⟩
theorem fw_base {l m p q : Nat} (hne : l ≠ m) : fw_S E 0 l m p q ↔ E l m p q := by
  constructor
  · rintro ⟨X, h1, h2, h3, h4, h5⟩
    obtain ⟨X, rfl⟩ := fw_head_cons h3
    rw [List.nodup_cons] at h1
    cases X with
    | nil => exact absurd (Option.some.inj h4) hne
    | cons v ns =>
      have hv : v = m := by
        have := h5 v (List.mem_cons_of_mem _ List.mem_cons_self)
        have : v ≠ l := fun e => h1.1 (by rw [← e]; exact List.mem_cons_self)
        omega
      subst hv
      cases ns with
      | nil =>
        obtain ⟨p1, q1, p2, q2, hE, ⟨e3, e4⟩, e1, e2⟩ := h2
        rw [show p = p1 by omega, show q = q1 by omega]
        exact hE
      | cons w ns =>
        have h6 := h1.2
        rw [List.nodup_cons] at h6
        have := h5 w (List.mem_cons_of_mem _ (List.mem_cons_of_mem _ List.mem_cons_self))
        have a : w ≠ l := fun e => h1.1 (by rw [← e]; exact List.mem_cons_of_mem _ List.mem_cons_self)
        have b : w ≠ v := fun e => h6.1 (by rw [← e]; exact List.mem_cons_self)
        omega
  · intro h
    refine ⟨[l, m], ?_, ⟨p, q, 0, 0, h, ⟨rfl, rfl⟩, by omega, by omega⟩, rfl, rfl, fun v hv => ?_⟩
    · rw [List.nodup_cons]
      exact ⟨fun q => hne (List.mem_singleton.mp q), by simp⟩
    · rcases List.mem_cons.mp hv with e | e
      · exact Or.inr (Or.inl e)
      · exact Or.inr (Or.inr (List.mem_singleton.mp e))
theorem fw_step_c {d l m p q : Nat} (hl : l ≠ d) (hm : m ≠ d) (h : fw_S E (d + 1) l m p q) : fw_S E d l m p q ∨ ∃ p1 q1 p2 q2, fw_S E d l d p1 q1 ∧ fw_S E d d m p2 q2 ∧ p = p1 + p2 ∧ q = q1 + q2 := by
  obtain ⟨X, h1, h2, h3, h4, h5⟩ := h
  by_cases hd : d ∈ X
  · right
    obtain ⟨al, be, e⟩ := List.append_of_mem hd
    subst e
    obtain ⟨p1, q1, p2, q2, k1, k2, e1, e2⟩ := fw_split al d be p q h2
    rw [List.nodup_append] at h1
    obtain ⟨n1, n2, n3⟩ := h1
    rw [fw_last_app] at h4
    have hmm : m ∈ d :: be := List.mem_of_getLast? h4
    have hal : al.head? = some l := by
      cases al with
      | nil => exact absurd (Option.some.inj h3).symm hl
      | cons a al => exact h3
    have hlm : l ∈ al := List.mem_of_head? hal
    refine ⟨p1, q1, p2, q2, ⟨al ++ [d], ?_, k1, ?_, ?_, fun v hv => ?_⟩, ⟨d :: be, n2, k2, rfl, h4, fun v hv => ?_⟩, e1, e2⟩
    · rw [List.nodup_append]
      exact ⟨n1, by simp, fun a ha b hb => n3 a ha b (by rw [List.mem_singleton.mp hb]; exact List.mem_cons_self)⟩
    · rw [List.head?_append, hal]; rfl
    · rw [List.getLast?_append]; rfl
    · rcases List.mem_append.mp hv with e | e
      · have a := h5 v (List.mem_append_left _ e)
        have b := n3 v e d List.mem_cons_self
        have c := n3 v e m hmm
        omega
      · exact Or.inr (Or.inr (List.mem_singleton.mp e))
    · have a := h5 v (List.mem_append_right _ hv)
      have b := n3 l hlm v hv
      omega
  · left
    exact ⟨X, h1, h2, h3, h4, fun v hv => by
      have a := h5 v hv
      have b : v ≠ d := fun e => hd (by rw [← e]; exact hv)
      omega⟩
theorem fw_step_s {d l m p1 q1 p2 q2 : Nat} (hl : l ≠ d) (hm : m ≠ d) (h1 : fw_S E d l d p1 q1) (h2 : fw_S E d d m p2 q2) : fw_S E (d + 1) l m (p1 + p2) (q1 + q2) ∨ ∃ p q, fw_S E d l m p q ∧ p ≤ p1 + p2 ∧ q ≤ q1 + q2 := by
  obtain ⟨X1, n1, k1, a1, b1, c1⟩ := h1
  obtain ⟨X2, n2, k2, a2, b2, c2⟩ := h2
  obtain ⟨al, rfl⟩ := List.getLast?_eq_some_iff.mp b1
  obtain ⟨be, rfl⟩ := fw_head_cons a2
  rw [List.nodup_append] at n1
  have hdal : ∀ v, v ∈ al → v ≠ d := fun v hv => n1.2.2 v hv d List.mem_cons_self
  have n2' := List.nodup_cons.mp n2
  have hal : al.head? = some l := by
    cases al with
    | nil => exact absurd (Option.some.inj a1).symm hl
    | cons a al => exact a1
  have hbe : be.getLast? = some m := by
    cases be with
    | nil => exact absurd (Option.some.inj b2).symm hm
    | cons b be => rw [List.getLast?_cons_cons] at b2; exact b2
  have cal : ∀ v, v ∈ al → v < d ∨ v = l := fun v hv => by
    have x1 := c1 v (List.mem_append_left _ hv)
    have x2 := hdal v hv
    omega
  have cbe : ∀ v, v ∈ be → v < d ∨ v = m := fun v hv => by
    have x1 := c2 v (List.mem_cons_of_mem _ hv)
    have x2 : v ≠ d := fun e => n2'.1 (by rw [← e]; exact hv)
    omega
  by_cases hc : ∃ v, v ∈ al ∧ v ∈ be
  · right
    obtain ⟨v, hva, hvb⟩ := hc
    obtain ⟨al1, al2, e1⟩ := List.append_of_mem hva
    obtain ⟨be1, be2, e2⟩ := List.append_of_mem hvb
    subst e1
    subst e2
    have k1' : fw_k E (al1 ++ v :: (al2 ++ [d])) p1 q1 := by
      have e : al1 ++ v :: (al2 ++ [d]) = al1 ++ v :: al2 ++ [d] := by simp
      rw [e]; exact k1
    obtain ⟨r1, s1, r2, s2, g1, -, e3, e4⟩ := fw_split al1 v (al2 ++ [d]) p1 q1 k1'
    have k2' : fw_k E ((d :: be1) ++ v :: be2) p2 q2 := k2
    obtain ⟨r3, s3, r4, s4, -, g2, e5, e6⟩ := fw_split (d :: be1) v be2 p2 q2 k2'
    have g := fw_join al1 v be2 r1 s1 r4 s4 g1 g2
    have hh : (al1 ++ v :: be2).head? = some l := by
      rw [List.head?_append] at hal ⊢
      exact hal
    have hla : (al1 ++ v :: be2).getLast? = some m := by
      rw [fw_last_app] at hbe ⊢
      exact hbe
    obtain ⟨Y, p', q', y1, y2, y3, y4, y5, y6, y7⟩ := fw_er _ l m _ _ g hh hla
    refine ⟨p', q', ⟨Y, y1, y2, y3, y4, fun w hw => ?_⟩, by omega, by omega⟩
    rcases List.mem_append.mp (y5 w hw) with e | e
    · have := cal w (List.mem_append_left _ e)
      omega
    · have := cbe w (List.mem_append_right _ e)
      omega
  · left
    refine ⟨al ++ d :: be, ?_, fw_join al d be p1 q1 p2 q2 k1 k2, ?_, ?_, fun v hv => ?_⟩
    · rw [List.nodup_append]
      refine ⟨n1.1, n2, fun a ha b hb => ?_⟩
      rcases List.mem_cons.mp hb with e | e
      · rw [e]; exact hdal a ha
      · exact fun q => hc ⟨a, ha, by rw [q]; exact e⟩
    · rw [List.head?_append, hal]; rfl
    · rw [fw_last_app]; exact b2
    · rcases List.mem_append.mp hv with e | e
      · have := cal v e; omega
      · rcases List.mem_cons.mp e with e | e
        · omega
        · have := cbe v e; omega
theorem fw_in7 (hE : ∀ u v p q, E u v p q → v < 7) : ∀ (X : List Nat) (l p q : Nat), fw_k E X p q → X.head? = some l → l < 7 → ∀ v, v ∈ X → v < 7 := by
  intro X
  induction X with
  | nil => intro l p q _ h; cases h
  | cons u X ih =>
    intro l p q hk hh hl v hv
    have hul : u = l := Option.some.inj hh
    rcases List.mem_cons.mp hv with e | e
    · omega
    · cases X with
      | nil => cases e
      | cons w ns =>
        obtain ⟨p1, q1, p2, q2, h1, h2, -, -⟩ := hk
        exact ih w p2 q2 h2 rfl (hE _ _ _ _ h1) v e
theorem fw_all {l m p q : Nat} (hE : ∀ u v p q, E u v p q → v < 7) (hl : l < 7) (h : fw_W E l m p q) : ∃ p' q', fw_S E 7 l m p' q' ∧ p' ≤ p ∧ q' ≤ q := by
  obtain ⟨X, h1, h2, h3⟩ := h
  obtain ⟨Y, p', q', y1, y2, y3, y4, y5, y6, y7⟩ := fw_er X l m p q h1 h2 h3
  exact ⟨p', q', ⟨Y, y1, y2, y3, y4, fun v hv => Or.inl (fw_in7 hE X l p q h1 h2 hl v (y5 v hv))⟩, y6, y7⟩
theorem fw_W_nil (l : Nat) : fw_W E l l 0 0 := ⟨[l], ⟨rfl, rfl⟩, rfl, rfl⟩
theorem fw_W_cons {l v m p1 q1 p2 q2 : Nat} (hE : E l v p1 q1) (h : fw_W E v m p2 q2) : fw_W E l m (p1 + p2) (q1 + q2) := by
  obtain ⟨X, h1, h2, h3⟩ := h
  obtain ⟨X, rfl⟩ := fw_head_cons h2
  exact ⟨l :: v :: X, ⟨p1, q1, p2, q2, hE, h1, rfl, rfl⟩, rfl, by rw [List.getLast?_cons_cons]; exact h3⟩
theorem fw_W_snoc {l v m p1 q1 p2 q2 : Nat} (h : fw_W E l v p1 q1) (hE : E v m p2 q2) : fw_W E l m (p1 + p2) (q1 + q2) := by
  obtain ⟨X, h1, h2, h3⟩ := h
  obtain ⟨al, rfl⟩ := List.getLast?_eq_some_iff.mp h3
  refine ⟨al ++ v :: [m], fw_join al v [m] p1 q1 p2 q2 h1 ⟨p2, q2, 0, 0, hE, ⟨rfl, rfl⟩, by omega, by omega⟩, ?_, ?_⟩
  · rw [List.head?_append] at h2 ⊢
    exact h2
  · rw [fw_last_app]; rfl
/-- induction along a walk, from its start -/
theorem fw_W_ind {T : Nat → Nat → Nat → Prop} (hs : ∀ u v a b p q, T u a b → E u v p q → T v (a + p) (b + q)) : ∀ (X : List Nat) (l m p q a b : Nat), fw_k E X p q → X.head? = some l → X.getLast? = some m → T l a b → T m (a + p) (b + q) := by
  intro X
  induction X with
  | nil => intro l m p q a b _ h; cases h
  | cons u X ih =>
    intro l m p q a b hk hh hm hT
    have hul : u = l := Option.some.inj hh
    subst hul
    cases X with
    | nil =>
      obtain ⟨e1, e2⟩ := hk
      have hum : u = m := Option.some.inj hm
      rw [e1, e2, ← hum]
      exact hT
    | cons v ns =>
      obtain ⟨p1, q1, p2, q2, h1, h2, e1, e2⟩ := hk
      rw [List.getLast?_cons_cons] at hm
      have := ih v m p2 q2 (a + p1) (b + q1) h2 rfl hm (hs u v a b p1 q1 hT h1)
      rw [show a + p = a + p1 + p2 by omega, show b + q = b + q1 + q2 by omega]
      exact this
/-- a row of least sums at the level d -/
def fw_R (E : Nat → Nat → Nat → Nat → Prop) (d l m : Nat) (row : List Nat) : Prop := fa_stair row ∧ (∀ s, s ∈ row → fw_S E d l m (s / 64) (s % 64)) ∧ (∀ p q, fw_S E d l m p q → ∃ s, s ∈ row ∧ s / 64 ≤ p ∧ s % 64 ≤ q)
theorem fw_R_skip {d l m : Nat} {row : List Nat} (hd : d = l ∨ d = m) : fw_R E d l m row ↔ fw_R E (d + 1) l m row := by
  constructor
  · rintro ⟨h1, h2, h3⟩
    exact ⟨h1, fun s hs => fw_S_mono (h2 s hs), fun p q h => h3 p q (fw_S_skip hd h)⟩
  · rintro ⟨h1, h2, h3⟩
    exact ⟨h1, fun s hs => fw_S_skip hd (h2 s hs), fun p q h => h3 p q (fw_S_mono h)⟩
/-- a row in the midst of a join over d: the pairs before (i, j) are done -/
def fw_M (E : Nat → Nat → Nat → Nat → Prop) (d l m : Nat) (A B row : List Nat) (i j : Nat) : Prop := fa_stair row ∧ (∀ s, s ∈ row → fw_S E (d + 1) l m (s / 64) (s % 64)) ∧ (∀ p q, fw_S E d l m p q → ∃ s, s ∈ row ∧ s / 64 ≤ p ∧ s % 64 ≤ q) ∧ ∀ (i' j' a b : Nat), A[i']? = some a → B[j']? = some b → (i' < i ∨ (i' = i ∧ j' < j)) → ∃ s, s ∈ row ∧ fa_le s (a + b)
theorem fw_M_0 {d l m : Nat} {A B row : List Nat} (h : fw_R E d l m row) : fw_M E d l m A B row 0 0 :=
  ⟨h.1, fun s hs => fw_S_mono (h.2.1 s hs), h.2.2, fun i' j' a b _ _ hij => by omega⟩
theorem fw_M_next {d l m : Nat} {A B row : List Nat} {i : Nat} (h : fw_M E d l m A B row i B.length) : fw_M E d l m A B row (i + 1) 0 := by
  refine ⟨h.1, h.2.1, h.2.2.1, fun i' j' a b ha hb hij => h.2.2.2 i' j' a b ha hb ?_⟩
  have := (List.getElem?_eq_some_iff.mp hb).1
  omega
theorem fw_dig {a b : Nat} (h : a % 64 + b % 64 < 64) : (a + b) / 64 = a / 64 + b / 64 ∧ (a + b) % 64 = a % 64 + b % 64 := by omega
theorem fw_M_end (hE : ∀ u v p q, E u v p q → p ≤ 3 ∧ q ≤ 3) {d l m : Nat} {A B row : List Nat} (hd : d < 7) (hl7 : l < 7) (hm7 : m < 7) (hl : l ≠ d) (hm : m ≠ d) (hA : fw_R E d l d A) (hB : fw_R E d d m B) (h : fw_M E d l m A B row A.length 0) : fw_R E (d + 1) l m row := by
  refine ⟨h.1, h.2.1, fun p q hS => ?_⟩
  rcases fw_step_c hl hm hS with h1 | ⟨p1, q1, p2, q2, h1, h2, e1, e2⟩
  · exact h.2.2.1 p q h1
  · obtain ⟨a, ha, ha1, ha2⟩ := hA.2.2 p1 q1 h1
    obtain ⟨b, hb, hb1, hb2⟩ := hB.2.2 p2 q2 h2
    obtain ⟨i, hi⟩ := List.getElem?_of_mem ha
    obtain ⟨j, hj⟩ := List.getElem?_of_mem hb
    obtain ⟨s, hs, hs1, hs2⟩ := h.2.2.2 i j a b hi hj (Or.inl (List.getElem?_eq_some_iff.mp hi).1)
    have ba := fw_S_bound hE (by omega) hl7 (by omega) (hA.2.1 a ha)
    have bb := fw_S_bound hE (by omega) (by omega) hm7 (hB.2.1 b hb)
    have dg := fw_dig (a := a) (b := b) (by omega)
    exact ⟨s, hs, by omega, by omega⟩
theorem fw_M_step (hE : ∀ u v p q, E u v p q → p ≤ 3 ∧ q ≤ 3) {d l m : Nat} {A B row : List Nat} {i j a b : Nat} (hd : d < 7) (hl7 : l < 7) (hm7 : m < 7) (hl : l ≠ d) (hm : m ≠ d) (hA : fw_R E d l d A) (hB : fw_R E d d m B) (ha : A[i]? = some a) (hb : B[j]? = some b) (h : fw_M E d l m A B row i j) : fw_M E d l m A B (fa_add row (a + b)) i (j + 1) := by
  obtain ⟨h1, h2, h3, h4⟩ := h
  have sa := hA.2.1 a (List.mem_of_getElem? ha)
  have sb := hB.2.1 b (List.mem_of_getElem? hb)
  have ba := fw_S_bound hE (by omega) hl7 (by omega) sa
  have bb := fw_S_bound hE (by omega) (by omega) hm7 sb
  have dg := fw_dig (a := a) (b := b) (by omega)
  obtain ⟨k1, k2, k3⟩ := fa_spec (a + b) h1
  have kk : ∀ (p q : Nat), (∃ s, s ∈ row ∧ s / 64 ≤ p ∧ s % 64 ≤ q) → ∃ s, s ∈ fa_add row (a + b) ∧ s / 64 ≤ p ∧ s % 64 ≤ q := by
    rintro p q ⟨s, hs, e1, e2⟩
    obtain ⟨z, hz, e3, e4⟩ := k3 s (Or.inl hs)
    exact ⟨z, hz, by omega, by omega⟩
  refine ⟨k1, ?_, fun p q hS => kk p q (h3 p q hS), fun i' j' a' b' ha' hb' hij => ?_⟩
  · rcases fw_step_s hl hm sa sb with e | ⟨p, q, hS, e1, e2⟩
    · intro s hs
      rcases k2 s hs with e2 | e2
      · exact h2 s e2
      · rw [e2, dg.1, dg.2]; exact e
    · obtain ⟨s0, hs0, e3, e4⟩ := h3 p q hS
      have hdm := fa_dom (l := row) (s := a + b) ⟨s0, hs0, by rw [dg.1]; omega, by rw [dg.2]; omega⟩
      rw [hdm]
      exact h2
  · by_cases e : i' = i ∧ j' = j
    · have ea : a' = a := by rw [e.1, ha] at ha'; exact (Option.some.inj ha').symm
      have eb : b' = b := by rw [e.2, hb] at hb'; exact (Option.some.inj hb').symm
      rw [ea, eb]
      exact k3 (a + b) (Or.inr rfl)
    · exact kk _ _ (h4 i' j' a' b' ha' hb' (by omega))
theorem fw_M_len (hE : ∀ u v p q, E u v p q → p ≤ 3 ∧ q ≤ 3) {d l m : Nat} {A B row : List Nat} {i j : Nat} (hd : d < 7) (hl7 : l < 7) (hm7 : m < 7) (h : fw_M E d l m A B row i j) : row.length ≤ 19 :=
  fa_len (N := 18) h.1 (fun s hs => (fw_S_bound hE (by omega) hl7 hm7 (h.2.1 s hs)).1)
theorem fw_M_dig (hE : ∀ u v p q, E u v p q → p ≤ 3 ∧ q ≤ 3) {d l m : Nat} {A B row : List Nat} {i j : Nat} (hd : d < 7) (hl7 : l < 7) (hm7 : m < 7) (h : fw_M E d l m A B row i j) : ∀ s, s ∈ row → s / 64 ≤ 18 ∧ s % 64 ≤ 18 :=
  fun s hs => fw_S_bound hE (by omega) hl7 hm7 (h.2.1 s hs)
theorem fw_R_len (hE : ∀ u v p q, E u v p q → p ≤ 3 ∧ q ≤ 3) {d l m : Nat} {row : List Nat} (hd : d ≤ 7) (hl7 : l < 7) (hm7 : m < 7) (h : fw_R E d l m row) : row.length ≤ 19 :=
  fa_len (N := 18) h.1 (fun s hs => (fw_S_bound hE hd hl7 hm7 (h.2.1 s hs)).1)
end FW
/-- the lines as edges -/
def fe_E (n : Nat) (fr to pa pb : Nat → Nat) : Nat → Nat → Nat → Nat → Prop := fun u v p q => ∃ k, k < n ∧ fr k = u ∧ to k = v ∧ pa k = p ∧ pb k = q
/-- a row when k lines have been put in -/
def fw_B (k : Nat) (fr to pa pb : Nat → Nat) (l m : Nat) (row : List Nat) : Prop := fa_stair row ∧ (∀ s, s ∈ row → fe_E k fr to pa pb l m (s / 64) (s % 64)) ∧ (∀ p q, fe_E k fr to pa pb l m p q → ∃ s, s ∈ row ∧ s / 64 ≤ p ∧ s % 64 ≤ q)
/-- rows by place: 7 * l + m -/
def fw_I1 (k : Nat) (fr to pa pb : Nat → Nat) (rows : Nat → List Nat) : Prop := ∀ l m, l < 7 → m < 7 → (l = m → rows (7 * l + m) = [0]) ∧ (l ≠ m → fw_B k fr to pa pb l m (rows (7 * l + m)))
def fw_I2 (E : Nat → Nat → Nat → Nat → Prop) (d r : Nat) (rows : Nat → List Nat) : Prop := ∀ l m, l < 7 → m < 7 → (l = m → rows (7 * l + m) = [0]) ∧ (l ≠ m → fw_R E (if 7 * l + m < r then d + 1 else d) l m (rows (7 * l + m)))
def fw_OK (E : Nat → Nat → Nat → Nat → Prop) (rows : Nat → List Nat) : Prop := ∀ l m, l < 7 → m < 7 → fa_stair (rows (7 * l + m)) ∧ (∀ s, s ∈ rows (7 * l + m) → s / 64 ≤ 18 ∧ s % 64 ≤ 18 ∧ fw_W E l m (s / 64) (s % 64)) ∧ (∀ p q, fw_W E l m p q → ∃ s, s ∈ rows (7 * l + m) ∧ s / 64 ≤ p ∧ s % 64 ≤ q)
def fw_up (rows : Nat → List Nat) (r : Nat) (x : List Nat) : Nat → List Nat := fun k => if k = r then x else rows k
theorem fw_up_s {rows : Nat → List Nat} {r : Nat} {x : List Nat} : fw_up rows r x r = x := if_pos rfl
theorem fw_up_n {rows : Nat → List Nat} {r k : Nat} {x : List Nat} (h : k ≠ r) : fw_up rows r x k = rows k := if_neg h
theorem fe_bound {n : Nat} {fr to pa pb : Nat → Nat} (h : ∀ k, k < n → fr k < 7 ∧ to k < 7 ∧ pa k ≤ 3 ∧ pb k ≤ 3) : (∀ u v p q, fe_E n fr to pa pb u v p q → p ≤ 3 ∧ q ≤ 3) ∧ (∀ u v p q, fe_E n fr to pa pb u v p q → v < 7) := by
  constructor
  · rintro u v p q ⟨k, hk, -, -, e3, e4⟩
    have := h k hk
    omega
  · rintro u v p q ⟨k, hk, -, e2, -, -⟩
    have := h k hk
    omega
theorem fe_succ {k : Nat} {fr to pa pb : Nat → Nat} {u v p q : Nat} : fe_E (k + 1) fr to pa pb u v p q ↔ fe_E k fr to pa pb u v p q ∨ (fr k = u ∧ to k = v ∧ pa k = p ∧ pb k = q) := by
  constructor
  · rintro ⟨j, hj, h⟩
    by_cases e : j = k
    · subst e; exact Or.inr h
    · exact Or.inl ⟨j, by omega, h⟩
  · rintro (⟨j, hj, h⟩ | h)
    · exact ⟨j, by omega, h⟩
    · exact ⟨k, by omega, h⟩
theorem fw_I1_0 {fr to pa pb : Nat → Nat} {rows : Nat → List Nat} (h : ∀ r, r < 49 → rows r = if r % 8 = 0 then [0] else []) : fw_I1 0 fr to pa pb rows := by
  intro l m hl hm
  refine ⟨fun e => ?_, fun e => ?_⟩
  · rw [h _ (by omega), if_pos (by omega)]
  · rw [h _ (by omega), if_neg (by omega)]
    exact ⟨fa_stair_nil, (fun s hs => absurd hs List.not_mem_nil), (fun p q hq => by obtain ⟨k, hk, _⟩ := hq; omega)⟩
theorem fw_I1_len {k : Nat} {fr to pa pb : Nat → Nat} {rows : Nat → List Nat} (hb : ∀ j, j < k → fr j < 7 ∧ to j < 7 ∧ pa j ≤ 3 ∧ pb j ≤ 3) (h : fw_I1 k fr to pa pb rows) (r : Nat) (hr : r < 49) : (rows r).length ≤ 4 := by
  have h1 := h (r / 7) (r % 7) (by omega) (by omega)
  rw [show 7 * (r / 7) + r % 7 = r by omega] at h1
  by_cases e : r / 7 = r % 7
  · rw [h1.1 e]; decide
  · obtain ⟨a, b, c⟩ := h1.2 e
    exact fa_len (N := 3) a (fun s hs => ((fe_bound hb).1 _ _ _ _ (b s hs)).1)
theorem fw_I1_loop {k : Nat} {fr to pa pb : Nat → Nat} {rows : Nat → List Nat} (e : fr k = to k) (h : fw_I1 k fr to pa pb rows) : fw_I1 (k + 1) fr to pa pb rows := by
  intro l m hl hm
  refine ⟨(h l m hl hm).1, fun hne => ?_⟩
  obtain ⟨a, b, c⟩ := (h l m hl hm).2 hne
  refine ⟨a, fun s hs => fe_succ.mpr (Or.inl (b s hs)), fun p q hq => ?_⟩
  rcases fe_succ.mp hq with h1 | ⟨h1, h2, -, -⟩
  · exact c p q h1
  · omega
theorem fw_I1_step {k : Nat} {fr to pa pb : Nat → Nat} {rows : Nat → List Nat} (hq : pb k < 64) (hf : fr k < 7) (ht : to k < 7) (e : fr k ≠ to k) (h : fw_I1 k fr to pa pb rows) : fw_I1 (k + 1) fr to pa pb (fw_up rows (7 * fr k + to k) (fa_add (rows (7 * fr k + to k)) (64 * pa k + pb k))) := by
  intro l m hl hm
  refine ⟨fun hlm => ?_, fun hne => ?_⟩
  · rw [fw_up_n (by omega)]
    exact (h l m hl hm).1 hlm
  · obtain ⟨a, b, c⟩ := (h l m hl hm).2 hne
    by_cases hr : l = fr k ∧ m = to k
    · obtain ⟨rfl, rfl⟩ := hr
      rw [fw_up_s]
      obtain ⟨k1, k2, k3⟩ := fa_spec (64 * pa k + pb k) a
      refine ⟨k1, fun s hs => ?_, fun p q hpq => ?_⟩
      · rcases k2 s hs with h1 | h1
        · exact fe_succ.mpr (Or.inl (b s h1))
        · exact fe_succ.mpr (Or.inr ⟨rfl, rfl, by omega, by omega⟩)
      · rcases fe_succ.mp hpq with h1 | ⟨-, -, h3, h4⟩
        · obtain ⟨s, hs, e1, e2⟩ := c p q h1
          obtain ⟨z, hz, e3, e4⟩ := k3 s (Or.inl hs)
          exact ⟨z, hz, by omega, by omega⟩
        · obtain ⟨z, hz, e3, e4⟩ := k3 (64 * pa k + pb k) (Or.inr rfl)
          exact ⟨z, hz, by omega, by omega⟩
    · rw [fw_up_n (by omega)]
      refine ⟨a, fun s hs => fe_succ.mpr (Or.inl (b s hs)), fun p q hpq => ?_⟩
      rcases fe_succ.mp hpq with h1 | ⟨h1, h2, -, -⟩
      · exact c p q h1
      · exact absurd ⟨h1.symm, h2.symm⟩ hr
theorem fw_I2_start {n : Nat} {fr to pa pb : Nat → Nat} {rows : Nat → List Nat} (h : fw_I1 n fr to pa pb rows) : fw_I2 (fe_E n fr to pa pb) 0 0 rows := by
  intro l m hl hm
  refine ⟨(h l m hl hm).1, fun hne => ?_⟩
  obtain ⟨a, b, c⟩ := (h l m hl hm).2 hne
  rw [if_neg (by omega)]
  exact ⟨a, fun s hs => (fw_base hne).mpr (b s hs), fun p q hq => c p q ((fw_base hne).mp hq)⟩
theorem fw_I2_next {E : Nat → Nat → Nat → Nat → Prop} {d : Nat} {rows : Nat → List Nat} (h : fw_I2 E d 49 rows) : fw_I2 E (d + 1) 0 rows := by
  intro l m hl hm
  refine ⟨(h l m hl hm).1, fun hne => ?_⟩
  have := (h l m hl hm).2 hne
  rw [if_pos (by omega)] at this
  rw [if_neg (by omega)]
  exact this
/-- the rows that phase d doesn't join -/
theorem fw_I2_skip {E : Nat → Nat → Nat → Nat → Prop} {d r : Nat} {rows : Nat → List Nat} (hr : r / 7 = d ∨ r % 7 = d ∨ r % 8 = 0) (hr9 : r < 49) (h : fw_I2 E d r rows) : fw_I2 E d (r + 1) rows := by
  intro l m hl hm
  refine ⟨(h l m hl hm).1, fun hne => ?_⟩
  have h1 := (h l m hl hm).2 hne
  by_cases e : 7 * l + m = r
  · rw [if_neg (by omega)] at h1
    rw [if_pos (by omega)]
    exact (fw_R_skip (by omega)).mp h1
  · by_cases e2 : 7 * l + m < r
    · rw [if_pos e2] at h1
      rw [if_pos (by omega)]
      exact h1
    · rw [if_neg e2] at h1
      rw [if_neg (by omega)]
      exact h1
/-- the rows that a join reads, and the one that it writes, all at the level d -/
theorem fw_I2_get {E : Nat → Nat → Nat → Nat → Prop} {d r l m : Nat} {rows : Nat → List Nat} (hl : l < 7) (hm : m < 7) (hne : l ≠ m) (hs : l = d ∨ m = d ∨ r ≤ 7 * l + m) (h : fw_I2 E d r rows) : fw_R E d l m (rows (7 * l + m)) := by
  have h1 := (h l m hl hm).2 hne
  by_cases e : 7 * l + m < r
  · rw [if_pos e] at h1
    exact (fw_R_skip (by omega)).mpr h1
  · rw [if_neg e] at h1
    exact h1
theorem fw_I2_put {E : Nat → Nat → Nat → Nat → Prop} {d l m : Nat} {rows : Nat → List Nat} {x : List Nat} (hl : l < 7) (hm : m < 7) (hne : l ≠ m) (h : fw_I2 E d (7 * l + m) rows) (hx : fw_R E (d + 1) l m x) : fw_I2 E d (7 * l + m + 1) (fw_up rows (7 * l + m) x) := by
  intro l' m' hl' hm'
  by_cases e : 7 * l' + m' = 7 * l + m
  · have e1 : l' = l := by omega
    have e2 : m' = m := by omega
    subst e1; subst e2
    rw [fw_up_s, if_pos (by omega)]
    exact ⟨fun q => absurd q hne, fun _ => hx⟩
  · rw [fw_up_n e]
    refine ⟨(h l' m' hl' hm').1, fun hne' => ?_⟩
    have h1 := (h l' m' hl' hm').2 hne'
    by_cases e2 : 7 * l' + m' < 7 * l + m
    · rw [if_pos e2] at h1
      rw [if_pos (by omega)]
      exact h1
    · rw [if_neg e2] at h1
      rw [if_neg (by omega)]
      exact h1
theorem fw_I2_end {n : Nat} {fr to pa pb : Nat → Nat} {rows : Nat → List Nat} (hb : ∀ k, k < n → fr k < 7 ∧ to k < 7 ∧ pa k ≤ 3 ∧ pb k ≤ 3) (h : fw_I2 (fe_E n fr to pa pb) 7 0 rows) : fw_OK (fe_E n fr to pa pb) rows := by
  intro l m hl hm
  obtain ⟨hE, hE7⟩ := fe_bound hb
  by_cases e : l = m
  · rw [(h l m hl hm).1 e]
    refine ⟨fa_stair_one 0, fun s hs => ?_, fun p q _ => ⟨0, List.mem_singleton.mpr rfl, by omega, by omega⟩⟩
    rw [List.mem_singleton.mp hs, e]
    exact ⟨by omega, by omega, fw_W_nil m⟩
  · have h1 := (h l m hl hm).2 e
    rw [if_neg (by omega)] at h1
    refine ⟨h1.1, fun s hs => ?_, fun p q hq => ?_⟩
    · have := fw_S_bound hE (by omega) hl hm (h1.2.1 s hs)
      exact ⟨this.1, this.2, fw_S_W (h1.2.1 s hs)⟩
    · obtain ⟨p', q', hS, e1, e2⟩ := fw_all hE7 hl hq
      obtain ⟨s, hs, e3, e4⟩ := h1.2.2 p' q' hS
      exact ⟨s, hs, by omega, by omega⟩
theorem fw_I2_len {n : Nat} {fr to pa pb : Nat → Nat} {rows : Nat → List Nat} {d r : Nat} (hb : ∀ k, k < n → fr k < 7 ∧ to k < 7 ∧ pa k ≤ 3 ∧ pb k ≤ 3) (hd : d ≤ 7) (hr : d = 7 → r = 0) (h : fw_I2 (fe_E n fr to pa pb) d r rows) (k : Nat) (hk : k < 49) : (rows k).length ≤ 19 ∧ ∀ s, s ∈ rows k → s / 64 ≤ 18 ∧ s % 64 ≤ 18 := by
  have h1 := h (k / 7) (k % 7) (by omega) (by omega)
  rw [show 7 * (k / 7) + k % 7 = k by omega] at h1
  by_cases e : k / 7 = k % 7
  · rw [h1.1 e]
    refine ⟨by decide, fun s hs => ?_⟩
    rw [List.mem_singleton.mp hs]
    omega
  · have h2 := h1.2 e
    have hle : (if k < r then d + 1 else d) ≤ 7 := by
      by_cases e2 : k < r
      · rw [if_pos e2]; omega
      · rw [if_neg e2]; exact hd
    exact ⟨fw_R_len (fe_bound hb).1 hle (by omega) (by omega) h2, fun s hs => fw_S_bound (fe_bound hb).1 hle (by omega) (by omega) (h2.2.1 s hs)⟩
end
section
/-! THE SPECS: what each operation answers and does, over the net alone -/
noncomputable def ci {α : Type} (P : Prop) (a b : α) : α := @ite α P (Classical.propDecidable P) a b
theorem ci_t {α : Type} {P : Prop} {a b : α} (h : P) : ci P a b = a := by unfold ci; rw [if_pos h]
theorem ci_f {α : Type} {P : Prop} {a b : α} (h : ¬ P) : ci P a b = b := by unfold ci; rw [if_neg h]
/-- lines, tokens; from, to, first, second of a line; place, time of a token -/
abbrev NV : Type := Nat × Nat × (Nat → Nat) × (Nat → Nat) × (Nat → Nat) × (Nat → Nat) × (Nat → Nat) × (Nat → Nat)
abbrev nv_n (v : NV) : Nat := v.1
abbrev nv_T (v : NV) : Nat := v.2.1
abbrev nv_f (v : NV) : Nat → Nat := v.2.2.1
abbrev nv_t (v : NV) : Nat → Nat := v.2.2.2.1
abbrev nv_a (v : NV) : Nat → Nat := v.2.2.2.2.1
abbrev nv_b (v : NV) : Nat → Nat := v.2.2.2.2.2.1
abbrev nv_p (v : NV) : Nat → Nat := v.2.2.2.2.2.2.1
abbrev nv_m (v : NV) : Nat → Nat := v.2.2.2.2.2.2.2
abbrev nv_E (v : NV) : Nat → Nat → Nat → Nat → Prop := fe_E (nv_n v) (nv_f v) (nv_t v) (nv_a v) (nv_b v)
def nv_ok (v : NV) : Prop := nv_n v ≤ 12 ∧ nv_T v ≤ 20 ∧ (∀ k, k < nv_n v → nv_f v k < 7 ∧ nv_t v k < 7 ∧ nv_a v k ≤ 3 ∧ nv_b v k ≤ 3) ∧ (∀ k, k < nv_T v → nv_p v k < 7 ∧ nv_m v k < 256)
abbrev nvX (sc : Nat → Nat) (ar : Nat → Nat → Nat) : NV := (sc 0, sc 5, ar 1, ar 2, ar 3, ar 4, ar 5, ar 6)
abbrev nvM (sc : Nat → Nat) (ar : Nat → Nat → Nat) : NV := (sc 0, sc 5, ar 1, ar 2, ar 3, ar 4, ar 5, fun k => 16 * ar 6 k + ar 7 k)
/-- the time (x, y) turns up at the place m -/
def nv_R (v : NV) (m x y : Nat) : Prop := ∃ k p q, k < nv_T v ∧ fw_W (nv_E v) (nv_p v k) m p q ∧ x = nv_m v k / 16 + p ∧ y = nv_m v k % 16 + q
abbrev sp_p (x : Int32) : Prop := 0 ≤ x.toInt ∧ x.toInt ≤ 6
abbrev sp_t (x : Int32) : Prop := 0 ≤ x.toInt ∧ x.toInt ≤ 15
abbrev sp_3 (x : Int32) : Prop := 0 ≤ x.toInt ∧ x.toInt ≤ 3
abbrev cv (x : Int32) : Nat := x.toNatClampNeg
theorem cv_nI {j : Nat} (h : j < 2147483648) : cv (nI j) = j := nI_clamp h
/-- the first place below n where F holds, or n -/
noncomputable def fi_ (F : Nat → Prop) : Nat → Nat
  | 0 => 0
  | n + 1 => ci (fi_ F n < n) (fi_ F n) (ci (F n) n (n + 1))
theorem fi_le (F : Nat → Prop) (n : Nat) : fi_ F n ≤ n := by
  induction n with
  | zero => exact Nat.le_refl 0
  | succ n ih =>
    show ci _ _ _ ≤ _
    by_cases h : fi_ F n < n
    · rw [ci_t h]; omega
    · rw [ci_f h]
      by_cases h2 : F n
      · rw [ci_t h2]; omega
      · rw [ci_f h2]; exact Nat.le_refl _
theorem fi_none {F : Nat → Prop} {n : Nat} (h : ∀ j, j < n → ¬ F j) : fi_ F n = n := by
  induction n with
  | zero => rfl
  | succ n ih =>
    have := ih (fun j hj => h j (by omega))
    show ci _ _ _ = _
    rw [ci_f (by omega), ci_f (h n (by omega))]
theorem fi_hit {F : Nat → Prop} {n k : Nat} (hk : k < n) (hF : F k) (hm : ∀ j, j < k → ¬ F j) : fi_ F n = k := by
  induction n with
  | zero => omega
  | succ n ih =>
    show ci _ _ _ = _
    by_cases e : k = n
    · subst e
      have := fi_none (F := F) (n := k) hm
      rw [ci_f (by omega), ci_t hF]
    · have := ih (by omega)
      rw [ci_t (by omega)]
      exact this
/-- shifted down from i on, below n -/
def sh_ (g : Nat → Nat) (i n : Nat) : Nat → Nat := fun j => if i ≤ j ∧ j < n then g (j + 1) else g j
theorem sh_0 (g : Nat → Nat) (i : Nat) : sh_ g i i = g := by
  funext j
  unfold sh_
  rw [if_neg (by omega)]
theorem sh_s (g : Nat → Nat) {i n : Nat} (h : i ≤ n) : nu (sh_ g i n) n (g (n + 1)) = sh_ g i (n + 1) := by
  funext j
  unfold nu sh_
  by_cases e : j = n
  · rw [if_pos e, if_pos (by omega), e]
  · rw [if_neg e]
    by_cases e2 : i ≤ j ∧ j < n
    · rw [if_pos e2, if_pos (by omega)]
    · rw [if_neg e2, if_neg (by omega)]
theorem sh_at (g : Nat → Nat) {i n : Nat} : sh_ g i n (n + 1) = g (n + 1) := by unfold sh_; rw [if_neg (by omega)]
noncomputable def tr_link (v : NV) (f t p q : Int32) : NV × Int32 := ci (sp_p f ∧ sp_p t ∧ sp_3 p ∧ sp_3 q ∧ nv_n v < 12) ((nv_n v + 1, nv_T v, nu (nv_f v) (nv_n v) (cv f), nu (nv_t v) (nv_n v) (cv t), nu (nv_a v) (nv_n v) (cv p), nu (nv_b v) (nv_n v) (cv q), nv_p v, nv_m v), nI (nv_n v + 1)) (v, -1)
noncomputable def tr_unlink (v : NV) (x : Int32) : NV × Int32 := ci (0 ≤ x.toInt ∧ x.toInt < (nv_n v : Int)) ((nv_n v - 1, nv_T v, sh_ (nv_f v) (cv x) (nv_n v - 1), sh_ (nv_t v) (cv x) (nv_n v - 1), sh_ (nv_a v) (cv x) (nv_n v - 1), sh_ (nv_b v) (cv x) (nv_n v - 1), nv_p v, nv_m v), nI (nv_n v - 1)) (v, -1)
noncomputable def tr_put (v : NV) (x a b : Int32) : NV × Int32 := ci (sp_p x ∧ sp_t a ∧ sp_t b ∧ nv_T v < 20) ((nv_n v, nv_T v + 1, nv_f v, nv_t v, nv_a v, nv_b v, nu (nv_p v) (nv_T v) (cv x), nu (nv_m v) (nv_T v) (16 * cv a + cv b)), nI (nv_T v + 1)) (v, -1)
/-- the token k stands at the place x with the time t -/
abbrev nv_here (v : NV) (x t k : Nat) : Prop := nv_p v k = x ∧ nv_m v k = t
noncomputable def tr_take (v : NV) (x a b : Int32) : NV × Int32 := ci (sp_p x ∧ sp_t a ∧ sp_t b ∧ ∃ k, k < nv_T v ∧ nv_here v (cv x) (16 * cv a + cv b) k) ((nv_n v, nv_T v - 1, nv_f v, nv_t v, nv_a v, nv_b v, nu (nv_p v) (fi_ (nv_here v (cv x) (16 * cv a + cv b)) (nv_T v)) (nv_p v (nv_T v - 1)), nu (nv_m v) (fi_ (nv_here v (cv x) (16 * cv a + cv b)) (nv_T v)) (nv_m v (nv_T v - 1))), nI (nv_T v - 1)) (v, -1)
noncomputable def tr_pass (v : NV) (x a b : Int32) : NV × Int32 := ci (0 ≤ x.toInt ∧ x.toInt < (nv_n v : Int) ∧ sp_t a ∧ sp_t b ∧ ∃ k, k < nv_T v ∧ nv_here v (nv_f v (cv x)) (16 * cv a + cv b) k) (ci (cv a + nv_a v (cv x) ≤ 15 ∧ cv b + nv_b v (cv x) ≤ 15) ((nv_n v, nv_T v, nv_f v, nv_t v, nv_a v, nv_b v, nu (nv_p v) (fi_ (nv_here v (nv_f v (cv x)) (16 * cv a + cv b)) (nv_T v)) (nv_t v (cv x)), nu (nv_m v) (fi_ (nv_here v (nv_f v (cv x)) (16 * cv a + cv b)) (nv_T v)) (16 * (cv a + nv_a v (cv x)) + (cv b + nv_b v (cv x)))), 0) (v, -2)) (v, -1)
noncomputable def tr_possible (v : NV) (x a b : Int32) : Int32 := ci (sp_p x ∧ sp_t a ∧ sp_t b) (ci (∃ x1 y1, x1 ≤ cv a ∧ y1 ≤ cv b ∧ nv_R v (cv x) x1 y1) 1 0) (-1)
/-- another token comes to (x, a, b) in time -/
def nv_other (v : NV) (x a b : Nat) : Prop := ∃ k p q, k < nv_T v ∧ ¬ nv_here v x (16 * a + b) k ∧ fw_W (nv_E v) (nv_p v k) x p q ∧ nv_m v k / 16 + p ≤ a ∧ nv_m v k % 16 + q ≤ b
noncomputable def tr_ready (v : NV) (x a b : Int32) : Int32 := ci (sp_p x ∧ sp_t a ∧ sp_t b) (ci ((∃ k, k < nv_T v ∧ nv_here v (cv x) (16 * cv a + cv b) k) ∧ ¬ nv_other v (cv x) (cv a) (cv b)) 1 0) (-1)
/-- the least times of a set, by w * a + b -/
def fr_ (w : Nat) (R : Nat → Nat → Prop) (t : Nat) : Prop := R (t / w) (t % w) ∧ ∀ x y, x ≤ t / w → y ≤ t % w → R x y → x = t / w ∧ y = t % w
noncomputable def tr_front (v : NV) (x : Int32) : Int32 := ci (sp_p x) (nI (fc_n (fr_ 16 (nv_R v (cv x))) 256)) (-1)
/-- the place with i before it -/
noncomputable def fs_ (F : Nat → Prop) (i : Int32) : Nat → Int32
  | 0 => -1
  | t + 1 => ci (F t ∧ nI (fc_n F t) = i) (nI t) (fs_ F i t)
theorem fs_miss {F : Nat → Prop} {i : Int32} {n : Nat} (h : ∀ t, t < n → F t → nI (fc_n F t) ≠ i) : fs_ F i n = -1 := by
  induction n with
  | zero => rfl
  | succ n ih =>
    show ci _ _ _ = _
    rw [ci_f (fun q => h n (by omega) q.1 q.2)]
    exact ih (fun t ht => h t (by omega))
theorem fs_hit {F : Nat → Prop} {i : Int32} {n t : Nat} (hn : n < 2147483648) (ht : t < n) (hF : F t) (hi : nI (fc_n F t) = i) : fs_ F i n = nI t := by
  induction n with
  | zero => omega
  | succ n ih =>
    show ci _ _ _ = _
    by_cases e : t = n
    · subst e
      rw [ci_t ⟨hF, hi⟩]
    · rw [ci_f]
      · exact ih (by omega) (by omega)
      · rintro ⟨h1, h2⟩
        have h3 := fc_lt (F := F) (show t < n by omega) hF
        have h4 := fc_le F n
        have h5 := (nI_eq (a := fc_n F t) (b := fc_n F n) (by omega) (by omega)).mp (hi.trans h2.symm)
        omega
noncomputable def tr_frontAt (v : NV) (x i : Int32) : Int32 := ci (sp_p x) (fs_ (fr_ 16 (nv_R v (cv x))) i 256) (-1)
noncomputable def tr_shortest (v : NV) (x y : Int32) : Int32 := ci (sp_p x ∧ sp_p y) (nI (fc_n (fr_ 19 (fw_W (nv_E v) (cv x) (cv y))) 361)) (-1)
/-! THE COMPONENT's STATE -/
/-- the rows of least sums as the arrays hold them -/
def rp_ (ar : Nat → Nat → Nat) (rows : Nat → List Nat) : Prop := ∀ r, r < 49 → ar 7 r = (rows r).length ∧ (rows r).length ≤ 19 ∧ ∀ i z, (rows r)[i]? = some z → ar 8 (19 * r + i) = z ∧ z < 4096
theorem rp_get {ar : Nat → Nat → Nat} {rows : Nat → List Nat} (h : rp_ ar rows) {r i : Nat} (hr : r < 49) (hi : i < ar 7 r) : (rows r)[i]? = some (ar 8 (19 * r + i)) ∧ ar 8 (19 * r + i) < 4096 ∧ i < 19 := by
  obtain ⟨h1, h2, h3⟩ := h r hr
  have hlt : i < (rows r).length := by omega
  have e : (rows r)[i]? = some (rows r)[i] := List.getElem?_eq_getElem hlt
  obtain ⟨h4, h5⟩ := h3 i _ e
  rw [h4]
  exact ⟨e, h5, by omega⟩
/-- a token at the place pl with the time tm makes (a, b) at m by a least sum -/
def hit_ (rows : Nat → List Nat) (m a b pl tm : Nat) : Prop := ∃ z, z ∈ rows (7 * pl + m) ∧ tm / 16 + z / 64 = a ∧ tm % 16 + z % 64 = b
def mk_ok (rows : Nat → List Nat) (T : Nat) (pl tm mk : Nat → Nat) : Prop := ∀ m a b, m < 7 → a < 16 → b < 16 → mk (256 * m + 16 * a + b) = fc_n (fun k => hit_ rows m a b (pl k) (tm k)) T
def x_I (sc : Nat → Nat) (ar : Nat → Nat → Nat) : Prop := nv_ok (nvX sc ar) ∧ ∃ rows, rp_ ar rows ∧ fw_OK (nv_E (nvX sc ar)) rows ∧ mk_ok rows (sc 5) (ar 5) (ar 6) (ar 10)
/-- what the model keeps -/
def y_I (sc : Nat → Nat) (ar : Nat → Nat → Nat) : Prop := nv_ok (nvM sc ar) ∧ ∀ k, k < sc 5 → ar 6 k < 16 ∧ ar 7 k < 16
theorem hit_uniq {rows : Nat → List Nat} {m a b pl tm : Nat} {z w : Nat} (hz : tm / 16 + z / 64 = a ∧ tm % 16 + z % 64 = b) (hw : tm / 16 + w / 64 = a ∧ tm % 16 + w % 64 = b) : z = w := by omega
theorem mk_pos {rows : Nat → List Nat} {T : Nat} {pl tm mk : Nat → Nat} (h : mk_ok rows T pl tm mk) {m a b : Nat} (hm : m < 7) (ha : a < 16) (hb : b < 16) : 0 < mk (256 * m + 16 * a + b) ↔ ∃ k, k < T ∧ hit_ rows m a b (pl k) (tm k) := by
  rw [h m a b hm ha hb]
  exact fc_pos
section XQ
variable {sc : Nat → Nat} {ar : Nat → Nat → Nat} {rows : Nat → List Nat}
theorem mk_R (ho : nv_ok (nvX sc ar)) (hw : fw_OK (nv_E (nvX sc ar)) rows) (hk : mk_ok rows (sc 5) (ar 5) (ar 6) (ar 10)) {m a b : Nat} (hm : m < 7) (ha : a < 16) (hb : b < 16) (h : 0 < ar 10 (256 * m + 16 * a + b)) : nv_R (nvX sc ar) m a b := by
  obtain ⟨k, hk1, z, hz, e1, e2⟩ := (mk_pos hk hm ha hb).mp h
  have hp := (ho.2.2.2 k hk1).1
  exact ⟨k, z / 64, z % 64, hk1, ((hw (ar 5 k) m hp hm).2.1 z hz).2.2, e1.symm, e2.symm⟩
theorem R_mk (ho : nv_ok (nvX sc ar)) (hw : fw_OK (nv_E (nvX sc ar)) rows) (hk : mk_ok rows (sc 5) (ar 5) (ar 6) (ar 10)) {m a b : Nat} (hm : m < 7) (ha : a < 16) (hb : b < 16) (h : nv_R (nvX sc ar) m a b) : ∃ x y, x ≤ a ∧ y ≤ b ∧ 0 < ar 10 (256 * m + 16 * x + y) := by
  obtain ⟨k, p, q, hk1, hW, e1, e2⟩ := h
  have hp := (ho.2.2.2 k hk1).1
  obtain ⟨z, hz, e3, e4⟩ := (hw (ar 5 k) m hp hm).2.2 p q hW
  have e1 : a = ar 6 k / 16 + p := e1
  have e2 : b = ar 6 k % 16 + q := e2
  refine ⟨ar 6 k / 16 + z / 64, ar 6 k % 16 + z % 64, by omega, by omega, ?_⟩
  exact (mk_pos hk hm (by omega) (by omega)).mpr ⟨k, hk1, z, hz, rfl, rfl⟩
theorem mk_bnd (ho : nv_ok (nvX sc ar)) (hk : mk_ok rows (sc 5) (ar 5) (ar 6) (ar 10)) {m a b : Nat} (hm : m < 7) (ha : a < 16) (hb : b < 16) : ar 10 (256 * m + 16 * a + b) ≤ 20 := by
  rw [hk m a b hm ha hb]
  have h1 := fc_le (fun k => hit_ rows m a b (ar 5 k) (ar 6 k)) (sc 5)
  have h2 : sc 5 ≤ 20 := ho.2.1
  omega
/-- the least times are those of the marks -/
theorem fr_mk (ho : nv_ok (nvX sc ar)) (hw : fw_OK (nv_E (nvX sc ar)) rows) (hk : mk_ok rows (sc 5) (ar 5) (ar 6) (ar 10)) {m a b : Nat} (hm : m < 7) (ha : a < 16) (hb : b < 16) : fr_ 16 (nv_R (nvX sc ar) m) (16 * a + b) ↔ (0 < ar 10 (256 * m + 16 * a + b) ∧ ∀ x y, x ≤ a → y ≤ b → 0 < ar 10 (256 * m + 16 * x + y) → x = a ∧ y = b) := by
  unfold fr_
  rw [show (16 * a + b) / 16 = a by omega, show (16 * a + b) % 16 = b by omega]
  constructor
  · rintro ⟨h1, h2⟩
    refine ⟨?_, fun x y hx hy h => h2 x y hx hy (mk_R ho hw hk hm (by omega) (by omega) h)⟩
    obtain ⟨x, y, hx, hy, h3⟩ := R_mk ho hw hk hm ha hb h1
    obtain ⟨e1, e2⟩ := h2 x y hx hy (mk_R ho hw hk hm (by omega) (by omega) h3)
    rw [← e1, ← e2]
    exact h3
  · rintro ⟨h1, h2⟩
    refine ⟨mk_R ho hw hk hm ha hb h1, fun x y hx hy h => ?_⟩
    obtain ⟨x', y', hx', hy', h3⟩ := R_mk ho hw hk hm (by omega) (by omega) h
    have := h2 x' y' (by omega) (by omega) h3
    omega
/-- one step of the sweep over a: a mark below the best so far -/
theorem fr_hit (ho : nv_ok (nvX sc ar)) (hw : fw_OK (nv_E (nvX sc ar)) rows) (hk : mk_ok rows (sc 5) (ar 5) (ar 6) (ar 10)) {m a b best : Nat} (hm : m < 7) (ha : a < 16) (hbest : best ≤ 16) (h1 : ∀ x y, x < a → y < best → ar 10 (256 * m + 16 * x + y) = 0) (hb : b < best) (h2 : 0 < ar 10 (256 * m + 16 * a + b)) (h3 : ∀ y, y < b → ar 10 (256 * m + 16 * a + y) = 0) : ∀ b', b' < 16 → (fr_ 16 (nv_R (nvX sc ar) m) (16 * a + b') ↔ b' = b) := by
  intro b' hb'
  rw [fr_mk ho hw hk hm ha hb']
  constructor
  · rintro ⟨k1, k2⟩
    have : ¬ b' < b := fun q => by have := h3 b' q; omega
    have := k2 a b (Nat.le_refl _) (by omega) h2
    omega
  · rintro rfl
    refine ⟨h2, fun x y hx hy h => ?_⟩
    by_cases e : x < a
    · have := h1 x y e (by omega); omega
    · have e2 : x = a := by omega
      subst e2
      have : ¬ y < b' := fun q => by have := h3 y q; omega
      omega
theorem fr_miss (ho : nv_ok (nvX sc ar)) (hw : fw_OK (nv_E (nvX sc ar)) rows) (hk : mk_ok rows (sc 5) (ar 5) (ar 6) (ar 10)) {m a best : Nat} (hm : m < 7) (ha : a < 16) (hbest : best ≤ 16) (h1 : best < 16 → ∃ x, x < a ∧ 0 < ar 10 (256 * m + 16 * x + best)) (h3 : ∀ y, y < best → ar 10 (256 * m + 16 * a + y) = 0) : ∀ b', b' < 16 → ¬ fr_ 16 (nv_R (nvX sc ar) m) (16 * a + b') := by
  intro b' hb'
  rw [fr_mk ho hw hk hm ha hb']
  rintro ⟨k1, k2⟩
  have : ¬ b' < best := fun q => by have := h3 b' q; omega
  obtain ⟨x, hx, h4⟩ := h1 (by omega)
  have := k2 x best (by omega) (by omega) h4
  omega
end XQ
theorem fc_row_hit {F : Nat → Prop} {a b : Nat} (hb : b < 16) (h : ∀ b', b' < 16 → (F (16 * a + b') ↔ b' = b)) : fc_n F (16 * (a + 1)) = fc_n F (16 * a) + 1 ∧ fc_n F (16 * a + b) = fc_n F (16 * a) := by
  constructor
  · rw [show 16 * (a + 1) = 16 * a + 16 by omega, fc_add]
    rw [fc_one (F := fun k => F (16 * a + k)) hb ((h b hb).mpr rfl) (fun j hj hF => (h j hj).mp hF)]
  · rw [fc_add, fc_none (F := fun k => F (16 * a + k)) (fun k hk q => by have := (h k (by omega)).mp q; omega)]
    rfl
theorem fc_row_miss {F : Nat → Prop} {a : Nat} (h : ∀ b', b' < 16 → ¬ F (16 * a + b')) : fc_n F (16 * (a + 1)) = fc_n F (16 * a) := by
  rw [show 16 * (a + 1) = 16 * a + 16 by omega, fc_add, fc_none (F := fun k => F (16 * a + k)) (fun k hk => h k hk)]
  rfl
/-- the least sums of a row, counted -/
theorem fr_row {E : Nat → Nat → Nat → Nat → Prop} {rows : Nat → List Nat} (hw : fw_OK E rows) {l m : Nat} (hl : l < 7) (hm : m < 7) : fc_n (fr_ 19 (fw_W E l m)) 361 = (rows (7 * l + m)).length := by
  obtain ⟨h1, h2, h3⟩ := hw l m hl hm
  have hmem : ∀ t, t < 361 → (fr_ 19 (fw_W E l m) t ↔ t ∈ (rows (7 * l + m)).map (fun z => 19 * (z / 64) + z % 64)) := by
    intro t ht
    rw [List.mem_map]
    constructor
    · rintro ⟨k1, k2⟩
      obtain ⟨z, hz, e1, e2⟩ := h3 _ _ k1
      have := k2 (z / 64) (z % 64) e1 e2 (h2 z hz).2.2
      exact ⟨z, hz, by omega⟩
    · rintro ⟨z, hz, e⟩
      have hb := h2 z hz
      have e1 : t / 19 = z / 64 := by omega
      have e2 : t % 19 = z % 64 := by omega
      unfold fr_
      rw [e1, e2]
      refine ⟨hb.2.2, fun x y hx hy hW => ?_⟩
      obtain ⟨w, hw1, e3, e4⟩ := h3 x y hW
      have hzw : w = z := by
        obtain ⟨i, hi⟩ := List.getElem?_of_mem hw1
        obtain ⟨j, hj⟩ := List.getElem?_of_mem hz
        obtain ⟨hil, hie⟩ := List.getElem?_eq_some_iff.mp hi
        obtain ⟨hjl, hje⟩ := List.getElem?_eq_some_iff.mp hj
        unfold fa_stair at h1
        rw [List.pairwise_iff_getElem] at h1
        rcases Nat.lt_trichotomy i j with q | q | q
        · have := h1 i j hil hjl q
          rw [hie, hje] at this
          omega
        · subst q
          rw [← hie, ← hje]
        · have := h1 j i hjl hil q
          rw [hie, hje] at this
          omega
      subst hzw
      omega
  rw [fc_congr hmem, fc_list]
  · rw [List.length_map]
  · show List.Pairwise _ _
    rw [List.pairwise_map]
    unfold fa_stair at h1
    refine List.Pairwise.imp_of_mem (fun {a b} ha hb h e => ?_) h1
    have b1 := h2 a ha
    have b2 := h2 b hb
    omega
  · intro t ht
    obtain ⟨z, hz, e⟩ := List.mem_map.mp ht
    have := h2 z hz
    omega
end
section
/-! HELP for the walks of the component: pure steps of its loops -/
theorem nw_subgt {a t z : Nat} (ha : a < 1073741824) (ht : t < 1073741824) (hz : z < 1073741824) : nI a - nI t < nI z ↔ a < t + z := by
  rw [Int32.lt_iff_toInt_lt, pk_sub_toInt (by omega) (by omega), nI_toInt (by omega)]
  omega
theorem fw_up_self (rows : Nat → List Nat) (r : Nat) : fw_up rows r (rows r) = rows := by
  funext k
  by_cases h : k = r
  · rw [h, fw_up_s]
  · rw [fw_up_n h]
/-! count -/
def hA_ (ar : Nat → Nat → Nat) (pl tm m a b i : Nat) : Prop := ∃ i', i' < i ∧ tm / 16 + ar 8 (19 * (7 * pl + m) + i') / 64 = a ∧ tm % 16 + ar 8 (19 * (7 * pl + m) + i') % 64 = b
def ct_ (ar : Nat → Nat → Nat) (bf : Nat → Nat) (pl tm m i : Nat) (ar1 : Nat → Nat → Nat) : Prop := (∀ k, k ≠ 10 → ar1 k = ar k) ∧ ∀ m' a b, m' < 7 → a < 16 → b < 16 → (((m' < m ∧ hA_ ar pl tm m' a b (ar 7 (7 * pl + m'))) ∨ (m' = m ∧ hA_ ar pl tm m a b i)) → ar1 10 (256 * m' + 16 * a + b) = bf (ar 10 (256 * m' + 16 * a + b))) ∧ (¬ ((m' < m ∧ hA_ ar pl tm m' a b (ar 7 (7 * pl + m'))) ∨ (m' = m ∧ hA_ ar pl tm m a b i)) → ar1 10 (256 * m' + 16 * a + b) = ar 10 (256 * m' + 16 * a + b))
theorem ct_0 {ar : Nat → Nat → Nat} {bf : Nat → Nat} {pl tm : Nat} : ct_ ar bf pl tm 0 0 ar := by
  refine ⟨fun k _ => rfl, fun m' a b _ _ _ => ⟨?_, fun _ => rfl⟩⟩
  rintro (⟨h, -⟩ | ⟨-, i', h, -⟩)
  · omega
  · omega
theorem ct_next {ar ar1 : Nat → Nat → Nat} {bf : Nat → Nat} {pl tm m : Nat} (h : ct_ ar bf pl tm m (ar 7 (7 * pl + m)) ar1) : ct_ ar bf pl tm (m + 1) 0 ar1 := by
  refine ⟨h.1, fun m' a b h1 h2 h3 => ?_⟩
  have h4 := h.2 m' a b h1 h2 h3
  have e : ((m' < m + 1 ∧ hA_ ar pl tm m' a b (ar 7 (7 * pl + m'))) ∨ (m' = m + 1 ∧ hA_ ar pl tm (m + 1) a b 0)) ↔ ((m' < m ∧ hA_ ar pl tm m' a b (ar 7 (7 * pl + m'))) ∨ (m' = m ∧ hA_ ar pl tm m a b (ar 7 (7 * pl + m)))) := by
    constructor
    · rintro (⟨h5, h6⟩ | ⟨-, i', h5, -⟩)
      · by_cases e : m' = m
        · subst e; exact Or.inr ⟨rfl, h6⟩
        · exact Or.inl ⟨by omega, h6⟩
      · omega
    · rintro (⟨h5, h6⟩ | ⟨h5, h6⟩)
      · exact Or.inl ⟨by omega, h6⟩
      · subst h5; exact Or.inl ⟨by omega, h6⟩
  rw [e]
  exact h4
theorem hA_s {ar : Nat → Nat → Nat} {pl tm m a b i : Nat} : hA_ ar pl tm m a b (i + 1) ↔ hA_ ar pl tm m a b i ∨ (tm / 16 + ar 8 (19 * (7 * pl + m) + i) / 64 = a ∧ tm % 16 + ar 8 (19 * (7 * pl + m) + i) % 64 = b) := by
  constructor
  · rintro ⟨i', h1, h2⟩
    by_cases e : i' = i
    · subst e; exact Or.inr h2
    · exact Or.inl ⟨i', by omega, h2⟩
  · rintro (⟨i', h1, h2⟩ | h)
    · exact ⟨i', by omega, h2⟩
    · exact ⟨i, by omega, h⟩
theorem ct_out {ar ar1 : Nat → Nat → Nat} {bf : Nat → Nat} {pl tm m i : Nat} (ho : ¬ (tm / 16 + ar 8 (19 * (7 * pl + m) + i) / 64 ≤ 15 ∧ tm % 16 + ar 8 (19 * (7 * pl + m) + i) % 64 ≤ 15)) (h : ct_ ar bf pl tm m i ar1) : ct_ ar bf pl tm m (i + 1) ar1 := by
  refine ⟨h.1, fun m' a b h1 h2 h3 => ?_⟩
  have h4 := h.2 m' a b h1 h2 h3
  have e : hA_ ar pl tm m a b (i + 1) ↔ hA_ ar pl tm m a b i := by
    rw [hA_s]
    constructor
    · rintro (h5 | h5)
      · exact h5
      · exact absurd (by omega) ho
    · exact Or.inl
  rw [e]
  exact h4
theorem ct_in {ar ar1 ar2 : Nat → Nat → Nat} {bf : Nat → Nat} {pl tm m i a0 b0 : Nat} (hm : m < 7) (ea : a0 = tm / 16 + ar 8 (19 * (7 * pl + m) + i) / 64) (eb : b0 = tm % 16 + ar 8 (19 * (7 * pl + m) + i) % 64) (ha : a0 ≤ 15) (hb : b0 ≤ 15) (hn : ¬ hA_ ar pl tm m a0 b0 i) (h : ct_ ar bf pl tm m i ar1) (e2 : ar2 = au ar1 10 (256 * m + 16 * a0 + b0) (bf (ar 10 (256 * m + 16 * a0 + b0)))) : ct_ ar bf pl tm m (i + 1) ar2 := by
  refine ⟨fun k hk => by rw [e2, au_k _ _ _ hk]; exact h.1 k hk, fun m' a b h1 h2 h3 => ?_⟩
  have h4 := h.2 m' a b h1 h2 h3
  by_cases e : m' = m ∧ a = a0 ∧ b = b0
  · obtain ⟨rfl, rfl, rfl⟩ := e
    rw [e2, au_s]
    refine ⟨fun _ => rfl, fun q => absurd (Or.inr ⟨rfl, hA_s.mpr (Or.inr ⟨ea.symm, eb.symm⟩)⟩) q⟩
  · have hx : ar2 10 (256 * m' + 16 * a + b) = ar1 10 (256 * m' + 16 * a + b) := by
      rw [e2, au_j]
      omega
    rw [hx]
    have e3 : (m' = m ∧ hA_ ar pl tm m a b (i + 1)) ↔ (m' = m ∧ hA_ ar pl tm m a b i) := by
      rw [hA_s]
      constructor
      · rintro ⟨q1, q2 | q2⟩
        · exact ⟨q1, q2⟩
        · exact absurd ⟨q1, by omega, by omega⟩ e
      · rintro ⟨q1, q2⟩
        exact ⟨q1, Or.inl q2⟩
    rw [e3]
    exact h4
theorem hA_hit {ar : Nat → Nat → Nat} {rows : Nat → List Nat} (hr : rp_ ar rows) {pl tm m a b : Nat} (hp : pl < 7) (hm : m < 7) : hA_ ar pl tm m a b (ar 7 (7 * pl + m)) ↔ hit_ rows m a b pl tm := by
  constructor
  · rintro ⟨i, hi, h1, h2⟩
    have h3 := (rp_get hr (r := 7 * pl + m) (by omega) hi).1
    exact ⟨_, List.mem_of_getElem? h3, h1, h2⟩
  · rintro ⟨z, hz, h1, h2⟩
    obtain ⟨i, hi⟩ := List.getElem?_of_mem hz
    have h3 := hr (7 * pl + m) (by omega)
    have h4 := (List.getElem?_eq_some_iff.mp hi).1
    have h5 := (h3.2.2 i z hi).1
    exact ⟨i, by omega, by rw [h5]; exact h1, by rw [h5]; exact h2⟩
theorem hA_new {ar : Nat → Nat → Nat} {rows : Nat → List Nat} (hr : rp_ ar rows) {pl tm m a b i : Nat} (hp : pl < 7) (hm : m < 7) (hn : (rows (7 * pl + m)).Nodup) (hi : i < ar 7 (7 * pl + m)) (ea : a = tm / 16 + ar 8 (19 * (7 * pl + m) + i) / 64) (eb : b = tm % 16 + ar 8 (19 * (7 * pl + m) + i) % 64) : ¬ hA_ ar pl tm m a b i := by
  rintro ⟨i', h1, h2, h3⟩
  have g1 := (rp_get hr (r := 7 * pl + m) (by omega) hi).1
  have g2 := (rp_get hr (r := 7 * pl + m) (i := i') (by omega) (by omega)).1
  have e : ar 8 (19 * (7 * pl + m) + i') = ar 8 (19 * (7 * pl + m) + i) := by omega
  rw [e] at g2
  obtain ⟨l1, e1⟩ := List.getElem?_eq_some_iff.mp g1
  obtain ⟨l2, e2⟩ := List.getElem?_eq_some_iff.mp g2
  have hp := List.pairwise_iff_getElem.mp hn i' i l2 l1 h1
  rw [e1, e2] at hp
  exact hp rfl
/-! addSum -/
def ga_ (sc : Nat → Nat) (ar : Nat → Nat → Nat) (sc1 : Nat → Nat) (ar1 : Nat → Nat → Nat) (L : List Nat) : Prop := (∀ k, k ≠ 10 → sc1 k = sc k) ∧ (∀ k, k ≠ 9 → ar1 k = ar k) ∧ sc1 10 = L.length ∧ ∀ j z, L[j]? = some z → ar1 9 j = z
theorem ga_push {sc sc1 sc2 : Nat → Nat} {ar ar1 ar2 : Nat → Nat → Nat} {L : List Nat} {z : Nat} (h : ga_ sc ar sc1 ar1 L) (e1 : ar2 = au ar1 9 (sc1 10) z) (e2 : sc2 = su sc1 10 (sc1 10 + 1)) : ga_ sc ar sc2 ar2 (L ++ [z]) := by
  obtain ⟨h1, h2, h3, h4⟩ := h
  refine ⟨fun k hk => by rw [e2, su_n _ _ hk]; exact h1 k hk, fun k hk => by rw [e1, au_k _ _ _ hk]; exact h2 k hk, by rw [e2, su_s, h3]; simp, fun j w hj => ?_⟩
  rw [e1, h3]
  by_cases e : j = L.length
  · subst e
    rw [au_s]
    simpa using hj
  · rw [au_j _ _ _ e]
    rw [List.getElem?_append_left (by have := (List.getElem?_eq_some_iff.mp hj).1; simp at this; omega)] at hj
    exact h4 j w hj
theorem fa_go_cons {s z : Nat} {xs L : List Nat} {b : Bool} (h : ¬ (z / 64 ≤ s / 64 ∧ z % 64 ≤ s % 64)) : fa_go s (z :: xs) L b = fa_go s xs ((if z / 64 ≤ s / 64 ∨ b = true then L else L ++ [s]) ++ (if s / 64 ≤ z / 64 ∧ s % 64 ≤ z % 64 then [] else [z])) (b || decide (s / 64 < z / 64)) := by
  rw [fa_go, if_neg h]
/-- the list written back: i places done -/
def wb_ (ar ar1 : Nat → Nat → Nat) (r : Nat) (L : List Nat) (i : Nat) : Prop := (∀ k, k ≠ 8 → k ≠ 9 → ar1 k = ar k) ∧ (∀ j z, L[j]? = some z → ar1 9 j = z) ∧ (∀ j z, L[j]? = some z → j < i → ar1 8 (19 * r + j) = z) ∧ ∀ j, (j < 19 * r ∨ 19 * r + i ≤ j) → ar1 8 j = ar 8 j
theorem wb_step {ar ar1 ar2 : Nat → Nat → Nat} {r i z : Nat} {L : List Nat} (hz : L[i]? = some z) (h : wb_ ar ar1 r L i) (e : ar2 = au ar1 8 (19 * r + i) z) : wb_ ar ar2 r L (i + 1) := by
  obtain ⟨h1, h2, h3, h4⟩ := h
  refine ⟨fun k a b => by rw [e, au_k _ _ _ a]; exact h1 k a b, fun j w hj => by rw [e, au_k _ _ _ (by decide)]; exact h2 j w hj, fun j w hj hji => ?_, fun j hj => ?_⟩
  · by_cases q : j = i
    · subst q
      rw [e, au_s]
      rw [hz] at hj
      exact Option.some.inj hj
    · rw [e, au_j _ _ _ (by omega)]
      exact h3 j w hj (by omega)
  · rw [e, au_j _ _ _ (by omega)]
    exact h4 j (by omega)
theorem wb_end {ar ar1 ar2 : Nat → Nat → Nat} {rows : Nat → List Nat} {r : Nat} {L : List Nat} (hr : r < 49) (hl : L.length ≤ 19) (hz : ∀ z, z ∈ L → z < 4096) (hp : rp_ ar rows) (h : wb_ ar ar1 r L L.length) (e : ar2 = au ar1 7 r L.length) : rp_ ar2 (fw_up rows r L) ∧ ∀ k, k ≠ 7 → k ≠ 8 → k ≠ 9 → ar2 k = ar k := by
  obtain ⟨h1, h2, h3, h4⟩ := h
  refine ⟨fun r' hr' => ?_, fun k a b c => by rw [e, au_k _ _ _ a]; exact h1 k b c⟩
  have e8 : ar2 8 = ar1 8 := by rw [e, au_k _ _ _ (by decide)]
  by_cases q : r' = r
  · subst q
    rw [fw_up_s, e8]
    refine ⟨by rw [e, au_s], hl, fun i z hi => ⟨h3 i z hi (List.getElem?_eq_some_iff.mp hi).1, hz z (List.mem_of_getElem? hi)⟩⟩
  · rw [fw_up_n q, e8]
    obtain ⟨g1, g2, g3⟩ := hp r' hr'
    refine ⟨by rw [e, au_j _ _ _ q, h1 7 (by decide) (by decide)]; exact g1, g2, fun i z hi => ?_⟩
    have hil := (List.getElem?_eq_some_iff.mp hi).1
    rw [h4 _ (by omega)]
    exact g3 i z hi
theorem rp_same {ar ar1 : Nat → Nat → Nat} {rows : Nat → List Nat} (h : rp_ ar rows) (e7 : ar1 7 = ar 7) (e8 : ar1 8 = ar 8) : rp_ ar1 rows := by
  intro r hr
  rw [e7, e8]
  exact h r hr
theorem rp_drop {ar : Nat → Nat → Nat} {rows : Nat → List Nat} (h : rp_ ar rows) {r i : Nat} (hr : r < 49) (hi : i < ar 7 r) : (rows r).drop i = ar 8 (19 * r + i) :: (rows r).drop (i + 1) := by
  have h1 := (rp_get h hr hi).1
  obtain ⟨h2, h3⟩ := List.getElem?_eq_some_iff.mp h1
  rw [List.drop_eq_getElem_cons h2, h3]
theorem rp_drop_end {ar : Nat → Nat → Nat} {rows : Nat → List Nat} (h : rp_ ar rows) {r i : Nat} (hr : r < 49) (hi : ar 7 r ≤ i) : (rows r).drop i = [] := by
  have := (h r hr).1
  rw [List.drop_eq_nil_iff]
  omega
end
section
/-! HELP 2: ends of count and addSum, the phases of rebuild -/
theorem ct_end {ar ar1 : Nat → Nat → Nat} {bf : Nat → Nat} {rows : Nat → List Nat} {pl tm : Nat} (hr : rp_ ar rows) (hp : pl < 7) (h : ct_ ar bf pl tm 7 0 ar1) : ∀ m a b, m < 7 → a < 16 → b < 16 → (hit_ rows m a b pl tm → ar1 10 (256 * m + 16 * a + b) = bf (ar 10 (256 * m + 16 * a + b))) ∧ (¬ hit_ rows m a b pl tm → ar1 10 (256 * m + 16 * a + b) = ar 10 (256 * m + 16 * a + b)) := by
  intro m a b hm ha hb
  have h1 := h.2 m a b hm ha hb
  rw [← hA_hit hr hp hm]
  refine ⟨fun q => h1.1 (Or.inl ⟨hm, q⟩), fun q => h1.2 ?_⟩
  rintro (⟨-, h2⟩ | ⟨h2, -⟩)
  · exact q h2
  · omega
theorem fw_up_up (rows : Nat → List Nat) (r : Nat) (x y : List Nat) : fw_up (fw_up rows r x) r y = fw_up rows r y := by
  funext k
  by_cases h : k = r
  · rw [h, fw_up_s, fw_up_s]
  · rw [fw_up_n h, fw_up_n h, fw_up_n h]
theorem rp_at {ar : Nat → Nat → Nat} {rows : Nat → List Nat} (h : rp_ ar rows) {r i : Nat} (hr : r < 49) (hi : i < (rows r).length) : ∃ z, (rows r)[i]? = some z ∧ ar 8 (19 * r + i) = z ∧ z < 4096 ∧ z ∈ rows r := by
  have e : (rows r)[i]? = some (rows r)[i] := List.getElem?_eq_getElem hi
  obtain ⟨h1, h2⟩ := (h r hr).2.2 i _ e
  exact ⟨_, e, h1, h2, List.mem_of_getElem? e⟩
/-! rebuild -/
def rw_0 (r : Nat) : List Nat := if r % 8 = 0 then [0] else []
def r0_ (ar ar1 : Nat → Nat → Nat) (n : Nat) : Prop := (∀ k, k ≠ 7 → k ≠ 8 → ar1 k = ar k) ∧ ∀ r, r < n → ar1 7 r = (rw_0 r).length ∧ ar1 8 (19 * r) = 0
theorem r0_step {ar ar1 ar2 ar3 : Nat → Nat → Nat} {n z : Nat} (h : r0_ ar ar1 n) (hz : z = (rw_0 n).length) (e2 : ar2 = au ar1 7 n z) (e3 : ar3 = au ar2 8 (19 * n) 0) : r0_ ar ar3 (n + 1) := by
  refine ⟨fun k a b => by rw [e3, au_k _ _ _ b, e2, au_k _ _ _ a]; exact h.1 k a b, fun r hr => ?_⟩
  by_cases e : r = n
  · subst e
    rw [e3, au_k _ _ _ (by decide), e2, au_s, au_s]
    exact ⟨hz, rfl⟩
  · have h1 := h.2 r (by omega)
    rw [e3, au_k _ _ _ (show 7 ≠ 8 by decide), e2, au_j _ _ _ e, au_j _ _ _ (show 19 * r ≠ 19 * n by omega), au_k _ _ _ (show 8 ≠ 7 by decide)]
    exact h1
theorem r0_end {ar ar1 : Nat → Nat → Nat} (h : r0_ ar ar1 49) : rp_ ar1 rw_0 := by
  intro r hr
  obtain ⟨h1, h2⟩ := h.2 r hr
  refine ⟨h1, ?_, fun i z hi => ?_⟩
  · unfold rw_0; split <;> decide
  · unfold rw_0 at hi
    split at hi
    · have := (List.getElem?_eq_some_iff.mp hi).1
      have e : i = 0 := by simp at this; exact this
      subst e
      have e2 : z = 0 := (Option.some.inj hi).symm
      subst e2
      exact ⟨h2, by decide⟩
    · simp at hi
theorem mk_0 {rows : Nat → List Nat} {pl tm mk : Nat → Nat} (h : ∀ j, j < 1792 → mk j = 0) : mk_ok rows 0 pl tm mk := by
  intro m a b hm ha hb
  rw [h _ (by omega), fc_0]
theorem mk_step {rows : Nat → List Nat} {T : Nat} {pl tm mk mk2 : Nat → Nat} (h : mk_ok rows T pl tm mk) (hs : ∀ m a b, m < 7 → a < 16 → b < 16 → (hit_ rows m a b (pl T) (tm T) → mk2 (256 * m + 16 * a + b) = mk (256 * m + 16 * a + b) + 1) ∧ (¬ hit_ rows m a b (pl T) (tm T) → mk2 (256 * m + 16 * a + b) = mk (256 * m + 16 * a + b))) : mk_ok rows (T + 1) pl tm mk2 := by
  intro m a b hm ha hb
  have h1 := h m a b hm ha hb
  have h2 := hs m a b hm ha hb
  by_cases q : hit_ rows m a b (pl T) (tm T)
  · rw [h2.1 q, h1, fc_t (F := fun k => hit_ rows m a b (pl k) (tm k)) q]
  · rw [h2.2 q, h1, fc_f (F := fun k => hit_ rows m a b (pl k) (tm k)) q]
/-- the frame of the inner methods: gathered alone among the scalars, the rows' arrays and gather -/
def fx_ (sc : Nat → Nat) (ar : Nat → Nat → Nat) (sc1 : Nat → Nat) (ar1 : Nat → Nat → Nat) : Prop := (∀ k, k ≠ 10 → sc1 k = sc k) ∧ ∀ k, k ≠ 7 → k ≠ 8 → k ≠ 9 → ar1 k = ar k
theorem fx_rf {sc : Nat → Nat} {ar : Nat → Nat → Nat} : fx_ sc ar sc ar := ⟨fun _ _ => rfl, fun _ _ _ _ => rfl⟩
theorem fx_tr {sc sc1 sc2 : Nat → Nat} {ar ar1 ar2 : Nat → Nat → Nat} (h1 : fx_ sc ar sc1 ar1) (h2 : fx_ sc1 ar1 sc2 ar2) : fx_ sc ar sc2 ar2 :=
  ⟨fun k hk => (h2.1 k hk).trans (h1.1 k hk), fun k a b c => (h2.2 k a b c).trans (h1.2 k a b c)⟩
end
section
/-! HELP 3: frames of rebuild -/
theorem fx_E {sc sc1 : Nat → Nat} {ar ar1 : Nat → Nat → Nat} (h : fx_ sc ar sc1 ar1) : fe_E (sc1 0) (ar1 1) (ar1 2) (ar1 3) (ar1 4) = fe_E (sc 0) (ar 1) (ar 2) (ar 3) (ar 4) := by
  rw [h.1 0 (by decide), h.2 1 (by decide) (by decide) (by decide), h.2 2 (by decide) (by decide) (by decide), h.2 3 (by decide) (by decide) (by decide), h.2 4 (by decide) (by decide) (by decide)]
theorem fx_lines {sc sc1 : Nat → Nat} {ar ar1 : Nat → Nat → Nat} (h : fx_ sc ar sc1 ar1) (hb : ∀ k, k < sc 0 → ar 1 k < 7 ∧ ar 2 k < 7 ∧ ar 3 k ≤ 3 ∧ ar 4 k ≤ 3) : ∀ k, k < sc1 0 → ar1 1 k < 7 ∧ ar1 2 k < 7 ∧ ar1 3 k ≤ 3 ∧ ar1 4 k ≤ 3 := by
  rw [h.1 0 (by decide), h.2 1 (by decide) (by decide) (by decide), h.2 2 (by decide) (by decide) (by decide), h.2 3 (by decide) (by decide) (by decide), h.2 4 (by decide) (by decide) (by decide)]
  exact hb
/-- the frame of rebuild -/
def fy_ (sc : Nat → Nat) (ar : Nat → Nat → Nat) (sc1 : Nat → Nat) (ar1 : Nat → Nat → Nat) : Prop := (∀ k, k ≠ 10 → sc1 k = sc k) ∧ ∀ k, k ≠ 7 → k ≠ 8 → k ≠ 9 → k ≠ 10 → ar1 k = ar k
theorem fx_fy {sc sc1 : Nat → Nat} {ar ar1 : Nat → Nat → Nat} (h : fx_ sc ar sc1 ar1) : fy_ sc ar sc1 ar1 := ⟨h.1, fun k a b c _ => h.2 k a b c⟩
theorem fy_10 {sc sc1 sc2 : Nat → Nat} {ar ar1 ar2 : Nat → Nat → Nat} (h : fy_ sc ar sc1 ar1) (e1 : sc2 = sc1) (e2 : ∀ k, k ≠ 10 → ar2 k = ar1 k) : fy_ sc ar sc2 ar2 := ⟨by rw [e1]; exact h.1, fun k a b c d => (e2 k d).trans (h.2 k a b c d)⟩
/-- after rebuild the state is good -/
theorem fy_I {sc sc1 : Nat → Nat} {ar ar1 : Nat → Nat → Nat} {rows : Nat → List Nat} (ho : nv_ok (nvX sc ar)) (h : fy_ sc ar sc1 ar1) (hp : rp_ ar1 rows) (hw : fw_OK (fe_E (sc 0) (ar 1) (ar 2) (ar 3) (ar 4)) rows) (hm : mk_ok rows (sc 5) (ar 5) (ar 6) (ar1 10)) : nvX sc1 ar1 = nvX sc ar ∧ x_I sc1 ar1 := by
  have e : nvX sc1 ar1 = nvX sc ar := by
    unfold nvX
    rw [h.1 0 (by decide), h.1 5 (by decide), h.2 1 (by decide) (by decide) (by decide) (by decide), h.2 2 (by decide) (by decide) (by decide) (by decide), h.2 3 (by decide) (by decide) (by decide) (by decide), h.2 4 (by decide) (by decide) (by decide) (by decide), h.2 5 (by decide) (by decide) (by decide) (by decide), h.2 6 (by decide) (by decide) (by decide) (by decide)]
  refine ⟨e, ?_⟩
  unfold x_I
  rw [e]
  refine ⟨ho, rows, hp, hw, ?_⟩
  rw [h.1 5 (by decide), h.2 5 (by decide) (by decide) (by decide) (by decide), h.2 6 (by decide) (by decide) (by decide) (by decide)]
  exact hm
end
section
/-! HELP 4: the operations at numbers; the marks under put, take, pass -/
theorem nw_dec {a : Nat} (h : 1 ≤ a) : nI a + Int32.ofInt (-1) = nI (a - 1) := by
  rw [show Int32.ofInt (-1) = (-1 : Int32) by decide]
  obtain ⟨b, rfl⟩ : ∃ b, a = b + 1 := ⟨a - 1, by omega⟩
  rw [pk_m1, Nat.add_sub_cancel]
theorem nw_I {j : Nat} (h : j < 2147483648) : (nI j).toInt = (j : Int) := nI_toInt h
def nl_link (v : NV) (f t p q : Nat) : NV := (nv_n v + 1, nv_T v, nu (nv_f v) (nv_n v) f, nu (nv_t v) (nv_n v) t, nu (nv_a v) (nv_n v) p, nu (nv_b v) (nv_n v) q, nv_p v, nv_m v)
theorem tr_link_t {v : NV} {f t p q : Nat} (hf : f ≤ 6) (ht : t ≤ 6) (hp : p ≤ 3) (hq : q ≤ 3) (hn : nv_n v < 12) : tr_link v (nI f) (nI t) (nI p) (nI q) = (nl_link v f t p q, nI (nv_n v + 1)) := by
  unfold tr_link
  rw [ci_t, cv_nI (show f < 2147483648 by omega), cv_nI (show t < 2147483648 by omega), cv_nI (show p < 2147483648 by omega), cv_nI (show q < 2147483648 by omega)]
  · rfl
  · refine ⟨?_, ?_, ?_, ?_, hn⟩
    · show 0 ≤ (nI f).toInt ∧ (nI f).toInt ≤ 6
      rw [nw_I (by omega)]; omega
    · show 0 ≤ (nI t).toInt ∧ (nI t).toInt ≤ 6
      rw [nw_I (by omega)]; omega
    · show 0 ≤ (nI p).toInt ∧ (nI p).toInt ≤ 3
      rw [nw_I (by omega)]; omega
    · show 0 ≤ (nI q).toInt ∧ (nI q).toInt ≤ 3
      rw [nw_I (by omega)]; omega
theorem nl_link_ok {v : NV} {f t p q : Nat} (h : nv_ok v) (hf : f ≤ 6) (ht : t ≤ 6) (hp : p ≤ 3) (hq : q ≤ 3) (hn : nv_n v < 12) : nv_ok (nl_link v f t p q) := by
  obtain ⟨h1, h2, h3, h4⟩ := h
  refine ⟨?_, h2, fun k hk => ?_, h4⟩
  · show nv_n v + 1 ≤ 12
    omega
  · have hk : k < nv_n v + 1 := hk
    show nu (nv_f v) (nv_n v) f k < 7 ∧ nu (nv_t v) (nv_n v) t k < 7 ∧ nu (nv_a v) (nv_n v) p k ≤ 3 ∧ nu (nv_b v) (nv_n v) q k ≤ 3
    by_cases e : k = nv_n v
    · rw [e, nu_s, nu_s, nu_s, nu_s]; omega
    · rw [nu_n _ _ e, nu_n _ _ e, nu_n _ _ e, nu_n _ _ e]; exact h3 k (by omega)
def nl_unlink (v : NV) (i : Nat) : NV := (nv_n v - 1, nv_T v, sh_ (nv_f v) i (nv_n v - 1), sh_ (nv_t v) i (nv_n v - 1), sh_ (nv_a v) i (nv_n v - 1), sh_ (nv_b v) i (nv_n v - 1), nv_p v, nv_m v)
theorem tr_unlink_t {v : NV} {i : Nat} (h12 : nv_n v ≤ 12) (hi : i < nv_n v) : tr_unlink v (nI i) = (nl_unlink v i, nI (nv_n v - 1)) := by
  unfold tr_unlink
  rw [ci_t, cv_nI (show i < 2147483648 by omega)]
  · rfl
  · rw [nw_I (by omega)]; omega
theorem nl_unlink_ok {v : NV} {i : Nat} (h : nv_ok v) (hi : i < nv_n v) : nv_ok (nl_unlink v i) := by
  obtain ⟨h1, h2, h3, h4⟩ := h
  refine ⟨?_, h2, fun k hk => ?_, h4⟩
  · show nv_n v - 1 ≤ 12
    omega
  · have hk : k < nv_n v - 1 := hk
    show sh_ (nv_f v) i (nv_n v - 1) k < 7 ∧ sh_ (nv_t v) i (nv_n v - 1) k < 7 ∧ sh_ (nv_a v) i (nv_n v - 1) k ≤ 3 ∧ sh_ (nv_b v) i (nv_n v - 1) k ≤ 3
    unfold sh_
    by_cases e : i ≤ k ∧ k < nv_n v - 1
    · rw [if_pos e, if_pos e, if_pos e, if_pos e]; exact h3 (k + 1) (by omega)
    · rw [if_neg e, if_neg e, if_neg e, if_neg e]; exact h3 k (by omega)
/-- the four arrays of lines moved down, k done -/
def un_ (ar ar1 : Nat → Nat → Nat) (i k : Nat) : Prop := ar1 1 = sh_ (ar 1) i k ∧ ar1 2 = sh_ (ar 2) i k ∧ ar1 3 = sh_ (ar 3) i k ∧ ar1 4 = sh_ (ar 4) i k ∧ ∀ j, j ≠ 1 → j ≠ 2 → j ≠ 3 → j ≠ 4 → ar1 j = ar j
theorem un_0 {ar : Nat → Nat → Nat} {i : Nat} : un_ ar ar i i := ⟨(sh_0 _ _).symm, (sh_0 _ _).symm, (sh_0 _ _).symm, (sh_0 _ _).symm, fun _ _ _ _ _ => rfl⟩
theorem un_step {ar ar1 aa ab ac ad : Nat → Nat → Nat} {i k : Nat} (hik : i ≤ k) (h : un_ ar ar1 i k) (ea : aa = au ar1 1 k (ar 1 (k + 1))) (eb : ab = au aa 2 k (ar 2 (k + 1))) (ec : ac = au ab 3 k (ar 3 (k + 1))) (ed : ad = au ac 4 k (ar 4 (k + 1))) : un_ ar ad i (k + 1) := by
  obtain ⟨h1, h2, h3, h4, h5⟩ := h
  refine ⟨?_, ?_, ?_, ?_, fun j a b c d => ?_⟩
  · rw [ed, au_k _ _ _ (by decide), ec, au_k _ _ _ (by decide), eb, au_k _ _ _ (by decide), ea, au_nu, h1, sh_s _ hik]
  · rw [ed, au_k _ _ _ (by decide), ec, au_k _ _ _ (by decide), eb, au_nu, ea, au_k _ _ _ (by decide), h2, sh_s _ hik]
  · rw [ed, au_k _ _ _ (by decide), ec, au_nu, eb, au_k _ _ _ (by decide), ea, au_k _ _ _ (by decide), h3, sh_s _ hik]
  · rw [ed, au_nu, ec, au_k _ _ _ (by decide), eb, au_k _ _ _ (by decide), ea, au_k _ _ _ (by decide), h4, sh_s _ hik]
  · rw [ed, au_k _ _ _ d, ec, au_k _ _ _ c, eb, au_k _ _ _ b, ea, au_k _ _ _ a, h5 j a b c d]
def nl_put (v : NV) (x t : Nat) : NV := (nv_n v, nv_T v + 1, nv_f v, nv_t v, nv_a v, nv_b v, nu (nv_p v) (nv_T v) x, nu (nv_m v) (nv_T v) t)
theorem tr_put_t {v : NV} {x a b : Nat} (hx : x ≤ 6) (ha : a ≤ 15) (hb : b ≤ 15) (hn : nv_T v < 20) : tr_put v (nI x) (nI a) (nI b) = (nl_put v x (16 * a + b), nI (nv_T v + 1)) := by
  unfold tr_put
  rw [ci_t, cv_nI (show x < 2147483648 by omega), cv_nI (show a < 2147483648 by omega), cv_nI (show b < 2147483648 by omega)]
  · rfl
  · refine ⟨?_, ?_, ?_, hn⟩
    · show 0 ≤ (nI x).toInt ∧ (nI x).toInt ≤ 6
      rw [nw_I (by omega)]; omega
    · show 0 ≤ (nI a).toInt ∧ (nI a).toInt ≤ 15
      rw [nw_I (by omega)]; omega
    · show 0 ≤ (nI b).toInt ∧ (nI b).toInt ≤ 15
      rw [nw_I (by omega)]; omega
theorem nl_put_ok {v : NV} {x t : Nat} (h : nv_ok v) (hx : x ≤ 6) (ht : t < 256) (hn : nv_T v < 20) : nv_ok (nl_put v x t) := by
  obtain ⟨h1, h2, h3, h4⟩ := h
  refine ⟨h1, ?_, h3, fun k hk => ?_⟩
  · show nv_T v + 1 ≤ 20
    omega
  · have hk : k < nv_T v + 1 := hk
    show nu (nv_p v) (nv_T v) x k < 7 ∧ nu (nv_m v) (nv_T v) t k < 256
    by_cases e : k = nv_T v
    · rw [e, nu_s, nu_s]; omega
    · rw [nu_n _ _ e, nu_n _ _ e]; exact h4 k (by omega)
def nl_take (v : NV) (k : Nat) : NV := (nv_n v, nv_T v - 1, nv_f v, nv_t v, nv_a v, nv_b v, nu (nv_p v) k (nv_p v (nv_T v - 1)), nu (nv_m v) k (nv_m v (nv_T v - 1)))
theorem tr_take_t {v : NV} {x a b k : Nat} (hx : x ≤ 6) (ha : a ≤ 15) (hb : b ≤ 15) (hk : k < nv_T v) (h1 : nv_here v x (16 * a + b) k) (h2 : ∀ j, j < k → ¬ nv_here v x (16 * a + b) j) : tr_take v (nI x) (nI a) (nI b) = (nl_take v k, nI (nv_T v - 1)) := by
  unfold tr_take
  rw [cv_nI (show x < 2147483648 by omega), cv_nI (show a < 2147483648 by omega), cv_nI (show b < 2147483648 by omega), ci_t, fi_hit hk h1 h2]
  · rfl
  · refine ⟨?_, ?_, ?_, k, hk, h1⟩
    · show 0 ≤ (nI x).toInt ∧ (nI x).toInt ≤ 6
      rw [nw_I (by omega)]; omega
    · show 0 ≤ (nI a).toInt ∧ (nI a).toInt ≤ 15
      rw [nw_I (by omega)]; omega
    · show 0 ≤ (nI b).toInt ∧ (nI b).toInt ≤ 15
      rw [nw_I (by omega)]; omega
theorem tr_take_n {v : NV} {x a b : Int32} (h : ∀ (x1 a1 b1 k : Nat), x = nI x1 → a = nI a1 → b = nI b1 → x1 ≤ 6 → a1 ≤ 15 → b1 ≤ 15 → k < nv_T v → ¬ nv_here v x1 (16 * a1 + b1) k) : tr_take v x a b = (v, -1) := by
  unfold tr_take
  rw [ci_f]
  rintro ⟨h1, h2, h3, k, hk, h4⟩
  obtain ⟨x1, hx1, rfl⟩ := nw_toInt (n := 6) h1.1 h1.2 (by decide)
  obtain ⟨a1, ha1, rfl⟩ := nw_toInt (n := 15) h2.1 h2.2 (by decide)
  obtain ⟨b1, hb1, rfl⟩ := nw_toInt (n := 15) h3.1 h3.2 (by decide)
  rw [cv_nI (show x1 < 2147483648 by omega), cv_nI (show a1 < 2147483648 by omega), cv_nI (show b1 < 2147483648 by omega)] at h4
  exact h x1 a1 b1 k rfl rfl rfl hx1 ha1 hb1 hk h4
theorem nl_take_ok {v : NV} {k : Nat} (h : nv_ok v) (hk : k < nv_T v) : nv_ok (nl_take v k) := by
  obtain ⟨h1, h2, h3, h4⟩ := h
  refine ⟨h1, ?_, h3, fun j hj => ?_⟩
  · show nv_T v - 1 ≤ 20
    omega
  · have hj : j < nv_T v - 1 := hj
    show nu (nv_p v) k (nv_p v (nv_T v - 1)) j < 7 ∧ nu (nv_m v) k (nv_m v (nv_T v - 1)) j < 256
    by_cases e : j = k
    · rw [e, nu_s, nu_s]; exact h4 _ (by omega)
    · rw [nu_n _ _ e, nu_n _ _ e]; exact h4 j (by omega)
def nl_pass (v : NV) (k x t : Nat) : NV := (nv_n v, nv_T v, nv_f v, nv_t v, nv_a v, nv_b v, nu (nv_p v) k x, nu (nv_m v) k t)
theorem tr_pass_c {v : NV} {i a b k : Nat} (hi : i < nv_n v) (h12 : nv_n v ≤ 12) (ha : a ≤ 15) (hb : b ≤ 15) (hk : k < nv_T v) (h1 : nv_here v (nv_f v i) (16 * a + b) k) (h2 : ∀ j, j < k → ¬ nv_here v (nv_f v i) (16 * a + b) j) : tr_pass v (nI i) (nI a) (nI b) = ci (a + nv_a v i ≤ 15 ∧ b + nv_b v i ≤ 15) (nl_pass v k (nv_t v i) (16 * (a + nv_a v i) + (b + nv_b v i)), 0) (v, -2) := by
  unfold tr_pass
  rw [cv_nI (show i < 2147483648 by omega), cv_nI (show a < 2147483648 by omega), cv_nI (show b < 2147483648 by omega), ci_t, fi_hit hk h1 h2]
  · rfl
  · refine ⟨?_, ?_, ?_, ?_, k, hk, h1⟩
    · rw [nw_I (by omega)]; omega
    · rw [nw_I (by omega)]; omega
    · show 0 ≤ (nI a).toInt ∧ (nI a).toInt ≤ 15
      rw [nw_I (by omega)]; omega
    · show 0 ≤ (nI b).toInt ∧ (nI b).toInt ≤ 15
      rw [nw_I (by omega)]; omega
theorem tr_pass_n {v : NV} {x a b : Int32} (h12 : nv_n v ≤ 12) (h : ∀ (i a1 b1 k : Nat), x = nI i → a = nI a1 → b = nI b1 → i < nv_n v → a1 ≤ 15 → b1 ≤ 15 → k < nv_T v → ¬ nv_here v (nv_f v i) (16 * a1 + b1) k) : tr_pass v x a b = (v, -1) := by
  unfold tr_pass
  rw [ci_f]
  rintro ⟨h0, h1, h2, h3, k, hk, h4⟩
  obtain ⟨i, hi, rfl⟩ := nw_toInt (x := x) (n := nv_n v) h0 (by omega) (by omega)
  obtain ⟨a1, ha1, rfl⟩ := nw_toInt (n := 15) h2.1 h2.2 (by decide)
  obtain ⟨b1, hb1, rfl⟩ := nw_toInt (n := 15) h3.1 h3.2 (by decide)
  rw [nw_I (by omega)] at h1
  rw [cv_nI (show i < 2147483648 by omega), cv_nI (show a1 < 2147483648 by omega), cv_nI (show b1 < 2147483648 by omega)] at h4
  exact h i a1 b1 k rfl rfl rfl (by omega) ha1 hb1 hk h4
theorem nl_pass_ok {v : NV} {k x t : Nat} (h : nv_ok v) (hx : x < 7) (ht : t < 256) : nv_ok (nl_pass v k x t) := by
  obtain ⟨h1, h2, h3, h4⟩ := h
  refine ⟨h1, h2, h3, fun j hj => ?_⟩
  show nu (nv_p v) k x j < 7 ∧ nu (nv_m v) k t j < 256
  by_cases e : j = k
  · rw [e, nu_s, nu_s]; omega
  · rw [nu_n _ _ e, nu_n _ _ e]; exact h4 j hj
/-! the marks -/
theorem mk_congr {rows : Nat → List Nat} {T : Nat} {pl tm pl2 tm2 mk : Nat → Nat} (h : mk_ok rows T pl tm mk) (he : ∀ k, k < T → pl2 k = pl k ∧ tm2 k = tm k) : mk_ok rows T pl2 tm2 mk := by
  intro m a b hm ha hb
  rw [h m a b hm ha hb]
  exact fc_congr (fun k hk => by rw [(he k hk).1, (he k hk).2])
theorem mk_put {rows : Nat → List Nat} {T x t : Nat} {pl tm mk mk2 : Nat → Nat} (h : mk_ok rows T pl tm mk) (hs : ∀ m a b, m < 7 → a < 16 → b < 16 → (hit_ rows m a b x t → mk2 (256 * m + 16 * a + b) = mk (256 * m + 16 * a + b) + 1) ∧ (¬ hit_ rows m a b x t → mk2 (256 * m + 16 * a + b) = mk (256 * m + 16 * a + b))) : mk_ok rows (T + 1) (nu pl T x) (nu tm T t) mk2 := by
  refine mk_step (mk_congr h (fun k hk => ⟨nu_n _ _ (by omega), nu_n _ _ (by omega)⟩)) ?_
  rw [nu_s, nu_s]
  exact hs
theorem mk_ge {rows : Nat → List Nat} {T k : Nat} {pl tm mk : Nat → Nat} (h : mk_ok rows T pl tm mk) (hk : k < T) {m a b : Nat} (hm : m < 7) (ha : a < 16) (hb : b < 16) (hh : hit_ rows m a b (pl k) (tm k)) : nI (mk (256 * m + 16 * a + b)) + (-1) = nI (mk (256 * m + 16 * a + b) - 1) := by
  have h1 := (mk_pos h hm ha hb).mpr ⟨k, hk, hh⟩
  obtain ⟨c, hc⟩ : ∃ c, mk (256 * m + 16 * a + b) = c + 1 := ⟨mk (256 * m + 16 * a + b) - 1, by omega⟩
  rw [hc, pk_m1, Nat.add_sub_cancel]
theorem mk_take {rows : Nat → List Nat} {T k : Nat} {pl tm mk mk2 : Nat → Nat} (hk : k < T) (h : mk_ok rows T pl tm mk) (hs : ∀ m a b, m < 7 → a < 16 → b < 16 → (hit_ rows m a b (pl k) (tm k) → mk2 (256 * m + 16 * a + b) = mk (256 * m + 16 * a + b) - 1) ∧ (¬ hit_ rows m a b (pl k) (tm k) → mk2 (256 * m + 16 * a + b) = mk (256 * m + 16 * a + b))) : mk_ok rows (T - 1) (nu pl k (pl (T - 1))) (nu tm k (tm (T - 1))) mk2 := by
  intro m a b hm ha hb
  have h1 := h m a b hm ha hb
  have h2 := hs m a b hm ha hb
  obtain ⟨S, rfl⟩ : ∃ S, T = S + 1 := ⟨T - 1, by omega⟩
  rw [Nat.add_sub_cancel]
  have h3 : mk2 (256 * m + 16 * a + b) + fc_i (hit_ rows m a b (pl k) (tm k)) = mk (256 * m + 16 * a + b) := by
    by_cases q : hit_ rows m a b (pl k) (tm k)
    · have := (mk_pos h hm ha hb).mpr ⟨k, hk, q⟩
      rw [h2.1 q, fc_i_t q]; omega
    · rw [h2.2 q, fc_i_f q]; rfl
  rw [h1, fc_s] at h3
  by_cases e : k = S
  · subst e
    have h4 := fc_congr (F := fun j => hit_ rows m a b (nu pl k (pl k) j) (nu tm k (tm k) j)) (G := fun j => hit_ rows m a b (pl j) (tm j)) (n := k) (fun j hj => by
      show hit_ rows m a b (nu pl k (pl k) j) (nu tm k (tm k) j) ↔ _
      rw [nu_n _ _ (by omega), nu_n _ _ (by omega)])
    rw [h4]
    omega
  · have h4 := fc_swap (F := fun j => hit_ rows m a b (pl j) (tm j)) (G := fun j => hit_ rows m a b (nu pl k (pl S) j) (nu tm k (tm S) j)) (n := S) (k := k) (by omega) (fun j hj hne => by
      show _ ↔ hit_ rows m a b (nu pl k (pl S) j) (nu tm k (tm S) j)
      rw [nu_n _ _ hne, nu_n _ _ hne])
    have h5 : fc_i (hit_ rows m a b (nu pl k (pl S) k) (nu tm k (tm S) k)) = fc_i (hit_ rows m a b (pl S) (tm S)) := by rw [nu_s, nu_s]
    have h6 : fc_n (fun j => hit_ rows m a b (pl j) (tm j)) S + fc_i (hit_ rows m a b (nu pl k (pl S) k) (nu tm k (tm S) k)) = fc_n (fun j => hit_ rows m a b (nu pl k (pl S) j) (nu tm k (tm S) j)) S + fc_i (hit_ rows m a b (pl k) (tm k)) := h4
    omega
theorem mk_pass {rows : Nat → List Nat} {T k x t : Nat} {pl tm mk mk1 mk2 : Nat → Nat} (hk : k < T) (h : mk_ok rows T pl tm mk)
    (hs : ∀ m a b, m < 7 → a < 16 → b < 16 → (hit_ rows m a b (pl k) (tm k) → mk1 (256 * m + 16 * a + b) = mk (256 * m + 16 * a + b) - 1) ∧ (¬ hit_ rows m a b (pl k) (tm k) → mk1 (256 * m + 16 * a + b) = mk (256 * m + 16 * a + b)))
    (hs2 : ∀ m a b, m < 7 → a < 16 → b < 16 → (hit_ rows m a b x t → mk2 (256 * m + 16 * a + b) = mk1 (256 * m + 16 * a + b) + 1) ∧ (¬ hit_ rows m a b x t → mk2 (256 * m + 16 * a + b) = mk1 (256 * m + 16 * a + b))) : mk_ok rows T (nu pl k x) (nu tm k t) mk2 := by
  intro m a b hm ha hb
  have h1 := h m a b hm ha hb
  have h2 := hs m a b hm ha hb
  have h2' := hs2 m a b hm ha hb
  have h3 : mk1 (256 * m + 16 * a + b) + fc_i (hit_ rows m a b (pl k) (tm k)) = mk (256 * m + 16 * a + b) := by
    by_cases q : hit_ rows m a b (pl k) (tm k)
    · have := (mk_pos h hm ha hb).mpr ⟨k, hk, q⟩
      rw [h2.1 q, fc_i_t q]; omega
    · rw [h2.2 q, fc_i_f q]; rfl
  have h3' : mk2 (256 * m + 16 * a + b) = mk1 (256 * m + 16 * a + b) + fc_i (hit_ rows m a b x t) := by
    by_cases q : hit_ rows m a b x t
    · rw [h2'.1 q, fc_i_t q]
    · rw [h2'.2 q, fc_i_f q]; rfl
  have h4 := fc_swap (F := fun j => hit_ rows m a b (pl j) (tm j)) (G := fun j => hit_ rows m a b (nu pl k x j) (nu tm k t j)) (n := T) (k := k) hk (fun j hj hne => by
    show _ ↔ hit_ rows m a b (nu pl k x j) (nu tm k t j)
    rw [nu_n _ _ hne, nu_n _ _ hne])
  have h5 : fc_i (hit_ rows m a b (nu pl k x k) (nu tm k t k)) = fc_i (hit_ rows m a b x t) := by rw [nu_s, nu_s]
  have h6 : fc_n (fun j => hit_ rows m a b (pl j) (tm j)) T + fc_i (hit_ rows m a b (nu pl k x k) (nu tm k t k)) = fc_n (fun j => hit_ rows m a b (nu pl k x j) (nu tm k t j)) T + fc_i (hit_ rows m a b (pl k) (tm k)) := h4
  omega
/-- a token's reach, by the rows -/
theorem rc_iff {ar : Nat → Nat → Nat} {rows : Nat → List Nat} {E : Nat → Nat → Nat → Nat → Prop} (hrp : rp_ ar rows) (hw : fw_OK E rows) {l pl x y a b : Nat} (hl : l < 7) (hp : pl < 7) : (∃ i, i < ar 7 (7 * l + pl) ∧ (x + ar 8 (19 * (7 * l + pl) + i) / 64 ≤ a ∧ y + ar 8 (19 * (7 * l + pl) + i) % 64 ≤ b)) ↔ ∃ p q, fw_W E l pl p q ∧ x + p ≤ a ∧ y + q ≤ b := by
  constructor
  · rintro ⟨i, hi, h1, h2⟩
    have h3 := (rp_get hrp (r := 7 * l + pl) (by omega) hi).1
    exact ⟨_, _, ((hw l pl hl hp).2.1 _ (List.mem_of_getElem? h3)).2.2, h1, h2⟩
  · rintro ⟨p, q, hW, h1, h2⟩
    obtain ⟨z, hz, e1, e2⟩ := (hw l pl hl hp).2.2 p q hW
    obtain ⟨i, hi⟩ := List.getElem?_of_mem hz
    have h3 := hrp (7 * l + pl) (by omega)
    have h4 := (List.getElem?_eq_some_iff.mp hi).1
    have h5 := (h3.2.2 i z hi).1
    exact ⟨i, by omega, by rw [h5]; omega, by rw [h5]; omega⟩
end
section
/-! HELP 5: the component's state after put, take, pass -/
theorem nvX_10 {sc1 sc2 : Nat → Nat} {ar1 ar2 : Nat → Nat → Nat} (e1 : sc2 = sc1) (e2 : ∀ k, k ≠ 10 → ar2 k = ar1 k) : nvX sc2 ar2 = nvX sc1 ar1 := by
  unfold nvX
  rw [e1, e2 1 (by decide), e2 2 (by decide), e2 3 (by decide), e2 4 (by decide), e2 5 (by decide), e2 6 (by decide)]
theorem x_put_I {sc sc2 : Nat → Nat} {ar ar2 : Nat → Nat → Nat} {rows : Nat → List Nat} {x t : Nat} (ho : nv_ok (nvX sc ar)) (hrp : rp_ ar rows) (hw : fw_OK (nv_E (nvX sc ar)) rows) (hmk : mk_ok rows (sc 5) (ar 5) (ar 6) (ar 10)) (hx : x ≤ 6) (ht : t < 256) (hn : sc 5 < 20) (eN : nvX sc2 ar2 = nl_put (nvX sc ar) x t) (h7 : ar2 7 = ar 7) (h8 : ar2 8 = ar 8)
    (hs : ∀ m a b, m < 7 → a < 16 → b < 16 → (hit_ rows m a b x t → ar2 10 (256 * m + 16 * a + b) = ar 10 (256 * m + 16 * a + b) + 1) ∧ (¬ hit_ rows m a b x t → ar2 10 (256 * m + 16 * a + b) = ar 10 (256 * m + 16 * a + b))) : x_I sc2 ar2 := by
  have e5 : sc2 5 = sc 5 + 1 := congrArg (fun z : NV => z.2.1) eN
  have ep : ar2 5 = nu (ar 5) (sc 5) x := congrArg (fun z : NV => z.2.2.2.2.2.2.1) eN
  have em : ar2 6 = nu (ar 6) (sc 5) t := congrArg (fun z : NV => z.2.2.2.2.2.2.2) eN
  unfold x_I
  rw [eN]
  refine ⟨nl_put_ok ho hx ht hn, rows, rp_same hrp h7 h8, hw, ?_⟩
  rw [e5, ep, em]
  exact mk_put hmk hs
theorem x_take_I {sc sc2 : Nat → Nat} {ar ar2 : Nat → Nat → Nat} {rows : Nat → List Nat} {k : Nat} (ho : nv_ok (nvX sc ar)) (hrp : rp_ ar rows) (hw : fw_OK (nv_E (nvX sc ar)) rows) (hmk : mk_ok rows (sc 5) (ar 5) (ar 6) (ar 10)) (hk : k < sc 5) (eN : nvX sc2 ar2 = nl_take (nvX sc ar) k) (h7 : ar2 7 = ar 7) (h8 : ar2 8 = ar 8)
    (hs : ∀ m a b, m < 7 → a < 16 → b < 16 → (hit_ rows m a b (ar 5 k) (ar 6 k) → ar2 10 (256 * m + 16 * a + b) = ar 10 (256 * m + 16 * a + b) - 1) ∧ (¬ hit_ rows m a b (ar 5 k) (ar 6 k) → ar2 10 (256 * m + 16 * a + b) = ar 10 (256 * m + 16 * a + b))) : x_I sc2 ar2 := by
  have e5 : sc2 5 = sc 5 - 1 := congrArg (fun z : NV => z.2.1) eN
  have ep : ar2 5 = nu (ar 5) k (ar 5 (sc 5 - 1)) := congrArg (fun z : NV => z.2.2.2.2.2.2.1) eN
  have em : ar2 6 = nu (ar 6) k (ar 6 (sc 5 - 1)) := congrArg (fun z : NV => z.2.2.2.2.2.2.2) eN
  unfold x_I
  rw [eN]
  refine ⟨nl_take_ok ho hk, rows, rp_same hrp h7 h8, hw, ?_⟩
  rw [e5, ep, em]
  exact mk_take hk hmk hs
theorem x_pass_I {sc sc2 : Nat → Nat} {ar ar2 : Nat → Nat → Nat} {mk1 : Nat → Nat} {rows : Nat → List Nat} {k x t : Nat} (ho : nv_ok (nvX sc ar)) (hrp : rp_ ar rows) (hw : fw_OK (nv_E (nvX sc ar)) rows) (hmk : mk_ok rows (sc 5) (ar 5) (ar 6) (ar 10)) (hk : k < sc 5) (hx : x < 7) (ht : t < 256) (eN : nvX sc2 ar2 = nl_pass (nvX sc ar) k x t) (h7 : ar2 7 = ar 7) (h8 : ar2 8 = ar 8)
    (hs : ∀ m a b, m < 7 → a < 16 → b < 16 → (hit_ rows m a b (ar 5 k) (ar 6 k) → mk1 (256 * m + 16 * a + b) = ar 10 (256 * m + 16 * a + b) - 1) ∧ (¬ hit_ rows m a b (ar 5 k) (ar 6 k) → mk1 (256 * m + 16 * a + b) = ar 10 (256 * m + 16 * a + b)))
    (hs2 : ∀ m a b, m < 7 → a < 16 → b < 16 → (hit_ rows m a b x t → ar2 10 (256 * m + 16 * a + b) = mk1 (256 * m + 16 * a + b) + 1) ∧ (¬ hit_ rows m a b x t → ar2 10 (256 * m + 16 * a + b) = mk1 (256 * m + 16 * a + b))) : x_I sc2 ar2 := by
  have e5 : sc2 5 = sc 5 := congrArg (fun z : NV => z.2.1) eN
  have ep : ar2 5 = nu (ar 5) k x := congrArg (fun z : NV => z.2.2.2.2.2.2.1) eN
  have em : ar2 6 = nu (ar 6) k t := congrArg (fun z : NV => z.2.2.2.2.2.2.2) eN
  unfold x_I
  rw [eN]
  refine ⟨nl_pass_ok ho hx ht, rows, rp_same hrp h7 h8, hw, ?_⟩
  rw [e5, ep, em]
  exact mk_pass hk hmk hs hs2
end
section
/-! HELP 6: the questions at numbers -/
theorem sp_pI {x : Nat} (h : x ≤ 6) : sp_p (nI x) := by
  show 0 ≤ (nI x).toInt ∧ (nI x).toInt ≤ 6
  rw [nw_I (by omega)]; omega
theorem sp_tI {x : Nat} (h : x ≤ 15) : sp_t (nI x) := by
  show 0 ≤ (nI x).toInt ∧ (nI x).toInt ≤ 15
  rw [nw_I (by omega)]; omega
theorem tr_possible_t {v : NV} {x a b : Nat} (hx : x ≤ 6) (ha : a ≤ 15) (hb : b ≤ 15) : tr_possible v (nI x) (nI a) (nI b) = ci (∃ x1 y1, x1 ≤ a ∧ y1 ≤ b ∧ nv_R v x x1 y1) 1 0 := by
  unfold tr_possible
  rw [ci_t ⟨sp_pI hx, sp_tI ha, sp_tI hb⟩, cv_nI (show x < 2147483648 by omega), cv_nI (show a < 2147483648 by omega), cv_nI (show b < 2147483648 by omega)]
theorem tr_ready_t {v : NV} {x a b : Nat} (hx : x ≤ 6) (ha : a ≤ 15) (hb : b ≤ 15) : tr_ready v (nI x) (nI a) (nI b) = ci ((∃ k, k < nv_T v ∧ nv_here v x (16 * a + b) k) ∧ ¬ nv_other v x a b) 1 0 := by
  unfold tr_ready
  rw [ci_t ⟨sp_pI hx, sp_tI ha, sp_tI hb⟩, cv_nI (show x < 2147483648 by omega), cv_nI (show a < 2147483648 by omega), cv_nI (show b < 2147483648 by omega)]
theorem tr_front_t {v : NV} {x : Nat} (hx : x ≤ 6) : tr_front v (nI x) = nI (fc_n (fr_ 16 (nv_R v x)) 256) := by
  unfold tr_front
  rw [ci_t (sp_pI hx), cv_nI (show x < 2147483648 by omega)]
theorem tr_frontAt_t {v : NV} {x : Nat} {i : Int32} (hx : x ≤ 6) : tr_frontAt v (nI x) i = fs_ (fr_ 16 (nv_R v x)) i 256 := by
  unfold tr_frontAt
  rw [ci_t (sp_pI hx), cv_nI (show x < 2147483648 by omega)]
theorem tr_shortest_t {v : NV} {x y : Nat} (hx : x ≤ 6) (hy : y ≤ 6) : tr_shortest v (nI x) (nI y) = nI (fc_n (fr_ 19 (fw_W (nv_E v) x y)) 361) := by
  unfold tr_shortest
  rw [ci_t ⟨sp_pI hx, sp_pI hy⟩, cv_nI (show x < 2147483648 by omega), cv_nI (show y < 2147483648 by omega)]
/-- a count of what was seen below k -/
def ow_ (F : Nat → Prop) (k own : Nat) : Prop := (0 < own ↔ ∃ j, j < k ∧ F j) ∧ own ≤ k
theorem ow_0 {F : Nat → Prop} : ow_ F 0 0 := ⟨⟨fun q => absurd q (Nat.lt_irrefl _), fun ⟨j, q, _⟩ => absurd q (Nat.not_lt_zero _)⟩, Nat.le_refl _⟩
theorem ow_t {F : Nat → Prop} {k own own2 : Nat} (hF : F k) (h : ow_ F k own) (e : own2 = own + 1) : ow_ F (k + 1) own2 := by
  have := h.2
  exact ⟨⟨fun _ => ⟨k, by omega, hF⟩, fun _ => by omega⟩, by omega⟩
theorem ow_f {F : Nat → Prop} {k own own2 : Nat} (hF : ¬ F k) (h : ow_ F k own) (e : own2 = own + 0) : ow_ F (k + 1) own2 := by
  have h2 := h.2
  refine ⟨⟨fun q => ?_, fun ⟨j, q1, q2⟩ => ?_⟩, by omega⟩
  · obtain ⟨j, q1, q2⟩ := h.1.mp (by omega)
    exact ⟨j, by omega, q2⟩
  · by_cases e2 : j = k
    · subst e2; exact absurd q2 hF
    · have := h.1.mpr ⟨j, by omega, q2⟩
      omega
theorem fs_neg {F : Nat → Prop} {i : Int32} {n : Nat} (hn : n < 2147483648) (hi : i < 0) : fs_ F i n = -1 := by
  refine fs_miss (fun t ht _ e => ?_)
  rw [← e] at hi
  have := fc_le F t
  exact nI_pos (by omega) hi
theorem fs_end {F : Nat → Prop} {i n : Nat} (hi : i < 2147483648) (hn : n < 2147483648) (h : fc_n F n ≤ i) : fs_ F (nI i) n = -1 := by
  refine fs_miss (fun t ht hF e => ?_)
  have h1 := fc_lt ht hF
  have h2 := fc_le F n
  have := (nI_eq (by omega) (by omega)).mp e
  omega
/-- a mark at the best number so far -/
def sw_ (ar : Nat → Nat → Nat) (x1 a best : Nat) : Prop := best < 16 → ∃ x, x < a ∧ 0 < ar 10 (256 * x1 + 16 * x + best)
theorem sw_0 {ar : Nat → Nat → Nat} {x1 : Nat} : sw_ ar x1 0 16 := fun q => absurd q (Nat.lt_irrefl _)
theorem sw_h {ar : Nat → Nat → Nat} {x1 a b : Nat} (h : 0 < ar 10 (256 * x1 + 16 * a + b)) : sw_ ar x1 (a + 1) b := fun _ => ⟨a, Nat.lt_succ_self a, h⟩
theorem sw_m {ar : Nat → Nat → Nat} {x1 a b best : Nat} (e : b = best) (h : sw_ ar x1 a best) : sw_ ar x1 (a + 1) b := by
  subst e
  intro q
  obtain ⟨x, q1, q2⟩ := h q
  exact ⟨x, Nat.lt_succ_of_lt q1, q2⟩
end
section
/-! HELP 7: the model's times spread through the net -/
/-- what is reached from the times T0 -/
def cl_ (E : Nat → Nat → Nat → Nat → Prop) (T0 : Nat → Nat → Nat → Prop) (m x y : Nat) : Prop := ∃ l a b p q, l < 7 ∧ a < 19 ∧ b < 19 ∧ T0 l a b ∧ fw_W E l m p q ∧ x = a + p ∧ y = b + q
/-- the array of truths holds the set R -/
def th_ (ar : Nat → Nat → Nat) (R : Nat → Nat → Nat → Prop) : Prop := (∀ j, j < 2527 → ar 8 j = 0 ∨ ar 8 j = 1) ∧ ∀ m x y, m < 7 → x < 19 → y < 19 → (ar 8 (361 * m + 19 * x + y) = 1 ↔ R m x y)
def sp_ok (ar ar1 : Nat → Nat → Nat) (n : Nat) : Prop := (∀ k, k ≠ 8 → ar1 k = ar k) ∧ (∀ j, j < 2527 → ar1 8 j = 0 ∨ ar1 8 j = 1) ∧ (∀ j, j < 2527 → ar 8 j = 1 → ar1 8 j = 1) ∧ ∀ m x y, m < 7 → x < 19 → y < 19 → ar1 8 (361 * m + 19 * x + y) = 1 → cl_ (fe_E n (ar 1) (ar 2) (ar 3) (ar 4)) (fun l a b => ar 8 (361 * l + 19 * a + b) = 1) m x y
/-- line and time i give nothing new -/
def ca_ (ar ar1 : Nat → Nat → Nat) (n i : Nat) : Prop := i / 361 < n → ar1 8 (361 * ar 1 (i / 361) + 19 * (i / 19 % 19) + i % 19) = 1 → i / 19 % 19 + ar 3 (i / 361) < 19 → i % 19 + ar 4 (i / 361) < 19 → ar1 8 (361 * ar 2 (i / 361) + 19 * (i / 19 % 19 + ar 3 (i / 361)) + i % 19 + ar 4 (i / 361)) = 1
noncomputable def zc_ (ar : Nat → Nat → Nat) : Nat := fc_n (fun j => ar 8 j = 0) 2527
theorem zc_lt {ar ar1 : Nat → Nat → Nat} {j : Nat} (hj : j < 2527) (h : ar 8 j = 0) (e : ar1 = au ar 8 j 1) : zc_ ar1 < zc_ ar := by
  have h1 := fc_swap (F := fun i => ar 8 i = 0) (G := fun i => ar1 8 i = 0) (n := 2527) (k := j) hj (fun i _ hne => by
    show ar 8 i = 0 ↔ ar1 8 i = 0
    rw [e, au_j _ _ _ hne])
  have h2 : fc_i (ar 8 j = 0) = 1 := fc_i_t h
  have h3 : fc_i (ar1 8 j = 0) = 0 := fc_i_f (by rw [e, au_s]; decide)
  have h4 : fc_n (fun i => ar 8 i = 0) 2527 + fc_i (ar1 8 j = 0) = fc_n (fun i => ar1 8 i = 0) 2527 + fc_i (ar 8 j = 0) := h1
  unfold zc_
  omega
theorem zc_le {ar ar1 : Nat → Nat → Nat} {j : Nat} (hj : j < 2527) (e : ar1 = au ar 8 j 1) : zc_ ar1 ≤ zc_ ar := by
  have h1 := fc_swap (F := fun i => ar 8 i = 0) (G := fun i => ar1 8 i = 0) (n := 2527) (k := j) hj (fun i _ hne => by
    show ar 8 i = 0 ↔ ar1 8 i = 0
    rw [e, au_j _ _ _ hne])
  have h3 : fc_i (ar1 8 j = 0) = 0 := fc_i_f (by rw [e, au_s]; decide)
  have h4 : fc_n (fun i => ar 8 i = 0) 2527 + fc_i (ar1 8 j = 0) = fc_n (fun i => ar1 8 i = 0) 2527 + fc_i (ar 8 j = 0) := h1
  unfold zc_
  omega
theorem au_id {f : Nat → Nat → Nat} {k j x : Nat} (h : f k j = x) : au f k j x = f := by
  funext k' j'
  by_cases q : k' = k ∧ j' = j
  · rw [q.1, q.2, au_s, h]
  · unfold au; rw [if_neg q]
theorem sp_0 {ar : Nat → Nat → Nat} {n : Nat} (hz : ∀ j, j < 2527 → ar 8 j = 0 ∨ ar 8 j = 1) : sp_ok ar ar n :=
  ⟨fun _ _ => rfl, hz, fun _ _ h => h, fun m x y hm hx hy h => ⟨m, x, y, 0, 0, hm, hx, hy, h, fw_W_nil m, rfl, rfl⟩⟩
theorem sp_put {ar ar1 ar2 : Nat → Nat → Nat} {n l a b : Nat} (hb : ∀ k, k < n → ar 1 k < 7 ∧ ar 2 k < 7 ∧ ar 3 k ≤ 3 ∧ ar 4 k ≤ 3) (h : sp_ok ar ar1 n) (hl : l < n) (ha : a < 19) (hbb : b < 19) (h1 : ar1 8 (361 * ar 1 l + 19 * a + b) = 1) (h2 : a + ar 3 l < 19) (h3 : b + ar 4 l < 19) (e : ar2 = au ar1 8 (361 * ar 2 l + 19 * (a + ar 3 l) + b + ar 4 l) 1) : sp_ok ar ar2 n := by
  obtain ⟨g1, g2, g3, g4⟩ := h
  have hl4 := hb l hl
  refine ⟨fun k hk => by rw [e, au_k _ _ _ hk]; exact g1 k hk, fun j hj => ?_, fun j hj q => ?_, fun m x y hm hx hy q => ?_⟩
  · by_cases q : j = 361 * ar 2 l + 19 * (a + ar 3 l) + b + ar 4 l
    · rw [e, q, au_s]; exact Or.inr rfl
    · rw [e, au_j _ _ _ q]; exact g2 j hj
  · by_cases q2 : j = 361 * ar 2 l + 19 * (a + ar 3 l) + b + ar 4 l
    · rw [e, q2, au_s]
    · rw [e, au_j _ _ _ q2]; exact g3 j hj q
  · by_cases q2 : 361 * m + 19 * x + y = 361 * ar 2 l + 19 * (a + ar 3 l) + b + ar 4 l
    · obtain ⟨l0, a0, b0, p, q0, k1, k2, k3, k4, k5, k6, k7⟩ := g4 (ar 1 l) a b hl4.1 ha hbb h1
      have e1 : m = ar 2 l := by omega
      have e2 : x = a + ar 3 l := by omega
      have e3 : y = b + ar 4 l := by omega
      refine ⟨l0, a0, b0, p + ar 3 l, q0 + ar 4 l, k1, k2, k3, k4, ?_, by omega, by omega⟩
      rw [e1]
      exact fw_W_snoc k5 ⟨l, hl, rfl, rfl, rfl, rfl⟩
    · rw [e, au_j _ _ _ q2] at q
      exact g4 m x y hm hx hy q
theorem sp_end {ar ar1 : Nat → Nat → Nat} {n : Nat} (hn : n ≤ 12) (hb : ∀ k, k < n → ar 1 k < 7 ∧ ar 2 k < 7 ∧ ar 3 k ≤ 3 ∧ ar 4 k ≤ 3) (h : sp_ok ar ar1 n) (hc : ∀ i, i < 4332 → ca_ ar ar1 n i) : th_ ar1 (cl_ (fe_E n (ar 1) (ar 2) (ar 3) (ar 4)) (fun l a b => ar 8 (361 * l + 19 * a + b) = 1)) := by
  refine ⟨h.2.1, fun m x y hm hx hy => ⟨h.2.2.2 m x y hm hx hy, ?_⟩⟩
  rintro ⟨l, a, b, p, q, hl, ha, hbb, h1, ⟨X, k1, k2, k3⟩, e1, e2⟩
  have h3 := fw_W_ind (E := fe_E n (ar 1) (ar 2) (ar 3) (ar 4)) (T := fun u a b => u < 7 ∧ (a < 19 → b < 19 → ar1 8 (361 * u + 19 * a + b) = 1)) (fun u v a b p q hT hE => by
    obtain ⟨k, hk, e1, e2, e3, e4⟩ := hE
    have hk4 := hb k hk
    refine ⟨by omega, fun ha hb2 => ?_⟩
    have h5 := hT.2 (by omega) (by omega)
    have h6 := hc (361 * k + 19 * a + b) (by omega)
    unfold ca_ at h6
    rw [show (361 * k + 19 * a + b) / 361 = k by omega, show (361 * k + 19 * a + b) / 19 % 19 = a by omega, show (361 * k + 19 * a + b) % 19 = b by omega] at h6
    have h7 := h6 hk (by rw [e1]; exact h5) (by omega) (by omega)
    rw [e2, e3, e4] at h7
    rw [show 361 * v + 19 * (a + p) + (b + q) = 361 * v + 19 * (a + p) + b + q by omega]
    exact h7) X l m p q a b k1 k2 k3 ⟨hl, fun _ _ => h.2.2.1 _ (by omega) h1⟩
  rw [e1, e2]
  exact h3.2 (by omega) (by omega)
/-- all tokens as the first times -/
theorem th_tok {sc : Nat → Nat} {ar ar0 ar1 : Nat → Nat → Nat} {G : Nat → Prop} (hI : y_I sc ar) (hz : ∀ l a b, l < 7 → a < 19 → b < 19 → (ar0 8 (361 * l + 19 * a + b) = 1 ↔ ∃ k, k < sc 5 ∧ G k ∧ ar 5 k = l ∧ ar 6 k = a ∧ ar 7 k = b)) (h : th_ ar1 (cl_ (nv_E (nvM sc ar)) (fun l a b => ar0 8 (361 * l + 19 * a + b) = 1))) : th_ ar1 (fun m x y => ∃ k p q, k < sc 5 ∧ G k ∧ fw_W (nv_E (nvM sc ar)) (ar 5 k) m p q ∧ x = ar 6 k + p ∧ y = ar 7 k + q) := by
  refine ⟨h.1, fun m x y hm hx hy => ?_⟩
  rw [h.2 m x y hm hx hy]
  constructor
  · rintro ⟨l, a, b, p, q, hl, ha, hb, h1, h2, e1, e2⟩
    obtain ⟨k, hk, hG, e3, e4, e5⟩ := (hz l a b hl ha hb).mp h1
    exact ⟨k, p, q, hk, hG, by rw [e3]; exact h2, by omega, by omega⟩
  · rintro ⟨k, p, q, hk, hG, h1, e1, e2⟩
    have h2 : ar 5 k < 7 := (hI.1.2.2.2 k hk).1
    have h3 := hI.2 k hk
    exact ⟨ar 5 k, ar 6 k, ar 7 k, p, q, h2, by omega, by omega, (hz _ _ _ h2 (by omega) (by omega)).mpr ⟨k, hk, hG, rfl, rfl, rfl⟩, h1, e1, e2⟩
/-- the tokens below k that G names are set, nothing else -/
def ts_ (ar ar1 : Nat → Nat → Nat) (G : Nat → Prop) (k : Nat) : Prop := (∀ j, j ≠ 8 → ar1 j = ar j) ∧ (∀ j, j < 2527 → ar1 8 j = 0 ∨ ar1 8 j = 1) ∧ ∀ l a b, l < 7 → a < 19 → b < 19 → (ar1 8 (361 * l + 19 * a + b) = 1 ↔ ∃ j, j < k ∧ G j ∧ ar 5 j = l ∧ ar 6 j = a ∧ ar 7 j = b)
theorem ts_0 {ar ar1 : Nat → Nat → Nat} {G : Nat → Prop} (h1 : ∀ j, j ≠ 8 → ar1 j = ar j) (h2 : ∀ j, j < 2527 → ar1 8 j = 0) : ts_ ar ar1 G 0 := by
  refine ⟨h1, fun j hj => Or.inl (h2 j hj), fun l a b hl ha hb => ⟨fun q => ?_, fun ⟨j, q, _⟩ => absurd q (Nat.not_lt_zero _)⟩⟩
  rw [h2 _ (by omega)] at q
  exact absurd q (by decide)
theorem ts_t {ar ar1 ar2 : Nat → Nat → Nat} {G : Nat → Prop} {k : Nat} (hp : ar 5 k < 7 ∧ ar 6 k < 19 ∧ ar 7 k < 19) (hG : G k) (h : ts_ ar ar1 G k) (e : ar2 = au ar1 8 (361 * ar 5 k + 19 * ar 6 k + ar 7 k) 1) : ts_ ar ar2 G (k + 1) := by
  obtain ⟨h1, h2, h3⟩ := h
  refine ⟨fun j hj => by rw [e, au_k _ _ _ hj]; exact h1 j hj, fun j hj => ?_, fun l a b hl ha hb => ?_⟩
  · by_cases q : j = 361 * ar 5 k + 19 * ar 6 k + ar 7 k
    · rw [e, q, au_s]; exact Or.inr rfl
    · rw [e, au_j _ _ _ q]; exact h2 j hj
  · by_cases q : 361 * l + 19 * a + b = 361 * ar 5 k + 19 * ar 6 k + ar 7 k
    · rw [e, q, au_s]
      exact ⟨fun _ => ⟨k, by omega, hG, by omega, by omega, by omega⟩, fun _ => rfl⟩
    · rw [e, au_j _ _ _ q, h3 l a b hl ha hb]
      constructor
      · rintro ⟨j, hj, r⟩
        exact ⟨j, by omega, r⟩
      · rintro ⟨j, hj, r1, r2, r3, r4⟩
        by_cases q2 : j = k
        · subst q2; omega
        · exact ⟨j, by omega, r1, r2, r3, r4⟩
theorem ts_f {ar ar1 : Nat → Nat → Nat} {G : Nat → Prop} {k : Nat} (hG : ¬ G k) (h : ts_ ar ar1 G k) : ts_ ar ar1 G (k + 1) := by
  obtain ⟨h1, h2, h3⟩ := h
  refine ⟨h1, h2, fun l a b hl ha hb => ?_⟩
  rw [h3 l a b hl ha hb]
  constructor
  · rintro ⟨j, hj, r⟩
    exact ⟨j, by omega, r⟩
  · rintro ⟨j, hj, r1, r2⟩
    by_cases q2 : j = k
    · subst q2; exact absurd r1 hG
    · exact ⟨j, by omega, r1, r2⟩
theorem tm_nu (f g : Nat → Nat) (j a b : Nat) : (fun k => 16 * nu f j a k + nu g j b k) = nu (fun k => 16 * f k + g k) j (16 * a + b) := by
  funext k
  by_cases h : k = j
  · rw [h, nu_s, nu_s, nu_s]
  · rw [nu_n _ _ h, nu_n _ _ h, nu_n _ _ h]
/-- the model's times are the net's -/
theorem R_tok {sc : Nat → Nat} {ar : Nat → Nat → Nat} (hI : y_I sc ar) (m x y : Nat) : (∃ k p q, k < sc 5 ∧ True ∧ fw_W (nv_E (nvM sc ar)) (ar 5 k) m p q ∧ x = ar 6 k + p ∧ y = ar 7 k + q) ↔ nv_R (nvM sc ar) m x y := by
  constructor
  · rintro ⟨k, p, q, hk, -, hW, e1, e2⟩
    have h3 := hI.2 k hk
    refine ⟨k, p, q, hk, hW, ?_, ?_⟩
    · show x = (16 * ar 6 k + ar 7 k) / 16 + p
      omega
    · show y = (16 * ar 6 k + ar 7 k) % 16 + q
      omega
  · rintro ⟨k, p, q, hk, hW, e1, e2⟩
    have hk : k < sc 5 := hk
    have h3 := hI.2 k hk
    have e1 : x = (16 * ar 6 k + ar 7 k) / 16 + p := e1
    have e2 : y = (16 * ar 6 k + ar 7 k) % 16 + q := e2
    exact ⟨k, p, q, hk, trivial, hW, by omega, by omega⟩
end
section
/-! STATIC TESTS -/
set_option maxRecDepth 100000 in
theorem mX0_isPlace (l : Launch) (a : Int32) : Met l yX0_isPlace (ws_ yX0_isPlace cX0_isPlace 1 (some .boolean)) (r_ 0) (va_Pc [.int a] (fun _ => True)) (va_Qi (fun r (_ : Unit) => ((0 ≤ a.toInt ∧ a.toInt ≤ 6) ∧ r = nI 1) ∨ (¬ (0 ≤ a.toInt ∧ a.toInt ≤ 6) ∧ r = nI 0)) (fun _ _ => True) (fun _ => False)) 0 0 (fun _ => False) := by
  refine st_head (post := fun r => ((0 ≤ a.toInt ∧ a.toInt ≤ 6) ∧ r = nI 1) ∨ (¬ (0 ≤ a.toInt ∧ a.toInt ≤ 6) ∧ r = nI 0)) (by decide +kernel) (Nat.le_of_ble_eq_true rfl) ?_
  intro p e s m below meth c hx hb hr hlk hS ls hl
  have hl : lv_has ls 1 [(0, .int a)] := hl
  refine lv_iload_n hx hb dX0_isPlace_0 rfl (lv_at hl 0 rfl) ?_
  refine lv_if_lt (tgt := 14) hx hb dX0_isPlace_1 (by decide) (fun c1 => ?_) (fun c1 => ?_)
  · first | rw [nw_lt_c (by decide)] at c7 | rw [nw_lt0] at c1
    refine lv_iconst (v := nI 0) hx hb dX0_isPlace_14 (by decide +kernel) ?_
    exact W.zret (v := (nI 0)) hx hb hr (by decide +kernel) (fun t ht hW => ⟨⟨_, (), rfl, (Or.inr ⟨by omega, rfl⟩), trivial⟩, hS.F ht⟩) hS.2.2 dX0_isPlace_15 hlk
  · rw [nw_lt0] at c1
    refine lv_iload_n hx hb dX0_isPlace_4 rfl (lv_at hl 0 rfl) ?_
    refine lv_bipush (v := nI 6) hx hb dX0_isPlace_5 (by decide +kernel) ?_
    refine lv_icmp_gt (tgt := 14) hx hb dX0_isPlace_7 (by decide) (fun c7 => ?_) (fun c7 => ?_)
    · first | rw [nw_lt_c (by decide)] at c7 | rw [nw_lt0] at c1
      refine lv_iconst (v := nI 0) hx hb dX0_isPlace_14 (by decide +kernel) ?_
      exact W.zret (v := (nI 0)) hx hb hr (by decide +kernel) (fun t ht hW => ⟨⟨_, (), rfl, (Or.inr ⟨by omega, rfl⟩), trivial⟩, hS.F ht⟩) hS.2.2 dX0_isPlace_15 hlk
    · rw [nw_lt_c (by decide)] at c7
      refine lv_iconst (v := nI 1) hx hb dX0_isPlace_10 (by decide +kernel) ?_
      refine lv_goto (tgt := 15) hx hb dX0_isPlace_11 (by decide) ?_
      exact W.zret (v := (nI 1)) hx hb hr (by decide +kernel) (fun t ht hW => ⟨⟨_, (), rfl, (Or.inl ⟨by omega, rfl⟩), trivial⟩, hS.F ht⟩) hS.2.2 dX0_isPlace_15 hlk
set_option maxRecDepth 100000 in
theorem mX0_isTime (l : Launch) (a b : Int32) : Met l yX0_isTime (ws_ yX0_isTime cX0_isTime 2 (some .boolean)) (r_ 0) (va_Pc [.int a, .int b] (fun _ => True)) (va_Qi (fun r (_ : Unit) => ((0 ≤ a.toInt ∧ a.toInt ≤ 15 ∧ 0 ≤ b.toInt ∧ b.toInt ≤ 15) ∧ r = nI 1) ∨ (¬ (0 ≤ a.toInt ∧ a.toInt ≤ 15 ∧ 0 ≤ b.toInt ∧ b.toInt ≤ 15) ∧ r = nI 0)) (fun _ _ => True) (fun _ => False)) 0 0 (fun _ => False) := by
  refine st_head (post := fun r => ((0 ≤ a.toInt ∧ a.toInt ≤ 15 ∧ 0 ≤ b.toInt ∧ b.toInt ≤ 15) ∧ r = nI 1) ∨ (¬ (0 ≤ a.toInt ∧ a.toInt ≤ 15 ∧ 0 ≤ b.toInt ∧ b.toInt ≤ 15) ∧ r = nI 0)) (by decide +kernel) (Nat.le_of_ble_eq_true rfl) ?_
  intro p e s m below meth c hx hb hr hlk hS ls hl
  have hl : lv_has ls 2 [(0, .int a), (1, .int b)] := hl
  refine lv_iload_n hx hb dX0_isTime_0 rfl (lv_at hl 0 rfl) ?_
  refine lv_if_lt (tgt := 24) hx hb dX0_isTime_1 (by decide) (fun c1 => ?_) (fun c1 => ?_)
  · first | rw [nw_lt_c (by decide)] at c17 | rw [nw_lt0] at c11 | rw [nw_lt_c (by decide)] at c7 | rw [nw_lt0] at c1
    refine lv_iconst (v := nI 0) hx hb dX0_isTime_24 (by decide +kernel) ?_
    exact W.zret (v := (nI 0)) hx hb hr (by decide +kernel) (fun t ht hW => ⟨⟨_, (), rfl, (Or.inr ⟨by omega, rfl⟩), trivial⟩, hS.F ht⟩) hS.2.2 dX0_isTime_25 hlk
  · rw [nw_lt0] at c1
    refine lv_iload_n hx hb dX0_isTime_4 rfl (lv_at hl 0 rfl) ?_
    refine lv_bipush (v := nI 15) hx hb dX0_isTime_5 (by decide +kernel) ?_
    refine lv_icmp_gt (tgt := 24) hx hb dX0_isTime_7 (by decide) (fun c7 => ?_) (fun c7 => ?_)
    · first | rw [nw_lt_c (by decide)] at c17 | rw [nw_lt0] at c11 | rw [nw_lt_c (by decide)] at c7 | rw [nw_lt0] at c1
      refine lv_iconst (v := nI 0) hx hb dX0_isTime_24 (by decide +kernel) ?_
      exact W.zret (v := (nI 0)) hx hb hr (by decide +kernel) (fun t ht hW => ⟨⟨_, (), rfl, (Or.inr ⟨by omega, rfl⟩), trivial⟩, hS.F ht⟩) hS.2.2 dX0_isTime_25 hlk
    · rw [nw_lt_c (by decide)] at c7
      refine lv_iload_n hx hb dX0_isTime_10 rfl (lv_at hl 1 rfl) ?_
      refine lv_if_lt (tgt := 24) hx hb dX0_isTime_11 (by decide) (fun c11 => ?_) (fun c11 => ?_)
      · first | rw [nw_lt_c (by decide)] at c17 | rw [nw_lt0] at c11 | rw [nw_lt_c (by decide)] at c7 | rw [nw_lt0] at c1
        refine lv_iconst (v := nI 0) hx hb dX0_isTime_24 (by decide +kernel) ?_
        exact W.zret (v := (nI 0)) hx hb hr (by decide +kernel) (fun t ht hW => ⟨⟨_, (), rfl, (Or.inr ⟨by omega, rfl⟩), trivial⟩, hS.F ht⟩) hS.2.2 dX0_isTime_25 hlk
      · rw [nw_lt0] at c11
        refine lv_iload_n hx hb dX0_isTime_14 rfl (lv_at hl 1 rfl) ?_
        refine lv_bipush (v := nI 15) hx hb dX0_isTime_15 (by decide +kernel) ?_
        refine lv_icmp_gt (tgt := 24) hx hb dX0_isTime_17 (by decide) (fun c17 => ?_) (fun c17 => ?_)
        · first | rw [nw_lt_c (by decide)] at c17 | rw [nw_lt0] at c11 | rw [nw_lt_c (by decide)] at c7 | rw [nw_lt0] at c1
          refine lv_iconst (v := nI 0) hx hb dX0_isTime_24 (by decide +kernel) ?_
          exact W.zret (v := (nI 0)) hx hb hr (by decide +kernel) (fun t ht hW => ⟨⟨_, (), rfl, (Or.inr ⟨by omega, rfl⟩), trivial⟩, hS.F ht⟩) hS.2.2 dX0_isTime_25 hlk
        · rw [nw_lt_c (by decide)] at c17
          refine lv_iconst (v := nI 1) hx hb dX0_isTime_20 (by decide +kernel) ?_
          refine lv_goto (tgt := 25) hx hb dX0_isTime_21 (by decide) ?_
          exact W.zret (v := (nI 1)) hx hb hr (by decide +kernel) (fun t ht hW => ⟨⟨_, (), rfl, (Or.inl ⟨by omega, rfl⟩), trivial⟩, hS.F ht⟩) hS.2.2 dX0_isTime_25 hlk
set_option maxRecDepth 100000 in
theorem mX1_badPlace (l : Launch) (a : Int32) : Met l yX1_badPlace (ws_ yX1_badPlace cX1_badPlace 1 (some .boolean)) (r_ 0) (va_Pc [.int a] (fun _ => True)) (va_Qi (fun r (_ : Unit) => ((0 ≤ a.toInt ∧ a.toInt ≤ 6) ∧ r = nI 0) ∨ (¬ (0 ≤ a.toInt ∧ a.toInt ≤ 6) ∧ r = nI 1)) (fun _ _ => True) (fun _ => False)) 0 0 (fun _ => False) := by
  refine st_head (post := fun r => ((0 ≤ a.toInt ∧ a.toInt ≤ 6) ∧ r = nI 0) ∨ (¬ (0 ≤ a.toInt ∧ a.toInt ≤ 6) ∧ r = nI 1)) (by decide +kernel) (Nat.le_of_ble_eq_true rfl) ?_
  intro p e s m below meth c hx hb hr hlk hS ls hl
  have hl : lv_has ls 1 [(0, .int a)] := hl
  refine lv_iload_n hx hb dX1_badPlace_0 rfl (lv_at hl 0 rfl) ?_
  refine lv_if_lt (tgt := 10) hx hb dX1_badPlace_1 (by decide) (fun c1 => ?_) (fun c1 => ?_)
  · first | rw [nw_le_c (by decide)] at c7 | rw [nw_lt0] at c1
    refine lv_iconst (v := nI 1) hx hb dX1_badPlace_10 (by decide +kernel) ?_
    refine lv_goto (tgt := 15) hx hb dX1_badPlace_11 (by decide) ?_
    exact W.zret (v := (nI 1)) hx hb hr (by decide +kernel) (fun t ht hW => ⟨⟨_, (), rfl, (Or.inr ⟨by omega, rfl⟩), trivial⟩, hS.F ht⟩) hS.2.2 dX1_badPlace_15 hlk
  · rw [nw_lt0] at c1
    refine lv_iload_n hx hb dX1_badPlace_4 rfl (lv_at hl 0 rfl) ?_
    refine lv_bipush (v := nI 6) hx hb dX1_badPlace_5 (by decide +kernel) ?_
    refine lv_icmp_le (tgt := 14) hx hb dX1_badPlace_7 (by decide) (fun c7 => ?_) (fun c7 => ?_)
    · rw [nw_le_c (by decide)] at c7
      refine lv_iconst (v := nI 0) hx hb dX1_badPlace_14 (by decide +kernel) ?_
      exact W.zret (v := (nI 0)) hx hb hr (by decide +kernel) (fun t ht hW => ⟨⟨_, (), rfl, (Or.inl ⟨by omega, rfl⟩), trivial⟩, hS.F ht⟩) hS.2.2 dX1_badPlace_15 hlk
    · first | rw [nw_le_c (by decide)] at c7 | rw [nw_lt0] at c1
      refine lv_iconst (v := nI 1) hx hb dX1_badPlace_10 (by decide +kernel) ?_
      refine lv_goto (tgt := 15) hx hb dX1_badPlace_11 (by decide) ?_
      exact W.zret (v := (nI 1)) hx hb hr (by decide +kernel) (fun t ht hW => ⟨⟨_, (), rfl, (Or.inr ⟨by omega, rfl⟩), trivial⟩, hS.F ht⟩) hS.2.2 dX1_badPlace_15 hlk
set_option maxRecDepth 100000 in
theorem mX1_badTime (l : Launch) (a b : Int32) : Met l yX1_badTime (ws_ yX1_badTime cX1_badTime 2 (some .boolean)) (r_ 0) (va_Pc [.int a, .int b] (fun _ => True)) (va_Qi (fun r (_ : Unit) => ((0 ≤ a.toInt ∧ a.toInt ≤ 15 ∧ 0 ≤ b.toInt ∧ b.toInt ≤ 15) ∧ r = nI 0) ∨ (¬ (0 ≤ a.toInt ∧ a.toInt ≤ 15 ∧ 0 ≤ b.toInt ∧ b.toInt ≤ 15) ∧ r = nI 1)) (fun _ _ => True) (fun _ => False)) 0 0 (fun _ => False) := by
  refine st_head (post := fun r => ((0 ≤ a.toInt ∧ a.toInt ≤ 15 ∧ 0 ≤ b.toInt ∧ b.toInt ≤ 15) ∧ r = nI 0) ∨ (¬ (0 ≤ a.toInt ∧ a.toInt ≤ 15 ∧ 0 ≤ b.toInt ∧ b.toInt ≤ 15) ∧ r = nI 1)) (by decide +kernel) (Nat.le_of_ble_eq_true rfl) ?_
  intro p e s m below meth c hx hb hr hlk hS ls hl
  have hl : lv_has ls 2 [(0, .int a), (1, .int b)] := hl
  refine lv_iload_n hx hb dX1_badTime_0 rfl (lv_at hl 0 rfl) ?_
  refine lv_if_lt (tgt := 20) hx hb dX1_badTime_1 (by decide) (fun c1 => ?_) (fun c1 => ?_)
  · first | rw [nw_le_c (by decide)] at c17 | rw [nw_lt0] at c11 | rw [nw_lt_c (by decide)] at c7 | rw [nw_lt0] at c1
    refine lv_iconst (v := nI 1) hx hb dX1_badTime_20 (by decide +kernel) ?_
    refine lv_goto (tgt := 25) hx hb dX1_badTime_21 (by decide) ?_
    exact W.zret (v := (nI 1)) hx hb hr (by decide +kernel) (fun t ht hW => ⟨⟨_, (), rfl, (Or.inr ⟨by omega, rfl⟩), trivial⟩, hS.F ht⟩) hS.2.2 dX1_badTime_25 hlk
  · rw [nw_lt0] at c1
    refine lv_iload_n hx hb dX1_badTime_4 rfl (lv_at hl 0 rfl) ?_
    refine lv_bipush (v := nI 15) hx hb dX1_badTime_5 (by decide +kernel) ?_
    refine lv_icmp_gt (tgt := 20) hx hb dX1_badTime_7 (by decide) (fun c7 => ?_) (fun c7 => ?_)
    · first | rw [nw_le_c (by decide)] at c17 | rw [nw_lt0] at c11 | rw [nw_lt_c (by decide)] at c7 | rw [nw_lt0] at c1
      refine lv_iconst (v := nI 1) hx hb dX1_badTime_20 (by decide +kernel) ?_
      refine lv_goto (tgt := 25) hx hb dX1_badTime_21 (by decide) ?_
      exact W.zret (v := (nI 1)) hx hb hr (by decide +kernel) (fun t ht hW => ⟨⟨_, (), rfl, (Or.inr ⟨by omega, rfl⟩), trivial⟩, hS.F ht⟩) hS.2.2 dX1_badTime_25 hlk
    · rw [nw_lt_c (by decide)] at c7
      refine lv_iload_n hx hb dX1_badTime_10 rfl (lv_at hl 1 rfl) ?_
      refine lv_if_lt (tgt := 20) hx hb dX1_badTime_11 (by decide) (fun c11 => ?_) (fun c11 => ?_)
      · first | rw [nw_le_c (by decide)] at c17 | rw [nw_lt0] at c11 | rw [nw_lt_c (by decide)] at c7 | rw [nw_lt0] at c1
        refine lv_iconst (v := nI 1) hx hb dX1_badTime_20 (by decide +kernel) ?_
        refine lv_goto (tgt := 25) hx hb dX1_badTime_21 (by decide) ?_
        exact W.zret (v := (nI 1)) hx hb hr (by decide +kernel) (fun t ht hW => ⟨⟨_, (), rfl, (Or.inr ⟨by omega, rfl⟩), trivial⟩, hS.F ht⟩) hS.2.2 dX1_badTime_25 hlk
      · rw [nw_lt0] at c11
        refine lv_iload_n hx hb dX1_badTime_14 rfl (lv_at hl 1 rfl) ?_
        refine lv_bipush (v := nI 15) hx hb dX1_badTime_15 (by decide +kernel) ?_
        refine lv_icmp_le (tgt := 24) hx hb dX1_badTime_17 (by decide) (fun c17 => ?_) (fun c17 => ?_)
        · rw [nw_le_c (by decide)] at c17
          refine lv_iconst (v := nI 0) hx hb dX1_badTime_24 (by decide +kernel) ?_
          exact W.zret (v := (nI 0)) hx hb hr (by decide +kernel) (fun t ht hW => ⟨⟨_, (), rfl, (Or.inl ⟨by omega, rfl⟩), trivial⟩, hS.F ht⟩) hS.2.2 dX1_badTime_25 hlk
        · first | rw [nw_le_c (by decide)] at c17 | rw [nw_lt0] at c11 | rw [nw_lt_c (by decide)] at c7 | rw [nw_lt0] at c1
          refine lv_iconst (v := nI 1) hx hb dX1_badTime_20 (by decide +kernel) ?_
          refine lv_goto (tgt := 25) hx hb dX1_badTime_21 (by decide) ?_
          exact W.zret (v := (nI 1)) hx hb hr (by decide +kernel) (fun t ht hW => ⟨⟨_, (), rfl, (Or.inr ⟨by omega, rfl⟩), trivial⟩, hS.F ht⟩) hS.2.2 dX1_badTime_25 hlk
end
section
/-! LEAVES OF FrontierWatch -/
set_option maxHeartbeats 4000000 in
set_option maxRecDepth 100000 in
theorem mX0_tokenAt (l : Launch) (dC : Nat → ClassId) (dI : Nat → Nat → Nat) (h : Nat → Nat) (d : ClassId) (sc : Nat → Nat) (ar : Nat → Nat → Nat) (p0 t0 : Nat) (hT : sc 5 ≤ 20) (hk0 : ∀ k, k < sc 5 → ar 5 k < 7 ∧ ar 6 k < 256) (hp0 : p0 < 7) (ht0 : t0 < 256) (sz : Nat) : Met l yX0_tokenAt (ws_ yX0_tokenAt cX0_tokenAt 4 (some .int)) (r_ 0) (x_Pc dC dI h d sz sc ar [.ref (h 0), .int (nI p0), .int (nI t0)]) (va_Qi (fun r u => (u.1 = sc ∧ u.2 = ar) ∧ ((∃ k, k < sc 5 ∧ (ar 5 k = p0 ∧ ar 6 k = t0) ∧ (∀ j, j < k → ¬ (ar 5 j = p0 ∧ ar 6 j = t0)) ∧ r = nI k) ∨ ((∀ j, j < sc 5 → ¬ (ar 5 j = p0 ∧ ar 6 j = t0)) ∧ r = -1))) (x_B dC dI (x_A h d sc ar sz) h d) (x_A h d sc ar sz)) 0 0 (x_A h d sc ar sz) := by
  refine x_headi (by decide +kernel) rfl (Nat.le_of_ble_eq_true rfl) ?_
  intro p e s m below meth c A av QQ hrt hlk F hA hH hQ ls hl
  have hx := F.1.1
  have hb := F.1.2.1
  have hts := F.1.2.2.2.2
  have hl : lv_has ls 4 [(0, .ref (h 0)), (1, .int (nI p0)), (2, .int (nI t0))] := hl
  have L2 : ∀ (n : Nat) (k : Nat), sc 5 - k < n → k ≤ sc 5 → (∀ j, j < k → ¬ (ar 5 j = p0 ∧ ar 6 j = t0)) → ∀ (H : Heap) (locs : List Loc), xH dC dI A s.heap h d sc ar H locs → ∀ ls : Array Slot, lv_has ls 4 [(0, .ref (h 0)), (1, .int (nI p0)), (2, .int (nI t0)), (3, .int (nI k))] → W p l e (r_ 0) s m av below meth c H locs 0 0 QQ (F0 m 2 ls []) := by
    intro n
    induction n with
    | zero => intro _ hlt; exact absurd hlt (Nat.not_lt_zero _)
    | succ n ih =>
      intro k hn hk hj H locs hH ls hl
      refine lv_iload_n hx hb dX0_tokenAt_2 rfl (lv_at hl 3 rfl) ?_
      refine lv_aload_n hx hb dX0_tokenAt_3 rfl (lv_at hl 0 rfl) ?_
      refine x_get F hH 5 (by decide) q46 rfl dX0_tokenAt_4 ?_
      refine nw_ge (tgt := 38) hx hb dX0_tokenAt_7 (by decide) (by omega) (fun c7 => ?_) (fun c7 => ?_)
      · refine lv_iconst (v := -1) hx hb dX0_tokenAt_38 (by decide +kernel) ?_
        exact x_iret F hH hrt hlk hQ ⟨⟨rfl, rfl⟩, Or.inr ⟨fun j q => hj j (by omega), rfl⟩⟩ dX0_tokenAt_39
      · have hbk := hk0 k c7
        refine lv_aload_n hx hb dX0_tokenAt_10 rfl (lv_at hl 0 rfl) ?_
        refine x_get F hH 6 (by decide) q47 rfl dX0_tokenAt_11 ?_
        refine lv_iload_n hx hb dX0_tokenAt_14 rfl (lv_at hl 3 rfl) ?_
        refine x_ald F hH 5 (N := 20) rfl (by decide) (by decide) (by omega) dX0_tokenAt_15 ?_
        refine lv_iload_n hx hb dX0_tokenAt_16 rfl (lv_at hl 1 rfl) ?_
        refine nw_ne (tgt := 32) hx hb dX0_tokenAt_17 (by decide) (by omega) (fun c17 => ?_) (fun c17 => ?_)
        · refine lv_iinc (v := (nI (k + 1))) (lv' := [(3, .int (nI (k + 1))), (0, .ref (h 0)), (1, .int (nI p0)), (2, .int (nI t0))]) hx hb dX0_tokenAt_32 hl (k := 3) rfl (nw_inc _) (by decide) rfl (fun ls hl => ?_)
          refine lv_goto (tgt := 2) hx hb dX0_tokenAt_35 (by decide) ?_
          exact ih (k + 1) (by omega) (by omega) (lt_s hj (by first | exact fun q => c27 q.2 | exact fun q => c17 q.1)) H locs hH ls (lv_sub hl [1, 2, 3, 0] rfl)
        · refine lv_aload_n hx hb dX0_tokenAt_20 rfl (lv_at hl 0 rfl) ?_
          refine x_get F hH 7 (by decide) q48 rfl dX0_tokenAt_21 ?_
          refine lv_iload_n hx hb dX0_tokenAt_24 rfl (lv_at hl 3 rfl) ?_
          refine x_ald F hH 6 (N := 20) rfl (by decide) (by decide) (by omega) dX0_tokenAt_25 ?_
          refine lv_iload_n hx hb dX0_tokenAt_26 rfl (lv_at hl 2 rfl) ?_
          refine nw_ne (tgt := 32) hx hb dX0_tokenAt_27 (by decide) (by omega) (fun c27 => ?_) (fun c27 => ?_)
          · refine lv_iinc (v := (nI (k + 1))) (lv' := [(3, .int (nI (k + 1))), (0, .ref (h 0)), (1, .int (nI p0)), (2, .int (nI t0))]) hx hb dX0_tokenAt_32 hl (k := 3) rfl (nw_inc _) (by decide) rfl (fun ls hl => ?_)
            refine lv_goto (tgt := 2) hx hb dX0_tokenAt_35 (by decide) ?_
            exact ih (k + 1) (by omega) (by omega) (lt_s hj (by first | exact fun q => c27 q.2 | exact fun q => c17 q.1)) H locs hH ls (lv_sub hl [1, 2, 3, 0] rfl)
          · refine lv_iload_n hx hb dX0_tokenAt_30 rfl (lv_at hl 3 rfl) ?_
            exact x_iret F hH hrt hlk hQ ⟨⟨rfl, rfl⟩, Or.inl ⟨k, c7, ⟨c17, c27⟩, hj, rfl⟩⟩ dX0_tokenAt_31
  refine lv_iconst (v := nI 0) hx hb dX0_tokenAt_0 (by decide +kernel) ?_
  refine lv_istore_n (lv' := [(3, .int (nI 0)), (0, .ref (h 0)), (1, .int (nI p0)), (2, .int (nI t0))]) hx hb dX0_tokenAt_1 rfl hl (by decide) rfl (fun ls hl => ?_)
  exact L2 (sc 5 + 1) 0 (by omega) (by omega) lt_0 _ _ hH ls (lv_sub hl [1, 2, 3, 0] rfl)
set_option maxHeartbeats 4000000 in
set_option maxRecDepth 100000 in
theorem mX0_firstMark (l : Launch) (dC : Nat → ClassId) (dI : Nat → Nat → Nat) (h : Nat → Nat) (d : ClassId) (sc : Nat → Nat) (ar : Nat → Nat → Nat) (pl a lim : Nat) (hpl : pl < 7) (ha : a < 16) (hlim : lim ≤ 16) (hmk : ∀ y, y < 16 → ar 10 (256 * pl + 16 * a + y) ≤ 20) (sz : Nat) : Met l yX0_firstMark (ws_ yX0_firstMark cX0_firstMark 5 (some .int)) (r_ 0) (x_Pc dC dI h d sz sc ar [.ref (h 0), .int (nI pl), .int (nI a), .int (nI lim)]) (va_Qi (fun r u => (u.1 = sc ∧ u.2 = ar) ∧ ∃ b, b ≤ lim ∧ r = nI b ∧ (∀ y, y < b → ar 10 (256 * pl + 16 * a + y) = 0) ∧ (b < lim → 0 < ar 10 (256 * pl + 16 * a + b))) (x_B dC dI (x_A h d sc ar sz) h d) (x_A h d sc ar sz)) 0 0 (x_A h d sc ar sz) := by
  refine x_headi (by decide +kernel) rfl (Nat.le_of_ble_eq_true rfl) ?_
  intro p e s m below meth c A av QQ hrt hlk F hA hH hQ ls hl
  have hx := F.1.1
  have hb := F.1.2.1
  have hts := F.1.2.2.2.2
  have hl : lv_has ls 5 [(0, .ref (h 0)), (1, .int (nI pl)), (2, .int (nI a)), (3, .int (nI lim))] := hl
  have L3 : ∀ (n : Nat) (b : Nat), lim - b < n → b ≤ lim → (∀ y, y < b → ar 10 (256 * pl + 16 * a + y) = 0) → ∀ (H : Heap) (locs : List Loc), xH dC dI A s.heap h d sc ar H locs → ∀ ls : Array Slot, lv_has ls 5 [(0, .ref (h 0)), (1, .int (nI pl)), (2, .int (nI a)), (3, .int (nI lim)), (4, .int (nI b))] → W p l e (r_ 0) s m av below meth c H locs 0 0 QQ (F0 m 3 ls []) := by
    intro n
    induction n with
    | zero => intro _ hlt; exact absurd hlt (Nat.not_lt_zero _)
    | succ n ih =>
      intro b hn hb2 hj H locs hH ls hl
      refine lv_iload hx hb dX0_firstMark_3 (lv_at hl 4 rfl) ?_
      refine lv_iload_n hx hb dX0_firstMark_5 rfl (lv_at hl 3 rfl) ?_
      refine nw_ge (tgt := 39) hx hb dX0_firstMark_6 (by decide) (by omega) (fun c6 => ?_) (fun c6 => ?_)
      · refine lv_iload_n hx hb dX0_firstMark_39 rfl (lv_at hl 3 rfl) ?_
        exact x_iret F hH hrt hlk hQ ⟨⟨rfl, rfl⟩, lim, Nat.le_refl _, rfl, fun y q => hj y (by omega), fun q => absurd q (Nat.lt_irrefl _)⟩ dX0_firstMark_40
      · have hmb := hmk b (by omega)
        refine lv_aload_n hx hb dX0_firstMark_9 rfl (lv_at hl 0 rfl) ?_
        refine x_get F hH 12 (by decide) q53 rfl dX0_firstMark_10 ?_
        refine lv_sipush (v := nI 256) hx hb dX0_firstMark_13 (by decide +kernel) ?_
        refine lv_iload_n hx hb dX0_firstMark_16 rfl (lv_at hl 1 rfl) ?_
        refine nw_imul hx hb dX0_firstMark_17 ?_
        refine lv_bipush (v := nI 16) hx hb dX0_firstMark_18 (by decide +kernel) ?_
        refine lv_iload_n hx hb dX0_firstMark_20 rfl (lv_at hl 2 rfl) ?_
        refine nw_imul hx hb dX0_firstMark_21 ?_
        refine nw_iadd hx hb dX0_firstMark_22 ?_
        refine lv_iload hx hb dX0_firstMark_23 (lv_at hl 4 rfl) ?_
        refine nw_iadd hx hb dX0_firstMark_25 ?_
        refine x_ald F hH 10 (N := 1792) rfl (by decide) (by decide) (by omega) dX0_firstMark_26 ?_
        refine nw_ifle (tgt := 33) hx hb dX0_firstMark_27 (by decide) (by omega) (fun c27 => ?_) (fun c27 => ?_)
        · refine lv_iinc (v := (nI (b + 1))) (lv' := [(4, .int (nI (b + 1))), (0, .ref (h 0)), (1, .int (nI pl)), (2, .int (nI a)), (3, .int (nI lim))]) hx hb dX0_firstMark_33 hl (k := 4) rfl (nw_inc _) (by decide) rfl (fun ls hl => ?_)
          refine lv_goto (tgt := 3) hx hb dX0_firstMark_36 (by decide) ?_
          exact ih (b + 1) (by omega) (by omega) (lt_s hj c27) H locs hH ls (lv_sub hl [1, 2, 3, 4, 0] rfl)
        · refine lv_iload hx hb dX0_firstMark_30 (lv_at hl 4 rfl) ?_
          exact x_iret F hH hrt hlk hQ ⟨⟨rfl, rfl⟩, b, by omega, rfl, hj, fun _ => c27⟩ dX0_firstMark_32
  refine lv_iconst (v := nI 0) hx hb dX0_firstMark_0 (by decide +kernel) ?_
  refine lv_istore (lv' := [(4, .int (nI 0)), (0, .ref (h 0)), (1, .int (nI pl)), (2, .int (nI a)), (3, .int (nI lim))]) hx hb dX0_firstMark_1 hl (by decide) rfl (fun ls hl => ?_)
  exact L3 (lim + 1) 0 (by omega) (by omega) lt_0 _ _ hH ls (lv_sub hl [1, 2, 3, 4, 0] rfl)
set_option maxHeartbeats 4000000 in
set_option maxRecDepth 100000 in
theorem mX0_reaches (l : Launch) (dC : Nat → ClassId) (dI : Nat → Nat → Nat) (h : Nat → Nat) (d : ClassId) (sc : Nat → Nat) (ar : Nat → Nat → Nat) (rows : Nat → List Nat) (k pl a b : Nat) (hT : sc 5 ≤ 20) (hk0 : ∀ k, k < sc 5 → ar 5 k < 7 ∧ ar 6 k < 256) (hrp : rp_ ar rows) (hk : k < sc 5) (hpl : pl < 7) (ha : a < 16) (hbb : b < 16) (sz : Nat) : Met l yX0_reaches (ws_ yX0_reaches cX0_reaches 9 (some .boolean)) (r_ 0) (x_Pc dC dI h d sz sc ar [.ref (h 0), .int (nI k), .int (nI pl), .int (nI a), .int (nI b)]) (va_Qi (fun r u => (u.1 = sc ∧ u.2 = ar) ∧ (((∃ i, i < ar 7 (7 * ar 5 k + pl) ∧ (ar 6 k / 16 + ar 8 (19 * (7 * ar 5 k + pl) + i) / 64 ≤ a ∧ ar 6 k % 16 + ar 8 (19 * (7 * ar 5 k + pl) + i) % 64 ≤ b)) ∧ r = nI 1) ∨ (¬ (∃ i, i < ar 7 (7 * ar 5 k + pl) ∧ (ar 6 k / 16 + ar 8 (19 * (7 * ar 5 k + pl) + i) / 64 ≤ a ∧ ar 6 k % 16 + ar 8 (19 * (7 * ar 5 k + pl) + i) % 64 ≤ b)) ∧ r = nI 0))) (x_B dC dI (x_A h d sc ar sz) h d) (x_A h d sc ar sz)) 0 0 (x_A h d sc ar sz) := by
  refine x_headi (by decide +kernel) rfl (Nat.le_of_ble_eq_true rfl) ?_
  intro p e s m below meth c A av QQ hrt hlk F hA hH hQ ls hl
  have hx := F.1.1
  have hb := F.1.2.1
  have hts := F.1.2.2.2.2
  have hl : lv_has ls 9 [(0, .ref (h 0)), (1, .int (nI k)), (2, .int (nI pl)), (3, .int (nI a)), (4, .int (nI b))] := hl
  have hbk := hk0 k hk
  have L46 : ∀ (v5 : Nat), v5 = 7 * ar 5 k + pl → ∀ (n i w : Nat), ar 7 v5 - i < n → i ≤ ar 7 v5 → w = 19 * v5 + i → (∀ j, j < i → ¬ (ar 6 k / 16 + ar 8 (19 * v5 + j) / 64 ≤ a ∧ ar 6 k % 16 + ar 8 (19 * v5 + j) % 64 ≤ b)) → ∀ (H : Heap) (locs : List Loc), xH dC dI A s.heap h d sc ar H locs → ∀ ls : Array Slot, lv_has ls 9 [(0, .ref (h 0)), (1, .int (nI k)), (2, .int (nI pl)), (3, .int (nI a)), (4, .int (nI b)), (5, .int (nI v5)), (6, .int ((nI a) - (nI (ar 6 k / 16)))), (7, .int ((nI b) - (nI (ar 6 k % 16)))), (8, .int (nI w))] → W p l e (r_ 0) s m av below meth c H locs 0 0 QQ (F0 m 46 ls []) := by
    intro v5 ev5 n
    have hr5 := (hrp v5 (by omega)).1
    have hr6 := (hrp v5 (by omega)).2.1
    induction n with
    | zero => intro _ _ hlt; exact absurd hlt (Nat.not_lt_zero _)
    | succ n ih =>
      intro i w hn hi ew hj H locs hH ls hl
      refine lv_iload hx hb dX0_reaches_46 (lv_at hl 8 rfl) ?_
      refine lv_bipush (v := nI 19) hx hb dX0_reaches_48 (by decide +kernel) ?_
      refine lv_iload hx hb dX0_reaches_50 (lv_at hl 5 rfl) ?_
      refine nw_imul hx hb dX0_reaches_52 ?_
      refine lv_aload_n hx hb dX0_reaches_53 rfl (lv_at hl 0 rfl) ?_
      refine x_get F hH 8 (by decide) q49 rfl dX0_reaches_54 ?_
      refine lv_iload hx hb dX0_reaches_57 (lv_at hl 5 rfl) ?_
      refine x_ald F hH 7 (N := 49) rfl (by decide) (by decide) (by omega) dX0_reaches_59 ?_
      refine nw_iadd hx hb dX0_reaches_60 ?_
      refine nw_ge (tgt := 102) hx hb dX0_reaches_61 (by decide) (by omega) (fun c61 => ?_) (fun c61 => ?_)
      · refine lv_iconst (v := nI 0) hx hb dX0_reaches_102 (by decide +kernel) ?_
        exact x_zret F hH hrt hlk hQ (hn := by decide +kernel) ⟨⟨rfl, rfl⟩, Or.inr ⟨fun ⟨j, q1, q2⟩ => by rw [← ev5] at q1 q2; exact hj j (by omega) q2, rfl⟩⟩ dX0_reaches_103
      · have hgi := rp_get hrp (r := v5) (i := i) (by omega) (by omega)
        rw [← ew] at hgi
        refine lv_aload_n hx hb dX0_reaches_64 rfl (lv_at hl 0 rfl) ?_
        refine x_get F hH 9 (by decide) q50 rfl dX0_reaches_65 ?_
        refine lv_iload hx hb dX0_reaches_68 (lv_at hl 8 rfl) ?_
        refine x_ald F hH 8 (N := 931) rfl (by decide) (by decide) (by omega) dX0_reaches_70 ?_
        refine lv_bipush (v := nI 6) hx hb dX0_reaches_71 (by decide +kernel) ?_
        refine nw_shr6 hx hb dX0_reaches_73 (by omega) ?_
        refine lv_iload hx hb dX0_reaches_74 (lv_at hl 6 rfl) ?_
        refine lv_icmp_gt (tgt := 96) hx hb dX0_reaches_76 (by decide) (fun c76 => ?_) (fun c76 => ?_)
        · have hno : ¬ (ar 6 k / 16 + ar 8 (19 * v5 + i) / 64 ≤ a ∧ ar 6 k % 16 + ar 8 (19 * v5 + i) % 64 ≤ b) := by
            rw [← ew]
            first
              | (rw [nw_subgt (by omega) (by omega) (by omega)] at c91; omega)
              | (rw [nw_subgt (by omega) (by omega) (by omega)] at c76; omega)
          refine lv_iinc (v := (nI (w + 1))) (lv' := [(8, .int (nI (w + 1))), (0, .ref (h 0)), (1, .int (nI k)), (2, .int (nI pl)), (3, .int (nI a)), (4, .int (nI b)), (5, .int (nI v5)), (6, .int ((nI a) - (nI (ar 6 k / 16)))), (7, .int ((nI b) - (nI (ar 6 k % 16))))]) hx hb dX0_reaches_96 hl (k := 8) rfl (nw_inc _) (by decide) rfl (fun ls hl => ?_)
          refine lv_goto (tgt := 46) hx hb dX0_reaches_99 (by decide) ?_
          exact ih (i + 1) (w + 1) (by omega) (by omega) (by omega) (lt_s hj hno) H locs hH ls (lv_sub hl [1, 2, 3, 4, 5, 6, 7, 8, 0] rfl)
        · have c76 : ¬ (a < ar 6 k / 16 + ar 8 w / 64) := fun z => c76 ((nw_subgt (by omega) (by omega) (by omega)).mpr z)
          refine lv_aload_n hx hb dX0_reaches_79 rfl (lv_at hl 0 rfl) ?_
          refine x_get F hH 9 (by decide) q50 rfl dX0_reaches_80 ?_
          refine lv_iload hx hb dX0_reaches_83 (lv_at hl 8 rfl) ?_
          refine x_ald F hH 8 (N := 931) rfl (by decide) (by decide) (by omega) dX0_reaches_85 ?_
          refine lv_bipush (v := nI 63) hx hb dX0_reaches_86 (by decide +kernel) ?_
          refine nw_and63 hx hb dX0_reaches_88 (by omega) ?_
          refine lv_iload hx hb dX0_reaches_89 (lv_at hl 7 rfl) ?_
          refine lv_icmp_gt (tgt := 96) hx hb dX0_reaches_91 (by decide) (fun c91 => ?_) (fun c91 => ?_)
          · have hno : ¬ (ar 6 k / 16 + ar 8 (19 * v5 + i) / 64 ≤ a ∧ ar 6 k % 16 + ar 8 (19 * v5 + i) % 64 ≤ b) := by
              rw [← ew]
              first
                | (rw [nw_subgt (by omega) (by omega) (by omega)] at c91; omega)
                | (rw [nw_subgt (by omega) (by omega) (by omega)] at c76; omega)
            refine lv_iinc (v := (nI (w + 1))) (lv' := [(8, .int (nI (w + 1))), (0, .ref (h 0)), (1, .int (nI k)), (2, .int (nI pl)), (3, .int (nI a)), (4, .int (nI b)), (5, .int (nI v5)), (6, .int ((nI a) - (nI (ar 6 k / 16)))), (7, .int ((nI b) - (nI (ar 6 k % 16))))]) hx hb dX0_reaches_96 hl (k := 8) rfl (nw_inc _) (by decide) rfl (fun ls hl => ?_)
            refine lv_goto (tgt := 46) hx hb dX0_reaches_99 (by decide) ?_
            exact ih (i + 1) (w + 1) (by omega) (by omega) (by omega) (lt_s hj hno) H locs hH ls (lv_sub hl [1, 2, 3, 4, 5, 6, 7, 8, 0] rfl)
          · have c91 : ¬ (b < ar 6 k % 16 + ar 8 w % 64) := fun z => c91 ((nw_subgt (by omega) (by omega) (by omega)).mpr z)
            refine lv_iconst (v := nI 1) hx hb dX0_reaches_94 (by decide +kernel) ?_
            exact x_zret F hH hrt hlk hQ (hn := by decide +kernel) ⟨⟨rfl, rfl⟩, Or.inl ⟨⟨i, by rw [← ev5]; omega, by rw [← ev5, ← ew]; omega⟩, rfl⟩⟩ dX0_reaches_95
  refine lv_bipush (v := nI 7) hx hb dX0_reaches_0 (by decide +kernel) ?_
  refine lv_aload_n hx hb dX0_reaches_2 rfl (lv_at hl 0 rfl) ?_
  refine x_get F hH 6 (by decide) q47 rfl dX0_reaches_3 ?_
  refine lv_iload_n hx hb dX0_reaches_6 rfl (lv_at hl 1 rfl) ?_
  refine x_ald F hH 5 (N := 20) rfl (by decide) (by decide) (by omega) dX0_reaches_7 ?_
  refine nw_imul hx hb dX0_reaches_8 ?_
  refine lv_iload_n hx hb dX0_reaches_9 rfl (lv_at hl 2 rfl) ?_
  refine nw_iadd hx hb dX0_reaches_10 ?_
  refine nw_top (fun v5 ev5 => ?_)
  refine lv_istore (lv' := [(5, .int (nI v5)), (0, .ref (h 0)), (1, .int (nI k)), (2, .int (nI pl)), (3, .int (nI a)), (4, .int (nI b))]) hx hb dX0_reaches_11 hl (by decide) rfl (fun ls hl => ?_)
  refine lv_iload_n hx hb dX0_reaches_13 rfl (lv_at hl 4 rfl) ?_
  refine lv_aload_n hx hb dX0_reaches_14 rfl (lv_at hl 1 rfl) ?_
  refine x_get F hH 7 (by decide) q48 rfl dX0_reaches_15 ?_
  refine lv_iload_n hx hb dX0_reaches_18 rfl (lv_at hl 2 rfl) ?_
  refine x_ald F hH 6 (N := 20) rfl (by decide) (by decide) (by omega) dX0_reaches_19 ?_
  refine lv_iconst (v := nI 4) hx hb dX0_reaches_20 (by decide +kernel) ?_
  refine nw_shr4 hx hb dX0_reaches_21 (by omega) ?_
  refine lv_isub hx hb dX0_reaches_22 ?_
  refine lv_istore (lv' := [(6, .int (((nI a)) - ((nI ((ar 6 k) / 16))))), (5, .int (nI v5)), (0, .ref (h 0)), (1, .int (nI k)), (2, .int (nI pl)), (3, .int (nI a)), (4, .int (nI b))]) hx hb dX0_reaches_23 hl (by decide) rfl (fun ls hl => ?_)
  refine lv_iload hx hb dX0_reaches_25 (lv_at hl 6 rfl) ?_
  refine lv_aload_n hx hb dX0_reaches_27 rfl (lv_at hl 2 rfl) ?_
  refine x_get F hH 7 (by decide) q48 rfl dX0_reaches_28 ?_
  refine lv_iload_n hx hb dX0_reaches_31 rfl (lv_at hl 3 rfl) ?_
  refine x_ald F hH 6 (N := 20) rfl (by decide) (by decide) (by omega) dX0_reaches_32 ?_
  refine lv_bipush (v := nI 15) hx hb dX0_reaches_33 (by decide +kernel) ?_
  refine nw_and15 hx hb dX0_reaches_35 (by omega) ?_
  refine lv_isub hx hb dX0_reaches_36 ?_
  refine lv_istore (lv' := [(7, .int (((nI b)) - ((nI ((ar 6 k) % 16))))), (6, .int (((nI a)) - ((nI ((ar 6 k) / 16))))), (5, .int (nI v5)), (0, .ref (h 0)), (1, .int (nI k)), (2, .int (nI pl)), (3, .int (nI a)), (4, .int (nI b))]) hx hb dX0_reaches_37 hl (by decide) rfl (fun ls hl => ?_)
  refine lv_bipush (v := nI 19) hx hb dX0_reaches_39 (by decide +kernel) ?_
  refine lv_iload hx hb dX0_reaches_41 (lv_at hl 2 rfl) ?_
  refine nw_imul hx hb dX0_reaches_43 ?_
  refine nw_top (fun v8 ev8 => ?_)
  refine lv_istore (lv' := [(8, .int (nI v8)), (7, .int (((nI b)) - ((nI ((ar 6 k) % 16))))), (6, .int (((nI a)) - ((nI ((ar 6 k) / 16))))), (5, .int (nI v5)), (0, .ref (h 0)), (1, .int (nI k)), (2, .int (nI pl)), (3, .int (nI a)), (4, .int (nI b))]) hx hb dX0_reaches_44 hl (by decide) rfl (fun ls hl => ?_)
  exact L46 v5 ev5 (ar 7 v5 + 1) 0 v8 (by omega) (by omega) (by omega) lt_0 _ _ hH ls (lv_sub hl [4, 5, 6, 7, 8, 3, 2, 1, 0] rfl)
end
section
/-! count, addSum -/
set_option maxHeartbeats 4000000 in
set_option maxRecDepth 100000 in
theorem mX0_count (l : Launch) (dC : Nat → ClassId) (dI : Nat → Nat → Nat) (h : Nat → Nat) (d : ClassId) (sc : Nat → Nat) (ar : Nat → Nat → Nat) (rows : Nat → List Nat) (bf : Nat → Nat) (pl tm : Nat) (bY : Int32) (hpl : pl < 7) (htm : tm < 256) (hrp : rp_ ar rows) (hnd : ∀ m, m < 7 → (rows (7 * pl + m)).Nodup) (hby : ∀ m a b, m < 7 → a < 16 → b < 16 → hit_ rows m a b pl tm → nI (ar 10 (256 * m + 16 * a + b)) + bY = nI (bf (ar 10 (256 * m + 16 * a + b)))) (sz : Nat) : Met l yX0_count (ws_ yX0_count cX0_count 9 none) (r_ 0) (x_Pc dC dI h d sz sc ar [.ref (h 0), .int (nI pl), .int (nI tm), .int bY]) (va_Qv (fun u => u.1 = sc ∧ (∀ k, k ≠ 10 → u.2 k = ar k) ∧ ∀ m a b, m < 7 → a < 16 → b < 16 → (hit_ rows m a b pl tm → u.2 10 (256 * m + 16 * a + b) = bf (ar 10 (256 * m + 16 * a + b))) ∧ (¬ hit_ rows m a b pl tm → u.2 10 (256 * m + 16 * a + b) = ar 10 (256 * m + 16 * a + b))) (x_B dC dI (x_A h d sc ar sz) h d) (x_A h d sc ar sz)) 0 0 (x_A h d sc ar sz) := by
  refine x_headv (by decide +kernel) rfl (Nat.le_of_ble_eq_true rfl) ?_
  intro p e s m below meth c A av QQ hrt hlk F hA hH hQ ls hl
  have hx := F.1.1
  have hb := F.1.2.1
  have hts := F.1.2.2.2.2
  have hl : lv_has ls 9 [(0, .ref (h 0)), (1, .int (nI pl)), (2, .int (nI tm)), (3, .int bY)] := hl
  have L3 : ∀ (nO : Nat) (mm : Nat) (ar1 : Nat → Nat → Nat), 7 - mm < nO → mm ≤ 7 → ct_ ar bf pl tm mm 0 ar1 → ∀ (H : Heap) (locs : List Loc), xH dC dI A s.heap h d sc ar1 H locs → ∀ ls : Array Slot, lv_has ls 9 [(0, .ref (h 0)), (1, .int (nI pl)), (2, .int (nI tm)), (3, .int bY), (4, .int (nI mm))] → W p l e (r_ 0) s m av below meth c H locs 0 0 QQ (F0 m 3 ls []) := by
    intro nO
    induction nO with
    | zero => intro _ _ hlt; exact absurd hlt (Nat.not_lt_zero _)
    | succ nO ihO =>
      intro mm ar1 hnO hm hct H locs hH ls hl
      have hr5 := fun q : mm < 7 => (hrp (7 * pl + mm) (by omega)).1
      have hr6 := fun q : mm < 7 => (hrp (7 * pl + mm) (by omega)).2.1
      have L26 : ∀ (n : Nat) (i w : Nat) (ar1 : Nat → Nat → Nat), ar 7 (7 * pl + mm) - i < n → mm < 7 → i ≤ ar 7 (7 * pl + mm) → w = 19 * (7 * pl + mm) + i → ct_ ar bf pl tm mm i ar1 → ∀ (H : Heap) (locs : List Loc), xH dC dI A s.heap h d sc ar1 H locs → ∀ ls : Array Slot, lv_has ls 9 [(0, .ref (h 0)), (1, .int (nI pl)), (2, .int (nI tm)), (3, .int bY), (4, .int (nI mm)), (5, .int (nI (7 * pl + mm))), (6, .int (nI w))] → W p l e (r_ 0) s m av below meth c H locs 0 0 QQ (F0 m 26 ls []) := by
        intro n
        induction n with
        | zero => intro _ _ _ hlt; exact absurd hlt (Nat.not_lt_zero _)
        | succ n ih =>
          intro i w ar1 hn hm7 hi ew hct H locs hH ls hl
          have hr5 := hr5 hm7
          have hr6 := hr6 hm7
          refine lv_iload hx hb dX0_count_26 (lv_at hl 6 rfl) ?_
          refine lv_bipush (v := nI 19) hx hb dX0_count_28 (by decide +kernel) ?_
          refine lv_iload hx hb dX0_count_30 (lv_at hl 5 rfl) ?_
          refine nw_imul hx hb dX0_count_32 ?_
          refine lv_aload_n hx hb dX0_count_33 rfl (lv_at hl 0 rfl) ?_
          refine x_get F hH 8 (by decide) q49 rfl dX0_count_34 ?_
          refine lv_iload hx hb dX0_count_37 (lv_at hl 5 rfl) ?_
          refine x_aldv F hH 7 (N := 49) (v := (ar 7 (7 * pl + mm))) rfl (by decide) (by decide) (by omega) (by rw [hct.1 7 (by decide)]) dX0_count_39 ?_
          refine nw_iadd hx hb dX0_count_40 ?_
          refine nw_ge (tgt := 121) hx hb dX0_count_41 (by decide) (by omega) (fun c41 => ?_) (fun c41 => ?_)
          · refine lv_iinc (v := (nI (mm + 1))) (lv' := [(4, .int (nI (mm + 1))), (0, .ref (h 0)), (1, .int (nI pl)), (2, .int (nI tm)), (3, .int bY), (5, .int (nI (7 * pl + mm))), (6, .int (nI w))]) hx hb dX0_count_121 hl (k := 4) rfl (nw_inc _) (by decide) rfl (fun ls hl => ?_)
            refine lv_goto (tgt := 3) hx hb dX0_count_124 (by decide) ?_
            exact ihO (mm + 1) ar1 (by omega) (by omega) (ct_next (by rw [← (show i = ar 7 (7 * pl + mm) by omega)]; exact hct)) H locs hH ls (lv_sub hl [1, 2, 3, 4, 0] rfl)
          · have hgi := rp_get hrp (r := 7 * pl + mm) (i := i) (by omega) (by omega)
            refine lv_iload_n hx hb dX0_count_44 rfl (lv_at hl 2 rfl) ?_
            refine lv_iconst (v := nI 4) hx hb dX0_count_45 (by decide +kernel) ?_
            refine nw_shr4 hx hb dX0_count_46 (by omega) ?_
            refine lv_aload_n hx hb dX0_count_47 rfl (lv_at hl 0 rfl) ?_
            refine x_get F hH 9 (by decide) q50 rfl dX0_count_48 ?_
            refine lv_iload hx hb dX0_count_51 (lv_at hl 6 rfl) ?_
            refine x_aldv F hH 8 (N := 931) (v := (ar 8 (19 * (7 * pl + mm) + i))) rfl (by decide) (by decide) (by omega) (by rw [hct.1 8 (by decide), ew]) dX0_count_53 ?_
            refine lv_bipush (v := nI 6) hx hb dX0_count_54 (by decide +kernel) ?_
            refine nw_shr6 hx hb dX0_count_56 (by omega) ?_
            refine nw_iadd hx hb dX0_count_57 ?_
            refine nw_top (fun v7 ev7 => ?_)
            refine lv_istore (lv' := [(7, .int (nI v7)), (0, .ref (h 0)), (1, .int (nI pl)), (2, .int (nI tm)), (3, .int bY), (4, .int (nI mm)), (5, .int (nI (7 * pl + mm))), (6, .int (nI w))]) hx hb dX0_count_58 hl (by decide) rfl (fun ls hl => ?_)
            refine lv_iload_n hx hb dX0_count_60 rfl (lv_at hl 3 rfl) ?_
            refine lv_bipush (v := nI 15) hx hb dX0_count_61 (by decide +kernel) ?_
            refine nw_and15 hx hb dX0_count_63 (by omega) ?_
            refine lv_aload_n hx hb dX0_count_64 rfl (lv_at hl 1 rfl) ?_
            refine x_get F hH 9 (by decide) q50 rfl dX0_count_65 ?_
            refine lv_iload hx hb dX0_count_68 (lv_at hl 7 rfl) ?_
            refine x_aldv F hH 8 (N := 931) (v := (ar 8 (19 * (7 * pl + mm) + i))) rfl (by decide) (by decide) (by omega) (by rw [hct.1 8 (by decide), ew]) dX0_count_70 ?_
            refine lv_bipush (v := nI 63) hx hb dX0_count_71 (by decide +kernel) ?_
            refine nw_and63 hx hb dX0_count_73 (by omega) ?_
            refine nw_iadd hx hb dX0_count_74 ?_
            refine nw_top (fun v8 ev8 => ?_)
            refine lv_istore (lv' := [(8, .int (nI v8)), (7, .int (nI v7)), (0, .ref (h 0)), (1, .int (nI pl)), (2, .int (nI tm)), (3, .int bY), (4, .int (nI mm)), (5, .int (nI (7 * pl + mm))), (6, .int (nI w))]) hx hb dX0_count_75 hl (by decide) rfl (fun ls hl => ?_)
            refine lv_iload hx hb dX0_count_77 (lv_at hl 1 rfl) ?_
            refine lv_bipush (v := nI 15) hx hb dX0_count_79 (by decide +kernel) ?_
            refine nw_gt (tgt := 115) hx hb dX0_count_81 (by decide) (by omega) (fun c81 => ?_) (fun c81 => ?_)
            · refine lv_iinc (v := (nI (w + 1))) (lv' := [(6, .int (nI (w + 1))), (8, .int (nI v8)), (7, .int (nI v7)), (0, .ref (h 0)), (1, .int (nI pl)), (2, .int (nI tm)), (3, .int bY), (4, .int (nI mm)), (5, .int (nI (7 * pl + mm)))]) hx hb dX0_count_115 hl (k := 8) rfl (nw_inc _) (by decide) rfl (fun ls hl => ?_)
              refine lv_goto (tgt := 26) hx hb dX0_count_118 (by decide) ?_
              exact ih (i + 1) (w + 1) ar1 (by omega) hm7 (by omega) (by omega) (by first | exact ct_in hm7 ev7 ev8 (by omega) (by omega) hno hct ear1 | exact ct_out (by omega) hct) H locs hH ls (lv_sub hl [3, 4, 5, 6, 7, 8, 0] rfl)
            · refine lv_iload hx hb dX0_count_84 (lv_at hl 0 rfl) ?_
              refine lv_bipush (v := nI 15) hx hb dX0_count_86 (by decide +kernel) ?_
              refine nw_gt (tgt := 115) hx hb dX0_count_88 (by decide) (by omega) (fun c88 => ?_) (fun c88 => ?_)
              · refine lv_iinc (v := (nI (w + 1))) (lv' := [(6, .int (nI (w + 1))), (8, .int (nI v8)), (7, .int (nI v7)), (0, .ref (h 0)), (1, .int (nI pl)), (2, .int (nI tm)), (3, .int bY), (4, .int (nI mm)), (5, .int (nI (7 * pl + mm)))]) hx hb dX0_count_115 hl (k := 8) rfl (nw_inc _) (by decide) rfl (fun ls hl => ?_)
                refine lv_goto (tgt := 26) hx hb dX0_count_118 (by decide) ?_
                exact ih (i + 1) (w + 1) ar1 (by omega) hm7 (by omega) (by omega) (by first | exact ct_in hm7 ev7 ev8 (by omega) (by omega) hno hct ear1 | exact ct_out (by omega) hct) H locs hH ls (lv_sub hl [3, 4, 5, 6, 7, 8, 0] rfl)
              · have hno := hA_new hrp (pl := pl) (tm := tm) (m := mm) (a := v7) (b := v8) (i := i) hpl (by omega) (hnd mm (by omega)) (by omega) ev7 ev8
                have hnn : ¬ ((mm < mm ∧ hA_ ar pl tm mm v7 v8 (ar 7 (7 * pl + mm))) ∨ (mm = mm ∧ hA_ ar pl tm mm v7 v8 i)) := fun q => q.elim (fun q => absurd q.1 (Nat.lt_irrefl _)) (fun q => hno q.2)
                have hhit : hit_ rows mm v7 v8 pl tm := (hA_hit hrp hpl (by omega)).mp ⟨i, by omega, ev7.symm, ev8.symm⟩
                refine lv_aload_n hx hb dX0_count_91 rfl (lv_at hl 2 rfl) ?_
                refine x_get F hH 12 (by decide) q53 rfl dX0_count_92 ?_
                refine lv_sipush (v := nI 256) hx hb dX0_count_95 (by decide +kernel) ?_
                refine lv_iload hx hb dX0_count_98 (lv_at hl 6 rfl) ?_
                refine nw_imul hx hb dX0_count_100 ?_
                refine lv_bipush (v := nI 16) hx hb dX0_count_101 (by decide +kernel) ?_
                refine lv_iload hx hb dX0_count_103 (lv_at hl 1 rfl) ?_
                refine nw_imul hx hb dX0_count_105 ?_
                refine nw_iadd hx hb dX0_count_106 ?_
                refine lv_iload hx hb dX0_count_107 (lv_at hl 0 rfl) ?_
                refine nw_iadd hx hb dX0_count_109 ?_
                refine lv_dup2_11 hx hb dX0_count_110 rfl rfl ?_
                refine x_aldv F hH 10 (N := 1792) (v := (ar 10 (256 * mm + 16 * v7 + v8))) rfl (by decide) (by decide) (by omega) ((hct.2 mm v7 v8 (by omega) (by omega) (by omega)).2 hnn) dX0_count_111 ?_
                refine lv_iload_n hx hb dX0_count_112 rfl (lv_at hl 5 rfl) ?_
                refine lv_iadd hx hb dX0_count_113 ?_
                refine x_astE F hH 10 (v := bf (ar 10 (256 * mm + 16 * v7 + v8))) (hby mm v7 v8 (by omega) (by omega) (by omega) hhit) (N := 1792) rfl (by decide) (by decide) (by omega) dX0_count_114 (fun ar_1 H locs ear_1 hH => ?_)
                refine lv_iinc (v := (nI (w + 1))) (lv' := [(6, .int (nI (w + 1))), (8, .int (nI v8)), (7, .int (nI v7)), (0, .ref (h 0)), (1, .int (nI pl)), (2, .int (nI tm)), (3, .int bY), (4, .int (nI mm)), (5, .int (nI (7 * pl + mm)))]) hx hb dX0_count_115 hl (k := 8) rfl (nw_inc _) (by decide) rfl (fun ls hl => ?_)
                refine lv_goto (tgt := 26) hx hb dX0_count_118 (by decide) ?_
                exact ih (i + 1) (w + 1) ar_1 (by omega) hm7 (by omega) (by omega) (by first | exact ct_in hm7 ev7 ev8 (by omega) (by omega) hno hct ear_1 | exact ct_out (by omega) hct) H locs hH ls (lv_sub hl [3, 4, 5, 6, 7, 8, 0] rfl)
      refine lv_iload hx hb dX0_count_3 (lv_at hl 4 rfl) ?_
      refine lv_bipush (v := nI 7) hx hb dX0_count_5 (by decide +kernel) ?_
      refine nw_ge (tgt := 127) hx hb dX0_count_7 (by decide) (by omega) (fun c7 => ?_) (fun c7 => ?_)
      · exact x_vret F hH hrt hlk hQ ⟨rfl, hct.1, ct_end hrp hpl (by rw [show 7 = mm by omega]; exact hct)⟩ dX0_count_127
      · refine lv_bipush (v := nI 7) hx hb dX0_count_10 (by decide +kernel) ?_
        refine lv_iload_n hx hb dX0_count_12 rfl (lv_at hl 1 rfl) ?_
        refine nw_imul hx hb dX0_count_13 ?_
        refine lv_iload hx hb dX0_count_14 (lv_at hl 4 rfl) ?_
        refine nw_iadd hx hb dX0_count_16 ?_
        refine lv_istore (lv' := [(5, .int (nI ((7 * pl) + mm))), (0, .ref (h 0)), (1, .int (nI pl)), (2, .int (nI tm)), (3, .int bY), (4, .int (nI mm))]) hx hb dX0_count_17 hl (by decide) rfl (fun ls hl => ?_)
        refine lv_bipush (v := nI 19) hx hb dX0_count_19 (by decide +kernel) ?_
        refine lv_iload hx hb dX0_count_21 (lv_at hl 0 rfl) ?_
        refine nw_imul hx hb dX0_count_23 ?_
        refine nw_top (fun v6 ev6 => ?_)
        refine lv_istore (lv' := [(6, .int (nI v6)), (5, .int (nI ((7 * pl) + mm))), (0, .ref (h 0)), (1, .int (nI pl)), (2, .int (nI tm)), (3, .int bY), (4, .int (nI mm))]) hx hb dX0_count_24 hl (by decide) rfl (fun ls hl => ?_)
        exact L26 (ar 7 (7 * pl + mm) + 1) 0 v6 ar1 (by omega) c7 (by omega) (by omega) hct _ _ hH ls (lv_sub hl [2, 3, 4, 5, 6, 1, 0] rfl)
  refine lv_iconst (v := nI 0) hx hb dX0_count_0 (by decide +kernel) ?_
  refine lv_istore (lv' := [(4, .int (nI 0)), (0, .ref (h 0)), (1, .int (nI pl)), (2, .int (nI tm)), (3, .int bY)]) hx hb dX0_count_1 hl (by decide) rfl (fun ls hl => ?_)
  exact L3 8 0 ar (by omega) (by omega) ct_0 _ _ hH ls (lv_sub hl [1, 2, 3, 4, 0] rfl)
set_option maxHeartbeats 4000000 in
set_option maxRecDepth 100000 in
theorem mX0_addSum (l : Launch) (dC : Nat → ClassId) (dI : Nat → Nat → Nat) (h : Nat → Nat) (d : ClassId) (sc : Nat → Nat) (ar : Nat → Nat → Nat) (rows : Nat → List Nat) (r t : Nat) (hr : r < 49) (ht : t < 4096) (hrp : rp_ ar rows) (hst : fa_stair (rows r)) (hlen : (fa_add (rows r) t).length ≤ 19) (sz : Nat) : Met l yX0_addSum (ws_ yX0_addSum cX0_addSum 8 none) (r_ 0) (x_Pc dC dI h d sz sc ar [.ref (h 0), .int (nI r), .int (nI t)]) (va_Qv (fun u => fx_ sc ar u.1 u.2 ∧ rp_ u.2 (fw_up rows r (fa_add (rows r) t))) (x_B dC dI (x_A h d sc ar sz) h d) (x_A h d sc ar sz)) 0 0 (x_A h d sc ar sz) := by
  refine x_headv (by decide +kernel) rfl (Nat.le_of_ble_eq_true rfl) ?_
  intro p e s m below meth c A av QQ hrt hlk F hA hH hQ ls hl
  have hx := F.1.1
  have hb := F.1.2.1
  have hts := F.1.2.2.2.2
  have hl : lv_has ls 8 [(0, .ref (h 0)), (1, .int (nI r)), (2, .int (nI t))] := hl
  obtain ⟨Lf, eLf⟩ : ∃ z, z = fa_add (rows r) t := ⟨_, rfl⟩
  obtain ⟨GG, eGG⟩ : ∃ z, z = fa_go t (rows r) [] false := ⟨_, rfl⟩
  rw [← eLf] at hlen
  have hr7 := (hrp r hr).1
  have hr8 := (hrp r hr).2.1
  have hzf : ∀ z, z ∈ Lf → z < 4096 := by
    intro z hz
    rw [eLf] at hz
    rcases (fa_spec t hst).2.1 z hz with q | q
    · obtain ⟨j, hj⟩ := List.getElem?_of_mem q
      exact ((hrp r hr).2.2 j z hj).2
    · rw [q]; exact ht
  have L246 : True := trivial
  have J212 : ∀ (v3 : Nat) (sc1 : Nat → Nat) (ar1 : Nat → Nat → Nat), v3 = 19 * r → ga_ sc ar sc1 ar1 Lf → ∀ (H : Heap) (locs : List Loc), xH dC dI A s.heap h d sc1 ar1 H locs → ∀ ls : Array Slot, lv_has ls 8 [(0, .ref (h 0)), (1, .int (nI r)), (2, .int (nI t)), (3, .int (nI v3))] → W p l e (r_ 0) s m av below meth c H locs 0 0 QQ (F0 m 212 ls []) := by
    intro v3 sc1 ar1 ev3 hga H locs hH ls hl
    have L215 : ∀ (n : Nat) (i : Nat) (ar2 : Nat → Nat → Nat), Lf.length - i < n → i ≤ Lf.length → wb_ ar ar2 r Lf i → ∀ (H : Heap) (locs : List Loc), xH dC dI A s.heap h d sc1 ar2 H locs → ∀ ls : Array Slot, lv_has ls 8 [(0, .ref (h 0)), (1, .int (nI r)), (2, .int (nI t)), (3, .int (nI v3)), (5, .int (nI i))] → W p l e (r_ 0) s m av below meth c H locs 0 0 QQ (F0 m 215 ls []) := by
      intro n
      induction n with
      | zero => intro _ _ hlt; exact absurd hlt (Nat.not_lt_zero _)
      | succ n ih =>
        intro i ar2 hn hi hwb H locs hH ls hl
        refine lv_iload hx hb dX0_addSum_215 (lv_at hl 4 rfl) ?_
        refine lv_aload_n hx hb dX0_addSum_217 rfl (lv_at hl 0 rfl) ?_
        refine x_getv F hH 10 (by decide) q51 (v := (Lf.length)) rfl (hga.2.2.1) dX0_addSum_218 ?_
        refine nw_ge (tgt := 246) hx hb dX0_addSum_221 (by decide) (by omega) (fun c221 => ?_) (fun c221 => ?_)
        · refine lv_aload_n hx hb dX0_addSum_246 rfl (lv_at hl 0 rfl) ?_
          refine x_get F hH 8 (by decide) q49 rfl dX0_addSum_247 ?_
          refine lv_iload_n hx hb dX0_addSum_250 rfl (lv_at hl 1 rfl) ?_
          refine lv_aload_n hx hb dX0_addSum_251 rfl (lv_at hl 0 rfl) ?_
          refine x_getv F hH 10 (by decide) q51 (v := (Lf.length)) rfl (hga.2.2.1) dX0_addSum_252 ?_
          refine x_ast F hH 7 (N := 49) rfl (by decide) (by decide) (by omega) dX0_addSum_255 (fun ar_1 H locs ear_1 hH => ?_)
          exact x_vret F hH hrt hlk hQ ⟨⟨hga.1, fun k a b c => (wb_end hr hlen hzf hrp (by rw [show i = Lf.length by omega] at hwb; exact hwb) ear_1).2 k a b c⟩, by rw [← eLf]; exact (wb_end hr hlen hzf hrp (by rw [show i = Lf.length by omega] at hwb; exact hwb) ear_1).1⟩ dX0_addSum_256
        · obtain ⟨z, hz⟩ : ∃ z, Lf[i]? = some z := ⟨Lf[i], List.getElem?_eq_getElem c221⟩
          refine lv_aload_n hx hb dX0_addSum_224 rfl (lv_at hl 0 rfl) ?_
          refine x_get F hH 9 (by decide) q50 rfl dX0_addSum_225 ?_
          refine lv_iload_n hx hb dX0_addSum_228 rfl (lv_at hl 3 rfl) ?_
          refine lv_iload hx hb dX0_addSum_229 (lv_at hl 4 rfl) ?_
          refine nw_iadd hx hb dX0_addSum_231 ?_
          refine lv_aload_n hx hb dX0_addSum_232 rfl (lv_at hl 0 rfl) ?_
          refine x_get F hH 11 (by decide) q52 rfl dX0_addSum_233 ?_
          refine lv_iload hx hb dX0_addSum_236 (lv_at hl 4 rfl) ?_
          refine x_aldv F hH 9 (N := 40) (v := z) rfl (by decide) (by decide) (by omega) (hwb.2.1 i z hz) dX0_addSum_238 ?_
          refine x_ast F hH 8 (N := 931) rfl (by decide) (by decide) (by omega) dX0_addSum_239 (fun ar_2 H locs ear_2 hH => ?_)
          refine lv_iinc (v := (nI (i + 1))) (lv' := [(5, .int (nI (i + 1))), (0, .ref (h 0)), (1, .int (nI r)), (2, .int (nI t)), (3, .int (nI v3))]) hx hb dX0_addSum_240 hl (k := 4) rfl (nw_inc _) (by decide) rfl (fun ls hl => ?_)
          refine lv_goto (tgt := 215) hx hb dX0_addSum_243 (by decide) ?_
          exact ih (i + 1) ar_2 (by omega) (by omega) (wb_step hz hwb (by rw [ear_2, ev3])) H locs hH ls (lv_sub hl [1, 2, 3, 4, 0] rfl)
    refine lv_iconst (v := nI 0) hx hb dX0_addSum_212 (by decide +kernel) ?_
    refine lv_istore (lv' := [(5, .int (nI 0)), (0, .ref (h 0)), (1, .int (nI r)), (2, .int (nI t)), (3, .int (nI v3))]) hx hb dX0_addSum_213 hl (by decide) rfl (fun ls hl => ?_)
    exact L215 (Lf.length + 1) 0 ar1 (by omega) (by omega) ⟨fun k a b => hga.2.1 k b, hga.2.2.2, fun j z _ q => absurd q (Nat.not_lt_zero _), fun j _ => by rw [hga.2.1 8 (by decide)]⟩ _ _ hH ls (lv_sub hl [1, 2, 3, 4, 0] rfl)
  have L16 : ∀ (v3 : Nat), v3 = 19 * r → ∀ (n i w : Nat) (L : List Nat) (b : Bool) (pl : Nat) (sc2 : Nat → Nat) (ar2 : Nat → Nat → Nat), ar 7 r - i < n → i ≤ ar 7 r → w = v3 + i → ga_ sc ar sc2 ar2 L → ((pl = 0 ∧ b = false) ∨ (pl = 1 ∧ b = true)) → L.length ≤ i + pl → fa_go t ((rows r).drop i) L b = GG → ∀ (H : Heap) (locs : List Loc), xH dC dI A s.heap h d sc2 ar2 H locs → ∀ ls : Array Slot, lv_has ls 8 [(0, .ref (h 0)), (1, .int (nI r)), (2, .int (nI t)), (3, .int (nI v3)), (4, .int (nI pl)), (5, .int (nI w))] → W p l e (r_ 0) s m av below meth c H locs 0 0 QQ (F0 m 16 ls []) := by
    intro v3 ev3 n
    induction n with
    | zero => intro _ _ _ _ _ _ _ hlt; exact absurd hlt (Nat.not_lt_zero _)
    | succ n ih =>
      intro i w L b pl sc2 ar2 hn hi ew hga hpb hll hgo H locs hH ls hl
      have hg10 := hga.2.2.1
      have J109 : ∀ (x : Nat) (L1 : List Nat) (b1 : Bool) (pl1 : Nat) (sc3 : Nat → Nat) (ar3 : Nat → Nat → Nat), x = ar 8 (19 * r + i) → x < 4096 → i < ar 7 r → ga_ sc ar sc3 ar3 L1 → ((pl1 = 0 ∧ b1 = false) ∨ (pl1 = 1 ∧ b1 = true)) → L1.length ≤ i + pl1 → fa_go t ((rows r).drop (i + 1)) (L1 ++ (if t / 64 ≤ x / 64 ∧ t % 64 ≤ x % 64 then [] else [x])) b1 = GG → ∀ (H : Heap) (locs : List Loc), xH dC dI A s.heap h d sc3 ar3 H locs → ∀ ls : Array Slot, lv_has ls 8 [(0, .ref (h 0)), (1, .int (nI r)), (2, .int (nI t)), (3, .int (nI v3)), (4, .int (nI pl1)), (5, .int (nI w))] → W p l e (r_ 0) s m av below meth c H locs 0 0 QQ (F0 m 109 ls []) := by
        intro x L1 b1 pl1 sc3 ar3 ex hx4 hi7 hga1 hpb1 hll1 hgo1 H locs hH ls hl
        have hg10 := hga1.2.2.1
        refine lv_iload_n hx hb dX0_addSum_109 rfl (lv_at hl 2 rfl) ?_
        refine lv_bipush (v := nI 6) hx hb dX0_addSum_110 (by decide +kernel) ?_
        refine nw_shr6 hx hb dX0_addSum_112 (by omega) ?_
        refine lv_aload_n hx hb dX0_addSum_113 rfl (lv_at hl 0 rfl) ?_
        refine x_get F hH 9 (by decide) q50 rfl dX0_addSum_114 ?_
        refine lv_iload hx hb dX0_addSum_117 (lv_at hl 5 rfl) ?_
        refine x_aldv F hH 8 (N := 931) (v := x) rfl (by decide) (by decide) (by omega) (by rw [hga1.2.1 8 (by decide), ew, ev3, ex]) dX0_addSum_119 ?_
        refine lv_bipush (v := nI 6) hx hb dX0_addSum_120 (by decide +kernel) ?_
        refine nw_shr6 hx hb dX0_addSum_122 (by omega) ?_
        refine nw_gt (tgt := 147) hx hb dX0_addSum_123 (by decide) (by omega) (fun c123 => ?_) (fun c123 => ?_)
        · refine lv_iconst (v := nI 0) hx hb dX0_addSum_147 (by decide +kernel) ?_
          refine lv_istore (lv' := [(7, .int (nI 0)), (0, .ref (h 0)), (1, .int (nI r)), (2, .int (nI t)), (3, .int (nI v3)), (4, .int (nI pl1)), (5, .int (nI w))]) hx hb dX0_addSum_148 hl (by decide) rfl (fun ls hl => ?_)
          refine lv_iload hx hb dX0_addSum_150 (lv_at hl 0 rfl) ?_
          refine nw_ifne (tgt := 181) hx hb dX0_addSum_152 (by decide) (by decide) (fun q => absurd rfl q) (fun _ => ?_)
          refine lv_aload_n hx hb dX0_addSum_155 rfl (lv_at hl 1 rfl) ?_
          refine x_get F hH 11 (by decide) q52 rfl dX0_addSum_156 ?_
          refine lv_aload_n hx hb dX0_addSum_159 rfl (lv_at hl 1 rfl) ?_
          refine x_get F hH 10 (by decide) q51 rfl dX0_addSum_160 ?_
          refine lv_aload_n hx hb dX0_addSum_163 rfl (lv_at hl 1 rfl) ?_
          refine x_get F hH 9 (by decide) q50 rfl dX0_addSum_164 ?_
          refine lv_iload hx hb dX0_addSum_167 (lv_at hl 6 rfl) ?_
          refine x_aldv F hH 8 (N := 931) (v := x) rfl (by decide) (by decide) (by omega) (by rw [hga1.2.1 8 (by decide), ew, ev3, ex]) dX0_addSum_169 ?_
          refine x_ast F hH 9 (N := 40) rfl (by decide) (by decide) (by omega) dX0_addSum_170 (fun ar_3 H locs ear_3 hH => ?_)
          refine lv_aload_n hx hb dX0_addSum_171 rfl (lv_at hl 1 rfl) ?_
          refine lv_dup hx hb dX0_addSum_172 rfl ?_
          refine x_get F hH 10 (by decide) q51 rfl dX0_addSum_173 ?_
          refine lv_iconst (v := nI 1) hx hb dX0_addSum_176 (by decide +kernel) ?_
          refine nw_iadd hx hb dX0_addSum_177 ?_
          refine x_put F hH 10 (Or.inr (Or.inr rfl)) q51 dX0_addSum_178 (fun sc_4 H locs esc_4 hH => ?_)
          refine lv_iinc (v := (nI (w + 1))) (lv' := [(5, .int (nI (w + 1))), (7, .int (nI 0)), (0, .ref (h 0)), (1, .int (nI r)), (2, .int (nI t)), (3, .int (nI v3)), (4, .int (nI pl1))]) hx hb dX0_addSum_181 hl (k := 6) rfl (nw_inc _) (by decide) rfl (fun ls hl => ?_)
          refine lv_goto (tgt := 16) hx hb dX0_addSum_184 (by decide) ?_
          exact ih (i + 1) (w + 1) (L1 ++ [x]) b1 pl1 sc_4 ar_3 (by omega) (by omega) (by omega) (ga_push hga1 ear_3 esc_4) hpb1 (by rw [List.length_append, List.length_singleton]; omega) (by rw [if_neg (show ¬ (t / 64 ≤ x / 64 ∧ t % 64 ≤ x % 64) by omega)] at hgo1; exact hgo1) H locs hH ls (lv_sub hl [2, 3, 4, 5, 6, 0] rfl)
        · refine lv_iload_n hx hb dX0_addSum_126 rfl (lv_at hl 2 rfl) ?_
          refine lv_bipush (v := nI 63) hx hb dX0_addSum_127 (by decide +kernel) ?_
          refine nw_and63 hx hb dX0_addSum_129 (by omega) ?_
          refine lv_aload_n hx hb dX0_addSum_130 rfl (lv_at hl 0 rfl) ?_
          refine x_get F hH 9 (by decide) q50 rfl dX0_addSum_131 ?_
          refine lv_iload hx hb dX0_addSum_134 (lv_at hl 5 rfl) ?_
          refine x_aldv F hH 8 (N := 931) (v := x) rfl (by decide) (by decide) (by omega) (by rw [hga1.2.1 8 (by decide), ew, ev3, ex]) dX0_addSum_136 ?_
          refine lv_bipush (v := nI 63) hx hb dX0_addSum_137 (by decide +kernel) ?_
          refine nw_and63 hx hb dX0_addSum_139 (by omega) ?_
          refine nw_gt (tgt := 147) hx hb dX0_addSum_140 (by decide) (by omega) (fun c140 => ?_) (fun c140 => ?_)
          · refine lv_iconst (v := nI 0) hx hb dX0_addSum_147 (by decide +kernel) ?_
            refine lv_istore (lv' := [(7, .int (nI 0)), (0, .ref (h 0)), (1, .int (nI r)), (2, .int (nI t)), (3, .int (nI v3)), (4, .int (nI pl1)), (5, .int (nI w))]) hx hb dX0_addSum_148 hl (by decide) rfl (fun ls hl => ?_)
            refine lv_iload hx hb dX0_addSum_150 (lv_at hl 0 rfl) ?_
            refine nw_ifne (tgt := 181) hx hb dX0_addSum_152 (by decide) (by decide) (fun q => absurd rfl q) (fun _ => ?_)
            refine lv_aload_n hx hb dX0_addSum_155 rfl (lv_at hl 1 rfl) ?_
            refine x_get F hH 11 (by decide) q52 rfl dX0_addSum_156 ?_
            refine lv_aload_n hx hb dX0_addSum_159 rfl (lv_at hl 1 rfl) ?_
            refine x_get F hH 10 (by decide) q51 rfl dX0_addSum_160 ?_
            refine lv_aload_n hx hb dX0_addSum_163 rfl (lv_at hl 1 rfl) ?_
            refine x_get F hH 9 (by decide) q50 rfl dX0_addSum_164 ?_
            refine lv_iload hx hb dX0_addSum_167 (lv_at hl 6 rfl) ?_
            refine x_aldv F hH 8 (N := 931) (v := x) rfl (by decide) (by decide) (by omega) (by rw [hga1.2.1 8 (by decide), ew, ev3, ex]) dX0_addSum_169 ?_
            refine x_ast F hH 9 (N := 40) rfl (by decide) (by decide) (by omega) dX0_addSum_170 (fun ar_5 H locs ear_5 hH => ?_)
            refine lv_aload_n hx hb dX0_addSum_171 rfl (lv_at hl 1 rfl) ?_
            refine lv_dup hx hb dX0_addSum_172 rfl ?_
            refine x_get F hH 10 (by decide) q51 rfl dX0_addSum_173 ?_
            refine lv_iconst (v := nI 1) hx hb dX0_addSum_176 (by decide +kernel) ?_
            refine nw_iadd hx hb dX0_addSum_177 ?_
            refine x_put F hH 10 (Or.inr (Or.inr rfl)) q51 dX0_addSum_178 (fun sc_6 H locs esc_6 hH => ?_)
            refine lv_iinc (v := (nI (w + 1))) (lv' := [(5, .int (nI (w + 1))), (7, .int (nI 0)), (0, .ref (h 0)), (1, .int (nI r)), (2, .int (nI t)), (3, .int (nI v3)), (4, .int (nI pl1))]) hx hb dX0_addSum_181 hl (k := 6) rfl (nw_inc _) (by decide) rfl (fun ls hl => ?_)
            refine lv_goto (tgt := 16) hx hb dX0_addSum_184 (by decide) ?_
            exact ih (i + 1) (w + 1) (L1 ++ [x]) b1 pl1 sc_6 ar_5 (by omega) (by omega) (by omega) (ga_push hga1 ear_5 esc_6) hpb1 (by rw [List.length_append, List.length_singleton]; omega) (by rw [if_neg (show ¬ (t / 64 ≤ x / 64 ∧ t % 64 ≤ x % 64) by omega)] at hgo1; exact hgo1) H locs hH ls (lv_sub hl [2, 3, 4, 5, 6, 0] rfl)
          · refine lv_iconst (v := nI 1) hx hb dX0_addSum_143 (by decide +kernel) ?_
            refine lv_goto (tgt := 148) hx hb dX0_addSum_144 (by decide) ?_
            refine lv_istore (lv' := [(7, .int (nI 1)), (0, .ref (h 0)), (1, .int (nI r)), (2, .int (nI t)), (3, .int (nI v3)), (4, .int (nI pl1)), (5, .int (nI w))]) hx hb dX0_addSum_148 hl (by decide) rfl (fun ls hl => ?_)
            refine lv_iload hx hb dX0_addSum_150 (lv_at hl 0 rfl) ?_
            refine nw_ifne (tgt := 181) hx hb dX0_addSum_152 (by decide) (by decide) (fun _ => ?_) (fun q => absurd q (by decide))
            refine lv_iinc (v := (nI (w + 1))) (lv' := [(5, .int (nI (w + 1))), (7, .int (nI 1)), (0, .ref (h 0)), (1, .int (nI r)), (2, .int (nI t)), (3, .int (nI v3)), (4, .int (nI pl1))]) hx hb dX0_addSum_181 hl (k := 6) rfl (nw_inc _) (by decide) rfl (fun ls hl => ?_)
            refine lv_goto (tgt := 16) hx hb dX0_addSum_184 (by decide) ?_
            exact ih (i + 1) (w + 1) L1 b1 pl1 sc3 ar3 (by omega) (by omega) (by omega) hga1 hpb1 (by omega) (by rw [if_pos (show t / 64 ≤ x / 64 ∧ t % 64 ≤ x % 64 by omega), List.append_nil] at hgo1; exact hgo1) H locs hH ls (lv_sub hl [2, 3, 4, 5, 6, 0] rfl)
      refine lv_iload hx hb dX0_addSum_16 (lv_at hl 5 rfl) ?_
      refine lv_iload_n hx hb dX0_addSum_18 rfl (lv_at hl 3 rfl) ?_
      refine lv_aload_n hx hb dX0_addSum_19 rfl (lv_at hl 0 rfl) ?_
      refine x_get F hH 8 (by decide) q49 rfl dX0_addSum_20 ?_
      refine lv_iload_n hx hb dX0_addSum_23 rfl (lv_at hl 1 rfl) ?_
      refine x_aldv F hH 7 (N := 49) (v := (ar 7 r)) rfl (by decide) (by decide) (by omega) (by rw [hga.2.1 7 (by decide)]) dX0_addSum_24 ?_
      refine nw_iadd hx hb dX0_addSum_25 ?_
      refine nw_ge (tgt := 187) hx hb dX0_addSum_26 (by decide) (by omega) (fun c26 => ?_) (fun c26 => ?_)
      · rw [rp_drop_end hrp (r := r) (i := i) hr (by omega)] at hgo
        have hfin : Lf = if b = true then L else L ++ [t] := by
          rw [eLf]; unfold fa_add; rw [← eGG, ← hgo]; rfl
        refine lv_iload hx hb dX0_addSum_187 (lv_at hl 4 rfl) ?_
        refine nw_ifne (tgt := 212) hx hb dX0_addSum_189 (by decide) (by omega) (fun c189 => ?_) (fun c189 => ?_)
        · exact J212 v3 sc2 ar2 ev3 (by
            have hbf : b = true := by rcases hpb with q | q
                                      · omega
                                      · exact q.2
            rw [hfin, if_pos hbf]; exact hga) H locs hH ls (lv_sub hl [0, 1, 2, 3] rfl)
        · refine lv_aload_n hx hb dX0_addSum_192 rfl (lv_at hl 0 rfl) ?_
          refine x_get F hH 11 (by decide) q52 rfl dX0_addSum_193 ?_
          refine lv_aload_n hx hb dX0_addSum_196 rfl (lv_at hl 0 rfl) ?_
          refine x_get F hH 10 (by decide) q51 rfl dX0_addSum_197 ?_
          refine lv_iload_n hx hb dX0_addSum_200 rfl (lv_at hl 2 rfl) ?_
          refine x_ast F hH 9 (N := 40) rfl (by decide) (by decide) (by omega) dX0_addSum_201 (fun ar_7 H locs ear_7 hH => ?_)
          refine lv_aload_n hx hb dX0_addSum_202 rfl (lv_at hl 0 rfl) ?_
          refine lv_dup hx hb dX0_addSum_203 rfl ?_
          refine x_get F hH 10 (by decide) q51 rfl dX0_addSum_204 ?_
          refine lv_iconst (v := nI 1) hx hb dX0_addSum_207 (by decide +kernel) ?_
          refine nw_iadd hx hb dX0_addSum_208 ?_
          refine x_put F hH 10 (Or.inr (Or.inr rfl)) q51 dX0_addSum_209 (fun sc_8 H locs esc_8 hH => ?_)
          exact J212 v3 sc_8 ar_7 ev3 (by
            have hbf : b = false := by rcases hpb with q | q
                                       · exact q.2
                                       · omega
            rw [hfin, if_neg (by rw [hbf]; decide)]; exact ga_push hga ear_7 esc_8) H locs hH ls (lv_sub hl [0, 1, 2, 3] rfl)
      · have hgi := rp_get hrp (r := r) (i := i) hr (by omega)
        have hdr := rp_drop hrp (r := r) (i := i) hr (by omega)
        obtain ⟨x, ex⟩ : ∃ z, z = ar 8 (19 * r + i) := ⟨_, rfl⟩
        rw [← ex] at hgi hdr
        rw [hdr] at hgo
        refine lv_aload_n hx hb dX0_addSum_29 rfl (lv_at hl 0 rfl) ?_
        refine x_get F hH 9 (by decide) q50 rfl dX0_addSum_30 ?_
        refine lv_iload hx hb dX0_addSum_33 (lv_at hl 5 rfl) ?_
        refine x_aldv F hH 8 (N := 931) (v := x) rfl (by decide) (by decide) (by omega) (by rw [hga.2.1 8 (by decide), ew, ev3, ex]) dX0_addSum_35 ?_
        refine lv_bipush (v := nI 6) hx hb dX0_addSum_36 (by decide +kernel) ?_
        refine nw_shr6 hx hb dX0_addSum_38 (by omega) ?_
        refine lv_iload_n hx hb dX0_addSum_39 rfl (lv_at hl 2 rfl) ?_
        refine lv_bipush (v := nI 6) hx hb dX0_addSum_40 (by decide +kernel) ?_
        refine nw_shr6 hx hb dX0_addSum_42 (by omega) ?_
        refine nw_gt (tgt := 50) hx hb dX0_addSum_43 (by decide) (by omega) (fun c43 => ?_) (fun c43 => ?_)
        · refine lv_iconst (v := nI 0) hx hb dX0_addSum_50 (by decide +kernel) ?_
          refine lv_istore (lv' := [(6, .int (nI 0)), (0, .ref (h 0)), (1, .int (nI r)), (2, .int (nI t)), (3, .int (nI v3)), (4, .int (nI pl)), (5, .int (nI w))]) hx hb dX0_addSum_51 hl (by decide) rfl (fun ls hl => ?_)
          refine lv_iload hx hb dX0_addSum_53 (lv_at hl 0 rfl) ?_
          refine nw_ifeq (tgt := 76) hx hb dX0_addSum_55 (by decide) (by decide) (fun _ => ?_) (fun q => absurd rfl q)
          refine lv_iload hx hb dX0_addSum_76 (lv_at hl 0 rfl) ?_
          refine nw_ifne (tgt := 109) hx hb dX0_addSum_78 (by decide) (by decide) (fun q => absurd rfl q) (fun _ => ?_)
          refine lv_iload hx hb dX0_addSum_81 (lv_at hl 5 rfl) ?_
          refine nw_ifne (tgt := 109) hx hb dX0_addSum_83 (by decide) (by omega) (fun c83 => ?_) (fun c83 => ?_)
          · exact J109 x L (b || decide (t / 64 < x / 64)) pl sc2 ar2 ex hgi.2.1 (by omega) hga (by
              first
                | (rw [decide_eq_false (show ¬ t / 64 < x / 64 by omega), Bool.or_false]; exact hpb)
                | (rcases hpb with q | q
                   · omega
                   · rw [q.2]; exact Or.inr ⟨q.1, rfl⟩)) (by omega) (by
              rw [fa_go_cons (by omega)] at hgo
              first
                | (rw [if_pos (Or.inl (show x / 64 ≤ t / 64 by omega))] at hgo; exact hgo)
                | (rcases hpb with q | q
                   · omega
                   · rw [if_pos (Or.inr q.2)] at hgo; exact hgo)) H locs hH ls (lv_sub hl [1, 2, 3, 4, 5, 6] rfl)
          · refine lv_aload_n hx hb dX0_addSum_86 rfl (lv_at hl 1 rfl) ?_
            refine x_get F hH 11 (by decide) q52 rfl dX0_addSum_87 ?_
            refine lv_aload_n hx hb dX0_addSum_90 rfl (lv_at hl 1 rfl) ?_
            refine x_get F hH 10 (by decide) q51 rfl dX0_addSum_91 ?_
            refine lv_iload_n hx hb dX0_addSum_94 rfl (lv_at hl 3 rfl) ?_
            refine x_ast F hH 9 (N := 40) rfl (by decide) (by decide) (by omega) dX0_addSum_95 (fun ar_9 H locs ear_9 hH => ?_)
            refine lv_aload_n hx hb dX0_addSum_96 rfl (lv_at hl 1 rfl) ?_
            refine lv_dup hx hb dX0_addSum_97 rfl ?_
            refine x_get F hH 10 (by decide) q51 rfl dX0_addSum_98 ?_
            refine lv_iconst (v := nI 1) hx hb dX0_addSum_101 (by decide +kernel) ?_
            refine nw_iadd hx hb dX0_addSum_102 ?_
            refine x_put F hH 10 (Or.inr (Or.inr rfl)) q51 dX0_addSum_103 (fun sc_10 H locs esc_10 hH => ?_)
            refine lv_iconst (v := nI 1) hx hb dX0_addSum_106 (by decide +kernel) ?_
            refine lv_istore (lv' := [(4, .int (nI 1)), (6, .int (nI 0)), (0, .ref (h 0)), (1, .int (nI r)), (2, .int (nI t)), (3, .int (nI v3)), (5, .int (nI w))]) hx hb dX0_addSum_107 hl (by decide) rfl (fun ls hl => ?_)
            exact J109 x (L ++ [t]) true 1 sc_10 ar_9 ex hgi.2.1 (by omega) (ga_push hga ear_9 esc_10) (Or.inr ⟨rfl, rfl⟩) (by rw [List.length_append, List.length_singleton]; omega) (by
              have hbf : b = false := by rcases hpb with q | q
                                         · exact q.2
                                         · omega
              rw [fa_go_cons (by omega), if_neg (show ¬ (x / 64 ≤ t / 64 ∨ b = true) by rw [hbf]; simp; omega), decide_eq_true c43, Bool.or_true] at hgo
              exact hgo) H locs hH ls (lv_sub hl [2, 3, 4, 5, 0, 6] rfl)
        · refine lv_iconst (v := nI 1) hx hb dX0_addSum_46 (by decide +kernel) ?_
          refine lv_goto (tgt := 51) hx hb dX0_addSum_47 (by decide) ?_
          refine lv_istore (lv' := [(6, .int (nI 1)), (0, .ref (h 0)), (1, .int (nI r)), (2, .int (nI t)), (3, .int (nI v3)), (4, .int (nI pl)), (5, .int (nI w))]) hx hb dX0_addSum_51 hl (by decide) rfl (fun ls hl => ?_)
          refine lv_iload hx hb dX0_addSum_53 (lv_at hl 0 rfl) ?_
          refine nw_ifeq (tgt := 76) hx hb dX0_addSum_55 (by decide) (by decide) (fun q => absurd q (by decide)) (fun _ => ?_)
          refine lv_aload_n hx hb dX0_addSum_58 rfl (lv_at hl 1 rfl) ?_
          refine x_get F hH 9 (by decide) q50 rfl dX0_addSum_59 ?_
          refine lv_iload hx hb dX0_addSum_62 (lv_at hl 6 rfl) ?_
          refine x_aldv F hH 8 (N := 931) (v := x) rfl (by decide) (by decide) (by omega) (by rw [hga.2.1 8 (by decide), ew, ev3, ex]) dX0_addSum_64 ?_
          refine lv_bipush (v := nI 63) hx hb dX0_addSum_65 (by decide +kernel) ?_
          refine nw_and63 hx hb dX0_addSum_67 (by omega) ?_
          refine lv_iload_n hx hb dX0_addSum_68 rfl (lv_at hl 3 rfl) ?_
          refine lv_bipush (v := nI 63) hx hb dX0_addSum_69 (by decide +kernel) ?_
          refine nw_and63 hx hb dX0_addSum_71 (by omega) ?_
          refine nw_gt (tgt := 76) hx hb dX0_addSum_72 (by decide) (by omega) (fun c72 => ?_) (fun c72 => ?_)
          · refine lv_iload hx hb dX0_addSum_76 (lv_at hl 0 rfl) ?_
            refine nw_ifne (tgt := 109) hx hb dX0_addSum_78 (by decide) (by decide) (fun _ => ?_) (fun q => absurd q (by decide))
            exact J109 x L (b || decide (t / 64 < x / 64)) pl sc2 ar2 ex hgi.2.1 (by omega) hga (by
              first
                | (rw [decide_eq_false (show ¬ t / 64 < x / 64 by omega), Bool.or_false]; exact hpb)
                | (rcases hpb with q | q
                   · omega
                   · rw [q.2]; exact Or.inr ⟨q.1, rfl⟩)) (by omega) (by
              rw [fa_go_cons (by omega)] at hgo
              first
                | (rw [if_pos (Or.inl (show x / 64 ≤ t / 64 by omega))] at hgo; exact hgo)
                | (rcases hpb with q | q
                   · omega
                   · rw [if_pos (Or.inr q.2)] at hgo; exact hgo)) H locs hH ls (lv_sub hl [1, 2, 3, 4, 5, 6] rfl)
          · exact x_vret F hH hrt hlk hQ ⟨⟨hga.1, fun k a b c => hga.2.1 k c⟩, by rw [fa_dom ⟨x, List.mem_of_getElem? hgi.1, by omega⟩, fw_up_self]; exact rp_same hrp (hga.2.1 7 (by decide)) (hga.2.1 8 (by decide))⟩ dX0_addSum_75
  refine lv_bipush (v := nI 19) hx hb dX0_addSum_0 (by decide +kernel) ?_
  refine lv_iload_n hx hb dX0_addSum_2 rfl (lv_at hl 1 rfl) ?_
  refine nw_imul hx hb dX0_addSum_3 ?_
  refine nw_top (fun v3 ev3 => ?_)
  refine lv_istore_n (lv' := [(3, .int (nI v3)), (0, .ref (h 0)), (1, .int (nI r)), (2, .int (nI t))]) hx hb dX0_addSum_4 rfl hl (by decide) rfl (fun ls hl => ?_)
  refine lv_aload_n hx hb dX0_addSum_5 rfl (lv_at hl 1 rfl) ?_
  refine lv_iconst (v := nI 0) hx hb dX0_addSum_6 (by decide +kernel) ?_
  refine x_put F hH 10 (Or.inr (Or.inr rfl)) q51 dX0_addSum_7 (fun sc_11 H locs esc_11 hH => ?_)
  refine lv_iconst (v := nI 0) hx hb dX0_addSum_10 (by decide +kernel) ?_
  refine lv_istore (lv' := [(4, .int (nI 0)), (3, .int (nI v3)), (0, .ref (h 0)), (1, .int (nI r)), (2, .int (nI t))]) hx hb dX0_addSum_11 hl (by decide) rfl (fun ls hl => ?_)
  refine lv_iload_n hx hb dX0_addSum_13 rfl (lv_at hl 1 rfl) ?_
  refine lv_istore (lv' := [(5, .int (nI v3)), (4, .int (nI 0)), (3, .int (nI v3)), (0, .ref (h 0)), (1, .int (nI r)), (2, .int (nI t))]) hx hb dX0_addSum_14 hl (by decide) rfl (fun ls hl => ?_)
  exact L16 v3 ev3 (ar 7 r + 1) 0 v3 [] false 0 sc_11 ar (by omega) (by omega) (by omega) ⟨fun k hk => by rw [esc_11, su_n _ _ hk], fun _ _ => rfl, by rw [esc_11, su_s]; rfl, fun j z hj => by simp at hj⟩ (Or.inl ⟨rfl, rfl⟩) (by simp) (by rw [List.drop_zero, eGG]) _ _ hH ls (lv_sub hl [3, 4, 5, 2, 1, 0] rfl)
end
section
/-! joinOver, rebuild -/
set_option maxHeartbeats 4000000 in
set_option maxRecDepth 100000 in
theorem mX0_joinOver (l : Launch) (dC : Nat → ClassId) (dI : Nat → Nat → Nat) (h : Nat → Nat) (d : ClassId) (sc : Nat → Nat) (ar : Nat → Nat → Nat) (rows : Nat → List Nat) (r d0 : Nat) (hb0 : ∀ k, k < sc 0 → ar 1 k < 7 ∧ ar 2 k < 7 ∧ ar 3 k ≤ 3 ∧ ar 4 k ≤ 3) (hr : r < 49) (hd0 : d0 < 7) (hrp : rp_ ar rows) (hI : fw_I2 (fe_E (sc 0) (ar 1) (ar 2) (ar 3) (ar 4)) d0 r rows) (sz : Nat) : Met l yX0_joinOver (ws_ yX0_joinOver cX0_joinOver 7 none) (r_ 1) (x_Pc dC dI h d sz sc ar [.ref (h 0), .int (nI r), .int (nI d0)]) (va_Qv (fun u => fx_ sc ar u.1 u.2 ∧ ∃ rows2, rp_ u.2 rows2 ∧ fw_I2 (fe_E (sc 0) (ar 1) (ar 2) (ar 3) (ar 4)) d0 (r + 1) rows2) (x_B dC dI (x_A h d sc ar sz) h d) (x_A h d sc ar sz)) 0 0 (x_A h d sc ar sz) := by
  refine x_headv (by decide +kernel) rfl (Nat.le_of_ble_eq_true rfl) ?_
  intro p e s m below meth c A av QQ hrt hlk F hA hH hQ ls hl
  have hx := F.1.1
  have hb := F.1.2.1
  have hts := F.1.2.2.2.2
  have hl : lv_has ls 7 [(0, .ref (h 0)), (1, .int (nI r)), (2, .int (nI d0))] := hl
  have hE := (fe_bound hb0).1
  obtain ⟨f1, ef1⟩ : ∃ z, z = 7 * (r / 7) + d0 := ⟨_, rfl⟩
  obtain ⟨f2, ef2⟩ : ∃ z, z = 7 * d0 + r % 7 := ⟨_, rfl⟩
  by_cases hs : r / 7 = d0 ∨ r % 7 = d0 ∨ r % 8 = 0
  · refine lv_bipush (v := nI 7) hx hb dX0_joinOver_0 (by decide +kernel) ?_
    refine lv_iload_n hx hb dX0_joinOver_2 rfl (lv_at hl 1 rfl) ?_
    refine lv_bipush (v := nI 7) hx hb dX0_joinOver_3 (by decide +kernel) ?_
    refine nw_idiv hx hb dX0_joinOver_5 (by omega) ?_
    refine nw_imul hx hb dX0_joinOver_6 ?_
    refine lv_iload_n hx hb dX0_joinOver_7 rfl (lv_at hl 2 rfl) ?_
    refine nw_iadd hx hb dX0_joinOver_8 ?_
    rw [← ef1]
    refine lv_istore_n (lv' := [(3, .int (nI f1)), (0, .ref (h 0)), (1, .int (nI r)), (2, .int (nI d0))]) hx hb dX0_joinOver_9 rfl hl (by decide) rfl (fun ls hl => ?_)
    refine lv_bipush (v := nI 7) hx hb dX0_joinOver_10 (by decide +kernel) ?_
    refine lv_iload_n hx hb dX0_joinOver_12 rfl (lv_at hl 3 rfl) ?_
    refine nw_imul hx hb dX0_joinOver_13 ?_
    refine lv_iload_n hx hb dX0_joinOver_14 rfl (lv_at hl 2 rfl) ?_
    refine lv_bipush (v := nI 7) hx hb dX0_joinOver_15 (by decide +kernel) ?_
    refine nw_irem hx hb dX0_joinOver_17 (by omega) ?_
    refine nw_iadd hx hb dX0_joinOver_18 ?_
    rw [← ef2]
    refine lv_istore (lv' := [(4, .int (nI f2)), (3, .int (nI f1)), (0, .ref (h 0)), (1, .int (nI r)), (2, .int (nI d0))]) hx hb dX0_joinOver_19 hl (by decide) rfl (fun ls hl => ?_)
    refine lv_iload_n hx hb dX0_joinOver_21 rfl (lv_at hl 3 rfl) ?_
    refine lv_bipush (v := nI 7) hx hb dX0_joinOver_22 (by decide +kernel) ?_
    refine nw_idiv hx hb dX0_joinOver_24 (by omega) ?_
    refine lv_iload_n hx hb dX0_joinOver_25 rfl (lv_at hl 4 rfl) ?_
    refine nw_eq (tgt := 44) hx hb dX0_joinOver_26 (by decide) (by omega) (fun c26 => ?_) (fun c26 => ?_)
    · exact x_vret F hH hrt hlk hQ ⟨fx_rf, rows, hrp, fw_I2_skip hs hr hI⟩ dX0_joinOver_44
    · refine lv_iload_n hx hb dX0_joinOver_29 rfl (lv_at hl 3 rfl) ?_
      refine lv_bipush (v := nI 7) hx hb dX0_joinOver_30 (by decide +kernel) ?_
      refine nw_irem hx hb dX0_joinOver_32 (by omega) ?_
      refine lv_iload_n hx hb dX0_joinOver_33 rfl (lv_at hl 4 rfl) ?_
      refine nw_eq (tgt := 44) hx hb dX0_joinOver_34 (by decide) (by omega) (fun c34 => ?_) (fun c34 => ?_)
      · exact x_vret F hH hrt hlk hQ ⟨fx_rf, rows, hrp, fw_I2_skip hs hr hI⟩ dX0_joinOver_44
      · refine lv_iload_n hx hb dX0_joinOver_37 rfl (lv_at hl 3 rfl) ?_
        refine lv_bipush (v := nI 8) hx hb dX0_joinOver_38 (by decide +kernel) ?_
        refine nw_irem hx hb dX0_joinOver_40 (by omega) ?_
        refine nw_ifne (tgt := 45) hx hb dX0_joinOver_41 (by decide) (by omega) (fun c41 => ?_) (fun c41 => ?_)
        · exact absurd hs (by omega)
        · exact x_vret F hH hrt hlk hQ ⟨fx_rf, rows, hrp, fw_I2_skip hs hr hI⟩ dX0_joinOver_44
  · have hA0 : fw_R (fe_E (sc 0) (ar 1) (ar 2) (ar 3) (ar 4)) d0 (r / 7) d0 (rows f1) := by rw [ef1]; exact fw_I2_get (by omega) hd0 (by omega) (Or.inr (Or.inl rfl)) hI
    have hB0 : fw_R (fe_E (sc 0) (ar 1) (ar 2) (ar 3) (ar 4)) d0 d0 (r % 7) (rows f2) := by rw [ef2]; exact fw_I2_get hd0 (by omega) (by omega) (Or.inl rfl) hI
    have er : 7 * (r / 7) + r % 7 = r := by omega
    have hC0 : fw_R (fe_E (sc 0) (ar 1) (ar 2) (ar 3) (ar 4)) d0 (r / 7) (r % 7) (rows r) := by
      have q := fw_I2_get (l := r / 7) (m := r % 7) (by omega) (by omega) (by omega) (Or.inr (Or.inr (by omega))) hI
      rw [er] at q; exact q
    have n1 : f1 ≠ r := by omega
    have n2 : f2 ≠ r := by omega
    have hl1 := (hrp f1 (by omega)).2.1
    have hl2 := (hrp f2 (by omega)).2.1
    have L48 : ∀ (nO : Nat) (i : Nat) (row1 : List Nat) (sc1 : Nat → Nat) (ar1 : Nat → Nat → Nat), (rows f1).length - i < nO → i ≤ (rows f1).length → fx_ sc ar sc1 ar1 → rp_ ar1 (fw_up rows r row1) → fw_M (fe_E (sc 0) (ar 1) (ar 2) (ar 3) (ar 4)) d0 (r / 7) (r % 7) (rows f1) (rows f2) row1 i 0 → ∀ (H : Heap) (locs : List Loc), xH dC dI A s.heap h d sc1 ar1 H locs → ∀ ls : Array Slot, lv_has ls 7 [(0, .ref (h 0)), (1, .int (nI r)), (2, .int (nI d0)), (3, .int (nI f1)), (4, .int (nI f2)), (5, .int (nI i))] → W p l e (r_ 1) s m av below meth c H locs 0 0 QQ (F0 m 48 ls []) := by
      intro nO
      induction nO with
      | zero => intro _ _ _ _ hlt; exact absurd hlt (Nat.not_lt_zero _)
      | succ nO ihO =>
        intro i row1 sc1 ar1 hnO hi hfx hrp1 hM H locs hH ls hl
        have L62 : ∀ (n : Nat) (j : Nat) (row1 : List Nat) (sc1 : Nat → Nat) (ar1 : Nat → Nat → Nat), (rows f2).length - j < n → i < (rows f1).length → j ≤ (rows f2).length → fx_ sc ar sc1 ar1 → rp_ ar1 (fw_up rows r row1) → fw_M (fe_E (sc 0) (ar 1) (ar 2) (ar 3) (ar 4)) d0 (r / 7) (r % 7) (rows f1) (rows f2) row1 i j → ∀ (H : Heap) (locs : List Loc), xH dC dI A s.heap h d sc1 ar1 H locs → ∀ ls : Array Slot, lv_has ls 7 [(0, .ref (h 0)), (1, .int (nI r)), (2, .int (nI d0)), (3, .int (nI f1)), (4, .int (nI f2)), (5, .int (nI i)), (6, .int (nI j))] → W p l e (r_ 1) s m av below meth c H locs 0 0 QQ (F0 m 62 ls []) := by
          intro n
          induction n with
          | zero => intro _ _ _ _ hlt; exact absurd hlt (Nat.not_lt_zero _)
          | succ n ih =>
            intro j row1 sc1 ar1 hn hlt hj hfx hrp1 hM H locs hH ls hl
            refine lv_iload hx hb dX0_joinOver_62 (lv_at hl 6 rfl) ?_
            refine lv_aload_n hx hb dX0_joinOver_64 rfl (lv_at hl 0 rfl) ?_
            refine x_get F hH 8 (by decide) q49 rfl dX0_joinOver_65 ?_
            refine lv_iload hx hb dX0_joinOver_68 (lv_at hl 4 rfl) ?_
            refine x_aldv F hH 7 (N := 49) (v := ((rows f2).length)) rfl (by decide) (by decide) (by omega) (by rw [(hrp1 f2 (by omega)).1, fw_up_n n2]) dX0_joinOver_70 ?_
            refine nw_ge (tgt := 111) hx hb dX0_joinOver_71 (by decide) (by omega) (fun c71 => ?_) (fun c71 => ?_)
            · refine lv_iinc (v := (nI (i + 1))) (lv' := [(5, .int (nI (i + 1))), (0, .ref (h 0)), (1, .int (nI r)), (2, .int (nI d0)), (3, .int (nI f1)), (4, .int (nI f2)), (6, .int (nI j))]) hx hb dX0_joinOver_111 hl (k := 5) rfl (nw_inc _) (by decide) rfl (fun ls hl => ?_)
              refine lv_goto (tgt := 48) hx hb dX0_joinOver_114 (by decide) ?_
              exact ihO (i + 1) row1 sc1 ar1 (by omega) (by omega) hfx hrp1 (fw_M_next (by rw [← (show j = (rows f2).length by omega)]; exact hM)) H locs hH ls (lv_sub hl [1, 2, 3, 4, 5, 0] rfl)
            · obtain ⟨za, hza, eza, hza4, hzam⟩ := rp_at hrp1 (r := f1) (i := i) (by omega) (by rw [fw_up_n n1]; exact hlt)
              obtain ⟨zb, hzb, ezb, hzb4, hzbm⟩ := rp_at hrp1 (r := f2) (i := j) (by omega) (by rw [fw_up_n n2]; exact c71)
              rw [fw_up_n n1] at hza hzam
              rw [fw_up_n n2] at hzb hzbm
              have hba := fw_S_bound hE (by omega) (by omega) hd0 (hA0.2.1 za hzam)
              have hbb := fw_S_bound hE (by omega) hd0 (by omega) (hB0.2.1 zb hzbm)
              have hMs := fw_M_step hE hd0 (by omega) (by omega) (by omega) (by omega) hA0 hB0 hza hzb hM
              refine lv_aload_n hx hb dX0_joinOver_74 rfl (lv_at hl 0 rfl) ?_
              refine lv_iload_n hx hb dX0_joinOver_75 rfl (lv_at hl 1 rfl) ?_
              refine lv_aload_n hx hb dX0_joinOver_76 rfl (lv_at hl 0 rfl) ?_
              refine x_get F hH 9 (by decide) q50 rfl dX0_joinOver_77 ?_
              refine lv_bipush (v := nI 19) hx hb dX0_joinOver_80 (by decide +kernel) ?_
              refine lv_iload_n hx hb dX0_joinOver_82 rfl (lv_at hl 3 rfl) ?_
              refine nw_imul hx hb dX0_joinOver_83 ?_
              refine lv_iload hx hb dX0_joinOver_84 (lv_at hl 5 rfl) ?_
              refine nw_iadd hx hb dX0_joinOver_86 ?_
              refine x_aldv F hH 8 (N := 931) (v := za) rfl (by decide) (by decide) (by omega) eza dX0_joinOver_87 ?_
              refine lv_aload_n hx hb dX0_joinOver_88 rfl (lv_at hl 0 rfl) ?_
              refine x_get F hH 9 (by decide) q50 rfl dX0_joinOver_89 ?_
              refine lv_bipush (v := nI 19) hx hb dX0_joinOver_92 (by decide +kernel) ?_
              refine lv_iload hx hb dX0_joinOver_94 (lv_at hl 4 rfl) ?_
              refine nw_imul hx hb dX0_joinOver_96 ?_
              refine lv_iload hx hb dX0_joinOver_97 (lv_at hl 6 rfl) ?_
              refine nw_iadd hx hb dX0_joinOver_99 ?_
              refine x_aldv F hH 8 (N := 931) (v := zb) rfl (by decide) (by decide) (by omega) ezb dX0_joinOver_100 ?_
              refine nw_iadd hx hb dX0_joinOver_101 ?_
              refine x_callv F hH hA (As := [.int (nI r), .int (nI (za + zb))]) (rest := []) (fun sz => mX0_addSum l dC dI h d sc1 ar1 (fw_up rows r row1) r (za + zb) hr (by omega) hrp1 (by rw [fw_up_s]; exact hM.1) (by rw [fw_up_s]; exact fw_M_len hE hd0 (by omega) (by omega) hMs) sz) (cwV 2 hts (lw_V q29 q31 qs1 q15 q32) rfl rfl rfl (by decide +kernel) ⟨Nat.le_of_ble_eq_true rfl, Nat.le_of_ble_eq_true rfl⟩) rfl hl.1 (Nat.le_of_ble_eq_true rfl) rfl dX0_joinOver_102 ⟨Nat.zero_le _, Nat.zero_le _⟩ (fun sc_1 ar_2 H locs hp hH => ?_)
              try dsimp only at hp
              obtain ⟨hfx2, hrp2⟩ := hp
              rw [fw_up_up, fw_up_s] at hrp2
              refine lv_iinc (v := (nI (j + 1))) (lv' := [(6, .int (nI (j + 1))), (0, .ref (h 0)), (1, .int (nI r)), (2, .int (nI d0)), (3, .int (nI f1)), (4, .int (nI f2)), (5, .int (nI i))]) hx hb dX0_joinOver_105 hl (k := 6) rfl (nw_inc _) (by decide) rfl (fun ls hl => ?_)
              refine lv_goto (tgt := 62) hx hb dX0_joinOver_108 (by decide) ?_
              exact ih (j + 1) (fa_add row1 (za + zb)) sc_1 ar_2 (by omega) hlt (by omega) (fx_tr hfx hfx2) hrp2 hMs H locs hH ls (lv_sub hl [1, 2, 3, 4, 5, 6, 0] rfl)
        refine lv_iload hx hb dX0_joinOver_48 (lv_at hl 5 rfl) ?_
        refine lv_aload_n hx hb dX0_joinOver_50 rfl (lv_at hl 0 rfl) ?_
        refine x_get F hH 8 (by decide) q49 rfl dX0_joinOver_51 ?_
        refine lv_iload_n hx hb dX0_joinOver_54 rfl (lv_at hl 3 rfl) ?_
        refine x_aldv F hH 7 (N := 49) (v := ((rows f1).length)) rfl (by decide) (by decide) (by omega) (by rw [(hrp1 f1 (by omega)).1, fw_up_n n1]) dX0_joinOver_55 ?_
        refine nw_ge (tgt := 117) hx hb dX0_joinOver_56 (by decide) (by omega) (fun c56 => ?_) (fun c56 => ?_)
        · exact x_vret F hH hrt hlk hQ ⟨hfx, fw_up rows r row1, hrp1, by
            have q := fw_I2_put (l := r / 7) (m := r % 7) (x := row1) (by omega) (by omega) (by omega) (by rw [er]; exact hI) (fw_M_end hE hd0 (by omega) (by omega) (by omega) (by omega) hA0 hB0 (by rw [← (show i = (rows f1).length by omega)]; exact hM))
            rw [er] at q
            exact q⟩ dX0_joinOver_117
        · refine lv_iconst (v := nI 0) hx hb dX0_joinOver_59 (by decide +kernel) ?_
          refine lv_istore (lv' := [(6, .int (nI 0)), (0, .ref (h 0)), (1, .int (nI r)), (2, .int (nI d0)), (3, .int (nI f1)), (4, .int (nI f2)), (5, .int (nI i))]) hx hb dX0_joinOver_60 hl (by decide) rfl (fun ls hl => ?_)
          exact L62 ((rows f2).length + 1) 0 row1 sc1 ar1 (by omega) c56 (by omega) hfx hrp1 hM _ _ hH ls (lv_sub hl [1, 2, 3, 4, 5, 6, 0] rfl)
    refine lv_bipush (v := nI 7) hx hb dX0_joinOver_0 (by decide +kernel) ?_
    refine lv_iload_n hx hb dX0_joinOver_2 rfl (lv_at hl 1 rfl) ?_
    refine lv_bipush (v := nI 7) hx hb dX0_joinOver_3 (by decide +kernel) ?_
    refine nw_idiv hx hb dX0_joinOver_5 (by omega) ?_
    refine nw_imul hx hb dX0_joinOver_6 ?_
    refine lv_iload_n hx hb dX0_joinOver_7 rfl (lv_at hl 2 rfl) ?_
    refine nw_iadd hx hb dX0_joinOver_8 ?_
    rw [← ef1]
    refine lv_istore_n (lv' := [(3, .int (nI f1)), (0, .ref (h 0)), (1, .int (nI r)), (2, .int (nI d0))]) hx hb dX0_joinOver_9 rfl hl (by decide) rfl (fun ls hl => ?_)
    refine lv_bipush (v := nI 7) hx hb dX0_joinOver_10 (by decide +kernel) ?_
    refine lv_iload_n hx hb dX0_joinOver_12 rfl (lv_at hl 3 rfl) ?_
    refine nw_imul hx hb dX0_joinOver_13 ?_
    refine lv_iload_n hx hb dX0_joinOver_14 rfl (lv_at hl 2 rfl) ?_
    refine lv_bipush (v := nI 7) hx hb dX0_joinOver_15 (by decide +kernel) ?_
    refine nw_irem hx hb dX0_joinOver_17 (by omega) ?_
    refine nw_iadd hx hb dX0_joinOver_18 ?_
    rw [← ef2]
    refine lv_istore (lv' := [(4, .int (nI f2)), (3, .int (nI f1)), (0, .ref (h 0)), (1, .int (nI r)), (2, .int (nI d0))]) hx hb dX0_joinOver_19 hl (by decide) rfl (fun ls hl => ?_)
    refine lv_iload_n hx hb dX0_joinOver_21 rfl (lv_at hl 3 rfl) ?_
    refine lv_bipush (v := nI 7) hx hb dX0_joinOver_22 (by decide +kernel) ?_
    refine nw_idiv hx hb dX0_joinOver_24 (by omega) ?_
    refine lv_iload_n hx hb dX0_joinOver_25 rfl (lv_at hl 4 rfl) ?_
    refine nw_eq (tgt := 44) hx hb dX0_joinOver_26 (by decide) (by omega) (fun c26 => ?_) (fun c26 => ?_)
    · exact absurd (show r / 7 = d0 ∨ r % 7 = d0 ∨ r % 8 = 0 by omega) hs
    · refine lv_iload_n hx hb dX0_joinOver_29 rfl (lv_at hl 3 rfl) ?_
      refine lv_bipush (v := nI 7) hx hb dX0_joinOver_30 (by decide +kernel) ?_
      refine nw_irem hx hb dX0_joinOver_32 (by omega) ?_
      refine lv_iload_n hx hb dX0_joinOver_33 rfl (lv_at hl 4 rfl) ?_
      refine nw_eq (tgt := 44) hx hb dX0_joinOver_34 (by decide) (by omega) (fun c34 => ?_) (fun c34 => ?_)
      · exact absurd (show r / 7 = d0 ∨ r % 7 = d0 ∨ r % 8 = 0 by omega) hs
      · refine lv_iload_n hx hb dX0_joinOver_37 rfl (lv_at hl 3 rfl) ?_
        refine lv_bipush (v := nI 8) hx hb dX0_joinOver_38 (by decide +kernel) ?_
        refine nw_irem hx hb dX0_joinOver_40 (by omega) ?_
        refine nw_ifne (tgt := 45) hx hb dX0_joinOver_41 (by decide) (by omega) (fun c41 => ?_) (fun c41 => ?_)
        · refine lv_iconst (v := nI 0) hx hb dX0_joinOver_45 (by decide +kernel) ?_
          refine lv_istore (lv' := [(5, .int (nI 0)), (4, .int (nI f2)), (3, .int (nI f1)), (0, .ref (h 0)), (1, .int (nI r)), (2, .int (nI d0))]) hx hb dX0_joinOver_46 hl (by decide) rfl (fun ls hl => ?_)
          exact L48 ((rows f1).length + 1) 0 (rows r) sc ar (by omega) (by omega) fx_rf (by rw [fw_up_self]; exact hrp) (fw_M_0 hC0) _ _ hH ls (lv_sub hl [3, 4, 5, 2, 1, 0] rfl)
        · exact absurd (show r / 7 = d0 ∨ r % 7 = d0 ∨ r % 8 = 0 by omega) hs
set_option maxHeartbeats 4000000 in
set_option maxRecDepth 100000 in
theorem mX0_rebuild (l : Launch) (dC : Nat → ClassId) (dI : Nat → Nat → Nat) (h : Nat → Nat) (d : ClassId) (sc : Nat → Nat) (ar : Nat → Nat → Nat)  (hb0 : ∀ k, k < sc 0 → ar 1 k < 7 ∧ ar 2 k < 7 ∧ ar 3 k ≤ 3 ∧ ar 4 k ≤ 3) (hn12 : sc 0 ≤ 12) (hT : sc 5 ≤ 20) (hk0 : ∀ k, k < sc 5 → ar 5 k < 7 ∧ ar 6 k < 256) (sz : Nat) : Met l yX0_rebuild (ws_ yX0_rebuild cX0_rebuild 3 none) (r_ 2) (x_Pc dC dI h d sz sc ar [.ref (h 0)]) (va_Qv (fun u => fy_ sc ar u.1 u.2 ∧ ∃ rows, rp_ u.2 rows ∧ fw_OK (fe_E (sc 0) (ar 1) (ar 2) (ar 3) (ar 4)) rows ∧ mk_ok rows (sc 5) (ar 5) (ar 6) (u.2 10)) (x_B dC dI (x_A h d sc ar sz) h d) (x_A h d sc ar sz)) 0 0 (x_A h d sc ar sz) := by
  refine x_headv (by decide +kernel) rfl (Nat.le_of_ble_eq_true rfl) ?_
  intro p e s m below meth c A av QQ hrt hlk F hA hH hQ ls hl
  have hx := F.1.1
  have hb := F.1.2.1
  have hts := F.1.2.2.2.2
  have hl : lv_has ls 3 [(0, .ref (h 0))] := hl
  have L167 : ∀ (n : Nat) (k : Nat) (rows : Nat → List Nat) (sc1 : Nat → Nat) (ar1 : Nat → Nat → Nat), sc 5 - k < n → k ≤ sc 5 → fy_ sc ar sc1 ar1 → rp_ ar1 rows → fw_OK (fe_E (sc 0) (ar 1) (ar 2) (ar 3) (ar 4)) rows → mk_ok rows k (ar 5) (ar 6) (ar1 10) → ∀ (H : Heap) (locs : List Loc), xH dC dI A s.heap h d sc1 ar1 H locs → ∀ ls : Array Slot, lv_has ls 3 [(0, .ref (h 0)), (1, .int (nI k))] → W p l e (r_ 2) s m av below meth c H locs 0 0 QQ (F0 m 167 ls []) := by
    intro n
    induction n with
    | zero => intro _ _ _ _ hlt; exact absurd hlt (Nat.not_lt_zero _)
    | succ n ih =>
      intro k rows sc1 ar1 hn hk hfx hrp1 hOK hmk H locs hH ls hl
      refine lv_iload_n hx hb dX0_rebuild_167 rfl (lv_at hl 1 rfl) ?_
      refine lv_aload_n hx hb dX0_rebuild_168 rfl (lv_at hl 0 rfl) ?_
      refine x_getv F hH 5 (by decide) q46 (v := (sc 5)) rfl (hfx.1 5 (by decide)) dX0_rebuild_169 ?_
      refine nw_ge (tgt := 198) hx hb dX0_rebuild_172 (by decide) (by omega) (fun c172 => ?_) (fun c172 => ?_)
      · exact x_vret F hH hrt hlk hQ ⟨hfx, rows, hrp1, hOK, by rw [← (show k = sc 5 by omega)]; exact hmk⟩ dX0_rebuild_198
      · have hkk := hk0 k c172
        refine lv_aload_n hx hb dX0_rebuild_175 rfl (lv_at hl 0 rfl) ?_
        refine lv_aload_n hx hb dX0_rebuild_176 rfl (lv_at hl 0 rfl) ?_
        refine x_get F hH 6 (by decide) q47 rfl dX0_rebuild_177 ?_
        refine lv_iload_n hx hb dX0_rebuild_180 rfl (lv_at hl 1 rfl) ?_
        refine x_aldv F hH 5 (N := 20) (v := (ar 5 k)) rfl (by decide) (by decide) (by omega) (by rw [hfx.2 5 (by decide) (by decide) (by decide) (by decide)]) dX0_rebuild_181 ?_
        refine lv_aload_n hx hb dX0_rebuild_182 rfl (lv_at hl 0 rfl) ?_
        refine x_get F hH 7 (by decide) q48 rfl dX0_rebuild_183 ?_
        refine lv_iload_n hx hb dX0_rebuild_186 rfl (lv_at hl 1 rfl) ?_
        refine x_aldv F hH 6 (N := 20) (v := (ar 6 k)) rfl (by decide) (by decide) (by omega) (by rw [hfx.2 6 (by decide) (by decide) (by decide) (by decide)]) dX0_rebuild_187 ?_
        refine lv_iconst (v := nI 1) hx hb dX0_rebuild_188 (by decide +kernel) ?_
        refine x_callv F hH hA (As := [.int (nI (ar 5 k)), .int (nI (ar 6 k)), .int (nI 1)]) (rest := []) (fun sz => mX0_count l dC dI h d sc1 ar1 rows (fun z => z + 1) (ar 5 k) (ar 6 k) (nI 1) hkk.1 hkk.2 hrp1 (fun m hm => fa_stair_inj (hOK (ar 5 k) m hkk.1 hm).1) (fun m a b _ _ _ _ => nI_add _ 1) sz) (cwV 3 hts (lw_V q37 q39 qs3 q15 q40) rfl rfl rfl (by decide +kernel) ⟨Nat.le_of_ble_eq_true rfl, Nat.le_of_ble_eq_true rfl⟩) rfl hl.1 (Nat.le_of_ble_eq_true rfl) rfl dX0_rebuild_189 ⟨Nat.zero_le _, Nat.zero_le _⟩ (fun sc_1 ar_2 H locs hp hH => ?_)
        try dsimp only at hp
        obtain ⟨hp1, hp2, hp3⟩ := hp
        refine lv_iinc (v := (nI (k + 1))) (lv' := [(1, .int (nI (k + 1))), (0, .ref (h 0))]) hx hb dX0_rebuild_192 hl (k := 1) rfl (nw_inc _) (by decide) rfl (fun ls hl => ?_)
        refine lv_goto (tgt := 167) hx hb dX0_rebuild_195 (by decide) ?_
        exact ih (k + 1) rows sc_1 ar_2 (by omega) (by omega) (fy_10 hfx hp1 hp2) (rp_same hrp1 (hp2 7 (by decide)) (hp2 8 (by decide))) hOK (mk_step hmk hp3) H locs hH ls (lv_sub hl [1, 0] rfl)
  have L145 : ∀ (n : Nat) (k : Nat) (rows : Nat → List Nat) (sc1 : Nat → Nat) (ar1 : Nat → Nat → Nat), 1792 - k < n → k ≤ 1792 → fy_ sc ar sc1 ar1 → rp_ ar1 rows → fw_OK (fe_E (sc 0) (ar 1) (ar 2) (ar 3) (ar 4)) rows → (∀ j, j < k → ar1 10 j = 0) → ∀ (H : Heap) (locs : List Loc), xH dC dI A s.heap h d sc1 ar1 H locs → ∀ ls : Array Slot, lv_has ls 3 [(0, .ref (h 0)), (1, .int (nI k))] → W p l e (r_ 2) s m av below meth c H locs 0 0 QQ (F0 m 145 ls []) := by
    intro n
    induction n with
    | zero => intro _ _ _ _ hlt; exact absurd hlt (Nat.not_lt_zero _)
    | succ n ih =>
      intro k rows sc1 ar1 hn hk hfx hrp1 hOK hz H locs hH ls hl
      refine lv_iload_n hx hb dX0_rebuild_145 rfl (lv_at hl 1 rfl) ?_
      refine lv_sipush (v := nI 1792) hx hb dX0_rebuild_146 (by decide +kernel) ?_
      refine nw_ge (tgt := 165) hx hb dX0_rebuild_149 (by decide) (by omega) (fun c149 => ?_) (fun c149 => ?_)
      · refine lv_iconst (v := nI 0) hx hb dX0_rebuild_165 (by decide +kernel) ?_
        refine lv_istore_n (lv' := [(1, .int (nI 0)), (0, .ref (h 0))]) hx hb dX0_rebuild_166 rfl hl (by decide) rfl (fun ls hl => ?_)
        exact L167 (sc 5 + 1) 0 rows sc1 ar1 (by omega) (by omega) hfx hrp1 hOK (mk_0 (fun j hj => hz j (by omega))) _ _ hH ls (lv_sub hl [1, 0] rfl)
      · refine lv_aload_n hx hb dX0_rebuild_152 rfl (lv_at hl 0 rfl) ?_
        refine x_get F hH 12 (by decide) q53 rfl dX0_rebuild_153 ?_
        refine lv_iload_n hx hb dX0_rebuild_156 rfl (lv_at hl 1 rfl) ?_
        refine lv_iconst (v := nI 0) hx hb dX0_rebuild_157 (by decide +kernel) ?_
        refine x_ast F hH 10 (N := 1792) rfl (by decide) (by decide) (by omega) dX0_rebuild_158 (fun ar_3 H locs ear_3 hH => ?_)
        refine lv_iinc (v := (nI (k + 1))) (lv' := [(1, .int (nI (k + 1))), (0, .ref (h 0))]) hx hb dX0_rebuild_159 hl (k := 1) rfl (nw_inc _) (by decide) rfl (fun ls hl => ?_)
        refine lv_goto (tgt := 145) hx hb dX0_rebuild_162 (by decide) ?_
        exact ih (k + 1) rows sc1 ar_3 (by omega) (by omega) (fy_10 hfx rfl (fun q hq => by rw [ear_3, au_k _ _ _ hq])) (rp_same hrp1 (by rw [ear_3, au_k _ _ _ (by decide)]) (by rw [ear_3, au_k _ _ _ (by decide)])) hOK (fun j hj => by
          rw [ear_3]
          by_cases q : j = k
          · rw [q, au_s]
          · rw [au_j _ _ _ q]; exact hz j (by omega)) H locs hH ls (lv_sub hl [1, 0] rfl)
  have L111 : ∀ (nO : Nat) (d0 : Nat) (rows : Nat → List Nat) (sc1 : Nat → Nat) (ar1 : Nat → Nat → Nat), 7 - d0 < nO → d0 ≤ 7 → fx_ sc ar sc1 ar1 → rp_ ar1 rows → fw_I2 (fe_E (sc 0) (ar 1) (ar 2) (ar 3) (ar 4)) d0 0 rows → ∀ (H : Heap) (locs : List Loc), xH dC dI A s.heap h d sc1 ar1 H locs → ∀ ls : Array Slot, lv_has ls 3 [(0, .ref (h 0)), (1, .int (nI d0))] → W p l e (r_ 2) s m av below meth c H locs 0 0 QQ (F0 m 111 ls []) := by
    intro nO
    induction nO with
    | zero => intro _ _ _ _ hlt; exact absurd hlt (Nat.not_lt_zero _)
    | succ nO ihO =>
      intro d0 rows sc1 ar1 hnO hd8 hfx hrp1 hI H locs hH ls hl
      have L119 : ∀ (n : Nat) (r : Nat) (rows : Nat → List Nat) (sc1 : Nat → Nat) (ar1 : Nat → Nat → Nat), 49 - r < n → d0 < 7 → r ≤ 49 → fx_ sc ar sc1 ar1 → rp_ ar1 rows → fw_I2 (fe_E (sc 0) (ar 1) (ar 2) (ar 3) (ar 4)) d0 r rows → ∀ (H : Heap) (locs : List Loc), xH dC dI A s.heap h d sc1 ar1 H locs → ∀ ls : Array Slot, lv_has ls 3 [(0, .ref (h 0)), (1, .int (nI d0)), (2, .int (nI r))] → W p l e (r_ 2) s m av below meth c H locs 0 0 QQ (F0 m 119 ls []) := by
        intro n
        induction n with
        | zero => intro _ _ _ _ hlt; exact absurd hlt (Nat.not_lt_zero _)
        | succ n ih =>
          intro r rows sc1 ar1 hn hd7 hr hfx hrp1 hI H locs hH ls hl
          refine lv_iload_n hx hb dX0_rebuild_119 rfl (lv_at hl 2 rfl) ?_
          refine lv_bipush (v := nI 49) hx hb dX0_rebuild_120 (by decide +kernel) ?_
          refine nw_ge (tgt := 137) hx hb dX0_rebuild_122 (by decide) (by omega) (fun c122 => ?_) (fun c122 => ?_)
          · refine lv_iinc (v := (nI (d0 + 1))) (lv' := [(1, .int (nI (d0 + 1))), (0, .ref (h 0)), (2, .int (nI r))]) hx hb dX0_rebuild_137 hl (k := 1) rfl (nw_inc _) (by decide) rfl (fun ls hl => ?_)
            refine lv_goto (tgt := 111) hx hb dX0_rebuild_140 (by decide) ?_
            exact ihO (d0 + 1) rows sc1 ar1 (by omega) (by omega) hfx hrp1 (fw_I2_next (by rw [← (show r = 49 by omega)]; exact hI)) H locs hH ls (lv_sub hl [1, 0] rfl)
          · refine lv_aload_n hx hb dX0_rebuild_125 rfl (lv_at hl 0 rfl) ?_
            refine lv_iload_n hx hb dX0_rebuild_126 rfl (lv_at hl 2 rfl) ?_
            refine lv_iload_n hx hb dX0_rebuild_127 rfl (lv_at hl 1 rfl) ?_
            refine x_callv F hH hA (As := [.int (nI r), .int (nI d0)]) (rest := []) (fun sz => mX0_joinOver l dC dI h d sc1 ar1 rows r d0 (fx_lines hfx hb0) c122 hd7 hrp1 (by rw [fx_E hfx]; exact hI) sz) (cwV 2 hts (lw_V q33 q35 qs2 q15 q36) rfl rfl rfl (by decide +kernel) ⟨Nat.le_of_ble_eq_true rfl, Nat.le_of_ble_eq_true rfl⟩) rfl hl.1 (Nat.le_of_ble_eq_true rfl) rfl dX0_rebuild_128 ⟨Nat.zero_le _, Nat.zero_le _⟩ (fun sc_4 ar_5 H locs hp hH => ?_)
            try dsimp only at hp
            obtain ⟨hfx2, rows2, hrp2, hI2⟩ := hp
            rw [fx_E hfx] at hI2
            refine lv_iinc (v := (nI (r + 1))) (lv' := [(2, .int (nI (r + 1))), (0, .ref (h 0)), (1, .int (nI d0))]) hx hb dX0_rebuild_131 hl (k := 2) rfl (nw_inc _) (by decide) rfl (fun ls hl => ?_)
            refine lv_goto (tgt := 119) hx hb dX0_rebuild_134 (by decide) ?_
            exact ih (r + 1) rows2 sc_4 ar_5 (by omega) hd7 (by omega) (fx_tr hfx hfx2) hrp2 hI2 H locs hH ls (lv_sub hl [1, 2, 0] rfl)
      refine lv_iload_n hx hb dX0_rebuild_111 rfl (lv_at hl 1 rfl) ?_
      refine lv_bipush (v := nI 7) hx hb dX0_rebuild_112 (by decide +kernel) ?_
      refine nw_ge (tgt := 143) hx hb dX0_rebuild_114 (by decide) (by omega) (fun c114 => ?_) (fun c114 => ?_)
      · refine lv_iconst (v := nI 0) hx hb dX0_rebuild_143 (by decide +kernel) ?_
        refine lv_istore_n (lv' := [(1, .int (nI 0)), (0, .ref (h 0))]) hx hb dX0_rebuild_144 rfl hl (by decide) rfl (fun ls hl => ?_)
        exact L145 1793 0 rows sc1 ar1 (by omega) (by omega) (fx_fy hfx) hrp1 (fw_I2_end hb0 (by rw [← (show d0 = 7 by omega)]; exact hI)) lt_0 _ _ hH ls (lv_sub hl [1, 0] rfl)
      · refine lv_iconst (v := nI 0) hx hb dX0_rebuild_117 (by decide +kernel) ?_
        refine lv_istore_n (lv' := [(2, .int (nI 0)), (0, .ref (h 0)), (1, .int (nI d0))]) hx hb dX0_rebuild_118 rfl hl (by decide) rfl (fun ls hl => ?_)
        exact L119 50 0 rows sc1 ar1 (by omega) c114 (by omega) hfx hrp1 hI _ _ hH ls (lv_sub hl [1, 2, 0] rfl)
  have L44 : ∀ (n : Nat) (k : Nat) (rows : Nat → List Nat) (sc1 : Nat → Nat) (ar1 : Nat → Nat → Nat), sc 0 - k < n → k ≤ sc 0 → fx_ sc ar sc1 ar1 → rp_ ar1 rows → fw_I1 k (ar 1) (ar 2) (ar 3) (ar 4) rows → ∀ (H : Heap) (locs : List Loc), xH dC dI A s.heap h d sc1 ar1 H locs → ∀ ls : Array Slot, lv_has ls 3 [(0, .ref (h 0)), (1, .int (nI k))] → W p l e (r_ 2) s m av below meth c H locs 0 0 QQ (F0 m 44 ls []) := by
    intro n
    induction n with
    | zero => intro _ _ _ _ hlt; exact absurd hlt (Nat.not_lt_zero _)
    | succ n ih =>
      intro k rows sc1 ar1 hn hk hfx hrp1 hI H locs hH ls hl
      refine lv_iload_n hx hb dX0_rebuild_44 rfl (lv_at hl 1 rfl) ?_
      refine lv_aload_n hx hb dX0_rebuild_45 rfl (lv_at hl 0 rfl) ?_
      refine x_getv F hH 0 (by decide) q41 (v := (sc 0)) rfl (hfx.1 0 (by decide)) dX0_rebuild_46 ?_
      refine nw_ge (tgt := 109) hx hb dX0_rebuild_49 (by decide) (by omega) (fun c49 => ?_) (fun c49 => ?_)
      · refine lv_iconst (v := nI 0) hx hb dX0_rebuild_109 (by decide +kernel) ?_
        refine lv_istore_n (lv' := [(1, .int (nI 0)), (0, .ref (h 0))]) hx hb dX0_rebuild_110 rfl hl (by decide) rfl (fun ls hl => ?_)
        exact L111 8 0 rows sc1 ar1 (by omega) (by omega) hfx hrp1 (fw_I2_start (by rw [← (show k = sc 0 by omega)]; exact hI)) _ _ hH ls (lv_sub hl [1, 0] rfl)
      · have hkk := hb0 k c49
        refine lv_aload_n hx hb dX0_rebuild_52 rfl (lv_at hl 0 rfl) ?_
        refine x_get F hH 1 (by decide) q42 rfl dX0_rebuild_53 ?_
        refine lv_iload_n hx hb dX0_rebuild_56 rfl (lv_at hl 1 rfl) ?_
        refine x_aldv F hH 1 (N := 12) (v := (ar 1 k)) rfl (by decide) (by decide) (by omega) (by rw [hfx.2 1 (by decide) (by decide) (by decide)]) dX0_rebuild_57 ?_
        refine lv_aload_n hx hb dX0_rebuild_58 rfl (lv_at hl 0 rfl) ?_
        refine x_get F hH 2 (by decide) q43 rfl dX0_rebuild_59 ?_
        refine lv_iload_n hx hb dX0_rebuild_62 rfl (lv_at hl 1 rfl) ?_
        refine x_aldv F hH 2 (N := 12) (v := (ar 2 k)) rfl (by decide) (by decide) (by omega) (by rw [hfx.2 2 (by decide) (by decide) (by decide)]) dX0_rebuild_63 ?_
        refine nw_eq (tgt := 103) hx hb dX0_rebuild_64 (by decide) (by omega) (fun c64 => ?_) (fun c64 => ?_)
        · refine lv_iinc (v := (nI (k + 1))) (lv' := [(1, .int (nI (k + 1))), (0, .ref (h 0))]) hx hb dX0_rebuild_103 hl (k := 1) rfl (nw_inc _) (by decide) rfl (fun ls hl => ?_)
          refine lv_goto (tgt := 44) hx hb dX0_rebuild_106 (by decide) ?_
          exact ih (k + 1) rows sc1 ar1 (by omega) (by omega) hfx hrp1 (fw_I1_loop c64 hI) H locs hH ls (lv_sub hl [1, 0] rfl)
        · have hI2 := fw_I1_step (by omega) hkk.1 hkk.2.1 c64 hI
          have hln := fw_I1_len (fun j hj => hb0 j (by omega)) hI2 (7 * ar 1 k + ar 2 k) (by omega)
          rw [fw_up_s] at hln
          refine lv_aload_n hx hb dX0_rebuild_67 rfl (lv_at hl 0 rfl) ?_
          refine lv_bipush (v := nI 7) hx hb dX0_rebuild_68 (by decide +kernel) ?_
          refine lv_aload_n hx hb dX0_rebuild_70 rfl (lv_at hl 0 rfl) ?_
          refine x_get F hH 1 (by decide) q42 rfl dX0_rebuild_71 ?_
          refine lv_iload_n hx hb dX0_rebuild_74 rfl (lv_at hl 1 rfl) ?_
          refine x_aldv F hH 1 (N := 12) (v := (ar 1 k)) rfl (by decide) (by decide) (by omega) (by rw [hfx.2 1 (by decide) (by decide) (by decide)]) dX0_rebuild_75 ?_
          refine nw_imul hx hb dX0_rebuild_76 ?_
          refine lv_aload_n hx hb dX0_rebuild_77 rfl (lv_at hl 0 rfl) ?_
          refine x_get F hH 2 (by decide) q43 rfl dX0_rebuild_78 ?_
          refine lv_iload_n hx hb dX0_rebuild_81 rfl (lv_at hl 1 rfl) ?_
          refine x_aldv F hH 2 (N := 12) (v := (ar 2 k)) rfl (by decide) (by decide) (by omega) (by rw [hfx.2 2 (by decide) (by decide) (by decide)]) dX0_rebuild_82 ?_
          refine nw_iadd hx hb dX0_rebuild_83 ?_
          refine lv_bipush (v := nI 64) hx hb dX0_rebuild_84 (by decide +kernel) ?_
          refine lv_aload_n hx hb dX0_rebuild_86 rfl (lv_at hl 0 rfl) ?_
          refine x_get F hH 3 (by decide) q44 rfl dX0_rebuild_87 ?_
          refine lv_iload_n hx hb dX0_rebuild_90 rfl (lv_at hl 1 rfl) ?_
          refine x_aldv F hH 3 (N := 12) (v := (ar 3 k)) rfl (by decide) (by decide) (by omega) (by rw [hfx.2 3 (by decide) (by decide) (by decide)]) dX0_rebuild_91 ?_
          refine nw_imul hx hb dX0_rebuild_92 ?_
          refine lv_aload_n hx hb dX0_rebuild_93 rfl (lv_at hl 0 rfl) ?_
          refine x_get F hH 4 (by decide) q45 rfl dX0_rebuild_94 ?_
          refine lv_iload_n hx hb dX0_rebuild_97 rfl (lv_at hl 1 rfl) ?_
          refine x_aldv F hH 4 (N := 12) (v := (ar 4 k)) rfl (by decide) (by decide) (by omega) (by rw [hfx.2 4 (by decide) (by decide) (by decide)]) dX0_rebuild_98 ?_
          refine nw_iadd hx hb dX0_rebuild_99 ?_
          refine x_callv F hH hA (As := [.int (nI ((7 * (ar 1 k)) + (ar 2 k))), .int (nI ((64 * (ar 3 k)) + (ar 4 k)))]) (rest := []) (fun sz => mX0_addSum l dC dI h d sc1 ar1 rows (7 * ar 1 k + ar 2 k) (64 * ar 3 k + ar 4 k) (by omega) (by omega) hrp1 ((hI (ar 1 k) (ar 2 k) hkk.1 hkk.2.1).2 c64).1 (by omega) sz) (cwV 2 hts (lw_V q29 q31 qs1 q15 q32) rfl rfl rfl (by decide +kernel) ⟨Nat.le_of_ble_eq_true rfl, Nat.le_of_ble_eq_true rfl⟩) rfl hl.1 (Nat.le_of_ble_eq_true rfl) rfl dX0_rebuild_100 ⟨Nat.zero_le _, Nat.zero_le _⟩ (fun sc_6 ar_7 H locs hp hH => ?_)
          try dsimp only at hp
          obtain ⟨hfx2, hrp2⟩ := hp
          refine lv_iinc (v := (nI (k + 1))) (lv' := [(1, .int (nI (k + 1))), (0, .ref (h 0))]) hx hb dX0_rebuild_103 hl (k := 1) rfl (nw_inc _) (by decide) rfl (fun ls hl => ?_)
          refine lv_goto (tgt := 44) hx hb dX0_rebuild_106 (by decide) ?_
          exact ih (k + 1) _ sc_6 ar_7 (by omega) (by omega) (fx_tr hfx hfx2) hrp2 hI2 H locs hH ls (lv_sub hl [1, 0] rfl)
  have L2 : ∀ (n : Nat) (r1 : Nat) (ar1 : Nat → Nat → Nat), 49 - r1 < n → r1 ≤ 49 → r0_ ar ar1 r1 → ∀ (H : Heap) (locs : List Loc), xH dC dI A s.heap h d sc ar1 H locs → ∀ ls : Array Slot, lv_has ls 3 [(0, .ref (h 0)), (1, .int (nI r1))] → W p l e (r_ 2) s m av below meth c H locs 0 0 QQ (F0 m 2 ls []) := by
    intro n
    induction n with
    | zero => intro _ _ hlt; exact absurd hlt (Nat.not_lt_zero _)
    | succ n ih =>
      intro r1 ar1 hn hr1 h0r H locs hH ls hl
      refine lv_iload_n hx hb dX0_rebuild_2 rfl (lv_at hl 1 rfl) ?_
      refine lv_bipush (v := nI 49) hx hb dX0_rebuild_3 (by decide +kernel) ?_
      refine nw_ge (tgt := 42) hx hb dX0_rebuild_5 (by decide) (by omega) (fun c5 => ?_) (fun c5 => ?_)
      · refine lv_iconst (v := nI 0) hx hb dX0_rebuild_42 (by decide +kernel) ?_
        refine lv_istore_n (lv' := [(1, .int (nI 0)), (0, .ref (h 0))]) hx hb dX0_rebuild_43 rfl hl (by decide) rfl (fun ls hl => ?_)
        exact L44 (sc 0 + 1) 0 rw_0 sc ar1 (by omega) (by omega) ⟨fun _ _ => rfl, fun k a b _ => h0r.1 k a b⟩ (r0_end (by rw [← (show r1 = 49 by omega)]; exact h0r)) (fw_I1_0 (fun r hr => rfl)) _ _ hH ls (lv_sub hl [1, 0] rfl)
      · refine lv_aload_n hx hb dX0_rebuild_8 rfl (lv_at hl 0 rfl) ?_
        refine x_get F hH 8 (by decide) q49 rfl dX0_rebuild_9 ?_
        refine lv_iload_n hx hb dX0_rebuild_12 rfl (lv_at hl 1 rfl) ?_
        refine lv_iload_n hx hb dX0_rebuild_13 rfl (lv_at hl 1 rfl) ?_
        refine lv_bipush (v := nI 8) hx hb dX0_rebuild_14 (by decide +kernel) ?_
        refine nw_irem hx hb dX0_rebuild_16 (by omega) ?_
        refine nw_ifne (tgt := 24) hx hb dX0_rebuild_17 (by decide) (by omega) (fun c17 => ?_) (fun c17 => ?_)
        · refine lv_iconst (v := nI 0) hx hb dX0_rebuild_24 (by decide +kernel) ?_
          refine x_ast F hH 7 (N := 49) rfl (by decide) (by decide) (by omega) dX0_rebuild_25 (fun ar_8 H locs ear_8 hH => ?_)
          refine lv_aload_n hx hb dX0_rebuild_26 rfl (lv_at hl 0 rfl) ?_
          refine x_get F hH 9 (by decide) q50 rfl dX0_rebuild_27 ?_
          refine lv_bipush (v := nI 19) hx hb dX0_rebuild_30 (by decide +kernel) ?_
          refine lv_iload_n hx hb dX0_rebuild_32 rfl (lv_at hl 1 rfl) ?_
          refine nw_imul hx hb dX0_rebuild_33 ?_
          refine lv_iconst (v := nI 0) hx hb dX0_rebuild_34 (by decide +kernel) ?_
          refine x_ast F hH 8 (N := 931) rfl (by decide) (by decide) (by omega) dX0_rebuild_35 (fun ar_9 H locs ear_9 hH => ?_)
          refine lv_iinc (v := (nI (r1 + 1))) (lv' := [(1, .int (nI (r1 + 1))), (0, .ref (h 0))]) hx hb dX0_rebuild_36 hl (k := 1) rfl (nw_inc _) (by decide) rfl (fun ls hl => ?_)
          refine lv_goto (tgt := 2) hx hb dX0_rebuild_39 (by decide) ?_
          exact ih (r1 + 1) ar_9 (by omega) (by omega) (r0_step h0r (by unfold rw_0; first | (rw [if_neg c17]; rfl) | (rw [if_pos c17]; rfl)) ear_8 ear_9) H locs hH ls (lv_sub hl [1, 0] rfl)
        · refine lv_iconst (v := nI 1) hx hb dX0_rebuild_20 (by decide +kernel) ?_
          refine lv_goto (tgt := 25) hx hb dX0_rebuild_21 (by decide) ?_
          refine x_ast F hH 7 (N := 49) rfl (by decide) (by decide) (by omega) dX0_rebuild_25 (fun ar_10 H locs ear_10 hH => ?_)
          refine lv_aload_n hx hb dX0_rebuild_26 rfl (lv_at hl 0 rfl) ?_
          refine x_get F hH 9 (by decide) q50 rfl dX0_rebuild_27 ?_
          refine lv_bipush (v := nI 19) hx hb dX0_rebuild_30 (by decide +kernel) ?_
          refine lv_iload_n hx hb dX0_rebuild_32 rfl (lv_at hl 1 rfl) ?_
          refine nw_imul hx hb dX0_rebuild_33 ?_
          refine lv_iconst (v := nI 0) hx hb dX0_rebuild_34 (by decide +kernel) ?_
          refine x_ast F hH 8 (N := 931) rfl (by decide) (by decide) (by omega) dX0_rebuild_35 (fun ar_11 H locs ear_11 hH => ?_)
          refine lv_iinc (v := (nI (r1 + 1))) (lv' := [(1, .int (nI (r1 + 1))), (0, .ref (h 0))]) hx hb dX0_rebuild_36 hl (k := 1) rfl (nw_inc _) (by decide) rfl (fun ls hl => ?_)
          refine lv_goto (tgt := 2) hx hb dX0_rebuild_39 (by decide) ?_
          exact ih (r1 + 1) ar_11 (by omega) (by omega) (r0_step h0r (by unfold rw_0; first | (rw [if_neg c17]; rfl) | (rw [if_pos c17]; rfl)) ear_10 ear_11) H locs hH ls (lv_sub hl [1, 0] rfl)
  refine lv_iconst (v := nI 0) hx hb dX0_rebuild_0 (by decide +kernel) ?_
  refine lv_istore_n (lv' := [(1, .int (nI 0)), (0, .ref (h 0))]) hx hb dX0_rebuild_1 rfl hl (by decide) rfl (fun ls hl => ?_)
  exact L2 50 0 ar (by omega) (by omega) ⟨fun _ _ _ => rfl, lt_0⟩ _ _ hH ls (lv_sub hl [1, 0] rfl)
end
section
/-! the component's changes -/
set_option maxHeartbeats 4000000 in
set_option maxRecDepth 100000 in
theorem mX0_link (l : Launch) (dC : Nat → ClassId) (dI : Nat → Nat → Nat) (h : Nat → Nat) (d : ClassId) (sc : Nat → Nat) (ar : Nat → Nat → Nat) (f0 t0 p0 q0 : Int32) (hI : x_I sc ar) (sz : Nat) : Met l yX0_link (ws_ yX0_link cX0_link 5 (some .int)) (r_ 3) (x_Pc dC dI h d sz sc ar [.ref (h 0), .int f0, .int t0, .int p0, .int q0]) (va_Qi (fun r u => x_I u.1 u.2 ∧ nvX u.1 u.2 = (tr_link (nvX sc ar) f0 t0 p0 q0).1 ∧ r = (tr_link (nvX sc ar) f0 t0 p0 q0).2) (x_B dC dI (x_A h d sc ar sz) h d) (x_A h d sc ar sz)) 0 0 (x_A h d sc ar sz) := by
  refine x_headi (by decide +kernel) rfl (Nat.le_of_ble_eq_true rfl) ?_
  intro p e s m below meth c A av QQ hrt hlk F hA hH hQ ls hl
  have hx := F.1.1
  have hb := F.1.2.1
  have hts := F.1.2.2.2.2
  have hl : lv_has ls 5 [(0, .ref (h 0)), (1, .int f0), (2, .int t0), (3, .int p0), (4, .int q0)] := hl
  have ho := hI.1
  have hn12 : sc 0 ≤ 12 := ho.1
  refine lv_iload_n hx hb dX0_link_0 rfl (lv_at hl 1 rfl) ?_
  refine x_calls F hH (As := [.int f0]) (rest := []) (mX0_isPlace l f0) (va_cwS 1 hts (lw_S q86 q87 q15 q88) rfl rfl rfl (by decide +kernel) ⟨Nat.le_of_ble_eq_true rfl, Nat.le_of_ble_eq_true rfl⟩) rfl hl.1 (Nat.le_of_ble_eq_true rfl) rfl dX0_link_1 ⟨Nat.zero_le _, Nat.zero_le _⟩ (fun r H locs hp hH => ?_)
  try dsimp only at hp
  rcases hp with ⟨hg1, rfl⟩ | ⟨hg1, rfl⟩
  · refine nw_ifeq (tgt := 43) hx hb dX0_link_4 (by decide) (by decide) (fun q => absurd q (by decide)) (fun _ => ?_)
    refine lv_iload_n hx hb dX0_link_7 rfl (lv_at hl 2 rfl) ?_
    refine x_calls F hH (As := [.int t0]) (rest := []) (mX0_isPlace l t0) (va_cwS 1 hts (lw_S q86 q87 q15 q88) rfl rfl rfl (by decide +kernel) ⟨Nat.le_of_ble_eq_true rfl, Nat.le_of_ble_eq_true rfl⟩) rfl hl.1 (Nat.le_of_ble_eq_true rfl) rfl dX0_link_8 ⟨Nat.zero_le _, Nat.zero_le _⟩ (fun r H locs hp hH => ?_)
    try dsimp only at hp
    rcases hp with ⟨hg2, rfl⟩ | ⟨hg2, rfl⟩
    · refine nw_ifeq (tgt := 43) hx hb dX0_link_11 (by decide) (by decide) (fun q => absurd q (by decide)) (fun _ => ?_)
      refine lv_iload_n hx hb dX0_link_14 rfl (lv_at hl 3 rfl) ?_
      refine lv_if_lt (tgt := 43) hx hb dX0_link_15 (by decide) (fun c15 => ?_) (fun c15 => ?_)
      · first | rw [nw_lt_c (by decide)] at c31 | rw [nw_lt0] at c25 | rw [nw_lt_c (by decide)] at c20 | rw [nw_lt0] at c15 | skip
        have hno : ¬ (sp_p f0 ∧ sp_p t0 ∧ sp_3 p0 ∧ sp_3 q0 ∧ nv_n (nvX sc ar) < 12) := by
          show ¬ ((0 ≤ f0.toInt ∧ f0.toInt ≤ 6) ∧ (0 ≤ t0.toInt ∧ t0.toInt ≤ 6) ∧ (0 ≤ p0.toInt ∧ p0.toInt ≤ 3) ∧ (0 ≤ q0.toInt ∧ q0.toInt ≤ 3) ∧ sc 0 < 12)
          omega
        have htr : tr_link (nvX sc ar) f0 t0 p0 q0 = ((nvX sc ar), -1) := ci_f hno
        refine lv_iconst (v := -1) hx hb dX0_link_43 (by decide +kernel) ?_
        exact x_iret F hH hrt hlk hQ ⟨hI, by rw [htr], by rw [htr]⟩ dX0_link_44
      · rw [nw_lt0] at c15
        refine lv_iload_n hx hb dX0_link_18 rfl (lv_at hl 3 rfl) ?_
        refine lv_iconst (v := nI 3) hx hb dX0_link_19 (by decide +kernel) ?_
        refine lv_icmp_gt (tgt := 43) hx hb dX0_link_20 (by decide) (fun c20 => ?_) (fun c20 => ?_)
        · first | rw [nw_lt_c (by decide)] at c31 | rw [nw_lt0] at c25 | rw [nw_lt_c (by decide)] at c20 | rw [nw_lt0] at c15 | skip
          have hno : ¬ (sp_p f0 ∧ sp_p t0 ∧ sp_3 p0 ∧ sp_3 q0 ∧ nv_n (nvX sc ar) < 12) := by
            show ¬ ((0 ≤ f0.toInt ∧ f0.toInt ≤ 6) ∧ (0 ≤ t0.toInt ∧ t0.toInt ≤ 6) ∧ (0 ≤ p0.toInt ∧ p0.toInt ≤ 3) ∧ (0 ≤ q0.toInt ∧ q0.toInt ≤ 3) ∧ sc 0 < 12)
            omega
          have htr : tr_link (nvX sc ar) f0 t0 p0 q0 = ((nvX sc ar), -1) := ci_f hno
          refine lv_iconst (v := -1) hx hb dX0_link_43 (by decide +kernel) ?_
          exact x_iret F hH hrt hlk hQ ⟨hI, by rw [htr], by rw [htr]⟩ dX0_link_44
        · rw [nw_lt_c (by decide)] at c20
          refine lv_iload hx hb dX0_link_23 (lv_at hl 4 rfl) ?_
          refine lv_if_lt (tgt := 43) hx hb dX0_link_25 (by decide) (fun c25 => ?_) (fun c25 => ?_)
          · first | rw [nw_lt_c (by decide)] at c31 | rw [nw_lt0] at c25 | rw [nw_lt_c (by decide)] at c20 | rw [nw_lt0] at c15 | skip
            have hno : ¬ (sp_p f0 ∧ sp_p t0 ∧ sp_3 p0 ∧ sp_3 q0 ∧ nv_n (nvX sc ar) < 12) := by
              show ¬ ((0 ≤ f0.toInt ∧ f0.toInt ≤ 6) ∧ (0 ≤ t0.toInt ∧ t0.toInt ≤ 6) ∧ (0 ≤ p0.toInt ∧ p0.toInt ≤ 3) ∧ (0 ≤ q0.toInt ∧ q0.toInt ≤ 3) ∧ sc 0 < 12)
              omega
            have htr : tr_link (nvX sc ar) f0 t0 p0 q0 = ((nvX sc ar), -1) := ci_f hno
            refine lv_iconst (v := -1) hx hb dX0_link_43 (by decide +kernel) ?_
            exact x_iret F hH hrt hlk hQ ⟨hI, by rw [htr], by rw [htr]⟩ dX0_link_44
          · rw [nw_lt0] at c25
            refine lv_iload hx hb dX0_link_28 (lv_at hl 4 rfl) ?_
            refine lv_iconst (v := nI 3) hx hb dX0_link_30 (by decide +kernel) ?_
            refine lv_icmp_gt (tgt := 43) hx hb dX0_link_31 (by decide) (fun c31 => ?_) (fun c31 => ?_)
            · first | rw [nw_lt_c (by decide)] at c31 | rw [nw_lt0] at c25 | rw [nw_lt_c (by decide)] at c20 | rw [nw_lt0] at c15 | skip
              have hno : ¬ (sp_p f0 ∧ sp_p t0 ∧ sp_3 p0 ∧ sp_3 q0 ∧ nv_n (nvX sc ar) < 12) := by
                show ¬ ((0 ≤ f0.toInt ∧ f0.toInt ≤ 6) ∧ (0 ≤ t0.toInt ∧ t0.toInt ≤ 6) ∧ (0 ≤ p0.toInt ∧ p0.toInt ≤ 3) ∧ (0 ≤ q0.toInt ∧ q0.toInt ≤ 3) ∧ sc 0 < 12)
                omega
              have htr : tr_link (nvX sc ar) f0 t0 p0 q0 = ((nvX sc ar), -1) := ci_f hno
              refine lv_iconst (v := -1) hx hb dX0_link_43 (by decide +kernel) ?_
              exact x_iret F hH hrt hlk hQ ⟨hI, by rw [htr], by rw [htr]⟩ dX0_link_44
            · rw [nw_lt_c (by decide)] at c31
              refine lv_aload_n hx hb dX0_link_34 rfl (lv_at hl 0 rfl) ?_
              refine x_get F hH 0 (by decide) q41 rfl dX0_link_35 ?_
              refine lv_bipush (v := nI 12) hx hb dX0_link_38 (by decide +kernel) ?_
              refine nw_lt (tgt := 45) hx hb dX0_link_40 (by decide) (by omega) (fun c40 => ?_) (fun c40 => ?_)
              · obtain ⟨f1, hf1, rfl⟩ := nw_toInt (x := f0) (n := 6) (by omega) (by omega) (by decide)
                obtain ⟨t1, ht1, rfl⟩ := nw_toInt (x := t0) (n := 6) (by omega) (by omega) (by decide)
                obtain ⟨p1, hp1, rfl⟩ := nw_toInt (x := p0) (n := 3) (by omega) (by omega) (by decide)
                obtain ⟨q1, hq1, rfl⟩ := nw_toInt (x := q0) (n := 3) (by omega) (by omega) (by decide)
                refine lv_aload_n hx hb dX0_link_45 rfl (lv_at hl 0 rfl) ?_
                refine x_get F hH 1 (by decide) q42 rfl dX0_link_46 ?_
                refine lv_aload_n hx hb dX0_link_49 rfl (lv_at hl 0 rfl) ?_
                refine x_get F hH 0 (by decide) q41 rfl dX0_link_50 ?_
                refine lv_iload_n hx hb dX0_link_53 rfl (lv_at hl 1 rfl) ?_
                refine x_ast F hH 1 (N := 12) rfl (by decide) (by decide) (by omega) dX0_link_54 (fun ar_1 H locs ear_1 hH => ?_)
                refine lv_aload_n hx hb dX0_link_55 rfl (lv_at hl 0 rfl) ?_
                refine x_get F hH 2 (by decide) q43 rfl dX0_link_56 ?_
                refine lv_aload_n hx hb dX0_link_59 rfl (lv_at hl 0 rfl) ?_
                refine x_get F hH 0 (by decide) q41 rfl dX0_link_60 ?_
                refine lv_iload_n hx hb dX0_link_63 rfl (lv_at hl 2 rfl) ?_
                refine x_ast F hH 2 (N := 12) rfl (by decide) (by decide) (by omega) dX0_link_64 (fun ar_2 H locs ear_2 hH => ?_)
                refine lv_aload_n hx hb dX0_link_65 rfl (lv_at hl 0 rfl) ?_
                refine x_get F hH 3 (by decide) q44 rfl dX0_link_66 ?_
                refine lv_aload_n hx hb dX0_link_69 rfl (lv_at hl 0 rfl) ?_
                refine x_get F hH 0 (by decide) q41 rfl dX0_link_70 ?_
                refine lv_iload_n hx hb dX0_link_73 rfl (lv_at hl 3 rfl) ?_
                refine x_ast F hH 3 (N := 12) rfl (by decide) (by decide) (by omega) dX0_link_74 (fun ar_3 H locs ear_3 hH => ?_)
                refine lv_aload_n hx hb dX0_link_75 rfl (lv_at hl 0 rfl) ?_
                refine x_get F hH 4 (by decide) q45 rfl dX0_link_76 ?_
                refine lv_aload_n hx hb dX0_link_79 rfl (lv_at hl 0 rfl) ?_
                refine x_get F hH 0 (by decide) q41 rfl dX0_link_80 ?_
                refine lv_iload hx hb dX0_link_83 (lv_at hl 4 rfl) ?_
                refine x_ast F hH 4 (N := 12) rfl (by decide) (by decide) (by omega) dX0_link_85 (fun ar_4 H locs ear_4 hH => ?_)
                refine lv_aload_n hx hb dX0_link_86 rfl (lv_at hl 0 rfl) ?_
                refine lv_dup hx hb dX0_link_87 rfl ?_
                refine x_get F hH 0 (by decide) q41 rfl dX0_link_88 ?_
                refine lv_iconst (v := nI 1) hx hb dX0_link_91 (by decide +kernel) ?_
                refine nw_iadd hx hb dX0_link_92 ?_
                refine x_put F hH 0 (Or.inl rfl) q41 dX0_link_93 (fun sc_5 H locs esc_5 hH => ?_)
                have a1 : ar_4 1 = nu (ar 1) (sc 0) f1 := by rw [ear_4, au_k _ _ _ (by decide), ear_3, au_k _ _ _ (by decide), ear_2, au_k _ _ _ (by decide), ear_1, au_nu]
                have a2 : ar_4 2 = nu (ar 2) (sc 0) t1 := by rw [ear_4, au_k _ _ _ (by decide), ear_3, au_k _ _ _ (by decide), ear_2, au_nu, ear_1, au_k _ _ _ (by decide)]
                have a3 : ar_4 3 = nu (ar 3) (sc 0) p1 := by rw [ear_4, au_k _ _ _ (by decide), ear_3, au_nu, ear_2, au_k _ _ _ (by decide), ear_1, au_k _ _ _ (by decide)]
                have a4 : ar_4 4 = nu (ar 4) (sc 0) q1 := by rw [ear_4, au_nu, ear_3, au_k _ _ _ (by decide), ear_2, au_k _ _ _ (by decide), ear_1, au_k _ _ _ (by decide)]
                have a5 : ar_4 5 = ar 5 := by rw [ear_4, au_k _ _ _ (by decide), ear_3, au_k _ _ _ (by decide), ear_2, au_k _ _ _ (by decide), ear_1, au_k _ _ _ (by decide)]
                have a6 : ar_4 6 = ar 6 := by rw [ear_4, au_k _ _ _ (by decide), ear_3, au_k _ _ _ (by decide), ear_2, au_k _ _ _ (by decide), ear_1, au_k _ _ _ (by decide)]
                have b0 : sc_5 0 = sc 0 + 1 := by rw [esc_5, su_s]
                have b5 : sc_5 5 = sc 5 := by rw [esc_5, su_n _ _ (by decide)]
                have eN : nvX sc_5 ar_4 = nl_link (nvX sc ar) f1 t1 p1 q1 := by
                  unfold nvX
                  rw [a1, a2, a3, a4, a5, a6, b0, b5]; rfl
                have ho2 : nv_ok (nvX sc_5 ar_4) := by rw [eN]; exact nl_link_ok ho hf1 ht1 hp1 hq1 c40
                refine lv_aload_n hx hb dX0_link_96 rfl (lv_at hl 0 rfl) ?_
                refine x_callv F hH hA (As := []) (rest := []) (fun sz => mX0_rebuild l dC dI h d sc_5 ar_4 ho2.2.2.1 ho2.1 ho2.2.1 ho2.2.2.2 sz) (cwV 0 hts (lw_V q25 q27 qs0 q15 q28) rfl rfl rfl (by decide +kernel) ⟨Nat.le_of_ble_eq_true rfl, Nat.le_of_ble_eq_true rfl⟩) rfl hl.1 (Nat.le_of_ble_eq_true rfl) rfl dX0_link_97 ⟨Nat.zero_le _, Nat.zero_le _⟩ (fun sc_6 ar_7 H locs hp hH => ?_)
                try dsimp only at hp
                obtain ⟨hfy, rows2, hrp2, hw2, hmk2⟩ := hp
                obtain ⟨eN2, hI2⟩ := fy_I ho2 hfy hrp2 hw2 hmk2
                refine lv_aload_n hx hb dX0_link_100 rfl (lv_at hl 0 rfl) ?_
                refine x_get F hH 0 (by decide) q41 rfl dX0_link_101 ?_
                exact x_iret F hH hrt hlk hQ ⟨hI2, by rw [eN2, eN, tr_link_t hf1 ht1 hp1 hq1 c40], by rw [tr_link_t hf1 ht1 hp1 hq1 c40]; exact congrArg nI (congrArg (fun z : NV => z.1) (eN2.trans eN))⟩ dX0_link_104
              · first | rw [nw_lt_c (by decide)] at c31 | rw [nw_lt0] at c25 | rw [nw_lt_c (by decide)] at c20 | rw [nw_lt0] at c15 | skip
                have hno : ¬ (sp_p f0 ∧ sp_p t0 ∧ sp_3 p0 ∧ sp_3 q0 ∧ nv_n (nvX sc ar) < 12) := by
                  show ¬ ((0 ≤ f0.toInt ∧ f0.toInt ≤ 6) ∧ (0 ≤ t0.toInt ∧ t0.toInt ≤ 6) ∧ (0 ≤ p0.toInt ∧ p0.toInt ≤ 3) ∧ (0 ≤ q0.toInt ∧ q0.toInt ≤ 3) ∧ sc 0 < 12)
                  omega
                have htr : tr_link (nvX sc ar) f0 t0 p0 q0 = ((nvX sc ar), -1) := ci_f hno
                refine lv_iconst (v := -1) hx hb dX0_link_43 (by decide +kernel) ?_
                exact x_iret F hH hrt hlk hQ ⟨hI, by rw [htr], by rw [htr]⟩ dX0_link_44
    · refine nw_ifeq (tgt := 43) hx hb dX0_link_11 (by decide) (by decide) (fun _ => ?_) (fun q => absurd rfl q)
      first | rw [nw_lt_c (by decide)] at c31 | rw [nw_lt0] at c25 | rw [nw_lt_c (by decide)] at c20 | rw [nw_lt0] at c15 | skip
      have hno : ¬ (sp_p f0 ∧ sp_p t0 ∧ sp_3 p0 ∧ sp_3 q0 ∧ nv_n (nvX sc ar) < 12) := by
        show ¬ ((0 ≤ f0.toInt ∧ f0.toInt ≤ 6) ∧ (0 ≤ t0.toInt ∧ t0.toInt ≤ 6) ∧ (0 ≤ p0.toInt ∧ p0.toInt ≤ 3) ∧ (0 ≤ q0.toInt ∧ q0.toInt ≤ 3) ∧ sc 0 < 12)
        omega
      have htr : tr_link (nvX sc ar) f0 t0 p0 q0 = ((nvX sc ar), -1) := ci_f hno
      refine lv_iconst (v := -1) hx hb dX0_link_43 (by decide +kernel) ?_
      exact x_iret F hH hrt hlk hQ ⟨hI, by rw [htr], by rw [htr]⟩ dX0_link_44
  · refine nw_ifeq (tgt := 43) hx hb dX0_link_4 (by decide) (by decide) (fun _ => ?_) (fun q => absurd rfl q)
    first | rw [nw_lt_c (by decide)] at c31 | rw [nw_lt0] at c25 | rw [nw_lt_c (by decide)] at c20 | rw [nw_lt0] at c15 | skip
    have hno : ¬ (sp_p f0 ∧ sp_p t0 ∧ sp_3 p0 ∧ sp_3 q0 ∧ nv_n (nvX sc ar) < 12) := by
      show ¬ ((0 ≤ f0.toInt ∧ f0.toInt ≤ 6) ∧ (0 ≤ t0.toInt ∧ t0.toInt ≤ 6) ∧ (0 ≤ p0.toInt ∧ p0.toInt ≤ 3) ∧ (0 ≤ q0.toInt ∧ q0.toInt ≤ 3) ∧ sc 0 < 12)
      omega
    have htr : tr_link (nvX sc ar) f0 t0 p0 q0 = ((nvX sc ar), -1) := ci_f hno
    refine lv_iconst (v := -1) hx hb dX0_link_43 (by decide +kernel) ?_
    exact x_iret F hH hrt hlk hQ ⟨hI, by rw [htr], by rw [htr]⟩ dX0_link_44
set_option maxHeartbeats 4000000 in
set_option maxRecDepth 100000 in
theorem mX0_unlink (l : Launch) (dC : Nat → ClassId) (dI : Nat → Nat → Nat) (h : Nat → Nat) (d : ClassId) (sc : Nat → Nat) (ar : Nat → Nat → Nat) (x0 : Int32) (hI : x_I sc ar) (sz : Nat) : Met l yX0_unlink (ws_ yX0_unlink cX0_unlink 3 (some .int)) (r_ 3) (x_Pc dC dI h d sz sc ar [.ref (h 0), .int x0]) (va_Qi (fun r u => x_I u.1 u.2 ∧ nvX u.1 u.2 = (tr_unlink (nvX sc ar) x0).1 ∧ r = (tr_unlink (nvX sc ar) x0).2) (x_B dC dI (x_A h d sc ar sz) h d) (x_A h d sc ar sz)) 0 0 (x_A h d sc ar sz) := by
  refine x_headi (by decide +kernel) rfl (Nat.le_of_ble_eq_true rfl) ?_
  intro p e s m below meth c A av QQ hrt hlk F hA hH hQ ls hl
  have hx := F.1.1
  have hb := F.1.2.1
  have hts := F.1.2.2.2.2
  have hl : lv_has ls 3 [(0, .ref (h 0)), (1, .int x0)] := hl
  have ho := hI.1
  have hn12 : sc 0 ≤ 12 := ho.1
  have LU : ∀ (i : Nat) (sc1 : Nat → Nat), x0 = nI i → i ≤ sc 0 - 1 → 1 ≤ sc 0 → sc1 = su sc 0 (sc 0 - 1) → ∀ (n k : Nat) (ar1 : Nat → Nat → Nat), sc 0 - k < n → i ≤ k ∧ k ≤ sc 0 - 1 → un_ ar ar1 i k → ∀ (H : Heap) (locs : List Loc), xH dC dI A s.heap h d sc1 ar1 H locs → ∀ ls : Array Slot, lv_has ls 3 [(0, .ref (h 0)), (1, .int (nI i)), (2, .int (nI k))] → W p l e (r_ 3) s m av below meth c H locs 0 0 QQ (F0 m 26 ls []) := by
    intro i sc1 ex0 hi h1n esc1 n
    subst ex0
    induction n with
    | zero => intro _ _ hlt; exact absurd hlt (Nat.not_lt_zero _)
    | succ n ih =>
      intro k ar1 hn hkk hun H locs hH ls hl
      have hik := hkk.1
      have hun1 := hun.1
      have hun2 := hun.2.1
      have hun3 := hun.2.2.1
      have hun4 := hun.2.2.2.1
      refine lv_iload_n hx hb dX0_unlink_26 rfl (lv_at hl 2 rfl) ?_
      refine lv_aload_n hx hb dX0_unlink_27 rfl (lv_at hl 0 rfl) ?_
      refine x_getv F hH 0 (by decide) q41 (v := (sc 0 - 1)) rfl (by rw [esc1, su_s]) dX0_unlink_28 ?_
      refine nw_ge (tgt := 96) hx hb dX0_unlink_31 (by decide) (by omega) (fun c31 => ?_) (fun c31 => ?_)
      · have ek : k = sc 0 - 1 := by omega
        subst ek
        have eN : nvX sc1 ar1 = nl_unlink (nvX sc ar) i := by
          unfold nvX
          rw [hun1, hun2, hun3, hun4, hun.2.2.2.2 5 (by decide) (by decide) (by decide) (by decide), hun.2.2.2.2 6 (by decide) (by decide) (by decide) (by decide), esc1, su_s, su_n _ _ (by decide)]; rfl
        have ho2 : nv_ok (nvX sc1 ar1) := by rw [eN]; exact nl_unlink_ok ho (show i < sc 0 by omega)
        refine lv_aload_n hx hb dX0_unlink_96 rfl (lv_at hl 0 rfl) ?_
        refine x_callv F hH hA (As := []) (rest := []) (fun sz => mX0_rebuild l dC dI h d sc1 ar1 ho2.2.2.1 ho2.1 ho2.2.1 ho2.2.2.2 sz) (cwV 0 hts (lw_V q25 q27 qs0 q15 q28) rfl rfl rfl (by decide +kernel) ⟨Nat.le_of_ble_eq_true rfl, Nat.le_of_ble_eq_true rfl⟩) rfl hl.1 (Nat.le_of_ble_eq_true rfl) rfl dX0_unlink_97 ⟨Nat.zero_le _, Nat.zero_le _⟩ (fun sc_1 ar_2 H locs hp hH => ?_)
        try dsimp only at hp
        obtain ⟨hfy, rows2, hrp2, hw2, hmk2⟩ := hp
        obtain ⟨eN2, hI2⟩ := fy_I ho2 hfy hrp2 hw2 hmk2
        refine lv_aload_n hx hb dX0_unlink_100 rfl (lv_at hl 0 rfl) ?_
        refine x_get F hH 0 (by decide) q41 rfl dX0_unlink_101 ?_
        exact x_iret F hH hrt hlk hQ ⟨hI2, by rw [eN2, eN, tr_unlink_t hn12 (show i < sc 0 by omega)], by rw [tr_unlink_t hn12 (show i < sc 0 by omega)]; exact congrArg nI (congrArg (fun z : NV => z.1) (eN2.trans eN))⟩ dX0_unlink_104
      · refine lv_aload_n hx hb dX0_unlink_34 rfl (lv_at hl 0 rfl) ?_
        refine x_get F hH 1 (by decide) q42 rfl dX0_unlink_35 ?_
        refine lv_iload_n hx hb dX0_unlink_38 rfl (lv_at hl 2 rfl) ?_
        refine lv_aload_n hx hb dX0_unlink_39 rfl (lv_at hl 0 rfl) ?_
        refine x_get F hH 1 (by decide) q42 rfl dX0_unlink_40 ?_
        refine lv_iload_n hx hb dX0_unlink_43 rfl (lv_at hl 2 rfl) ?_
        refine lv_iconst (v := nI 1) hx hb dX0_unlink_44 (by decide +kernel) ?_
        refine nw_iadd hx hb dX0_unlink_45 ?_
        refine x_aldv F hH 1 (N := 12) (v := (ar 1 (k + 1))) rfl (by decide) (by decide) (by omega) (by rw [hun1, sh_at]) dX0_unlink_46 ?_
        refine x_ast F hH 1 (N := 12) rfl (by decide) (by decide) (by omega) dX0_unlink_47 (fun ar_3 H locs ear_3 hH => ?_)
        refine lv_aload_n hx hb dX0_unlink_48 rfl (lv_at hl 0 rfl) ?_
        refine x_get F hH 2 (by decide) q43 rfl dX0_unlink_49 ?_
        refine lv_iload_n hx hb dX0_unlink_52 rfl (lv_at hl 2 rfl) ?_
        refine lv_aload_n hx hb dX0_unlink_53 rfl (lv_at hl 0 rfl) ?_
        refine x_get F hH 2 (by decide) q43 rfl dX0_unlink_54 ?_
        refine lv_iload_n hx hb dX0_unlink_57 rfl (lv_at hl 2 rfl) ?_
        refine lv_iconst (v := nI 1) hx hb dX0_unlink_58 (by decide +kernel) ?_
        refine nw_iadd hx hb dX0_unlink_59 ?_
        refine x_aldv F hH 2 (N := 12) (v := (ar 2 (k + 1))) rfl (by decide) (by decide) (by omega) (by rw [ear_3, au_k _ _ _ (by decide), hun2, sh_at]) dX0_unlink_60 ?_
        refine x_ast F hH 2 (N := 12) rfl (by decide) (by decide) (by omega) dX0_unlink_61 (fun ar_4 H locs ear_4 hH => ?_)
        refine lv_aload_n hx hb dX0_unlink_62 rfl (lv_at hl 0 rfl) ?_
        refine x_get F hH 3 (by decide) q44 rfl dX0_unlink_63 ?_
        refine lv_iload_n hx hb dX0_unlink_66 rfl (lv_at hl 2 rfl) ?_
        refine lv_aload_n hx hb dX0_unlink_67 rfl (lv_at hl 0 rfl) ?_
        refine x_get F hH 3 (by decide) q44 rfl dX0_unlink_68 ?_
        refine lv_iload_n hx hb dX0_unlink_71 rfl (lv_at hl 2 rfl) ?_
        refine lv_iconst (v := nI 1) hx hb dX0_unlink_72 (by decide +kernel) ?_
        refine nw_iadd hx hb dX0_unlink_73 ?_
        refine x_aldv F hH 3 (N := 12) (v := (ar 3 (k + 1))) rfl (by decide) (by decide) (by omega) (by rw [ear_4, au_k _ _ _ (by decide), ear_3, au_k _ _ _ (by decide), hun3, sh_at]) dX0_unlink_74 ?_
        refine x_ast F hH 3 (N := 12) rfl (by decide) (by decide) (by omega) dX0_unlink_75 (fun ar_5 H locs ear_5 hH => ?_)
        refine lv_aload_n hx hb dX0_unlink_76 rfl (lv_at hl 0 rfl) ?_
        refine x_get F hH 4 (by decide) q45 rfl dX0_unlink_77 ?_
        refine lv_iload_n hx hb dX0_unlink_80 rfl (lv_at hl 2 rfl) ?_
        refine lv_aload_n hx hb dX0_unlink_81 rfl (lv_at hl 0 rfl) ?_
        refine x_get F hH 4 (by decide) q45 rfl dX0_unlink_82 ?_
        refine lv_iload_n hx hb dX0_unlink_85 rfl (lv_at hl 2 rfl) ?_
        refine lv_iconst (v := nI 1) hx hb dX0_unlink_86 (by decide +kernel) ?_
        refine nw_iadd hx hb dX0_unlink_87 ?_
        refine x_aldv F hH 4 (N := 12) (v := (ar 4 (k + 1))) rfl (by decide) (by decide) (by omega) (by rw [ear_5, au_k _ _ _ (by decide), ear_4, au_k _ _ _ (by decide), ear_3, au_k _ _ _ (by decide), hun4, sh_at]) dX0_unlink_88 ?_
        refine x_ast F hH 4 (N := 12) rfl (by decide) (by decide) (by omega) dX0_unlink_89 (fun ar_6 H locs ear_6 hH => ?_)
        refine lv_iinc (v := (nI (k + 1))) (lv' := [(2, .int (nI (k + 1))), (0, .ref (h 0)), (1, .int (nI i))]) hx hb dX0_unlink_90 hl (k := 2) rfl (nw_inc _) (by decide) rfl (fun ls hl => ?_)
        refine lv_goto (tgt := 26) hx hb dX0_unlink_93 (by decide) ?_
        exact ih (k + 1) ar_6 (by omega) (by omega) (un_step hik hun ear_3 ear_4 ear_5 ear_6) H locs hH ls (lv_sub hl [1, 2, 0] rfl)
  refine lv_iload_n hx hb dX0_unlink_0 rfl (lv_at hl 1 rfl) ?_
  refine lv_if_lt (tgt := 12) hx hb dX0_unlink_1 (by decide) (fun c1 => ?_) (fun c1 => ?_)
  · first | rw [nw_xlt_c (by omega)] at c9 | rw [nw_lt0] at c1
    have hno : ¬ (0 ≤ x0.toInt ∧ x0.toInt < (nv_n (nvX sc ar) : Int)) := by
      show ¬ (0 ≤ x0.toInt ∧ x0.toInt < (sc 0 : Int))
      omega
    have htr : tr_unlink (nvX sc ar) x0 = ((nvX sc ar), -1) := ci_f hno
    refine lv_iconst (v := -1) hx hb dX0_unlink_12 (by decide +kernel) ?_
    exact x_iret F hH hrt hlk hQ ⟨hI, by rw [htr], by rw [htr]⟩ dX0_unlink_13
  · rw [nw_lt0] at c1
    refine lv_iload_n hx hb dX0_unlink_4 rfl (lv_at hl 1 rfl) ?_
    refine lv_aload_n hx hb dX0_unlink_5 rfl (lv_at hl 0 rfl) ?_
    refine x_get F hH 0 (by decide) q41 rfl dX0_unlink_6 ?_
    refine lv_icmp_lt (tgt := 14) hx hb dX0_unlink_9 (by decide) (fun c9 => ?_) (fun c9 => ?_)
    · rw [nw_xlt_c (by omega)] at c9
      obtain ⟨i, hi, rfl⟩ := nw_toInt (x := x0) (n := sc 0 - 1) (by omega) (by omega) (by omega)
      refine lv_aload_n hx hb dX0_unlink_14 rfl (lv_at hl 0 rfl) ?_
      refine lv_dup hx hb dX0_unlink_15 rfl ?_
      refine x_get F hH 0 (by decide) q41 rfl dX0_unlink_16 ?_
      refine lv_iconst (v := nI 1) hx hb dX0_unlink_19 (by decide +kernel) ?_
      refine nw_isub hx hb dX0_unlink_20 (by omega) ?_
      refine x_put F hH 0 (Or.inl rfl) q41 dX0_unlink_21 (fun sc_7 H locs esc_7 hH => ?_)
      refine lv_iload_n hx hb dX0_unlink_24 rfl (lv_at hl 1 rfl) ?_
      refine lv_istore_n (lv' := [(2, .int (nI i)), (0, .ref (h 0)), (1, .int (nI i))]) hx hb dX0_unlink_25 rfl hl (by decide) rfl (fun ls hl => ?_)
      exact LU i sc_7 rfl hi (by omega) esc_7 (sc 0 + 1) i ar (by omega) (by omega) un_0 _ _ hH ls (lv_sub hl [1, 2, 0] rfl)
    · first | rw [nw_xlt_c (by omega)] at c9 | rw [nw_lt0] at c1
      have hno : ¬ (0 ≤ x0.toInt ∧ x0.toInt < (nv_n (nvX sc ar) : Int)) := by
        show ¬ (0 ≤ x0.toInt ∧ x0.toInt < (sc 0 : Int))
        omega
      have htr : tr_unlink (nvX sc ar) x0 = ((nvX sc ar), -1) := ci_f hno
      refine lv_iconst (v := -1) hx hb dX0_unlink_12 (by decide +kernel) ?_
      exact x_iret F hH hrt hlk hQ ⟨hI, by rw [htr], by rw [htr]⟩ dX0_unlink_13
set_option maxHeartbeats 4000000 in
set_option maxRecDepth 100000 in
theorem mX0_put (l : Launch) (dC : Nat → ClassId) (dI : Nat → Nat → Nat) (h : Nat → Nat) (d : ClassId) (sc : Nat → Nat) (ar : Nat → Nat → Nat) (x0 a0 b0 : Int32) (hI : x_I sc ar) (sz : Nat) : Met l yX0_put (ws_ yX0_put cX0_put 4 (some .int)) (r_ 1) (x_Pc dC dI h d sz sc ar [.ref (h 0), .int x0, .int a0, .int b0]) (va_Qi (fun r u => x_I u.1 u.2 ∧ nvX u.1 u.2 = (tr_put (nvX sc ar) x0 a0 b0).1 ∧ r = (tr_put (nvX sc ar) x0 a0 b0).2) (x_B dC dI (x_A h d sc ar sz) h d) (x_A h d sc ar sz)) 0 0 (x_A h d sc ar sz) := by
  refine x_headi (by decide +kernel) rfl (Nat.le_of_ble_eq_true rfl) ?_
  intro p e s m below meth c A av QQ hrt hlk F hA hH hQ ls hl
  have hx := F.1.1
  have hb := F.1.2.1
  have hts := F.1.2.2.2.2
  have hl : lv_has ls 4 [(0, .ref (h 0)), (1, .int x0), (2, .int a0), (3, .int b0)] := hl
  have hI0 := hI
  obtain ⟨ho, rows, hrp, hw, hmk⟩ := hI
  have hT20 : sc 5 ≤ 20 := ho.2.1
  refine lv_iload_n hx hb dX0_put_0 rfl (lv_at hl 1 rfl) ?_
  refine x_calls F hH (As := [.int x0]) (rest := []) (mX0_isPlace l x0) (va_cwS 1 hts (lw_S q86 q87 q15 q88) rfl rfl rfl (by decide +kernel) ⟨Nat.le_of_ble_eq_true rfl, Nat.le_of_ble_eq_true rfl⟩) rfl hl.1 (Nat.le_of_ble_eq_true rfl) rfl dX0_put_1 ⟨Nat.zero_le _, Nat.zero_le _⟩ (fun r H locs hp hH => ?_)
  try dsimp only at hp
  rcases hp with ⟨hg1, rfl⟩ | ⟨hg1, rfl⟩
  · refine nw_ifeq (tgt := 24) hx hb dX0_put_4 (by decide) (by decide) (fun q => absurd q (by decide)) (fun _ => ?_)
    refine lv_iload_n hx hb dX0_put_7 rfl (lv_at hl 2 rfl) ?_
    refine lv_iload_n hx hb dX0_put_8 rfl (lv_at hl 3 rfl) ?_
    refine x_calls F hH (As := [.int a0, .int b0]) (rest := []) (mX0_isTime l a0 b0) (va_cwS 2 hts (lw_S q97 q98 q15 q99) rfl rfl rfl (by decide +kernel) ⟨Nat.le_of_ble_eq_true rfl, Nat.le_of_ble_eq_true rfl⟩) rfl hl.1 (Nat.le_of_ble_eq_true rfl) rfl dX0_put_9 ⟨Nat.zero_le _, Nat.zero_le _⟩ (fun r H locs hp hH => ?_)
    try dsimp only at hp
    rcases hp with ⟨hg2, rfl⟩ | ⟨hg2, rfl⟩
    · refine nw_ifeq (tgt := 24) hx hb dX0_put_12 (by decide) (by decide) (fun q => absurd q (by decide)) (fun _ => ?_)
      refine lv_aload_n hx hb dX0_put_15 rfl (lv_at hl 0 rfl) ?_
      refine x_get F hH 5 (by decide) q46 rfl dX0_put_16 ?_
      refine lv_bipush (v := nI 20) hx hb dX0_put_19 (by decide +kernel) ?_
      refine nw_lt (tgt := 26) hx hb dX0_put_21 (by decide) (by omega) (fun c21 => ?_) (fun c21 => ?_)
      · obtain ⟨x1, hx1, rfl⟩ := nw_toInt (x := x0) (n := 6) (by omega) (by omega) (by decide)
        obtain ⟨a1, ha1, rfl⟩ := nw_toInt (x := a0) (n := 15) (by omega) (by omega) (by decide)
        obtain ⟨b1, hb1, rfl⟩ := nw_toInt (x := b0) (n := 15) (by omega) (by omega) (by decide)
        refine lv_aload_n hx hb dX0_put_26 rfl (lv_at hl 0 rfl) ?_
        refine x_get F hH 6 (by decide) q47 rfl dX0_put_27 ?_
        refine lv_aload_n hx hb dX0_put_30 rfl (lv_at hl 0 rfl) ?_
        refine x_get F hH 5 (by decide) q46 rfl dX0_put_31 ?_
        refine lv_iload_n hx hb dX0_put_34 rfl (lv_at hl 1 rfl) ?_
        refine x_ast F hH 5 (N := 20) rfl (by decide) (by decide) (by omega) dX0_put_35 (fun ar_1 H locs ear_1 hH => ?_)
        refine lv_aload_n hx hb dX0_put_36 rfl (lv_at hl 0 rfl) ?_
        refine x_get F hH 7 (by decide) q48 rfl dX0_put_37 ?_
        refine lv_aload_n hx hb dX0_put_40 rfl (lv_at hl 0 rfl) ?_
        refine x_get F hH 5 (by decide) q46 rfl dX0_put_41 ?_
        refine lv_bipush (v := nI 16) hx hb dX0_put_44 (by decide +kernel) ?_
        refine lv_iload_n hx hb dX0_put_46 rfl (lv_at hl 2 rfl) ?_
        refine nw_imul hx hb dX0_put_47 ?_
        refine lv_iload_n hx hb dX0_put_48 rfl (lv_at hl 3 rfl) ?_
        refine nw_iadd hx hb dX0_put_49 ?_
        refine x_ast F hH 6 (N := 20) rfl (by decide) (by decide) (by omega) dX0_put_50 (fun ar_2 H locs ear_2 hH => ?_)
        refine lv_aload_n hx hb dX0_put_51 rfl (lv_at hl 0 rfl) ?_
        refine lv_dup hx hb dX0_put_52 rfl ?_
        refine x_get F hH 5 (by decide) q46 rfl dX0_put_53 ?_
        refine lv_iconst (v := nI 1) hx hb dX0_put_56 (by decide +kernel) ?_
        refine nw_iadd hx hb dX0_put_57 ?_
        refine x_put F hH 5 (Or.inr (Or.inl rfl)) q46 dX0_put_58 (fun sc_3 H locs esc_3 hH => ?_)
        have w5 : ar_2 5 = nu (ar 5) (sc 5) x1 := by rw [ear_2, au_k _ _ _ (by decide), ear_1, au_nu]
        have w6 : ar_2 6 = nu (ar 6) (sc 5) (16 * a1 + b1) := by rw [ear_2, au_nu, ear_1, au_k _ _ _ (by decide)]
        have wk : ∀ k, k ≠ 5 → k ≠ 6 → ar_2 k = ar k := fun k q1 q2 => by rw [ear_2, au_k _ _ _ q2, ear_1, au_k _ _ _ q1]
        have b0 : sc_3 0 = sc 0 := by rw [esc_3, su_n _ _ (by decide)]
        have b5 : sc_3 5 = sc 5 + 1 := by rw [esc_3, su_s]
        have eN : nvX sc_3 ar_2 = nl_put (nvX sc ar) x1 (16 * a1 + b1) := by
          unfold nvX
          rw [wk 1 (by decide) (by decide), wk 2 (by decide) (by decide), wk 3 (by decide) (by decide), wk 4 (by decide) (by decide), w5, w6, b0, b5]; rfl
        have hrp1 := rp_same hrp (wk 7 (by decide) (by decide)) (wk 8 (by decide) (by decide))
        have w10 := wk 10 (by decide) (by decide)
        refine lv_aload_n hx hb dX0_put_61 rfl (lv_at hl 0 rfl) ?_
        refine lv_iload_n hx hb dX0_put_62 rfl (lv_at hl 1 rfl) ?_
        refine lv_bipush (v := nI 16) hx hb dX0_put_63 (by decide +kernel) ?_
        refine lv_iload_n hx hb dX0_put_65 rfl (lv_at hl 2 rfl) ?_
        refine nw_imul hx hb dX0_put_66 ?_
        refine lv_iload_n hx hb dX0_put_67 rfl (lv_at hl 3 rfl) ?_
        refine nw_iadd hx hb dX0_put_68 ?_
        refine lv_iconst (v := nI 1) hx hb dX0_put_69 (by decide +kernel) ?_
        refine x_callv F hH hA (As := [.int (nI x1), .int (nI ((16 * a1) + b1)), .int (nI 1)]) (rest := []) (fun sz => mX0_count l dC dI h d sc_3 ar_2 rows (fun z => z + 1) x1 (16 * a1 + b1) (nI 1) (by omega) (by omega) hrp1 (fun m hm => fa_stair_inj (hw x1 m (by omega) hm).1) (fun m a b _ _ _ _ => nI_add _ 1) sz) (cwV 3 hts (lw_V q37 q39 qs3 q15 q40) rfl rfl rfl (by decide +kernel) ⟨Nat.le_of_ble_eq_true rfl, Nat.le_of_ble_eq_true rfl⟩) rfl hl.1 (Nat.le_of_ble_eq_true rfl) rfl dX0_put_70 ⟨Nat.zero_le _, Nat.zero_le _⟩ (fun sc_4 ar_5 H locs hp hH => ?_)
        try dsimp only at hp
        obtain ⟨hp1, hp2, hp3⟩ := hp
        have eN2 := (nvX_10 hp1 hp2).trans eN
        rw [w10] at hp3
        refine lv_aload_n hx hb dX0_put_73 rfl (lv_at hl 0 rfl) ?_
        refine x_get F hH 5 (by decide) q46 rfl dX0_put_74 ?_
        exact x_iret F hH hrt hlk hQ ⟨x_put_I ho hrp hw hmk hx1 (by omega) (by omega) eN2 ((hp2 7 (by decide)).trans (wk 7 (by decide) (by decide))) ((hp2 8 (by decide)).trans (wk 8 (by decide) (by decide))) hp3, by rw [eN2, tr_put_t hx1 ha1 hb1 (show sc 5 < 20 by omega)], by rw [tr_put_t hx1 ha1 hb1 (show sc 5 < 20 by omega)]; exact congrArg nI (congrArg (fun z : NV => z.2.1) eN2)⟩ dX0_put_77
      · have hno : ¬ (sp_p x0 ∧ sp_t a0 ∧ sp_t b0 ∧ nv_T (nvX sc ar) < 20) := by
          show ¬ ((0 ≤ x0.toInt ∧ x0.toInt ≤ 6) ∧ (0 ≤ a0.toInt ∧ a0.toInt ≤ 15) ∧ (0 ≤ b0.toInt ∧ b0.toInt ≤ 15) ∧ sc 5 < 20)
          omega
        have htr : tr_put (nvX sc ar) x0 a0 b0 = ((nvX sc ar), -1) := ci_f hno
        refine lv_iconst (v := -1) hx hb dX0_put_24 (by decide +kernel) ?_
        exact x_iret F hH hrt hlk hQ ⟨hI0, by rw [htr], by rw [htr]⟩ dX0_put_25
    · refine nw_ifeq (tgt := 24) hx hb dX0_put_12 (by decide) (by decide) (fun _ => ?_) (fun q => absurd rfl q)
      have hno : ¬ (sp_p x0 ∧ sp_t a0 ∧ sp_t b0 ∧ nv_T (nvX sc ar) < 20) := by
        show ¬ ((0 ≤ x0.toInt ∧ x0.toInt ≤ 6) ∧ (0 ≤ a0.toInt ∧ a0.toInt ≤ 15) ∧ (0 ≤ b0.toInt ∧ b0.toInt ≤ 15) ∧ sc 5 < 20)
        omega
      have htr : tr_put (nvX sc ar) x0 a0 b0 = ((nvX sc ar), -1) := ci_f hno
      refine lv_iconst (v := -1) hx hb dX0_put_24 (by decide +kernel) ?_
      exact x_iret F hH hrt hlk hQ ⟨hI0, by rw [htr], by rw [htr]⟩ dX0_put_25
  · refine nw_ifeq (tgt := 24) hx hb dX0_put_4 (by decide) (by decide) (fun _ => ?_) (fun q => absurd rfl q)
    have hno : ¬ (sp_p x0 ∧ sp_t a0 ∧ sp_t b0 ∧ nv_T (nvX sc ar) < 20) := by
      show ¬ ((0 ≤ x0.toInt ∧ x0.toInt ≤ 6) ∧ (0 ≤ a0.toInt ∧ a0.toInt ≤ 15) ∧ (0 ≤ b0.toInt ∧ b0.toInt ≤ 15) ∧ sc 5 < 20)
      omega
    have htr : tr_put (nvX sc ar) x0 a0 b0 = ((nvX sc ar), -1) := ci_f hno
    refine lv_iconst (v := -1) hx hb dX0_put_24 (by decide +kernel) ?_
    exact x_iret F hH hrt hlk hQ ⟨hI0, by rw [htr], by rw [htr]⟩ dX0_put_25
set_option maxHeartbeats 4000000 in
set_option maxRecDepth 100000 in
theorem mX0_take (l : Launch) (dC : Nat → ClassId) (dI : Nat → Nat → Nat) (h : Nat → Nat) (d : ClassId) (sc : Nat → Nat) (ar : Nat → Nat → Nat) (x0 a0 b0 : Int32) (hI : x_I sc ar) (sz : Nat) : Met l yX0_take (ws_ yX0_take cX0_take 5 (some .int)) (r_ 1) (x_Pc dC dI h d sz sc ar [.ref (h 0), .int x0, .int a0, .int b0]) (va_Qi (fun r u => x_I u.1 u.2 ∧ nvX u.1 u.2 = (tr_take (nvX sc ar) x0 a0 b0).1 ∧ r = (tr_take (nvX sc ar) x0 a0 b0).2) (x_B dC dI (x_A h d sc ar sz) h d) (x_A h d sc ar sz)) 0 0 (x_A h d sc ar sz) := by
  refine x_headi (by decide +kernel) rfl (Nat.le_of_ble_eq_true rfl) ?_
  intro p e s m below meth c A av QQ hrt hlk F hA hH hQ ls hl
  have hx := F.1.1
  have hb := F.1.2.1
  have hts := F.1.2.2.2.2
  have hl : lv_has ls 5 [(0, .ref (h 0)), (1, .int x0), (2, .int a0), (3, .int b0)] := hl
  have hI0 := hI
  obtain ⟨ho, rows, hrp, hw, hmk⟩ := hI
  have hT20 : sc 5 ≤ 20 := ho.2.1
  refine lv_iload_n hx hb dX0_take_0 rfl (lv_at hl 1 rfl) ?_
  refine x_calls F hH (As := [.int x0]) (rest := []) (mX0_isPlace l x0) (va_cwS 1 hts (lw_S q86 q87 q15 q88) rfl rfl rfl (by decide +kernel) ⟨Nat.le_of_ble_eq_true rfl, Nat.le_of_ble_eq_true rfl⟩) rfl hl.1 (Nat.le_of_ble_eq_true rfl) rfl dX0_take_1 ⟨Nat.zero_le _, Nat.zero_le _⟩ (fun r H locs hp hH => ?_)
  try dsimp only at hp
  rcases hp with ⟨hg1, rfl⟩ | ⟨hg1, rfl⟩
  · refine nw_ifeq (tgt := 29) hx hb dX0_take_4 (by decide) (by decide) (fun q => absurd q (by decide)) (fun _ => ?_)
    refine lv_iload_n hx hb dX0_take_7 rfl (lv_at hl 2 rfl) ?_
    refine lv_iload_n hx hb dX0_take_8 rfl (lv_at hl 3 rfl) ?_
    refine x_calls F hH (As := [.int a0, .int b0]) (rest := []) (mX0_isTime l a0 b0) (va_cwS 2 hts (lw_S q97 q98 q15 q99) rfl rfl rfl (by decide +kernel) ⟨Nat.le_of_ble_eq_true rfl, Nat.le_of_ble_eq_true rfl⟩) rfl hl.1 (Nat.le_of_ble_eq_true rfl) rfl dX0_take_9 ⟨Nat.zero_le _, Nat.zero_le _⟩ (fun r H locs hp hH => ?_)
    try dsimp only at hp
    rcases hp with ⟨hg2, rfl⟩ | ⟨hg2, rfl⟩
    · refine nw_ifeq (tgt := 29) hx hb dX0_take_12 (by decide) (by decide) (fun q => absurd q (by decide)) (fun _ => ?_)
      obtain ⟨x1, hx1, rfl⟩ := nw_toInt (x := x0) (n := 6) (by omega) (by omega) (by decide)
      obtain ⟨a1, ha1, rfl⟩ := nw_toInt (x := a0) (n := 15) (by omega) (by omega) (by decide)
      obtain ⟨b1, hb1, rfl⟩ := nw_toInt (x := b0) (n := 15) (by omega) (by omega) (by decide)
      refine lv_aload_n hx hb dX0_take_15 rfl (lv_at hl 0 rfl) ?_
      refine lv_iload_n hx hb dX0_take_16 rfl (lv_at hl 1 rfl) ?_
      refine lv_bipush (v := nI 16) hx hb dX0_take_17 (by decide +kernel) ?_
      refine lv_iload_n hx hb dX0_take_19 rfl (lv_at hl 2 rfl) ?_
      refine nw_imul hx hb dX0_take_20 ?_
      refine lv_iload_n hx hb dX0_take_21 rfl (lv_at hl 3 rfl) ?_
      refine nw_iadd hx hb dX0_take_22 ?_
      refine x_calli F hH hA (As := [.int (nI x1), .int (nI ((16 * a1) + b1))]) (rest := []) (fun sz => mX0_tokenAt l dC dI h d sc ar x1 (16 * a1 + b1) hT20 ho.2.2.2 (by omega) (by omega) sz) (cwV 2 hts (lw_V q104 q106 qs4 q15 q107) rfl rfl rfl (by decide +kernel) ⟨Nat.le_of_ble_eq_true rfl, Nat.le_of_ble_eq_true rfl⟩) rfl hl.1 (Nat.le_of_ble_eq_true rfl) rfl dX0_take_23 ⟨Nat.zero_le _, Nat.zero_le _⟩ (fun r sc_1 ar_2 H locs hp hH => ?_)
      try dsimp only at hp
      obtain ⟨⟨hq1, hq2⟩, hp⟩ := hp
      have hq1 : sc_1 = sc := hq1
      have hq2 : ar_2 = ar := hq2
      rw [hq1, hq2] at hH
      rcases hp with ⟨k, hk, hk1, hk2, rfl⟩ | ⟨hk1, rfl⟩
      · refine lv_goto (tgt := 30) hx hb dX0_take_26 (by decide) ?_
        refine lv_istore (lv' := [(4, .int (nI k)), (0, .ref (h 0)), (1, .int (nI x1)), (2, .int (nI a1)), (3, .int (nI b1))]) hx hb dX0_take_30 hl (by decide) rfl (fun ls hl => ?_)
        refine lv_iload hx hb dX0_take_32 (lv_at hl 0 rfl) ?_
        refine nw_ifge (tgt := 39) hx hb dX0_take_34 (by decide) (by omega) ?_
        refine lv_aload_n hx hb dX0_take_39 rfl (lv_at hl 1 rfl) ?_
        refine lv_dup hx hb dX0_take_40 rfl ?_
        refine x_get F hH 5 (by decide) q46 rfl dX0_take_41 ?_
        refine lv_iconst (v := nI 1) hx hb dX0_take_44 (by decide +kernel) ?_
        refine nw_isub hx hb dX0_take_45 (by omega) ?_
        refine x_put F hH 5 (Or.inr (Or.inl rfl)) q46 dX0_take_46 (fun sc_3 H locs esc_3 hH => ?_)
        refine lv_aload_n hx hb dX0_take_49 rfl (lv_at hl 1 rfl) ?_
        refine x_get F hH 6 (by decide) q47 rfl dX0_take_50 ?_
        refine lv_iload hx hb dX0_take_53 (lv_at hl 0 rfl) ?_
        refine lv_aload_n hx hb dX0_take_55 rfl (lv_at hl 1 rfl) ?_
        refine x_get F hH 6 (by decide) q47 rfl dX0_take_56 ?_
        refine lv_aload_n hx hb dX0_take_59 rfl (lv_at hl 1 rfl) ?_
        refine x_getv F hH 5 (by decide) q46 (v := (sc 5 - 1)) rfl (by rw [esc_3, su_s]) dX0_take_60 ?_
        refine x_ald F hH 5 (N := 20) rfl (by decide) (by decide) (by omega) dX0_take_63 ?_
        refine x_ast F hH 5 (N := 20) rfl (by decide) (by decide) (by omega) dX0_take_64 (fun ar_4 H locs ear_4 hH => ?_)
        refine lv_aload_n hx hb dX0_take_65 rfl (lv_at hl 1 rfl) ?_
        refine x_get F hH 7 (by decide) q48 rfl dX0_take_66 ?_
        refine lv_iload hx hb dX0_take_69 (lv_at hl 0 rfl) ?_
        refine lv_aload_n hx hb dX0_take_71 rfl (lv_at hl 1 rfl) ?_
        refine x_get F hH 7 (by decide) q48 rfl dX0_take_72 ?_
        refine lv_aload_n hx hb dX0_take_75 rfl (lv_at hl 1 rfl) ?_
        refine x_getv F hH 5 (by decide) q46 (v := (sc 5 - 1)) rfl (by rw [esc_3, su_s]) dX0_take_76 ?_
        refine x_aldv F hH 6 (N := 20) (v := (ar 6 (sc 5 - 1))) rfl (by decide) (by decide) (by omega) (by rw [ear_4, au_k _ _ _ (by decide)]) dX0_take_79 ?_
        refine x_ast F hH 6 (N := 20) rfl (by decide) (by decide) (by omega) dX0_take_80 (fun ar_5 H locs ear_5 hH => ?_)
        have w5 : ar_5 5 = nu (ar 5) k (ar 5 (sc 5 - 1)) := by rw [ear_5, au_k _ _ _ (by decide), ear_4, au_nu]
        have w6 : ar_5 6 = nu (ar 6) k (ar 6 (sc 5 - 1)) := by rw [ear_5, au_nu, ear_4, au_k _ _ _ (by decide)]
        have wk : ∀ k, k ≠ 5 → k ≠ 6 → ar_5 k = ar k := fun k q1 q2 => by rw [ear_5, au_k _ _ _ q2, ear_4, au_k _ _ _ q1]
        have b0 : sc_3 0 = sc 0 := by rw [esc_3, su_n _ _ (by decide)]
        have b5 : sc_3 5 = sc 5 - 1 := by rw [esc_3, su_s]
        have eN : nvX sc_3 ar_5 = nl_take (nvX sc ar) k := by
          unfold nvX
          rw [wk 1 (by decide) (by decide), wk 2 (by decide) (by decide), wk 3 (by decide) (by decide), wk 4 (by decide) (by decide), w5, w6, b0, b5]; rfl
        have hrp1 := rp_same hrp (wk 7 (by decide) (by decide)) (wk 8 (by decide) (by decide))
        have w10 := wk 10 (by decide) (by decide)
        have hpk : ar 5 k = x1 := hk1.1
        have htk : ar 6 k = 16 * a1 + b1 := hk1.2
        have tt := tr_take_t (v := (nvX sc ar)) hx1 ha1 hb1 hk hk1 hk2
        refine lv_aload_n hx hb dX0_take_81 rfl (lv_at hl 1 rfl) ?_
        refine lv_iload_n hx hb dX0_take_82 rfl (lv_at hl 2 rfl) ?_
        refine lv_bipush (v := nI 16) hx hb dX0_take_83 (by decide +kernel) ?_
        refine lv_iload_n hx hb dX0_take_85 rfl (lv_at hl 3 rfl) ?_
        refine nw_imul hx hb dX0_take_86 ?_
        refine lv_iload_n hx hb dX0_take_87 rfl (lv_at hl 4 rfl) ?_
        refine nw_iadd hx hb dX0_take_88 ?_
        refine lv_iconst (v := -1) hx hb dX0_take_89 (by decide +kernel) ?_
        refine x_callv F hH hA (As := [.int (nI x1), .int (nI ((16 * a1) + b1)), .int ((-1))]) (rest := []) (fun sz => mX0_count l dC dI h d sc_3 ar_5 rows (fun z => z - 1) x1 (16 * a1 + b1) (-1) (by omega) (by omega) hrp1 (fun m hm => fa_stair_inj (hw x1 m (by omega) hm).1) (fun m a b h1 h2 h3 h4 => by rw [w10]; exact mk_ge hmk hk h1 h2 h3 (by rw [hpk, htk]; exact h4)) sz) (cwV 3 hts (lw_V q37 q39 qs3 q15 q40) rfl rfl rfl (by decide +kernel) ⟨Nat.le_of_ble_eq_true rfl, Nat.le_of_ble_eq_true rfl⟩) rfl hl.1 (Nat.le_of_ble_eq_true rfl) rfl dX0_take_90 ⟨Nat.zero_le _, Nat.zero_le _⟩ (fun sc_6 ar_7 H locs hp hH => ?_)
        try dsimp only at hp
        obtain ⟨hp1, hp2, hp3⟩ := hp
        have eN2 := (nvX_10 hp1 hp2).trans eN
        rw [w10, ← hpk, ← htk] at hp3
        refine lv_aload_n hx hb dX0_take_93 rfl (lv_at hl 1 rfl) ?_
        refine x_get F hH 5 (by decide) q46 rfl dX0_take_94 ?_
        exact x_iret F hH hrt hlk hQ ⟨x_take_I ho hrp hw hmk hk eN2 ((hp2 7 (by decide)).trans (wk 7 (by decide) (by decide))) ((hp2 8 (by decide)).trans (wk 8 (by decide) (by decide))) hp3, by rw [eN2, tt], by rw [tt]; exact congrArg nI (congrArg (fun z : NV => z.2.1) eN2)⟩ dX0_take_97
      · refine lv_goto (tgt := 30) hx hb dX0_take_26 (by decide) ?_
        refine lv_istore (lv' := [(4, .int ((-1))), (0, .ref (h 0)), (1, .int (nI x1)), (2, .int (nI a1)), (3, .int (nI b1))]) hx hb dX0_take_30 hl (by decide) rfl (fun ls hl => ?_)
        refine lv_iload hx hb dX0_take_32 (lv_at hl 0 rfl) ?_
        refine nw_ifgem (tgt := 39) hx hb dX0_take_34 (by decide) ?_
        have htr : tr_take (nvX sc ar) (nI x1) (nI a1) (nI b1) = ((nvX sc ar), -1) := tr_take_n (fun y1 y2 y3 j e1 e2 e3 q1 q2 q3 hj => by
          rw [← (nI_eq (by omega) (by omega)).mp e1, ← (nI_eq (by omega) (by omega)).mp e2, ← (nI_eq (by omega) (by omega)).mp e3]
          exact hk1 j hj)
        refine lv_iconst (v := -1) hx hb dX0_take_37 (by decide +kernel) ?_
        exact x_iret F hH hrt hlk hQ ⟨hI0, by rw [htr], by rw [htr]⟩ dX0_take_38
    · refine nw_ifeq (tgt := 29) hx hb dX0_take_12 (by decide) (by decide) (fun _ => ?_) (fun q => absurd rfl q)
      have htr : tr_take (nvX sc ar) x0 a0 b0 = ((nvX sc ar), -1) := ci_f (fun q => by
        have q1 : (0 ≤ x0.toInt ∧ x0.toInt ≤ 6) := q.1
        have q2 : (0 ≤ a0.toInt ∧ a0.toInt ≤ 15) := q.2.1
        have q3 : (0 ≤ b0.toInt ∧ b0.toInt ≤ 15) := q.2.2.1
        omega)
      refine lv_iconst (v := -1) hx hb dX0_take_29 (by decide +kernel) ?_
      refine lv_istore (lv' := [(4, .int ((-1))), (0, .ref (h 0)), (1, .int x0), (2, .int a0), (3, .int b0)]) hx hb dX0_take_30 hl (by decide) rfl (fun ls hl => ?_)
      refine lv_iload hx hb dX0_take_32 (lv_at hl 0 rfl) ?_
      refine nw_ifgem (tgt := 39) hx hb dX0_take_34 (by decide) ?_
      refine lv_iconst (v := -1) hx hb dX0_take_37 (by decide +kernel) ?_
      exact x_iret F hH hrt hlk hQ ⟨hI0, by rw [htr], by rw [htr]⟩ dX0_take_38
  · refine nw_ifeq (tgt := 29) hx hb dX0_take_4 (by decide) (by decide) (fun _ => ?_) (fun q => absurd rfl q)
    have htr : tr_take (nvX sc ar) x0 a0 b0 = ((nvX sc ar), -1) := ci_f (fun q => by
      have q1 : (0 ≤ x0.toInt ∧ x0.toInt ≤ 6) := q.1
      have q2 : (0 ≤ a0.toInt ∧ a0.toInt ≤ 15) := q.2.1
      have q3 : (0 ≤ b0.toInt ∧ b0.toInt ≤ 15) := q.2.2.1
      omega)
    refine lv_iconst (v := -1) hx hb dX0_take_29 (by decide +kernel) ?_
    refine lv_istore (lv' := [(4, .int ((-1))), (0, .ref (h 0)), (1, .int x0), (2, .int a0), (3, .int b0)]) hx hb dX0_take_30 hl (by decide) rfl (fun ls hl => ?_)
    refine lv_iload hx hb dX0_take_32 (lv_at hl 0 rfl) ?_
    refine nw_ifgem (tgt := 39) hx hb dX0_take_34 (by decide) ?_
    refine lv_iconst (v := -1) hx hb dX0_take_37 (by decide +kernel) ?_
    exact x_iret F hH hrt hlk hQ ⟨hI0, by rw [htr], by rw [htr]⟩ dX0_take_38
set_option maxHeartbeats 4000000 in
set_option maxRecDepth 100000 in
theorem mX0_pass (l : Launch) (dC : Nat → ClassId) (dI : Nat → Nat → Nat) (h : Nat → Nat) (d : ClassId) (sc : Nat → Nat) (ar : Nat → Nat → Nat) (x0 a0 b0 : Int32) (hI : x_I sc ar) (sz : Nat) : Met l yX0_pass (ws_ yX0_pass cX0_pass 5 (some .int)) (r_ 1) (x_Pc dC dI h d sz sc ar [.ref (h 0), .int x0, .int a0, .int b0]) (va_Qi (fun r u => x_I u.1 u.2 ∧ nvX u.1 u.2 = (tr_pass (nvX sc ar) x0 a0 b0).1 ∧ r = (tr_pass (nvX sc ar) x0 a0 b0).2) (x_B dC dI (x_A h d sc ar sz) h d) (x_A h d sc ar sz)) 0 0 (x_A h d sc ar sz) := by
  refine x_headi (by decide +kernel) rfl (Nat.le_of_ble_eq_true rfl) ?_
  intro p e s m below meth c A av QQ hrt hlk F hA hH hQ ls hl
  have hx := F.1.1
  have hb := F.1.2.1
  have hts := F.1.2.2.2.2
  have hl : lv_has ls 5 [(0, .ref (h 0)), (1, .int x0), (2, .int a0), (3, .int b0)] := hl
  have hI0 := hI
  obtain ⟨ho, rows, hrp, hw, hmk⟩ := hI
  have hT20 : sc 5 ≤ 20 := ho.2.1
  have hn12 : sc 0 ≤ 12 := ho.1
  refine lv_iload_n hx hb dX0_pass_0 rfl (lv_at hl 1 rfl) ?_
  refine lv_if_lt (tgt := 20) hx hb dX0_pass_1 (by decide) (fun c1 => ?_) (fun c1 => ?_)
  · first | rw [nw_cle_x (by omega)] at c9 | rw [nw_lt0] at c1 | skip
    have htr : tr_pass (nvX sc ar) x0 a0 b0 = ((nvX sc ar), -1) := ci_f (fun q => by
      have q0 : 0 ≤ x0.toInt := q.1
      have q1 : x0.toInt < (sc 0 : Int) := q.2.1
      have q2 : (0 ≤ a0.toInt ∧ a0.toInt ≤ 15) := q.2.2.1
      have q3 : (0 ≤ b0.toInt ∧ b0.toInt ≤ 15) := q.2.2.2.1
      omega)
    refine lv_iconst (v := -1) hx hb dX0_pass_20 (by decide +kernel) ?_
    exact x_iret F hH hrt hlk hQ ⟨hI0, by rw [htr], by rw [htr]⟩ dX0_pass_21
  · rw [nw_lt0] at c1
    refine lv_iload_n hx hb dX0_pass_4 rfl (lv_at hl 1 rfl) ?_
    refine lv_aload_n hx hb dX0_pass_5 rfl (lv_at hl 0 rfl) ?_
    refine x_get F hH 0 (by decide) q41 rfl dX0_pass_6 ?_
    refine lv_icmp_ge (tgt := 20) hx hb dX0_pass_9 (by decide) (fun c9 => ?_) (fun c9 => ?_)
    · first | rw [nw_cle_x (by omega)] at c9 | rw [nw_lt0] at c1 | skip
      have htr : tr_pass (nvX sc ar) x0 a0 b0 = ((nvX sc ar), -1) := ci_f (fun q => by
        have q0 : 0 ≤ x0.toInt := q.1
        have q1 : x0.toInt < (sc 0 : Int) := q.2.1
        have q2 : (0 ≤ a0.toInt ∧ a0.toInt ≤ 15) := q.2.2.1
        have q3 : (0 ≤ b0.toInt ∧ b0.toInt ≤ 15) := q.2.2.2.1
        omega)
      refine lv_iconst (v := -1) hx hb dX0_pass_20 (by decide +kernel) ?_
      exact x_iret F hH hrt hlk hQ ⟨hI0, by rw [htr], by rw [htr]⟩ dX0_pass_21
    · rw [nw_cle_x (by omega)] at c9
      refine lv_iload_n hx hb dX0_pass_12 rfl (lv_at hl 2 rfl) ?_
      refine lv_iload_n hx hb dX0_pass_13 rfl (lv_at hl 3 rfl) ?_
      refine x_calls F hH (As := [.int a0, .int b0]) (rest := []) (mX0_isTime l a0 b0) (va_cwS 2 hts (lw_S q97 q98 q15 q99) rfl rfl rfl (by decide +kernel) ⟨Nat.le_of_ble_eq_true rfl, Nat.le_of_ble_eq_true rfl⟩) rfl hl.1 (Nat.le_of_ble_eq_true rfl) rfl dX0_pass_14 ⟨Nat.zero_le _, Nat.zero_le _⟩ (fun r H locs hp hH => ?_)
      try dsimp only at hp
      rcases hp with ⟨hg2, rfl⟩ | ⟨hg2, rfl⟩
      · refine nw_ifne (tgt := 22) hx hb dX0_pass_17 (by decide) (by decide) (fun _ => ?_) (fun q => absurd q (by decide))
        obtain ⟨i, hi, rfl⟩ := nw_toInt (x := x0) (n := sc 0 - 1) (by omega) (by omega) (by omega)
        obtain ⟨a1, ha1, rfl⟩ := nw_toInt (x := a0) (n := 15) (by omega) (by omega) (by decide)
        obtain ⟨b1, hb1, rfl⟩ := nw_toInt (x := b0) (n := 15) (by omega) (by omega) (by decide)
        have hi0 : i < sc 0 := by rw [nw_I (by omega)] at c9; omega
        have hli : ar 1 i < 7 ∧ ar 2 i < 7 ∧ ar 3 i ≤ 3 ∧ ar 4 i ≤ 3 := ho.2.2.1 i hi0
        refine lv_aload_n hx hb dX0_pass_22 rfl (lv_at hl 0 rfl) ?_
        refine lv_aload_n hx hb dX0_pass_23 rfl (lv_at hl 0 rfl) ?_
        refine x_get F hH 1 (by decide) q42 rfl dX0_pass_24 ?_
        refine lv_iload_n hx hb dX0_pass_27 rfl (lv_at hl 1 rfl) ?_
        refine x_ald F hH 1 (N := 12) rfl (by decide) (by decide) (by omega) dX0_pass_28 ?_
        refine lv_bipush (v := nI 16) hx hb dX0_pass_29 (by decide +kernel) ?_
        refine lv_iload_n hx hb dX0_pass_31 rfl (lv_at hl 2 rfl) ?_
        refine nw_imul hx hb dX0_pass_32 ?_
        refine lv_iload_n hx hb dX0_pass_33 rfl (lv_at hl 3 rfl) ?_
        refine nw_iadd hx hb dX0_pass_34 ?_
        refine x_calli F hH hA (As := [.int (nI (ar 1 i)), .int (nI ((16 * a1) + b1))]) (rest := []) (fun sz => mX0_tokenAt l dC dI h d sc ar (ar 1 i) (16 * a1 + b1) hT20 ho.2.2.2 hli.1 (by omega) sz) (cwV 2 hts (lw_V q104 q106 qs4 q15 q107) rfl rfl rfl (by decide +kernel) ⟨Nat.le_of_ble_eq_true rfl, Nat.le_of_ble_eq_true rfl⟩) rfl hl.1 (Nat.le_of_ble_eq_true rfl) rfl dX0_pass_35 ⟨Nat.zero_le _, Nat.zero_le _⟩ (fun r sc_1 ar_2 H locs hp hH => ?_)
        try dsimp only at hp
        obtain ⟨⟨hq1, hq2⟩, hp⟩ := hp
        have hq1 : sc_1 = sc := hq1
        have hq2 : ar_2 = ar := hq2
        rw [hq1, hq2] at hH
        rcases hp with ⟨k, hk, hk1, hk2, rfl⟩ | ⟨hk1, rfl⟩
        · refine lv_istore (lv' := [(4, .int (nI k)), (0, .ref (h 0)), (1, .int (nI i)), (2, .int (nI a1)), (3, .int (nI b1))]) hx hb dX0_pass_38 hl (by decide) rfl (fun ls hl => ?_)
          refine lv_iload hx hb dX0_pass_40 (lv_at hl 0 rfl) ?_
          refine nw_ifge (tgt := 47) hx hb dX0_pass_42 (by decide) (by omega) ?_
          have tt := tr_pass_c (v := (nvX sc ar)) hi0 hn12 ha1 hb1 hk hk1 hk2
          have hkk := ho.2.2.2 k hk
          have hkk1 : ar 5 k < 7 := hkk.1
          have hkk2 : ar 6 k < 256 := hkk.2
          have hk1b : ar 6 k = 16 * a1 + b1 := hk1.2
          refine lv_iload_n hx hb dX0_pass_47 rfl (lv_at hl 3 rfl) ?_
          refine lv_aload_n hx hb dX0_pass_48 rfl (lv_at hl 1 rfl) ?_
          refine x_get F hH 3 (by decide) q44 rfl dX0_pass_49 ?_
          refine lv_iload_n hx hb dX0_pass_52 rfl (lv_at hl 2 rfl) ?_
          refine x_ald F hH 3 (N := 12) rfl (by decide) (by decide) (by omega) dX0_pass_53 ?_
          refine nw_iadd hx hb dX0_pass_54 ?_
          refine lv_bipush (v := nI 15) hx hb dX0_pass_55 (by decide +kernel) ?_
          refine nw_gt (tgt := 73) hx hb dX0_pass_57 (by decide) (by omega) (fun c57 => ?_) (fun c57 => ?_)
          · rw [ci_f (by show ¬ (a1 + ar 3 i ≤ 15 ∧ b1 + ar 4 i ≤ 15); omega)] at tt
            refine lv_bipush (v := -2) hx hb dX0_pass_73 (by decide +kernel) ?_
            exact x_iret F hH hrt hlk hQ ⟨hI0, by rw [tt], by rw [tt]⟩ dX0_pass_75
          · refine lv_iload_n hx hb dX0_pass_60 rfl (lv_at hl 4 rfl) ?_
            refine lv_aload_n hx hb dX0_pass_61 rfl (lv_at hl 1 rfl) ?_
            refine x_get F hH 4 (by decide) q45 rfl dX0_pass_62 ?_
            refine lv_iload_n hx hb dX0_pass_65 rfl (lv_at hl 2 rfl) ?_
            refine x_ald F hH 4 (N := 12) rfl (by decide) (by decide) (by omega) dX0_pass_66 ?_
            refine nw_iadd hx hb dX0_pass_67 ?_
            refine lv_bipush (v := nI 15) hx hb dX0_pass_68 (by decide +kernel) ?_
            refine nw_le (tgt := 76) hx hb dX0_pass_70 (by decide) (by omega) (fun c70 => ?_) (fun c70 => ?_)
            · rw [ci_t (show a1 + ar 3 i ≤ 15 ∧ b1 + ar 4 i ≤ 15 by omega)] at tt
              refine lv_aload_n hx hb dX0_pass_76 rfl (lv_at hl 1 rfl) ?_
              refine lv_aload_n hx hb dX0_pass_77 rfl (lv_at hl 1 rfl) ?_
              refine x_get F hH 6 (by decide) q47 rfl dX0_pass_78 ?_
              refine lv_iload hx hb dX0_pass_81 (lv_at hl 0 rfl) ?_
              refine x_ald F hH 5 (N := 20) rfl (by decide) (by decide) (by omega) dX0_pass_83 ?_
              refine lv_aload_n hx hb dX0_pass_84 rfl (lv_at hl 1 rfl) ?_
              refine x_get F hH 7 (by decide) q48 rfl dX0_pass_85 ?_
              refine lv_iload hx hb dX0_pass_88 (lv_at hl 0 rfl) ?_
              refine x_ald F hH 6 (N := 20) rfl (by decide) (by decide) (by omega) dX0_pass_90 ?_
              refine lv_iconst (v := -1) hx hb dX0_pass_91 (by decide +kernel) ?_
              refine x_callv F hH hA (As := [.int (nI (ar 5 k)), .int (nI (ar 6 k)), .int ((-1))]) (rest := []) (fun sz => mX0_count l dC dI h d sc ar rows (fun z => z - 1) (ar 5 k) (ar 6 k) (-1) (by omega) (by omega) hrp (fun m hm => fa_stair_inj (hw (ar 5 k) m (by omega) hm).1) (fun m a b h1 h2 h3 h4 => mk_ge hmk hk h1 h2 h3 h4) sz) (cwV 3 hts (lw_V q37 q39 qs3 q15 q40) rfl rfl rfl (by decide +kernel) ⟨Nat.le_of_ble_eq_true rfl, Nat.le_of_ble_eq_true rfl⟩) rfl hl.1 (Nat.le_of_ble_eq_true rfl) rfl dX0_pass_92 ⟨Nat.zero_le _, Nat.zero_le _⟩ (fun sc_3 ar_4 H locs hp hH => ?_)
              try dsimp only at hp
              obtain ⟨hp1, hp2, hp3⟩ := hp
              refine lv_aload_n hx hb dX0_pass_95 rfl (lv_at hl 1 rfl) ?_
              refine x_get F hH 6 (by decide) q47 rfl dX0_pass_96 ?_
              refine lv_iload hx hb dX0_pass_99 (lv_at hl 0 rfl) ?_
              refine lv_aload_n hx hb dX0_pass_101 rfl (lv_at hl 1 rfl) ?_
              refine x_get F hH 2 (by decide) q43 rfl dX0_pass_102 ?_
              refine lv_iload_n hx hb dX0_pass_105 rfl (lv_at hl 2 rfl) ?_
              refine x_aldv F hH 2 (N := 12) (v := (ar 2 i)) rfl (by decide) (by decide) (by omega) (by rw [hp2 2 (by decide)]) dX0_pass_106 ?_
              refine x_ast F hH 5 (N := 20) rfl (by decide) (by decide) (by omega) dX0_pass_107 (fun ar_5 H locs ear_5 hH => ?_)
              refine lv_aload_n hx hb dX0_pass_108 rfl (lv_at hl 1 rfl) ?_
              refine x_get F hH 7 (by decide) q48 rfl dX0_pass_109 ?_
              refine lv_iload hx hb dX0_pass_112 (lv_at hl 0 rfl) ?_
              refine lv_dup2_11 hx hb dX0_pass_114 rfl rfl ?_
              refine x_aldv F hH 6 (N := 20) (v := (ar 6 k)) rfl (by decide) (by decide) (by omega) (by rw [ear_5, au_k _ _ _ (by decide), hp2 6 (by decide)]) dX0_pass_115 ?_
              refine lv_bipush (v := nI 16) hx hb dX0_pass_116 (by decide +kernel) ?_
              refine lv_aload_n hx hb dX0_pass_118 rfl (lv_at hl 1 rfl) ?_
              refine x_get F hH 3 (by decide) q44 rfl dX0_pass_119 ?_
              refine lv_iload_n hx hb dX0_pass_122 rfl (lv_at hl 2 rfl) ?_
              refine x_aldv F hH 3 (N := 12) (v := (ar 3 i)) rfl (by decide) (by decide) (by omega) (by rw [ear_5, au_k _ _ _ (by decide), hp2 3 (by decide)]) dX0_pass_123 ?_
              refine nw_imul hx hb dX0_pass_124 ?_
              refine lv_aload_n hx hb dX0_pass_125 rfl (lv_at hl 1 rfl) ?_
              refine x_get F hH 4 (by decide) q45 rfl dX0_pass_126 ?_
              refine lv_iload_n hx hb dX0_pass_129 rfl (lv_at hl 2 rfl) ?_
              refine x_aldv F hH 4 (N := 12) (v := (ar 4 i)) rfl (by decide) (by decide) (by omega) (by rw [ear_5, au_k _ _ _ (by decide), hp2 4 (by decide)]) dX0_pass_130 ?_
              refine nw_iadd hx hb dX0_pass_131 ?_
              refine nw_iadd hx hb dX0_pass_132 ?_
              refine x_ast F hH 6 (N := 20) rfl (by decide) (by decide) (by omega) dX0_pass_133 (fun ar_6 H locs ear_6 hH => ?_)
              have w5 : ar_6 5 = nu (ar 5) k (ar 2 i) := by rw [ear_6, au_k _ _ _ (by decide), ear_5, au_nu, hp2 5 (by decide)]
              have w6 : ar_6 6 = nu (ar 6) k (ar 6 k + (16 * ar 3 i + ar 4 i)) := by rw [ear_6, au_nu, ear_5, au_k _ _ _ (by decide), hp2 6 (by decide)]
              have wk : ∀ k, k ≠ 5 → k ≠ 6 → k ≠ 10 → ar_6 k = ar k := fun k q1 q2 q3 => by rw [ear_6, au_k _ _ _ q2, ear_5, au_k _ _ _ q1, hp2 k q3]
              have w5k : ar_6 5 k = ar 2 i := by rw [w5, nu_s]
              have w6k : ar_6 6 k = (ar 6 k + (16 * ar 3 i + ar 4 i)) := by rw [w6, nu_s]
              have eN : nvX sc_3 ar_6 = nl_pass (nvX sc ar) k (ar 2 i) (16 * (a1 + ar 3 i) + (b1 + ar 4 i)) := by
                unfold nvX
                rw [wk 1 (by decide) (by decide) (by decide), wk 2 (by decide) (by decide) (by decide), wk 3 (by decide) (by decide) (by decide), wk 4 (by decide) (by decide) (by decide), w5, w6, show (ar 6 k + (16 * ar 3 i + ar 4 i)) = 16 * (a1 + ar 3 i) + (b1 + ar 4 i) by omega]
                have e0 : sc_3 = sc := hp1
                rw [e0]; rfl
              have hrp1 := rp_same hrp (wk 7 (by decide) (by decide) (by decide)) (wk 8 (by decide) (by decide) (by decide))
              have w10 : ar_6 10 = ar_4 10 := by rw [ear_6, au_k _ _ _ (by decide), ear_5, au_k _ _ _ (by decide)]
              refine lv_aload_n hx hb dX0_pass_134 rfl (lv_at hl 1 rfl) ?_
              refine lv_aload_n hx hb dX0_pass_135 rfl (lv_at hl 1 rfl) ?_
              refine x_get F hH 6 (by decide) q47 rfl dX0_pass_136 ?_
              refine lv_iload hx hb dX0_pass_139 (lv_at hl 0 rfl) ?_
              refine x_aldv F hH 5 (N := 20) (v := (ar 2 i)) rfl (by decide) (by decide) (by omega) w5k dX0_pass_141 ?_
              refine lv_aload_n hx hb dX0_pass_142 rfl (lv_at hl 1 rfl) ?_
              refine x_get F hH 7 (by decide) q48 rfl dX0_pass_143 ?_
              refine lv_iload hx hb dX0_pass_146 (lv_at hl 0 rfl) ?_
              refine x_aldv F hH 6 (N := 20) (v := (ar 6 k + (16 * ar 3 i + ar 4 i))) rfl (by decide) (by decide) (by omega) w6k dX0_pass_148 ?_
              refine lv_iconst (v := nI 1) hx hb dX0_pass_149 (by decide +kernel) ?_
              refine x_callv F hH hA (As := [.int (nI (ar 2 i)), .int (nI (ar 6 k + (16 * ar 3 i + ar 4 i))), .int (nI 1)]) (rest := []) (fun sz => mX0_count l dC dI h d sc_3 ar_6 rows (fun z => z + 1) (ar 2 i) (ar 6 k + (16 * ar 3 i + ar 4 i)) (nI 1) (by omega) (by omega) hrp1 (fun m hm => fa_stair_inj (hw (ar 2 i) m (by omega) hm).1) (fun m a b _ _ _ _ => nI_add _ 1) sz) (cwV 3 hts (lw_V q37 q39 qs3 q15 q40) rfl rfl rfl (by decide +kernel) ⟨Nat.le_of_ble_eq_true rfl, Nat.le_of_ble_eq_true rfl⟩) rfl hl.1 (Nat.le_of_ble_eq_true rfl) rfl dX0_pass_150 ⟨Nat.zero_le _, Nat.zero_le _⟩ (fun sc_7 ar_8 H locs hp hH => ?_)
              try dsimp only at hp
              obtain ⟨hr1, hr2, hr3⟩ := hp
              have eN2 := (nvX_10 hr1 hr2).trans eN
              rw [w10, show ar 6 k + (16 * ar 3 i + ar 4 i) = 16 * (a1 + ar 3 i) + (b1 + ar 4 i) by omega] at hr3
              refine lv_iconst (v := nI 0) hx hb dX0_pass_153 (by decide +kernel) ?_
              exact x_iret F hH hrt hlk hQ ⟨x_pass_I ho hrp hw hmk hk hli.2.1 (by omega) eN2 ((hr2 7 (by decide)).trans (wk 7 (by decide) (by decide) (by decide))) ((hr2 8 (by decide)).trans (wk 8 (by decide) (by decide) (by decide))) hp3 hr3, by rw [eN2, tt], by rw [tt]; exact nI_0⟩ dX0_pass_154
            · rw [ci_f (by show ¬ (a1 + ar 3 i ≤ 15 ∧ b1 + ar 4 i ≤ 15); omega)] at tt
              refine lv_bipush (v := -2) hx hb dX0_pass_73 (by decide +kernel) ?_
              exact x_iret F hH hrt hlk hQ ⟨hI0, by rw [tt], by rw [tt]⟩ dX0_pass_75
        · refine lv_istore (lv' := [(4, .int ((-1))), (0, .ref (h 0)), (1, .int (nI i)), (2, .int (nI a1)), (3, .int (nI b1))]) hx hb dX0_pass_38 hl (by decide) rfl (fun ls hl => ?_)
          refine lv_iload hx hb dX0_pass_40 (lv_at hl 0 rfl) ?_
          refine nw_ifgem (tgt := 47) hx hb dX0_pass_42 (by decide) ?_
          have htr : tr_pass (nvX sc ar) (nI i) (nI a1) (nI b1) = ((nvX sc ar), -1) := tr_pass_n hn12 (fun y1 y2 y3 j e1 e2 e3 q1 q2 q3 hj => by
            have q1 : y1 < sc 0 := q1
            rw [← (nI_eq (by omega) (by omega)).mp e1, ← (nI_eq (by omega) (by omega)).mp e2, ← (nI_eq (by omega) (by omega)).mp e3]
            exact hk1 j hj)
          refine lv_iconst (v := -1) hx hb dX0_pass_45 (by decide +kernel) ?_
          exact x_iret F hH hrt hlk hQ ⟨hI0, by rw [htr], by rw [htr]⟩ dX0_pass_46
      · refine nw_ifne (tgt := 22) hx hb dX0_pass_17 (by decide) (by decide) (fun q => absurd rfl q) (fun _ => ?_)
        first | rw [nw_cle_x (by omega)] at c9 | rw [nw_lt0] at c1 | skip
        have htr : tr_pass (nvX sc ar) x0 a0 b0 = ((nvX sc ar), -1) := ci_f (fun q => by
          have q0 : 0 ≤ x0.toInt := q.1
          have q1 : x0.toInt < (sc 0 : Int) := q.2.1
          have q2 : (0 ≤ a0.toInt ∧ a0.toInt ≤ 15) := q.2.2.1
          have q3 : (0 ≤ b0.toInt ∧ b0.toInt ≤ 15) := q.2.2.2.1
          omega)
        refine lv_iconst (v := -1) hx hb dX0_pass_20 (by decide +kernel) ?_
        exact x_iret F hH hrt hlk hQ ⟨hI0, by rw [htr], by rw [htr]⟩ dX0_pass_21
end
section
/-! the component's questions -/
set_option maxHeartbeats 4000000 in
set_option maxRecDepth 100000 in
theorem mX0_possible (l : Launch) (dC : Nat → ClassId) (dI : Nat → Nat → Nat) (h : Nat → Nat) (d : ClassId) (sc : Nat → Nat) (ar : Nat → Nat → Nat) (x0 a0 b0 : Int32) (hI : x_I sc ar) (sz : Nat) : Met l yX0_possible (ws_ yX0_possible cX0_possible 6 (some .int)) (r_ 1) (x_Pc dC dI h d sz sc ar [.ref (h 0), .int x0, .int a0, .int b0]) (va_Qi (fun r u => x_I u.1 u.2 ∧ nvX u.1 u.2 = (nvX sc ar) ∧ r = tr_possible (nvX sc ar) x0 a0 b0) (x_B dC dI (x_A h d sc ar sz) h d) (x_A h d sc ar sz)) 0 0 (x_A h d sc ar sz) := by
  refine x_headi (by decide +kernel) rfl (Nat.le_of_ble_eq_true rfl) ?_
  intro p e s m below meth c A av QQ hrt hlk F hA hH hQ ls hl
  have hx := F.1.1
  have hb := F.1.2.1
  have hts := F.1.2.2.2.2
  have hl : lv_has ls 6 [(0, .ref (h 0)), (1, .int x0), (2, .int a0), (3, .int b0)] := hl
  have hI0 := hI
  obtain ⟨ho, rows, hrp, hw, hmk⟩ := hI
  have hT20 : sc 5 ≤ 20 := ho.2.1
  by_cases hok : sp_p x0 ∧ sp_t a0 ∧ sp_t b0
  rotate_left
  · refine lv_iload_n hx hb dX0_possible_0 rfl (lv_at hl 1 rfl) ?_
    refine x_calls F hH (As := [.int x0]) (rest := []) (mX0_isPlace l x0) (va_cwS 1 hts (lw_S q86 q87 q15 q88) rfl rfl rfl (by decide +kernel) ⟨Nat.le_of_ble_eq_true rfl, Nat.le_of_ble_eq_true rfl⟩) rfl hl.1 (Nat.le_of_ble_eq_true rfl) rfl dX0_possible_1 ⟨Nat.zero_le _, Nat.zero_le _⟩ (fun r H locs hp hH => ?_)
    try dsimp only at hp
    rcases hp with ⟨hg1, rfl⟩ | ⟨hg1, rfl⟩
    · refine nw_ifeq (tgt := 15) hx hb dX0_possible_4 (by decide) (by decide) (fun q => absurd q (by decide)) (fun _ => ?_)
      refine lv_iload_n hx hb dX0_possible_7 rfl (lv_at hl 2 rfl) ?_
      refine lv_iload_n hx hb dX0_possible_8 rfl (lv_at hl 3 rfl) ?_
      refine x_calls F hH (As := [.int a0, .int b0]) (rest := []) (mX0_isTime l a0 b0) (va_cwS 2 hts (lw_S q97 q98 q15 q99) rfl rfl rfl (by decide +kernel) ⟨Nat.le_of_ble_eq_true rfl, Nat.le_of_ble_eq_true rfl⟩) rfl hl.1 (Nat.le_of_ble_eq_true rfl) rfl dX0_possible_9 ⟨Nat.zero_le _, Nat.zero_le _⟩ (fun r H locs hp hH => ?_)
      try dsimp only at hp
      rcases hp with ⟨hg2, rfl⟩ | ⟨hg2, rfl⟩
      · refine nw_ifne (tgt := 17) hx hb dX0_possible_12 (by decide) (by decide) (fun _ => ?_) (fun q => absurd q (by decide))
        exact absurd ⟨hg1, ⟨hg2.1, hg2.2.1⟩, ⟨hg2.2.2.1, hg2.2.2.2⟩⟩ hok
      · refine nw_ifne (tgt := 17) hx hb dX0_possible_12 (by decide) (by decide) (fun q => absurd rfl q) (fun _ => ?_)
        refine lv_iconst (v := -1) hx hb dX0_possible_15 (by decide +kernel) ?_
        exact x_iret F hH hrt hlk hQ ⟨hI0, rfl, (ci_f hok).symm⟩ dX0_possible_16
    · refine nw_ifeq (tgt := 15) hx hb dX0_possible_4 (by decide) (by decide) (fun _ => ?_) (fun q => absurd rfl q)
      refine lv_iconst (v := -1) hx hb dX0_possible_15 (by decide +kernel) ?_
      exact x_iret F hH hrt hlk hQ ⟨hI0, rfl, (ci_f hok).symm⟩ dX0_possible_16
  · obtain ⟨x1, hx1, rfl⟩ := nw_toInt (x := x0) (n := 6) hok.1.1 hok.1.2 (by decide)
    obtain ⟨a1, ha1, rfl⟩ := nw_toInt (x := a0) (n := 15) hok.2.1.1 hok.2.1.2 (by decide)
    obtain ⟨b1, hb1, rfl⟩ := nw_toInt (x := b0) (n := 15) hok.2.2.1 hok.2.2.2 (by decide)
    have L20 : ∀ (nO : Nat) (x : Nat), a1 + 1 - x < nO → x ≤ a1 + 1 → (∀ x2 y2, x2 < x → y2 ≤ b1 → ar 10 (256 * x1 + 16 * x2 + y2) = 0) → ∀ (H : Heap) (locs : List Loc), xH dC dI A s.heap h d sc ar H locs → ∀ ls : Array Slot, lv_has ls 6 [(0, .ref (h 0)), (1, .int (nI x1)), (2, .int (nI a1)), (3, .int (nI b1)), (4, .int (nI x))] → W p l e (r_ 1) s m av below meth c H locs 0 0 QQ (F0 m 20 ls []) := by
      intro nO
      induction nO with
      | zero => intro _ hlt; exact absurd hlt (Nat.not_lt_zero _)
      | succ nO ihO =>
        intro x hnO hxa hj H locs hH ls hl
        have L29 : ∀ (n : Nat) (y : Nat), b1 + 1 - y < n → x ≤ a1 → y ≤ b1 + 1 → (∀ y2, y2 < y → ar 10 (256 * x1 + 16 * x + y2) = 0) → ∀ (H : Heap) (locs : List Loc), xH dC dI A s.heap h d sc ar H locs → ∀ ls : Array Slot, lv_has ls 6 [(0, .ref (h 0)), (1, .int (nI x1)), (2, .int (nI a1)), (3, .int (nI b1)), (4, .int (nI x)), (5, .int (nI y))] → W p l e (r_ 1) s m av below meth c H locs 0 0 QQ (F0 m 29 ls []) := by
          intro n
          induction n with
          | zero => intro _ hlt; exact absurd hlt (Nat.not_lt_zero _)
          | succ n ih =>
            intro y hn hxa hyb hy H locs hH ls hl
            refine lv_iload hx hb dX0_possible_29 (lv_at hl 5 rfl) ?_
            refine lv_iload_n hx hb dX0_possible_31 rfl (lv_at hl 3 rfl) ?_
            refine nw_gt (tgt := 65) hx hb dX0_possible_32 (by decide) (by omega) (fun c32 => ?_) (fun c32 => ?_)
            · refine lv_iinc (v := (nI (x + 1))) (lv' := [(4, .int (nI (x + 1))), (0, .ref (h 0)), (1, .int (nI x1)), (2, .int (nI a1)), (3, .int (nI b1)), (5, .int (nI y))]) hx hb dX0_possible_65 hl (k := 4) rfl (nw_inc _) (by decide) rfl (fun ls hl => ?_)
              refine lv_goto (tgt := 20) hx hb dX0_possible_68 (by decide) ?_
              exact ihO (x + 1) (by omega) (by omega) (fun x2 y2 q1 q2 => by
                by_cases e : x2 = x
                · rw [e]; exact hy y2 (by omega)
                · exact hj x2 y2 (by omega) q2) H locs hH ls (lv_sub hl [1, 2, 3, 4, 0] rfl)
            · have hmb := mk_bnd ho hmk (m := x1) (a := x) (b := y) (by omega) (by omega) (by omega)
              refine lv_aload_n hx hb dX0_possible_35 rfl (lv_at hl 0 rfl) ?_
              refine x_get F hH 12 (by decide) q53 rfl dX0_possible_36 ?_
              refine lv_sipush (v := nI 256) hx hb dX0_possible_39 (by decide +kernel) ?_
              refine lv_iload_n hx hb dX0_possible_42 rfl (lv_at hl 1 rfl) ?_
              refine nw_imul hx hb dX0_possible_43 ?_
              refine lv_bipush (v := nI 16) hx hb dX0_possible_44 (by decide +kernel) ?_
              refine lv_iload hx hb dX0_possible_46 (lv_at hl 4 rfl) ?_
              refine nw_imul hx hb dX0_possible_48 ?_
              refine nw_iadd hx hb dX0_possible_49 ?_
              refine lv_iload hx hb dX0_possible_50 (lv_at hl 5 rfl) ?_
              refine nw_iadd hx hb dX0_possible_52 ?_
              refine x_ald F hH 10 (N := 1792) rfl (by decide) (by decide) (by omega) dX0_possible_53 ?_
              refine nw_ifle (tgt := 59) hx hb dX0_possible_54 (by decide) (by omega) (fun c54 => ?_) (fun c54 => ?_)
              · refine lv_iinc (v := (nI (y + 1))) (lv' := [(5, .int (nI (y + 1))), (0, .ref (h 0)), (1, .int (nI x1)), (2, .int (nI a1)), (3, .int (nI b1)), (4, .int (nI x))]) hx hb dX0_possible_59 hl (k := 5) rfl (nw_inc _) (by decide) rfl (fun ls hl => ?_)
                refine lv_goto (tgt := 29) hx hb dX0_possible_62 (by decide) ?_
                exact ih (y + 1) (by omega) hxa (by omega) (lt_s hy c54) H locs hH ls (lv_sub hl [1, 2, 3, 4, 5, 0] rfl)
              · refine lv_iconst (v := nI 1) hx hb dX0_possible_57 (by decide +kernel) ?_
                exact x_iret F hH hrt hlk hQ ⟨hI0, rfl, by rw [tr_possible_t hx1 ha1 hb1, ci_t ⟨x, y, by omega, by omega, mk_R ho hw hmk (by omega) (by omega) (by omega) c54⟩]; decide +kernel⟩ dX0_possible_58
        refine lv_iload hx hb dX0_possible_20 (lv_at hl 4 rfl) ?_
        refine lv_iload_n hx hb dX0_possible_22 rfl (lv_at hl 2 rfl) ?_
        refine nw_gt (tgt := 71) hx hb dX0_possible_23 (by decide) (by omega) (fun c23 => ?_) (fun c23 => ?_)
        · refine lv_iconst (v := nI 0) hx hb dX0_possible_71 (by decide +kernel) ?_
          exact x_iret F hH hrt hlk hQ ⟨hI0, rfl, by
            rw [tr_possible_t hx1 ha1 hb1, ci_f]
            · decide +kernel
            · rintro ⟨x2, y2, q1, q2, q3⟩
              obtain ⟨x3, y3, q4, q5, q6⟩ := R_mk ho hw hmk (by omega) (by omega) (by omega) q3
              have := hj x3 y3 (by omega) (by omega)
              omega⟩ dX0_possible_72
        · refine lv_iconst (v := nI 0) hx hb dX0_possible_26 (by decide +kernel) ?_
          refine lv_istore (lv' := [(5, .int (nI 0)), (0, .ref (h 0)), (1, .int (nI x1)), (2, .int (nI a1)), (3, .int (nI b1)), (4, .int (nI x))]) hx hb dX0_possible_27 hl (by decide) rfl (fun ls hl => ?_)
          exact L29 (b1 + 2) 0 (by omega) (by omega) (by omega) lt_0 _ _ hH ls (lv_sub hl [1, 2, 3, 4, 5, 0] rfl)
    refine lv_iload_n hx hb dX0_possible_0 rfl (lv_at hl 1 rfl) ?_
    refine x_calls F hH (As := [.int (nI x1)]) (rest := []) (mX0_isPlace l (nI x1)) (va_cwS 1 hts (lw_S q86 q87 q15 q88) rfl rfl rfl (by decide +kernel) ⟨Nat.le_of_ble_eq_true rfl, Nat.le_of_ble_eq_true rfl⟩) rfl hl.1 (Nat.le_of_ble_eq_true rfl) rfl dX0_possible_1 ⟨Nat.zero_le _, Nat.zero_le _⟩ (fun r H locs hp hH => ?_)
    try dsimp only at hp
    rcases hp with ⟨hg1, rfl⟩ | ⟨hg1, rfl⟩
    · refine nw_ifeq (tgt := 15) hx hb dX0_possible_4 (by decide) (by decide) (fun q => absurd q (by decide)) (fun _ => ?_)
      refine lv_iload_n hx hb dX0_possible_7 rfl (lv_at hl 2 rfl) ?_
      refine lv_iload_n hx hb dX0_possible_8 rfl (lv_at hl 3 rfl) ?_
      refine x_calls F hH (As := [.int (nI a1), .int (nI b1)]) (rest := []) (mX0_isTime l (nI a1) (nI b1)) (va_cwS 2 hts (lw_S q97 q98 q15 q99) rfl rfl rfl (by decide +kernel) ⟨Nat.le_of_ble_eq_true rfl, Nat.le_of_ble_eq_true rfl⟩) rfl hl.1 (Nat.le_of_ble_eq_true rfl) rfl dX0_possible_9 ⟨Nat.zero_le _, Nat.zero_le _⟩ (fun r H locs hp hH => ?_)
      try dsimp only at hp
      rcases hp with ⟨hg2, rfl⟩ | ⟨hg2, rfl⟩
      · refine nw_ifne (tgt := 17) hx hb dX0_possible_12 (by decide) (by decide) (fun _ => ?_) (fun q => absurd q (by decide))
        refine lv_iconst (v := nI 0) hx hb dX0_possible_17 (by decide +kernel) ?_
        refine lv_istore (lv' := [(4, .int (nI 0)), (0, .ref (h 0)), (1, .int (nI x1)), (2, .int (nI a1)), (3, .int (nI b1))]) hx hb dX0_possible_18 hl (by decide) rfl (fun ls hl => ?_)
        exact L20 (a1 + 2) 0 (by omega) (by omega) (fun x2 y2 q => absurd q (Nat.not_lt_zero _)) _ _ hH ls (lv_sub hl [1, 2, 3, 4, 0] rfl)
      · refine nw_ifne (tgt := 17) hx hb dX0_possible_12 (by decide) (by decide) (fun q => absurd rfl q) (fun _ => ?_)
        first | exact absurd ⟨hok.2.1.1, hok.2.1.2, hok.2.2.1, hok.2.2.2⟩ hg2 | exact absurd hok.1 hg1
    · refine nw_ifeq (tgt := 15) hx hb dX0_possible_4 (by decide) (by decide) (fun _ => ?_) (fun q => absurd rfl q)
      first | exact absurd ⟨hok.2.1.1, hok.2.1.2, hok.2.2.1, hok.2.2.2⟩ hg2 | exact absurd hok.1 hg1
set_option maxHeartbeats 4000000 in
set_option maxRecDepth 100000 in
theorem mX0_ready (l : Launch) (dC : Nat → ClassId) (dI : Nat → Nat → Nat) (h : Nat → Nat) (d : ClassId) (sc : Nat → Nat) (ar : Nat → Nat → Nat) (x0 a0 b0 : Int32) (hI : x_I sc ar) (sz : Nat) : Met l yX0_ready (ws_ yX0_ready cX0_ready 7 (some .int)) (r_ 1) (x_Pc dC dI h d sz sc ar [.ref (h 0), .int x0, .int a0, .int b0]) (va_Qi (fun r u => x_I u.1 u.2 ∧ nvX u.1 u.2 = (nvX sc ar) ∧ r = tr_ready (nvX sc ar) x0 a0 b0) (x_B dC dI (x_A h d sc ar sz) h d) (x_A h d sc ar sz)) 0 0 (x_A h d sc ar sz) := by
  refine x_headi (by decide +kernel) rfl (Nat.le_of_ble_eq_true rfl) ?_
  intro p e s m below meth c A av QQ hrt hlk F hA hH hQ ls hl
  have hx := F.1.1
  have hb := F.1.2.1
  have hts := F.1.2.2.2.2
  have hl : lv_has ls 7 [(0, .ref (h 0)), (1, .int x0), (2, .int a0), (3, .int b0)] := hl
  have hI0 := hI
  obtain ⟨ho, rows, hrp, hw, hmk⟩ := hI
  have hT20 : sc 5 ≤ 20 := ho.2.1
  by_cases hok : sp_p x0 ∧ sp_t a0 ∧ sp_t b0
  rotate_left
  · refine lv_iload_n hx hb dX0_ready_0 rfl (lv_at hl 1 rfl) ?_
    refine x_calls F hH (As := [.int x0]) (rest := []) (mX0_isPlace l x0) (va_cwS 1 hts (lw_S q86 q87 q15 q88) rfl rfl rfl (by decide +kernel) ⟨Nat.le_of_ble_eq_true rfl, Nat.le_of_ble_eq_true rfl⟩) rfl hl.1 (Nat.le_of_ble_eq_true rfl) rfl dX0_ready_1 ⟨Nat.zero_le _, Nat.zero_le _⟩ (fun r H locs hp hH => ?_)
    try dsimp only at hp
    rcases hp with ⟨hg1, rfl⟩ | ⟨hg1, rfl⟩
    · refine nw_ifeq (tgt := 15) hx hb dX0_ready_4 (by decide) (by decide) (fun q => absurd q (by decide)) (fun _ => ?_)
      refine lv_iload_n hx hb dX0_ready_7 rfl (lv_at hl 2 rfl) ?_
      refine lv_iload_n hx hb dX0_ready_8 rfl (lv_at hl 3 rfl) ?_
      refine x_calls F hH (As := [.int a0, .int b0]) (rest := []) (mX0_isTime l a0 b0) (va_cwS 2 hts (lw_S q97 q98 q15 q99) rfl rfl rfl (by decide +kernel) ⟨Nat.le_of_ble_eq_true rfl, Nat.le_of_ble_eq_true rfl⟩) rfl hl.1 (Nat.le_of_ble_eq_true rfl) rfl dX0_ready_9 ⟨Nat.zero_le _, Nat.zero_le _⟩ (fun r H locs hp hH => ?_)
      try dsimp only at hp
      rcases hp with ⟨hg2, rfl⟩ | ⟨hg2, rfl⟩
      · refine nw_ifne (tgt := 17) hx hb dX0_ready_12 (by decide) (by decide) (fun _ => ?_) (fun q => absurd q (by decide))
        exact absurd ⟨hg1, ⟨hg2.1, hg2.2.1⟩, ⟨hg2.2.2.1, hg2.2.2.2⟩⟩ hok
      · refine nw_ifne (tgt := 17) hx hb dX0_ready_12 (by decide) (by decide) (fun q => absurd rfl q) (fun _ => ?_)
        refine lv_iconst (v := -1) hx hb dX0_ready_15 (by decide +kernel) ?_
        exact x_iret F hH hrt hlk hQ ⟨hI0, rfl, (ci_f hok).symm⟩ dX0_ready_16
    · refine nw_ifeq (tgt := 15) hx hb dX0_ready_4 (by decide) (by decide) (fun _ => ?_) (fun q => absurd rfl q)
      refine lv_iconst (v := -1) hx hb dX0_ready_15 (by decide +kernel) ?_
      exact x_iret F hH hrt hlk hQ ⟨hI0, rfl, (ci_f hok).symm⟩ dX0_ready_16
  · obtain ⟨x1, hx1, rfl⟩ := nw_toInt (x := x0) (n := 6) hok.1.1 hok.1.2 (by decide)
    obtain ⟨a1, ha1, rfl⟩ := nw_toInt (x := a0) (n := 15) hok.2.1.1 hok.2.1.2 (by decide)
    obtain ⟨b1, hb1, rfl⟩ := nw_toInt (x := b0) (n := 15) hok.2.2.1 hok.2.2.2 (by decide)
    have L23 : ∀ (n : Nat) (k own : Nat), sc 5 - k < n → k ≤ sc 5 → ow_ (fun j => nv_here (nvX sc ar) x1 (16 * a1 + b1) j) k own → (∀ j, j < k → ¬ nv_here (nvX sc ar) x1 (16 * a1 + b1) j → ¬ (∃ p q, fw_W (nv_E (nvX sc ar)) (ar 5 j) x1 p q ∧ ar 6 j / 16 + p ≤ a1 ∧ ar 6 j % 16 + q ≤ b1)) → ∀ (H : Heap) (locs : List Loc), xH dC dI A s.heap h d sc ar H locs → ∀ ls : Array Slot, lv_has ls 7 [(0, .ref (h 0)), (1, .int (nI x1)), (2, .int (nI a1)), (3, .int (nI b1)), (4, .int (nI own)), (5, .int (nI k))] → W p l e (r_ 1) s m av below meth c H locs 0 0 QQ (F0 m 23 ls []) := by
      intro n
      induction n with
      | zero => intro _ _ hlt; exact absurd hlt (Nat.not_lt_zero _)
      | succ n ih =>
        intro k own hn hk hown hoth H locs hH ls hl
        have hownk := hown.2
        refine lv_iload hx hb dX0_ready_23 (lv_at hl 5 rfl) ?_
        refine lv_aload_n hx hb dX0_ready_25 rfl (lv_at hl 0 rfl) ?_
        refine x_get F hH 5 (by decide) q46 rfl dX0_ready_26 ?_
        refine nw_ge (tgt := 106) hx hb dX0_ready_29 (by decide) (by omega) (fun c29 => ?_) (fun c29 => ?_)
        · refine lv_iload hx hb dX0_ready_106 (lv_at hl 4 rfl) ?_
          refine nw_ifle (tgt := 115) hx hb dX0_ready_108 (by decide) (by omega) (fun c108 => ?_) (fun c108 => ?_)
          · refine lv_iconst (v := nI 0) hx hb dX0_ready_115 (by decide +kernel) ?_
            exact x_iret F hH hrt hlk hQ ⟨hI0, rfl, by
              rw [tr_ready_t hx1 ha1 hb1, ci_f]
              · decide +kernel
              · rintro ⟨⟨j, q1, q2⟩, -⟩
                have q1 : j < sc 5 := q1
                have := hown.1.mpr ⟨j, by omega, q2⟩
                omega⟩ dX0_ready_116
          · refine lv_iconst (v := nI 1) hx hb dX0_ready_111 (by decide +kernel) ?_
            refine lv_goto (tgt := 116) hx hb dX0_ready_112 (by decide) ?_
            exact x_iret F hH hrt hlk hQ ⟨hI0, rfl, by
              rw [tr_ready_t hx1 ha1 hb1, ci_t]
              · decide +kernel
              · refine ⟨?_, ?_⟩
                · obtain ⟨j, q1, q2⟩ := hown.1.mp c108
                  exact ⟨j, show j < sc 5 by omega, q2⟩
                · rintro ⟨j, p9, q9, q1, q2, r1, r2, r3⟩
                  have q1 : j < sc 5 := q1
                  exact hoth j (by omega) q2 ⟨p9, q9, r1, r2, r3⟩⟩ dX0_ready_116
        · have hkk : ar 5 k < 7 ∧ ar 6 k < 256 := ho.2.2.2 k c29
          refine lv_aload_n hx hb dX0_ready_32 rfl (lv_at hl 0 rfl) ?_
          refine x_get F hH 6 (by decide) q47 rfl dX0_ready_33 ?_
          refine lv_iload hx hb dX0_ready_36 (lv_at hl 5 rfl) ?_
          refine x_ald F hH 5 (N := 20) rfl (by decide) (by decide) (by omega) dX0_ready_38 ?_
          refine lv_iload_n hx hb dX0_ready_39 rfl (lv_at hl 1 rfl) ?_
          refine nw_ne (tgt := 63) hx hb dX0_ready_40 (by decide) (by omega) (fun c40 => ?_) (fun c40 => ?_)
          · refine lv_iconst (v := nI 0) hx hb dX0_ready_63 (by decide +kernel) ?_
            refine lv_istore (lv' := [(6, .int (nI 0)), (0, .ref (h 0)), (1, .int (nI x1)), (2, .int (nI a1)), (3, .int (nI b1)), (4, .int (nI own)), (5, .int (nI k))]) hx hb dX0_ready_64 hl (by decide) rfl (fun ls hl => ?_)
            refine lv_iload hx hb dX0_ready_66 (lv_at hl 5 rfl) ?_
            refine lv_iload hx hb dX0_ready_68 (lv_at hl 0 rfl) ?_
            refine nw_ifeq (tgt := 77) hx hb dX0_ready_70 (by decide) (by decide) (fun _ => ?_) (fun q => absurd rfl q)
            refine lv_iconst (v := nI 0) hx hb dX0_ready_77 (by decide +kernel) ?_
            refine nw_iadd hx hb dX0_ready_78 ?_
            refine nw_top (fun ow2 eow2 => ?_)
            refine lv_istore (lv' := [(4, .int (nI ow2)), (6, .int (nI 0)), (0, .ref (h 0)), (1, .int (nI x1)), (2, .int (nI a1)), (3, .int (nI b1)), (5, .int (nI k))]) hx hb dX0_ready_79 hl (by decide) rfl (fun ls hl => ?_)
            refine lv_iload hx hb dX0_ready_81 (lv_at hl 1 rfl) ?_
            refine nw_ifne (tgt := 100) hx hb dX0_ready_83 (by decide) (by decide) (fun q => absurd rfl q) (fun _ => ?_)
            have hnh : ¬ nv_here (nvX sc ar) x1 (16 * a1 + b1) k := by first | exact fun q => c56 q.2 | exact fun q => c40 q.1
            refine lv_aload_n hx hb dX0_ready_86 rfl (lv_at hl 2 rfl) ?_
            refine lv_iload hx hb dX0_ready_87 (lv_at hl 6 rfl) ?_
            refine lv_iload_n hx hb dX0_ready_89 rfl (lv_at hl 3 rfl) ?_
            refine lv_iload_n hx hb dX0_ready_90 rfl (lv_at hl 4 rfl) ?_
            refine lv_iload_n hx hb dX0_ready_91 rfl (lv_at hl 5 rfl) ?_
            refine x_calli F hH hA (As := [.int (nI k), .int (nI x1), .int (nI a1), .int (nI b1)]) (rest := []) (fun sz => mX0_reaches l dC dI h d sc ar rows k x1 a1 b1 hT20 ho.2.2.2 hrp c29 (by omega) (by omega) (by omega) sz) (cwV 4 hts (lw_V q120 q122 qs5 q15 q123) rfl rfl rfl (by decide +kernel) ⟨Nat.le_of_ble_eq_true rfl, Nat.le_of_ble_eq_true rfl⟩) rfl hl.1 (Nat.le_of_ble_eq_true rfl) rfl dX0_ready_92 ⟨Nat.zero_le _, Nat.zero_le _⟩ (fun r sc_1 ar_2 H locs hp hH => ?_)
            try dsimp only at hp
            obtain ⟨⟨hq1, hq2⟩, hp⟩ := hp
            have hq1 : sc_1 = sc := hq1
            have hq2 : ar_2 = ar := hq2
            rw [hq1, hq2] at hH
            rcases hp with ⟨hre, rfl⟩ | ⟨hre, rfl⟩
            · have hre := (rc_iff hrp hw hkk.1 (by omega)).mp hre
              refine nw_ifeq (tgt := 100) hx hb dX0_ready_95 (by decide) (by decide) (fun q => absurd q (by decide)) (fun _ => ?_)
              refine lv_iconst (v := nI 0) hx hb dX0_ready_98 (by decide +kernel) ?_
              exact x_iret F hH hrt hlk hQ ⟨hI0, rfl, by
                rw [tr_ready_t hx1 ha1 hb1, ci_f]
                · decide +kernel
                · rintro ⟨-, q⟩
                  obtain ⟨p9, q9, r1, r2, r3⟩ := hre
                  exact q ⟨k, p9, q9, c29, hnh, r1, r2, r3⟩⟩ dX0_ready_99
            · have hre := fun q => hre ((rc_iff hrp hw hkk.1 (by omega)).mpr q)
              refine nw_ifeq (tgt := 100) hx hb dX0_ready_95 (by decide) (by decide) (fun _ => ?_) (fun q => absurd rfl q)
              refine lv_iinc (v := (nI (k + 1))) (lv' := [(5, .int (nI (k + 1))), (4, .int (nI ow2)), (6, .int (nI 0)), (0, .ref (h 0)), (1, .int (nI x1)), (2, .int (nI a1)), (3, .int (nI b1))]) hx hb dX0_ready_100 hl (k := 6) rfl (nw_inc _) (by decide) rfl (fun ls hl => ?_)
              refine lv_goto (tgt := 23) hx hb dX0_ready_103 (by decide) ?_
              exact ih (k + 1) ow2 (by omega) (by omega) (ow_f (F := (fun j => nv_here (nvX sc ar) x1 (16 * a1 + b1) j)) hnh hown eow2) (lt_s hoth (fun _ => hre)) H locs hH ls (lv_sub hl [3, 4, 5, 6, 1, 0] rfl)
          · refine lv_aload_n hx hb dX0_ready_43 rfl (lv_at hl 0 rfl) ?_
            refine x_get F hH 7 (by decide) q48 rfl dX0_ready_44 ?_
            refine lv_iload hx hb dX0_ready_47 (lv_at hl 5 rfl) ?_
            refine x_ald F hH 6 (N := 20) rfl (by decide) (by decide) (by omega) dX0_ready_49 ?_
            refine lv_bipush (v := nI 16) hx hb dX0_ready_50 (by decide +kernel) ?_
            refine lv_iload_n hx hb dX0_ready_52 rfl (lv_at hl 2 rfl) ?_
            refine nw_imul hx hb dX0_ready_53 ?_
            refine lv_iload_n hx hb dX0_ready_54 rfl (lv_at hl 3 rfl) ?_
            refine nw_iadd hx hb dX0_ready_55 ?_
            refine nw_ne (tgt := 63) hx hb dX0_ready_56 (by decide) (by omega) (fun c56 => ?_) (fun c56 => ?_)
            · refine lv_iconst (v := nI 0) hx hb dX0_ready_63 (by decide +kernel) ?_
              refine lv_istore (lv' := [(6, .int (nI 0)), (0, .ref (h 0)), (1, .int (nI x1)), (2, .int (nI a1)), (3, .int (nI b1)), (4, .int (nI own)), (5, .int (nI k))]) hx hb dX0_ready_64 hl (by decide) rfl (fun ls hl => ?_)
              refine lv_iload hx hb dX0_ready_66 (lv_at hl 5 rfl) ?_
              refine lv_iload hx hb dX0_ready_68 (lv_at hl 0 rfl) ?_
              refine nw_ifeq (tgt := 77) hx hb dX0_ready_70 (by decide) (by decide) (fun _ => ?_) (fun q => absurd rfl q)
              refine lv_iconst (v := nI 0) hx hb dX0_ready_77 (by decide +kernel) ?_
              refine nw_iadd hx hb dX0_ready_78 ?_
              refine nw_top (fun ow2 eow2 => ?_)
              refine lv_istore (lv' := [(4, .int (nI ow2)), (6, .int (nI 0)), (0, .ref (h 0)), (1, .int (nI x1)), (2, .int (nI a1)), (3, .int (nI b1)), (5, .int (nI k))]) hx hb dX0_ready_79 hl (by decide) rfl (fun ls hl => ?_)
              refine lv_iload hx hb dX0_ready_81 (lv_at hl 1 rfl) ?_
              refine nw_ifne (tgt := 100) hx hb dX0_ready_83 (by decide) (by decide) (fun q => absurd rfl q) (fun _ => ?_)
              have hnh : ¬ nv_here (nvX sc ar) x1 (16 * a1 + b1) k := by first | exact fun q => c56 q.2 | exact fun q => c40 q.1
              refine lv_aload_n hx hb dX0_ready_86 rfl (lv_at hl 2 rfl) ?_
              refine lv_iload hx hb dX0_ready_87 (lv_at hl 6 rfl) ?_
              refine lv_iload_n hx hb dX0_ready_89 rfl (lv_at hl 3 rfl) ?_
              refine lv_iload_n hx hb dX0_ready_90 rfl (lv_at hl 4 rfl) ?_
              refine lv_iload_n hx hb dX0_ready_91 rfl (lv_at hl 5 rfl) ?_
              refine x_calli F hH hA (As := [.int (nI k), .int (nI x1), .int (nI a1), .int (nI b1)]) (rest := []) (fun sz => mX0_reaches l dC dI h d sc ar rows k x1 a1 b1 hT20 ho.2.2.2 hrp c29 (by omega) (by omega) (by omega) sz) (cwV 4 hts (lw_V q120 q122 qs5 q15 q123) rfl rfl rfl (by decide +kernel) ⟨Nat.le_of_ble_eq_true rfl, Nat.le_of_ble_eq_true rfl⟩) rfl hl.1 (Nat.le_of_ble_eq_true rfl) rfl dX0_ready_92 ⟨Nat.zero_le _, Nat.zero_le _⟩ (fun r sc_3 ar_4 H locs hp hH => ?_)
              try dsimp only at hp
              obtain ⟨⟨hq1, hq2⟩, hp⟩ := hp
              have hq1 : sc_3 = sc := hq1
              have hq2 : ar_4 = ar := hq2
              rw [hq1, hq2] at hH
              rcases hp with ⟨hre, rfl⟩ | ⟨hre, rfl⟩
              · have hre := (rc_iff hrp hw hkk.1 (by omega)).mp hre
                refine nw_ifeq (tgt := 100) hx hb dX0_ready_95 (by decide) (by decide) (fun q => absurd q (by decide)) (fun _ => ?_)
                refine lv_iconst (v := nI 0) hx hb dX0_ready_98 (by decide +kernel) ?_
                exact x_iret F hH hrt hlk hQ ⟨hI0, rfl, by
                  rw [tr_ready_t hx1 ha1 hb1, ci_f]
                  · decide +kernel
                  · rintro ⟨-, q⟩
                    obtain ⟨p9, q9, r1, r2, r3⟩ := hre
                    exact q ⟨k, p9, q9, c29, hnh, r1, r2, r3⟩⟩ dX0_ready_99
              · have hre := fun q => hre ((rc_iff hrp hw hkk.1 (by omega)).mpr q)
                refine nw_ifeq (tgt := 100) hx hb dX0_ready_95 (by decide) (by decide) (fun _ => ?_) (fun q => absurd rfl q)
                refine lv_iinc (v := (nI (k + 1))) (lv' := [(5, .int (nI (k + 1))), (4, .int (nI ow2)), (6, .int (nI 0)), (0, .ref (h 0)), (1, .int (nI x1)), (2, .int (nI a1)), (3, .int (nI b1))]) hx hb dX0_ready_100 hl (k := 6) rfl (nw_inc _) (by decide) rfl (fun ls hl => ?_)
                refine lv_goto (tgt := 23) hx hb dX0_ready_103 (by decide) ?_
                exact ih (k + 1) ow2 (by omega) (by omega) (ow_f (F := (fun j => nv_here (nvX sc ar) x1 (16 * a1 + b1) j)) hnh hown eow2) (lt_s hoth (fun _ => hre)) H locs hH ls (lv_sub hl [3, 4, 5, 6, 1, 0] rfl)
            · refine lv_iconst (v := nI 1) hx hb dX0_ready_59 (by decide +kernel) ?_
              refine lv_goto (tgt := 64) hx hb dX0_ready_60 (by decide) ?_
              refine lv_istore (lv' := [(6, .int (nI 1)), (0, .ref (h 0)), (1, .int (nI x1)), (2, .int (nI a1)), (3, .int (nI b1)), (4, .int (nI own)), (5, .int (nI k))]) hx hb dX0_ready_64 hl (by decide) rfl (fun ls hl => ?_)
              refine lv_iload hx hb dX0_ready_66 (lv_at hl 5 rfl) ?_
              refine lv_iload hx hb dX0_ready_68 (lv_at hl 0 rfl) ?_
              refine nw_ifeq (tgt := 77) hx hb dX0_ready_70 (by decide) (by decide) (fun q => absurd q (by decide)) (fun _ => ?_)
              refine lv_iconst (v := nI 1) hx hb dX0_ready_73 (by decide +kernel) ?_
              refine lv_goto (tgt := 78) hx hb dX0_ready_74 (by decide) ?_
              refine nw_iadd hx hb dX0_ready_78 ?_
              refine nw_top (fun ow2 eow2 => ?_)
              refine lv_istore (lv' := [(4, .int (nI ow2)), (6, .int (nI 1)), (0, .ref (h 0)), (1, .int (nI x1)), (2, .int (nI a1)), (3, .int (nI b1)), (5, .int (nI k))]) hx hb dX0_ready_79 hl (by decide) rfl (fun ls hl => ?_)
              refine lv_iload hx hb dX0_ready_81 (lv_at hl 1 rfl) ?_
              refine nw_ifne (tgt := 100) hx hb dX0_ready_83 (by decide) (by decide) (fun _ => ?_) (fun q => absurd q (by decide))
              refine lv_iinc (v := (nI (k + 1))) (lv' := [(5, .int (nI (k + 1))), (4, .int (nI ow2)), (6, .int (nI 1)), (0, .ref (h 0)), (1, .int (nI x1)), (2, .int (nI a1)), (3, .int (nI b1))]) hx hb dX0_ready_100 hl (k := 6) rfl (nw_inc _) (by decide) rfl (fun ls hl => ?_)
              refine lv_goto (tgt := 23) hx hb dX0_ready_103 (by decide) ?_
              exact ih (k + 1) ow2 (by omega) (by omega) (ow_t (F := (fun j => nv_here (nvX sc ar) x1 (16 * a1 + b1) j)) ⟨c40, c56⟩ hown eow2) (lt_s hoth (fun q => absurd ⟨c40, c56⟩ q)) H locs hH ls (lv_sub hl [3, 4, 5, 6, 1, 0] rfl)
    refine lv_iload_n hx hb dX0_ready_0 rfl (lv_at hl 1 rfl) ?_
    refine x_calls F hH (As := [.int (nI x1)]) (rest := []) (mX0_isPlace l (nI x1)) (va_cwS 1 hts (lw_S q86 q87 q15 q88) rfl rfl rfl (by decide +kernel) ⟨Nat.le_of_ble_eq_true rfl, Nat.le_of_ble_eq_true rfl⟩) rfl hl.1 (Nat.le_of_ble_eq_true rfl) rfl dX0_ready_1 ⟨Nat.zero_le _, Nat.zero_le _⟩ (fun r H locs hp hH => ?_)
    try dsimp only at hp
    rcases hp with ⟨hg1, rfl⟩ | ⟨hg1, rfl⟩
    · refine nw_ifeq (tgt := 15) hx hb dX0_ready_4 (by decide) (by decide) (fun q => absurd q (by decide)) (fun _ => ?_)
      refine lv_iload_n hx hb dX0_ready_7 rfl (lv_at hl 2 rfl) ?_
      refine lv_iload_n hx hb dX0_ready_8 rfl (lv_at hl 3 rfl) ?_
      refine x_calls F hH (As := [.int (nI a1), .int (nI b1)]) (rest := []) (mX0_isTime l (nI a1) (nI b1)) (va_cwS 2 hts (lw_S q97 q98 q15 q99) rfl rfl rfl (by decide +kernel) ⟨Nat.le_of_ble_eq_true rfl, Nat.le_of_ble_eq_true rfl⟩) rfl hl.1 (Nat.le_of_ble_eq_true rfl) rfl dX0_ready_9 ⟨Nat.zero_le _, Nat.zero_le _⟩ (fun r H locs hp hH => ?_)
      try dsimp only at hp
      rcases hp with ⟨hg2, rfl⟩ | ⟨hg2, rfl⟩
      · refine nw_ifne (tgt := 17) hx hb dX0_ready_12 (by decide) (by decide) (fun _ => ?_) (fun q => absurd q (by decide))
        refine lv_iconst (v := nI 0) hx hb dX0_ready_17 (by decide +kernel) ?_
        refine lv_istore (lv' := [(4, .int (nI 0)), (0, .ref (h 0)), (1, .int (nI x1)), (2, .int (nI a1)), (3, .int (nI b1))]) hx hb dX0_ready_18 hl (by decide) rfl (fun ls hl => ?_)
        refine lv_iconst (v := nI 0) hx hb dX0_ready_20 (by decide +kernel) ?_
        refine lv_istore (lv' := [(5, .int (nI 0)), (4, .int (nI 0)), (0, .ref (h 0)), (1, .int (nI x1)), (2, .int (nI a1)), (3, .int (nI b1))]) hx hb dX0_ready_21 hl (by decide) rfl (fun ls hl => ?_)
        exact L23 (sc 5 + 1) 0 0 (by omega) (by omega) ow_0 lt_0 _ _ hH ls (lv_sub hl [2, 3, 4, 5, 1, 0] rfl)
      · refine nw_ifne (tgt := 17) hx hb dX0_ready_12 (by decide) (by decide) (fun q => absurd rfl q) (fun _ => ?_)
        first | exact absurd ⟨hok.2.1.1, hok.2.1.2, hok.2.2.1, hok.2.2.2⟩ hg2 | exact absurd hok.1 hg1
    · refine nw_ifeq (tgt := 15) hx hb dX0_ready_4 (by decide) (by decide) (fun _ => ?_) (fun q => absurd rfl q)
      first | exact absurd ⟨hok.2.1.1, hok.2.1.2, hok.2.2.1, hok.2.2.2⟩ hg2 | exact absurd hok.1 hg1
set_option maxHeartbeats 4000000 in
set_option maxRecDepth 100000 in
theorem mX0_front (l : Launch) (dC : Nat → ClassId) (dI : Nat → Nat → Nat) (h : Nat → Nat) (d : ClassId) (sc : Nat → Nat) (ar : Nat → Nat → Nat) (x0 : Int32) (hI : x_I sc ar) (sz : Nat) : Met l yX0_front (ws_ yX0_front cX0_front 6 (some .int)) (r_ 1) (x_Pc dC dI h d sz sc ar [.ref (h 0), .int x0]) (va_Qi (fun r u => x_I u.1 u.2 ∧ nvX u.1 u.2 = (nvX sc ar) ∧ r = tr_front (nvX sc ar) x0) (x_B dC dI (x_A h d sc ar sz) h d) (x_A h d sc ar sz)) 0 0 (x_A h d sc ar sz) := by
  refine x_headi (by decide +kernel) rfl (Nat.le_of_ble_eq_true rfl) ?_
  intro p e s m below meth c A av QQ hrt hlk F hA hH hQ ls hl
  have hx := F.1.1
  have hb := F.1.2.1
  have hts := F.1.2.2.2.2
  have hl : lv_has ls 6 [(0, .ref (h 0)), (1, .int x0)] := hl
  have hI0 := hI
  obtain ⟨ho, rows, hrp, hw, hmk⟩ := hI
  have hT20 : sc 5 ≤ 20 := ho.2.1
  by_cases hok : sp_p x0
  rotate_left
  · refine lv_iload_n hx hb dX0_front_0 rfl (lv_at hl 1 rfl) ?_
    refine x_calls F hH (As := [.int x0]) (rest := []) (mX0_isPlace l x0) (va_cwS 1 hts (lw_S q86 q87 q15 q88) rfl rfl rfl (by decide +kernel) ⟨Nat.le_of_ble_eq_true rfl, Nat.le_of_ble_eq_true rfl⟩) rfl hl.1 (Nat.le_of_ble_eq_true rfl) rfl dX0_front_1 ⟨Nat.zero_le _, Nat.zero_le _⟩ (fun r H locs hp hH => ?_)
    try dsimp only at hp
    rcases hp with ⟨hg1, rfl⟩ | ⟨hg1, rfl⟩
    · refine nw_ifne (tgt := 9) hx hb dX0_front_4 (by decide) (by decide) (fun _ => ?_) (fun q => absurd q (by decide))
      exact absurd hg1 hok
    · refine nw_ifne (tgt := 9) hx hb dX0_front_4 (by decide) (by decide) (fun q => absurd rfl q) (fun _ => ?_)
      refine lv_iconst (v := -1) hx hb dX0_front_7 (by decide +kernel) ?_
      exact x_iret F hH hrt hlk hQ ⟨hI0, rfl, (ci_f hok).symm⟩ dX0_front_8
  · obtain ⟨x1, hx1, rfl⟩ := nw_toInt (x := x0) (n := 6) hok.1 hok.2 (by decide)
    have L17 : ∀ (n : Nat) (a nn best : Nat), 16 - a < n → a ≤ 16 → best ≤ 16 → (∀ x y, x < a → y < best → ar 10 (256 * x1 + 16 * x + y) = 0) → sw_ ar x1 a best → nn = fc_n (fr_ 16 (nv_R (nvX sc ar) x1)) (16 * a) → ∀ (H : Heap) (locs : List Loc), xH dC dI A s.heap h d sc ar H locs → ∀ ls : Array Slot, lv_has ls 6 [(0, .ref (h 0)), (1, .int (nI x1)), (2, .int (nI nn)), (3, .int (nI best)), (4, .int (nI a))] → W p l e (r_ 1) s m av below meth c H locs 0 0 QQ (F0 m 17 ls []) := by
      intro n
      induction n with
      | zero => intro _ _ _ hlt; exact absurd hlt (Nat.not_lt_zero _)
      | succ n ih =>
        intro a nn best hn ha hbest hs1 hs2 hnn H locs hH ls hl
        refine lv_iload hx hb dX0_front_17 (lv_at hl 4 rfl) ?_
        refine lv_bipush (v := nI 16) hx hb dX0_front_19 (by decide +kernel) ?_
        refine nw_ge (tgt := 57) hx hb dX0_front_21 (by decide) (by omega) (fun c21 => ?_) (fun c21 => ?_)
        · refine lv_iload_n hx hb dX0_front_57 rfl (lv_at hl 2 rfl) ?_
          exact x_iret F hH hrt hlk hQ ⟨hI0, rfl, by
            have ea : a = 16 := by omega
            rw [tr_front_t hx1, hnn, ea]⟩ dX0_front_58
        · refine lv_aload_n hx hb dX0_front_24 rfl (lv_at hl 0 rfl) ?_
          refine lv_iload_n hx hb dX0_front_25 rfl (lv_at hl 1 rfl) ?_
          refine lv_iload hx hb dX0_front_26 (lv_at hl 4 rfl) ?_
          refine lv_iload_n hx hb dX0_front_28 rfl (lv_at hl 3 rfl) ?_
          refine x_calli F hH hA (As := [.int (nI x1), .int (nI a), .int (nI best)]) (rest := []) (fun sz => mX0_firstMark l dC dI h d sc ar x1 a best (by omega) (by omega) (by omega) (fun y hy => mk_bnd ho hmk (by omega) (by omega) hy) sz) (cwV 3 hts (lw_V q128 q130 qs6 q15 q131) rfl rfl rfl (by decide +kernel) ⟨Nat.le_of_ble_eq_true rfl, Nat.le_of_ble_eq_true rfl⟩) rfl hl.1 (Nat.le_of_ble_eq_true rfl) rfl dX0_front_29 ⟨Nat.zero_le _, Nat.zero_le _⟩ (fun r sc_1 ar_2 H locs hp hH => ?_)
          try dsimp only at hp
          obtain ⟨⟨hq1, hq2⟩, hp⟩ := hp
          have hq1 : sc_1 = sc := hq1
          have hq2 : ar_2 = ar := hq2
          rw [hq1, hq2] at hH
          rcases hp with ⟨b, hb1, rfl, hb2, hb3⟩
          · refine lv_istore (lv' := [(5, .int (nI b)), (0, .ref (h 0)), (1, .int (nI x1)), (2, .int (nI nn)), (3, .int (nI best)), (4, .int (nI a))]) hx hb dX0_front_32 hl (by decide) rfl (fun ls hl => ?_)
            refine lv_iload_n hx hb dX0_front_34 rfl (lv_at hl 3 rfl) ?_
            refine lv_iload hx hb dX0_front_35 (lv_at hl 0 rfl) ?_
            refine lv_iload_n hx hb dX0_front_37 rfl (lv_at hl 4 rfl) ?_
            refine nw_ge (tgt := 45) hx hb dX0_front_38 (by decide) (by omega) (fun c38 => ?_) (fun c38 => ?_)
            · have hnext := fc_row_miss (F := (fr_ 16 (nv_R (nvX sc ar) x1))) (a := a) (fr_miss ho hw hmk (by omega) (by omega) hbest hs2 (fun y q => hb2 y (by omega)))
              refine lv_iconst (v := nI 0) hx hb dX0_front_45 (by decide +kernel) ?_
              refine nw_iadd hx hb dX0_front_46 ?_
              refine nw_top (fun nn2 enn2 => ?_)
              refine lv_istore_n (lv' := [(2, .int (nI nn2)), (5, .int (nI b)), (0, .ref (h 0)), (1, .int (nI x1)), (3, .int (nI best)), (4, .int (nI a))]) hx hb dX0_front_47 rfl hl (by decide) rfl (fun ls hl => ?_)
              refine lv_iload hx hb dX0_front_48 (lv_at hl 1 rfl) ?_
              refine lv_istore_n (lv' := [(3, .int (nI b)), (2, .int (nI nn2)), (5, .int (nI b)), (0, .ref (h 0)), (1, .int (nI x1)), (4, .int (nI a))]) hx hb dX0_front_50 rfl hl (by decide) rfl (fun ls hl => ?_)
              refine lv_iinc (v := (nI (a + 1))) (lv' := [(4, .int (nI (a + 1))), (3, .int (nI b)), (2, .int (nI nn2)), (5, .int (nI b)), (0, .ref (h 0)), (1, .int (nI x1))]) hx hb dX0_front_51 hl (k := 5) rfl (nw_inc _) (by decide) rfl (fun ls hl => ?_)
              refine lv_goto (tgt := 17) hx hb dX0_front_54 (by decide) ?_
              exact ih (a + 1) nn2 b (by omega) (by omega) (by omega) (fun x y q1 q2 => by
                by_cases e : x = a
                · rw [e]; exact hb2 y q2
                · exact hs1 x y (by omega) (by omega)) (by first | exact (sw_h (hb3 (by omega))) | exact (sw_m (by omega) hs2)) (by omega) H locs hH ls (lv_sub hl [4, 5, 2, 1, 0] rfl)
            · have hnext := (fc_row_hit (F := (fr_ 16 (nv_R (nvX sc ar) x1))) (a := a) (b := b) (by omega) (fr_hit ho hw hmk (by omega) (by omega) hbest hs1 (by omega) (hb3 (by omega)) hb2)).1
              refine lv_iconst (v := nI 1) hx hb dX0_front_41 (by decide +kernel) ?_
              refine lv_goto (tgt := 46) hx hb dX0_front_42 (by decide) ?_
              refine nw_iadd hx hb dX0_front_46 ?_
              refine nw_top (fun nn2 enn2 => ?_)
              refine lv_istore_n (lv' := [(2, .int (nI nn2)), (5, .int (nI b)), (0, .ref (h 0)), (1, .int (nI x1)), (3, .int (nI best)), (4, .int (nI a))]) hx hb dX0_front_47 rfl hl (by decide) rfl (fun ls hl => ?_)
              refine lv_iload hx hb dX0_front_48 (lv_at hl 1 rfl) ?_
              refine lv_istore_n (lv' := [(3, .int (nI b)), (2, .int (nI nn2)), (5, .int (nI b)), (0, .ref (h 0)), (1, .int (nI x1)), (4, .int (nI a))]) hx hb dX0_front_50 rfl hl (by decide) rfl (fun ls hl => ?_)
              refine lv_iinc (v := (nI (a + 1))) (lv' := [(4, .int (nI (a + 1))), (3, .int (nI b)), (2, .int (nI nn2)), (5, .int (nI b)), (0, .ref (h 0)), (1, .int (nI x1))]) hx hb dX0_front_51 hl (k := 5) rfl (nw_inc _) (by decide) rfl (fun ls hl => ?_)
              refine lv_goto (tgt := 17) hx hb dX0_front_54 (by decide) ?_
              exact ih (a + 1) nn2 b (by omega) (by omega) (by omega) (fun x y q1 q2 => by
                by_cases e : x = a
                · rw [e]; exact hb2 y q2
                · exact hs1 x y (by omega) (by omega)) (by first | exact (sw_h (hb3 (by omega))) | exact (sw_m (by omega) hs2)) (by omega) H locs hH ls (lv_sub hl [4, 5, 2, 1, 0] rfl)
    refine lv_iload_n hx hb dX0_front_0 rfl (lv_at hl 1 rfl) ?_
    refine x_calls F hH (As := [.int (nI x1)]) (rest := []) (mX0_isPlace l (nI x1)) (va_cwS 1 hts (lw_S q86 q87 q15 q88) rfl rfl rfl (by decide +kernel) ⟨Nat.le_of_ble_eq_true rfl, Nat.le_of_ble_eq_true rfl⟩) rfl hl.1 (Nat.le_of_ble_eq_true rfl) rfl dX0_front_1 ⟨Nat.zero_le _, Nat.zero_le _⟩ (fun r H locs hp hH => ?_)
    try dsimp only at hp
    rcases hp with ⟨hg1, rfl⟩ | ⟨hg1, rfl⟩
    · refine nw_ifne (tgt := 9) hx hb dX0_front_4 (by decide) (by decide) (fun _ => ?_) (fun q => absurd q (by decide))
      refine lv_iconst (v := nI 0) hx hb dX0_front_9 (by decide +kernel) ?_
      refine lv_istore_n (lv' := [(2, .int (nI 0)), (0, .ref (h 0)), (1, .int (nI x1))]) hx hb dX0_front_10 rfl hl (by decide) rfl (fun ls hl => ?_)
      refine lv_bipush (v := nI 16) hx hb dX0_front_11 (by decide +kernel) ?_
      refine lv_istore_n (lv' := [(3, .int (nI 16)), (2, .int (nI 0)), (0, .ref (h 0)), (1, .int (nI x1))]) hx hb dX0_front_13 rfl hl (by decide) rfl (fun ls hl => ?_)
      refine lv_iconst (v := nI 0) hx hb dX0_front_14 (by decide +kernel) ?_
      refine lv_istore (lv' := [(4, .int (nI 0)), (3, .int (nI 16)), (2, .int (nI 0)), (0, .ref (h 0)), (1, .int (nI x1))]) hx hb dX0_front_15 hl (by decide) rfl (fun ls hl => ?_)
      exact L17 17 0 0 16 (by omega) (by omega) (by omega) (fun x y q => absurd q (Nat.not_lt_zero _)) sw_0 rfl _ _ hH ls (lv_sub hl [3, 4, 2, 1, 0] rfl)
    · refine nw_ifne (tgt := 9) hx hb dX0_front_4 (by decide) (by decide) (fun q => absurd rfl q) (fun _ => ?_)
      exact absurd hok hg1
set_option maxHeartbeats 4000000 in
set_option maxRecDepth 100000 in
theorem mX0_frontAt (l : Launch) (dC : Nat → ClassId) (dI : Nat → Nat → Nat) (h : Nat → Nat) (d : ClassId) (sc : Nat → Nat) (ar : Nat → Nat → Nat) (x0 i0 : Int32) (hI : x_I sc ar) (sz : Nat) : Met l yX0_frontAt (ws_ yX0_frontAt cX0_frontAt 7 (some .int)) (r_ 1) (x_Pc dC dI h d sz sc ar [.ref (h 0), .int x0, .int i0]) (va_Qi (fun r u => x_I u.1 u.2 ∧ nvX u.1 u.2 = (nvX sc ar) ∧ r = tr_frontAt (nvX sc ar) x0 i0) (x_B dC dI (x_A h d sc ar sz) h d) (x_A h d sc ar sz)) 0 0 (x_A h d sc ar sz) := by
  refine x_headi (by decide +kernel) rfl (Nat.le_of_ble_eq_true rfl) ?_
  intro p e s m below meth c A av QQ hrt hlk F hA hH hQ ls hl
  have hx := F.1.1
  have hb := F.1.2.1
  have hts := F.1.2.2.2.2
  have hl : lv_has ls 7 [(0, .ref (h 0)), (1, .int x0), (2, .int i0)] := hl
  have hI0 := hI
  obtain ⟨ho, rows, hrp, hw, hmk⟩ := hI
  have hT20 : sc 5 ≤ 20 := ho.2.1
  by_cases hok : sp_p x0
  rotate_left
  · refine lv_iload_n hx hb dX0_frontAt_0 rfl (lv_at hl 1 rfl) ?_
    refine x_calls F hH (As := [.int x0]) (rest := []) (mX0_isPlace l x0) (va_cwS 1 hts (lw_S q86 q87 q15 q88) rfl rfl rfl (by decide +kernel) ⟨Nat.le_of_ble_eq_true rfl, Nat.le_of_ble_eq_true rfl⟩) rfl hl.1 (Nat.le_of_ble_eq_true rfl) rfl dX0_frontAt_1 ⟨Nat.zero_le _, Nat.zero_le _⟩ (fun r H locs hp hH => ?_)
    try dsimp only at hp
    rcases hp with ⟨hg1, rfl⟩ | ⟨hg1, rfl⟩
    · refine nw_ifeq (tgt := 11) hx hb dX0_frontAt_4 (by decide) (by decide) (fun q => absurd q (by decide)) (fun _ => ?_)
      exact absurd hg1 hok
    · refine nw_ifeq (tgt := 11) hx hb dX0_frontAt_4 (by decide) (by decide) (fun _ => ?_) (fun q => absurd rfl q)
      refine lv_iconst (v := -1) hx hb dX0_frontAt_11 (by decide +kernel) ?_
      exact x_iret F hH hrt hlk hQ ⟨hI0, rfl, (ci_f hok).symm⟩ dX0_frontAt_12
  · obtain ⟨x1, hx1, rfl⟩ := nw_toInt (x := x0) (n := 6) hok.1 hok.2 (by decide)
    by_cases hneg : i0 < 0
    · refine lv_iload_n hx hb dX0_frontAt_0 rfl (lv_at hl 1 rfl) ?_
      refine x_calls F hH (As := [.int (nI x1)]) (rest := []) (mX0_isPlace l (nI x1)) (va_cwS 1 hts (lw_S q86 q87 q15 q88) rfl rfl rfl (by decide +kernel) ⟨Nat.le_of_ble_eq_true rfl, Nat.le_of_ble_eq_true rfl⟩) rfl hl.1 (Nat.le_of_ble_eq_true rfl) rfl dX0_frontAt_1 ⟨Nat.zero_le _, Nat.zero_le _⟩ (fun r H locs hp hH => ?_)
      try dsimp only at hp
      rcases hp with ⟨hg1, rfl⟩ | ⟨hg1, rfl⟩
      · refine nw_ifeq (tgt := 11) hx hb dX0_frontAt_4 (by decide) (by decide) (fun q => absurd q (by decide)) (fun _ => ?_)
        refine lv_iload_n hx hb dX0_frontAt_7 rfl (lv_at hl 2 rfl) ?_
        refine lv_if_ge (tgt := 13) hx hb dX0_frontAt_8 (by decide) (fun c8 => ?_) (fun c8 => ?_)
        · rw [nw_lt0] at hneg
          rw [Int32.le_iff_toInt_le, Int32.toInt_zero] at c8
          exact absurd c8 (by omega)
        · refine lv_iconst (v := -1) hx hb dX0_frontAt_11 (by decide +kernel) ?_
          exact x_iret F hH hrt hlk hQ ⟨hI0, rfl, by rw [tr_frontAt_t hx1, fs_neg (by decide) hneg]⟩ dX0_frontAt_12
      · refine nw_ifeq (tgt := 11) hx hb dX0_frontAt_4 (by decide) (by decide) (fun _ => ?_) (fun q => absurd rfl q)
        refine lv_iconst (v := -1) hx hb dX0_frontAt_11 (by decide +kernel) ?_
        exact x_iret F hH hrt hlk hQ ⟨hI0, rfl, by rw [tr_frontAt_t hx1, fs_neg (by decide) hneg]⟩ dX0_frontAt_12
    · obtain ⟨ii, hii, rfl⟩ := nI_of hneg
      have L22 : ∀ (n : Nat) (a rest best : Nat), 16 - a < n → a ≤ 16 → best ≤ 16 → (∀ x y, x < a → y < best → ar 10 (256 * x1 + 16 * x + y) = 0) → sw_ ar x1 a best → rest + fc_n (fr_ 16 (nv_R (nvX sc ar) x1)) (16 * a) = ii → ∀ (H : Heap) (locs : List Loc), xH dC dI A s.heap h d sc ar H locs → ∀ ls : Array Slot, lv_has ls 7 [(0, .ref (h 0)), (1, .int (nI x1)), (2, .int (nI ii)), (3, .int (nI rest)), (4, .int (nI best)), (5, .int (nI a))] → W p l e (r_ 1) s m av below meth c H locs 0 0 QQ (F0 m 22 ls []) := by
        intro n
        induction n with
        | zero => intro _ _ _ hlt; exact absurd hlt (Nat.not_lt_zero _)
        | succ n ih =>
          intro a rest best hn ha hbest hs1 hs2 hnn H locs hH ls hl
          refine lv_iload hx hb dX0_frontAt_22 (lv_at hl 5 rfl) ?_
          refine lv_bipush (v := nI 16) hx hb dX0_frontAt_24 (by decide +kernel) ?_
          refine nw_ge (tgt := 73) hx hb dX0_frontAt_26 (by decide) (by omega) (fun c26 => ?_) (fun c26 => ?_)
          · refine lv_iconst (v := -1) hx hb dX0_frontAt_73 (by decide +kernel) ?_
            exact x_iret F hH hrt hlk hQ ⟨hI0, rfl, by
              rw [tr_frontAt_t hx1, fs_end (by omega) (by decide)]
              have ea : a = 16 := by omega
              rw [ea, show 16 * 16 = 256 from rfl] at hnn
              omega⟩ dX0_frontAt_74
          · refine lv_aload_n hx hb dX0_frontAt_29 rfl (lv_at hl 0 rfl) ?_
            refine lv_iload_n hx hb dX0_frontAt_30 rfl (lv_at hl 1 rfl) ?_
            refine lv_iload hx hb dX0_frontAt_31 (lv_at hl 5 rfl) ?_
            refine lv_iload hx hb dX0_frontAt_33 (lv_at hl 4 rfl) ?_
            refine x_calli F hH hA (As := [.int (nI x1), .int (nI a), .int (nI best)]) (rest := []) (fun sz => mX0_firstMark l dC dI h d sc ar x1 a best (by omega) (by omega) (by omega) (fun y hy => mk_bnd ho hmk (by omega) (by omega) hy) sz) (cwV 3 hts (lw_V q128 q130 qs6 q15 q131) rfl rfl rfl (by decide +kernel) ⟨Nat.le_of_ble_eq_true rfl, Nat.le_of_ble_eq_true rfl⟩) rfl hl.1 (Nat.le_of_ble_eq_true rfl) rfl dX0_frontAt_35 ⟨Nat.zero_le _, Nat.zero_le _⟩ (fun r sc_1 ar_2 H locs hp hH => ?_)
            try dsimp only at hp
            obtain ⟨⟨hq1, hq2⟩, hp⟩ := hp
            have hq1 : sc_1 = sc := hq1
            have hq2 : ar_2 = ar := hq2
            rw [hq1, hq2] at hH
            rcases hp with ⟨b, hb1, rfl, hb2, hb3⟩
            · refine lv_istore (lv' := [(6, .int (nI b)), (0, .ref (h 0)), (1, .int (nI x1)), (2, .int (nI ii)), (3, .int (nI rest)), (4, .int (nI best)), (5, .int (nI a))]) hx hb dX0_frontAt_38 hl (by decide) rfl (fun ls hl => ?_)
              refine lv_iload hx hb dX0_frontAt_40 (lv_at hl 0 rfl) ?_
              refine lv_iload hx hb dX0_frontAt_42 (lv_at hl 5 rfl) ?_
              refine nw_ge (tgt := 63) hx hb dX0_frontAt_44 (by decide) (by omega) (fun c44 => ?_) (fun c44 => ?_)
              · refine lv_iload hx hb dX0_frontAt_63 (lv_at hl 0 rfl) ?_
                refine lv_istore (lv' := [(4, .int (nI b)), (6, .int (nI b)), (0, .ref (h 0)), (1, .int (nI x1)), (2, .int (nI ii)), (3, .int (nI rest)), (5, .int (nI a))]) hx hb dX0_frontAt_65 hl (by decide) rfl (fun ls hl => ?_)
                refine lv_iinc (v := (nI (a + 1))) (lv' := [(5, .int (nI (a + 1))), (4, .int (nI b)), (6, .int (nI b)), (0, .ref (h 0)), (1, .int (nI x1)), (2, .int (nI ii)), (3, .int (nI rest))]) hx hb dX0_frontAt_67 hl (k := 6) rfl (nw_inc _) (by decide) rfl (fun ls hl => ?_)
                refine lv_goto (tgt := 22) hx hb dX0_frontAt_70 (by decide) ?_
                have hnext := fc_row_miss (F := (fr_ 16 (nv_R (nvX sc ar) x1))) (a := a) (fr_miss ho hw hmk (by omega) (by omega) hbest hs2 (fun y q => hb2 y (by omega)))
                exact ih (a + 1) rest b (by omega) (by omega) (by omega) (fun x y q1 q2 => by
                  by_cases e : x = a
                  · rw [e]; exact hb2 y q2
                  · exact hs1 x y (by omega) (by omega)) (sw_m (by omega) hs2) (by omega) H locs hH ls (lv_sub hl [3, 4, 5, 6, 1, 0] rfl)
              · have hbl : b < best := by omega
                have hnext := fc_row_hit (F := (fr_ 16 (nv_R (nvX sc ar) x1))) (a := a) (b := b) (by omega) (fr_hit ho hw hmk (by omega) (by omega) hbest hs1 (by omega) (hb3 (by omega)) hb2)
                refine lv_iload_n hx hb dX0_frontAt_47 rfl (lv_at hl 4 rfl) ?_
                refine nw_ifne (tgt := 60) hx hb dX0_frontAt_48 (by decide) (by omega) (fun c48 => ?_) (fun c48 => ?_)
                · have hnext := hnext.1
                  refine lv_iinc (v := (nI (rest - 1))) (lv' := [(3, .int (nI (rest - 1))), (6, .int (nI b)), (0, .ref (h 0)), (1, .int (nI x1)), (2, .int (nI ii)), (4, .int (nI best)), (5, .int (nI a))]) hx hb dX0_frontAt_60 hl (k := 4) rfl (nw_dec (by omega)) (by decide) rfl (fun ls hl => ?_)
                  refine lv_iload hx hb dX0_frontAt_63 (lv_at hl 1 rfl) ?_
                  refine lv_istore (lv' := [(4, .int (nI b)), (3, .int (nI (rest - 1))), (6, .int (nI b)), (0, .ref (h 0)), (1, .int (nI x1)), (2, .int (nI ii)), (5, .int (nI a))]) hx hb dX0_frontAt_65 hl (by decide) rfl (fun ls hl => ?_)
                  refine lv_iinc (v := (nI (a + 1))) (lv' := [(5, .int (nI (a + 1))), (4, .int (nI b)), (3, .int (nI (rest - 1))), (6, .int (nI b)), (0, .ref (h 0)), (1, .int (nI x1)), (2, .int (nI ii))]) hx hb dX0_frontAt_67 hl (k := 6) rfl (nw_inc _) (by decide) rfl (fun ls hl => ?_)
                  refine lv_goto (tgt := 22) hx hb dX0_frontAt_70 (by decide) ?_
                  exact ih (a + 1) (rest - 1) b (by omega) (by omega) (by omega) (fun x y q1 q2 => by
                    by_cases e : x = a
                    · rw [e]; exact hb2 y q2
                    · exact hs1 x y (by omega) (by omega)) (sw_h (hb3 (by omega))) (by omega) H locs hH ls (lv_sub hl [4, 5, 6, 2, 1, 0] rfl)
                · refine lv_bipush (v := nI 16) hx hb dX0_frontAt_51 (by decide +kernel) ?_
                  refine lv_iload hx hb dX0_frontAt_53 (lv_at hl 6 rfl) ?_
                  refine nw_imul hx hb dX0_frontAt_55 ?_
                  refine lv_iload hx hb dX0_frontAt_56 (lv_at hl 0 rfl) ?_
                  refine nw_iadd hx hb dX0_frontAt_58 ?_
                  exact x_iret F hH hrt hlk hQ ⟨hI0, rfl, by
                    rw [tr_frontAt_t hx1]
                    exact (fs_hit (by decide) (by omega) (((fr_hit ho hw hmk (by omega) (by omega) hbest hs1 (by omega) (hb3 (by omega)) hb2) b (by omega)).mpr rfl) (by rw [hnext.2]; congr 1; omega)).symm⟩ dX0_frontAt_59
      refine lv_iload_n hx hb dX0_frontAt_0 rfl (lv_at hl 1 rfl) ?_
      refine x_calls F hH (As := [.int (nI x1)]) (rest := []) (mX0_isPlace l (nI x1)) (va_cwS 1 hts (lw_S q86 q87 q15 q88) rfl rfl rfl (by decide +kernel) ⟨Nat.le_of_ble_eq_true rfl, Nat.le_of_ble_eq_true rfl⟩) rfl hl.1 (Nat.le_of_ble_eq_true rfl) rfl dX0_frontAt_1 ⟨Nat.zero_le _, Nat.zero_le _⟩ (fun r H locs hp hH => ?_)
      try dsimp only at hp
      rcases hp with ⟨hg1, rfl⟩ | ⟨hg1, rfl⟩
      · refine nw_ifeq (tgt := 11) hx hb dX0_frontAt_4 (by decide) (by decide) (fun q => absurd q (by decide)) (fun _ => ?_)
        refine lv_iload_n hx hb dX0_frontAt_7 rfl (lv_at hl 2 rfl) ?_
        refine nw_ifge (tgt := 13) hx hb dX0_frontAt_8 (by decide) (by omega) ?_
        refine lv_iload_n hx hb dX0_frontAt_13 rfl (lv_at hl 2 rfl) ?_
        refine lv_istore_n (lv' := [(3, .int (nI ii)), (0, .ref (h 0)), (1, .int (nI x1)), (2, .int (nI ii))]) hx hb dX0_frontAt_14 rfl hl (by decide) rfl (fun ls hl => ?_)
        refine lv_bipush (v := nI 16) hx hb dX0_frontAt_15 (by decide +kernel) ?_
        refine lv_istore (lv' := [(4, .int (nI 16)), (3, .int (nI ii)), (0, .ref (h 0)), (1, .int (nI x1)), (2, .int (nI ii))]) hx hb dX0_frontAt_17 hl (by decide) rfl (fun ls hl => ?_)
        refine lv_iconst (v := nI 0) hx hb dX0_frontAt_19 (by decide +kernel) ?_
        refine lv_istore (lv' := [(5, .int (nI 0)), (4, .int (nI 16)), (3, .int (nI ii)), (0, .ref (h 0)), (1, .int (nI x1)), (2, .int (nI ii))]) hx hb dX0_frontAt_20 hl (by decide) rfl (fun ls hl => ?_)
        exact L22 17 0 ii 16 (by omega) (by omega) (by omega) (fun x y q => absurd q (Nat.not_lt_zero _)) sw_0 (by rw [Nat.mul_zero, fc_0]; omega) _ _ hH ls (lv_sub hl [3, 4, 5, 2, 1, 0] rfl)
      · refine nw_ifeq (tgt := 11) hx hb dX0_frontAt_4 (by decide) (by decide) (fun _ => ?_) (fun q => absurd rfl q)
        exact absurd hok hg1
set_option maxHeartbeats 4000000 in
set_option maxRecDepth 100000 in
theorem mX0_shortest (l : Launch) (dC : Nat → ClassId) (dI : Nat → Nat → Nat) (h : Nat → Nat) (d : ClassId) (sc : Nat → Nat) (ar : Nat → Nat → Nat) (x0 y0 : Int32) (hI : x_I sc ar) (sz : Nat) : Met l yX0_shortest (ws_ yX0_shortest cX0_shortest 3 (some .int)) (r_ 1) (x_Pc dC dI h d sz sc ar [.ref (h 0), .int x0, .int y0]) (va_Qi (fun r u => x_I u.1 u.2 ∧ nvX u.1 u.2 = (nvX sc ar) ∧ r = tr_shortest (nvX sc ar) x0 y0) (x_B dC dI (x_A h d sc ar sz) h d) (x_A h d sc ar sz)) 0 0 (x_A h d sc ar sz) := by
  refine x_headi (by decide +kernel) rfl (Nat.le_of_ble_eq_true rfl) ?_
  intro p e s m below meth c A av QQ hrt hlk F hA hH hQ ls hl
  have hx := F.1.1
  have hb := F.1.2.1
  have hts := F.1.2.2.2.2
  have hl : lv_has ls 3 [(0, .ref (h 0)), (1, .int x0), (2, .int y0)] := hl
  have hI0 := hI
  obtain ⟨ho, rows, hrp, hw, hmk⟩ := hI
  have hT20 : sc 5 ≤ 20 := ho.2.1
  by_cases hok : sp_p x0 ∧ sp_p y0
  rotate_left
  · refine lv_iload_n hx hb dX0_shortest_0 rfl (lv_at hl 1 rfl) ?_
    refine x_calls F hH (As := [.int x0]) (rest := []) (mX0_isPlace l x0) (va_cwS 1 hts (lw_S q86 q87 q15 q88) rfl rfl rfl (by decide +kernel) ⟨Nat.le_of_ble_eq_true rfl, Nat.le_of_ble_eq_true rfl⟩) rfl hl.1 (Nat.le_of_ble_eq_true rfl) rfl dX0_shortest_1 ⟨Nat.zero_le _, Nat.zero_le _⟩ (fun r H locs hp hH => ?_)
    try dsimp only at hp
    rcases hp with ⟨hg1, rfl⟩ | ⟨hg1, rfl⟩
    · refine nw_ifeq (tgt := 28) hx hb dX0_shortest_4 (by decide) (by decide) (fun q => absurd q (by decide)) (fun _ => ?_)
      refine lv_iload_n hx hb dX0_shortest_7 rfl (lv_at hl 2 rfl) ?_
      refine x_calls F hH (As := [.int y0]) (rest := []) (mX0_isPlace l y0) (va_cwS 1 hts (lw_S q86 q87 q15 q88) rfl rfl rfl (by decide +kernel) ⟨Nat.le_of_ble_eq_true rfl, Nat.le_of_ble_eq_true rfl⟩) rfl hl.1 (Nat.le_of_ble_eq_true rfl) rfl dX0_shortest_8 ⟨Nat.zero_le _, Nat.zero_le _⟩ (fun r H locs hp hH => ?_)
      try dsimp only at hp
      rcases hp with ⟨hg2, rfl⟩ | ⟨hg2, rfl⟩
      · refine nw_ifeq (tgt := 28) hx hb dX0_shortest_11 (by decide) (by decide) (fun q => absurd q (by decide)) (fun _ => ?_)
        exact absurd ⟨hg1, hg2⟩ hok
      · refine nw_ifeq (tgt := 28) hx hb dX0_shortest_11 (by decide) (by decide) (fun _ => ?_) (fun q => absurd rfl q)
        refine lv_iconst (v := -1) hx hb dX0_shortest_28 (by decide +kernel) ?_
        exact x_iret F hH hrt hlk hQ ⟨hI0, rfl, (ci_f hok).symm⟩ dX0_shortest_29
    · refine nw_ifeq (tgt := 28) hx hb dX0_shortest_4 (by decide) (by decide) (fun _ => ?_) (fun q => absurd rfl q)
      refine lv_iconst (v := -1) hx hb dX0_shortest_28 (by decide +kernel) ?_
      exact x_iret F hH hrt hlk hQ ⟨hI0, rfl, (ci_f hok).symm⟩ dX0_shortest_29
  · obtain ⟨x1, hx1, rfl⟩ := nw_toInt (x := x0) (n := 6) hok.1.1 hok.1.2 (by decide)
    obtain ⟨y1, hy1, rfl⟩ := nw_toInt (x := y0) (n := 6) hok.2.1 hok.2.2 (by decide)
    refine lv_iload_n hx hb dX0_shortest_0 rfl (lv_at hl 1 rfl) ?_
    refine x_calls F hH (As := [.int (nI x1)]) (rest := []) (mX0_isPlace l (nI x1)) (va_cwS 1 hts (lw_S q86 q87 q15 q88) rfl rfl rfl (by decide +kernel) ⟨Nat.le_of_ble_eq_true rfl, Nat.le_of_ble_eq_true rfl⟩) rfl hl.1 (Nat.le_of_ble_eq_true rfl) rfl dX0_shortest_1 ⟨Nat.zero_le _, Nat.zero_le _⟩ (fun r H locs hp hH => ?_)
    try dsimp only at hp
    rcases hp with ⟨hg1, rfl⟩ | ⟨hg1, rfl⟩
    · refine nw_ifeq (tgt := 28) hx hb dX0_shortest_4 (by decide) (by decide) (fun q => absurd q (by decide)) (fun _ => ?_)
      refine lv_iload_n hx hb dX0_shortest_7 rfl (lv_at hl 2 rfl) ?_
      refine x_calls F hH (As := [.int (nI y1)]) (rest := []) (mX0_isPlace l (nI y1)) (va_cwS 1 hts (lw_S q86 q87 q15 q88) rfl rfl rfl (by decide +kernel) ⟨Nat.le_of_ble_eq_true rfl, Nat.le_of_ble_eq_true rfl⟩) rfl hl.1 (Nat.le_of_ble_eq_true rfl) rfl dX0_shortest_8 ⟨Nat.zero_le _, Nat.zero_le _⟩ (fun r H locs hp hH => ?_)
      try dsimp only at hp
      rcases hp with ⟨hg2, rfl⟩ | ⟨hg2, rfl⟩
      · refine nw_ifeq (tgt := 28) hx hb dX0_shortest_11 (by decide) (by decide) (fun q => absurd q (by decide)) (fun _ => ?_)
        refine lv_aload_n hx hb dX0_shortest_14 rfl (lv_at hl 0 rfl) ?_
        refine x_get F hH 8 (by decide) q49 rfl dX0_shortest_15 ?_
        refine lv_bipush (v := nI 7) hx hb dX0_shortest_18 (by decide +kernel) ?_
        refine lv_iload_n hx hb dX0_shortest_20 rfl (lv_at hl 1 rfl) ?_
        refine nw_imul hx hb dX0_shortest_21 ?_
        refine lv_iload_n hx hb dX0_shortest_22 rfl (lv_at hl 2 rfl) ?_
        refine nw_iadd hx hb dX0_shortest_23 ?_
        refine x_ald F hH 7 (N := 49) rfl (by decide) (by decide) (by omega) dX0_shortest_24 ?_
        refine lv_goto (tgt := 29) hx hb dX0_shortest_25 (by decide) ?_
        exact x_iret F hH hrt hlk hQ ⟨hI0, rfl, by rw [tr_shortest_t hx1 hy1, fr_row hw (by omega) (by omega), (hrp (7 * x1 + y1) (by omega)).1]⟩ dX0_shortest_29
      · refine nw_ifeq (tgt := 28) hx hb dX0_shortest_11 (by decide) (by decide) (fun _ => ?_) (fun q => absurd rfl q)
        first | exact absurd hok.2 hg2 | exact absurd hok.1 hg1
    · refine nw_ifeq (tgt := 28) hx hb dX0_shortest_4 (by decide) (by decide) (fun _ => ?_) (fun q => absurd rfl q)
      first | exact absurd hok.2 hg2 | exact absurd hok.1 hg1
end
section
/-! the model's changes -/
set_option maxHeartbeats 4000000 in
set_option maxRecDepth 100000 in
theorem mX1_link (l : Launch) (dC : Nat → ClassId) (dI : Nat → Nat → Nat) (h : Nat → Nat) (d dz : ClassId) (sc : Nat → Nat) (ar : Nat → Nat → Nat) (f0 t0 p0 q0 : Int32) (hI : y_I sc ar) (sz : Nat) : Met l yX1_link (ws_ yX1_link cX1_link 5 (some .int)) (r_ 1) (y_Pc dC dI h d dz sz sc ar [.ref (h 0), .int f0, .int t0, .int p0, .int q0]) (va_Qi (fun r u => y_I u.1 u.2 ∧ nvM u.1 u.2 = (tr_link (nvM sc ar) f0 t0 p0 q0).1 ∧ r = (tr_link (nvM sc ar) f0 t0 p0 q0).2) (y_B dC dI (y_A h d dz sc ar sz) h d dz) (y_A h d dz sc ar sz)) 0 0 (y_A h d dz sc ar sz) := by
  refine y_headi (by decide +kernel) rfl (Nat.le_of_ble_eq_true rfl) ?_
  intro p e s m below meth c A av QQ hrt hlk F hA hH hQ ls hl
  have hx := F.1.1
  have hb := F.1.2.1
  have hts := F.1.2.2.2.2
  have hl : lv_has ls 5 [(0, .ref (h 0)), (1, .int f0), (2, .int t0), (3, .int p0), (4, .int q0)] := hl
  have ho := hI.1
  have hn12 : sc 0 ≤ 12 := ho.1
  refine lv_iload_n hx hb dX1_link_0 rfl (lv_at hl 1 rfl) ?_
  refine y_calls F hH (As := [.int f0]) (rest := []) (mX1_badPlace l f0) (va_cwS 1 hts (lw_S q182 q183 q16 q184) rfl rfl rfl (by decide +kernel) ⟨Nat.le_of_ble_eq_true rfl, Nat.le_of_ble_eq_true rfl⟩) rfl hl.1 (Nat.le_of_ble_eq_true rfl) rfl dX1_link_1 ⟨Nat.zero_le _, Nat.zero_le _⟩ (fun r H locs hp hH => ?_)
  try dsimp only at hp
  rcases hp with ⟨hg1, rfl⟩ | ⟨hg1, rfl⟩
  · refine nw_ifne (tgt := 43) hx hb dX1_link_4 (by decide) (by decide) (fun q => absurd rfl q) (fun _ => ?_)
    refine lv_iload_n hx hb dX1_link_7 rfl (lv_at hl 2 rfl) ?_
    refine y_calls F hH (As := [.int t0]) (rest := []) (mX1_badPlace l t0) (va_cwS 1 hts (lw_S q182 q183 q16 q184) rfl rfl rfl (by decide +kernel) ⟨Nat.le_of_ble_eq_true rfl, Nat.le_of_ble_eq_true rfl⟩) rfl hl.1 (Nat.le_of_ble_eq_true rfl) rfl dX1_link_8 ⟨Nat.zero_le _, Nat.zero_le _⟩ (fun r H locs hp hH => ?_)
    try dsimp only at hp
    rcases hp with ⟨hg2, rfl⟩ | ⟨hg2, rfl⟩
    · refine nw_ifne (tgt := 43) hx hb dX1_link_11 (by decide) (by decide) (fun q => absurd rfl q) (fun _ => ?_)
      refine lv_iload_n hx hb dX1_link_14 rfl (lv_at hl 3 rfl) ?_
      refine lv_if_lt (tgt := 43) hx hb dX1_link_15 (by decide) (fun c15 => ?_) (fun c15 => ?_)
      · first | rw [nw_lt_c (by decide)] at c31 | rw [nw_lt0] at c25 | rw [nw_lt_c (by decide)] at c20 | rw [nw_lt0] at c15 | skip
        have hno : ¬ (sp_p f0 ∧ sp_p t0 ∧ sp_3 p0 ∧ sp_3 q0 ∧ nv_n (nvM sc ar) < 12) := by
          show ¬ ((0 ≤ f0.toInt ∧ f0.toInt ≤ 6) ∧ (0 ≤ t0.toInt ∧ t0.toInt ≤ 6) ∧ (0 ≤ p0.toInt ∧ p0.toInt ≤ 3) ∧ (0 ≤ q0.toInt ∧ q0.toInt ≤ 3) ∧ sc 0 < 12)
          omega
        have htr : tr_link (nvM sc ar) f0 t0 p0 q0 = ((nvM sc ar), -1) := ci_f hno
        refine lv_iconst (v := -1) hx hb dX1_link_43 (by decide +kernel) ?_
        exact y_iret F hH hrt hlk hQ ⟨hI, by rw [htr], by rw [htr]⟩ dX1_link_44
      · rw [nw_lt0] at c15
        refine lv_iload_n hx hb dX1_link_18 rfl (lv_at hl 3 rfl) ?_
        refine lv_iconst (v := nI 3) hx hb dX1_link_19 (by decide +kernel) ?_
        refine lv_icmp_gt (tgt := 43) hx hb dX1_link_20 (by decide) (fun c20 => ?_) (fun c20 => ?_)
        · first | rw [nw_lt_c (by decide)] at c31 | rw [nw_lt0] at c25 | rw [nw_lt_c (by decide)] at c20 | rw [nw_lt0] at c15 | skip
          have hno : ¬ (sp_p f0 ∧ sp_p t0 ∧ sp_3 p0 ∧ sp_3 q0 ∧ nv_n (nvM sc ar) < 12) := by
            show ¬ ((0 ≤ f0.toInt ∧ f0.toInt ≤ 6) ∧ (0 ≤ t0.toInt ∧ t0.toInt ≤ 6) ∧ (0 ≤ p0.toInt ∧ p0.toInt ≤ 3) ∧ (0 ≤ q0.toInt ∧ q0.toInt ≤ 3) ∧ sc 0 < 12)
            omega
          have htr : tr_link (nvM sc ar) f0 t0 p0 q0 = ((nvM sc ar), -1) := ci_f hno
          refine lv_iconst (v := -1) hx hb dX1_link_43 (by decide +kernel) ?_
          exact y_iret F hH hrt hlk hQ ⟨hI, by rw [htr], by rw [htr]⟩ dX1_link_44
        · rw [nw_lt_c (by decide)] at c20
          refine lv_iload hx hb dX1_link_23 (lv_at hl 4 rfl) ?_
          refine lv_if_lt (tgt := 43) hx hb dX1_link_25 (by decide) (fun c25 => ?_) (fun c25 => ?_)
          · first | rw [nw_lt_c (by decide)] at c31 | rw [nw_lt0] at c25 | rw [nw_lt_c (by decide)] at c20 | rw [nw_lt0] at c15 | skip
            have hno : ¬ (sp_p f0 ∧ sp_p t0 ∧ sp_3 p0 ∧ sp_3 q0 ∧ nv_n (nvM sc ar) < 12) := by
              show ¬ ((0 ≤ f0.toInt ∧ f0.toInt ≤ 6) ∧ (0 ≤ t0.toInt ∧ t0.toInt ≤ 6) ∧ (0 ≤ p0.toInt ∧ p0.toInt ≤ 3) ∧ (0 ≤ q0.toInt ∧ q0.toInt ≤ 3) ∧ sc 0 < 12)
              omega
            have htr : tr_link (nvM sc ar) f0 t0 p0 q0 = ((nvM sc ar), -1) := ci_f hno
            refine lv_iconst (v := -1) hx hb dX1_link_43 (by decide +kernel) ?_
            exact y_iret F hH hrt hlk hQ ⟨hI, by rw [htr], by rw [htr]⟩ dX1_link_44
          · rw [nw_lt0] at c25
            refine lv_iload hx hb dX1_link_28 (lv_at hl 4 rfl) ?_
            refine lv_iconst (v := nI 3) hx hb dX1_link_30 (by decide +kernel) ?_
            refine lv_icmp_gt (tgt := 43) hx hb dX1_link_31 (by decide) (fun c31 => ?_) (fun c31 => ?_)
            · first | rw [nw_lt_c (by decide)] at c31 | rw [nw_lt0] at c25 | rw [nw_lt_c (by decide)] at c20 | rw [nw_lt0] at c15 | skip
              have hno : ¬ (sp_p f0 ∧ sp_p t0 ∧ sp_3 p0 ∧ sp_3 q0 ∧ nv_n (nvM sc ar) < 12) := by
                show ¬ ((0 ≤ f0.toInt ∧ f0.toInt ≤ 6) ∧ (0 ≤ t0.toInt ∧ t0.toInt ≤ 6) ∧ (0 ≤ p0.toInt ∧ p0.toInt ≤ 3) ∧ (0 ≤ q0.toInt ∧ q0.toInt ≤ 3) ∧ sc 0 < 12)
                omega
              have htr : tr_link (nvM sc ar) f0 t0 p0 q0 = ((nvM sc ar), -1) := ci_f hno
              refine lv_iconst (v := -1) hx hb dX1_link_43 (by decide +kernel) ?_
              exact y_iret F hH hrt hlk hQ ⟨hI, by rw [htr], by rw [htr]⟩ dX1_link_44
            · rw [nw_lt_c (by decide)] at c31
              refine lv_aload_n hx hb dX1_link_34 rfl (lv_at hl 0 rfl) ?_
              refine y_get F hH 0 (by decide) q146 rfl dX1_link_35 ?_
              refine lv_bipush (v := nI 12) hx hb dX1_link_38 (by decide +kernel) ?_
              refine nw_ne (tgt := 45) hx hb dX1_link_40 (by decide) (by omega) (fun c40 => ?_) (fun c40 => ?_)
              · obtain ⟨f1, hf1, rfl⟩ := nw_toInt (x := f0) (n := 6) (by omega) (by omega) (by decide)
                obtain ⟨t1, ht1, rfl⟩ := nw_toInt (x := t0) (n := 6) (by omega) (by omega) (by decide)
                obtain ⟨p1, hp1, rfl⟩ := nw_toInt (x := p0) (n := 3) (by omega) (by omega) (by decide)
                obtain ⟨q1, hq1, rfl⟩ := nw_toInt (x := q0) (n := 3) (by omega) (by omega) (by decide)
                have hlt : sc 0 < 12 := by omega
                refine lv_aload_n hx hb dX1_link_45 rfl (lv_at hl 0 rfl) ?_
                refine y_get F hH 1 (by decide) q147 rfl dX1_link_46 ?_
                refine lv_aload_n hx hb dX1_link_49 rfl (lv_at hl 0 rfl) ?_
                refine y_get F hH 0 (by decide) q146 rfl dX1_link_50 ?_
                refine lv_iload_n hx hb dX1_link_53 rfl (lv_at hl 1 rfl) ?_
                refine y_ast F hH 1 (N := 12) rfl (by decide) (by decide) (by omega) dX1_link_54 (fun ar_1 H locs ear_1 hH => ?_)
                refine lv_aload_n hx hb dX1_link_55 rfl (lv_at hl 0 rfl) ?_
                refine y_get F hH 2 (by decide) q148 rfl dX1_link_56 ?_
                refine lv_aload_n hx hb dX1_link_59 rfl (lv_at hl 0 rfl) ?_
                refine y_get F hH 0 (by decide) q146 rfl dX1_link_60 ?_
                refine lv_iload_n hx hb dX1_link_63 rfl (lv_at hl 2 rfl) ?_
                refine y_ast F hH 2 (N := 12) rfl (by decide) (by decide) (by omega) dX1_link_64 (fun ar_2 H locs ear_2 hH => ?_)
                refine lv_aload_n hx hb dX1_link_65 rfl (lv_at hl 0 rfl) ?_
                refine y_get F hH 3 (by decide) q149 rfl dX1_link_66 ?_
                refine lv_aload_n hx hb dX1_link_69 rfl (lv_at hl 0 rfl) ?_
                refine y_get F hH 0 (by decide) q146 rfl dX1_link_70 ?_
                refine lv_iload_n hx hb dX1_link_73 rfl (lv_at hl 3 rfl) ?_
                refine y_ast F hH 3 (N := 12) rfl (by decide) (by decide) (by omega) dX1_link_74 (fun ar_3 H locs ear_3 hH => ?_)
                refine lv_aload_n hx hb dX1_link_75 rfl (lv_at hl 0 rfl) ?_
                refine y_get F hH 4 (by decide) q150 rfl dX1_link_76 ?_
                refine lv_aload_n hx hb dX1_link_79 rfl (lv_at hl 0 rfl) ?_
                refine y_get F hH 0 (by decide) q146 rfl dX1_link_80 ?_
                refine lv_iload hx hb dX1_link_83 (lv_at hl 4 rfl) ?_
                refine y_ast F hH 4 (N := 12) rfl (by decide) (by decide) (by omega) dX1_link_85 (fun ar_4 H locs ear_4 hH => ?_)
                refine lv_aload_n hx hb dX1_link_86 rfl (lv_at hl 0 rfl) ?_
                refine lv_dup hx hb dX1_link_87 rfl ?_
                refine y_get F hH 0 (by decide) q146 rfl dX1_link_88 ?_
                refine lv_iconst (v := nI 1) hx hb dX1_link_91 (by decide +kernel) ?_
                refine nw_iadd hx hb dX1_link_92 ?_
                refine y_put F hH 0 (Or.inl rfl) q146 dX1_link_93 (fun sc_5 H locs esc_5 hH => ?_)
                have a1 : ar_4 1 = nu (ar 1) (sc 0) f1 := by rw [ear_4, au_k _ _ _ (by decide), ear_3, au_k _ _ _ (by decide), ear_2, au_k _ _ _ (by decide), ear_1, au_nu]
                have a2 : ar_4 2 = nu (ar 2) (sc 0) t1 := by rw [ear_4, au_k _ _ _ (by decide), ear_3, au_k _ _ _ (by decide), ear_2, au_nu, ear_1, au_k _ _ _ (by decide)]
                have a3 : ar_4 3 = nu (ar 3) (sc 0) p1 := by rw [ear_4, au_k _ _ _ (by decide), ear_3, au_nu, ear_2, au_k _ _ _ (by decide), ear_1, au_k _ _ _ (by decide)]
                have a4 : ar_4 4 = nu (ar 4) (sc 0) q1 := by rw [ear_4, au_nu, ear_3, au_k _ _ _ (by decide), ear_2, au_k _ _ _ (by decide), ear_1, au_k _ _ _ (by decide)]
                have a5 : ar_4 5 = ar 5 := by rw [ear_4, au_k _ _ _ (by decide), ear_3, au_k _ _ _ (by decide), ear_2, au_k _ _ _ (by decide), ear_1, au_k _ _ _ (by decide)]
                have a6 : ar_4 6 = ar 6 := by rw [ear_4, au_k _ _ _ (by decide), ear_3, au_k _ _ _ (by decide), ear_2, au_k _ _ _ (by decide), ear_1, au_k _ _ _ (by decide)]
                have a7 : ar_4 7 = ar 7 := by rw [ear_4, au_k _ _ _ (by decide), ear_3, au_k _ _ _ (by decide), ear_2, au_k _ _ _ (by decide), ear_1, au_k _ _ _ (by decide)]
                have b0 : sc_5 0 = sc 0 + 1 := by rw [esc_5, su_s]
                have b5 : sc_5 5 = sc 5 := by rw [esc_5, su_n _ _ (by decide)]
                have eN : nvM sc_5 ar_4 = nl_link (nvM sc ar) f1 t1 p1 q1 := by
                  unfold nvM
                  rw [a1, a2, a3, a4, a5, a6, a7, b0, b5]; rfl
                have hI2 : y_I sc_5 ar_4 := ⟨by rw [eN]; exact nl_link_ok ho hf1 ht1 hp1 hq1 hlt, by rw [b5, a6, a7]; exact hI.2⟩
                refine lv_aload_n hx hb dX1_link_96 rfl (lv_at hl 0 rfl) ?_
                refine y_get F hH 0 (by decide) q146 rfl dX1_link_97 ?_
                exact y_iret F hH hrt hlk hQ ⟨hI2, by rw [eN, tr_link_t hf1 ht1 hp1 hq1 hlt], by rw [tr_link_t hf1 ht1 hp1 hq1 hlt]; exact congrArg nI (congrArg (fun z : NV => z.1) eN)⟩ dX1_link_100
              · first | rw [nw_lt_c (by decide)] at c31 | rw [nw_lt0] at c25 | rw [nw_lt_c (by decide)] at c20 | rw [nw_lt0] at c15 | skip
                have hno : ¬ (sp_p f0 ∧ sp_p t0 ∧ sp_3 p0 ∧ sp_3 q0 ∧ nv_n (nvM sc ar) < 12) := by
                  show ¬ ((0 ≤ f0.toInt ∧ f0.toInt ≤ 6) ∧ (0 ≤ t0.toInt ∧ t0.toInt ≤ 6) ∧ (0 ≤ p0.toInt ∧ p0.toInt ≤ 3) ∧ (0 ≤ q0.toInt ∧ q0.toInt ≤ 3) ∧ sc 0 < 12)
                  omega
                have htr : tr_link (nvM sc ar) f0 t0 p0 q0 = ((nvM sc ar), -1) := ci_f hno
                refine lv_iconst (v := -1) hx hb dX1_link_43 (by decide +kernel) ?_
                exact y_iret F hH hrt hlk hQ ⟨hI, by rw [htr], by rw [htr]⟩ dX1_link_44
    · refine nw_ifne (tgt := 43) hx hb dX1_link_11 (by decide) (by decide) (fun _ => ?_) (fun q => absurd q (by decide))
      first | rw [nw_lt_c (by decide)] at c31 | rw [nw_lt0] at c25 | rw [nw_lt_c (by decide)] at c20 | rw [nw_lt0] at c15 | skip
      have hno : ¬ (sp_p f0 ∧ sp_p t0 ∧ sp_3 p0 ∧ sp_3 q0 ∧ nv_n (nvM sc ar) < 12) := by
        show ¬ ((0 ≤ f0.toInt ∧ f0.toInt ≤ 6) ∧ (0 ≤ t0.toInt ∧ t0.toInt ≤ 6) ∧ (0 ≤ p0.toInt ∧ p0.toInt ≤ 3) ∧ (0 ≤ q0.toInt ∧ q0.toInt ≤ 3) ∧ sc 0 < 12)
        omega
      have htr : tr_link (nvM sc ar) f0 t0 p0 q0 = ((nvM sc ar), -1) := ci_f hno
      refine lv_iconst (v := -1) hx hb dX1_link_43 (by decide +kernel) ?_
      exact y_iret F hH hrt hlk hQ ⟨hI, by rw [htr], by rw [htr]⟩ dX1_link_44
  · refine nw_ifne (tgt := 43) hx hb dX1_link_4 (by decide) (by decide) (fun _ => ?_) (fun q => absurd q (by decide))
    first | rw [nw_lt_c (by decide)] at c31 | rw [nw_lt0] at c25 | rw [nw_lt_c (by decide)] at c20 | rw [nw_lt0] at c15 | skip
    have hno : ¬ (sp_p f0 ∧ sp_p t0 ∧ sp_3 p0 ∧ sp_3 q0 ∧ nv_n (nvM sc ar) < 12) := by
      show ¬ ((0 ≤ f0.toInt ∧ f0.toInt ≤ 6) ∧ (0 ≤ t0.toInt ∧ t0.toInt ≤ 6) ∧ (0 ≤ p0.toInt ∧ p0.toInt ≤ 3) ∧ (0 ≤ q0.toInt ∧ q0.toInt ≤ 3) ∧ sc 0 < 12)
      omega
    have htr : tr_link (nvM sc ar) f0 t0 p0 q0 = ((nvM sc ar), -1) := ci_f hno
    refine lv_iconst (v := -1) hx hb dX1_link_43 (by decide +kernel) ?_
    exact y_iret F hH hrt hlk hQ ⟨hI, by rw [htr], by rw [htr]⟩ dX1_link_44
set_option maxHeartbeats 4000000 in
set_option maxRecDepth 100000 in
theorem mX1_unlink (l : Launch) (dC : Nat → ClassId) (dI : Nat → Nat → Nat) (h : Nat → Nat) (d dz : ClassId) (sc : Nat → Nat) (ar : Nat → Nat → Nat) (x0 : Int32) (hI : y_I sc ar) (sz : Nat) : Met l yX1_unlink (ws_ yX1_unlink cX1_unlink 3 (some .int)) (r_ 1) (y_Pc dC dI h d dz sz sc ar [.ref (h 0), .int x0]) (va_Qi (fun r u => y_I u.1 u.2 ∧ nvM u.1 u.2 = (tr_unlink (nvM sc ar) x0).1 ∧ r = (tr_unlink (nvM sc ar) x0).2) (y_B dC dI (y_A h d dz sc ar sz) h d dz) (y_A h d dz sc ar sz)) 0 0 (y_A h d dz sc ar sz) := by
  refine y_headi (by decide +kernel) rfl (Nat.le_of_ble_eq_true rfl) ?_
  intro p e s m below meth c A av QQ hrt hlk F hA hH hQ ls hl
  have hx := F.1.1
  have hb := F.1.2.1
  have hts := F.1.2.2.2.2
  have hl : lv_has ls 3 [(0, .ref (h 0)), (1, .int x0)] := hl
  have ho := hI.1
  have hn12 : sc 0 ≤ 12 := ho.1
  have LU : ∀ (i : Nat) (sc1 : Nat → Nat), x0 = nI i → i ≤ sc 0 - 1 → 1 ≤ sc 0 → sc1 = su sc 0 (sc 0 - 1) → ∀ (n k : Nat) (ar1 : Nat → Nat → Nat), sc 0 - k < n → i ≤ k ∧ k ≤ sc 0 - 1 → un_ ar ar1 i k → ∀ (H : Heap) (locs : List Loc), yH dC dI A s.heap h d dz sc1 ar1 H locs → ∀ ls : Array Slot, lv_has ls 3 [(0, .ref (h 0)), (1, .int (nI i)), (2, .int (nI k))] → W p l e (r_ 1) s m av below meth c H locs 0 0 QQ (F0 m 26 ls []) := by
    intro i sc1 ex0 hi h1n esc1 n
    subst ex0
    induction n with
    | zero => intro _ _ hlt; exact absurd hlt (Nat.not_lt_zero _)
    | succ n ih =>
      intro k ar1 hn hkk hun H locs hH ls hl
      have hik := hkk.1
      have hun1 := hun.1
      have hun2 := hun.2.1
      have hun3 := hun.2.2.1
      have hun4 := hun.2.2.2.1
      refine lv_iload_n hx hb dX1_unlink_26 rfl (lv_at hl 2 rfl) ?_
      refine lv_aload_n hx hb dX1_unlink_27 rfl (lv_at hl 0 rfl) ?_
      refine y_getv F hH 0 (by decide) q146 (v := (sc 0 - 1)) rfl (by rw [esc1, su_s]) dX1_unlink_28 ?_
      refine nw_ge (tgt := 96) hx hb dX1_unlink_31 (by decide) (by omega) (fun c31 => ?_) (fun c31 => ?_)
      · have ek : k = sc 0 - 1 := by omega
        subst ek
        have b5 : sc1 5 = sc 5 := by rw [esc1, su_n _ _ (by decide)]
        have eN : nvM sc1 ar1 = nl_unlink (nvM sc ar) i := by
          unfold nvM
          rw [hun1, hun2, hun3, hun4, hun.2.2.2.2 5 (by decide) (by decide) (by decide) (by decide), hun.2.2.2.2 6 (by decide) (by decide) (by decide) (by decide), hun.2.2.2.2 7 (by decide) (by decide) (by decide) (by decide), b5, esc1, su_s]; rfl
        have hI2 : y_I sc1 ar1 := ⟨by rw [eN]; exact nl_unlink_ok ho (show i < sc 0 by omega), by rw [b5, hun.2.2.2.2 6 (by decide) (by decide) (by decide) (by decide), hun.2.2.2.2 7 (by decide) (by decide) (by decide) (by decide)]; exact hI.2⟩
        refine lv_aload_n hx hb dX1_unlink_96 rfl (lv_at hl 0 rfl) ?_
        refine y_get F hH 0 (by decide) q146 rfl dX1_unlink_97 ?_
        exact y_iret F hH hrt hlk hQ ⟨hI2, by rw [eN, tr_unlink_t hn12 (show i < sc 0 by omega)], by rw [tr_unlink_t hn12 (show i < sc 0 by omega)]; exact congrArg nI (congrArg (fun z : NV => z.1) eN)⟩ dX1_unlink_100
      · refine lv_aload_n hx hb dX1_unlink_34 rfl (lv_at hl 0 rfl) ?_
        refine y_get F hH 1 (by decide) q147 rfl dX1_unlink_35 ?_
        refine lv_iload_n hx hb dX1_unlink_38 rfl (lv_at hl 2 rfl) ?_
        refine lv_aload_n hx hb dX1_unlink_39 rfl (lv_at hl 0 rfl) ?_
        refine y_get F hH 1 (by decide) q147 rfl dX1_unlink_40 ?_
        refine lv_iload_n hx hb dX1_unlink_43 rfl (lv_at hl 2 rfl) ?_
        refine lv_iconst (v := nI 1) hx hb dX1_unlink_44 (by decide +kernel) ?_
        refine nw_iadd hx hb dX1_unlink_45 ?_
        refine y_aldv F hH 1 (N := 12) (v := (ar 1 (k + 1))) rfl (by decide) (by decide) (by omega) (by rw [hun1, sh_at]) dX1_unlink_46 ?_
        refine y_ast F hH 1 (N := 12) rfl (by decide) (by decide) (by omega) dX1_unlink_47 (fun ar_1 H locs ear_1 hH => ?_)
        refine lv_aload_n hx hb dX1_unlink_48 rfl (lv_at hl 0 rfl) ?_
        refine y_get F hH 2 (by decide) q148 rfl dX1_unlink_49 ?_
        refine lv_iload_n hx hb dX1_unlink_52 rfl (lv_at hl 2 rfl) ?_
        refine lv_aload_n hx hb dX1_unlink_53 rfl (lv_at hl 0 rfl) ?_
        refine y_get F hH 2 (by decide) q148 rfl dX1_unlink_54 ?_
        refine lv_iload_n hx hb dX1_unlink_57 rfl (lv_at hl 2 rfl) ?_
        refine lv_iconst (v := nI 1) hx hb dX1_unlink_58 (by decide +kernel) ?_
        refine nw_iadd hx hb dX1_unlink_59 ?_
        refine y_aldv F hH 2 (N := 12) (v := (ar 2 (k + 1))) rfl (by decide) (by decide) (by omega) (by rw [ear_1, au_k _ _ _ (by decide), hun2, sh_at]) dX1_unlink_60 ?_
        refine y_ast F hH 2 (N := 12) rfl (by decide) (by decide) (by omega) dX1_unlink_61 (fun ar_2 H locs ear_2 hH => ?_)
        refine lv_aload_n hx hb dX1_unlink_62 rfl (lv_at hl 0 rfl) ?_
        refine y_get F hH 3 (by decide) q149 rfl dX1_unlink_63 ?_
        refine lv_iload_n hx hb dX1_unlink_66 rfl (lv_at hl 2 rfl) ?_
        refine lv_aload_n hx hb dX1_unlink_67 rfl (lv_at hl 0 rfl) ?_
        refine y_get F hH 3 (by decide) q149 rfl dX1_unlink_68 ?_
        refine lv_iload_n hx hb dX1_unlink_71 rfl (lv_at hl 2 rfl) ?_
        refine lv_iconst (v := nI 1) hx hb dX1_unlink_72 (by decide +kernel) ?_
        refine nw_iadd hx hb dX1_unlink_73 ?_
        refine y_aldv F hH 3 (N := 12) (v := (ar 3 (k + 1))) rfl (by decide) (by decide) (by omega) (by rw [ear_2, au_k _ _ _ (by decide), ear_1, au_k _ _ _ (by decide), hun3, sh_at]) dX1_unlink_74 ?_
        refine y_ast F hH 3 (N := 12) rfl (by decide) (by decide) (by omega) dX1_unlink_75 (fun ar_3 H locs ear_3 hH => ?_)
        refine lv_aload_n hx hb dX1_unlink_76 rfl (lv_at hl 0 rfl) ?_
        refine y_get F hH 4 (by decide) q150 rfl dX1_unlink_77 ?_
        refine lv_iload_n hx hb dX1_unlink_80 rfl (lv_at hl 2 rfl) ?_
        refine lv_aload_n hx hb dX1_unlink_81 rfl (lv_at hl 0 rfl) ?_
        refine y_get F hH 4 (by decide) q150 rfl dX1_unlink_82 ?_
        refine lv_iload_n hx hb dX1_unlink_85 rfl (lv_at hl 2 rfl) ?_
        refine lv_iconst (v := nI 1) hx hb dX1_unlink_86 (by decide +kernel) ?_
        refine nw_iadd hx hb dX1_unlink_87 ?_
        refine y_aldv F hH 4 (N := 12) (v := (ar 4 (k + 1))) rfl (by decide) (by decide) (by omega) (by rw [ear_3, au_k _ _ _ (by decide), ear_2, au_k _ _ _ (by decide), ear_1, au_k _ _ _ (by decide), hun4, sh_at]) dX1_unlink_88 ?_
        refine y_ast F hH 4 (N := 12) rfl (by decide) (by decide) (by omega) dX1_unlink_89 (fun ar_4 H locs ear_4 hH => ?_)
        refine lv_iinc (v := (nI (k + 1))) (lv' := [(2, .int (nI (k + 1))), (0, .ref (h 0)), (1, .int (nI i))]) hx hb dX1_unlink_90 hl (k := 2) rfl (nw_inc _) (by decide) rfl (fun ls hl => ?_)
        refine lv_goto (tgt := 26) hx hb dX1_unlink_93 (by decide) ?_
        exact ih (k + 1) ar_4 (by omega) (by omega) (un_step hik hun ear_1 ear_2 ear_3 ear_4) H locs hH ls (lv_sub hl [1, 2, 0] rfl)
  refine lv_iload_n hx hb dX1_unlink_0 rfl (lv_at hl 1 rfl) ?_
  refine lv_if_lt (tgt := 12) hx hb dX1_unlink_1 (by decide) (fun c1 => ?_) (fun c1 => ?_)
  · first | rw [nw_xlt_c (by omega)] at c9 | rw [nw_lt0] at c1
    have hno : ¬ (0 ≤ x0.toInt ∧ x0.toInt < (nv_n (nvM sc ar) : Int)) := by
      show ¬ (0 ≤ x0.toInt ∧ x0.toInt < (sc 0 : Int))
      omega
    have htr : tr_unlink (nvM sc ar) x0 = ((nvM sc ar), -1) := ci_f hno
    refine lv_iconst (v := -1) hx hb dX1_unlink_12 (by decide +kernel) ?_
    exact y_iret F hH hrt hlk hQ ⟨hI, by rw [htr], by rw [htr]⟩ dX1_unlink_13
  · rw [nw_lt0] at c1
    refine lv_iload_n hx hb dX1_unlink_4 rfl (lv_at hl 1 rfl) ?_
    refine lv_aload_n hx hb dX1_unlink_5 rfl (lv_at hl 0 rfl) ?_
    refine y_get F hH 0 (by decide) q146 rfl dX1_unlink_6 ?_
    refine lv_icmp_lt (tgt := 14) hx hb dX1_unlink_9 (by decide) (fun c9 => ?_) (fun c9 => ?_)
    · rw [nw_xlt_c (by omega)] at c9
      obtain ⟨i, hi, rfl⟩ := nw_toInt (x := x0) (n := sc 0 - 1) (by omega) (by omega) (by omega)
      refine lv_aload_n hx hb dX1_unlink_14 rfl (lv_at hl 0 rfl) ?_
      refine lv_dup hx hb dX1_unlink_15 rfl ?_
      refine y_get F hH 0 (by decide) q146 rfl dX1_unlink_16 ?_
      refine lv_iconst (v := nI 1) hx hb dX1_unlink_19 (by decide +kernel) ?_
      refine nw_isub hx hb dX1_unlink_20 (by omega) ?_
      refine y_put F hH 0 (Or.inl rfl) q146 dX1_unlink_21 (fun sc_5 H locs esc_5 hH => ?_)
      refine lv_iload_n hx hb dX1_unlink_24 rfl (lv_at hl 1 rfl) ?_
      refine lv_istore_n (lv' := [(2, .int (nI i)), (0, .ref (h 0)), (1, .int (nI i))]) hx hb dX1_unlink_25 rfl hl (by decide) rfl (fun ls hl => ?_)
      exact LU i sc_5 rfl hi (by omega) esc_5 (sc 0 + 1) i ar (by omega) (by omega) un_0 _ _ hH ls (lv_sub hl [1, 2, 0] rfl)
    · first | rw [nw_xlt_c (by omega)] at c9 | rw [nw_lt0] at c1
      have hno : ¬ (0 ≤ x0.toInt ∧ x0.toInt < (nv_n (nvM sc ar) : Int)) := by
        show ¬ (0 ≤ x0.toInt ∧ x0.toInt < (sc 0 : Int))
        omega
      have htr : tr_unlink (nvM sc ar) x0 = ((nvM sc ar), -1) := ci_f hno
      refine lv_iconst (v := -1) hx hb dX1_unlink_12 (by decide +kernel) ?_
      exact y_iret F hH hrt hlk hQ ⟨hI, by rw [htr], by rw [htr]⟩ dX1_unlink_13
set_option maxHeartbeats 4000000 in
set_option maxRecDepth 100000 in
theorem mX1_put (l : Launch) (dC : Nat → ClassId) (dI : Nat → Nat → Nat) (h : Nat → Nat) (d dz : ClassId) (sc : Nat → Nat) (ar : Nat → Nat → Nat) (x0 a0 b0 : Int32) (hI : y_I sc ar) (sz : Nat) : Met l yX1_put (ws_ yX1_put cX1_put 4 (some .int)) (r_ 1) (y_Pc dC dI h d dz sz sc ar [.ref (h 0), .int x0, .int a0, .int b0]) (va_Qi (fun r u => y_I u.1 u.2 ∧ nvM u.1 u.2 = (tr_put (nvM sc ar) x0 a0 b0).1 ∧ r = (tr_put (nvM sc ar) x0 a0 b0).2) (y_B dC dI (y_A h d dz sc ar sz) h d dz) (y_A h d dz sc ar sz)) 0 0 (y_A h d dz sc ar sz) := by
  refine y_headi (by decide +kernel) rfl (Nat.le_of_ble_eq_true rfl) ?_
  intro p e s m below meth c A av QQ hrt hlk F hA hH hQ ls hl
  have hx := F.1.1
  have hb := F.1.2.1
  have hts := F.1.2.2.2.2
  have hl : lv_has ls 4 [(0, .ref (h 0)), (1, .int x0), (2, .int a0), (3, .int b0)] := hl
  have ho := hI.1
  have hT20 : sc 5 ≤ 20 := ho.2.1
  refine lv_iload_n hx hb dX1_put_0 rfl (lv_at hl 1 rfl) ?_
  refine y_calls F hH (As := [.int x0]) (rest := []) (mX1_badPlace l x0) (va_cwS 1 hts (lw_S q182 q183 q16 q184) rfl rfl rfl (by decide +kernel) ⟨Nat.le_of_ble_eq_true rfl, Nat.le_of_ble_eq_true rfl⟩) rfl hl.1 (Nat.le_of_ble_eq_true rfl) rfl dX1_put_1 ⟨Nat.zero_le _, Nat.zero_le _⟩ (fun r H locs hp hH => ?_)
  try dsimp only at hp
  rcases hp with ⟨hg1, rfl⟩ | ⟨hg1, rfl⟩
  · refine nw_ifne (tgt := 24) hx hb dX1_put_4 (by decide) (by decide) (fun q => absurd rfl q) (fun _ => ?_)
    refine lv_iload_n hx hb dX1_put_7 rfl (lv_at hl 2 rfl) ?_
    refine lv_iload_n hx hb dX1_put_8 rfl (lv_at hl 3 rfl) ?_
    refine y_calls F hH (As := [.int a0, .int b0]) (rest := []) (mX1_badTime l a0 b0) (va_cwS 2 hts (lw_S q193 q194 q16 q195) rfl rfl rfl (by decide +kernel) ⟨Nat.le_of_ble_eq_true rfl, Nat.le_of_ble_eq_true rfl⟩) rfl hl.1 (Nat.le_of_ble_eq_true rfl) rfl dX1_put_9 ⟨Nat.zero_le _, Nat.zero_le _⟩ (fun r H locs hp hH => ?_)
    try dsimp only at hp
    rcases hp with ⟨hg2, rfl⟩ | ⟨hg2, rfl⟩
    · refine nw_ifne (tgt := 24) hx hb dX1_put_12 (by decide) (by decide) (fun q => absurd rfl q) (fun _ => ?_)
      refine lv_aload_n hx hb dX1_put_15 rfl (lv_at hl 0 rfl) ?_
      refine y_get F hH 5 (by decide) q151 rfl dX1_put_16 ?_
      refine lv_bipush (v := nI 20) hx hb dX1_put_19 (by decide +kernel) ?_
      refine nw_ne (tgt := 26) hx hb dX1_put_21 (by decide) (by omega) (fun c21 => ?_) (fun c21 => ?_)
      · obtain ⟨x1, hx1, rfl⟩ := nw_toInt (x := x0) (n := 6) (by omega) (by omega) (by decide)
        obtain ⟨a1, ha1, rfl⟩ := nw_toInt (x := a0) (n := 15) (by omega) (by omega) (by decide)
        obtain ⟨b1, hb1, rfl⟩ := nw_toInt (x := b0) (n := 15) (by omega) (by omega) (by decide)
        have hlt : sc 5 < 20 := by omega
        refine lv_aload_n hx hb dX1_put_26 rfl (lv_at hl 0 rfl) ?_
        refine y_get F hH 6 (by decide) q152 rfl dX1_put_27 ?_
        refine lv_aload_n hx hb dX1_put_30 rfl (lv_at hl 0 rfl) ?_
        refine y_get F hH 5 (by decide) q151 rfl dX1_put_31 ?_
        refine lv_iload_n hx hb dX1_put_34 rfl (lv_at hl 1 rfl) ?_
        refine y_ast F hH 5 (N := 20) rfl (by decide) (by decide) (by omega) dX1_put_35 (fun ar_1 H locs ear_1 hH => ?_)
        refine lv_aload_n hx hb dX1_put_36 rfl (lv_at hl 0 rfl) ?_
        refine y_get F hH 7 (by decide) q153 rfl dX1_put_37 ?_
        refine lv_aload_n hx hb dX1_put_40 rfl (lv_at hl 0 rfl) ?_
        refine y_get F hH 5 (by decide) q151 rfl dX1_put_41 ?_
        refine lv_iload_n hx hb dX1_put_44 rfl (lv_at hl 2 rfl) ?_
        refine y_ast F hH 6 (N := 20) rfl (by decide) (by decide) (by omega) dX1_put_45 (fun ar_2 H locs ear_2 hH => ?_)
        refine lv_aload_n hx hb dX1_put_46 rfl (lv_at hl 0 rfl) ?_
        refine y_get F hH 8 (by decide) q154 rfl dX1_put_47 ?_
        refine lv_aload_n hx hb dX1_put_50 rfl (lv_at hl 0 rfl) ?_
        refine y_get F hH 5 (by decide) q151 rfl dX1_put_51 ?_
        refine lv_iload_n hx hb dX1_put_54 rfl (lv_at hl 3 rfl) ?_
        refine y_ast F hH 7 (N := 20) rfl (by decide) (by decide) (by omega) dX1_put_55 (fun ar_3 H locs ear_3 hH => ?_)
        refine lv_aload_n hx hb dX1_put_56 rfl (lv_at hl 0 rfl) ?_
        refine lv_dup hx hb dX1_put_57 rfl ?_
        refine y_get F hH 5 (by decide) q151 rfl dX1_put_58 ?_
        refine lv_iconst (v := nI 1) hx hb dX1_put_61 (by decide +kernel) ?_
        refine nw_iadd hx hb dX1_put_62 ?_
        refine y_put F hH 5 (Or.inr rfl) q151 dX1_put_63 (fun sc_4 H locs esc_4 hH => ?_)
        have w5 : ar_3 5 = nu (ar 5) (sc 5) x1 := by rw [ear_3, au_k _ _ _ (by decide), ear_2, au_k _ _ _ (by decide), ear_1, au_nu]
        have w6 : ar_3 6 = nu (ar 6) (sc 5) a1 := by rw [ear_3, au_k _ _ _ (by decide), ear_2, au_nu, ear_1, au_k _ _ _ (by decide)]
        have w7 : ar_3 7 = nu (ar 7) (sc 5) b1 := by rw [ear_3, au_nu, ear_2, au_k _ _ _ (by decide), ear_1, au_k _ _ _ (by decide)]
        have w1 : ar_3 1 = ar 1 := by rw [ear_3, au_k _ _ _ (by decide), ear_2, au_k _ _ _ (by decide), ear_1, au_k _ _ _ (by decide)]
        have w2 : ar_3 2 = ar 2 := by rw [ear_3, au_k _ _ _ (by decide), ear_2, au_k _ _ _ (by decide), ear_1, au_k _ _ _ (by decide)]
        have w3 : ar_3 3 = ar 3 := by rw [ear_3, au_k _ _ _ (by decide), ear_2, au_k _ _ _ (by decide), ear_1, au_k _ _ _ (by decide)]
        have w4 : ar_3 4 = ar 4 := by rw [ear_3, au_k _ _ _ (by decide), ear_2, au_k _ _ _ (by decide), ear_1, au_k _ _ _ (by decide)]
        have b0 : sc_4 0 = sc 0 := by rw [esc_4, su_n _ _ (by decide)]
        have b5 : sc_4 5 = sc 5 + 1 := by rw [esc_4, su_s]
        have eN : nvM sc_4 ar_3 = nl_put (nvM sc ar) x1 (16 * a1 + b1) := by
          unfold nvM
          rw [w1, w2, w3, w4, w5, w6, w7, b0, b5, tm_nu]; rfl
        have hI2 : y_I sc_4 ar_3 := ⟨by rw [eN]; exact nl_put_ok ho hx1 (by omega) hlt, by
          rw [b5, w6, w7]
          intro k hk
          by_cases e : k = sc 5
          · rw [e, nu_s, nu_s]; omega
          · rw [nu_n _ _ e, nu_n _ _ e]; exact hI.2 k (by omega)⟩
        refine lv_aload_n hx hb dX1_put_66 rfl (lv_at hl 0 rfl) ?_
        refine y_get F hH 5 (by decide) q151 rfl dX1_put_67 ?_
        exact y_iret F hH hrt hlk hQ ⟨hI2, by rw [eN, tr_put_t hx1 ha1 hb1 hlt], by rw [tr_put_t hx1 ha1 hb1 hlt]; exact congrArg nI (congrArg (fun z : NV => z.2.1) eN)⟩ dX1_put_70
      · have hno : ¬ (sp_p x0 ∧ sp_t a0 ∧ sp_t b0 ∧ nv_T (nvM sc ar) < 20) := by
          show ¬ ((0 ≤ x0.toInt ∧ x0.toInt ≤ 6) ∧ (0 ≤ a0.toInt ∧ a0.toInt ≤ 15) ∧ (0 ≤ b0.toInt ∧ b0.toInt ≤ 15) ∧ sc 5 < 20)
          omega
        have htr : tr_put (nvM sc ar) x0 a0 b0 = ((nvM sc ar), -1) := ci_f hno
        refine lv_iconst (v := -1) hx hb dX1_put_24 (by decide +kernel) ?_
        exact y_iret F hH hrt hlk hQ ⟨hI, by rw [htr], by rw [htr]⟩ dX1_put_25
    · refine nw_ifne (tgt := 24) hx hb dX1_put_12 (by decide) (by decide) (fun _ => ?_) (fun q => absurd q (by decide))
      have hno : ¬ (sp_p x0 ∧ sp_t a0 ∧ sp_t b0 ∧ nv_T (nvM sc ar) < 20) := by
        show ¬ ((0 ≤ x0.toInt ∧ x0.toInt ≤ 6) ∧ (0 ≤ a0.toInt ∧ a0.toInt ≤ 15) ∧ (0 ≤ b0.toInt ∧ b0.toInt ≤ 15) ∧ sc 5 < 20)
        omega
      have htr : tr_put (nvM sc ar) x0 a0 b0 = ((nvM sc ar), -1) := ci_f hno
      refine lv_iconst (v := -1) hx hb dX1_put_24 (by decide +kernel) ?_
      exact y_iret F hH hrt hlk hQ ⟨hI, by rw [htr], by rw [htr]⟩ dX1_put_25
  · refine nw_ifne (tgt := 24) hx hb dX1_put_4 (by decide) (by decide) (fun _ => ?_) (fun q => absurd q (by decide))
    have hno : ¬ (sp_p x0 ∧ sp_t a0 ∧ sp_t b0 ∧ nv_T (nvM sc ar) < 20) := by
      show ¬ ((0 ≤ x0.toInt ∧ x0.toInt ≤ 6) ∧ (0 ≤ a0.toInt ∧ a0.toInt ≤ 15) ∧ (0 ≤ b0.toInt ∧ b0.toInt ≤ 15) ∧ sc 5 < 20)
      omega
    have htr : tr_put (nvM sc ar) x0 a0 b0 = ((nvM sc ar), -1) := ci_f hno
    refine lv_iconst (v := -1) hx hb dX1_put_24 (by decide +kernel) ?_
    exact y_iret F hH hrt hlk hQ ⟨hI, by rw [htr], by rw [htr]⟩ dX1_put_25
set_option maxHeartbeats 4000000 in
set_option maxRecDepth 100000 in
theorem mX1_find (l : Launch) (dC : Nat → ClassId) (dI : Nat → Nat → Nat) (h : Nat → Nat) (d dz : ClassId) (sc : Nat → Nat) (ar : Nat → Nat → Nat) (x0 a0 b0 : Int32) (hT : sc 5 ≤ 20) (sz : Nat) : Met l yX1_find (ws_ yX1_find cX1_find 5 (some .int)) (r_ 0) (y_Pc dC dI h d dz sz sc ar [.ref (h 0), .int x0, .int a0, .int b0]) (va_Qi (fun r u => (u.1 = sc ∧ u.2 = ar) ∧ ((∃ k, k < sc 5 ∧ (nI (ar 5 k) = x0 ∧ nI (ar 6 k) = a0 ∧ nI (ar 7 k) = b0) ∧ (∀ j, j < k → ¬ (nI (ar 5 j) = x0 ∧ nI (ar 6 j) = a0 ∧ nI (ar 7 j) = b0)) ∧ r = nI k) ∨ ((∀ j, j < sc 5 → ¬ (nI (ar 5 j) = x0 ∧ nI (ar 6 j) = a0 ∧ nI (ar 7 j) = b0)) ∧ r = -1))) (y_B dC dI (y_A h d dz sc ar sz) h d dz) (y_A h d dz sc ar sz)) 0 0 (y_A h d dz sc ar sz) := by
  refine y_headi (by decide +kernel) rfl (Nat.le_of_ble_eq_true rfl) ?_
  intro p e s m below meth c A av QQ hrt hlk F hA hH hQ ls hl
  have hx := F.1.1
  have hb := F.1.2.1
  have hts := F.1.2.2.2.2
  have hl : lv_has ls 5 [(0, .ref (h 0)), (1, .int x0), (2, .int a0), (3, .int b0)] := hl
  have L3 : ∀ (n : Nat) (k : Nat), sc 5 - k < n → k ≤ sc 5 → (∀ j, j < k → ¬ (nI (ar 5 j) = x0 ∧ nI (ar 6 j) = a0 ∧ nI (ar 7 j) = b0)) → ∀ (H : Heap) (locs : List Loc), yH dC dI A s.heap h d dz sc ar H locs → ∀ ls : Array Slot, lv_has ls 5 [(0, .ref (h 0)), (1, .int x0), (2, .int a0), (3, .int b0), (4, .int (nI k))] → W p l e (r_ 0) s m av below meth c H locs 0 0 QQ (F0 m 3 ls []) := by
    intro n
    induction n with
    | zero => intro _ hlt; exact absurd hlt (Nat.not_lt_zero _)
    | succ n ih =>
      intro k hn hk hj H locs hH ls hl
      refine lv_iload hx hb dX1_find_3 (lv_at hl 4 rfl) ?_
      refine lv_aload_n hx hb dX1_find_5 rfl (lv_at hl 0 rfl) ?_
      refine y_get F hH 5 (by decide) q151 rfl dX1_find_6 ?_
      refine nw_ge (tgt := 54) hx hb dX1_find_9 (by decide) (by omega) (fun c9 => ?_) (fun c9 => ?_)
      · refine lv_iconst (v := -1) hx hb dX1_find_54 (by decide +kernel) ?_
        exact y_iret F hH hrt hlk hQ ⟨⟨rfl, rfl⟩, Or.inr ⟨fun j q => hj j (by omega), rfl⟩⟩ dX1_find_55
      · refine lv_aload_n hx hb dX1_find_12 rfl (lv_at hl 0 rfl) ?_
        refine y_get F hH 6 (by decide) q152 rfl dX1_find_13 ?_
        refine lv_iload hx hb dX1_find_16 (lv_at hl 4 rfl) ?_
        refine y_ald F hH 5 (N := 20) rfl (by decide) (by decide) (by omega) dX1_find_18 ?_
        refine lv_iload_n hx hb dX1_find_19 rfl (lv_at hl 1 rfl) ?_
        refine lv_icmp_ne (tgt := 48) hx hb dX1_find_20 (by decide) (fun c20 => ?_) (fun c20 => ?_)
        · refine lv_iinc (v := (nI (k + 1))) (lv' := [(4, .int (nI (k + 1))), (0, .ref (h 0)), (1, .int x0), (2, .int a0), (3, .int b0)]) hx hb dX1_find_48 hl (k := 4) rfl (nw_inc _) (by decide) rfl (fun ls hl => ?_)
          refine lv_goto (tgt := 3) hx hb dX1_find_51 (by decide) ?_
          exact ih (k + 1) (by omega) (by omega) (lt_s hj (by first | exact fun q => c42 q.2.2 | exact fun q => c31 q.2.1 | exact fun q => c20 q.1)) H locs hH ls (lv_sub hl [1, 2, 3, 4, 0] rfl)
        · refine lv_aload_n hx hb dX1_find_23 rfl (lv_at hl 0 rfl) ?_
          refine y_get F hH 7 (by decide) q153 rfl dX1_find_24 ?_
          refine lv_iload hx hb dX1_find_27 (lv_at hl 4 rfl) ?_
          refine y_ald F hH 6 (N := 20) rfl (by decide) (by decide) (by omega) dX1_find_29 ?_
          refine lv_iload_n hx hb dX1_find_30 rfl (lv_at hl 2 rfl) ?_
          refine lv_icmp_ne (tgt := 48) hx hb dX1_find_31 (by decide) (fun c31 => ?_) (fun c31 => ?_)
          · refine lv_iinc (v := (nI (k + 1))) (lv' := [(4, .int (nI (k + 1))), (0, .ref (h 0)), (1, .int x0), (2, .int a0), (3, .int b0)]) hx hb dX1_find_48 hl (k := 4) rfl (nw_inc _) (by decide) rfl (fun ls hl => ?_)
            refine lv_goto (tgt := 3) hx hb dX1_find_51 (by decide) ?_
            exact ih (k + 1) (by omega) (by omega) (lt_s hj (by first | exact fun q => c42 q.2.2 | exact fun q => c31 q.2.1 | exact fun q => c20 q.1)) H locs hH ls (lv_sub hl [1, 2, 3, 4, 0] rfl)
          · refine lv_aload_n hx hb dX1_find_34 rfl (lv_at hl 0 rfl) ?_
            refine y_get F hH 8 (by decide) q154 rfl dX1_find_35 ?_
            refine lv_iload hx hb dX1_find_38 (lv_at hl 4 rfl) ?_
            refine y_ald F hH 7 (N := 20) rfl (by decide) (by decide) (by omega) dX1_find_40 ?_
            refine lv_iload_n hx hb dX1_find_41 rfl (lv_at hl 3 rfl) ?_
            refine lv_icmp_ne (tgt := 48) hx hb dX1_find_42 (by decide) (fun c42 => ?_) (fun c42 => ?_)
            · refine lv_iinc (v := (nI (k + 1))) (lv' := [(4, .int (nI (k + 1))), (0, .ref (h 0)), (1, .int x0), (2, .int a0), (3, .int b0)]) hx hb dX1_find_48 hl (k := 4) rfl (nw_inc _) (by decide) rfl (fun ls hl => ?_)
              refine lv_goto (tgt := 3) hx hb dX1_find_51 (by decide) ?_
              exact ih (k + 1) (by omega) (by omega) (lt_s hj (by first | exact fun q => c42 q.2.2 | exact fun q => c31 q.2.1 | exact fun q => c20 q.1)) H locs hH ls (lv_sub hl [1, 2, 3, 4, 0] rfl)
            · refine lv_iload hx hb dX1_find_45 (lv_at hl 4 rfl) ?_
              exact y_iret F hH hrt hlk hQ ⟨⟨rfl, rfl⟩, Or.inl ⟨k, c9, ⟨c20, c31, c42⟩, hj, rfl⟩⟩ dX1_find_47
  refine lv_iconst (v := nI 0) hx hb dX1_find_0 (by decide +kernel) ?_
  refine lv_istore (lv' := [(4, .int (nI 0)), (0, .ref (h 0)), (1, .int x0), (2, .int a0), (3, .int b0)]) hx hb dX1_find_1 hl (by decide) rfl (fun ls hl => ?_)
  exact L3 (sc 5 + 1) 0 (by omega) (by omega) lt_0 _ _ hH ls (lv_sub hl [1, 2, 3, 4, 0] rfl)
set_option maxHeartbeats 4000000 in
set_option maxRecDepth 100000 in
theorem mX1_take (l : Launch) (dC : Nat → ClassId) (dI : Nat → Nat → Nat) (h : Nat → Nat) (d dz : ClassId) (sc : Nat → Nat) (ar : Nat → Nat → Nat) (x0 a0 b0 : Int32) (hI : y_I sc ar) (sz : Nat) : Met l yX1_take (ws_ yX1_take cX1_take 5 (some .int)) (r_ 1) (y_Pc dC dI h d dz sz sc ar [.ref (h 0), .int x0, .int a0, .int b0]) (va_Qi (fun r u => y_I u.1 u.2 ∧ nvM u.1 u.2 = (tr_take (nvM sc ar) x0 a0 b0).1 ∧ r = (tr_take (nvM sc ar) x0 a0 b0).2) (y_B dC dI (y_A h d dz sc ar sz) h d dz) (y_A h d dz sc ar sz)) 0 0 (y_A h d dz sc ar sz) := by
  refine y_headi (by decide +kernel) rfl (Nat.le_of_ble_eq_true rfl) ?_
  intro p e s m below meth c A av QQ hrt hlk F hA hH hQ ls hl
  have hx := F.1.1
  have hb := F.1.2.1
  have hts := F.1.2.2.2.2
  have hl : lv_has ls 5 [(0, .ref (h 0)), (1, .int x0), (2, .int a0), (3, .int b0)] := hl
  have ho := hI.1
  have hT20 : sc 5 ≤ 20 := ho.2.1
  refine lv_aload_n hx hb dX1_take_0 rfl (lv_at hl 0 rfl) ?_
  refine lv_iload_n hx hb dX1_take_1 rfl (lv_at hl 1 rfl) ?_
  refine lv_iload_n hx hb dX1_take_2 rfl (lv_at hl 2 rfl) ?_
  refine lv_iload_n hx hb dX1_take_3 rfl (lv_at hl 3 rfl) ?_
  refine y_calli F hH hA (As := [.int x0, .int a0, .int b0]) (rest := []) (fun sz => mX1_find l dC dI h d dz sc ar x0 a0 b0 hT20 sz) (cwV 3 hts (lw_V q200 q202 qs7 q16 q203) rfl rfl rfl (by decide +kernel) ⟨Nat.le_of_ble_eq_true rfl, Nat.le_of_ble_eq_true rfl⟩) rfl hl.1 (Nat.le_of_ble_eq_true rfl) rfl dX1_take_4 ⟨Nat.zero_le _, Nat.zero_le _⟩ (fun r sc_1 ar_2 H locs hp hH => ?_)
  try dsimp only at hp
  obtain ⟨⟨hq1, hq2⟩, hp⟩ := hp
  have hq1 : sc_1 = sc := hq1
  have hq2 : ar_2 = ar := hq2
  rw [hq1, hq2] at hH
  rcases hp with ⟨k, hk, ⟨rfl, rfl, rfl⟩, hk2, rfl⟩ | ⟨hk1, rfl⟩
  · refine lv_istore (lv' := [(4, .int (nI k)), (0, .ref (h 0)), (1, .int (nI (ar 5 k))), (2, .int (nI (ar 6 k))), (3, .int (nI (ar 7 k)))]) hx hb dX1_take_7 hl (by decide) rfl (fun ls hl => ?_)
    refine lv_iload hx hb dX1_take_9 (lv_at hl 0 rfl) ?_
    refine nw_ifge (tgt := 16) hx hb dX1_take_11 (by decide) (by omega) ?_
    have h5k : ar 5 k < 7 := (ho.2.2.2 k hk).1
    have h67 := hI.2 k hk
    have tt := tr_take_t (v := (nvM sc ar)) (x := ar 5 k) (a := ar 6 k) (b := ar 7 k) (k := k) (by omega) (by omega) (by omega) hk ⟨rfl, rfl⟩ (fun j hj q => by
      have r1 : ar 5 j = ar 5 k := q.1
      have r2 : 16 * ar 6 j + ar 7 j = 16 * ar 6 k + ar 7 k := q.2
      have r3 := hI.2 j (by omega)
      exact hk2 j hj ⟨by rw [r1], by rw [show ar 6 j = ar 6 k by omega], by rw [show ar 7 j = ar 7 k by omega]⟩)
    refine lv_aload_n hx hb dX1_take_16 rfl (lv_at hl 1 rfl) ?_
    refine lv_dup hx hb dX1_take_17 rfl ?_
    refine y_get F hH 5 (by decide) q151 rfl dX1_take_18 ?_
    refine lv_iconst (v := nI 1) hx hb dX1_take_21 (by decide +kernel) ?_
    refine nw_isub hx hb dX1_take_22 (by omega) ?_
    refine y_put F hH 5 (Or.inr rfl) q151 dX1_take_23 (fun sc_3 H locs esc_3 hH => ?_)
    refine lv_aload_n hx hb dX1_take_26 rfl (lv_at hl 1 rfl) ?_
    refine y_get F hH 6 (by decide) q152 rfl dX1_take_27 ?_
    refine lv_iload hx hb dX1_take_30 (lv_at hl 0 rfl) ?_
    refine lv_aload_n hx hb dX1_take_32 rfl (lv_at hl 1 rfl) ?_
    refine y_get F hH 6 (by decide) q152 rfl dX1_take_33 ?_
    refine lv_aload_n hx hb dX1_take_36 rfl (lv_at hl 1 rfl) ?_
    refine y_getv F hH 5 (by decide) q151 (v := (sc 5 - 1)) rfl (by rw [esc_3, su_s]) dX1_take_37 ?_
    refine y_ald F hH 5 (N := 20) rfl (by decide) (by decide) (by omega) dX1_take_40 ?_
    refine y_ast F hH 5 (N := 20) rfl (by decide) (by decide) (by omega) dX1_take_41 (fun ar_4 H locs ear_4 hH => ?_)
    refine lv_aload_n hx hb dX1_take_42 rfl (lv_at hl 1 rfl) ?_
    refine y_get F hH 7 (by decide) q153 rfl dX1_take_43 ?_
    refine lv_iload hx hb dX1_take_46 (lv_at hl 0 rfl) ?_
    refine lv_aload_n hx hb dX1_take_48 rfl (lv_at hl 1 rfl) ?_
    refine y_get F hH 7 (by decide) q153 rfl dX1_take_49 ?_
    refine lv_aload_n hx hb dX1_take_52 rfl (lv_at hl 1 rfl) ?_
    refine y_getv F hH 5 (by decide) q151 (v := (sc 5 - 1)) rfl (by rw [esc_3, su_s]) dX1_take_53 ?_
    refine y_aldv F hH 6 (N := 20) (v := (ar 6 (sc 5 - 1))) rfl (by decide) (by decide) (by omega) (by rw [ear_4, au_k _ _ _ (by decide)]) dX1_take_56 ?_
    refine y_ast F hH 6 (N := 20) rfl (by decide) (by decide) (by omega) dX1_take_57 (fun ar_5 H locs ear_5 hH => ?_)
    refine lv_aload_n hx hb dX1_take_58 rfl (lv_at hl 1 rfl) ?_
    refine y_get F hH 8 (by decide) q154 rfl dX1_take_59 ?_
    refine lv_iload hx hb dX1_take_62 (lv_at hl 0 rfl) ?_
    refine lv_aload_n hx hb dX1_take_64 rfl (lv_at hl 1 rfl) ?_
    refine y_get F hH 8 (by decide) q154 rfl dX1_take_65 ?_
    refine lv_aload_n hx hb dX1_take_68 rfl (lv_at hl 1 rfl) ?_
    refine y_getv F hH 5 (by decide) q151 (v := (sc 5 - 1)) rfl (by rw [esc_3, su_s]) dX1_take_69 ?_
    refine y_aldv F hH 7 (N := 20) (v := (ar 7 (sc 5 - 1))) rfl (by decide) (by decide) (by omega) (by rw [ear_5, au_k _ _ _ (by decide), ear_4, au_k _ _ _ (by decide)]) dX1_take_72 ?_
    refine y_ast F hH 7 (N := 20) rfl (by decide) (by decide) (by omega) dX1_take_73 (fun ar_6 H locs ear_6 hH => ?_)
    have w5 : ar_6 5 = nu (ar 5) k (ar 5 (sc 5 - 1)) := by rw [ear_6, au_k _ _ _ (by decide), ear_5, au_k _ _ _ (by decide), ear_4, au_nu]
    have w6 : ar_6 6 = nu (ar 6) k (ar 6 (sc 5 - 1)) := by rw [ear_6, au_k _ _ _ (by decide), ear_5, au_nu, ear_4, au_k _ _ _ (by decide)]
    have w7 : ar_6 7 = nu (ar 7) k (ar 7 (sc 5 - 1)) := by rw [ear_6, au_nu, ear_5, au_k _ _ _ (by decide), ear_4, au_k _ _ _ (by decide)]
    have w1 : ar_6 1 = ar 1 := by rw [ear_6, au_k _ _ _ (by decide), ear_5, au_k _ _ _ (by decide), ear_4, au_k _ _ _ (by decide)]
    have w2 : ar_6 2 = ar 2 := by rw [ear_6, au_k _ _ _ (by decide), ear_5, au_k _ _ _ (by decide), ear_4, au_k _ _ _ (by decide)]
    have w3 : ar_6 3 = ar 3 := by rw [ear_6, au_k _ _ _ (by decide), ear_5, au_k _ _ _ (by decide), ear_4, au_k _ _ _ (by decide)]
    have w4 : ar_6 4 = ar 4 := by rw [ear_6, au_k _ _ _ (by decide), ear_5, au_k _ _ _ (by decide), ear_4, au_k _ _ _ (by decide)]
    have b0 : sc_3 0 = sc 0 := by rw [esc_3, su_n _ _ (by decide)]
    have b5 : sc_3 5 = sc 5 - 1 := by rw [esc_3, su_s]
    have eN : nvM sc_3 ar_6 = nl_take (nvM sc ar) k := by
      unfold nvM
      rw [w1, w2, w3, w4, w5, w6, w7, b0, b5, tm_nu]; rfl
    have hI2 : y_I sc_3 ar_6 := ⟨by rw [eN]; exact nl_take_ok ho hk, by
      rw [b5, w6, w7]
      intro j hj
      by_cases e : j = k
      · rw [e, nu_s, nu_s]; exact hI.2 _ (by omega)
      · rw [nu_n _ _ e, nu_n _ _ e]; exact hI.2 j (by omega)⟩
    refine lv_aload_n hx hb dX1_take_74 rfl (lv_at hl 1 rfl) ?_
    refine y_getv F hH 5 (by decide) q151 (v := (sc 5 - 1)) rfl (by rw [esc_3, su_s]) dX1_take_75 ?_
    exact y_iret F hH hrt hlk hQ ⟨hI2, by rw [eN, tt], by rw [tt]⟩ dX1_take_78
  · refine lv_istore (lv' := [(4, .int ((-1))), (0, .ref (h 0)), (1, .int x0), (2, .int a0), (3, .int b0)]) hx hb dX1_take_7 hl (by decide) rfl (fun ls hl => ?_)
    refine lv_iload hx hb dX1_take_9 (lv_at hl 0 rfl) ?_
    refine nw_ifgem (tgt := 16) hx hb dX1_take_11 (by decide) ?_
    have htr : tr_take (nvM sc ar) x0 a0 b0 = ((nvM sc ar), -1) := tr_take_n (fun y1 y2 y3 j e1 e2 e3 q1 q2 q3 hj q => by
      have hj : j < sc 5 := hj
      have r1 : ar 5 j = y1 := q.1
      have r2 : 16 * ar 6 j + ar 7 j = 16 * y2 + y3 := q.2
      have r3 := hI.2 j hj
      exact hk1 j hj ⟨by rw [e1, r1], by rw [e2, show ar 6 j = y2 by omega], by rw [e3, show ar 7 j = y3 by omega]⟩)
    refine lv_iconst (v := -1) hx hb dX1_take_14 (by decide +kernel) ?_
    exact y_iret F hH hrt hlk hQ ⟨hI, by rw [htr], by rw [htr]⟩ dX1_take_15
set_option maxHeartbeats 4000000 in
set_option maxRecDepth 100000 in
theorem mX1_pass (l : Launch) (dC : Nat → ClassId) (dI : Nat → Nat → Nat) (h : Nat → Nat) (d dz : ClassId) (sc : Nat → Nat) (ar : Nat → Nat → Nat) (x0 a0 b0 : Int32) (hI : y_I sc ar) (sz : Nat) : Met l yX1_pass (ws_ yX1_pass cX1_pass 5 (some .int)) (r_ 1) (y_Pc dC dI h d dz sz sc ar [.ref (h 0), .int x0, .int a0, .int b0]) (va_Qi (fun r u => y_I u.1 u.2 ∧ nvM u.1 u.2 = (tr_pass (nvM sc ar) x0 a0 b0).1 ∧ r = (tr_pass (nvM sc ar) x0 a0 b0).2) (y_B dC dI (y_A h d dz sc ar sz) h d dz) (y_A h d dz sc ar sz)) 0 0 (y_A h d dz sc ar sz) := by
  refine y_headi (by decide +kernel) rfl (Nat.le_of_ble_eq_true rfl) ?_
  intro p e s m below meth c A av QQ hrt hlk F hA hH hQ ls hl
  have hx := F.1.1
  have hb := F.1.2.1
  have hts := F.1.2.2.2.2
  have hl : lv_has ls 5 [(0, .ref (h 0)), (1, .int x0), (2, .int a0), (3, .int b0)] := hl
  have ho := hI.1
  have hT20 : sc 5 ≤ 20 := ho.2.1
  have hn12 : sc 0 ≤ 12 := ho.1
  by_cases hok : 0 ≤ x0.toInt ∧ x0.toInt < (sc 0 : Int)
  rotate_left
  · refine lv_iload_n hx hb dX1_pass_0 rfl (lv_at hl 1 rfl) ?_
    refine lv_if_lt (tgt := 12) hx hb dX1_pass_1 (by decide) (fun c1 => ?_) (fun c1 => ?_)
    · refine lv_iconst (v := -1) hx hb dX1_pass_12 (by decide +kernel) ?_
      refine lv_goto (tgt := 28) hx hb dX1_pass_13 (by decide) ?_
      refine lv_istore (lv' := [(4, .int ((-1))), (0, .ref (h 0)), (1, .int x0), (2, .int a0), (3, .int b0)]) hx hb dX1_pass_28 hl (by decide) rfl (fun ls hl => ?_)
      refine lv_iload hx hb dX1_pass_30 (lv_at hl 0 rfl) ?_
      refine nw_ifgem (tgt := 37) hx hb dX1_pass_32 (by decide) ?_
      have htr : tr_pass (nvM sc ar) x0 a0 b0 = ((nvM sc ar), -1) := ci_f (fun q => hok ⟨q.1, q.2.1⟩)
      refine lv_iconst (v := -1) hx hb dX1_pass_35 (by decide +kernel) ?_
      exact y_iret F hH hrt hlk hQ ⟨hI, by rw [htr], by rw [htr]⟩ dX1_pass_36
    · rw [nw_lt0] at c1
      refine lv_iload_n hx hb dX1_pass_4 rfl (lv_at hl 1 rfl) ?_
      refine lv_aload_n hx hb dX1_pass_5 rfl (lv_at hl 0 rfl) ?_
      refine y_get F hH 0 (by decide) q146 rfl dX1_pass_6 ?_
      refine lv_icmp_lt (tgt := 16) hx hb dX1_pass_9 (by decide) (fun c9 => ?_) (fun c9 => ?_)
      · rw [nw_xlt_c (by omega)] at c9
        exact absurd (by omega) hok
      · refine lv_iconst (v := -1) hx hb dX1_pass_12 (by decide +kernel) ?_
        refine lv_goto (tgt := 28) hx hb dX1_pass_13 (by decide) ?_
        refine lv_istore (lv' := [(4, .int ((-1))), (0, .ref (h 0)), (1, .int x0), (2, .int a0), (3, .int b0)]) hx hb dX1_pass_28 hl (by decide) rfl (fun ls hl => ?_)
        refine lv_iload hx hb dX1_pass_30 (lv_at hl 0 rfl) ?_
        refine nw_ifgem (tgt := 37) hx hb dX1_pass_32 (by decide) ?_
        have htr : tr_pass (nvM sc ar) x0 a0 b0 = ((nvM sc ar), -1) := ci_f (fun q => hok ⟨q.1, q.2.1⟩)
        refine lv_iconst (v := -1) hx hb dX1_pass_35 (by decide +kernel) ?_
        exact y_iret F hH hrt hlk hQ ⟨hI, by rw [htr], by rw [htr]⟩ dX1_pass_36
  · obtain ⟨i, hi, rfl⟩ := nw_toInt (x := x0) (n := sc 0 - 1) hok.1 (by omega) (by omega)
    have hi0 : i < sc 0 := by have := hok.2; rw [nw_I (by omega)] at this; omega
    have hli : ar 1 i < 7 ∧ ar 2 i < 7 ∧ ar 3 i ≤ 3 ∧ ar 4 i ≤ 3 := ho.2.2.1 i hi0
    refine lv_iload_n hx hb dX1_pass_0 rfl (lv_at hl 1 rfl) ?_
    refine lv_if_lt (tgt := 12) hx hb dX1_pass_1 (by decide) (fun q => absurd q (nI_pos (by omega))) (fun _ => ?_)
    refine lv_iload_n hx hb dX1_pass_4 rfl (lv_at hl 1 rfl) ?_
    refine lv_aload_n hx hb dX1_pass_5 rfl (lv_at hl 0 rfl) ?_
    refine y_get F hH 0 (by decide) q146 rfl dX1_pass_6 ?_
    refine nw_lt (tgt := 16) hx hb dX1_pass_9 (by decide) (by omega) (fun c9 => ?_) (fun c9 => ?_)
    · refine lv_aload_n hx hb dX1_pass_16 rfl (lv_at hl 0 rfl) ?_
      refine lv_aload_n hx hb dX1_pass_17 rfl (lv_at hl 0 rfl) ?_
      refine y_get F hH 1 (by decide) q147 rfl dX1_pass_18 ?_
      refine lv_iload_n hx hb dX1_pass_21 rfl (lv_at hl 1 rfl) ?_
      refine y_ald F hH 1 (N := 12) rfl (by decide) (by decide) (by omega) dX1_pass_22 ?_
      refine lv_iload_n hx hb dX1_pass_23 rfl (lv_at hl 2 rfl) ?_
      refine lv_iload_n hx hb dX1_pass_24 rfl (lv_at hl 3 rfl) ?_
      refine y_calli F hH hA (As := [.int (nI (ar 1 i)), .int a0, .int b0]) (rest := []) (fun sz => mX1_find l dC dI h d dz sc ar (nI (ar 1 i)) a0 b0 hT20 sz) (cwV 3 hts (lw_V q200 q202 qs7 q16 q203) rfl rfl rfl (by decide +kernel) ⟨Nat.le_of_ble_eq_true rfl, Nat.le_of_ble_eq_true rfl⟩) rfl hl.1 (Nat.le_of_ble_eq_true rfl) rfl dX1_pass_25 ⟨Nat.zero_le _, Nat.zero_le _⟩ (fun r sc_1 ar_2 H locs hp hH => ?_)
      try dsimp only at hp
      obtain ⟨⟨hq1, hq2⟩, hp⟩ := hp
      have hq1 : sc_1 = sc := hq1
      have hq2 : ar_2 = ar := hq2
      rw [hq1, hq2] at hH
      rcases hp with ⟨k, hk, ⟨hkf, rfl, rfl⟩, hk2, rfl⟩ | ⟨hk1, rfl⟩
      · refine lv_istore (lv' := [(4, .int (nI k)), (0, .ref (h 0)), (1, .int (nI i)), (2, .int (nI (ar 6 k))), (3, .int (nI (ar 7 k)))]) hx hb dX1_pass_28 hl (by decide) rfl (fun ls hl => ?_)
        refine lv_iload hx hb dX1_pass_30 (lv_at hl 0 rfl) ?_
        refine nw_ifge (tgt := 37) hx hb dX1_pass_32 (by decide) (by omega) ?_
        have h5k : ar 5 k < 7 := (ho.2.2.2 k hk).1
        have h67 := hI.2 k hk
        have hkf := (nI_eq (by omega) (by omega)).mp hkf
        have tt := tr_pass_c (v := (nvM sc ar)) (i := i) (a := ar 6 k) (b := ar 7 k) (k := k) hi0 hn12 (by omega) (by omega) hk ⟨hkf, rfl⟩ (fun j hj q => by
          have r1 : ar 5 j = ar 1 i := q.1
          have r2 : 16 * ar 6 j + ar 7 j = 16 * ar 6 k + ar 7 k := q.2
          have r3 := hI.2 j (by omega)
          exact hk2 j hj ⟨by rw [r1], by rw [show ar 6 j = ar 6 k by omega], by rw [show ar 7 j = ar 7 k by omega]⟩)
        refine lv_iload_n hx hb dX1_pass_37 rfl (lv_at hl 3 rfl) ?_
        refine lv_aload_n hx hb dX1_pass_38 rfl (lv_at hl 1 rfl) ?_
        refine y_get F hH 3 (by decide) q149 rfl dX1_pass_39 ?_
        refine lv_iload_n hx hb dX1_pass_42 rfl (lv_at hl 2 rfl) ?_
        refine y_ald F hH 3 (N := 12) rfl (by decide) (by decide) (by omega) dX1_pass_43 ?_
        refine nw_iadd hx hb dX1_pass_44 ?_
        refine lv_iload_n hx hb dX1_pass_45 rfl (lv_at hl 4 rfl) ?_
        refine lv_aload_n hx hb dX1_pass_46 rfl (lv_at hl 1 rfl) ?_
        refine y_get F hH 4 (by decide) q150 rfl dX1_pass_47 ?_
        refine lv_iload_n hx hb dX1_pass_50 rfl (lv_at hl 2 rfl) ?_
        refine y_ald F hH 4 (N := 12) rfl (by decide) (by decide) (by omega) dX1_pass_51 ?_
        refine nw_iadd hx hb dX1_pass_52 ?_
        refine y_calls F hH (As := [.int (nI ((ar 6 k) + (ar 3 i))), .int (nI ((ar 7 k) + (ar 4 i)))]) (rest := []) (mX1_badTime l (nI (ar 6 k + ar 3 i)) (nI (ar 7 k + ar 4 i))) (va_cwS 2 hts (lw_S q193 q194 q16 q195) rfl rfl rfl (by decide +kernel) ⟨Nat.le_of_ble_eq_true rfl, Nat.le_of_ble_eq_true rfl⟩) rfl hl.1 (Nat.le_of_ble_eq_true rfl) rfl dX1_pass_53 ⟨Nat.zero_le _, Nat.zero_le _⟩ (fun r H locs hp hH => ?_)
        try dsimp only at hp
        rcases hp with ⟨hg2, rfl⟩ | ⟨hg2, rfl⟩
        · rw [nw_I (by omega), nw_I (by omega)] at hg2
          refine nw_ifeq (tgt := 62) hx hb dX1_pass_56 (by decide) (by decide) (fun _ => ?_) (fun q => absurd rfl q)
          rw [ci_t (show ar 6 k + ar 3 i ≤ 15 ∧ ar 7 k + ar 4 i ≤ 15 by omega)] at tt
          refine lv_aload_n hx hb dX1_pass_62 rfl (lv_at hl 1 rfl) ?_
          refine y_get F hH 6 (by decide) q152 rfl dX1_pass_63 ?_
          refine lv_iload hx hb dX1_pass_66 (lv_at hl 0 rfl) ?_
          refine lv_aload_n hx hb dX1_pass_68 rfl (lv_at hl 1 rfl) ?_
          refine y_get F hH 2 (by decide) q148 rfl dX1_pass_69 ?_
          refine lv_iload_n hx hb dX1_pass_72 rfl (lv_at hl 2 rfl) ?_
          refine y_ald F hH 2 (N := 12) rfl (by decide) (by decide) (by omega) dX1_pass_73 ?_
          refine y_ast F hH 5 (N := 20) rfl (by decide) (by decide) (by omega) dX1_pass_74 (fun ar_3 H locs ear_3 hH => ?_)
          refine lv_aload_n hx hb dX1_pass_75 rfl (lv_at hl 1 rfl) ?_
          refine y_get F hH 7 (by decide) q153 rfl dX1_pass_76 ?_
          refine lv_iload hx hb dX1_pass_79 (lv_at hl 0 rfl) ?_
          refine lv_iload_n hx hb dX1_pass_81 rfl (lv_at hl 3 rfl) ?_
          refine lv_aload_n hx hb dX1_pass_82 rfl (lv_at hl 1 rfl) ?_
          refine y_get F hH 3 (by decide) q149 rfl dX1_pass_83 ?_
          refine lv_iload_n hx hb dX1_pass_86 rfl (lv_at hl 2 rfl) ?_
          refine y_aldv F hH 3 (N := 12) (v := (ar 3 i)) rfl (by decide) (by decide) (by omega) (by rw [ear_3, au_k _ _ _ (by decide)]) dX1_pass_87 ?_
          refine nw_iadd hx hb dX1_pass_88 ?_
          refine y_ast F hH 6 (N := 20) rfl (by decide) (by decide) (by omega) dX1_pass_89 (fun ar_4 H locs ear_4 hH => ?_)
          refine lv_aload_n hx hb dX1_pass_90 rfl (lv_at hl 1 rfl) ?_
          refine y_get F hH 8 (by decide) q154 rfl dX1_pass_91 ?_
          refine lv_iload hx hb dX1_pass_94 (lv_at hl 0 rfl) ?_
          refine lv_iload_n hx hb dX1_pass_96 rfl (lv_at hl 4 rfl) ?_
          refine lv_aload_n hx hb dX1_pass_97 rfl (lv_at hl 1 rfl) ?_
          refine y_get F hH 4 (by decide) q150 rfl dX1_pass_98 ?_
          refine lv_iload_n hx hb dX1_pass_101 rfl (lv_at hl 2 rfl) ?_
          refine y_aldv F hH 4 (N := 12) (v := (ar 4 i)) rfl (by decide) (by decide) (by omega) (by rw [ear_4, au_k _ _ _ (by decide), ear_3, au_k _ _ _ (by decide)]) dX1_pass_102 ?_
          refine nw_iadd hx hb dX1_pass_103 ?_
          refine y_ast F hH 7 (N := 20) rfl (by decide) (by decide) (by omega) dX1_pass_104 (fun ar_5 H locs ear_5 hH => ?_)
          have w5 : ar_5 5 = nu (ar 5) k (ar 2 i) := by rw [ear_5, au_k _ _ _ (by decide), ear_4, au_k _ _ _ (by decide), ear_3, au_nu]
          have w6 : ar_5 6 = nu (ar 6) k (ar 6 k + ar 3 i) := by rw [ear_5, au_k _ _ _ (by decide), ear_4, au_nu, ear_3, au_k _ _ _ (by decide)]
          have w7 : ar_5 7 = nu (ar 7) k (ar 7 k + ar 4 i) := by rw [ear_5, au_nu, ear_4, au_k _ _ _ (by decide), ear_3, au_k _ _ _ (by decide)]
          have w1 : ar_5 1 = ar 1 := by rw [ear_5, au_k _ _ _ (by decide), ear_4, au_k _ _ _ (by decide), ear_3, au_k _ _ _ (by decide)]
          have w2 : ar_5 2 = ar 2 := by rw [ear_5, au_k _ _ _ (by decide), ear_4, au_k _ _ _ (by decide), ear_3, au_k _ _ _ (by decide)]
          have w3 : ar_5 3 = ar 3 := by rw [ear_5, au_k _ _ _ (by decide), ear_4, au_k _ _ _ (by decide), ear_3, au_k _ _ _ (by decide)]
          have w4 : ar_5 4 = ar 4 := by rw [ear_5, au_k _ _ _ (by decide), ear_4, au_k _ _ _ (by decide), ear_3, au_k _ _ _ (by decide)]
          have eN : nvM sc ar_5 = nl_pass (nvM sc ar) k (ar 2 i) (16 * (ar 6 k + ar 3 i) + (ar 7 k + ar 4 i)) := by
            unfold nvM
            rw [w1, w2, w3, w4, w5, w6, w7, tm_nu]; rfl
          have hI2 : y_I sc ar_5 := ⟨by rw [eN]; exact nl_pass_ok ho hli.2.1 (by omega), by
            rw [w6, w7]
            intro j hj
            by_cases e : j = k
            · rw [e, nu_s, nu_s]; omega
            · rw [nu_n _ _ e, nu_n _ _ e]; exact hI.2 j hj⟩
          refine lv_iconst (v := nI 0) hx hb dX1_pass_105 (by decide +kernel) ?_
          exact y_iret F hH hrt hlk hQ ⟨hI2, by rw [eN, tt], by rw [tt]; exact nI_0⟩ dX1_pass_106
        · rw [nw_I (by omega), nw_I (by omega)] at hg2
          refine nw_ifeq (tgt := 62) hx hb dX1_pass_56 (by decide) (by decide) (fun q => absurd q (by decide)) (fun _ => ?_)
          rw [ci_f (by show ¬ (ar 6 k + ar 3 i ≤ 15 ∧ ar 7 k + ar 4 i ≤ 15); omega)] at tt
          refine lv_bipush (v := -2) hx hb dX1_pass_59 (by decide +kernel) ?_
          exact y_iret F hH hrt hlk hQ ⟨hI, by rw [tt], by rw [tt]⟩ dX1_pass_61
      · refine lv_istore (lv' := [(4, .int ((-1))), (0, .ref (h 0)), (1, .int (nI i)), (2, .int a0), (3, .int b0)]) hx hb dX1_pass_28 hl (by decide) rfl (fun ls hl => ?_)
        refine lv_iload hx hb dX1_pass_30 (lv_at hl 0 rfl) ?_
        refine nw_ifgem (tgt := 37) hx hb dX1_pass_32 (by decide) ?_
        have htr : tr_pass (nvM sc ar) (nI i) a0 b0 = ((nvM sc ar), -1) := tr_pass_n hn12 (fun y1 y2 y3 j e1 e2 e3 q1 q2 q3 hj q => by
          have q1 : y1 < sc 0 := q1
          have hj : j < sc 5 := hj
          have e4 := (nI_eq (by omega) (by omega)).mp e1
          have r1 : ar 5 j = ar 1 y1 := q.1
          have r2 : 16 * ar 6 j + ar 7 j = 16 * y2 + y3 := q.2
          have r3 := hI.2 j hj
          exact hk1 j hj ⟨by rw [r1, e4], by rw [e2, show ar 6 j = y2 by omega], by rw [e3, show ar 7 j = y3 by omega]⟩)
        refine lv_iconst (v := -1) hx hb dX1_pass_35 (by decide +kernel) ?_
        exact y_iret F hH hrt hlk hQ ⟨hI, by rw [htr], by rw [htr]⟩ dX1_pass_36
    · exact absurd c9 (by omega)
end
section
/-! HELP 8: the loops of spread; what the model's questions see -/
def sl_ (ar ar1 ar2 : Nat → Nat → Nat) (n i ch : Nat) : Prop := sp_ok ar ar2 n ∧ ((ch = 0 ∧ ar2 = ar1 ∧ ∀ j, j < i → ca_ ar ar2 n j) ∨ (ch = 1 ∧ zc_ ar2 < zc_ ar1))
def so_ (ar ar1 : Nat → Nat → Nat) (n ch : Nat) : Prop := sp_ok ar ar1 n ∧ (ch = 1 ∨ (ch = 0 ∧ ∀ i, i < 4332 → ca_ ar ar1 n i))
theorem so_le {ar ar1 : Nat → Nat → Nat} {n ch : Nat} (h : so_ ar ar1 n ch) : ch ≤ 1 := by
  rcases h.2 with h | h
  · omega
  · omega
theorem sl_le {ar ar1 ar2 : Nat → Nat → Nat} {n i ch : Nat} (h : sl_ ar ar1 ar2 n i ch) : ch ≤ 1 := by
  rcases h.2 with h | h
  · omega
  · omega
theorem sl_0 {ar ar1 : Nat → Nat → Nat} {n : Nat} (h : sp_ok ar ar1 n) : sl_ ar ar1 ar1 n 0 0 := ⟨h, Or.inl ⟨rfl, rfl, fun _ q => absurd q (Nat.not_lt_zero _)⟩⟩
theorem sl_skip {ar ar1 ar2 : Nat → Nat → Nat} {n i ch : Nat} (h : sl_ ar ar1 ar2 n i ch) (hc : ca_ ar ar2 n i) : sl_ ar ar1 ar2 n (i + 1) ch := by
  refine ⟨h.1, ?_⟩
  rcases h.2 with ⟨h1, h2, h3⟩ | h1
  · exact Or.inl ⟨h1, h2, lt_s h3 hc⟩
  · exact Or.inr h1
theorem ca_skip {ar ar2 : Nat → Nat → Nat} {n i l a b : Nat} (el : l = i / 361) (ea : a = i / 19 % 19) (eb : b = i % 19) (h : n ≤ l ∨ ar2 8 (361 * ar 1 l + 19 * a + b) = 0 ∨ 19 ≤ a + ar 3 l ∨ 19 ≤ b + ar 4 l) : ca_ ar ar2 n i := by
  unfold ca_
  rw [← el, ← ea, ← eb]
  intro h1 h2 h3 h4
  omega
theorem sl_put {ar ar1 ar2 ar3 : Nat → Nat → Nat} {n i ch ch' l a b vn : Nat} (hb : ∀ k, k < n → ar 1 k < 7 ∧ ar 2 k < 7 ∧ ar 3 k ≤ 3 ∧ ar 4 k ≤ 3) (h : sl_ ar ar1 ar2 n i ch) (el : l = i / 361) (ea : a = i / 19 % 19) (eb : b = i % 19) (hl : l < n) (h1 : ar2 8 (361 * ar 1 l + 19 * a + b) = 1) (h2 : a + ar 3 l < 19) (h3 : b + ar 4 l < 19) (ev : vn = 361 * ar 2 l + 19 * (a + ar 3 l) + b + ar 4 l) (e : ar3 = au ar2 8 vn 1)
    (hch : (ch' = 1 ∧ ch ≠ 0) ∨ (ch' = 0 ∧ ch = 0 ∧ ar2 8 vn ≠ 0) ∨ (ch' = 1 ∧ ch = 0 ∧ ar2 8 vn = 0)) : sl_ ar ar1 ar3 n (i + 1) ch' := by
  have hl4 := hb l hl
  have hvn : vn < 2527 := by omega
  have hs : sp_ok ar ar3 n := sp_put hb h.1 hl (by omega) (by omega) h1 h2 h3 (by rw [e, ev])
  refine ⟨hs, ?_⟩
  rcases hch with ⟨c1, c2⟩ | ⟨c1, c2, c3⟩ | ⟨c1, c2, c3⟩
  · rcases h.2 with ⟨g1, g2, g3⟩ | ⟨g1, g2⟩
    · exact absurd g1 c2
    · exact Or.inr ⟨c1, Nat.lt_of_le_of_lt (zc_le hvn e) g2⟩
  · rcases h.2 with ⟨g1, g2, g3⟩ | ⟨g1, g2⟩
    · have h01 : ar2 8 vn = 1 := by
        rcases h.1.2.1 vn hvn with q | q
        · exact absurd q c3
        · exact q
      have e3 : ar3 = ar2 := by rw [e, au_id h01]
      rw [e3]
      refine Or.inl ⟨c1, g2, lt_s g3 ?_⟩
      unfold ca_
      rw [← el, ← ea, ← eb, ← ev]
      exact fun _ _ _ _ => h01
    · omega
  · rcases h.2 with ⟨g1, g2, g3⟩ | ⟨g1, g2⟩
    · refine Or.inr ⟨c1, ?_⟩
      rw [← g2]
      exact zc_lt hvn c3 e
    · omega
theorem sl_meas {ar ar1 ar2 : Nat → Nat → Nat} {n i ch : Nat} (h : sl_ ar ar1 ar2 n i ch) : 2 * zc_ ar2 + ch < 2 * zc_ ar1 + 1 := by
  rcases h.2 with ⟨h1, h2, -⟩ | ⟨h1, h2⟩
  · rw [h1, h2]; omega
  · omega
theorem sl_end {ar ar1 ar2 : Nat → Nat → Nat} {n i ch : Nat} (h : sl_ ar ar1 ar2 n i ch) (hi : 4332 ≤ i) : so_ ar ar2 n ch := by
  refine ⟨h.1, ?_⟩
  rcases h.2 with ⟨h1, h2, h3⟩ | ⟨h1, h2⟩
  · exact Or.inr ⟨h1, fun j hj => h3 j (by omega)⟩
  · exact Or.inl h1
theorem so_end {ar ar1 : Nat → Nat → Nat} {n ch : Nat} (hn : n ≤ 12) (hb : ∀ k, k < n → ar 1 k < 7 ∧ ar 2 k < 7 ∧ ar 3 k ≤ 3 ∧ ar 4 k ≤ 3) (h : so_ ar ar1 n ch) (hc : ch = 0) : th_ ar1 (cl_ (fe_E n (ar 1) (ar 2) (ar 3) (ar 4)) (fun l a b => ar 8 (361 * l + 19 * a + b) = 1)) := by
  rcases h.2 with h2 | ⟨-, h2⟩
  · omega
  · exact sp_end hn hb h.1 h2
theorem th_congr {ar : Nat → Nat → Nat} {R R' : Nat → Nat → Nat → Prop} (h : th_ ar R) (hR : ∀ m x y, m < 7 → x < 19 → y < 19 → (R m x y ↔ R' m x y)) : th_ ar R' :=
  ⟨h.1, fun m x y hm hx hy => (h.2 m x y hm hx hy).trans (hR m x y hm hx hy)⟩
/-- what no question of the model changes -/
theorem y_same {sc : Nat → Nat} {ar ar1 : Nat → Nat → Nat} (hI : y_I sc ar) (h : ∀ k, k ≠ 8 → ar1 k = ar k) : y_I sc ar1 ∧ nvM sc ar1 = nvM sc ar := by
  have e : nvM sc ar1 = nvM sc ar := by
    unfold nvM
    rw [h 1 (by decide), h 2 (by decide), h 3 (by decide), h 4 (by decide), h 5 (by decide), h 6 (by decide), h 7 (by decide)]
  refine ⟨⟨by rw [e]; exact hI.1, ?_⟩, e⟩
  rw [h 6 (by decide), h 7 (by decide)]
  exact hI.2
theorem y_lines {sc : Nat → Nat} {ar ar1 : Nat → Nat → Nat} (hI : y_I sc ar) (h : ∀ k, k ≠ 8 → ar1 k = ar k) : ∀ k, k < sc 0 → ar1 1 k < 7 ∧ ar1 2 k < 7 ∧ ar1 3 k ≤ 3 ∧ ar1 4 k ≤ 3 := by
  rw [h 1 (by decide), h 2 (by decide), h 3 (by decide), h 4 (by decide)]
  exact hI.1.2.2.1
/-- the chosen tokens' times, spread -/
theorem tok_th {sc : Nat → Nat} {ar ar1 ar2 : Nat → Nat → Nat} {G : Nat → Prop} (hI : y_I sc ar) (hk : ts_ ar ar1 G (sc 5)) (h : th_ ar2 (cl_ (fe_E (sc 0) (ar1 1) (ar1 2) (ar1 3) (ar1 4)) (fun l a b => ar1 8 (361 * l + 19 * a + b) = 1))) : th_ ar2 (fun m x y => ∃ k p q, k < sc 5 ∧ G k ∧ fw_W (nv_E (nvM sc ar)) (ar 5 k) m p q ∧ x = ar 6 k + p ∧ y = ar 7 k + q) := by
  rw [hk.1 1 (by decide), hk.1 2 (by decide), hk.1 3 (by decide), hk.1 4 (by decide)] at h
  exact th_tok hI hk.2.2 h
theorem tok_R {sc : Nat → Nat} {ar ar1 ar2 : Nat → Nat → Nat} (hI : y_I sc ar) (hk : ts_ ar ar1 (fun _ => True) (sc 5)) (h : th_ ar2 (cl_ (fe_E (sc 0) (ar1 1) (ar1 2) (ar1 3) (ar1 4)) (fun l a b => ar1 8 (361 * l + 19 * a + b) = 1))) : th_ ar2 (nv_R (nvM sc ar)) :=
  th_congr (tok_th hI hk h) (fun m x y _ _ _ => R_tok hI m x y)
/-- one time alone, spread -/
theorem one_th {n x1 : Nat} {ar ar0 ar1 ar2 : Nat → Nat → Nat} (hx : x1 < 7) (h0 : ∀ k, k ≠ 8 → ar0 k = ar k) (hz : ∀ j, j < 2527 → ar0 8 j = 0) (e : ar1 = au ar0 8 (361 * x1 + 19 * 0 + 0) 1) (h : th_ ar2 (cl_ (fe_E n (ar1 1) (ar1 2) (ar1 3) (ar1 4)) (fun l a b => ar1 8 (361 * l + 19 * a + b) = 1))) : th_ ar2 (fw_W (fe_E n (ar 1) (ar 2) (ar 3) (ar 4)) x1) := by
  have e1 : ∀ k, k ≠ 8 → ar1 k = ar k := fun k hk => by rw [e, au_k _ _ _ hk]; exact h0 k hk
  rw [e1 1 (by decide), e1 2 (by decide), e1 3 (by decide), e1 4 (by decide)] at h
  have h8 : ∀ l a b, l < 7 → a < 19 → b < 19 → (ar1 8 (361 * l + 19 * a + b) = 1 ↔ l = x1 ∧ a = 0 ∧ b = 0) := by
    intro l a b hl ha hb
    by_cases q : 361 * l + 19 * a + b = 361 * x1 + 19 * 0 + 0
    · rw [e, q, au_s]
      exact ⟨fun _ => by omega, fun _ => rfl⟩
    · rw [e, au_j _ _ _ q, hz _ (by omega)]
      exact ⟨fun r => absurd r (by decide), fun r => absurd (by omega) q⟩
  refine th_congr h (fun m x y hm hx hy => ⟨?_, fun hW => ?_⟩)
  · rintro ⟨l, a, b, p, q, hl, ha, hb, h1, h2, e2, e3⟩
    obtain ⟨rfl, rfl, rfl⟩ := (h8 l a b hl ha hb).mp h1
    rw [e2, e3, Nat.zero_add, Nat.zero_add]
    exact h2
  · exact ⟨x1, 0, 0, x, y, by omega, by decide, by decide, (h8 x1 0 0 (by omega) (by decide) (by decide)).mpr ⟨rfl, rfl, rfl⟩, hW, by omega, by omega⟩
/-- a time up to (a, b) is there; with og = 1 another than (a, b) -/
def bl_ (ar : Nat → Nat → Nat) (pl a b og : Nat) : Prop := ∃ x y, x ≤ a ∧ y ≤ b ∧ ar 8 (361 * pl + 19 * x + y) = 1 ∧ ¬ (og = 1 ∧ x = a ∧ y = b)
def nb_ (ar : Nat → Nat → Nat) (pl a b og x y : Nat) : Prop := ¬ (ar 8 (361 * pl + 19 * x + y) = 1 ∧ ¬ (og = 1 ∧ x = a ∧ y = b))
def if_ (ar : Nat → Nat → Nat) (pl a b : Nat) : Prop := ar 8 (361 * pl + 19 * a + b) = 1 ∧ ∀ x y, x ≤ a → y ≤ b → ar 8 (361 * pl + 19 * x + y) = 1 → x = a ∧ y = b
theorem if_t {ar : Nat → Nat → Nat} {pl a b : Nat} (h : ar 8 (361 * pl + 19 * a + b) = 1) (hn : ¬ bl_ ar pl a b 1) : if_ ar pl a b := by
  refine ⟨h, fun x y hx hy q => ?_⟩
  by_cases e : x = a ∧ y = b
  · exact e
  · exact absurd ⟨x, y, hx, hy, q, fun r => e r.2⟩ hn
theorem if_f1 {ar : Nat → Nat → Nat} {pl a b : Nat} (h : bl_ ar pl a b 1) : ¬ if_ ar pl a b := by
  rintro ⟨-, h2⟩
  obtain ⟨x, y, hx, hy, q, r⟩ := h
  exact r ⟨rfl, h2 x y hx hy q⟩
theorem if_f0 {ar : Nat → Nat → Nat} {pl a b : Nat} (h : ar 8 (361 * pl + 19 * a + b) = 0) : ¬ if_ ar pl a b := by
  rintro ⟨h1, -⟩
  omega
theorem bl_R {ar : Nat → Nat → Nat} {R : Nat → Nat → Nat → Prop} (h : th_ ar R) {pl a b : Nat} (hp : pl < 7) (ha : a < 19) (hb : b < 19) : bl_ ar pl a b 0 ↔ ∃ x y, x ≤ a ∧ y ≤ b ∧ R pl x y := by
  constructor
  · rintro ⟨x, y, hx, hy, q, -⟩
    exact ⟨x, y, hx, hy, (h.2 pl x y hp (by omega) (by omega)).mp q⟩
  · rintro ⟨x, y, hx, hy, q⟩
    exact ⟨x, y, hx, hy, (h.2 pl x y hp (by omega) (by omega)).mpr q, fun r => absurd r.1 (by decide)⟩
theorem if_fr {ar : Nat → Nat → Nat} {R : Nat → Nat → Nat → Prop} (h : th_ ar R) {w pl t : Nat} (hp : pl < 7) (h1 : t / w < 19) (h2 : t % w < 19) : if_ ar pl (t / w) (t % w) ↔ fr_ w (R pl) t := by
  unfold if_ fr_
  rw [h.2 pl _ _ hp h1 h2]
  constructor
  · rintro ⟨q1, q2⟩
    exact ⟨q1, fun x y hx hy q => q2 x y hx hy ((h.2 pl x y hp (by omega) (by omega)).mpr q)⟩
  · rintro ⟨q1, q2⟩
    exact ⟨q1, fun x y hx hy q => q2 x y hx hy ((h.2 pl x y hp (by omega) (by omega)).mp q)⟩
/-- the tokens that stand elsewhere or at another time -/
def go_ (ar : Nat → Nat → Nat) (x1 a1 b1 : Nat) : Nat → Prop := fun k => ¬ (ar 5 k = x1 ∧ ar 6 k = a1 ∧ ar 7 k = b1)
theorem here_iff {sc : Nat → Nat} {ar : Nat → Nat → Nat} (hI : y_I sc ar) {x1 a1 b1 k : Nat} (hb : b1 ≤ 15) (hk : k < sc 5) : nv_here (nvM sc ar) x1 (16 * a1 + b1) k ↔ (ar 5 k = x1 ∧ ar 6 k = a1 ∧ ar 7 k = b1) := by
  have h := hI.2 k hk
  show (ar 5 k = x1 ∧ 16 * ar 6 k + ar 7 k = 16 * a1 + b1) ↔ _
  omega
theorem oth_iff {sc : Nat → Nat} {ar : Nat → Nat → Nat} (hI : y_I sc ar) {x1 a1 b1 : Nat} (hb : b1 ≤ 15) : (∃ x y, x ≤ a1 ∧ y ≤ b1 ∧ ∃ k p q, k < sc 5 ∧ go_ ar x1 a1 b1 k ∧ fw_W (nv_E (nvM sc ar)) (ar 5 k) x1 p q ∧ x = ar 6 k + p ∧ y = ar 7 k + q) ↔ nv_other (nvM sc ar) x1 a1 b1 := by
  constructor
  · rintro ⟨x, y, hx, hy, k, p, q, hk, hG, hW, e1, e2⟩
    have h := hI.2 k hk
    refine ⟨k, p, q, hk, fun r => hG ((here_iff hI hb hk).mp r), hW, ?_, ?_⟩
    · show (16 * ar 6 k + ar 7 k) / 16 + p ≤ a1
      omega
    · show (16 * ar 6 k + ar 7 k) % 16 + q ≤ b1
      omega
  · rintro ⟨k, p, q, hk, hG, hW, e1, e2⟩
    have hk : k < sc 5 := hk
    have h := hI.2 k hk
    have e1 : (16 * ar 6 k + ar 7 k) / 16 + p ≤ a1 := e1
    have e2 : (16 * ar 6 k + ar 7 k) % 16 + q ≤ b1 := e2
    exact ⟨ar 6 k + p, ar 7 k + q, by omega, by omega, k, p, q, hk, fun r => hG ((here_iff hI hb hk).mpr r), hW, rfl, rfl⟩
theorem one_f {ar ar0 ar1 : Nat → Nat → Nat} {j : Nat} (h0 : ∀ k, k ≠ 8 → ar0 k = ar k) (e : ar1 = au ar0 8 j 1) : ∀ k, k ≠ 8 → ar1 k = ar k := fun k hk => by rw [e, au_k _ _ _ hk]; exact h0 k hk
theorem one_z {ar0 ar1 : Nat → Nat → Nat} {j : Nat} (hz : ∀ i, i < 2527 → ar0 8 i = 0) (e : ar1 = au ar0 8 j 1) : ∀ i, i < 2527 → ar1 8 i = 0 ∨ ar1 8 i = 1 := by
  intro i hi
  rw [e]
  by_cases q : i = j
  · rw [q, au_s]; exact Or.inr rfl
  · rw [au_j _ _ _ q]; exact Or.inl (hz i hi)
end
section
/-! the model's questions -/
set_option maxHeartbeats 4000000 in
set_option maxRecDepth 100000 in
theorem mX1_empty (l : Launch) (dC : Nat → ClassId) (dI : Nat → Nat → Nat) (h : Nat → Nat) (d dz : ClassId) (sc : Nat → Nat) (ar : Nat → Nat → Nat)   (sz : Nat) : Met l yX1_empty (ws_ yX1_empty cX1_empty 2 none) (r_ 0) (y_Pc dC dI h d dz sz sc ar [.ref (h 0)]) (va_Qv (fun u => u.1 = sc ∧ (∀ k, k ≠ 8 → u.2 k = ar k) ∧ ∀ j, j < 2527 → u.2 8 j = 0) (y_B dC dI (y_A h d dz sc ar sz) h d dz) (y_A h d dz sc ar sz)) 0 0 (y_A h d dz sc ar sz) := by
  refine y_headv (by decide +kernel) rfl (Nat.le_of_ble_eq_true rfl) ?_
  intro p e s m below meth c A av QQ hrt hlk F hA hH hQ ls hl
  have hx := F.1.1
  have hb := F.1.2.1
  have hts := F.1.2.2.2.2
  have hl : lv_has ls 2 [(0, .ref (h 0))] := hl
  have L2 : ∀ (n : Nat) (i : Nat) (ar1 : Nat → Nat → Nat), 2527 - i < n → i ≤ 2527 → (∀ k, k ≠ 8 → ar1 k = ar k) → (∀ j, j < i → ar1 8 j = 0) → ∀ (H : Heap) (locs : List Loc), yH dC dI A s.heap h d dz sc ar1 H locs → ∀ ls : Array Slot, lv_has ls 2 [(0, .ref (h 0)), (1, .int (nI i))] → W p l e (r_ 0) s m av below meth c H locs 0 0 QQ (F0 m 2 ls []) := by
    intro n
    induction n with
    | zero => intro _ _ hlt; exact absurd hlt (Nat.not_lt_zero _)
    | succ n ih =>
      intro i ar1 hn hi hf hz H locs hH ls hl
      refine lv_iload_n hx hb dX1_empty_2 rfl (lv_at hl 1 rfl) ?_
      refine lv_sipush (v := nI 2527) hx hb dX1_empty_3 (by decide +kernel) ?_
      refine nw_ge (tgt := 22) hx hb dX1_empty_6 (by decide) (by omega) (fun c6 => ?_) (fun c6 => ?_)
      · exact y_vret F hH hrt hlk hQ ⟨rfl, hf, fun j q => hz j (by omega)⟩ dX1_empty_22
      · refine lv_aload_n hx hb dX1_empty_9 rfl (lv_at hl 0 rfl) ?_
        refine y_get F hH 9 (by decide) q155 rfl dX1_empty_10 ?_
        refine lv_iload_n hx hb dX1_empty_13 rfl (lv_at hl 1 rfl) ?_
        refine lv_iconst (v := nI 0) hx hb dX1_empty_14 (by decide +kernel) ?_
        refine y_zast F hH (Or.inl rfl) (by omega) dX1_empty_15 (fun ar_1 H locs ear_1 hH => ?_)
        refine lv_iinc (v := (nI (i + 1))) (lv' := [(1, .int (nI (i + 1))), (0, .ref (h 0))]) hx hb dX1_empty_16 hl (k := 1) rfl (nw_inc _) (by decide) rfl (fun ls hl => ?_)
        refine lv_goto (tgt := 2) hx hb dX1_empty_19 (by decide) ?_
        exact ih (i + 1) ar_1 (by omega) (by omega) (fun k hk => by rw [ear_1, au_k _ _ _ hk]; exact hf k hk) (fun j hj => by
          rw [ear_1]
          by_cases q : j = i
          · rw [q, au_s]
          · rw [au_j _ _ _ q]; exact hz j (by omega)) H locs hH ls (lv_sub hl [1, 0] rfl)
  refine lv_iconst (v := nI 0) hx hb dX1_empty_0 (by decide +kernel) ?_
  refine lv_istore_n (lv' := [(1, .int (nI 0)), (0, .ref (h 0))]) hx hb dX1_empty_1 rfl hl (by decide) rfl (fun ls hl => ?_)
  exact L2 2528 0 ar (by omega) (by omega) (fun _ _ => rfl) lt_0 _ _ hH ls (lv_sub hl [1, 0] rfl)
set_option maxHeartbeats 4000000 in
set_option maxRecDepth 100000 in
theorem mX1_set (l : Launch) (dC : Nat → ClassId) (dI : Nat → Nat → Nat) (h : Nat → Nat) (d dz : ClassId) (sc : Nat → Nat) (ar : Nat → Nat → Nat) (pl a b : Nat) (hpl : pl < 7) (ha : a < 19) (hb9 : b < 19) (sz : Nat) : Met l yX1_set (ws_ yX1_set cX1_set 4 none) (r_ 0) (y_Pc dC dI h d dz sz sc ar [.ref (h 0), .int (nI pl), .int (nI a), .int (nI b)]) (va_Qv (fun u => u.1 = sc ∧ u.2 = au ar 8 (361 * pl + 19 * a + b) 1) (y_B dC dI (y_A h d dz sc ar sz) h d dz) (y_A h d dz sc ar sz)) 0 0 (y_A h d dz sc ar sz) := by
  refine y_headv (by decide +kernel) rfl (Nat.le_of_ble_eq_true rfl) ?_
  intro p e s m below meth c A av QQ hrt hlk F hA hH hQ ls hl
  have hx := F.1.1
  have hb := F.1.2.1
  have hts := F.1.2.2.2.2
  have hl : lv_has ls 4 [(0, .ref (h 0)), (1, .int (nI pl)), (2, .int (nI a)), (3, .int (nI b))] := hl
  refine lv_aload_n hx hb dX1_set_0 rfl (lv_at hl 0 rfl) ?_
  refine y_get F hH 9 (by decide) q155 rfl dX1_set_1 ?_
  refine lv_sipush (v := nI 361) hx hb dX1_set_4 (by decide +kernel) ?_
  refine lv_iload_n hx hb dX1_set_7 rfl (lv_at hl 1 rfl) ?_
  refine nw_imul hx hb dX1_set_8 ?_
  refine lv_bipush (v := nI 19) hx hb dX1_set_9 (by decide +kernel) ?_
  refine lv_iload_n hx hb dX1_set_11 rfl (lv_at hl 2 rfl) ?_
  refine nw_imul hx hb dX1_set_12 ?_
  refine nw_iadd hx hb dX1_set_13 ?_
  refine lv_iload_n hx hb dX1_set_14 rfl (lv_at hl 3 rfl) ?_
  refine nw_iadd hx hb dX1_set_15 ?_
  refine lv_iconst (v := nI 1) hx hb dX1_set_16 (by decide +kernel) ?_
  refine y_zast F hH (Or.inr rfl) (by omega) dX1_set_17 (fun ar_1 H locs ear_1 hH => ?_)
  exact y_vret F hH hrt hlk hQ ⟨rfl, ear_1⟩ dX1_set_18
set_option maxHeartbeats 4000000 in
set_option maxRecDepth 100000 in
theorem mX1_spread (l : Launch) (dC : Nat → ClassId) (dI : Nat → Nat → Nat) (h : Nat → Nat) (d dz : ClassId) (sc : Nat → Nat) (ar : Nat → Nat → Nat)  (hn12 : sc 0 ≤ 12) (hlb : ∀ k, k < sc 0 → ar 1 k < 7 ∧ ar 2 k < 7 ∧ ar 3 k ≤ 3 ∧ ar 4 k ≤ 3) (hz : ∀ j, j < 2527 → ar 8 j = 0 ∨ ar 8 j = 1) (sz : Nat) : Met l yX1_spread (ws_ yX1_spread cX1_spread 7 none) (r_ 0) (y_Pc dC dI h d dz sz sc ar [.ref (h 0)]) (va_Qv (fun u => u.1 = sc ∧ (∀ k, k ≠ 8 → u.2 k = ar k) ∧ th_ u.2 (cl_ (fe_E (sc 0) (ar 1) (ar 2) (ar 3) (ar 4)) (fun l a b => ar 8 (361 * l + 19 * a + b) = 1))) (y_B dC dI (y_A h d dz sc ar sz) h d dz) (y_A h d dz sc ar sz)) 0 0 (y_A h d dz sc ar sz) := by
  refine y_headv (by decide +kernel) rfl (Nat.le_of_ble_eq_true rfl) ?_
  intro p e s m below meth c A av QQ hrt hlk F hA hH hQ ls hl
  have hx := F.1.1
  have hb := F.1.2.1
  have hts := F.1.2.2.2.2
  have hl : lv_has ls 7 [(0, .ref (h 0))] := hl
  have L2 : ∀ (nO : Nat) (ch : Nat) (ar1 : Nat → Nat → Nat), 2 * zc_ ar1 + ch < nO → so_ ar ar1 (sc 0) ch → ∀ (H : Heap) (locs : List Loc), yH dC dI A s.heap h d dz sc ar1 H locs → ∀ ls : Array Slot, lv_has ls 7 [(0, .ref (h 0)), (1, .int (nI ch))] → W p l e (r_ 0) s m av below meth c H locs 0 0 QQ (F0 m 2 ls []) := by
    intro nO
    induction nO with
    | zero => intro _ _ hlt; exact absurd hlt (Nat.not_lt_zero _)
    | succ nO ihO =>
      intro ch ar1 hnO hso H locs hH ls hl
      have hch := so_le hso
      have L10 : ∀ (n : Nat) (i cg : Nat) (ar2 : Nat → Nat → Nat), 4332 - i < n → 1 ≤ ch → i ≤ 4332 → sl_ ar ar1 ar2 (sc 0) i cg → ∀ (H : Heap) (locs : List Loc), yH dC dI A s.heap h d dz sc ar2 H locs → ∀ ls : Array Slot, lv_has ls 7 [(0, .ref (h 0)), (1, .int (nI cg)), (2, .int (nI i))] → W p l e (r_ 0) s m av below meth c H locs 0 0 QQ (F0 m 10 ls []) := by
        intro n
        induction n with
        | zero => intro _ _ _ hlt; exact absurd hlt (Nat.not_lt_zero _)
        | succ n ih =>
          intro i cg ar2 hn hc1 hi hsl H locs hH ls hl
          have hsp := hsl.1
          have hcg := sl_le hsl
          refine lv_iload_n hx hb dX1_spread_10 rfl (lv_at hl 2 rfl) ?_
          refine lv_sipush (v := nI 4332) hx hb dX1_spread_11 (by decide +kernel) ?_
          refine nw_ge (tgt := 170) hx hb dX1_spread_14 (by decide) (by omega) (fun c14 => ?_) (fun c14 => ?_)
          · refine lv_goto (tgt := 2) hx hb dX1_spread_170 (by decide) ?_
            exact ihO cg ar2 (by have := sl_meas hsl; omega) (sl_end hsl (by omega)) H locs hH ls (lv_sub hl [0, 1] rfl)
          · refine lv_iload_n hx hb dX1_spread_17 rfl (lv_at hl 2 rfl) ?_
            refine lv_sipush (v := nI 361) hx hb dX1_spread_18 (by decide +kernel) ?_
            refine nw_idiv hx hb dX1_spread_21 (by omega) ?_
            refine nw_top (fun vl evl => ?_)
            refine lv_istore_n (lv' := [(3, .int (nI vl)), (0, .ref (h 0)), (1, .int (nI cg)), (2, .int (nI i))]) hx hb dX1_spread_22 rfl hl (by decide) rfl (fun ls hl => ?_)
            refine lv_iload_n hx hb dX1_spread_23 rfl (lv_at hl 3 rfl) ?_
            refine lv_bipush (v := nI 19) hx hb dX1_spread_24 (by decide +kernel) ?_
            refine nw_idiv hx hb dX1_spread_26 (by omega) ?_
            refine lv_bipush (v := nI 19) hx hb dX1_spread_27 (by decide +kernel) ?_
            refine nw_irem hx hb dX1_spread_29 (by omega) ?_
            refine nw_top (fun va eva => ?_)
            refine lv_istore (lv' := [(4, .int (nI va)), (3, .int (nI vl)), (0, .ref (h 0)), (1, .int (nI cg)), (2, .int (nI i))]) hx hb dX1_spread_30 hl (by decide) rfl (fun ls hl => ?_)
            refine lv_iload_n hx hb dX1_spread_32 rfl (lv_at hl 4 rfl) ?_
            refine lv_bipush (v := nI 19) hx hb dX1_spread_33 (by decide +kernel) ?_
            refine nw_irem hx hb dX1_spread_35 (by omega) ?_
            refine nw_top (fun vb evb => ?_)
            refine lv_istore (lv' := [(5, .int (nI vb)), (4, .int (nI va)), (3, .int (nI vl)), (0, .ref (h 0)), (1, .int (nI cg)), (2, .int (nI i))]) hx hb dX1_spread_36 hl (by decide) rfl (fun ls hl => ?_)
            refine lv_iload_n hx hb dX1_spread_38 rfl (lv_at hl 2 rfl) ?_
            refine lv_aload_n hx hb dX1_spread_39 rfl (lv_at hl 3 rfl) ?_
            refine y_get F hH 0 (by decide) q146 rfl dX1_spread_40 ?_
            refine nw_ge (tgt := 164) hx hb dX1_spread_43 (by decide) (by omega) (fun c43 => ?_) (fun c43 => ?_)
            · refine lv_iinc (v := (nI (i + 1))) (lv' := [(2, .int (nI (i + 1))), (5, .int (nI vb)), (4, .int (nI va)), (3, .int (nI vl)), (0, .ref (h 0)), (1, .int (nI cg))]) hx hb dX1_spread_164 hl (k := 5) rfl (nw_inc _) (by decide) rfl (fun ls hl => ?_)
              refine lv_goto (tgt := 10) hx hb dX1_spread_167 (by decide) ?_
              exact ih (i + 1) cg ar2 (by omega) hc1 (by omega) (sl_skip hsl (ca_skip evl eva evb (by first | exact Or.inl c43 | exact Or.inr (Or.inr (Or.inr c98)) | exact Or.inr (Or.inr (Or.inl c84)) | exact Or.inr (Or.inl c70)))) H locs hH ls (lv_sub hl [4, 5, 0] rfl)
            · have hl4 := hlb vl c43
              refine lv_aload_n hx hb dX1_spread_46 rfl (lv_at hl 3 rfl) ?_
              refine y_get F hH 9 (by decide) q155 rfl dX1_spread_47 ?_
              refine lv_sipush (v := nI 361) hx hb dX1_spread_50 (by decide +kernel) ?_
              refine lv_aload_n hx hb dX1_spread_53 rfl (lv_at hl 3 rfl) ?_
              refine y_get F hH 1 (by decide) q147 rfl dX1_spread_54 ?_
              refine lv_iload_n hx hb dX1_spread_57 rfl (lv_at hl 2 rfl) ?_
              refine y_aldv F hH 1 (N := 12) (v := (ar 1 vl)) rfl (by decide) (by decide) (by omega) (congrFun (hsp.1 1 (by decide)) vl) dX1_spread_58 ?_
              refine nw_imul hx hb dX1_spread_59 ?_
              refine lv_bipush (v := nI 19) hx hb dX1_spread_60 (by decide +kernel) ?_
              refine lv_iload hx hb dX1_spread_62 (lv_at hl 1 rfl) ?_
              refine nw_imul hx hb dX1_spread_64 ?_
              refine nw_iadd hx hb dX1_spread_65 ?_
              refine lv_iload hx hb dX1_spread_66 (lv_at hl 0 rfl) ?_
              refine nw_iadd hx hb dX1_spread_68 ?_
              refine y_zald F hH (by omega) dX1_spread_69 ?_
              refine nw_ifeq (tgt := 164) hx hb dX1_spread_70 (by decide) (by have := hsp.2.1 (361 * ar 1 vl + 19 * va + vb) (by omega); omega) (fun c70 => ?_) (fun c70 => ?_)
              · refine lv_iinc (v := (nI (i + 1))) (lv' := [(2, .int (nI (i + 1))), (5, .int (nI vb)), (4, .int (nI va)), (3, .int (nI vl)), (0, .ref (h 0)), (1, .int (nI cg))]) hx hb dX1_spread_164 hl (k := 5) rfl (nw_inc _) (by decide) rfl (fun ls hl => ?_)
                refine lv_goto (tgt := 10) hx hb dX1_spread_167 (by decide) ?_
                exact ih (i + 1) cg ar2 (by omega) hc1 (by omega) (sl_skip hsl (ca_skip evl eva evb (by first | exact Or.inl c43 | exact Or.inr (Or.inr (Or.inr c98)) | exact Or.inr (Or.inr (Or.inl c84)) | exact Or.inr (Or.inl c70)))) H locs hH ls (lv_sub hl [4, 5, 0] rfl)
              · have c70 : ar2 8 (361 * ar 1 vl + 19 * va + vb) = 1 := by
                  have := hsp.2.1 (361 * ar 1 vl + 19 * va + vb) (by omega)
                  omega
                refine lv_iload hx hb dX1_spread_73 (lv_at hl 1 rfl) ?_
                refine lv_aload_n hx hb dX1_spread_75 rfl (lv_at hl 3 rfl) ?_
                refine y_get F hH 3 (by decide) q149 rfl dX1_spread_76 ?_
                refine lv_iload_n hx hb dX1_spread_79 rfl (lv_at hl 2 rfl) ?_
                refine y_aldv F hH 3 (N := 12) (v := (ar 3 vl)) rfl (by decide) (by decide) (by omega) (congrFun (hsp.1 3 (by decide)) vl) dX1_spread_80 ?_
                refine nw_iadd hx hb dX1_spread_81 ?_
                refine lv_bipush (v := nI 19) hx hb dX1_spread_82 (by decide +kernel) ?_
                refine nw_ge (tgt := 164) hx hb dX1_spread_84 (by decide) (by omega) (fun c84 => ?_) (fun c84 => ?_)
                · refine lv_iinc (v := (nI (i + 1))) (lv' := [(2, .int (nI (i + 1))), (5, .int (nI vb)), (4, .int (nI va)), (3, .int (nI vl)), (0, .ref (h 0)), (1, .int (nI cg))]) hx hb dX1_spread_164 hl (k := 5) rfl (nw_inc _) (by decide) rfl (fun ls hl => ?_)
                  refine lv_goto (tgt := 10) hx hb dX1_spread_167 (by decide) ?_
                  exact ih (i + 1) cg ar2 (by omega) hc1 (by omega) (sl_skip hsl (ca_skip evl eva evb (by first | exact Or.inl c43 | exact Or.inr (Or.inr (Or.inr c98)) | exact Or.inr (Or.inr (Or.inl c84)) | exact Or.inr (Or.inl c70)))) H locs hH ls (lv_sub hl [4, 5, 0] rfl)
                · refine lv_iload hx hb dX1_spread_87 (lv_at hl 0 rfl) ?_
                  refine lv_aload_n hx hb dX1_spread_89 rfl (lv_at hl 3 rfl) ?_
                  refine y_get F hH 4 (by decide) q150 rfl dX1_spread_90 ?_
                  refine lv_iload_n hx hb dX1_spread_93 rfl (lv_at hl 2 rfl) ?_
                  refine y_aldv F hH 4 (N := 12) (v := (ar 4 vl)) rfl (by decide) (by decide) (by omega) (congrFun (hsp.1 4 (by decide)) vl) dX1_spread_94 ?_
                  refine nw_iadd hx hb dX1_spread_95 ?_
                  refine lv_bipush (v := nI 19) hx hb dX1_spread_96 (by decide +kernel) ?_
                  refine nw_ge (tgt := 164) hx hb dX1_spread_98 (by decide) (by omega) (fun c98 => ?_) (fun c98 => ?_)
                  · refine lv_iinc (v := (nI (i + 1))) (lv' := [(2, .int (nI (i + 1))), (5, .int (nI vb)), (4, .int (nI va)), (3, .int (nI vl)), (0, .ref (h 0)), (1, .int (nI cg))]) hx hb dX1_spread_164 hl (k := 5) rfl (nw_inc _) (by decide) rfl (fun ls hl => ?_)
                    refine lv_goto (tgt := 10) hx hb dX1_spread_167 (by decide) ?_
                    exact ih (i + 1) cg ar2 (by omega) hc1 (by omega) (sl_skip hsl (ca_skip evl eva evb (by first | exact Or.inl c43 | exact Or.inr (Or.inr (Or.inr c98)) | exact Or.inr (Or.inr (Or.inl c84)) | exact Or.inr (Or.inl c70)))) H locs hH ls (lv_sub hl [4, 5, 0] rfl)
                  · refine lv_sipush (v := nI 361) hx hb dX1_spread_101 (by decide +kernel) ?_
                    refine lv_aload_n hx hb dX1_spread_104 rfl (lv_at hl 3 rfl) ?_
                    refine y_get F hH 2 (by decide) q148 rfl dX1_spread_105 ?_
                    refine lv_iload_n hx hb dX1_spread_108 rfl (lv_at hl 2 rfl) ?_
                    refine y_aldv F hH 2 (N := 12) (v := (ar 2 vl)) rfl (by decide) (by decide) (by omega) (congrFun (hsp.1 2 (by decide)) vl) dX1_spread_109 ?_
                    refine nw_imul hx hb dX1_spread_110 ?_
                    refine lv_bipush (v := nI 19) hx hb dX1_spread_111 (by decide +kernel) ?_
                    refine lv_iload hx hb dX1_spread_113 (lv_at hl 1 rfl) ?_
                    refine lv_aload_n hx hb dX1_spread_115 rfl (lv_at hl 3 rfl) ?_
                    refine y_get F hH 3 (by decide) q149 rfl dX1_spread_116 ?_
                    refine lv_iload_n hx hb dX1_spread_119 rfl (lv_at hl 2 rfl) ?_
                    refine y_aldv F hH 3 (N := 12) (v := (ar 3 vl)) rfl (by decide) (by decide) (by omega) (congrFun (hsp.1 3 (by decide)) vl) dX1_spread_120 ?_
                    refine nw_iadd hx hb dX1_spread_121 ?_
                    refine nw_imul hx hb dX1_spread_122 ?_
                    refine nw_iadd hx hb dX1_spread_123 ?_
                    refine lv_iload hx hb dX1_spread_124 (lv_at hl 0 rfl) ?_
                    refine nw_iadd hx hb dX1_spread_126 ?_
                    refine lv_aload_n hx hb dX1_spread_127 rfl (lv_at hl 3 rfl) ?_
                    refine y_get F hH 4 (by decide) q150 rfl dX1_spread_128 ?_
                    refine lv_iload_n hx hb dX1_spread_131 rfl (lv_at hl 2 rfl) ?_
                    refine y_aldv F hH 4 (N := 12) (v := (ar 4 vl)) rfl (by decide) (by decide) (by omega) (congrFun (hsp.1 4 (by decide)) vl) dX1_spread_132 ?_
                    refine nw_iadd hx hb dX1_spread_133 ?_
                    refine nw_top (fun vn evn => ?_)
                    refine lv_istore (lv' := [(6, .int (nI vn)), (5, .int (nI vb)), (4, .int (nI va)), (3, .int (nI vl)), (0, .ref (h 0)), (1, .int (nI cg)), (2, .int (nI i))]) hx hb dX1_spread_134 hl (by decide) rfl (fun ls hl => ?_)
                    refine lv_iload_n hx hb dX1_spread_136 rfl (lv_at hl 5 rfl) ?_
                    refine nw_ifne (tgt := 150) hx hb dX1_spread_137 (by decide) (by omega) (fun c137 => ?_) (fun c137 => ?_)
                    · refine lv_iconst (v := nI 1) hx hb dX1_spread_150 (by decide +kernel) ?_
                      refine lv_goto (tgt := 155) hx hb dX1_spread_151 (by decide) ?_
                      refine lv_istore_n (lv' := [(1, .int (nI 1)), (6, .int (nI vn)), (5, .int (nI vb)), (4, .int (nI va)), (3, .int (nI vl)), (0, .ref (h 0)), (2, .int (nI i))]) hx hb dX1_spread_155 rfl hl (by decide) rfl (fun ls hl => ?_)
                      refine lv_aload_n hx hb dX1_spread_156 rfl (lv_at hl 5 rfl) ?_
                      refine y_get F hH 9 (by decide) q155 rfl dX1_spread_157 ?_
                      refine lv_iload hx hb dX1_spread_160 (lv_at hl 1 rfl) ?_
                      refine lv_iconst (v := nI 1) hx hb dX1_spread_162 (by decide +kernel) ?_
                      refine y_zast F hH (Or.inr rfl) (by omega) dX1_spread_163 (fun ar_1 H locs ear_1 hH => ?_)
                      refine lv_iinc (v := (nI (i + 1))) (lv' := [(2, .int (nI (i + 1))), (1, .int (nI 1)), (6, .int (nI vn)), (5, .int (nI vb)), (4, .int (nI va)), (3, .int (nI vl)), (0, .ref (h 0))]) hx hb dX1_spread_164 hl (k := 6) rfl (nw_inc _) (by decide) rfl (fun ls hl => ?_)
                      refine lv_goto (tgt := 10) hx hb dX1_spread_167 (by decide) ?_
                      exact ih (i + 1) 1 ar_1 (by omega) hc1 (by omega) (sl_put hlb hsl evl eva evb c43 c70 c84 c98 evn ear_1 (by first | exact Or.inl ⟨rfl, c137⟩ | exact Or.inr (Or.inl ⟨rfl, c137, c147⟩) | exact Or.inr (Or.inr ⟨rfl, c137, c147⟩))) H locs hH ls (lv_sub hl [6, 1, 0] rfl)
                    · refine lv_aload_n hx hb dX1_spread_140 rfl (lv_at hl 4 rfl) ?_
                      refine y_get F hH 9 (by decide) q155 rfl dX1_spread_141 ?_
                      refine lv_iload hx hb dX1_spread_144 (lv_at hl 0 rfl) ?_
                      refine y_zald F hH (by omega) dX1_spread_146 ?_
                      refine nw_ifne (tgt := 154) hx hb dX1_spread_147 (by decide) (by have := hsp.2.1 vn (by omega); omega) (fun c147 => ?_) (fun c147 => ?_)
                      · refine lv_iconst (v := nI 0) hx hb dX1_spread_154 (by decide +kernel) ?_
                        refine lv_istore_n (lv' := [(1, .int (nI 0)), (6, .int (nI vn)), (5, .int (nI vb)), (4, .int (nI va)), (3, .int (nI vl)), (0, .ref (h 0)), (2, .int (nI i))]) hx hb dX1_spread_155 rfl hl (by decide) rfl (fun ls hl => ?_)
                        refine lv_aload_n hx hb dX1_spread_156 rfl (lv_at hl 5 rfl) ?_
                        refine y_get F hH 9 (by decide) q155 rfl dX1_spread_157 ?_
                        refine lv_iload hx hb dX1_spread_160 (lv_at hl 1 rfl) ?_
                        refine lv_iconst (v := nI 1) hx hb dX1_spread_162 (by decide +kernel) ?_
                        refine y_zast F hH (Or.inr rfl) (by omega) dX1_spread_163 (fun ar_2 H locs ear_2 hH => ?_)
                        refine lv_iinc (v := (nI (i + 1))) (lv' := [(2, .int (nI (i + 1))), (1, .int (nI 0)), (6, .int (nI vn)), (5, .int (nI vb)), (4, .int (nI va)), (3, .int (nI vl)), (0, .ref (h 0))]) hx hb dX1_spread_164 hl (k := 6) rfl (nw_inc _) (by decide) rfl (fun ls hl => ?_)
                        refine lv_goto (tgt := 10) hx hb dX1_spread_167 (by decide) ?_
                        exact ih (i + 1) 0 ar_2 (by omega) hc1 (by omega) (sl_put hlb hsl evl eva evb c43 c70 c84 c98 evn ear_2 (by first | exact Or.inl ⟨rfl, c137⟩ | exact Or.inr (Or.inl ⟨rfl, c137, c147⟩) | exact Or.inr (Or.inr ⟨rfl, c137, c147⟩))) H locs hH ls (lv_sub hl [6, 1, 0] rfl)
                      · refine lv_iconst (v := nI 1) hx hb dX1_spread_150 (by decide +kernel) ?_
                        refine lv_goto (tgt := 155) hx hb dX1_spread_151 (by decide) ?_
                        refine lv_istore_n (lv' := [(1, .int (nI 1)), (6, .int (nI vn)), (5, .int (nI vb)), (4, .int (nI va)), (3, .int (nI vl)), (0, .ref (h 0)), (2, .int (nI i))]) hx hb dX1_spread_155 rfl hl (by decide) rfl (fun ls hl => ?_)
                        refine lv_aload_n hx hb dX1_spread_156 rfl (lv_at hl 5 rfl) ?_
                        refine y_get F hH 9 (by decide) q155 rfl dX1_spread_157 ?_
                        refine lv_iload hx hb dX1_spread_160 (lv_at hl 1 rfl) ?_
                        refine lv_iconst (v := nI 1) hx hb dX1_spread_162 (by decide +kernel) ?_
                        refine y_zast F hH (Or.inr rfl) (by omega) dX1_spread_163 (fun ar_3 H locs ear_3 hH => ?_)
                        refine lv_iinc (v := (nI (i + 1))) (lv' := [(2, .int (nI (i + 1))), (1, .int (nI 1)), (6, .int (nI vn)), (5, .int (nI vb)), (4, .int (nI va)), (3, .int (nI vl)), (0, .ref (h 0))]) hx hb dX1_spread_164 hl (k := 6) rfl (nw_inc _) (by decide) rfl (fun ls hl => ?_)
                        refine lv_goto (tgt := 10) hx hb dX1_spread_167 (by decide) ?_
                        exact ih (i + 1) 1 ar_3 (by omega) hc1 (by omega) (sl_put hlb hsl evl eva evb c43 c70 c84 c98 evn ear_3 (by first | exact Or.inl ⟨rfl, c137⟩ | exact Or.inr (Or.inl ⟨rfl, c137, c147⟩) | exact Or.inr (Or.inr ⟨rfl, c137, c147⟩))) H locs hH ls (lv_sub hl [6, 1, 0] rfl)
      refine lv_iload_n hx hb dX1_spread_2 rfl (lv_at hl 1 rfl) ?_
      refine nw_ifeq (tgt := 173) hx hb dX1_spread_3 (by decide) (by omega) (fun c3 => ?_) (fun c3 => ?_)
      · exact y_vret F hH hrt hlk hQ ⟨rfl, hso.1.1, so_end hn12 hlb hso c3⟩ dX1_spread_173
      · refine lv_iconst (v := nI 0) hx hb dX1_spread_6 (by decide +kernel) ?_
        refine lv_istore_n (lv' := [(1, .int (nI 0)), (0, .ref (h 0))]) hx hb dX1_spread_7 rfl hl (by decide) rfl (fun ls hl => ?_)
        refine lv_iconst (v := nI 0) hx hb dX1_spread_8 (by decide +kernel) ?_
        refine lv_istore_n (lv' := [(2, .int (nI 0)), (1, .int (nI 0)), (0, .ref (h 0))]) hx hb dX1_spread_9 rfl hl (by decide) rfl (fun ls hl => ?_)
        exact L10 4333 0 0 ar1 (by omega) (by omega) (by omega) (sl_0 hso.1) _ _ hH ls (lv_sub hl [2, 1, 0] rfl)
  refine lv_iconst (v := nI 1) hx hb dX1_spread_0 (by decide +kernel) ?_
  refine lv_istore_n (lv' := [(1, .int (nI 1)), (0, .ref (h 0))]) hx hb dX1_spread_1 rfl hl (by decide) rfl (fun ls hl => ?_)
  exact L2 (2 * zc_ ar + 2) 1 ar (by omega) ⟨sp_0 hz, Or.inl rfl⟩ _ _ hH ls (lv_sub hl [1, 0] rfl)
set_option maxHeartbeats 4000000 in
set_option maxRecDepth 100000 in
theorem mX1_spreadTokens (l : Launch) (dC : Nat → ClassId) (dI : Nat → Nat → Nat) (h : Nat → Nat) (d dz : ClassId) (sc : Nat → Nat) (ar : Nat → Nat → Nat)  (hI : y_I sc ar) (sz : Nat) : Met l yX1_spreadTokens (ws_ yX1_spreadTokens cX1_spreadTokens 2 none) (r_ 1) (y_Pc dC dI h d dz sz sc ar [.ref (h 0)]) (va_Qv (fun u => u.1 = sc ∧ (∀ k, k ≠ 8 → u.2 k = ar k) ∧ th_ u.2 (nv_R (nvM sc ar))) (y_B dC dI (y_A h d dz sc ar sz) h d dz) (y_A h d dz sc ar sz)) 0 0 (y_A h d dz sc ar sz) := by
  refine y_headv (by decide +kernel) rfl (Nat.le_of_ble_eq_true rfl) ?_
  intro p e s m below meth c A av QQ hrt hlk F hA hH hQ ls hl
  have hx := F.1.1
  have hb := F.1.2.1
  have hts := F.1.2.2.2.2
  have hl : lv_has ls 2 [(0, .ref (h 0))] := hl
  have ho := hI.1
  have hT20 : sc 5 ≤ 20 := ho.2.1
  have hn12 : sc 0 ≤ 12 := ho.1
  have L6 : ∀ (n : Nat) (k : Nat) (ar1 : Nat → Nat → Nat), sc 5 - k < n → k ≤ sc 5 → ts_ ar ar1 (fun _ => True) k → ∀ (H : Heap) (locs : List Loc), yH dC dI A s.heap h d dz sc ar1 H locs → ∀ ls : Array Slot, lv_has ls 2 [(0, .ref (h 0)), (1, .int (nI k))] → W p l e (r_ 1) s m av below meth c H locs 0 0 QQ (F0 m 6 ls []) := by
    intro n
    induction n with
    | zero => intro _ _ hlt; exact absurd hlt (Nat.not_lt_zero _)
    | succ n ih =>
      intro k ar1 hn hk htk H locs hH ls hl
      refine lv_iload_n hx hb dX1_spreadTokens_6 rfl (lv_at hl 1 rfl) ?_
      refine lv_aload_n hx hb dX1_spreadTokens_7 rfl (lv_at hl 0 rfl) ?_
      refine y_get F hH 5 (by decide) q151 rfl dX1_spreadTokens_8 ?_
      refine nw_ge (tgt := 42) hx hb dX1_spreadTokens_11 (by decide) (by omega) (fun c11 => ?_) (fun c11 => ?_)
      · refine lv_aload_n hx hb dX1_spreadTokens_42 rfl (lv_at hl 0 rfl) ?_
        refine y_callv F hH hA (As := []) (rest := []) (fun sz => mX1_spread l dC dI h d dz sc ar1 hn12 (y_lines hI htk.1) htk.2.1 sz) (cwV 0 hts (lw_V q224 q226 qs11 q16 q227) rfl rfl rfl (by decide +kernel) ⟨Nat.le_of_ble_eq_true rfl, Nat.le_of_ble_eq_true rfl⟩) rfl hl.1 (Nat.le_of_ble_eq_true rfl) rfl dX1_spreadTokens_43 ⟨Nat.zero_le _, Nat.zero_le _⟩ (fun sc_1 ar_2 H locs hp hH => ?_)
        try dsimp only at hp
        obtain ⟨hq1, hp⟩ := hp
        have hq1 : sc_1 = sc := hq1
        rw [hq1] at hH
        obtain ⟨hp1, hp2⟩ := hp
        have ek : k = sc 5 := by omega
        rw [ek] at htk
        exact y_vret F hH hrt hlk hQ ⟨rfl, fun j hj => (hp1 j hj).trans (htk.1 j hj), tok_R hI htk hp2⟩ dX1_spreadTokens_46
      · have hkk : ar 5 k < 7 := (ho.2.2.2 k c11).1
        have h67 := hI.2 k c11
        refine lv_aload_n hx hb dX1_spreadTokens_14 rfl (lv_at hl 0 rfl) ?_
        refine lv_aload_n hx hb dX1_spreadTokens_15 rfl (lv_at hl 0 rfl) ?_
        refine y_get F hH 6 (by decide) q152 rfl dX1_spreadTokens_16 ?_
        refine lv_iload_n hx hb dX1_spreadTokens_19 rfl (lv_at hl 1 rfl) ?_
        refine y_aldv F hH 5 (N := 20) (v := (ar 5 k)) rfl (by decide) (by decide) (by omega) (congrFun (htk.1 5 (by decide)) k) dX1_spreadTokens_20 ?_
        refine lv_aload_n hx hb dX1_spreadTokens_21 rfl (lv_at hl 0 rfl) ?_
        refine y_get F hH 7 (by decide) q153 rfl dX1_spreadTokens_22 ?_
        refine lv_iload_n hx hb dX1_spreadTokens_25 rfl (lv_at hl 1 rfl) ?_
        refine y_aldv F hH 6 (N := 20) (v := (ar 6 k)) rfl (by decide) (by decide) (by omega) (congrFun (htk.1 6 (by decide)) k) dX1_spreadTokens_26 ?_
        refine lv_aload_n hx hb dX1_spreadTokens_27 rfl (lv_at hl 0 rfl) ?_
        refine y_get F hH 8 (by decide) q154 rfl dX1_spreadTokens_28 ?_
        refine lv_iload_n hx hb dX1_spreadTokens_31 rfl (lv_at hl 1 rfl) ?_
        refine y_aldv F hH 7 (N := 20) (v := (ar 7 k)) rfl (by decide) (by decide) (by omega) (congrFun (htk.1 7 (by decide)) k) dX1_spreadTokens_32 ?_
        refine y_callv F hH hA (As := [.int (nI (ar 5 k)), .int (nI (ar 6 k)), .int (nI (ar 7 k))]) (rest := []) (fun sz => mX1_set l dC dI h d dz sc ar1 (ar 5 k) (ar 6 k) (ar 7 k) hkk (by omega) (by omega) sz) (cwV 3 hts (lw_V q220 q222 qs10 q16 q223) rfl rfl rfl (by decide +kernel) ⟨Nat.le_of_ble_eq_true rfl, Nat.le_of_ble_eq_true rfl⟩) rfl hl.1 (Nat.le_of_ble_eq_true rfl) rfl dX1_spreadTokens_33 ⟨Nat.zero_le _, Nat.zero_le _⟩ (fun sc_3 ar_4 H locs hp hH => ?_)
        try dsimp only at hp
        obtain ⟨hq1, hp⟩ := hp
        have hq1 : sc_3 = sc := hq1
        rw [hq1] at hH
        have hps := hp
        refine lv_iinc (v := (nI (k + 1))) (lv' := [(1, .int (nI (k + 1))), (0, .ref (h 0))]) hx hb dX1_spreadTokens_36 hl (k := 1) rfl (nw_inc _) (by decide) rfl (fun ls hl => ?_)
        refine lv_goto (tgt := 6) hx hb dX1_spreadTokens_39 (by decide) ?_
        exact ih (k + 1) ar_4 (by omega) (by omega) (ts_t ⟨hkk, by omega, by omega⟩ trivial htk hps) H locs hH ls (lv_sub hl [1, 0] rfl)
  refine lv_aload_n hx hb dX1_spreadTokens_0 rfl (lv_at hl 0 rfl) ?_
  refine y_callv F hH hA (As := []) (rest := []) (fun sz => mX1_empty l dC dI h d dz sc ar sz) (cwV 0 hts (lw_V q216 q218 qs9 q16 q219) rfl rfl rfl (by decide +kernel) ⟨Nat.le_of_ble_eq_true rfl, Nat.le_of_ble_eq_true rfl⟩) rfl hl.1 (Nat.le_of_ble_eq_true rfl) rfl dX1_spreadTokens_1 ⟨Nat.zero_le _, Nat.zero_le _⟩ (fun sc_5 ar_6 H locs hp hH => ?_)
  try dsimp only at hp
  obtain ⟨hq1, hp⟩ := hp
  have hq1 : sc_5 = sc := hq1
  rw [hq1] at hH
  obtain ⟨hp1, hp2⟩ := hp
  refine lv_iconst (v := nI 0) hx hb dX1_spreadTokens_4 (by decide +kernel) ?_
  refine lv_istore_n (lv' := [(1, .int (nI 0)), (0, .ref (h 0))]) hx hb dX1_spreadTokens_5 rfl hl (by decide) rfl (fun ls hl => ?_)
  exact L6 (sc 5 + 1) 0 ar_6 (by omega) (by omega) (ts_0 hp1 hp2) _ _ hH ls (lv_sub hl [1, 0] rfl)
set_option maxHeartbeats 4000000 in
set_option maxRecDepth 100000 in
theorem mX1_below (l : Launch) (dC : Nat → ClassId) (dI : Nat → Nat → Nat) (h : Nat → Nat) (d dz : ClassId) (sc : Nat → Nat) (ar : Nat → Nat → Nat) (pl a b og : Nat) (hpl : pl < 7) (ha : a < 19) (hb9 : b < 19) (hog : og ≤ 1) (hz : ∀ j, j < 2527 → ar 8 j = 0 ∨ ar 8 j = 1) (sz : Nat) : Met l yX1_below (ws_ yX1_below cX1_below 7 (some .boolean)) (r_ 0) (y_Pc dC dI h d dz sz sc ar [.ref (h 0), .int (nI pl), .int (nI a), .int (nI b), .int (nI og)]) (va_Qi (fun r u => (u.1 = sc ∧ u.2 = ar) ∧ ((bl_ ar pl a b og ∧ r = nI 1) ∨ (¬ bl_ ar pl a b og ∧ r = nI 0))) (y_B dC dI (y_A h d dz sc ar sz) h d dz) (y_A h d dz sc ar sz)) 0 0 (y_A h d dz sc ar sz) := by
  refine y_headi (by decide +kernel) rfl (Nat.le_of_ble_eq_true rfl) ?_
  intro p e s m below meth c A av QQ hrt hlk F hA hH hQ ls hl
  have hx := F.1.1
  have hb := F.1.2.1
  have hts := F.1.2.2.2.2
  have hl : lv_has ls 7 [(0, .ref (h 0)), (1, .int (nI pl)), (2, .int (nI a)), (3, .int (nI b)), (4, .int (nI og))] := hl
  have L3 : ∀ (nO : Nat) (x : Nat), a + 1 - x < nO → x ≤ a + 1 → (∀ x2 y2, x2 < x → y2 ≤ b → nb_ ar pl a b og x2 y2) → ∀ (H : Heap) (locs : List Loc), yH dC dI A s.heap h d dz sc ar H locs → ∀ ls : Array Slot, lv_has ls 7 [(0, .ref (h 0)), (1, .int (nI pl)), (2, .int (nI a)), (3, .int (nI b)), (4, .int (nI og)), (5, .int (nI x))] → W p l e (r_ 0) s m av below meth c H locs 0 0 QQ (F0 m 3 ls []) := by
    intro nO
    induction nO with
    | zero => intro _ hlt; exact absurd hlt (Nat.not_lt_zero _)
    | succ nO ihO =>
      intro x hnO hxa hj H locs hH ls hl
      have L12 : ∀ (n : Nat) (y : Nat), b + 1 - y < n → x ≤ a → y ≤ b + 1 → (∀ y2, y2 < y → nb_ ar pl a b og x y2) → ∀ (H : Heap) (locs : List Loc), yH dC dI A s.heap h d dz sc ar H locs → ∀ ls : Array Slot, lv_has ls 7 [(0, .ref (h 0)), (1, .int (nI pl)), (2, .int (nI a)), (3, .int (nI b)), (4, .int (nI og)), (5, .int (nI x)), (6, .int (nI y))] → W p l e (r_ 0) s m av below meth c H locs 0 0 QQ (F0 m 12 ls []) := by
        intro n
        induction n with
        | zero => intro _ hlt; exact absurd hlt (Nat.not_lt_zero _)
        | succ n ih =>
          intro y hn hxa hyb hy H locs hH ls hl
          refine lv_iload hx hb dX1_below_12 (lv_at hl 6 rfl) ?_
          refine lv_iload_n hx hb dX1_below_14 rfl (lv_at hl 3 rfl) ?_
          refine nw_gt (tgt := 65) hx hb dX1_below_15 (by decide) (by omega) (fun c15 => ?_) (fun c15 => ?_)
          · refine lv_iinc (v := (nI (x + 1))) (lv' := [(5, .int (nI (x + 1))), (0, .ref (h 0)), (1, .int (nI pl)), (2, .int (nI a)), (3, .int (nI b)), (4, .int (nI og)), (6, .int (nI y))]) hx hb dX1_below_65 hl (k := 5) rfl (nw_inc _) (by decide) rfl (fun ls hl => ?_)
            refine lv_goto (tgt := 3) hx hb dX1_below_68 (by decide) ?_
            exact ihO (x + 1) (by omega) (by omega) (fun x2 y2 q1 q2 => by
              by_cases e : x2 = x
              · rw [e]; exact hy y2 (by omega)
              · exact hj x2 y2 (by omega) q2) H locs hH ls (lv_sub hl [1, 2, 3, 4, 5, 0] rfl)
          · refine lv_aload_n hx hb dX1_below_18 rfl (lv_at hl 0 rfl) ?_
            refine y_get F hH 9 (by decide) q155 rfl dX1_below_19 ?_
            refine lv_sipush (v := nI 361) hx hb dX1_below_22 (by decide +kernel) ?_
            refine lv_iload_n hx hb dX1_below_25 rfl (lv_at hl 1 rfl) ?_
            refine nw_imul hx hb dX1_below_26 ?_
            refine lv_bipush (v := nI 19) hx hb dX1_below_27 (by decide +kernel) ?_
            refine lv_iload hx hb dX1_below_29 (lv_at hl 5 rfl) ?_
            refine nw_imul hx hb dX1_below_31 ?_
            refine nw_iadd hx hb dX1_below_32 ?_
            refine lv_iload hx hb dX1_below_33 (lv_at hl 6 rfl) ?_
            refine nw_iadd hx hb dX1_below_35 ?_
            refine y_zald F hH (by omega) dX1_below_36 ?_
            refine nw_ifeq (tgt := 59) hx hb dX1_below_37 (by decide) (by have := hz (361 * pl + 19 * x + y) (by omega); omega) (fun c37 => ?_) (fun c37 => ?_)
            · refine lv_iinc (v := (nI (y + 1))) (lv' := [(6, .int (nI (y + 1))), (0, .ref (h 0)), (1, .int (nI pl)), (2, .int (nI a)), (3, .int (nI b)), (4, .int (nI og)), (5, .int (nI x))]) hx hb dX1_below_59 hl (k := 6) rfl (nw_inc _) (by decide) rfl (fun ls hl => ?_)
              refine lv_goto (tgt := 12) hx hb dX1_below_62 (by decide) ?_
              exact ih (y + 1) (by omega) hxa (by omega) (lt_s hy (by unfold nb_; omega)) H locs hH ls (lv_sub hl [1, 2, 3, 4, 5, 6, 0] rfl)
            · refine lv_iload hx hb dX1_below_40 (lv_at hl 4 rfl) ?_
              refine nw_ifeq (tgt := 57) hx hb dX1_below_42 (by decide) (by omega) (fun c42 => ?_) (fun c42 => ?_)
              · refine lv_iconst (v := nI 1) hx hb dX1_below_57 (by decide +kernel) ?_
                exact y_zret F hH hrt hlk hQ (hn := by decide +kernel) ⟨⟨rfl, rfl⟩, Or.inl ⟨⟨x, y, by omega, by omega, by have := hz (361 * pl + 19 * x + y) (by omega); omega, by omega⟩, rfl⟩⟩ dX1_below_58
              · refine lv_iload hx hb dX1_below_45 (lv_at hl 5 rfl) ?_
                refine lv_iload_n hx hb dX1_below_47 rfl (lv_at hl 2 rfl) ?_
                refine nw_ne (tgt := 57) hx hb dX1_below_48 (by decide) (by omega) (fun c48 => ?_) (fun c48 => ?_)
                · refine lv_iconst (v := nI 1) hx hb dX1_below_57 (by decide +kernel) ?_
                  exact y_zret F hH hrt hlk hQ (hn := by decide +kernel) ⟨⟨rfl, rfl⟩, Or.inl ⟨⟨x, y, by omega, by omega, by have := hz (361 * pl + 19 * x + y) (by omega); omega, by omega⟩, rfl⟩⟩ dX1_below_58
                · refine lv_iload hx hb dX1_below_51 (lv_at hl 6 rfl) ?_
                  refine lv_iload_n hx hb dX1_below_53 rfl (lv_at hl 3 rfl) ?_
                  refine nw_eq (tgt := 59) hx hb dX1_below_54 (by decide) (by omega) (fun c54 => ?_) (fun c54 => ?_)
                  · refine lv_iinc (v := (nI (y + 1))) (lv' := [(6, .int (nI (y + 1))), (0, .ref (h 0)), (1, .int (nI pl)), (2, .int (nI a)), (3, .int (nI b)), (4, .int (nI og)), (5, .int (nI x))]) hx hb dX1_below_59 hl (k := 6) rfl (nw_inc _) (by decide) rfl (fun ls hl => ?_)
                    refine lv_goto (tgt := 12) hx hb dX1_below_62 (by decide) ?_
                    exact ih (y + 1) (by omega) hxa (by omega) (lt_s hy (by unfold nb_; omega)) H locs hH ls (lv_sub hl [1, 2, 3, 4, 5, 6, 0] rfl)
                  · refine lv_iconst (v := nI 1) hx hb dX1_below_57 (by decide +kernel) ?_
                    exact y_zret F hH hrt hlk hQ (hn := by decide +kernel) ⟨⟨rfl, rfl⟩, Or.inl ⟨⟨x, y, by omega, by omega, by have := hz (361 * pl + 19 * x + y) (by omega); omega, by omega⟩, rfl⟩⟩ dX1_below_58
      refine lv_iload hx hb dX1_below_3 (lv_at hl 5 rfl) ?_
      refine lv_iload_n hx hb dX1_below_5 rfl (lv_at hl 2 rfl) ?_
      refine nw_gt (tgt := 71) hx hb dX1_below_6 (by decide) (by omega) (fun c6 => ?_) (fun c6 => ?_)
      · refine lv_iconst (v := nI 0) hx hb dX1_below_71 (by decide +kernel) ?_
        exact y_zret F hH hrt hlk hQ (hn := by decide +kernel) ⟨⟨rfl, rfl⟩, Or.inr ⟨fun ⟨x2, y2, q1, q2, q3, q4⟩ => hj x2 y2 (by omega) q2 ⟨q3, q4⟩, rfl⟩⟩ dX1_below_72
      · refine lv_iconst (v := nI 0) hx hb dX1_below_9 (by decide +kernel) ?_
        refine lv_istore (lv' := [(6, .int (nI 0)), (0, .ref (h 0)), (1, .int (nI pl)), (2, .int (nI a)), (3, .int (nI b)), (4, .int (nI og)), (5, .int (nI x))]) hx hb dX1_below_10 hl (by decide) rfl (fun ls hl => ?_)
        exact L12 (b + 2) 0 (by omega) (by omega) (by omega) lt_0 _ _ hH ls (lv_sub hl [1, 2, 3, 4, 5, 6, 0] rfl)
  refine lv_iconst (v := nI 0) hx hb dX1_below_0 (by decide +kernel) ?_
  refine lv_istore (lv' := [(5, .int (nI 0)), (0, .ref (h 0)), (1, .int (nI pl)), (2, .int (nI a)), (3, .int (nI b)), (4, .int (nI og))]) hx hb dX1_below_1 hl (by decide) rfl (fun ls hl => ?_)
  exact L3 (a + 2) 0 (by omega) (by omega) (fun x2 y2 q => absurd q (Nat.not_lt_zero _)) _ _ hH ls (lv_sub hl [1, 2, 3, 4, 5, 0] rfl)
set_option maxHeartbeats 4000000 in
set_option maxRecDepth 100000 in
theorem mX1_inFront (l : Launch) (dC : Nat → ClassId) (dI : Nat → Nat → Nat) (h : Nat → Nat) (d dz : ClassId) (sc : Nat → Nat) (ar : Nat → Nat → Nat) (pl a b : Nat) (hpl : pl < 7) (ha : a < 19) (hb9 : b < 19) (hz : ∀ j, j < 2527 → ar 8 j = 0 ∨ ar 8 j = 1) (sz : Nat) : Met l yX1_inFront (ws_ yX1_inFront cX1_inFront 4 (some .boolean)) (r_ 1) (y_Pc dC dI h d dz sz sc ar [.ref (h 0), .int (nI pl), .int (nI a), .int (nI b)]) (va_Qi (fun r u => (u.1 = sc ∧ u.2 = ar) ∧ ((if_ ar pl a b ∧ r = nI 1) ∨ (¬ if_ ar pl a b ∧ r = nI 0))) (y_B dC dI (y_A h d dz sc ar sz) h d dz) (y_A h d dz sc ar sz)) 0 0 (y_A h d dz sc ar sz) := by
  refine y_headi (by decide +kernel) rfl (Nat.le_of_ble_eq_true rfl) ?_
  intro p e s m below meth c A av QQ hrt hlk F hA hH hQ ls hl
  have hx := F.1.1
  have hb := F.1.2.1
  have hts := F.1.2.2.2.2
  have hl : lv_has ls 4 [(0, .ref (h 0)), (1, .int (nI pl)), (2, .int (nI a)), (3, .int (nI b))] := hl
  refine lv_aload_n hx hb dX1_inFront_0 rfl (lv_at hl 0 rfl) ?_
  refine y_get F hH 9 (by decide) q155 rfl dX1_inFront_1 ?_
  refine lv_sipush (v := nI 361) hx hb dX1_inFront_4 (by decide +kernel) ?_
  refine lv_iload_n hx hb dX1_inFront_7 rfl (lv_at hl 1 rfl) ?_
  refine nw_imul hx hb dX1_inFront_8 ?_
  refine lv_bipush (v := nI 19) hx hb dX1_inFront_9 (by decide +kernel) ?_
  refine lv_iload_n hx hb dX1_inFront_11 rfl (lv_at hl 2 rfl) ?_
  refine nw_imul hx hb dX1_inFront_12 ?_
  refine nw_iadd hx hb dX1_inFront_13 ?_
  refine lv_iload_n hx hb dX1_inFront_14 rfl (lv_at hl 3 rfl) ?_
  refine nw_iadd hx hb dX1_inFront_15 ?_
  refine y_zald F hH (by omega) dX1_inFront_16 ?_
  refine nw_ifeq (tgt := 35) hx hb dX1_inFront_17 (by decide) (by have := hz (361 * pl + 19 * a + b) (by omega); omega) (fun c17 => ?_) (fun c17 => ?_)
  · refine lv_iconst (v := nI 0) hx hb dX1_inFront_35 (by decide +kernel) ?_
    exact y_zret F hH hrt hlk hQ (hn := by decide +kernel) ⟨⟨rfl, rfl⟩, Or.inr ⟨by first | exact if_f1 hbl | exact if_f0 c17, rfl⟩⟩ dX1_inFront_36
  · refine lv_aload_n hx hb dX1_inFront_20 rfl (lv_at hl 0 rfl) ?_
    refine lv_iload_n hx hb dX1_inFront_21 rfl (lv_at hl 1 rfl) ?_
    refine lv_iload_n hx hb dX1_inFront_22 rfl (lv_at hl 2 rfl) ?_
    refine lv_iload_n hx hb dX1_inFront_23 rfl (lv_at hl 3 rfl) ?_
    refine lv_iconst (v := nI 1) hx hb dX1_inFront_24 (by decide +kernel) ?_
    refine y_calli F hH hA (As := [.int (nI pl), .int (nI a), .int (nI b), .int (nI 1)]) (rest := []) (fun sz => mX1_below l dC dI h d dz sc ar pl a b 1 hpl ha hb9 (by decide) hz sz) (cwV 4 hts (lw_V q228 q230 qs12 q16 q231) rfl rfl rfl (by decide +kernel) ⟨Nat.le_of_ble_eq_true rfl, Nat.le_of_ble_eq_true rfl⟩) rfl hl.1 (Nat.le_of_ble_eq_true rfl) rfl dX1_inFront_25 ⟨Nat.zero_le _, Nat.zero_le _⟩ (fun r sc_1 ar_2 H locs hp hH => ?_)
    try dsimp only at hp
    obtain ⟨⟨hq1, hq2⟩, hp⟩ := hp
    have hq1 : sc_1 = sc := hq1
    have hq2 : ar_2 = ar := hq2
    rw [hq1, hq2] at hH
    rcases hp with ⟨hbl, rfl⟩ | ⟨hbl, rfl⟩
    · refine nw_ifne (tgt := 35) hx hb dX1_inFront_28 (by decide) (by decide) (fun _ => ?_) (fun q => absurd q (by decide))
      refine lv_iconst (v := nI 0) hx hb dX1_inFront_35 (by decide +kernel) ?_
      exact y_zret F hH hrt hlk hQ (hn := by decide +kernel) ⟨⟨rfl, rfl⟩, Or.inr ⟨by first | exact if_f1 hbl | exact if_f0 c17, rfl⟩⟩ dX1_inFront_36
    · refine nw_ifne (tgt := 35) hx hb dX1_inFront_28 (by decide) (by decide) (fun q => absurd rfl q) (fun _ => ?_)
      refine lv_iconst (v := nI 1) hx hb dX1_inFront_31 (by decide +kernel) ?_
      refine lv_goto (tgt := 36) hx hb dX1_inFront_32 (by decide) ?_
      exact y_zret F hH hrt hlk hQ (hn := by decide +kernel) ⟨⟨rfl, rfl⟩, Or.inl ⟨if_t (by have := hz (361 * pl + 19 * a + b) (by omega); omega) hbl, rfl⟩⟩ dX1_inFront_36
set_option maxHeartbeats 4000000 in
set_option maxRecDepth 100000 in
theorem mX1_possible (l : Launch) (dC : Nat → ClassId) (dI : Nat → Nat → Nat) (h : Nat → Nat) (d dz : ClassId) (sc : Nat → Nat) (ar : Nat → Nat → Nat) (x0 a0 b0 : Int32) (hI : y_I sc ar) (sz : Nat) : Met l yX1_possible (ws_ yX1_possible cX1_possible 4 (some .int)) (r_ 2) (y_Pc dC dI h d dz sz sc ar [.ref (h 0), .int x0, .int a0, .int b0]) (va_Qi (fun r u => y_I u.1 u.2 ∧ nvM u.1 u.2 = (nvM sc ar) ∧ r = tr_possible (nvM sc ar) x0 a0 b0) (y_B dC dI (y_A h d dz sc ar sz) h d dz) (y_A h d dz sc ar sz)) 0 0 (y_A h d dz sc ar sz) := by
  refine y_headi (by decide +kernel) rfl (Nat.le_of_ble_eq_true rfl) ?_
  intro p e s m below meth c A av QQ hrt hlk F hA hH hQ ls hl
  have hx := F.1.1
  have hb := F.1.2.1
  have hts := F.1.2.2.2.2
  have hl : lv_has ls 4 [(0, .ref (h 0)), (1, .int x0), (2, .int a0), (3, .int b0)] := hl
  have ho := hI.1
  have hT20 : sc 5 ≤ 20 := ho.2.1
  have hn12 : sc 0 ≤ 12 := ho.1
  by_cases hok : sp_p x0 ∧ sp_t a0 ∧ sp_t b0
  rotate_left
  · refine lv_iload_n hx hb dX1_possible_0 rfl (lv_at hl 1 rfl) ?_
    refine y_calls F hH (As := [.int x0]) (rest := []) (mX1_badPlace l x0) (va_cwS 1 hts (lw_S q182 q183 q16 q184) rfl rfl rfl (by decide +kernel) ⟨Nat.le_of_ble_eq_true rfl, Nat.le_of_ble_eq_true rfl⟩) rfl hl.1 (Nat.le_of_ble_eq_true rfl) rfl dX1_possible_1 ⟨Nat.zero_le _, Nat.zero_le _⟩ (fun r H locs hp hH => ?_)
    try dsimp only at hp
    rcases hp with ⟨hg1, rfl⟩ | ⟨hg1, rfl⟩
    · refine nw_ifne (tgt := 15) hx hb dX1_possible_4 (by decide) (by decide) (fun q => absurd rfl q) (fun _ => ?_)
      refine lv_iload_n hx hb dX1_possible_7 rfl (lv_at hl 2 rfl) ?_
      refine lv_iload_n hx hb dX1_possible_8 rfl (lv_at hl 3 rfl) ?_
      refine y_calls F hH (As := [.int a0, .int b0]) (rest := []) (mX1_badTime l a0 b0) (va_cwS 2 hts (lw_S q193 q194 q16 q195) rfl rfl rfl (by decide +kernel) ⟨Nat.le_of_ble_eq_true rfl, Nat.le_of_ble_eq_true rfl⟩) rfl hl.1 (Nat.le_of_ble_eq_true rfl) rfl dX1_possible_9 ⟨Nat.zero_le _, Nat.zero_le _⟩ (fun r H locs hp hH => ?_)
      try dsimp only at hp
      rcases hp with ⟨hg2, rfl⟩ | ⟨hg2, rfl⟩
      · refine nw_ifeq (tgt := 17) hx hb dX1_possible_12 (by decide) (by decide) (fun _ => ?_) (fun q => absurd rfl q)
        exact absurd ⟨hg1, ⟨hg2.1, hg2.2.1⟩, ⟨hg2.2.2.1, hg2.2.2.2⟩⟩ hok
      · refine nw_ifeq (tgt := 17) hx hb dX1_possible_12 (by decide) (by decide) (fun q => absurd q (by decide)) (fun _ => ?_)
        refine lv_iconst (v := -1) hx hb dX1_possible_15 (by decide +kernel) ?_
        exact y_iret F hH hrt hlk hQ ⟨hI, rfl, (ci_f hok).symm⟩ dX1_possible_16
    · refine nw_ifne (tgt := 15) hx hb dX1_possible_4 (by decide) (by decide) (fun _ => ?_) (fun q => absurd q (by decide))
      refine lv_iconst (v := -1) hx hb dX1_possible_15 (by decide +kernel) ?_
      exact y_iret F hH hrt hlk hQ ⟨hI, rfl, (ci_f hok).symm⟩ dX1_possible_16
  · obtain ⟨x1, hx1, rfl⟩ := nw_toInt (x := x0) (n := 6) hok.1.1 hok.1.2 (by decide)
    obtain ⟨a1, ha1, rfl⟩ := nw_toInt (x := a0) (n := 15) hok.2.1.1 hok.2.1.2 (by decide)
    obtain ⟨b1, hb1, rfl⟩ := nw_toInt (x := b0) (n := 15) hok.2.2.1 hok.2.2.2 (by decide)
    refine lv_iload_n hx hb dX1_possible_0 rfl (lv_at hl 1 rfl) ?_
    refine y_calls F hH (As := [.int (nI x1)]) (rest := []) (mX1_badPlace l (nI x1)) (va_cwS 1 hts (lw_S q182 q183 q16 q184) rfl rfl rfl (by decide +kernel) ⟨Nat.le_of_ble_eq_true rfl, Nat.le_of_ble_eq_true rfl⟩) rfl hl.1 (Nat.le_of_ble_eq_true rfl) rfl dX1_possible_1 ⟨Nat.zero_le _, Nat.zero_le _⟩ (fun r H locs hp hH => ?_)
    try dsimp only at hp
    rcases hp with ⟨hg1, rfl⟩ | ⟨hg1, rfl⟩
    · refine nw_ifne (tgt := 15) hx hb dX1_possible_4 (by decide) (by decide) (fun q => absurd rfl q) (fun _ => ?_)
      refine lv_iload_n hx hb dX1_possible_7 rfl (lv_at hl 2 rfl) ?_
      refine lv_iload_n hx hb dX1_possible_8 rfl (lv_at hl 3 rfl) ?_
      refine y_calls F hH (As := [.int (nI a1), .int (nI b1)]) (rest := []) (mX1_badTime l (nI a1) (nI b1)) (va_cwS 2 hts (lw_S q193 q194 q16 q195) rfl rfl rfl (by decide +kernel) ⟨Nat.le_of_ble_eq_true rfl, Nat.le_of_ble_eq_true rfl⟩) rfl hl.1 (Nat.le_of_ble_eq_true rfl) rfl dX1_possible_9 ⟨Nat.zero_le _, Nat.zero_le _⟩ (fun r H locs hp hH => ?_)
      try dsimp only at hp
      rcases hp with ⟨hg2, rfl⟩ | ⟨hg2, rfl⟩
      · refine nw_ifeq (tgt := 17) hx hb dX1_possible_12 (by decide) (by decide) (fun _ => ?_) (fun q => absurd rfl q)
        refine lv_aload_n hx hb dX1_possible_17 rfl (lv_at hl 0 rfl) ?_
        refine y_callv F hH hA (As := []) (rest := []) (fun sz => mX1_spreadTokens l dC dI h d dz sc ar hI sz) (cwV 0 hts (lw_V q212 q214 qs8 q16 q215) rfl rfl rfl (by decide +kernel) ⟨Nat.le_of_ble_eq_true rfl, Nat.le_of_ble_eq_true rfl⟩) rfl hl.1 (Nat.le_of_ble_eq_true rfl) rfl dX1_possible_18 ⟨Nat.zero_le _, Nat.zero_le _⟩ (fun sc_1 ar_2 H locs hp hH => ?_)
        try dsimp only at hp
        obtain ⟨hq1, hp⟩ := hp
        have hq1 : sc_1 = sc := hq1
        rw [hq1] at hH
        obtain ⟨hp1, hp2⟩ := hp
        obtain ⟨hI2, eN⟩ := y_same hI hp1
        refine lv_aload_n hx hb dX1_possible_21 rfl (lv_at hl 0 rfl) ?_
        refine lv_iload_n hx hb dX1_possible_22 rfl (lv_at hl 1 rfl) ?_
        refine lv_iload_n hx hb dX1_possible_23 rfl (lv_at hl 2 rfl) ?_
        refine lv_iload_n hx hb dX1_possible_24 rfl (lv_at hl 3 rfl) ?_
        refine lv_iconst (v := nI 0) hx hb dX1_possible_25 (by decide +kernel) ?_
        refine y_calli F hH hA (As := [.int (nI x1), .int (nI a1), .int (nI b1), .int (nI 0)]) (rest := []) (fun sz => mX1_below l dC dI h d dz sc ar_2 x1 a1 b1 0 (by omega) (by omega) (by omega) (by decide) hp2.1 sz) (cwV 4 hts (lw_V q228 q230 qs12 q16 q231) rfl rfl rfl (by decide +kernel) ⟨Nat.le_of_ble_eq_true rfl, Nat.le_of_ble_eq_true rfl⟩) rfl hl.1 (Nat.le_of_ble_eq_true rfl) rfl dX1_possible_26 ⟨Nat.zero_le _, Nat.zero_le _⟩ (fun r sc_3 ar_4 H locs hp hH => ?_)
        try dsimp only at hp
        obtain ⟨⟨hq1, hq2⟩, hp⟩ := hp
        have hq1 : sc_3 = sc := hq1
        have hq2 : ar_4 = ar_2 := hq2
        rw [hq1, hq2] at hH
        rcases hp with ⟨hbl, rfl⟩ | ⟨hbl, rfl⟩
        · refine nw_ifeq (tgt := 36) hx hb dX1_possible_29 (by decide) (by decide) (fun q => absurd q (by decide)) (fun _ => ?_)
          refine lv_iconst (v := nI 1) hx hb dX1_possible_32 (by decide +kernel) ?_
          refine lv_goto (tgt := 37) hx hb dX1_possible_33 (by decide) ?_
          exact y_iret F hH hrt hlk hQ ⟨hI2, eN, by rw [tr_possible_t hx1 ha1 hb1, ci_t ((bl_R hp2 (by omega) (by omega) (by omega)).mp hbl)]; decide +kernel⟩ dX1_possible_37
        · refine nw_ifeq (tgt := 36) hx hb dX1_possible_29 (by decide) (by decide) (fun _ => ?_) (fun q => absurd rfl q)
          refine lv_iconst (v := nI 0) hx hb dX1_possible_36 (by decide +kernel) ?_
          exact y_iret F hH hrt hlk hQ ⟨hI2, eN, by rw [tr_possible_t hx1 ha1 hb1, ci_f (fun q => hbl ((bl_R hp2 (by omega) (by omega) (by omega)).mpr q))]; decide +kernel⟩ dX1_possible_37
      · refine nw_ifeq (tgt := 17) hx hb dX1_possible_12 (by decide) (by decide) (fun q => absurd q (by decide)) (fun _ => ?_)
        first | exact absurd ⟨hok.2.1.1, hok.2.1.2, hok.2.2.1, hok.2.2.2⟩ hg2 | exact absurd hok.1 hg1
    · refine nw_ifne (tgt := 15) hx hb dX1_possible_4 (by decide) (by decide) (fun _ => ?_) (fun q => absurd q (by decide))
      first | exact absurd ⟨hok.2.1.1, hok.2.1.2, hok.2.2.1, hok.2.2.2⟩ hg2 | exact absurd hok.1 hg1
set_option maxHeartbeats 4000000 in
set_option maxRecDepth 100000 in
theorem mX1_ready (l : Launch) (dC : Nat → ClassId) (dI : Nat → Nat → Nat) (h : Nat → Nat) (d dz : ClassId) (sc : Nat → Nat) (ar : Nat → Nat → Nat) (x0 a0 b0 : Int32) (hI : y_I sc ar) (sz : Nat) : Met l yX1_ready (ws_ yX1_ready cX1_ready 5 (some .int)) (r_ 1) (y_Pc dC dI h d dz sz sc ar [.ref (h 0), .int x0, .int a0, .int b0]) (va_Qi (fun r u => y_I u.1 u.2 ∧ nvM u.1 u.2 = (nvM sc ar) ∧ r = tr_ready (nvM sc ar) x0 a0 b0) (y_B dC dI (y_A h d dz sc ar sz) h d dz) (y_A h d dz sc ar sz)) 0 0 (y_A h d dz sc ar sz) := by
  refine y_headi (by decide +kernel) rfl (Nat.le_of_ble_eq_true rfl) ?_
  intro p e s m below meth c A av QQ hrt hlk F hA hH hQ ls hl
  have hx := F.1.1
  have hb := F.1.2.1
  have hts := F.1.2.2.2.2
  have hl : lv_has ls 5 [(0, .ref (h 0)), (1, .int x0), (2, .int a0), (3, .int b0)] := hl
  have ho := hI.1
  have hT20 : sc 5 ≤ 20 := ho.2.1
  have hn12 : sc 0 ≤ 12 := ho.1
  by_cases hok : sp_p x0 ∧ sp_t a0 ∧ sp_t b0
  rotate_left
  · refine lv_iload_n hx hb dX1_ready_0 rfl (lv_at hl 1 rfl) ?_
    refine y_calls F hH (As := [.int x0]) (rest := []) (mX1_badPlace l x0) (va_cwS 1 hts (lw_S q182 q183 q16 q184) rfl rfl rfl (by decide +kernel) ⟨Nat.le_of_ble_eq_true rfl, Nat.le_of_ble_eq_true rfl⟩) rfl hl.1 (Nat.le_of_ble_eq_true rfl) rfl dX1_ready_1 ⟨Nat.zero_le _, Nat.zero_le _⟩ (fun r H locs hp hH => ?_)
    try dsimp only at hp
    rcases hp with ⟨hg1, rfl⟩ | ⟨hg1, rfl⟩
    · refine nw_ifne (tgt := 15) hx hb dX1_ready_4 (by decide) (by decide) (fun q => absurd rfl q) (fun _ => ?_)
      refine lv_iload_n hx hb dX1_ready_7 rfl (lv_at hl 2 rfl) ?_
      refine lv_iload_n hx hb dX1_ready_8 rfl (lv_at hl 3 rfl) ?_
      refine y_calls F hH (As := [.int a0, .int b0]) (rest := []) (mX1_badTime l a0 b0) (va_cwS 2 hts (lw_S q193 q194 q16 q195) rfl rfl rfl (by decide +kernel) ⟨Nat.le_of_ble_eq_true rfl, Nat.le_of_ble_eq_true rfl⟩) rfl hl.1 (Nat.le_of_ble_eq_true rfl) rfl dX1_ready_9 ⟨Nat.zero_le _, Nat.zero_le _⟩ (fun r H locs hp hH => ?_)
      try dsimp only at hp
      rcases hp with ⟨hg2, rfl⟩ | ⟨hg2, rfl⟩
      · refine nw_ifeq (tgt := 17) hx hb dX1_ready_12 (by decide) (by decide) (fun _ => ?_) (fun q => absurd rfl q)
        exact absurd ⟨hg1, ⟨hg2.1, hg2.2.1⟩, ⟨hg2.2.2.1, hg2.2.2.2⟩⟩ hok
      · refine nw_ifeq (tgt := 17) hx hb dX1_ready_12 (by decide) (by decide) (fun q => absurd q (by decide)) (fun _ => ?_)
        refine lv_iconst (v := -1) hx hb dX1_ready_15 (by decide +kernel) ?_
        exact y_iret F hH hrt hlk hQ ⟨hI, rfl, (ci_f hok).symm⟩ dX1_ready_16
    · refine nw_ifne (tgt := 15) hx hb dX1_ready_4 (by decide) (by decide) (fun _ => ?_) (fun q => absurd q (by decide))
      refine lv_iconst (v := -1) hx hb dX1_ready_15 (by decide +kernel) ?_
      exact y_iret F hH hrt hlk hQ ⟨hI, rfl, (ci_f hok).symm⟩ dX1_ready_16
  · obtain ⟨x1, hx1, rfl⟩ := nw_toInt (x := x0) (n := 6) hok.1.1 hok.1.2 (by decide)
    obtain ⟨a1, ha1, rfl⟩ := nw_toInt (x := a0) (n := 15) hok.2.1.1 hok.2.1.2 (by decide)
    obtain ⟨b1, hb1, rfl⟩ := nw_toInt (x := b0) (n := 15) hok.2.2.1 hok.2.2.2 (by decide)
    have L36 : ∀ (n : Nat) (k : Nat) (ar1 : Nat → Nat → Nat), sc 5 - k < n → (∃ k, k < sc 5 ∧ (ar 5 k = x1 ∧ ar 6 k = a1 ∧ ar 7 k = b1)) → k ≤ sc 5 → ts_ ar ar1 (go_ ar x1 a1 b1) k → ∀ (H : Heap) (locs : List Loc), yH dC dI A s.heap h d dz sc ar1 H locs → ∀ ls : Array Slot, lv_has ls 5 [(0, .ref (h 0)), (1, .int (nI x1)), (2, .int (nI a1)), (3, .int (nI b1)), (4, .int (nI k))] → W p l e (r_ 1) s m av below meth c H locs 0 0 QQ (F0 m 36 ls []) := by
      intro n
      induction n with
      | zero => intro _ _ hlt; exact absurd hlt (Nat.not_lt_zero _)
      | succ n ih =>
        intro k ar1 hn hfd hk htk H locs hH ls hl
        refine lv_iload hx hb dX1_ready_36 (lv_at hl 4 rfl) ?_
        refine lv_aload_n hx hb dX1_ready_38 rfl (lv_at hl 0 rfl) ?_
        refine y_get F hH 5 (by decide) q151 rfl dX1_ready_39 ?_
        refine nw_ge (tgt := 109) hx hb dX1_ready_42 (by decide) (by omega) (fun c42 => ?_) (fun c42 => ?_)
        · refine lv_aload_n hx hb dX1_ready_109 rfl (lv_at hl 0 rfl) ?_
          refine y_callv F hH hA (As := []) (rest := []) (fun sz => mX1_spread l dC dI h d dz sc ar1 hn12 (y_lines hI htk.1) htk.2.1 sz) (cwV 0 hts (lw_V q224 q226 qs11 q16 q227) rfl rfl rfl (by decide +kernel) ⟨Nat.le_of_ble_eq_true rfl, Nat.le_of_ble_eq_true rfl⟩) rfl hl.1 (Nat.le_of_ble_eq_true rfl) rfl dX1_ready_110 ⟨Nat.zero_le _, Nat.zero_le _⟩ (fun sc_1 ar_2 H locs hp hH => ?_)
          try dsimp only at hp
          obtain ⟨hq1, hp⟩ := hp
          have hq1 : sc_1 = sc := hq1
          rw [hq1] at hH
          obtain ⟨hp1, hp2⟩ := hp
          have ek : k = sc 5 := by omega
          rw [ek] at htk
          refine lv_aload_n hx hb dX1_ready_113 rfl (lv_at hl 0 rfl) ?_
          refine lv_iload_n hx hb dX1_ready_114 rfl (lv_at hl 1 rfl) ?_
          refine lv_iload_n hx hb dX1_ready_115 rfl (lv_at hl 2 rfl) ?_
          refine lv_iload_n hx hb dX1_ready_116 rfl (lv_at hl 3 rfl) ?_
          refine lv_iconst (v := nI 0) hx hb dX1_ready_117 (by decide +kernel) ?_
          refine y_calli F hH hA (As := [.int (nI x1), .int (nI a1), .int (nI b1), .int (nI 0)]) (rest := []) (fun sz => mX1_below l dC dI h d dz sc ar_2 x1 a1 b1 0 (by omega) (by omega) (by omega) (by decide) hp2.1 sz) (cwV 4 hts (lw_V q228 q230 qs12 q16 q231) rfl rfl rfl (by decide +kernel) ⟨Nat.le_of_ble_eq_true rfl, Nat.le_of_ble_eq_true rfl⟩) rfl hl.1 (Nat.le_of_ble_eq_true rfl) rfl dX1_ready_118 ⟨Nat.zero_le _, Nat.zero_le _⟩ (fun r sc_3 ar_4 H locs hp hH => ?_)
          try dsimp only at hp
          obtain ⟨⟨hq1, hq2⟩, hp⟩ := hp
          have hq1 : sc_3 = sc := hq1
          have hq2 : ar_4 = ar_2 := hq2
          rw [hq1, hq2] at hH
          rcases hp with ⟨hbl, rfl⟩ | ⟨hbl, rfl⟩
          · refine nw_ifeq (tgt := 128) hx hb dX1_ready_121 (by decide) (by decide) (fun q => absurd q (by decide)) (fun _ => ?_)
            refine lv_iconst (v := nI 0) hx hb dX1_ready_124 (by decide +kernel) ?_
            refine lv_goto (tgt := 129) hx hb dX1_ready_125 (by decide) ?_
            exact y_iret F hH hrt hlk hQ ⟨(y_same hI (fun j hj => (hp1 j hj).trans (htk.1 j hj))).1, (y_same hI (fun j hj => (hp1 j hj).trans (htk.1 j hj))).2, by
              rw [tr_ready_t hx1 ha1 hb1, ci_f (fun q => q.2 (((bl_R (tok_th hI htk hp2) (pl := x1) (a := a1) (b := b1) (by omega) (by omega) (by omega)).trans (oth_iff hI hb1)).mp hbl))]
              decide +kernel⟩ dX1_ready_129
          · refine nw_ifeq (tgt := 128) hx hb dX1_ready_121 (by decide) (by decide) (fun _ => ?_) (fun q => absurd rfl q)
            refine lv_iconst (v := nI 1) hx hb dX1_ready_128 (by decide +kernel) ?_
            exact y_iret F hH hrt hlk hQ ⟨(y_same hI (fun j hj => (hp1 j hj).trans (htk.1 j hj))).1, (y_same hI (fun j hj => (hp1 j hj).trans (htk.1 j hj))).2, by
              rw [tr_ready_t hx1 ha1 hb1, ci_t]
              · decide +kernel
              · obtain ⟨k9, q1, q2⟩ := hfd
                exact ⟨⟨k9, q1, (here_iff hI hb1 q1).mpr q2⟩, fun q => hbl (((bl_R (tok_th hI htk hp2) (pl := x1) (a := a1) (b := b1) (by omega) (by omega) (by omega)).trans (oth_iff hI hb1)).mpr q)⟩⟩ dX1_ready_129
        · have hkk : ar 5 k < 7 := (ho.2.2.2 k c42).1
          have h67 := hI.2 k c42
          refine lv_aload_n hx hb dX1_ready_45 rfl (lv_at hl 0 rfl) ?_
          refine y_get F hH 6 (by decide) q152 rfl dX1_ready_46 ?_
          refine lv_iload hx hb dX1_ready_49 (lv_at hl 4 rfl) ?_
          refine y_aldv F hH 5 (N := 20) (v := (ar 5 k)) rfl (by decide) (by decide) (by omega) (congrFun (htk.1 5 (by decide)) k) dX1_ready_51 ?_
          refine lv_iload_n hx hb dX1_ready_52 rfl (lv_at hl 1 rfl) ?_
          refine nw_ne (tgt := 78) hx hb dX1_ready_53 (by decide) (by omega) (fun c53 => ?_) (fun c53 => ?_)
          · refine lv_aload_n hx hb dX1_ready_78 rfl (lv_at hl 0 rfl) ?_
            refine lv_aload_n hx hb dX1_ready_79 rfl (lv_at hl 0 rfl) ?_
            refine y_get F hH 6 (by decide) q152 rfl dX1_ready_80 ?_
            refine lv_iload hx hb dX1_ready_83 (lv_at hl 4 rfl) ?_
            refine y_aldv F hH 5 (N := 20) (v := (ar 5 k)) rfl (by decide) (by decide) (by omega) (congrFun (htk.1 5 (by decide)) k) dX1_ready_85 ?_
            refine lv_aload_n hx hb dX1_ready_86 rfl (lv_at hl 0 rfl) ?_
            refine y_get F hH 7 (by decide) q153 rfl dX1_ready_87 ?_
            refine lv_iload hx hb dX1_ready_90 (lv_at hl 4 rfl) ?_
            refine y_aldv F hH 6 (N := 20) (v := (ar 6 k)) rfl (by decide) (by decide) (by omega) (congrFun (htk.1 6 (by decide)) k) dX1_ready_92 ?_
            refine lv_aload_n hx hb dX1_ready_93 rfl (lv_at hl 0 rfl) ?_
            refine y_get F hH 8 (by decide) q154 rfl dX1_ready_94 ?_
            refine lv_iload hx hb dX1_ready_97 (lv_at hl 4 rfl) ?_
            refine y_aldv F hH 7 (N := 20) (v := (ar 7 k)) rfl (by decide) (by decide) (by omega) (congrFun (htk.1 7 (by decide)) k) dX1_ready_99 ?_
            refine y_callv F hH hA (As := [.int (nI (ar 5 k)), .int (nI (ar 6 k)), .int (nI (ar 7 k))]) (rest := []) (fun sz => mX1_set l dC dI h d dz sc ar1 (ar 5 k) (ar 6 k) (ar 7 k) hkk (by omega) (by omega) sz) (cwV 3 hts (lw_V q220 q222 qs10 q16 q223) rfl rfl rfl (by decide +kernel) ⟨Nat.le_of_ble_eq_true rfl, Nat.le_of_ble_eq_true rfl⟩) rfl hl.1 (Nat.le_of_ble_eq_true rfl) rfl dX1_ready_100 ⟨Nat.zero_le _, Nat.zero_le _⟩ (fun sc_5 ar_6 H locs hp hH => ?_)
            try dsimp only at hp
            obtain ⟨hq1, hp⟩ := hp
            have hq1 : sc_5 = sc := hq1
            rw [hq1] at hH
            have hps := hp
            refine lv_iinc (v := (nI (k + 1))) (lv' := [(4, .int (nI (k + 1))), (0, .ref (h 0)), (1, .int (nI x1)), (2, .int (nI a1)), (3, .int (nI b1))]) hx hb dX1_ready_103 hl (k := 4) rfl (nw_inc _) (by decide) rfl (fun ls hl => ?_)
            refine lv_goto (tgt := 36) hx hb dX1_ready_106 (by decide) ?_
            exact ih (k + 1) ar_6 (by omega) hfd (by omega) (ts_t ⟨hkk, by omega, by omega⟩ (by unfold go_; omega) htk hps) H locs hH ls (lv_sub hl [1, 2, 3, 4, 0] rfl)
          · refine lv_aload_n hx hb dX1_ready_56 rfl (lv_at hl 0 rfl) ?_
            refine y_get F hH 7 (by decide) q153 rfl dX1_ready_57 ?_
            refine lv_iload hx hb dX1_ready_60 (lv_at hl 4 rfl) ?_
            refine y_aldv F hH 6 (N := 20) (v := (ar 6 k)) rfl (by decide) (by decide) (by omega) (congrFun (htk.1 6 (by decide)) k) dX1_ready_62 ?_
            refine lv_iload_n hx hb dX1_ready_63 rfl (lv_at hl 2 rfl) ?_
            refine nw_ne (tgt := 78) hx hb dX1_ready_64 (by decide) (by omega) (fun c64 => ?_) (fun c64 => ?_)
            · refine lv_aload_n hx hb dX1_ready_78 rfl (lv_at hl 0 rfl) ?_
              refine lv_aload_n hx hb dX1_ready_79 rfl (lv_at hl 0 rfl) ?_
              refine y_get F hH 6 (by decide) q152 rfl dX1_ready_80 ?_
              refine lv_iload hx hb dX1_ready_83 (lv_at hl 4 rfl) ?_
              refine y_aldv F hH 5 (N := 20) (v := (ar 5 k)) rfl (by decide) (by decide) (by omega) (congrFun (htk.1 5 (by decide)) k) dX1_ready_85 ?_
              refine lv_aload_n hx hb dX1_ready_86 rfl (lv_at hl 0 rfl) ?_
              refine y_get F hH 7 (by decide) q153 rfl dX1_ready_87 ?_
              refine lv_iload hx hb dX1_ready_90 (lv_at hl 4 rfl) ?_
              refine y_aldv F hH 6 (N := 20) (v := (ar 6 k)) rfl (by decide) (by decide) (by omega) (congrFun (htk.1 6 (by decide)) k) dX1_ready_92 ?_
              refine lv_aload_n hx hb dX1_ready_93 rfl (lv_at hl 0 rfl) ?_
              refine y_get F hH 8 (by decide) q154 rfl dX1_ready_94 ?_
              refine lv_iload hx hb dX1_ready_97 (lv_at hl 4 rfl) ?_
              refine y_aldv F hH 7 (N := 20) (v := (ar 7 k)) rfl (by decide) (by decide) (by omega) (congrFun (htk.1 7 (by decide)) k) dX1_ready_99 ?_
              refine y_callv F hH hA (As := [.int (nI (ar 5 k)), .int (nI (ar 6 k)), .int (nI (ar 7 k))]) (rest := []) (fun sz => mX1_set l dC dI h d dz sc ar1 (ar 5 k) (ar 6 k) (ar 7 k) hkk (by omega) (by omega) sz) (cwV 3 hts (lw_V q220 q222 qs10 q16 q223) rfl rfl rfl (by decide +kernel) ⟨Nat.le_of_ble_eq_true rfl, Nat.le_of_ble_eq_true rfl⟩) rfl hl.1 (Nat.le_of_ble_eq_true rfl) rfl dX1_ready_100 ⟨Nat.zero_le _, Nat.zero_le _⟩ (fun sc_7 ar_8 H locs hp hH => ?_)
              try dsimp only at hp
              obtain ⟨hq1, hp⟩ := hp
              have hq1 : sc_7 = sc := hq1
              rw [hq1] at hH
              have hps := hp
              refine lv_iinc (v := (nI (k + 1))) (lv' := [(4, .int (nI (k + 1))), (0, .ref (h 0)), (1, .int (nI x1)), (2, .int (nI a1)), (3, .int (nI b1))]) hx hb dX1_ready_103 hl (k := 4) rfl (nw_inc _) (by decide) rfl (fun ls hl => ?_)
              refine lv_goto (tgt := 36) hx hb dX1_ready_106 (by decide) ?_
              exact ih (k + 1) ar_8 (by omega) hfd (by omega) (ts_t ⟨hkk, by omega, by omega⟩ (by unfold go_; omega) htk hps) H locs hH ls (lv_sub hl [1, 2, 3, 4, 0] rfl)
            · refine lv_aload_n hx hb dX1_ready_67 rfl (lv_at hl 0 rfl) ?_
              refine y_get F hH 8 (by decide) q154 rfl dX1_ready_68 ?_
              refine lv_iload hx hb dX1_ready_71 (lv_at hl 4 rfl) ?_
              refine y_aldv F hH 7 (N := 20) (v := (ar 7 k)) rfl (by decide) (by decide) (by omega) (congrFun (htk.1 7 (by decide)) k) dX1_ready_73 ?_
              refine lv_iload_n hx hb dX1_ready_74 rfl (lv_at hl 3 rfl) ?_
              refine nw_eq (tgt := 103) hx hb dX1_ready_75 (by decide) (by omega) (fun c75 => ?_) (fun c75 => ?_)
              · refine lv_iinc (v := (nI (k + 1))) (lv' := [(4, .int (nI (k + 1))), (0, .ref (h 0)), (1, .int (nI x1)), (2, .int (nI a1)), (3, .int (nI b1))]) hx hb dX1_ready_103 hl (k := 4) rfl (nw_inc _) (by decide) rfl (fun ls hl => ?_)
                refine lv_goto (tgt := 36) hx hb dX1_ready_106 (by decide) ?_
                exact ih (k + 1) ar1 (by omega) hfd (by omega) (ts_f (fun q => q ⟨c53, c64, c75⟩) htk) H locs hH ls (lv_sub hl [1, 2, 3, 4, 0] rfl)
              · refine lv_aload_n hx hb dX1_ready_78 rfl (lv_at hl 0 rfl) ?_
                refine lv_aload_n hx hb dX1_ready_79 rfl (lv_at hl 0 rfl) ?_
                refine y_get F hH 6 (by decide) q152 rfl dX1_ready_80 ?_
                refine lv_iload hx hb dX1_ready_83 (lv_at hl 4 rfl) ?_
                refine y_aldv F hH 5 (N := 20) (v := (ar 5 k)) rfl (by decide) (by decide) (by omega) (congrFun (htk.1 5 (by decide)) k) dX1_ready_85 ?_
                refine lv_aload_n hx hb dX1_ready_86 rfl (lv_at hl 0 rfl) ?_
                refine y_get F hH 7 (by decide) q153 rfl dX1_ready_87 ?_
                refine lv_iload hx hb dX1_ready_90 (lv_at hl 4 rfl) ?_
                refine y_aldv F hH 6 (N := 20) (v := (ar 6 k)) rfl (by decide) (by decide) (by omega) (congrFun (htk.1 6 (by decide)) k) dX1_ready_92 ?_
                refine lv_aload_n hx hb dX1_ready_93 rfl (lv_at hl 0 rfl) ?_
                refine y_get F hH 8 (by decide) q154 rfl dX1_ready_94 ?_
                refine lv_iload hx hb dX1_ready_97 (lv_at hl 4 rfl) ?_
                refine y_aldv F hH 7 (N := 20) (v := (ar 7 k)) rfl (by decide) (by decide) (by omega) (congrFun (htk.1 7 (by decide)) k) dX1_ready_99 ?_
                refine y_callv F hH hA (As := [.int (nI (ar 5 k)), .int (nI (ar 6 k)), .int (nI (ar 7 k))]) (rest := []) (fun sz => mX1_set l dC dI h d dz sc ar1 (ar 5 k) (ar 6 k) (ar 7 k) hkk (by omega) (by omega) sz) (cwV 3 hts (lw_V q220 q222 qs10 q16 q223) rfl rfl rfl (by decide +kernel) ⟨Nat.le_of_ble_eq_true rfl, Nat.le_of_ble_eq_true rfl⟩) rfl hl.1 (Nat.le_of_ble_eq_true rfl) rfl dX1_ready_100 ⟨Nat.zero_le _, Nat.zero_le _⟩ (fun sc_9 ar_10 H locs hp hH => ?_)
                try dsimp only at hp
                obtain ⟨hq1, hp⟩ := hp
                have hq1 : sc_9 = sc := hq1
                rw [hq1] at hH
                have hps := hp
                refine lv_iinc (v := (nI (k + 1))) (lv' := [(4, .int (nI (k + 1))), (0, .ref (h 0)), (1, .int (nI x1)), (2, .int (nI a1)), (3, .int (nI b1))]) hx hb dX1_ready_103 hl (k := 4) rfl (nw_inc _) (by decide) rfl (fun ls hl => ?_)
                refine lv_goto (tgt := 36) hx hb dX1_ready_106 (by decide) ?_
                exact ih (k + 1) ar_10 (by omega) hfd (by omega) (ts_t ⟨hkk, by omega, by omega⟩ (by unfold go_; omega) htk hps) H locs hH ls (lv_sub hl [1, 2, 3, 4, 0] rfl)
    refine lv_iload_n hx hb dX1_ready_0 rfl (lv_at hl 1 rfl) ?_
    refine y_calls F hH (As := [.int (nI x1)]) (rest := []) (mX1_badPlace l (nI x1)) (va_cwS 1 hts (lw_S q182 q183 q16 q184) rfl rfl rfl (by decide +kernel) ⟨Nat.le_of_ble_eq_true rfl, Nat.le_of_ble_eq_true rfl⟩) rfl hl.1 (Nat.le_of_ble_eq_true rfl) rfl dX1_ready_1 ⟨Nat.zero_le _, Nat.zero_le _⟩ (fun r H locs hp hH => ?_)
    try dsimp only at hp
    rcases hp with ⟨hg1, rfl⟩ | ⟨hg1, rfl⟩
    · refine nw_ifne (tgt := 15) hx hb dX1_ready_4 (by decide) (by decide) (fun q => absurd rfl q) (fun _ => ?_)
      refine lv_iload_n hx hb dX1_ready_7 rfl (lv_at hl 2 rfl) ?_
      refine lv_iload_n hx hb dX1_ready_8 rfl (lv_at hl 3 rfl) ?_
      refine y_calls F hH (As := [.int (nI a1), .int (nI b1)]) (rest := []) (mX1_badTime l (nI a1) (nI b1)) (va_cwS 2 hts (lw_S q193 q194 q16 q195) rfl rfl rfl (by decide +kernel) ⟨Nat.le_of_ble_eq_true rfl, Nat.le_of_ble_eq_true rfl⟩) rfl hl.1 (Nat.le_of_ble_eq_true rfl) rfl dX1_ready_9 ⟨Nat.zero_le _, Nat.zero_le _⟩ (fun r H locs hp hH => ?_)
      try dsimp only at hp
      rcases hp with ⟨hg2, rfl⟩ | ⟨hg2, rfl⟩
      · refine nw_ifeq (tgt := 17) hx hb dX1_ready_12 (by decide) (by decide) (fun _ => ?_) (fun q => absurd rfl q)
        refine lv_aload_n hx hb dX1_ready_17 rfl (lv_at hl 0 rfl) ?_
        refine lv_iload_n hx hb dX1_ready_18 rfl (lv_at hl 1 rfl) ?_
        refine lv_iload_n hx hb dX1_ready_19 rfl (lv_at hl 2 rfl) ?_
        refine lv_iload_n hx hb dX1_ready_20 rfl (lv_at hl 3 rfl) ?_
        refine y_calli F hH hA (As := [.int (nI x1), .int (nI a1), .int (nI b1)]) (rest := []) (fun sz => mX1_find l dC dI h d dz sc ar (nI x1) (nI a1) (nI b1) hT20 sz) (cwV 3 hts (lw_V q200 q202 qs7 q16 q203) rfl rfl rfl (by decide +kernel) ⟨Nat.le_of_ble_eq_true rfl, Nat.le_of_ble_eq_true rfl⟩) rfl hl.1 (Nat.le_of_ble_eq_true rfl) rfl dX1_ready_21 ⟨Nat.zero_le _, Nat.zero_le _⟩ (fun r sc_11 ar_12 H locs hp hH => ?_)
        try dsimp only at hp
        obtain ⟨⟨hq1, hq2⟩, hp⟩ := hp
        have hq1 : sc_11 = sc := hq1
        have hq2 : ar_12 = ar := hq2
        rw [hq1, hq2] at hH
        rcases hp with ⟨k0, hk0, hk1, hk2, rfl⟩ | ⟨hk1, rfl⟩
        · have hk05 := (ho.2.2.2 k0 hk0).1
          have hk05 : ar 5 k0 < 7 := hk05
          have hk67 := hI.2 k0 hk0
          have hk1 : ar 5 k0 = x1 ∧ ar 6 k0 = a1 ∧ ar 7 k0 = b1 := ⟨(nI_eq (by omega) (by omega)).mp hk1.1, (nI_eq (by omega) (by omega)).mp hk1.2.1, (nI_eq (by omega) (by omega)).mp hk1.2.2⟩
          refine nw_ifge (tgt := 29) hx hb dX1_ready_24 (by decide) (by omega) ?_
          refine lv_aload_n hx hb dX1_ready_29 rfl (lv_at hl 0 rfl) ?_
          refine y_callv F hH hA (As := []) (rest := []) (fun sz => mX1_empty l dC dI h d dz sc ar sz) (cwV 0 hts (lw_V q216 q218 qs9 q16 q219) rfl rfl rfl (by decide +kernel) ⟨Nat.le_of_ble_eq_true rfl, Nat.le_of_ble_eq_true rfl⟩) rfl hl.1 (Nat.le_of_ble_eq_true rfl) rfl dX1_ready_30 ⟨Nat.zero_le _, Nat.zero_le _⟩ (fun sc_13 ar_14 H locs hp hH => ?_)
          try dsimp only at hp
          obtain ⟨hq1, hp⟩ := hp
          have hq1 : sc_13 = sc := hq1
          rw [hq1] at hH
          obtain ⟨hp1, hp2⟩ := hp
          refine lv_iconst (v := nI 0) hx hb dX1_ready_33 (by decide +kernel) ?_
          refine lv_istore (lv' := [(4, .int (nI 0)), (0, .ref (h 0)), (1, .int (nI x1)), (2, .int (nI a1)), (3, .int (nI b1))]) hx hb dX1_ready_34 hl (by decide) rfl (fun ls hl => ?_)
          exact L36 (sc 5 + 1) 0 ar_14 (by omega) ⟨k0, hk0, hk1⟩ (by omega) (ts_0 hp1 hp2) _ _ hH ls (lv_sub hl [1, 2, 3, 4, 0] rfl)
        · refine nw_ifgem (tgt := 29) hx hb dX1_ready_24 (by decide) ?_
          refine lv_iconst (v := nI 0) hx hb dX1_ready_27 (by decide +kernel) ?_
          exact y_iret F hH hrt hlk hQ ⟨hI, rfl, by
            rw [tr_ready_t hx1 ha1 hb1, ci_f]
            · decide +kernel
            · rintro ⟨⟨k9, q1, q2⟩, -⟩
              have q1 : k9 < sc 5 := q1
              obtain ⟨r1, r2, r3⟩ := (here_iff hI hb1 q1).mp q2
              exact hk1 k9 q1 ⟨by rw [r1], by rw [r2], by rw [r3]⟩⟩ dX1_ready_28
      · refine nw_ifeq (tgt := 17) hx hb dX1_ready_12 (by decide) (by decide) (fun q => absurd q (by decide)) (fun _ => ?_)
        first | exact absurd ⟨hok.2.1.1, hok.2.1.2, hok.2.2.1, hok.2.2.2⟩ hg2 | exact absurd hok.1 hg1
    · refine nw_ifne (tgt := 15) hx hb dX1_ready_4 (by decide) (by decide) (fun _ => ?_) (fun q => absurd q (by decide))
      first | exact absurd ⟨hok.2.1.1, hok.2.1.2, hok.2.2.1, hok.2.2.2⟩ hg2 | exact absurd hok.1 hg1
set_option maxHeartbeats 4000000 in
set_option maxRecDepth 100000 in
theorem mX1_front (l : Launch) (dC : Nat → ClassId) (dI : Nat → Nat → Nat) (h : Nat → Nat) (d dz : ClassId) (sc : Nat → Nat) (ar : Nat → Nat → Nat) (x0 : Int32) (hI : y_I sc ar) (sz : Nat) : Met l yX1_front (ws_ yX1_front cX1_front 4 (some .int)) (r_ 2) (y_Pc dC dI h d dz sz sc ar [.ref (h 0), .int x0]) (va_Qi (fun r u => y_I u.1 u.2 ∧ nvM u.1 u.2 = (nvM sc ar) ∧ r = tr_front (nvM sc ar) x0) (y_B dC dI (y_A h d dz sc ar sz) h d dz) (y_A h d dz sc ar sz)) 0 0 (y_A h d dz sc ar sz) := by
  refine y_headi (by decide +kernel) rfl (Nat.le_of_ble_eq_true rfl) ?_
  intro p e s m below meth c A av QQ hrt hlk F hA hH hQ ls hl
  have hx := F.1.1
  have hb := F.1.2.1
  have hts := F.1.2.2.2.2
  have hl : lv_has ls 4 [(0, .ref (h 0)), (1, .int x0)] := hl
  have ho := hI.1
  have hT20 : sc 5 ≤ 20 := ho.2.1
  have hn12 : sc 0 ≤ 12 := ho.1
  by_cases hok : sp_p x0
  rotate_left
  · refine lv_iload_n hx hb dX1_front_0 rfl (lv_at hl 1 rfl) ?_
    refine y_calls F hH (As := [.int x0]) (rest := []) (mX1_badPlace l x0) (va_cwS 1 hts (lw_S q182 q183 q16 q184) rfl rfl rfl (by decide +kernel) ⟨Nat.le_of_ble_eq_true rfl, Nat.le_of_ble_eq_true rfl⟩) rfl hl.1 (Nat.le_of_ble_eq_true rfl) rfl dX1_front_1 ⟨Nat.zero_le _, Nat.zero_le _⟩ (fun r H locs hp hH => ?_)
    try dsimp only at hp
    rcases hp with ⟨hg1, rfl⟩ | ⟨hg1, rfl⟩
    · refine nw_ifeq (tgt := 9) hx hb dX1_front_4 (by decide) (by decide) (fun _ => ?_) (fun q => absurd rfl q)
      exact absurd hg1 hok
    · refine nw_ifeq (tgt := 9) hx hb dX1_front_4 (by decide) (by decide) (fun q => absurd q (by decide)) (fun _ => ?_)
      refine lv_iconst (v := -1) hx hb dX1_front_7 (by decide +kernel) ?_
      exact y_iret F hH hrt hlk hQ ⟨hI, rfl, (ci_f hok).symm⟩ dX1_front_8
  · obtain ⟨x1, hx1, rfl⟩ := nw_toInt (x := x0) (n := 6) hok.1 hok.2 (by decide)
    have L17 : ∀ (n : Nat) (t nn : Nat) (ar1 : Nat → Nat → Nat), 256 - t < n → (∀ k, k ≠ 8 → ar1 k = ar k) → th_ ar1 (nv_R (nvM sc ar)) → t ≤ 256 → nn = fc_n (fr_ 16 (nv_R (nvM sc ar) x1)) t → ∀ (H : Heap) (locs : List Loc), yH dC dI A s.heap h d dz sc ar1 H locs → ∀ ls : Array Slot, lv_has ls 4 [(0, .ref (h 0)), (1, .int (nI x1)), (2, .int (nI nn)), (3, .int (nI t))] → W p l e (r_ 2) s m av below meth c H locs 0 0 QQ (F0 m 17 ls []) := by
      intro n
      induction n with
      | zero => intro _ _ _ hlt; exact absurd hlt (Nat.not_lt_zero _)
      | succ n ih =>
        intro t nn ar1 hn hf hth ht hnn H locs hH ls hl
        refine lv_iload_n hx hb dX1_front_17 rfl (lv_at hl 3 rfl) ?_
        refine lv_sipush (v := nI 256) hx hb dX1_front_18 (by decide +kernel) ?_
        refine nw_ge (tgt := 49) hx hb dX1_front_21 (by decide) (by omega) (fun c21 => ?_) (fun c21 => ?_)
        · refine lv_iload_n hx hb dX1_front_49 rfl (lv_at hl 2 rfl) ?_
          exact y_iret F hH hrt hlk hQ ⟨(y_same hI hf).1, (y_same hI hf).2, by
            have et : t = 256 := by omega
            rw [tr_front_t hx1, hnn, et]⟩ dX1_front_50
        · refine lv_aload_n hx hb dX1_front_24 rfl (lv_at hl 0 rfl) ?_
          refine lv_iload_n hx hb dX1_front_25 rfl (lv_at hl 1 rfl) ?_
          refine lv_iload_n hx hb dX1_front_26 rfl (lv_at hl 3 rfl) ?_
          refine lv_bipush (v := nI 16) hx hb dX1_front_27 (by decide +kernel) ?_
          refine nw_idiv hx hb dX1_front_29 (by omega) ?_
          refine lv_iload_n hx hb dX1_front_30 rfl (lv_at hl 3 rfl) ?_
          refine lv_bipush (v := nI 16) hx hb dX1_front_31 (by decide +kernel) ?_
          refine nw_irem hx hb dX1_front_33 (by omega) ?_
          refine y_calli F hH hA (As := [.int (nI x1), .int (nI (t / 16)), .int (nI (t % 16))]) (rest := []) (fun sz => mX1_inFront l dC dI h d dz sc ar1 x1 (t / 16) (t % 16) (by omega) (by omega) (by omega) hth.1 sz) (cwV 3 hts (lw_V q240 q242 qs13 q16 q243) rfl rfl rfl (by decide +kernel) ⟨Nat.le_of_ble_eq_true rfl, Nat.le_of_ble_eq_true rfl⟩) rfl hl.1 (Nat.le_of_ble_eq_true rfl) rfl dX1_front_34 ⟨Nat.zero_le _, Nat.zero_le _⟩ (fun r sc_1 ar_2 H locs hp hH => ?_)
          try dsimp only at hp
          obtain ⟨⟨hq1, hq2⟩, hp⟩ := hp
          have hq1 : sc_1 = sc := hq1
          have hq2 : ar_2 = ar1 := hq2
          rw [hq1, hq2] at hH
          rcases hp with ⟨hif, rfl⟩ | ⟨hif, rfl⟩
          · have hif := (if_fr hth (w := 16) (pl := x1) (t := t) (by omega) (by omega) (by omega)).mp hif
            refine nw_ifeq (tgt := 43) hx hb dX1_front_37 (by decide) (by decide) (fun q => absurd q (by decide)) (fun _ => ?_)
            refine lv_iinc (v := (nI (nn + 1))) (lv' := [(2, .int (nI (nn + 1))), (0, .ref (h 0)), (1, .int (nI x1)), (3, .int (nI t))]) hx hb dX1_front_40 hl (k := 2) rfl (nw_inc _) (by decide) rfl (fun ls hl => ?_)
            refine lv_iinc (v := (nI (t + 1))) (lv' := [(3, .int (nI (t + 1))), (2, .int (nI (nn + 1))), (0, .ref (h 0)), (1, .int (nI x1))]) hx hb dX1_front_43 hl (k := 3) rfl (nw_inc _) (by decide) rfl (fun ls hl => ?_)
            refine lv_goto (tgt := 17) hx hb dX1_front_46 (by decide) ?_
            exact ih (t + 1) (nn + 1) ar1 (by omega) hf hth (by omega) (by rw [fc_t hif, hnn]) H locs hH ls (lv_sub hl [2, 3, 1, 0] rfl)
          · have hif := fun q => hif ((if_fr hth (w := 16) (pl := x1) (t := t) (by omega) (by omega) (by omega)).mpr q)
            refine nw_ifeq (tgt := 43) hx hb dX1_front_37 (by decide) (by decide) (fun _ => ?_) (fun q => absurd rfl q)
            refine lv_iinc (v := (nI (t + 1))) (lv' := [(3, .int (nI (t + 1))), (0, .ref (h 0)), (1, .int (nI x1)), (2, .int (nI nn))]) hx hb dX1_front_43 hl (k := 3) rfl (nw_inc _) (by decide) rfl (fun ls hl => ?_)
            refine lv_goto (tgt := 17) hx hb dX1_front_46 (by decide) ?_
            exact ih (t + 1) nn ar1 (by omega) hf hth (by omega) (by rw [fc_f hif]; exact hnn) H locs hH ls (lv_sub hl [1, 2, 3, 0] rfl)
    refine lv_iload_n hx hb dX1_front_0 rfl (lv_at hl 1 rfl) ?_
    refine y_calls F hH (As := [.int (nI x1)]) (rest := []) (mX1_badPlace l (nI x1)) (va_cwS 1 hts (lw_S q182 q183 q16 q184) rfl rfl rfl (by decide +kernel) ⟨Nat.le_of_ble_eq_true rfl, Nat.le_of_ble_eq_true rfl⟩) rfl hl.1 (Nat.le_of_ble_eq_true rfl) rfl dX1_front_1 ⟨Nat.zero_le _, Nat.zero_le _⟩ (fun r H locs hp hH => ?_)
    try dsimp only at hp
    rcases hp with ⟨hg1, rfl⟩ | ⟨hg1, rfl⟩
    · refine nw_ifeq (tgt := 9) hx hb dX1_front_4 (by decide) (by decide) (fun _ => ?_) (fun q => absurd rfl q)
      refine lv_aload_n hx hb dX1_front_9 rfl (lv_at hl 0 rfl) ?_
      refine y_callv F hH hA (As := []) (rest := []) (fun sz => mX1_spreadTokens l dC dI h d dz sc ar hI sz) (cwV 0 hts (lw_V q212 q214 qs8 q16 q215) rfl rfl rfl (by decide +kernel) ⟨Nat.le_of_ble_eq_true rfl, Nat.le_of_ble_eq_true rfl⟩) rfl hl.1 (Nat.le_of_ble_eq_true rfl) rfl dX1_front_10 ⟨Nat.zero_le _, Nat.zero_le _⟩ (fun sc_3 ar_4 H locs hp hH => ?_)
      try dsimp only at hp
      obtain ⟨hq1, hp⟩ := hp
      have hq1 : sc_3 = sc := hq1
      rw [hq1] at hH
      obtain ⟨hp1, hp2⟩ := hp
      refine lv_iconst (v := nI 0) hx hb dX1_front_13 (by decide +kernel) ?_
      refine lv_istore_n (lv' := [(2, .int (nI 0)), (0, .ref (h 0)), (1, .int (nI x1))]) hx hb dX1_front_14 rfl hl (by decide) rfl (fun ls hl => ?_)
      refine lv_iconst (v := nI 0) hx hb dX1_front_15 (by decide +kernel) ?_
      refine lv_istore_n (lv' := [(3, .int (nI 0)), (2, .int (nI 0)), (0, .ref (h 0)), (1, .int (nI x1))]) hx hb dX1_front_16 rfl hl (by decide) rfl (fun ls hl => ?_)
      exact L17 257 0 0 ar_4 (by omega) hp1 hp2 (by omega) rfl _ _ hH ls (lv_sub hl [2, 3, 1, 0] rfl)
    · refine nw_ifeq (tgt := 9) hx hb dX1_front_4 (by decide) (by decide) (fun q => absurd q (by decide)) (fun _ => ?_)
      exact absurd hok hg1
set_option maxHeartbeats 4000000 in
set_option maxRecDepth 100000 in
theorem mX1_frontAt (l : Launch) (dC : Nat → ClassId) (dI : Nat → Nat → Nat) (h : Nat → Nat) (d dz : ClassId) (sc : Nat → Nat) (ar : Nat → Nat → Nat) (x0 i0 : Int32) (hI : y_I sc ar) (sz : Nat) : Met l yX1_frontAt (ws_ yX1_frontAt cX1_frontAt 5 (some .int)) (r_ 2) (y_Pc dC dI h d dz sz sc ar [.ref (h 0), .int x0, .int i0]) (va_Qi (fun r u => y_I u.1 u.2 ∧ nvM u.1 u.2 = (nvM sc ar) ∧ r = tr_frontAt (nvM sc ar) x0 i0) (y_B dC dI (y_A h d dz sc ar sz) h d dz) (y_A h d dz sc ar sz)) 0 0 (y_A h d dz sc ar sz) := by
  refine y_headi (by decide +kernel) rfl (Nat.le_of_ble_eq_true rfl) ?_
  intro p e s m below meth c A av QQ hrt hlk F hA hH hQ ls hl
  have hx := F.1.1
  have hb := F.1.2.1
  have hts := F.1.2.2.2.2
  have hl : lv_has ls 5 [(0, .ref (h 0)), (1, .int x0), (2, .int i0)] := hl
  have ho := hI.1
  have hT20 : sc 5 ≤ 20 := ho.2.1
  have hn12 : sc 0 ≤ 12 := ho.1
  by_cases hok : sp_p x0
  rotate_left
  · refine lv_iload_n hx hb dX1_frontAt_0 rfl (lv_at hl 1 rfl) ?_
    refine y_calls F hH (As := [.int x0]) (rest := []) (mX1_badPlace l x0) (va_cwS 1 hts (lw_S q182 q183 q16 q184) rfl rfl rfl (by decide +kernel) ⟨Nat.le_of_ble_eq_true rfl, Nat.le_of_ble_eq_true rfl⟩) rfl hl.1 (Nat.le_of_ble_eq_true rfl) rfl dX1_frontAt_1 ⟨Nat.zero_le _, Nat.zero_le _⟩ (fun r H locs hp hH => ?_)
    try dsimp only at hp
    rcases hp with ⟨hg1, rfl⟩ | ⟨hg1, rfl⟩
    · refine nw_ifeq (tgt := 9) hx hb dX1_frontAt_4 (by decide) (by decide) (fun _ => ?_) (fun q => absurd rfl q)
      exact absurd hg1 hok
    · refine nw_ifeq (tgt := 9) hx hb dX1_frontAt_4 (by decide) (by decide) (fun q => absurd q (by decide)) (fun _ => ?_)
      refine lv_iconst (v := -1) hx hb dX1_frontAt_7 (by decide +kernel) ?_
      exact y_iret F hH hrt hlk hQ ⟨hI, rfl, (ci_f hok).symm⟩ dX1_frontAt_8
  · obtain ⟨x1, hx1, rfl⟩ := nw_toInt (x := x0) (n := 6) hok.1 hok.2 (by decide)
    have L18 : ∀ (n : Nat) (t nn : Nat) (ar1 : Nat → Nat → Nat), 256 - t < n → (∀ k, k ≠ 8 → ar1 k = ar k) → th_ ar1 (nv_R (nvM sc ar)) → t ≤ 256 → nn = fc_n (fr_ 16 (nv_R (nvM sc ar) x1)) t → (∀ t2, t2 < t → (fr_ 16 (nv_R (nvM sc ar) x1)) t2 → nI (fc_n (fr_ 16 (nv_R (nvM sc ar) x1)) t2) ≠ i0) → ∀ (H : Heap) (locs : List Loc), yH dC dI A s.heap h d dz sc ar1 H locs → ∀ ls : Array Slot, lv_has ls 5 [(0, .ref (h 0)), (1, .int (nI x1)), (2, .int i0), (3, .int (nI nn)), (4, .int (nI t))] → W p l e (r_ 2) s m av below meth c H locs 0 0 QQ (F0 m 18 ls []) := by
      intro n
      induction n with
      | zero => intro _ _ _ hlt; exact absurd hlt (Nat.not_lt_zero _)
      | succ n ih =>
        intro t nn ar1 hn hf hth ht hnn hm H locs hH ls hl
        refine lv_iload hx hb dX1_frontAt_18 (lv_at hl 4 rfl) ?_
        refine lv_sipush (v := nI 256) hx hb dX1_frontAt_20 (by decide +kernel) ?_
        refine nw_ge (tgt := 61) hx hb dX1_frontAt_23 (by decide) (by omega) (fun c23 => ?_) (fun c23 => ?_)
        · refine lv_iconst (v := -1) hx hb dX1_frontAt_61 (by decide +kernel) ?_
          exact y_iret F hH hrt hlk hQ ⟨(y_same hI hf).1, (y_same hI hf).2, by
            rw [tr_frontAt_t hx1, fs_miss (fun t2 q1 q2 => hm t2 (by omega) q2)]⟩ dX1_frontAt_62
        · refine lv_aload_n hx hb dX1_frontAt_26 rfl (lv_at hl 0 rfl) ?_
          refine lv_iload_n hx hb dX1_frontAt_27 rfl (lv_at hl 1 rfl) ?_
          refine lv_iload hx hb dX1_frontAt_28 (lv_at hl 4 rfl) ?_
          refine lv_bipush (v := nI 16) hx hb dX1_frontAt_30 (by decide +kernel) ?_
          refine nw_idiv hx hb dX1_frontAt_32 (by omega) ?_
          refine lv_iload hx hb dX1_frontAt_33 (lv_at hl 4 rfl) ?_
          refine lv_bipush (v := nI 16) hx hb dX1_frontAt_35 (by decide +kernel) ?_
          refine nw_irem hx hb dX1_frontAt_37 (by omega) ?_
          refine y_calli F hH hA (As := [.int (nI x1), .int (nI (t / 16)), .int (nI (t % 16))]) (rest := []) (fun sz => mX1_inFront l dC dI h d dz sc ar1 x1 (t / 16) (t % 16) (by omega) (by omega) (by omega) hth.1 sz) (cwV 3 hts (lw_V q240 q242 qs13 q16 q243) rfl rfl rfl (by decide +kernel) ⟨Nat.le_of_ble_eq_true rfl, Nat.le_of_ble_eq_true rfl⟩) rfl hl.1 (Nat.le_of_ble_eq_true rfl) rfl dX1_frontAt_38 ⟨Nat.zero_le _, Nat.zero_le _⟩ (fun r sc_1 ar_2 H locs hp hH => ?_)
          try dsimp only at hp
          obtain ⟨⟨hq1, hq2⟩, hp⟩ := hp
          have hq1 : sc_1 = sc := hq1
          have hq2 : ar_2 = ar1 := hq2
          rw [hq1, hq2] at hH
          rcases hp with ⟨hif, rfl⟩ | ⟨hif, rfl⟩
          · have hif := (if_fr hth (w := 16) (pl := x1) (t := t) (by omega) (by omega) (by omega)).mp hif
            refine nw_ifeq (tgt := 55) hx hb dX1_frontAt_41 (by decide) (by decide) (fun q => absurd q (by decide)) (fun _ => ?_)
            refine lv_iload_n hx hb dX1_frontAt_44 rfl (lv_at hl 3 rfl) ?_
            refine lv_iload_n hx hb dX1_frontAt_45 rfl (lv_at hl 2 rfl) ?_
            refine lv_icmp_ne (tgt := 52) hx hb dX1_frontAt_46 (by decide) (fun c46 => ?_) (fun c46 => ?_)
            · refine lv_iinc (v := (nI (nn + 1))) (lv' := [(3, .int (nI (nn + 1))), (0, .ref (h 0)), (1, .int (nI x1)), (2, .int i0), (4, .int (nI t))]) hx hb dX1_frontAt_52 hl (k := 3) rfl (nw_inc _) (by decide) rfl (fun ls hl => ?_)
              refine lv_iinc (v := (nI (t + 1))) (lv' := [(4, .int (nI (t + 1))), (3, .int (nI (nn + 1))), (0, .ref (h 0)), (1, .int (nI x1)), (2, .int i0)]) hx hb dX1_frontAt_55 hl (k := 4) rfl (nw_inc _) (by decide) rfl (fun ls hl => ?_)
              refine lv_goto (tgt := 18) hx hb dX1_frontAt_58 (by decide) ?_
              exact ih (t + 1) (nn + 1) ar1 (by omega) hf hth (by omega) (by rw [fc_t hif, hnn]) (lt_s hm (fun _ => by rw [← hnn]; exact c46)) H locs hH ls (lv_sub hl [2, 3, 4, 1, 0] rfl)
            · refine lv_iload hx hb dX1_frontAt_49 (lv_at hl 4 rfl) ?_
              exact y_iret F hH hrt hlk hQ ⟨(y_same hI hf).1, (y_same hI hf).2, by
                rw [tr_frontAt_t hx1]
                exact (fs_hit (by decide) c23 hif (by rw [← hnn]; exact c46)).symm⟩ dX1_frontAt_51
          · have hif := fun q => hif ((if_fr hth (w := 16) (pl := x1) (t := t) (by omega) (by omega) (by omega)).mpr q)
            refine nw_ifeq (tgt := 55) hx hb dX1_frontAt_41 (by decide) (by decide) (fun _ => ?_) (fun q => absurd rfl q)
            refine lv_iinc (v := (nI (t + 1))) (lv' := [(4, .int (nI (t + 1))), (0, .ref (h 0)), (1, .int (nI x1)), (2, .int i0), (3, .int (nI nn))]) hx hb dX1_frontAt_55 hl (k := 4) rfl (nw_inc _) (by decide) rfl (fun ls hl => ?_)
            refine lv_goto (tgt := 18) hx hb dX1_frontAt_58 (by decide) ?_
            exact ih (t + 1) nn ar1 (by omega) hf hth (by omega) (by rw [fc_f hif]; exact hnn) (lt_s hm (fun q => absurd q hif)) H locs hH ls (lv_sub hl [1, 2, 3, 4, 0] rfl)
    refine lv_iload_n hx hb dX1_frontAt_0 rfl (lv_at hl 1 rfl) ?_
    refine y_calls F hH (As := [.int (nI x1)]) (rest := []) (mX1_badPlace l (nI x1)) (va_cwS 1 hts (lw_S q182 q183 q16 q184) rfl rfl rfl (by decide +kernel) ⟨Nat.le_of_ble_eq_true rfl, Nat.le_of_ble_eq_true rfl⟩) rfl hl.1 (Nat.le_of_ble_eq_true rfl) rfl dX1_frontAt_1 ⟨Nat.zero_le _, Nat.zero_le _⟩ (fun r H locs hp hH => ?_)
    try dsimp only at hp
    rcases hp with ⟨hg1, rfl⟩ | ⟨hg1, rfl⟩
    · refine nw_ifeq (tgt := 9) hx hb dX1_frontAt_4 (by decide) (by decide) (fun _ => ?_) (fun q => absurd rfl q)
      refine lv_aload_n hx hb dX1_frontAt_9 rfl (lv_at hl 0 rfl) ?_
      refine y_callv F hH hA (As := []) (rest := []) (fun sz => mX1_spreadTokens l dC dI h d dz sc ar hI sz) (cwV 0 hts (lw_V q212 q214 qs8 q16 q215) rfl rfl rfl (by decide +kernel) ⟨Nat.le_of_ble_eq_true rfl, Nat.le_of_ble_eq_true rfl⟩) rfl hl.1 (Nat.le_of_ble_eq_true rfl) rfl dX1_frontAt_10 ⟨Nat.zero_le _, Nat.zero_le _⟩ (fun sc_3 ar_4 H locs hp hH => ?_)
      try dsimp only at hp
      obtain ⟨hq1, hp⟩ := hp
      have hq1 : sc_3 = sc := hq1
      rw [hq1] at hH
      obtain ⟨hp1, hp2⟩ := hp
      refine lv_iconst (v := nI 0) hx hb dX1_frontAt_13 (by decide +kernel) ?_
      refine lv_istore_n (lv' := [(3, .int (nI 0)), (0, .ref (h 0)), (1, .int (nI x1)), (2, .int i0)]) hx hb dX1_frontAt_14 rfl hl (by decide) rfl (fun ls hl => ?_)
      refine lv_iconst (v := nI 0) hx hb dX1_frontAt_15 (by decide +kernel) ?_
      refine lv_istore (lv' := [(4, .int (nI 0)), (3, .int (nI 0)), (0, .ref (h 0)), (1, .int (nI x1)), (2, .int i0)]) hx hb dX1_frontAt_16 hl (by decide) rfl (fun ls hl => ?_)
      exact L18 257 0 0 ar_4 (by omega) hp1 hp2 (by omega) rfl lt_0 _ _ hH ls (lv_sub hl [2, 3, 4, 1, 0] rfl)
    · refine nw_ifeq (tgt := 9) hx hb dX1_frontAt_4 (by decide) (by decide) (fun q => absurd q (by decide)) (fun _ => ?_)
      exact absurd hok hg1
set_option maxHeartbeats 4000000 in
set_option maxRecDepth 100000 in
theorem mX1_shortest (l : Launch) (dC : Nat → ClassId) (dI : Nat → Nat → Nat) (h : Nat → Nat) (d dz : ClassId) (sc : Nat → Nat) (ar : Nat → Nat → Nat) (x0 y0 : Int32) (hI : y_I sc ar) (sz : Nat) : Met l yX1_shortest (ws_ yX1_shortest cX1_shortest 5 (some .int)) (r_ 2) (y_Pc dC dI h d dz sz sc ar [.ref (h 0), .int x0, .int y0]) (va_Qi (fun r u => y_I u.1 u.2 ∧ nvM u.1 u.2 = (nvM sc ar) ∧ r = tr_shortest (nvM sc ar) x0 y0) (y_B dC dI (y_A h d dz sc ar sz) h d dz) (y_A h d dz sc ar sz)) 0 0 (y_A h d dz sc ar sz) := by
  refine y_headi (by decide +kernel) rfl (Nat.le_of_ble_eq_true rfl) ?_
  intro p e s m below meth c A av QQ hrt hlk F hA hH hQ ls hl
  have hx := F.1.1
  have hb := F.1.2.1
  have hts := F.1.2.2.2.2
  have hl : lv_has ls 5 [(0, .ref (h 0)), (1, .int x0), (2, .int y0)] := hl
  have ho := hI.1
  have hT20 : sc 5 ≤ 20 := ho.2.1
  have hn12 : sc 0 ≤ 12 := ho.1
  by_cases hok : sp_p x0 ∧ sp_p y0
  rotate_left
  · refine lv_iload_n hx hb dX1_shortest_0 rfl (lv_at hl 1 rfl) ?_
    refine y_calls F hH (As := [.int x0]) (rest := []) (mX1_badPlace l x0) (va_cwS 1 hts (lw_S q182 q183 q16 q184) rfl rfl rfl (by decide +kernel) ⟨Nat.le_of_ble_eq_true rfl, Nat.le_of_ble_eq_true rfl⟩) rfl hl.1 (Nat.le_of_ble_eq_true rfl) rfl dX1_shortest_1 ⟨Nat.zero_le _, Nat.zero_le _⟩ (fun r H locs hp hH => ?_)
    try dsimp only at hp
    rcases hp with ⟨hg1, rfl⟩ | ⟨hg1, rfl⟩
    · refine nw_ifne (tgt := 14) hx hb dX1_shortest_4 (by decide) (by decide) (fun q => absurd rfl q) (fun _ => ?_)
      refine lv_iload_n hx hb dX1_shortest_7 rfl (lv_at hl 2 rfl) ?_
      refine y_calls F hH (As := [.int y0]) (rest := []) (mX1_badPlace l y0) (va_cwS 1 hts (lw_S q182 q183 q16 q184) rfl rfl rfl (by decide +kernel) ⟨Nat.le_of_ble_eq_true rfl, Nat.le_of_ble_eq_true rfl⟩) rfl hl.1 (Nat.le_of_ble_eq_true rfl) rfl dX1_shortest_8 ⟨Nat.zero_le _, Nat.zero_le _⟩ (fun r H locs hp hH => ?_)
      try dsimp only at hp
      rcases hp with ⟨hg2, rfl⟩ | ⟨hg2, rfl⟩
      · refine nw_ifeq (tgt := 16) hx hb dX1_shortest_11 (by decide) (by decide) (fun _ => ?_) (fun q => absurd rfl q)
        exact absurd ⟨hg1, hg2⟩ hok
      · refine nw_ifeq (tgt := 16) hx hb dX1_shortest_11 (by decide) (by decide) (fun q => absurd q (by decide)) (fun _ => ?_)
        refine lv_iconst (v := -1) hx hb dX1_shortest_14 (by decide +kernel) ?_
        exact y_iret F hH hrt hlk hQ ⟨hI, rfl, (ci_f hok).symm⟩ dX1_shortest_15
    · refine nw_ifne (tgt := 14) hx hb dX1_shortest_4 (by decide) (by decide) (fun _ => ?_) (fun q => absurd q (by decide))
      refine lv_iconst (v := -1) hx hb dX1_shortest_14 (by decide +kernel) ?_
      exact y_iret F hH hrt hlk hQ ⟨hI, rfl, (ci_f hok).symm⟩ dX1_shortest_15
  · obtain ⟨x1, hx1, rfl⟩ := nw_toInt (x := x0) (n := 6) hok.1.1 hok.1.2 (by decide)
    obtain ⟨y1, hy1, rfl⟩ := nw_toInt (x := y0) (n := 6) hok.2.1 hok.2.2 (by decide)
    have L36 : ∀ (n : Nat) (t nn : Nat) (ar1 : Nat → Nat → Nat), 361 - t < n → (∀ k, k ≠ 8 → ar1 k = ar k) → th_ ar1 (fw_W (nv_E (nvM sc ar)) x1) → t ≤ 361 → nn = fc_n (fr_ 19 (fw_W (nv_E (nvM sc ar)) x1 y1)) t → ∀ (H : Heap) (locs : List Loc), yH dC dI A s.heap h d dz sc ar1 H locs → ∀ ls : Array Slot, lv_has ls 5 [(0, .ref (h 0)), (1, .int (nI x1)), (2, .int (nI y1)), (3, .int (nI nn)), (4, .int (nI t))] → W p l e (r_ 2) s m av below meth c H locs 0 0 QQ (F0 m 36 ls []) := by
      intro n
      induction n with
      | zero => intro _ _ _ hlt; exact absurd hlt (Nat.not_lt_zero _)
      | succ n ih =>
        intro t nn ar1 hn hf hth ht hnn H locs hH ls hl
        refine lv_iload hx hb dX1_shortest_36 (lv_at hl 4 rfl) ?_
        refine lv_sipush (v := nI 361) hx hb dX1_shortest_38 (by decide +kernel) ?_
        refine nw_ge (tgt := 71) hx hb dX1_shortest_41 (by decide) (by omega) (fun c41 => ?_) (fun c41 => ?_)
        · refine lv_iload_n hx hb dX1_shortest_71 rfl (lv_at hl 3 rfl) ?_
          exact y_iret F hH hrt hlk hQ ⟨(y_same hI hf).1, (y_same hI hf).2, by
            have et : t = 361 := by omega
            rw [tr_shortest_t hx1 hy1, hnn, et]⟩ dX1_shortest_72
        · refine lv_aload_n hx hb dX1_shortest_44 rfl (lv_at hl 0 rfl) ?_
          refine lv_iload_n hx hb dX1_shortest_45 rfl (lv_at hl 2 rfl) ?_
          refine lv_iload hx hb dX1_shortest_46 (lv_at hl 4 rfl) ?_
          refine lv_bipush (v := nI 19) hx hb dX1_shortest_48 (by decide +kernel) ?_
          refine nw_idiv hx hb dX1_shortest_50 (by omega) ?_
          refine lv_iload hx hb dX1_shortest_51 (lv_at hl 4 rfl) ?_
          refine lv_bipush (v := nI 19) hx hb dX1_shortest_53 (by decide +kernel) ?_
          refine nw_irem hx hb dX1_shortest_55 (by omega) ?_
          refine y_calli F hH hA (As := [.int (nI y1), .int (nI (t / 19)), .int (nI (t % 19))]) (rest := []) (fun sz => mX1_inFront l dC dI h d dz sc ar1 y1 (t / 19) (t % 19) (by omega) (by omega) (by omega) hth.1 sz) (cwV 3 hts (lw_V q240 q242 qs13 q16 q243) rfl rfl rfl (by decide +kernel) ⟨Nat.le_of_ble_eq_true rfl, Nat.le_of_ble_eq_true rfl⟩) rfl hl.1 (Nat.le_of_ble_eq_true rfl) rfl dX1_shortest_56 ⟨Nat.zero_le _, Nat.zero_le _⟩ (fun r sc_1 ar_2 H locs hp hH => ?_)
          try dsimp only at hp
          obtain ⟨⟨hq1, hq2⟩, hp⟩ := hp
          have hq1 : sc_1 = sc := hq1
          have hq2 : ar_2 = ar1 := hq2
          rw [hq1, hq2] at hH
          rcases hp with ⟨hif, rfl⟩ | ⟨hif, rfl⟩
          · have hif := (if_fr hth (w := 19) (pl := y1) (t := t) (by omega) (by omega) (by omega)).mp hif
            refine nw_ifeq (tgt := 65) hx hb dX1_shortest_59 (by decide) (by decide) (fun q => absurd q (by decide)) (fun _ => ?_)
            refine lv_iinc (v := (nI (nn + 1))) (lv' := [(3, .int (nI (nn + 1))), (0, .ref (h 0)), (1, .int (nI x1)), (2, .int (nI y1)), (4, .int (nI t))]) hx hb dX1_shortest_62 hl (k := 3) rfl (nw_inc _) (by decide) rfl (fun ls hl => ?_)
            refine lv_iinc (v := (nI (t + 1))) (lv' := [(4, .int (nI (t + 1))), (3, .int (nI (nn + 1))), (0, .ref (h 0)), (1, .int (nI x1)), (2, .int (nI y1))]) hx hb dX1_shortest_65 hl (k := 4) rfl (nw_inc _) (by decide) rfl (fun ls hl => ?_)
            refine lv_goto (tgt := 36) hx hb dX1_shortest_68 (by decide) ?_
            exact ih (t + 1) (nn + 1) ar1 (by omega) hf hth (by omega) (by rw [fc_t hif, hnn]) H locs hH ls (lv_sub hl [2, 3, 4, 1, 0] rfl)
          · have hif := fun q => hif ((if_fr hth (w := 19) (pl := y1) (t := t) (by omega) (by omega) (by omega)).mpr q)
            refine nw_ifeq (tgt := 65) hx hb dX1_shortest_59 (by decide) (by decide) (fun _ => ?_) (fun q => absurd rfl q)
            refine lv_iinc (v := (nI (t + 1))) (lv' := [(4, .int (nI (t + 1))), (0, .ref (h 0)), (1, .int (nI x1)), (2, .int (nI y1)), (3, .int (nI nn))]) hx hb dX1_shortest_65 hl (k := 4) rfl (nw_inc _) (by decide) rfl (fun ls hl => ?_)
            refine lv_goto (tgt := 36) hx hb dX1_shortest_68 (by decide) ?_
            exact ih (t + 1) nn ar1 (by omega) hf hth (by omega) (by rw [fc_f hif]; exact hnn) H locs hH ls (lv_sub hl [1, 2, 3, 4, 0] rfl)
    refine lv_iload_n hx hb dX1_shortest_0 rfl (lv_at hl 1 rfl) ?_
    refine y_calls F hH (As := [.int (nI x1)]) (rest := []) (mX1_badPlace l (nI x1)) (va_cwS 1 hts (lw_S q182 q183 q16 q184) rfl rfl rfl (by decide +kernel) ⟨Nat.le_of_ble_eq_true rfl, Nat.le_of_ble_eq_true rfl⟩) rfl hl.1 (Nat.le_of_ble_eq_true rfl) rfl dX1_shortest_1 ⟨Nat.zero_le _, Nat.zero_le _⟩ (fun r H locs hp hH => ?_)
    try dsimp only at hp
    rcases hp with ⟨hg1, rfl⟩ | ⟨hg1, rfl⟩
    · refine nw_ifne (tgt := 14) hx hb dX1_shortest_4 (by decide) (by decide) (fun q => absurd rfl q) (fun _ => ?_)
      refine lv_iload_n hx hb dX1_shortest_7 rfl (lv_at hl 2 rfl) ?_
      refine y_calls F hH (As := [.int (nI y1)]) (rest := []) (mX1_badPlace l (nI y1)) (va_cwS 1 hts (lw_S q182 q183 q16 q184) rfl rfl rfl (by decide +kernel) ⟨Nat.le_of_ble_eq_true rfl, Nat.le_of_ble_eq_true rfl⟩) rfl hl.1 (Nat.le_of_ble_eq_true rfl) rfl dX1_shortest_8 ⟨Nat.zero_le _, Nat.zero_le _⟩ (fun r H locs hp hH => ?_)
      try dsimp only at hp
      rcases hp with ⟨hg2, rfl⟩ | ⟨hg2, rfl⟩
      · refine nw_ifeq (tgt := 16) hx hb dX1_shortest_11 (by decide) (by decide) (fun _ => ?_) (fun q => absurd rfl q)
        refine lv_aload_n hx hb dX1_shortest_16 rfl (lv_at hl 0 rfl) ?_
        refine y_callv F hH hA (As := []) (rest := []) (fun sz => mX1_empty l dC dI h d dz sc ar sz) (cwV 0 hts (lw_V q216 q218 qs9 q16 q219) rfl rfl rfl (by decide +kernel) ⟨Nat.le_of_ble_eq_true rfl, Nat.le_of_ble_eq_true rfl⟩) rfl hl.1 (Nat.le_of_ble_eq_true rfl) rfl dX1_shortest_17 ⟨Nat.zero_le _, Nat.zero_le _⟩ (fun sc_3 ar_4 H locs hp hH => ?_)
        try dsimp only at hp
        obtain ⟨hq1, hp⟩ := hp
        have hq1 : sc_3 = sc := hq1
        rw [hq1] at hH
        obtain ⟨hp1, hp2⟩ := hp
        refine lv_aload_n hx hb dX1_shortest_20 rfl (lv_at hl 0 rfl) ?_
        refine lv_iload_n hx hb dX1_shortest_21 rfl (lv_at hl 1 rfl) ?_
        refine lv_iconst (v := nI 0) hx hb dX1_shortest_22 (by decide +kernel) ?_
        refine lv_iconst (v := nI 0) hx hb dX1_shortest_23 (by decide +kernel) ?_
        refine y_callv F hH hA (As := [.int (nI x1), .int (nI 0), .int (nI 0)]) (rest := []) (fun sz => mX1_set l dC dI h d dz sc ar_4 x1 0 0 (by omega) (by decide) (by decide) sz) (cwV 3 hts (lw_V q220 q222 qs10 q16 q223) rfl rfl rfl (by decide +kernel) ⟨Nat.le_of_ble_eq_true rfl, Nat.le_of_ble_eq_true rfl⟩) rfl hl.1 (Nat.le_of_ble_eq_true rfl) rfl dX1_shortest_24 ⟨Nat.zero_le _, Nat.zero_le _⟩ (fun sc_5 ar_6 H locs hp hH => ?_)
        try dsimp only at hp
        obtain ⟨hq1, hp⟩ := hp
        have hq1 : sc_5 = sc := hq1
        rw [hq1] at hH
        have hps := hp
        refine lv_aload_n hx hb dX1_shortest_27 rfl (lv_at hl 0 rfl) ?_
        refine y_callv F hH hA (As := []) (rest := []) (fun sz => mX1_spread l dC dI h d dz sc ar_6 hn12 (y_lines hI (one_f hp1 hps)) (one_z hp2 hps) sz) (cwV 0 hts (lw_V q224 q226 qs11 q16 q227) rfl rfl rfl (by decide +kernel) ⟨Nat.le_of_ble_eq_true rfl, Nat.le_of_ble_eq_true rfl⟩) rfl hl.1 (Nat.le_of_ble_eq_true rfl) rfl dX1_shortest_28 ⟨Nat.zero_le _, Nat.zero_le _⟩ (fun sc_7 ar_8 H locs hp hH => ?_)
        try dsimp only at hp
        obtain ⟨hq1, hp⟩ := hp
        have hq1 : sc_7 = sc := hq1
        rw [hq1] at hH
        obtain ⟨hp3, hp4⟩ := hp
        have hf3 := fun j hj => (hp3 j hj).trans (one_f hp1 hps j hj)
        have hth := one_th (x1 := x1) (by omega) hp1 hp2 hps hp4
        refine lv_iconst (v := nI 0) hx hb dX1_shortest_31 (by decide +kernel) ?_
        refine lv_istore_n (lv' := [(3, .int (nI 0)), (0, .ref (h 0)), (1, .int (nI x1)), (2, .int (nI y1))]) hx hb dX1_shortest_32 rfl hl (by decide) rfl (fun ls hl => ?_)
        refine lv_iconst (v := nI 0) hx hb dX1_shortest_33 (by decide +kernel) ?_
        refine lv_istore (lv' := [(4, .int (nI 0)), (3, .int (nI 0)), (0, .ref (h 0)), (1, .int (nI x1)), (2, .int (nI y1))]) hx hb dX1_shortest_34 hl (by decide) rfl (fun ls hl => ?_)
        exact L36 362 0 0 ar_8 (by omega) hf3 hth (by omega) rfl _ _ hH ls (lv_sub hl [2, 3, 4, 1, 0] rfl)
      · refine nw_ifeq (tgt := 16) hx hb dX1_shortest_11 (by decide) (by decide) (fun q => absurd q (by decide)) (fun _ => ?_)
        first | exact absurd hok.2 hg2 | exact absurd hok.1 hg1
    · refine nw_ifne (tgt := 14) hx hb dX1_shortest_4 (by decide) (by decide) (fun _ => ?_) (fun q => absurd q (by decide))
      first | exact absurd hok.2 hg2 | exact absurd hok.1 hg1
end
section
/-! the constructors -/
theorem na_0 (cA : ClassId) (n : Nat) : vp_cell cA (n, .inl (nA (fun _ => 0))) = arrV cA n (fun _ => defaultValue .int) := by
  rw [vp_cell_i]
  show arrV cA n (fun _ => .int (nI 0)) = arrV cA n (fun _ => .int 0)
  rw [nI_0]
theorem na_z (cA : ClassId) (n : Nat) : vp_cell cA (n, .inl (nA (fun _ => 0))) = arrV cA n (fun _ => defaultValue .boolean) := by
  rw [vp_cell_i]
  show arrV cA n (fun _ => .int (nI 0)) = arrV cA n (fun _ => .int 0)
  rw [nI_0]
def nv_0 : NV := (0, 0, fun _ => 0, fun _ => 0, fun _ => 0, fun _ => 0, fun _ => 0, fun _ => 0)
theorem nv_0_ok : nv_ok nv_0 := ⟨Nat.zero_le _, Nat.zero_le _, fun k hk => absurd hk (Nat.not_lt_zero k), fun k hk => absurd hk (Nat.not_lt_zero k)⟩
abbrev x_O0 : List Value := [.int (nI 0), .null, .null, .null, .null, .int (nI 0), .null, .null, .null, .null, .int (nI 0), .null, .null]
abbrev y_O0 : List Value := [.int (nI 0), .null, .null, .null, .null, .int (nI 0), .null, .null, .null, .null]
def x_B0 (dC : Nat → ClassId) (dI : Nat → Nat → Nat) (A : Nat → Prop) (u : (Nat → Nat) × ClassId × (Nat → Nat) × (Nat → Nat → Nat)) (t : State) : Prop := va_P (dC, dI) vwCl (xW u.1 u.2.1 u.2.2.1 u.2.2.2) t.heap ∧ va_K (dC, dI) vwCl [(u.2.1, .int)] t ∧ va_D A (xW u.1 u.2.1 u.2.2.1 u.2.2.2)
def x_p0 (h0 : Nat) (u : (Nat → Nat) × ClassId × (Nat → Nat) × (Nat → Nat → Nat)) : Prop := u.1 0 = h0 ∧ x_I u.2.2.1 u.2.2.2 ∧ nvX u.2.2.1 u.2.2.2 = nv_0
set_option maxHeartbeats 4000000 in
set_option maxRecDepth 100000 in
theorem mX0_init (l : Launch) (dC : Nat → ClassId) (dI : Nat → Nat → Nat) (h0 sz : Nat) : Met l yX0_init (ws_ yX0_init cX0_init 1 none) ({ frames := 3, cells := 10, slots := 2900, locals := 84 } : Room) (va_Pc [.ref h0] (fun U => U.heap.size = sz ∧ va_P (dC, dI) vwCl [(h0, .inr (0, x_O0))] U.heap ∧ va_K (dC, dI) vwCl [] U ∧ va_D (fun _ => True) [(h0, .inr (0, x_O0))])) (va_Qv (x_p0 h0) (x_B0 dC dI (va_A [(h0, .inr (0, x_O0))] sz)) (va_A [(h0, .inr (0, x_O0))] sz)) 10 2900 (va_A [(h0, .inr (0, x_O0))] sz) := by
  refine Met.ofW (cc := cX0_init) (maxL := 1) (ret := none) (by decide +kernel) rfl ?_
  intro p e s m args below meth c s₁ B hml hv
  obtain ⟨rfl, hsz, hP, hK, hD0⟩ := hv
  have hx := B.exec
  have hb := B.bytes
  have hr := B.returns
  have hts := atoms_spec (ws := ws_ yX0_init cX0_init 1 none) B.pre
  have hts : ∀ w ∈ lw_all, w.before _ s = true := fun w h => hts w (List.mem_cons_of_mem _ h)
  have hown : s.vm.findClass RX0 = some m.cls := findClass_of_methodNamed B.named
  have hlk := B.notSynchronized
  have hin : meth.name = "<init>" := (name_of_methodNamed B.named B.method).1
  subst hsz
  have hD := hD0.self (sz := s.heap.size)
  generalize hAe : va_A [(h0, .inr (0, x_O0))] s.heap.size = A at hD ⊢
  have hA : ∀ q : Nat, s.heap.size ≤ q → A q := fun q h => by rw [← hAe]; exact Or.inr h
  have hS : va_S A s.heap s.heap [] := va_S.rf
  have hP : va_P (dC, dI) vwCl [(h0, .inr (0, x_O0))] s.heap := hP
  have hl := lv_entry ([.ref h0]) (n := 1) (Nat.le_of_ble_eq_true rfl)
  rw [lg_entry_eq]
  generalize (lg_sl ([.ref h0]) ++ List.replicate (1 - (lg_sl ([.ref h0])).length) Slot.unset).toArray = ls at hl ⊢
  have hl : lv_has ls 1 [(0, .ref h0)] := hl
  refine lv_aload_n hx hb dX0_init_0 rfl (lv_at hl 0 rfl) ?_
  refine W.objInit hx hb hown (hts _ q22) (hts _ q23) (hts _ q24) rfl (by rw [hml]; exact hl.1) rfl dX0_init_1 (Nat.le_of_ble_eq_true rfl) (Nat.le_of_ble_eq_true rfl) ?_
  refine W.eq (g2 := F0 m 4 ls []) rfl ?_
  refine lv_aload_n hx hb dX0_init_4 rfl (lv_at hl 0 rfl) ?_
  refine lv_bipush (v := nI 12) hx hb dX0_init_5 (by decide +kernel) ?_
  refine va_newa (atype := .int) (ty := .int) (n := nI 12) (N' := 12) (a0 := (12, .inl (nA (fun _ => 0)))) hx hb (hts _ q81) rfl hK hP hD hS hA (fun cA => na_0 cA 12) (by decide +kernel) (nI_clamp (by decide)) (by decide +kernel) (Nat.le_of_ble_eq_true rfl) (Nat.le_of_ble_eq_true rfl) dX0_init_7 (fun q1 d1 H hK hP hD hS => ?_)
  have hK : va_K (dC, dI) vwCl [(d1, .int)] s := hK
  have hP : va_P (dC, dI) vwCl [(h0, .inr (0, [.int (nI 0), .null, .null, .null, .null, .int (nI 0), .null, .null, .null, .null, .int (nI 0), .null, .null])), (q1, .inl (d1, 12, .inl (nA (fun _ => 0))))] H := hP
  have hD : va_D A [(h0, .inr (0, [.int (nI 0), .null, .null, .null, .null, .int (nI 0), .null, .null, .null, .null, .int (nI 0), .null, .null])), (q1, .inl (d1, 12, .inl (nA (fun _ => 0))))] := hD
  refine W.widen (k := 1) (n := 12) (Nat.le_of_ble_eq_true rfl) (Nat.le_of_ble_eq_true rfl) ?_
  refine va_putF (D := (dC, dI)) (ci := 0) (v := .ref q1) (ty := .array .int) (C := RX0) (T := TX0) (N := 13) hx hb hts in_X0 tyX0 tyX0_ok nmX0 hown hK hP hD hS 0 rfl rfl 1 (by decide) (hts _ q42) (fun _ h9 => h9) rfl hin rfl (by decide +kernel) rfl rfl (Nat.le_of_ble_eq_true rfl) dX0_init_9 (fun H locs hP hD hS => ?_)
  have hP : va_P (dC, dI) vwCl [(h0, .inr (0, [.int (nI 0), .ref q1, .null, .null, .null, .int (nI 0), .null, .null, .null, .null, .int (nI 0), .null, .null])), (q1, .inl (d1, 12, .inl (nA (fun _ => 0))))] H := hP
  have hD : va_D A [(h0, .inr (0, [.int (nI 0), .ref q1, .null, .null, .null, .int (nI 0), .null, .null, .null, .null, .int (nI 0), .null, .null])), (q1, .inl (d1, 12, .inl (nA (fun _ => 0))))] := hD
  refine lv_aload_n hx hb dX0_init_12 rfl (lv_at hl 0 rfl) ?_
  refine lv_bipush (v := nI 12) hx hb dX0_init_13 (by decide +kernel) ?_
  refine va_newa (atype := .int) (ty := .int) (n := nI 12) (N' := 12) (a0 := (12, .inl (nA (fun _ => 0)))) hx hb (hts _ q81) rfl hK hP hD hS hA (fun cA => na_0 cA 12) (by decide +kernel) (nI_clamp (by decide)) (by decide +kernel) (Nat.le_of_ble_eq_true rfl) (Nat.le_of_ble_eq_true rfl) dX0_init_15 (fun q2 d2 H hK hP hD hS => ?_)
  have hK : va_K (dC, dI) vwCl [(d1, .int), (d2, .int)] s := hK
  have e2 : d1 = d2 := va_one (hK.2 0 _ rfl).2 (hK.2 1 _ rfl).2
  subst e2
  have hK := hK.sub (tys' := [(d1, .int)]) [0] rfl
  have hP : va_P (dC, dI) vwCl [(h0, .inr (0, [.int (nI 0), .ref q1, .null, .null, .null, .int (nI 0), .null, .null, .null, .null, .int (nI 0), .null, .null])), (q1, .inl (d1, 12, .inl (nA (fun _ => 0)))), (q2, .inl (d1, 12, .inl (nA (fun _ => 0))))] H := hP
  have hD : va_D A [(h0, .inr (0, [.int (nI 0), .ref q1, .null, .null, .null, .int (nI 0), .null, .null, .null, .null, .int (nI 0), .null, .null])), (q1, .inl (d1, 12, .inl (nA (fun _ => 0)))), (q2, .inl (d1, 12, .inl (nA (fun _ => 0))))] := hD
  refine W.widen (k := 2) (n := 24) (Nat.le_of_ble_eq_true rfl) (Nat.le_of_ble_eq_true rfl) ?_
  refine va_putF (D := (dC, dI)) (ci := 0) (v := .ref q2) (ty := .array .int) (C := RX0) (T := TX0) (N := 13) hx hb hts in_X0 tyX0 tyX0_ok nmX0 hown hK hP hD hS 0 rfl rfl 2 (by decide) (hts _ q43) (fun _ h9 => h9) rfl hin rfl (by decide +kernel) rfl rfl (Nat.le_of_ble_eq_true rfl) dX0_init_17 (fun H locs hP hD hS => ?_)
  have hP : va_P (dC, dI) vwCl [(h0, .inr (0, [.int (nI 0), .ref q1, .ref q2, .null, .null, .int (nI 0), .null, .null, .null, .null, .int (nI 0), .null, .null])), (q1, .inl (d1, 12, .inl (nA (fun _ => 0)))), (q2, .inl (d1, 12, .inl (nA (fun _ => 0))))] H := hP
  have hD : va_D A [(h0, .inr (0, [.int (nI 0), .ref q1, .ref q2, .null, .null, .int (nI 0), .null, .null, .null, .null, .int (nI 0), .null, .null])), (q1, .inl (d1, 12, .inl (nA (fun _ => 0)))), (q2, .inl (d1, 12, .inl (nA (fun _ => 0))))] := hD
  refine lv_aload_n hx hb dX0_init_20 rfl (lv_at hl 0 rfl) ?_
  refine lv_bipush (v := nI 12) hx hb dX0_init_21 (by decide +kernel) ?_
  refine va_newa (atype := .int) (ty := .int) (n := nI 12) (N' := 12) (a0 := (12, .inl (nA (fun _ => 0)))) hx hb (hts _ q81) rfl hK hP hD hS hA (fun cA => na_0 cA 12) (by decide +kernel) (nI_clamp (by decide)) (by decide +kernel) (Nat.le_of_ble_eq_true rfl) (Nat.le_of_ble_eq_true rfl) dX0_init_23 (fun q3 d3 H hK hP hD hS => ?_)
  have hK : va_K (dC, dI) vwCl [(d1, .int), (d3, .int)] s := hK
  have e3 : d1 = d3 := va_one (hK.2 0 _ rfl).2 (hK.2 1 _ rfl).2
  subst e3
  have hK := hK.sub (tys' := [(d1, .int)]) [0] rfl
  have hP : va_P (dC, dI) vwCl [(h0, .inr (0, [.int (nI 0), .ref q1, .ref q2, .null, .null, .int (nI 0), .null, .null, .null, .null, .int (nI 0), .null, .null])), (q1, .inl (d1, 12, .inl (nA (fun _ => 0)))), (q2, .inl (d1, 12, .inl (nA (fun _ => 0)))), (q3, .inl (d1, 12, .inl (nA (fun _ => 0))))] H := hP
  have hD : va_D A [(h0, .inr (0, [.int (nI 0), .ref q1, .ref q2, .null, .null, .int (nI 0), .null, .null, .null, .null, .int (nI 0), .null, .null])), (q1, .inl (d1, 12, .inl (nA (fun _ => 0)))), (q2, .inl (d1, 12, .inl (nA (fun _ => 0)))), (q3, .inl (d1, 12, .inl (nA (fun _ => 0))))] := hD
  refine W.widen (k := 3) (n := 36) (Nat.le_of_ble_eq_true rfl) (Nat.le_of_ble_eq_true rfl) ?_
  refine va_putF (D := (dC, dI)) (ci := 0) (v := .ref q3) (ty := .array .int) (C := RX0) (T := TX0) (N := 13) hx hb hts in_X0 tyX0 tyX0_ok nmX0 hown hK hP hD hS 0 rfl rfl 3 (by decide) (hts _ q44) (fun _ h9 => h9) rfl hin rfl (by decide +kernel) rfl rfl (Nat.le_of_ble_eq_true rfl) dX0_init_25 (fun H locs hP hD hS => ?_)
  have hP : va_P (dC, dI) vwCl [(h0, .inr (0, [.int (nI 0), .ref q1, .ref q2, .ref q3, .null, .int (nI 0), .null, .null, .null, .null, .int (nI 0), .null, .null])), (q1, .inl (d1, 12, .inl (nA (fun _ => 0)))), (q2, .inl (d1, 12, .inl (nA (fun _ => 0)))), (q3, .inl (d1, 12, .inl (nA (fun _ => 0))))] H := hP
  have hD : va_D A [(h0, .inr (0, [.int (nI 0), .ref q1, .ref q2, .ref q3, .null, .int (nI 0), .null, .null, .null, .null, .int (nI 0), .null, .null])), (q1, .inl (d1, 12, .inl (nA (fun _ => 0)))), (q2, .inl (d1, 12, .inl (nA (fun _ => 0)))), (q3, .inl (d1, 12, .inl (nA (fun _ => 0))))] := hD
  refine lv_aload_n hx hb dX0_init_28 rfl (lv_at hl 0 rfl) ?_
  refine lv_bipush (v := nI 12) hx hb dX0_init_29 (by decide +kernel) ?_
  refine va_newa (atype := .int) (ty := .int) (n := nI 12) (N' := 12) (a0 := (12, .inl (nA (fun _ => 0)))) hx hb (hts _ q81) rfl hK hP hD hS hA (fun cA => na_0 cA 12) (by decide +kernel) (nI_clamp (by decide)) (by decide +kernel) (Nat.le_of_ble_eq_true rfl) (Nat.le_of_ble_eq_true rfl) dX0_init_31 (fun q4 d4 H hK hP hD hS => ?_)
  have hK : va_K (dC, dI) vwCl [(d1, .int), (d4, .int)] s := hK
  have e4 : d1 = d4 := va_one (hK.2 0 _ rfl).2 (hK.2 1 _ rfl).2
  subst e4
  have hK := hK.sub (tys' := [(d1, .int)]) [0] rfl
  have hP : va_P (dC, dI) vwCl [(h0, .inr (0, [.int (nI 0), .ref q1, .ref q2, .ref q3, .null, .int (nI 0), .null, .null, .null, .null, .int (nI 0), .null, .null])), (q1, .inl (d1, 12, .inl (nA (fun _ => 0)))), (q2, .inl (d1, 12, .inl (nA (fun _ => 0)))), (q3, .inl (d1, 12, .inl (nA (fun _ => 0)))), (q4, .inl (d1, 12, .inl (nA (fun _ => 0))))] H := hP
  have hD : va_D A [(h0, .inr (0, [.int (nI 0), .ref q1, .ref q2, .ref q3, .null, .int (nI 0), .null, .null, .null, .null, .int (nI 0), .null, .null])), (q1, .inl (d1, 12, .inl (nA (fun _ => 0)))), (q2, .inl (d1, 12, .inl (nA (fun _ => 0)))), (q3, .inl (d1, 12, .inl (nA (fun _ => 0)))), (q4, .inl (d1, 12, .inl (nA (fun _ => 0))))] := hD
  refine W.widen (k := 4) (n := 48) (Nat.le_of_ble_eq_true rfl) (Nat.le_of_ble_eq_true rfl) ?_
  refine va_putF (D := (dC, dI)) (ci := 0) (v := .ref q4) (ty := .array .int) (C := RX0) (T := TX0) (N := 13) hx hb hts in_X0 tyX0 tyX0_ok nmX0 hown hK hP hD hS 0 rfl rfl 4 (by decide) (hts _ q45) (fun _ h9 => h9) rfl hin rfl (by decide +kernel) rfl rfl (Nat.le_of_ble_eq_true rfl) dX0_init_33 (fun H locs hP hD hS => ?_)
  have hP : va_P (dC, dI) vwCl [(h0, .inr (0, [.int (nI 0), .ref q1, .ref q2, .ref q3, .ref q4, .int (nI 0), .null, .null, .null, .null, .int (nI 0), .null, .null])), (q1, .inl (d1, 12, .inl (nA (fun _ => 0)))), (q2, .inl (d1, 12, .inl (nA (fun _ => 0)))), (q3, .inl (d1, 12, .inl (nA (fun _ => 0)))), (q4, .inl (d1, 12, .inl (nA (fun _ => 0))))] H := hP
  have hD : va_D A [(h0, .inr (0, [.int (nI 0), .ref q1, .ref q2, .ref q3, .ref q4, .int (nI 0), .null, .null, .null, .null, .int (nI 0), .null, .null])), (q1, .inl (d1, 12, .inl (nA (fun _ => 0)))), (q2, .inl (d1, 12, .inl (nA (fun _ => 0)))), (q3, .inl (d1, 12, .inl (nA (fun _ => 0)))), (q4, .inl (d1, 12, .inl (nA (fun _ => 0))))] := hD
  refine lv_aload_n hx hb dX0_init_36 rfl (lv_at hl 0 rfl) ?_
  refine lv_bipush (v := nI 20) hx hb dX0_init_37 (by decide +kernel) ?_
  refine va_newa (atype := .int) (ty := .int) (n := nI 20) (N' := 20) (a0 := (20, .inl (nA (fun _ => 0)))) hx hb (hts _ q81) rfl hK hP hD hS hA (fun cA => na_0 cA 20) (by decide +kernel) (nI_clamp (by decide)) (by decide +kernel) (Nat.le_of_ble_eq_true rfl) (Nat.le_of_ble_eq_true rfl) dX0_init_39 (fun q5 d5 H hK hP hD hS => ?_)
  have hK : va_K (dC, dI) vwCl [(d1, .int), (d5, .int)] s := hK
  have e5 : d1 = d5 := va_one (hK.2 0 _ rfl).2 (hK.2 1 _ rfl).2
  subst e5
  have hK := hK.sub (tys' := [(d1, .int)]) [0] rfl
  have hP : va_P (dC, dI) vwCl [(h0, .inr (0, [.int (nI 0), .ref q1, .ref q2, .ref q3, .ref q4, .int (nI 0), .null, .null, .null, .null, .int (nI 0), .null, .null])), (q1, .inl (d1, 12, .inl (nA (fun _ => 0)))), (q2, .inl (d1, 12, .inl (nA (fun _ => 0)))), (q3, .inl (d1, 12, .inl (nA (fun _ => 0)))), (q4, .inl (d1, 12, .inl (nA (fun _ => 0)))), (q5, .inl (d1, 20, .inl (nA (fun _ => 0))))] H := hP
  have hD : va_D A [(h0, .inr (0, [.int (nI 0), .ref q1, .ref q2, .ref q3, .ref q4, .int (nI 0), .null, .null, .null, .null, .int (nI 0), .null, .null])), (q1, .inl (d1, 12, .inl (nA (fun _ => 0)))), (q2, .inl (d1, 12, .inl (nA (fun _ => 0)))), (q3, .inl (d1, 12, .inl (nA (fun _ => 0)))), (q4, .inl (d1, 12, .inl (nA (fun _ => 0)))), (q5, .inl (d1, 20, .inl (nA (fun _ => 0))))] := hD
  refine W.widen (k := 5) (n := 68) (Nat.le_of_ble_eq_true rfl) (Nat.le_of_ble_eq_true rfl) ?_
  refine va_putF (D := (dC, dI)) (ci := 0) (v := .ref q5) (ty := .array .int) (C := RX0) (T := TX0) (N := 13) hx hb hts in_X0 tyX0 tyX0_ok nmX0 hown hK hP hD hS 0 rfl rfl 6 (by decide) (hts _ q47) (fun _ h9 => h9) rfl hin rfl (by decide +kernel) rfl rfl (Nat.le_of_ble_eq_true rfl) dX0_init_41 (fun H locs hP hD hS => ?_)
  have hP : va_P (dC, dI) vwCl [(h0, .inr (0, [.int (nI 0), .ref q1, .ref q2, .ref q3, .ref q4, .int (nI 0), .ref q5, .null, .null, .null, .int (nI 0), .null, .null])), (q1, .inl (d1, 12, .inl (nA (fun _ => 0)))), (q2, .inl (d1, 12, .inl (nA (fun _ => 0)))), (q3, .inl (d1, 12, .inl (nA (fun _ => 0)))), (q4, .inl (d1, 12, .inl (nA (fun _ => 0)))), (q5, .inl (d1, 20, .inl (nA (fun _ => 0))))] H := hP
  have hD : va_D A [(h0, .inr (0, [.int (nI 0), .ref q1, .ref q2, .ref q3, .ref q4, .int (nI 0), .ref q5, .null, .null, .null, .int (nI 0), .null, .null])), (q1, .inl (d1, 12, .inl (nA (fun _ => 0)))), (q2, .inl (d1, 12, .inl (nA (fun _ => 0)))), (q3, .inl (d1, 12, .inl (nA (fun _ => 0)))), (q4, .inl (d1, 12, .inl (nA (fun _ => 0)))), (q5, .inl (d1, 20, .inl (nA (fun _ => 0))))] := hD
  refine lv_aload_n hx hb dX0_init_44 rfl (lv_at hl 0 rfl) ?_
  refine lv_bipush (v := nI 20) hx hb dX0_init_45 (by decide +kernel) ?_
  refine va_newa (atype := .int) (ty := .int) (n := nI 20) (N' := 20) (a0 := (20, .inl (nA (fun _ => 0)))) hx hb (hts _ q81) rfl hK hP hD hS hA (fun cA => na_0 cA 20) (by decide +kernel) (nI_clamp (by decide)) (by decide +kernel) (Nat.le_of_ble_eq_true rfl) (Nat.le_of_ble_eq_true rfl) dX0_init_47 (fun q6 d6 H hK hP hD hS => ?_)
  have hK : va_K (dC, dI) vwCl [(d1, .int), (d6, .int)] s := hK
  have e6 : d1 = d6 := va_one (hK.2 0 _ rfl).2 (hK.2 1 _ rfl).2
  subst e6
  have hK := hK.sub (tys' := [(d1, .int)]) [0] rfl
  have hP : va_P (dC, dI) vwCl [(h0, .inr (0, [.int (nI 0), .ref q1, .ref q2, .ref q3, .ref q4, .int (nI 0), .ref q5, .null, .null, .null, .int (nI 0), .null, .null])), (q1, .inl (d1, 12, .inl (nA (fun _ => 0)))), (q2, .inl (d1, 12, .inl (nA (fun _ => 0)))), (q3, .inl (d1, 12, .inl (nA (fun _ => 0)))), (q4, .inl (d1, 12, .inl (nA (fun _ => 0)))), (q5, .inl (d1, 20, .inl (nA (fun _ => 0)))), (q6, .inl (d1, 20, .inl (nA (fun _ => 0))))] H := hP
  have hD : va_D A [(h0, .inr (0, [.int (nI 0), .ref q1, .ref q2, .ref q3, .ref q4, .int (nI 0), .ref q5, .null, .null, .null, .int (nI 0), .null, .null])), (q1, .inl (d1, 12, .inl (nA (fun _ => 0)))), (q2, .inl (d1, 12, .inl (nA (fun _ => 0)))), (q3, .inl (d1, 12, .inl (nA (fun _ => 0)))), (q4, .inl (d1, 12, .inl (nA (fun _ => 0)))), (q5, .inl (d1, 20, .inl (nA (fun _ => 0)))), (q6, .inl (d1, 20, .inl (nA (fun _ => 0))))] := hD
  refine W.widen (k := 6) (n := 88) (Nat.le_of_ble_eq_true rfl) (Nat.le_of_ble_eq_true rfl) ?_
  refine va_putF (D := (dC, dI)) (ci := 0) (v := .ref q6) (ty := .array .int) (C := RX0) (T := TX0) (N := 13) hx hb hts in_X0 tyX0 tyX0_ok nmX0 hown hK hP hD hS 0 rfl rfl 7 (by decide) (hts _ q48) (fun _ h9 => h9) rfl hin rfl (by decide +kernel) rfl rfl (Nat.le_of_ble_eq_true rfl) dX0_init_49 (fun H locs hP hD hS => ?_)
  have hP : va_P (dC, dI) vwCl [(h0, .inr (0, [.int (nI 0), .ref q1, .ref q2, .ref q3, .ref q4, .int (nI 0), .ref q5, .ref q6, .null, .null, .int (nI 0), .null, .null])), (q1, .inl (d1, 12, .inl (nA (fun _ => 0)))), (q2, .inl (d1, 12, .inl (nA (fun _ => 0)))), (q3, .inl (d1, 12, .inl (nA (fun _ => 0)))), (q4, .inl (d1, 12, .inl (nA (fun _ => 0)))), (q5, .inl (d1, 20, .inl (nA (fun _ => 0)))), (q6, .inl (d1, 20, .inl (nA (fun _ => 0))))] H := hP
  have hD : va_D A [(h0, .inr (0, [.int (nI 0), .ref q1, .ref q2, .ref q3, .ref q4, .int (nI 0), .ref q5, .ref q6, .null, .null, .int (nI 0), .null, .null])), (q1, .inl (d1, 12, .inl (nA (fun _ => 0)))), (q2, .inl (d1, 12, .inl (nA (fun _ => 0)))), (q3, .inl (d1, 12, .inl (nA (fun _ => 0)))), (q4, .inl (d1, 12, .inl (nA (fun _ => 0)))), (q5, .inl (d1, 20, .inl (nA (fun _ => 0)))), (q6, .inl (d1, 20, .inl (nA (fun _ => 0))))] := hD
  refine lv_aload_n hx hb dX0_init_52 rfl (lv_at hl 0 rfl) ?_
  refine lv_bipush (v := nI 49) hx hb dX0_init_53 (by decide +kernel) ?_
  refine va_newa (atype := .int) (ty := .int) (n := nI 49) (N' := 49) (a0 := (49, .inl (nA (fun _ => 0)))) hx hb (hts _ q81) rfl hK hP hD hS hA (fun cA => na_0 cA 49) (by decide +kernel) (nI_clamp (by decide)) (by decide +kernel) (Nat.le_of_ble_eq_true rfl) (Nat.le_of_ble_eq_true rfl) dX0_init_55 (fun q7 d7 H hK hP hD hS => ?_)
  have hK : va_K (dC, dI) vwCl [(d1, .int), (d7, .int)] s := hK
  have e7 : d1 = d7 := va_one (hK.2 0 _ rfl).2 (hK.2 1 _ rfl).2
  subst e7
  have hK := hK.sub (tys' := [(d1, .int)]) [0] rfl
  have hP : va_P (dC, dI) vwCl [(h0, .inr (0, [.int (nI 0), .ref q1, .ref q2, .ref q3, .ref q4, .int (nI 0), .ref q5, .ref q6, .null, .null, .int (nI 0), .null, .null])), (q1, .inl (d1, 12, .inl (nA (fun _ => 0)))), (q2, .inl (d1, 12, .inl (nA (fun _ => 0)))), (q3, .inl (d1, 12, .inl (nA (fun _ => 0)))), (q4, .inl (d1, 12, .inl (nA (fun _ => 0)))), (q5, .inl (d1, 20, .inl (nA (fun _ => 0)))), (q6, .inl (d1, 20, .inl (nA (fun _ => 0)))), (q7, .inl (d1, 49, .inl (nA (fun _ => 0))))] H := hP
  have hD : va_D A [(h0, .inr (0, [.int (nI 0), .ref q1, .ref q2, .ref q3, .ref q4, .int (nI 0), .ref q5, .ref q6, .null, .null, .int (nI 0), .null, .null])), (q1, .inl (d1, 12, .inl (nA (fun _ => 0)))), (q2, .inl (d1, 12, .inl (nA (fun _ => 0)))), (q3, .inl (d1, 12, .inl (nA (fun _ => 0)))), (q4, .inl (d1, 12, .inl (nA (fun _ => 0)))), (q5, .inl (d1, 20, .inl (nA (fun _ => 0)))), (q6, .inl (d1, 20, .inl (nA (fun _ => 0)))), (q7, .inl (d1, 49, .inl (nA (fun _ => 0))))] := hD
  refine W.widen (k := 7) (n := 137) (Nat.le_of_ble_eq_true rfl) (Nat.le_of_ble_eq_true rfl) ?_
  refine va_putF (D := (dC, dI)) (ci := 0) (v := .ref q7) (ty := .array .int) (C := RX0) (T := TX0) (N := 13) hx hb hts in_X0 tyX0 tyX0_ok nmX0 hown hK hP hD hS 0 rfl rfl 8 (by decide) (hts _ q49) (fun _ h9 => h9) rfl hin rfl (by decide +kernel) rfl rfl (Nat.le_of_ble_eq_true rfl) dX0_init_57 (fun H locs hP hD hS => ?_)
  have hP : va_P (dC, dI) vwCl [(h0, .inr (0, [.int (nI 0), .ref q1, .ref q2, .ref q3, .ref q4, .int (nI 0), .ref q5, .ref q6, .ref q7, .null, .int (nI 0), .null, .null])), (q1, .inl (d1, 12, .inl (nA (fun _ => 0)))), (q2, .inl (d1, 12, .inl (nA (fun _ => 0)))), (q3, .inl (d1, 12, .inl (nA (fun _ => 0)))), (q4, .inl (d1, 12, .inl (nA (fun _ => 0)))), (q5, .inl (d1, 20, .inl (nA (fun _ => 0)))), (q6, .inl (d1, 20, .inl (nA (fun _ => 0)))), (q7, .inl (d1, 49, .inl (nA (fun _ => 0))))] H := hP
  have hD : va_D A [(h0, .inr (0, [.int (nI 0), .ref q1, .ref q2, .ref q3, .ref q4, .int (nI 0), .ref q5, .ref q6, .ref q7, .null, .int (nI 0), .null, .null])), (q1, .inl (d1, 12, .inl (nA (fun _ => 0)))), (q2, .inl (d1, 12, .inl (nA (fun _ => 0)))), (q3, .inl (d1, 12, .inl (nA (fun _ => 0)))), (q4, .inl (d1, 12, .inl (nA (fun _ => 0)))), (q5, .inl (d1, 20, .inl (nA (fun _ => 0)))), (q6, .inl (d1, 20, .inl (nA (fun _ => 0)))), (q7, .inl (d1, 49, .inl (nA (fun _ => 0))))] := hD
  refine lv_aload_n hx hb dX0_init_60 rfl (lv_at hl 0 rfl) ?_
  refine lv_sipush (v := nI 931) hx hb dX0_init_61 (by decide +kernel) ?_
  refine va_newa (atype := .int) (ty := .int) (n := nI 931) (N' := 931) (a0 := (931, .inl (nA (fun _ => 0)))) hx hb (hts _ q81) rfl hK hP hD hS hA (fun cA => na_0 cA 931) (by decide +kernel) (nI_clamp (by decide)) (by decide +kernel) (Nat.le_of_ble_eq_true rfl) (Nat.le_of_ble_eq_true rfl) dX0_init_64 (fun q8 d8 H hK hP hD hS => ?_)
  have hK : va_K (dC, dI) vwCl [(d1, .int), (d8, .int)] s := hK
  have e8 : d1 = d8 := va_one (hK.2 0 _ rfl).2 (hK.2 1 _ rfl).2
  subst e8
  have hK := hK.sub (tys' := [(d1, .int)]) [0] rfl
  have hP : va_P (dC, dI) vwCl [(h0, .inr (0, [.int (nI 0), .ref q1, .ref q2, .ref q3, .ref q4, .int (nI 0), .ref q5, .ref q6, .ref q7, .null, .int (nI 0), .null, .null])), (q1, .inl (d1, 12, .inl (nA (fun _ => 0)))), (q2, .inl (d1, 12, .inl (nA (fun _ => 0)))), (q3, .inl (d1, 12, .inl (nA (fun _ => 0)))), (q4, .inl (d1, 12, .inl (nA (fun _ => 0)))), (q5, .inl (d1, 20, .inl (nA (fun _ => 0)))), (q6, .inl (d1, 20, .inl (nA (fun _ => 0)))), (q7, .inl (d1, 49, .inl (nA (fun _ => 0)))), (q8, .inl (d1, 931, .inl (nA (fun _ => 0))))] H := hP
  have hD : va_D A [(h0, .inr (0, [.int (nI 0), .ref q1, .ref q2, .ref q3, .ref q4, .int (nI 0), .ref q5, .ref q6, .ref q7, .null, .int (nI 0), .null, .null])), (q1, .inl (d1, 12, .inl (nA (fun _ => 0)))), (q2, .inl (d1, 12, .inl (nA (fun _ => 0)))), (q3, .inl (d1, 12, .inl (nA (fun _ => 0)))), (q4, .inl (d1, 12, .inl (nA (fun _ => 0)))), (q5, .inl (d1, 20, .inl (nA (fun _ => 0)))), (q6, .inl (d1, 20, .inl (nA (fun _ => 0)))), (q7, .inl (d1, 49, .inl (nA (fun _ => 0)))), (q8, .inl (d1, 931, .inl (nA (fun _ => 0))))] := hD
  refine W.widen (k := 8) (n := 1068) (Nat.le_of_ble_eq_true rfl) (Nat.le_of_ble_eq_true rfl) ?_
  refine va_putF (D := (dC, dI)) (ci := 0) (v := .ref q8) (ty := .array .int) (C := RX0) (T := TX0) (N := 13) hx hb hts in_X0 tyX0 tyX0_ok nmX0 hown hK hP hD hS 0 rfl rfl 9 (by decide) (hts _ q50) (fun _ h9 => h9) rfl hin rfl (by decide +kernel) rfl rfl (Nat.le_of_ble_eq_true rfl) dX0_init_66 (fun H locs hP hD hS => ?_)
  have hP : va_P (dC, dI) vwCl [(h0, .inr (0, [.int (nI 0), .ref q1, .ref q2, .ref q3, .ref q4, .int (nI 0), .ref q5, .ref q6, .ref q7, .ref q8, .int (nI 0), .null, .null])), (q1, .inl (d1, 12, .inl (nA (fun _ => 0)))), (q2, .inl (d1, 12, .inl (nA (fun _ => 0)))), (q3, .inl (d1, 12, .inl (nA (fun _ => 0)))), (q4, .inl (d1, 12, .inl (nA (fun _ => 0)))), (q5, .inl (d1, 20, .inl (nA (fun _ => 0)))), (q6, .inl (d1, 20, .inl (nA (fun _ => 0)))), (q7, .inl (d1, 49, .inl (nA (fun _ => 0)))), (q8, .inl (d1, 931, .inl (nA (fun _ => 0))))] H := hP
  have hD : va_D A [(h0, .inr (0, [.int (nI 0), .ref q1, .ref q2, .ref q3, .ref q4, .int (nI 0), .ref q5, .ref q6, .ref q7, .ref q8, .int (nI 0), .null, .null])), (q1, .inl (d1, 12, .inl (nA (fun _ => 0)))), (q2, .inl (d1, 12, .inl (nA (fun _ => 0)))), (q3, .inl (d1, 12, .inl (nA (fun _ => 0)))), (q4, .inl (d1, 12, .inl (nA (fun _ => 0)))), (q5, .inl (d1, 20, .inl (nA (fun _ => 0)))), (q6, .inl (d1, 20, .inl (nA (fun _ => 0)))), (q7, .inl (d1, 49, .inl (nA (fun _ => 0)))), (q8, .inl (d1, 931, .inl (nA (fun _ => 0))))] := hD
  refine lv_aload_n hx hb dX0_init_69 rfl (lv_at hl 0 rfl) ?_
  refine lv_bipush (v := nI 40) hx hb dX0_init_70 (by decide +kernel) ?_
  refine va_newa (atype := .int) (ty := .int) (n := nI 40) (N' := 40) (a0 := (40, .inl (nA (fun _ => 0)))) hx hb (hts _ q81) rfl hK hP hD hS hA (fun cA => na_0 cA 40) (by decide +kernel) (nI_clamp (by decide)) (by decide +kernel) (Nat.le_of_ble_eq_true rfl) (Nat.le_of_ble_eq_true rfl) dX0_init_72 (fun q9 d9 H hK hP hD hS => ?_)
  have hK : va_K (dC, dI) vwCl [(d1, .int), (d9, .int)] s := hK
  have e9 : d1 = d9 := va_one (hK.2 0 _ rfl).2 (hK.2 1 _ rfl).2
  subst e9
  have hK := hK.sub (tys' := [(d1, .int)]) [0] rfl
  have hP : va_P (dC, dI) vwCl [(h0, .inr (0, [.int (nI 0), .ref q1, .ref q2, .ref q3, .ref q4, .int (nI 0), .ref q5, .ref q6, .ref q7, .ref q8, .int (nI 0), .null, .null])), (q1, .inl (d1, 12, .inl (nA (fun _ => 0)))), (q2, .inl (d1, 12, .inl (nA (fun _ => 0)))), (q3, .inl (d1, 12, .inl (nA (fun _ => 0)))), (q4, .inl (d1, 12, .inl (nA (fun _ => 0)))), (q5, .inl (d1, 20, .inl (nA (fun _ => 0)))), (q6, .inl (d1, 20, .inl (nA (fun _ => 0)))), (q7, .inl (d1, 49, .inl (nA (fun _ => 0)))), (q8, .inl (d1, 931, .inl (nA (fun _ => 0)))), (q9, .inl (d1, 40, .inl (nA (fun _ => 0))))] H := hP
  have hD : va_D A [(h0, .inr (0, [.int (nI 0), .ref q1, .ref q2, .ref q3, .ref q4, .int (nI 0), .ref q5, .ref q6, .ref q7, .ref q8, .int (nI 0), .null, .null])), (q1, .inl (d1, 12, .inl (nA (fun _ => 0)))), (q2, .inl (d1, 12, .inl (nA (fun _ => 0)))), (q3, .inl (d1, 12, .inl (nA (fun _ => 0)))), (q4, .inl (d1, 12, .inl (nA (fun _ => 0)))), (q5, .inl (d1, 20, .inl (nA (fun _ => 0)))), (q6, .inl (d1, 20, .inl (nA (fun _ => 0)))), (q7, .inl (d1, 49, .inl (nA (fun _ => 0)))), (q8, .inl (d1, 931, .inl (nA (fun _ => 0)))), (q9, .inl (d1, 40, .inl (nA (fun _ => 0))))] := hD
  refine W.widen (k := 9) (n := 1108) (Nat.le_of_ble_eq_true rfl) (Nat.le_of_ble_eq_true rfl) ?_
  refine va_putF (D := (dC, dI)) (ci := 0) (v := .ref q9) (ty := .array .int) (C := RX0) (T := TX0) (N := 13) hx hb hts in_X0 tyX0 tyX0_ok nmX0 hown hK hP hD hS 0 rfl rfl 11 (by decide) (hts _ q52) (fun _ h9 => h9) rfl hin rfl (by decide +kernel) rfl rfl (Nat.le_of_ble_eq_true rfl) dX0_init_74 (fun H locs hP hD hS => ?_)
  have hP : va_P (dC, dI) vwCl [(h0, .inr (0, [.int (nI 0), .ref q1, .ref q2, .ref q3, .ref q4, .int (nI 0), .ref q5, .ref q6, .ref q7, .ref q8, .int (nI 0), .ref q9, .null])), (q1, .inl (d1, 12, .inl (nA (fun _ => 0)))), (q2, .inl (d1, 12, .inl (nA (fun _ => 0)))), (q3, .inl (d1, 12, .inl (nA (fun _ => 0)))), (q4, .inl (d1, 12, .inl (nA (fun _ => 0)))), (q5, .inl (d1, 20, .inl (nA (fun _ => 0)))), (q6, .inl (d1, 20, .inl (nA (fun _ => 0)))), (q7, .inl (d1, 49, .inl (nA (fun _ => 0)))), (q8, .inl (d1, 931, .inl (nA (fun _ => 0)))), (q9, .inl (d1, 40, .inl (nA (fun _ => 0))))] H := hP
  have hD : va_D A [(h0, .inr (0, [.int (nI 0), .ref q1, .ref q2, .ref q3, .ref q4, .int (nI 0), .ref q5, .ref q6, .ref q7, .ref q8, .int (nI 0), .ref q9, .null])), (q1, .inl (d1, 12, .inl (nA (fun _ => 0)))), (q2, .inl (d1, 12, .inl (nA (fun _ => 0)))), (q3, .inl (d1, 12, .inl (nA (fun _ => 0)))), (q4, .inl (d1, 12, .inl (nA (fun _ => 0)))), (q5, .inl (d1, 20, .inl (nA (fun _ => 0)))), (q6, .inl (d1, 20, .inl (nA (fun _ => 0)))), (q7, .inl (d1, 49, .inl (nA (fun _ => 0)))), (q8, .inl (d1, 931, .inl (nA (fun _ => 0)))), (q9, .inl (d1, 40, .inl (nA (fun _ => 0))))] := hD
  refine lv_aload_n hx hb dX0_init_77 rfl (lv_at hl 0 rfl) ?_
  refine lv_sipush (v := nI 1792) hx hb dX0_init_78 (by decide +kernel) ?_
  refine va_newa (atype := .int) (ty := .int) (n := nI 1792) (N' := 1792) (a0 := (1792, .inl (nA (fun _ => 0)))) hx hb (hts _ q81) rfl hK hP hD hS hA (fun cA => na_0 cA 1792) (by decide +kernel) (nI_clamp (by decide)) (by decide +kernel) (Nat.le_of_ble_eq_true rfl) (Nat.le_of_ble_eq_true rfl) dX0_init_81 (fun q10 d10 H hK hP hD hS => ?_)
  have hK : va_K (dC, dI) vwCl [(d1, .int), (d10, .int)] s := hK
  have e10 : d1 = d10 := va_one (hK.2 0 _ rfl).2 (hK.2 1 _ rfl).2
  subst e10
  have hK := hK.sub (tys' := [(d1, .int)]) [0] rfl
  have hP : va_P (dC, dI) vwCl [(h0, .inr (0, [.int (nI 0), .ref q1, .ref q2, .ref q3, .ref q4, .int (nI 0), .ref q5, .ref q6, .ref q7, .ref q8, .int (nI 0), .ref q9, .null])), (q1, .inl (d1, 12, .inl (nA (fun _ => 0)))), (q2, .inl (d1, 12, .inl (nA (fun _ => 0)))), (q3, .inl (d1, 12, .inl (nA (fun _ => 0)))), (q4, .inl (d1, 12, .inl (nA (fun _ => 0)))), (q5, .inl (d1, 20, .inl (nA (fun _ => 0)))), (q6, .inl (d1, 20, .inl (nA (fun _ => 0)))), (q7, .inl (d1, 49, .inl (nA (fun _ => 0)))), (q8, .inl (d1, 931, .inl (nA (fun _ => 0)))), (q9, .inl (d1, 40, .inl (nA (fun _ => 0)))), (q10, .inl (d1, 1792, .inl (nA (fun _ => 0))))] H := hP
  have hD : va_D A [(h0, .inr (0, [.int (nI 0), .ref q1, .ref q2, .ref q3, .ref q4, .int (nI 0), .ref q5, .ref q6, .ref q7, .ref q8, .int (nI 0), .ref q9, .null])), (q1, .inl (d1, 12, .inl (nA (fun _ => 0)))), (q2, .inl (d1, 12, .inl (nA (fun _ => 0)))), (q3, .inl (d1, 12, .inl (nA (fun _ => 0)))), (q4, .inl (d1, 12, .inl (nA (fun _ => 0)))), (q5, .inl (d1, 20, .inl (nA (fun _ => 0)))), (q6, .inl (d1, 20, .inl (nA (fun _ => 0)))), (q7, .inl (d1, 49, .inl (nA (fun _ => 0)))), (q8, .inl (d1, 931, .inl (nA (fun _ => 0)))), (q9, .inl (d1, 40, .inl (nA (fun _ => 0)))), (q10, .inl (d1, 1792, .inl (nA (fun _ => 0))))] := hD
  refine W.widen (k := 10) (n := 2900) (Nat.le_of_ble_eq_true rfl) (Nat.le_of_ble_eq_true rfl) ?_
  refine va_putF (D := (dC, dI)) (ci := 0) (v := .ref q10) (ty := .array .int) (C := RX0) (T := TX0) (N := 13) hx hb hts in_X0 tyX0 tyX0_ok nmX0 hown hK hP hD hS 0 rfl rfl 12 (by decide) (hts _ q53) (fun _ h9 => h9) rfl hin rfl (by decide +kernel) rfl rfl (Nat.le_of_ble_eq_true rfl) dX0_init_83 (fun H locs hP hD hS => ?_)
  have hP : va_P (dC, dI) vwCl [(h0, .inr (0, [.int (nI 0), .ref q1, .ref q2, .ref q3, .ref q4, .int (nI 0), .ref q5, .ref q6, .ref q7, .ref q8, .int (nI 0), .ref q9, .ref q10])), (q1, .inl (d1, 12, .inl (nA (fun _ => 0)))), (q2, .inl (d1, 12, .inl (nA (fun _ => 0)))), (q3, .inl (d1, 12, .inl (nA (fun _ => 0)))), (q4, .inl (d1, 12, .inl (nA (fun _ => 0)))), (q5, .inl (d1, 20, .inl (nA (fun _ => 0)))), (q6, .inl (d1, 20, .inl (nA (fun _ => 0)))), (q7, .inl (d1, 49, .inl (nA (fun _ => 0)))), (q8, .inl (d1, 931, .inl (nA (fun _ => 0)))), (q9, .inl (d1, 40, .inl (nA (fun _ => 0)))), (q10, .inl (d1, 1792, .inl (nA (fun _ => 0))))] H := hP
  have hD : va_D A [(h0, .inr (0, [.int (nI 0), .ref q1, .ref q2, .ref q3, .ref q4, .int (nI 0), .ref q5, .ref q6, .ref q7, .ref q8, .int (nI 0), .ref q9, .ref q10])), (q1, .inl (d1, 12, .inl (nA (fun _ => 0)))), (q2, .inl (d1, 12, .inl (nA (fun _ => 0)))), (q3, .inl (d1, 12, .inl (nA (fun _ => 0)))), (q4, .inl (d1, 12, .inl (nA (fun _ => 0)))), (q5, .inl (d1, 20, .inl (nA (fun _ => 0)))), (q6, .inl (d1, 20, .inl (nA (fun _ => 0)))), (q7, .inl (d1, 49, .inl (nA (fun _ => 0)))), (q8, .inl (d1, 931, .inl (nA (fun _ => 0)))), (q9, .inl (d1, 40, .inl (nA (fun _ => 0)))), (q10, .inl (d1, 1792, .inl (nA (fun _ => 0))))] := hD
  obtain ⟨h, eh⟩ : ∃ h : Nat → Nat, h = fun k => match k with | 0 => h0 | 1 => q1 | 2 => q2 | 3 => q3 | 4 => q4 | 5 => q5 | 6 => q6 | 7 => q7 | 8 => q8 | 9 => q9 | _ => q10 := ⟨_, rfl⟩
  have ew : xW h d1 (fun _ => 0) (fun _ _ => 0) = [(h0, .inr (0, [.int (nI 0), .ref q1, .ref q2, .ref q3, .ref q4, .int (nI 0), .ref q5, .ref q6, .ref q7, .ref q8, .int (nI 0), .ref q9, .ref q10])), (q1, .inl (d1, 12, .inl (nA (fun _ => 0)))), (q2, .inl (d1, 12, .inl (nA (fun _ => 0)))), (q3, .inl (d1, 12, .inl (nA (fun _ => 0)))), (q4, .inl (d1, 12, .inl (nA (fun _ => 0)))), (q5, .inl (d1, 20, .inl (nA (fun _ => 0)))), (q6, .inl (d1, 20, .inl (nA (fun _ => 0)))), (q7, .inl (d1, 49, .inl (nA (fun _ => 0)))), (q8, .inl (d1, 931, .inl (nA (fun _ => 0)))), (q9, .inl (d1, 40, .inl (nA (fun _ => 0)))), (q10, .inl (d1, 1792, .inl (nA (fun _ => 0))))] := by rw [eh]; rfl
  have eh0 : h 0 = h0 := congrFun eh 0
  rw [← ew] at hP hD
  have F : xF p m c cX0_init 1 s _ dC dI d1 := ⟨⟨hx, hb, hml, hown, hts⟩, hK⟩
  refine lv_aload_n hx hb dX0_init_86 rfl (lv_at hl 0 rfl) ?_
  refine x_callv F (⟨hP, hD, hS⟩ : xH dC dI A s.heap h d1 (fun _ => 0) (fun _ _ => 0) H locs) hA (As := []) (rest := []) (fun sz => mX0_rebuild l dC dI h d1 (fun _ => 0) (fun _ _ => 0) (fun k hk => absurd hk (Nat.not_lt_zero k)) (Nat.zero_le _) (Nat.zero_le _) (fun k hk => absurd hk (Nat.not_lt_zero k)) sz) (cwV 0 hts (lw_V q25 q27 qs0 q15 q28) rfl rfl rfl (by decide +kernel) ⟨Nat.le_of_ble_eq_true rfl, Nat.le_of_ble_eq_true rfl⟩) rfl hl.1 (Nat.le_of_ble_eq_true rfl) (by rw [eh0]; rfl) dX0_init_87 ⟨by exact Nat.le_of_ble_eq_true rfl, by exact Nat.le_of_ble_eq_true rfl⟩ (fun sc1 ar1 H locs hp hH => ?_)
  try dsimp only at hp
  obtain ⟨hfy, rows, hrp, hw, hmk⟩ := hp
  obtain ⟨eN, hI⟩ := fy_I (sc := fun _ => 0) (ar := fun _ _ => 0) nv_0_ok hfy hrp hw hmk
  exact W.vret hx hb hr (fun t ht hW => ⟨⟨(h, d1, sc1, ar1), rfl, ⟨eh0, hI, eN⟩, by rw [ht]; exact hH.1, va_K.moved hW.alike hK, hH.2.1⟩, hH.2.2.F ht⟩) hH.2.2.2.2 dX0_init_90 hlk
def y_B0 (dC : Nat → ClassId) (dI : Nat → Nat → Nat) (A : Nat → Prop) (u : (Nat → Nat) × ClassId × ClassId × (Nat → Nat) × (Nat → Nat → Nat)) (t : State) : Prop := va_P (dC, dI) vwCl (yW u.1 u.2.1 u.2.2.1 u.2.2.2.1 u.2.2.2.2) t.heap ∧ va_K (dC, dI) vwCl [(u.2.1, .int), (u.2.2.1, .boolean)] t ∧ va_D A (yW u.1 u.2.1 u.2.2.1 u.2.2.2.1 u.2.2.2.2)
def y_p0 (h0 : Nat) (u : (Nat → Nat) × ClassId × ClassId × (Nat → Nat) × (Nat → Nat → Nat)) : Prop := u.1 0 = h0 ∧ y_I u.2.2.2.1 u.2.2.2.2 ∧ nvM u.2.2.2.1 u.2.2.2.2 = nv_0
set_option maxHeartbeats 4000000 in
set_option maxRecDepth 100000 in
theorem mX1_init (l : Launch) (dC : Nat → ClassId) (dI : Nat → Nat → Nat) (h0 sz : Nat) : Met l yX1_init (ws_ yX1_init cX1_init 1 none) ({ frames := 1, cells := 8, slots := 2635, locals := 28 } : Room) (va_Pc [.ref h0] (fun U => U.heap.size = sz ∧ va_P (dC, dI) vwCl [(h0, .inr (1, y_O0))] U.heap ∧ va_K (dC, dI) vwCl [] U ∧ va_D (fun _ => True) [(h0, .inr (1, y_O0))])) (va_Qv (y_p0 h0) (y_B0 dC dI (va_A [(h0, .inr (1, y_O0))] sz)) (va_A [(h0, .inr (1, y_O0))] sz)) 8 2635 (va_A [(h0, .inr (1, y_O0))] sz) := by
  refine Met.ofW (cc := cX1_init) (maxL := 1) (ret := none) (by decide +kernel) rfl ?_
  intro p e s m args below meth c s₁ B hml hv
  obtain ⟨rfl, hsz, hP, hK, hD0⟩ := hv
  have hx := B.exec
  have hb := B.bytes
  have hr := B.returns
  have hts := atoms_spec (ws := ws_ yX1_init cX1_init 1 none) B.pre
  have hts : ∀ w ∈ lw_all, w.before _ s = true := fun w h => hts w (List.mem_cons_of_mem _ h)
  have hown : s.vm.findClass RX1 = some m.cls := findClass_of_methodNamed B.named
  have hlk := B.notSynchronized
  have hin : meth.name = "<init>" := (name_of_methodNamed B.named B.method).1
  subst hsz
  have hD := hD0.self (sz := s.heap.size)
  generalize hAe : va_A [(h0, .inr (1, y_O0))] s.heap.size = A at hD ⊢
  have hA : ∀ q : Nat, s.heap.size ≤ q → A q := fun q h => by rw [← hAe]; exact Or.inr h
  have hS : va_S A s.heap s.heap [] := va_S.rf
  have hP : va_P (dC, dI) vwCl [(h0, .inr (1, y_O0))] s.heap := hP
  have hl := lv_entry ([.ref h0]) (n := 1) (Nat.le_of_ble_eq_true rfl)
  rw [lg_entry_eq]
  generalize (lg_sl ([.ref h0]) ++ List.replicate (1 - (lg_sl ([.ref h0])).length) Slot.unset).toArray = ls at hl ⊢
  have hl : lv_has ls 1 [(0, .ref h0)] := hl
  refine lv_aload_n hx hb dX1_init_0 rfl (lv_at hl 0 rfl) ?_
  refine W.objInit hx hb hown (hts _ q145) (hts _ q23) (hts _ q24) rfl (by rw [hml]; exact hl.1) rfl dX1_init_1 (Nat.le_of_ble_eq_true rfl) (Nat.le_of_ble_eq_true rfl) ?_
  refine W.eq (g2 := F0 m 4 ls []) rfl ?_
  refine lv_aload_n hx hb dX1_init_4 rfl (lv_at hl 0 rfl) ?_
  refine lv_bipush (v := nI 12) hx hb dX1_init_5 (by decide +kernel) ?_
  refine va_newa (atype := .int) (ty := .int) (n := nI 12) (N' := 12) (a0 := (12, .inl (nA (fun _ => 0)))) hx hb (hts _ q81) rfl hK hP hD hS hA (fun cA => na_0 cA 12) (by decide +kernel) (nI_clamp (by decide)) (by decide +kernel) (Nat.le_of_ble_eq_true rfl) (Nat.le_of_ble_eq_true rfl) dX1_init_7 (fun q1 d1 H hK hP hD hS => ?_)
  have hK : va_K (dC, dI) vwCl [(d1, .int)] s := hK
  have hP : va_P (dC, dI) vwCl [(h0, .inr (1, [.int (nI 0), .null, .null, .null, .null, .int (nI 0), .null, .null, .null, .null])), (q1, .inl (d1, 12, .inl (nA (fun _ => 0))))] H := hP
  have hD : va_D A [(h0, .inr (1, [.int (nI 0), .null, .null, .null, .null, .int (nI 0), .null, .null, .null, .null])), (q1, .inl (d1, 12, .inl (nA (fun _ => 0))))] := hD
  refine W.widen (k := 1) (n := 12) (Nat.le_of_ble_eq_true rfl) (Nat.le_of_ble_eq_true rfl) ?_
  refine va_putF (D := (dC, dI)) (ci := 1) (v := .ref q1) (ty := .array .int) (C := RX1) (T := TX1) (N := 10) hx hb hts in_X1 tyX1 tyX1_ok nmX1 hown hK hP hD hS 0 rfl rfl 1 (by decide) (hts _ q147) (fun _ h9 => h9) rfl hin rfl (by decide +kernel) rfl rfl (Nat.le_of_ble_eq_true rfl) dX1_init_9 (fun H locs hP hD hS => ?_)
  have hP : va_P (dC, dI) vwCl [(h0, .inr (1, [.int (nI 0), .ref q1, .null, .null, .null, .int (nI 0), .null, .null, .null, .null])), (q1, .inl (d1, 12, .inl (nA (fun _ => 0))))] H := hP
  have hD : va_D A [(h0, .inr (1, [.int (nI 0), .ref q1, .null, .null, .null, .int (nI 0), .null, .null, .null, .null])), (q1, .inl (d1, 12, .inl (nA (fun _ => 0))))] := hD
  refine lv_aload_n hx hb dX1_init_12 rfl (lv_at hl 0 rfl) ?_
  refine lv_bipush (v := nI 12) hx hb dX1_init_13 (by decide +kernel) ?_
  refine va_newa (atype := .int) (ty := .int) (n := nI 12) (N' := 12) (a0 := (12, .inl (nA (fun _ => 0)))) hx hb (hts _ q81) rfl hK hP hD hS hA (fun cA => na_0 cA 12) (by decide +kernel) (nI_clamp (by decide)) (by decide +kernel) (Nat.le_of_ble_eq_true rfl) (Nat.le_of_ble_eq_true rfl) dX1_init_15 (fun q2 d2 H hK hP hD hS => ?_)
  have hK : va_K (dC, dI) vwCl [(d1, .int), (d2, .int)] s := hK
  have e2 : d1 = d2 := va_one (hK.2 0 _ rfl).2 (hK.2 1 _ rfl).2
  subst e2
  have hK := hK.sub (tys' := [(d1, .int)]) [0] rfl
  have hP : va_P (dC, dI) vwCl [(h0, .inr (1, [.int (nI 0), .ref q1, .null, .null, .null, .int (nI 0), .null, .null, .null, .null])), (q1, .inl (d1, 12, .inl (nA (fun _ => 0)))), (q2, .inl (d1, 12, .inl (nA (fun _ => 0))))] H := hP
  have hD : va_D A [(h0, .inr (1, [.int (nI 0), .ref q1, .null, .null, .null, .int (nI 0), .null, .null, .null, .null])), (q1, .inl (d1, 12, .inl (nA (fun _ => 0)))), (q2, .inl (d1, 12, .inl (nA (fun _ => 0))))] := hD
  refine W.widen (k := 2) (n := 24) (Nat.le_of_ble_eq_true rfl) (Nat.le_of_ble_eq_true rfl) ?_
  refine va_putF (D := (dC, dI)) (ci := 1) (v := .ref q2) (ty := .array .int) (C := RX1) (T := TX1) (N := 10) hx hb hts in_X1 tyX1 tyX1_ok nmX1 hown hK hP hD hS 0 rfl rfl 2 (by decide) (hts _ q148) (fun _ h9 => h9) rfl hin rfl (by decide +kernel) rfl rfl (Nat.le_of_ble_eq_true rfl) dX1_init_17 (fun H locs hP hD hS => ?_)
  have hP : va_P (dC, dI) vwCl [(h0, .inr (1, [.int (nI 0), .ref q1, .ref q2, .null, .null, .int (nI 0), .null, .null, .null, .null])), (q1, .inl (d1, 12, .inl (nA (fun _ => 0)))), (q2, .inl (d1, 12, .inl (nA (fun _ => 0))))] H := hP
  have hD : va_D A [(h0, .inr (1, [.int (nI 0), .ref q1, .ref q2, .null, .null, .int (nI 0), .null, .null, .null, .null])), (q1, .inl (d1, 12, .inl (nA (fun _ => 0)))), (q2, .inl (d1, 12, .inl (nA (fun _ => 0))))] := hD
  refine lv_aload_n hx hb dX1_init_20 rfl (lv_at hl 0 rfl) ?_
  refine lv_bipush (v := nI 12) hx hb dX1_init_21 (by decide +kernel) ?_
  refine va_newa (atype := .int) (ty := .int) (n := nI 12) (N' := 12) (a0 := (12, .inl (nA (fun _ => 0)))) hx hb (hts _ q81) rfl hK hP hD hS hA (fun cA => na_0 cA 12) (by decide +kernel) (nI_clamp (by decide)) (by decide +kernel) (Nat.le_of_ble_eq_true rfl) (Nat.le_of_ble_eq_true rfl) dX1_init_23 (fun q3 d3 H hK hP hD hS => ?_)
  have hK : va_K (dC, dI) vwCl [(d1, .int), (d3, .int)] s := hK
  have e3 : d1 = d3 := va_one (hK.2 0 _ rfl).2 (hK.2 1 _ rfl).2
  subst e3
  have hK := hK.sub (tys' := [(d1, .int)]) [0] rfl
  have hP : va_P (dC, dI) vwCl [(h0, .inr (1, [.int (nI 0), .ref q1, .ref q2, .null, .null, .int (nI 0), .null, .null, .null, .null])), (q1, .inl (d1, 12, .inl (nA (fun _ => 0)))), (q2, .inl (d1, 12, .inl (nA (fun _ => 0)))), (q3, .inl (d1, 12, .inl (nA (fun _ => 0))))] H := hP
  have hD : va_D A [(h0, .inr (1, [.int (nI 0), .ref q1, .ref q2, .null, .null, .int (nI 0), .null, .null, .null, .null])), (q1, .inl (d1, 12, .inl (nA (fun _ => 0)))), (q2, .inl (d1, 12, .inl (nA (fun _ => 0)))), (q3, .inl (d1, 12, .inl (nA (fun _ => 0))))] := hD
  refine W.widen (k := 3) (n := 36) (Nat.le_of_ble_eq_true rfl) (Nat.le_of_ble_eq_true rfl) ?_
  refine va_putF (D := (dC, dI)) (ci := 1) (v := .ref q3) (ty := .array .int) (C := RX1) (T := TX1) (N := 10) hx hb hts in_X1 tyX1 tyX1_ok nmX1 hown hK hP hD hS 0 rfl rfl 3 (by decide) (hts _ q149) (fun _ h9 => h9) rfl hin rfl (by decide +kernel) rfl rfl (Nat.le_of_ble_eq_true rfl) dX1_init_25 (fun H locs hP hD hS => ?_)
  have hP : va_P (dC, dI) vwCl [(h0, .inr (1, [.int (nI 0), .ref q1, .ref q2, .ref q3, .null, .int (nI 0), .null, .null, .null, .null])), (q1, .inl (d1, 12, .inl (nA (fun _ => 0)))), (q2, .inl (d1, 12, .inl (nA (fun _ => 0)))), (q3, .inl (d1, 12, .inl (nA (fun _ => 0))))] H := hP
  have hD : va_D A [(h0, .inr (1, [.int (nI 0), .ref q1, .ref q2, .ref q3, .null, .int (nI 0), .null, .null, .null, .null])), (q1, .inl (d1, 12, .inl (nA (fun _ => 0)))), (q2, .inl (d1, 12, .inl (nA (fun _ => 0)))), (q3, .inl (d1, 12, .inl (nA (fun _ => 0))))] := hD
  refine lv_aload_n hx hb dX1_init_28 rfl (lv_at hl 0 rfl) ?_
  refine lv_bipush (v := nI 12) hx hb dX1_init_29 (by decide +kernel) ?_
  refine va_newa (atype := .int) (ty := .int) (n := nI 12) (N' := 12) (a0 := (12, .inl (nA (fun _ => 0)))) hx hb (hts _ q81) rfl hK hP hD hS hA (fun cA => na_0 cA 12) (by decide +kernel) (nI_clamp (by decide)) (by decide +kernel) (Nat.le_of_ble_eq_true rfl) (Nat.le_of_ble_eq_true rfl) dX1_init_31 (fun q4 d4 H hK hP hD hS => ?_)
  have hK : va_K (dC, dI) vwCl [(d1, .int), (d4, .int)] s := hK
  have e4 : d1 = d4 := va_one (hK.2 0 _ rfl).2 (hK.2 1 _ rfl).2
  subst e4
  have hK := hK.sub (tys' := [(d1, .int)]) [0] rfl
  have hP : va_P (dC, dI) vwCl [(h0, .inr (1, [.int (nI 0), .ref q1, .ref q2, .ref q3, .null, .int (nI 0), .null, .null, .null, .null])), (q1, .inl (d1, 12, .inl (nA (fun _ => 0)))), (q2, .inl (d1, 12, .inl (nA (fun _ => 0)))), (q3, .inl (d1, 12, .inl (nA (fun _ => 0)))), (q4, .inl (d1, 12, .inl (nA (fun _ => 0))))] H := hP
  have hD : va_D A [(h0, .inr (1, [.int (nI 0), .ref q1, .ref q2, .ref q3, .null, .int (nI 0), .null, .null, .null, .null])), (q1, .inl (d1, 12, .inl (nA (fun _ => 0)))), (q2, .inl (d1, 12, .inl (nA (fun _ => 0)))), (q3, .inl (d1, 12, .inl (nA (fun _ => 0)))), (q4, .inl (d1, 12, .inl (nA (fun _ => 0))))] := hD
  refine W.widen (k := 4) (n := 48) (Nat.le_of_ble_eq_true rfl) (Nat.le_of_ble_eq_true rfl) ?_
  refine va_putF (D := (dC, dI)) (ci := 1) (v := .ref q4) (ty := .array .int) (C := RX1) (T := TX1) (N := 10) hx hb hts in_X1 tyX1 tyX1_ok nmX1 hown hK hP hD hS 0 rfl rfl 4 (by decide) (hts _ q150) (fun _ h9 => h9) rfl hin rfl (by decide +kernel) rfl rfl (Nat.le_of_ble_eq_true rfl) dX1_init_33 (fun H locs hP hD hS => ?_)
  have hP : va_P (dC, dI) vwCl [(h0, .inr (1, [.int (nI 0), .ref q1, .ref q2, .ref q3, .ref q4, .int (nI 0), .null, .null, .null, .null])), (q1, .inl (d1, 12, .inl (nA (fun _ => 0)))), (q2, .inl (d1, 12, .inl (nA (fun _ => 0)))), (q3, .inl (d1, 12, .inl (nA (fun _ => 0)))), (q4, .inl (d1, 12, .inl (nA (fun _ => 0))))] H := hP
  have hD : va_D A [(h0, .inr (1, [.int (nI 0), .ref q1, .ref q2, .ref q3, .ref q4, .int (nI 0), .null, .null, .null, .null])), (q1, .inl (d1, 12, .inl (nA (fun _ => 0)))), (q2, .inl (d1, 12, .inl (nA (fun _ => 0)))), (q3, .inl (d1, 12, .inl (nA (fun _ => 0)))), (q4, .inl (d1, 12, .inl (nA (fun _ => 0))))] := hD
  refine lv_aload_n hx hb dX1_init_36 rfl (lv_at hl 0 rfl) ?_
  refine lv_bipush (v := nI 20) hx hb dX1_init_37 (by decide +kernel) ?_
  refine va_newa (atype := .int) (ty := .int) (n := nI 20) (N' := 20) (a0 := (20, .inl (nA (fun _ => 0)))) hx hb (hts _ q81) rfl hK hP hD hS hA (fun cA => na_0 cA 20) (by decide +kernel) (nI_clamp (by decide)) (by decide +kernel) (Nat.le_of_ble_eq_true rfl) (Nat.le_of_ble_eq_true rfl) dX1_init_39 (fun q5 d5 H hK hP hD hS => ?_)
  have hK : va_K (dC, dI) vwCl [(d1, .int), (d5, .int)] s := hK
  have e5 : d1 = d5 := va_one (hK.2 0 _ rfl).2 (hK.2 1 _ rfl).2
  subst e5
  have hK := hK.sub (tys' := [(d1, .int)]) [0] rfl
  have hP : va_P (dC, dI) vwCl [(h0, .inr (1, [.int (nI 0), .ref q1, .ref q2, .ref q3, .ref q4, .int (nI 0), .null, .null, .null, .null])), (q1, .inl (d1, 12, .inl (nA (fun _ => 0)))), (q2, .inl (d1, 12, .inl (nA (fun _ => 0)))), (q3, .inl (d1, 12, .inl (nA (fun _ => 0)))), (q4, .inl (d1, 12, .inl (nA (fun _ => 0)))), (q5, .inl (d1, 20, .inl (nA (fun _ => 0))))] H := hP
  have hD : va_D A [(h0, .inr (1, [.int (nI 0), .ref q1, .ref q2, .ref q3, .ref q4, .int (nI 0), .null, .null, .null, .null])), (q1, .inl (d1, 12, .inl (nA (fun _ => 0)))), (q2, .inl (d1, 12, .inl (nA (fun _ => 0)))), (q3, .inl (d1, 12, .inl (nA (fun _ => 0)))), (q4, .inl (d1, 12, .inl (nA (fun _ => 0)))), (q5, .inl (d1, 20, .inl (nA (fun _ => 0))))] := hD
  refine W.widen (k := 5) (n := 68) (Nat.le_of_ble_eq_true rfl) (Nat.le_of_ble_eq_true rfl) ?_
  refine va_putF (D := (dC, dI)) (ci := 1) (v := .ref q5) (ty := .array .int) (C := RX1) (T := TX1) (N := 10) hx hb hts in_X1 tyX1 tyX1_ok nmX1 hown hK hP hD hS 0 rfl rfl 6 (by decide) (hts _ q152) (fun _ h9 => h9) rfl hin rfl (by decide +kernel) rfl rfl (Nat.le_of_ble_eq_true rfl) dX1_init_41 (fun H locs hP hD hS => ?_)
  have hP : va_P (dC, dI) vwCl [(h0, .inr (1, [.int (nI 0), .ref q1, .ref q2, .ref q3, .ref q4, .int (nI 0), .ref q5, .null, .null, .null])), (q1, .inl (d1, 12, .inl (nA (fun _ => 0)))), (q2, .inl (d1, 12, .inl (nA (fun _ => 0)))), (q3, .inl (d1, 12, .inl (nA (fun _ => 0)))), (q4, .inl (d1, 12, .inl (nA (fun _ => 0)))), (q5, .inl (d1, 20, .inl (nA (fun _ => 0))))] H := hP
  have hD : va_D A [(h0, .inr (1, [.int (nI 0), .ref q1, .ref q2, .ref q3, .ref q4, .int (nI 0), .ref q5, .null, .null, .null])), (q1, .inl (d1, 12, .inl (nA (fun _ => 0)))), (q2, .inl (d1, 12, .inl (nA (fun _ => 0)))), (q3, .inl (d1, 12, .inl (nA (fun _ => 0)))), (q4, .inl (d1, 12, .inl (nA (fun _ => 0)))), (q5, .inl (d1, 20, .inl (nA (fun _ => 0))))] := hD
  refine lv_aload_n hx hb dX1_init_44 rfl (lv_at hl 0 rfl) ?_
  refine lv_bipush (v := nI 20) hx hb dX1_init_45 (by decide +kernel) ?_
  refine va_newa (atype := .int) (ty := .int) (n := nI 20) (N' := 20) (a0 := (20, .inl (nA (fun _ => 0)))) hx hb (hts _ q81) rfl hK hP hD hS hA (fun cA => na_0 cA 20) (by decide +kernel) (nI_clamp (by decide)) (by decide +kernel) (Nat.le_of_ble_eq_true rfl) (Nat.le_of_ble_eq_true rfl) dX1_init_47 (fun q6 d6 H hK hP hD hS => ?_)
  have hK : va_K (dC, dI) vwCl [(d1, .int), (d6, .int)] s := hK
  have e6 : d1 = d6 := va_one (hK.2 0 _ rfl).2 (hK.2 1 _ rfl).2
  subst e6
  have hK := hK.sub (tys' := [(d1, .int)]) [0] rfl
  have hP : va_P (dC, dI) vwCl [(h0, .inr (1, [.int (nI 0), .ref q1, .ref q2, .ref q3, .ref q4, .int (nI 0), .ref q5, .null, .null, .null])), (q1, .inl (d1, 12, .inl (nA (fun _ => 0)))), (q2, .inl (d1, 12, .inl (nA (fun _ => 0)))), (q3, .inl (d1, 12, .inl (nA (fun _ => 0)))), (q4, .inl (d1, 12, .inl (nA (fun _ => 0)))), (q5, .inl (d1, 20, .inl (nA (fun _ => 0)))), (q6, .inl (d1, 20, .inl (nA (fun _ => 0))))] H := hP
  have hD : va_D A [(h0, .inr (1, [.int (nI 0), .ref q1, .ref q2, .ref q3, .ref q4, .int (nI 0), .ref q5, .null, .null, .null])), (q1, .inl (d1, 12, .inl (nA (fun _ => 0)))), (q2, .inl (d1, 12, .inl (nA (fun _ => 0)))), (q3, .inl (d1, 12, .inl (nA (fun _ => 0)))), (q4, .inl (d1, 12, .inl (nA (fun _ => 0)))), (q5, .inl (d1, 20, .inl (nA (fun _ => 0)))), (q6, .inl (d1, 20, .inl (nA (fun _ => 0))))] := hD
  refine W.widen (k := 6) (n := 88) (Nat.le_of_ble_eq_true rfl) (Nat.le_of_ble_eq_true rfl) ?_
  refine va_putF (D := (dC, dI)) (ci := 1) (v := .ref q6) (ty := .array .int) (C := RX1) (T := TX1) (N := 10) hx hb hts in_X1 tyX1 tyX1_ok nmX1 hown hK hP hD hS 0 rfl rfl 7 (by decide) (hts _ q153) (fun _ h9 => h9) rfl hin rfl (by decide +kernel) rfl rfl (Nat.le_of_ble_eq_true rfl) dX1_init_49 (fun H locs hP hD hS => ?_)
  have hP : va_P (dC, dI) vwCl [(h0, .inr (1, [.int (nI 0), .ref q1, .ref q2, .ref q3, .ref q4, .int (nI 0), .ref q5, .ref q6, .null, .null])), (q1, .inl (d1, 12, .inl (nA (fun _ => 0)))), (q2, .inl (d1, 12, .inl (nA (fun _ => 0)))), (q3, .inl (d1, 12, .inl (nA (fun _ => 0)))), (q4, .inl (d1, 12, .inl (nA (fun _ => 0)))), (q5, .inl (d1, 20, .inl (nA (fun _ => 0)))), (q6, .inl (d1, 20, .inl (nA (fun _ => 0))))] H := hP
  have hD : va_D A [(h0, .inr (1, [.int (nI 0), .ref q1, .ref q2, .ref q3, .ref q4, .int (nI 0), .ref q5, .ref q6, .null, .null])), (q1, .inl (d1, 12, .inl (nA (fun _ => 0)))), (q2, .inl (d1, 12, .inl (nA (fun _ => 0)))), (q3, .inl (d1, 12, .inl (nA (fun _ => 0)))), (q4, .inl (d1, 12, .inl (nA (fun _ => 0)))), (q5, .inl (d1, 20, .inl (nA (fun _ => 0)))), (q6, .inl (d1, 20, .inl (nA (fun _ => 0))))] := hD
  refine lv_aload_n hx hb dX1_init_52 rfl (lv_at hl 0 rfl) ?_
  refine lv_bipush (v := nI 20) hx hb dX1_init_53 (by decide +kernel) ?_
  refine va_newa (atype := .int) (ty := .int) (n := nI 20) (N' := 20) (a0 := (20, .inl (nA (fun _ => 0)))) hx hb (hts _ q81) rfl hK hP hD hS hA (fun cA => na_0 cA 20) (by decide +kernel) (nI_clamp (by decide)) (by decide +kernel) (Nat.le_of_ble_eq_true rfl) (Nat.le_of_ble_eq_true rfl) dX1_init_55 (fun q7 d7 H hK hP hD hS => ?_)
  have hK : va_K (dC, dI) vwCl [(d1, .int), (d7, .int)] s := hK
  have e7 : d1 = d7 := va_one (hK.2 0 _ rfl).2 (hK.2 1 _ rfl).2
  subst e7
  have hK := hK.sub (tys' := [(d1, .int)]) [0] rfl
  have hP : va_P (dC, dI) vwCl [(h0, .inr (1, [.int (nI 0), .ref q1, .ref q2, .ref q3, .ref q4, .int (nI 0), .ref q5, .ref q6, .null, .null])), (q1, .inl (d1, 12, .inl (nA (fun _ => 0)))), (q2, .inl (d1, 12, .inl (nA (fun _ => 0)))), (q3, .inl (d1, 12, .inl (nA (fun _ => 0)))), (q4, .inl (d1, 12, .inl (nA (fun _ => 0)))), (q5, .inl (d1, 20, .inl (nA (fun _ => 0)))), (q6, .inl (d1, 20, .inl (nA (fun _ => 0)))), (q7, .inl (d1, 20, .inl (nA (fun _ => 0))))] H := hP
  have hD : va_D A [(h0, .inr (1, [.int (nI 0), .ref q1, .ref q2, .ref q3, .ref q4, .int (nI 0), .ref q5, .ref q6, .null, .null])), (q1, .inl (d1, 12, .inl (nA (fun _ => 0)))), (q2, .inl (d1, 12, .inl (nA (fun _ => 0)))), (q3, .inl (d1, 12, .inl (nA (fun _ => 0)))), (q4, .inl (d1, 12, .inl (nA (fun _ => 0)))), (q5, .inl (d1, 20, .inl (nA (fun _ => 0)))), (q6, .inl (d1, 20, .inl (nA (fun _ => 0)))), (q7, .inl (d1, 20, .inl (nA (fun _ => 0))))] := hD
  refine W.widen (k := 7) (n := 108) (Nat.le_of_ble_eq_true rfl) (Nat.le_of_ble_eq_true rfl) ?_
  refine va_putF (D := (dC, dI)) (ci := 1) (v := .ref q7) (ty := .array .int) (C := RX1) (T := TX1) (N := 10) hx hb hts in_X1 tyX1 tyX1_ok nmX1 hown hK hP hD hS 0 rfl rfl 8 (by decide) (hts _ q154) (fun _ h9 => h9) rfl hin rfl (by decide +kernel) rfl rfl (Nat.le_of_ble_eq_true rfl) dX1_init_57 (fun H locs hP hD hS => ?_)
  have hP : va_P (dC, dI) vwCl [(h0, .inr (1, [.int (nI 0), .ref q1, .ref q2, .ref q3, .ref q4, .int (nI 0), .ref q5, .ref q6, .ref q7, .null])), (q1, .inl (d1, 12, .inl (nA (fun _ => 0)))), (q2, .inl (d1, 12, .inl (nA (fun _ => 0)))), (q3, .inl (d1, 12, .inl (nA (fun _ => 0)))), (q4, .inl (d1, 12, .inl (nA (fun _ => 0)))), (q5, .inl (d1, 20, .inl (nA (fun _ => 0)))), (q6, .inl (d1, 20, .inl (nA (fun _ => 0)))), (q7, .inl (d1, 20, .inl (nA (fun _ => 0))))] H := hP
  have hD : va_D A [(h0, .inr (1, [.int (nI 0), .ref q1, .ref q2, .ref q3, .ref q4, .int (nI 0), .ref q5, .ref q6, .ref q7, .null])), (q1, .inl (d1, 12, .inl (nA (fun _ => 0)))), (q2, .inl (d1, 12, .inl (nA (fun _ => 0)))), (q3, .inl (d1, 12, .inl (nA (fun _ => 0)))), (q4, .inl (d1, 12, .inl (nA (fun _ => 0)))), (q5, .inl (d1, 20, .inl (nA (fun _ => 0)))), (q6, .inl (d1, 20, .inl (nA (fun _ => 0)))), (q7, .inl (d1, 20, .inl (nA (fun _ => 0))))] := hD
  refine lv_aload_n hx hb dX1_init_60 rfl (lv_at hl 0 rfl) ?_
  refine lv_sipush (v := nI 2527) hx hb dX1_init_61 (by decide +kernel) ?_
  refine va_newa (atype := .boolean) (ty := .boolean) (n := nI 2527) (N' := 2527) (a0 := (2527, .inl (nA (fun _ => 0)))) hx hb (hts _ q177) rfl hK hP hD hS hA (fun cA => na_z cA 2527) (by decide +kernel) (nI_clamp (by decide)) (by decide +kernel) (Nat.le_of_ble_eq_true rfl) (Nat.le_of_ble_eq_true rfl) dX1_init_64 (fun q8 d8 H hK hP hD hS => ?_)
  have hK : va_K (dC, dI) vwCl [(d1, .int), (d8, .boolean)] s := hK
  have hP : va_P (dC, dI) vwCl [(h0, .inr (1, [.int (nI 0), .ref q1, .ref q2, .ref q3, .ref q4, .int (nI 0), .ref q5, .ref q6, .ref q7, .null])), (q1, .inl (d1, 12, .inl (nA (fun _ => 0)))), (q2, .inl (d1, 12, .inl (nA (fun _ => 0)))), (q3, .inl (d1, 12, .inl (nA (fun _ => 0)))), (q4, .inl (d1, 12, .inl (nA (fun _ => 0)))), (q5, .inl (d1, 20, .inl (nA (fun _ => 0)))), (q6, .inl (d1, 20, .inl (nA (fun _ => 0)))), (q7, .inl (d1, 20, .inl (nA (fun _ => 0)))), (q8, .inl (d8, 2527, .inl (nA (fun _ => 0))))] H := hP
  have hD : va_D A [(h0, .inr (1, [.int (nI 0), .ref q1, .ref q2, .ref q3, .ref q4, .int (nI 0), .ref q5, .ref q6, .ref q7, .null])), (q1, .inl (d1, 12, .inl (nA (fun _ => 0)))), (q2, .inl (d1, 12, .inl (nA (fun _ => 0)))), (q3, .inl (d1, 12, .inl (nA (fun _ => 0)))), (q4, .inl (d1, 12, .inl (nA (fun _ => 0)))), (q5, .inl (d1, 20, .inl (nA (fun _ => 0)))), (q6, .inl (d1, 20, .inl (nA (fun _ => 0)))), (q7, .inl (d1, 20, .inl (nA (fun _ => 0)))), (q8, .inl (d8, 2527, .inl (nA (fun _ => 0))))] := hD
  refine W.widen (k := 8) (n := 2635) (Nat.le_of_ble_eq_true rfl) (Nat.le_of_ble_eq_true rfl) ?_
  refine va_putF (D := (dC, dI)) (ci := 1) (v := .ref q8) (ty := .array .boolean) (C := RX1) (T := TX1) (N := 10) hx hb hts in_X1 tyX1 tyX1_ok nmX1 hown hK hP hD hS 0 rfl rfl 9 (by decide) (hts _ q155) (fun _ h9 => h9) rfl hin rfl (by decide +kernel) rfl rfl (Nat.le_of_ble_eq_true rfl) dX1_init_66 (fun H locs hP hD hS => ?_)
  have hP : va_P (dC, dI) vwCl [(h0, .inr (1, [.int (nI 0), .ref q1, .ref q2, .ref q3, .ref q4, .int (nI 0), .ref q5, .ref q6, .ref q7, .ref q8])), (q1, .inl (d1, 12, .inl (nA (fun _ => 0)))), (q2, .inl (d1, 12, .inl (nA (fun _ => 0)))), (q3, .inl (d1, 12, .inl (nA (fun _ => 0)))), (q4, .inl (d1, 12, .inl (nA (fun _ => 0)))), (q5, .inl (d1, 20, .inl (nA (fun _ => 0)))), (q6, .inl (d1, 20, .inl (nA (fun _ => 0)))), (q7, .inl (d1, 20, .inl (nA (fun _ => 0)))), (q8, .inl (d8, 2527, .inl (nA (fun _ => 0))))] H := hP
  have hD : va_D A [(h0, .inr (1, [.int (nI 0), .ref q1, .ref q2, .ref q3, .ref q4, .int (nI 0), .ref q5, .ref q6, .ref q7, .ref q8])), (q1, .inl (d1, 12, .inl (nA (fun _ => 0)))), (q2, .inl (d1, 12, .inl (nA (fun _ => 0)))), (q3, .inl (d1, 12, .inl (nA (fun _ => 0)))), (q4, .inl (d1, 12, .inl (nA (fun _ => 0)))), (q5, .inl (d1, 20, .inl (nA (fun _ => 0)))), (q6, .inl (d1, 20, .inl (nA (fun _ => 0)))), (q7, .inl (d1, 20, .inl (nA (fun _ => 0)))), (q8, .inl (d8, 2527, .inl (nA (fun _ => 0))))] := hD
  obtain ⟨h, eh⟩ : ∃ h : Nat → Nat, h = fun k => match k with | 0 => h0 | 1 => q1 | 2 => q2 | 3 => q3 | 4 => q4 | 5 => q5 | 6 => q6 | 7 => q7 | _ => q8 := ⟨_, rfl⟩
  have ew : yW h d1 d8 (fun _ => 0) (fun _ _ => 0) = [(h0, .inr (1, [.int (nI 0), .ref q1, .ref q2, .ref q3, .ref q4, .int (nI 0), .ref q5, .ref q6, .ref q7, .ref q8])), (q1, .inl (d1, 12, .inl (nA (fun _ => 0)))), (q2, .inl (d1, 12, .inl (nA (fun _ => 0)))), (q3, .inl (d1, 12, .inl (nA (fun _ => 0)))), (q4, .inl (d1, 12, .inl (nA (fun _ => 0)))), (q5, .inl (d1, 20, .inl (nA (fun _ => 0)))), (q6, .inl (d1, 20, .inl (nA (fun _ => 0)))), (q7, .inl (d1, 20, .inl (nA (fun _ => 0)))), (q8, .inl (d8, 2527, .inl (nA (fun _ => 0))))] := by rw [eh]; rfl
  have eh0 : h 0 = h0 := congrFun eh 0
  rw [← ew] at hP hD
  have hI : y_I (fun _ => 0) (fun _ _ => 0) := ⟨nv_0_ok, fun k hk => absurd hk (Nat.not_lt_zero k)⟩
  exact W.vret hx hb hr (fun t ht hW => ⟨⟨(h, d1, d8, fun _ => 0, fun _ _ => 0), rfl, ⟨eh0, hI, rfl⟩, by rw [ht]; exact hP, va_K.moved hW.alike hK, hD⟩, hS.F ht⟩) hS.2.2 dX1_init_69 hlk
end
section
/-! TWO WORLDS: the component's and the model's, beside one another, in the law's frame -/
theorem tw_Pl {D : va_G} {cl : List vw_C} {w1 w2 : va_W} {H : Heap} (h : va_P D cl (w1 ++ w2) H) : va_P D cl w1 H := fun k q hk => h k q (by rw [List.getElem?_append_left (List.getElem?_eq_some_iff.mp hk).1]; exact hk)
theorem tw_ix {w1 w2 : va_W} {k : Nat} {q : Nat × va_E} (hk : w2[k]? = some q) : (w1 ++ w2)[w1.length + k]? = some q := by
  rw [List.getElem?_append_right (Nat.le_add_right _ _), Nat.add_sub_cancel_left]
  exact hk
theorem tw_Pr {D : va_G} {cl : List vw_C} {w1 w2 : va_W} {H : Heap} (h : va_P D cl (w1 ++ w2) H) : va_P D cl w2 H := fun k q hk => h (w1.length + k) q (tw_ix hk)
theorem tw_Dl {A : Nat → Prop} {w1 w2 : va_W} (h : va_D A (w1 ++ w2)) : va_D A w1 :=
  ⟨fun i j p q hi hj => h.1 i j p q (by rw [List.getElem?_append_left (List.getElem?_eq_some_iff.mp hi).1]; exact hi) (by rw [List.getElem?_append_left (List.getElem?_eq_some_iff.mp hj).1]; exact hj), fun k q hk => h.2 k q (by rw [List.getElem?_append_left (List.getElem?_eq_some_iff.mp hk).1]; exact hk)⟩
theorem tw_Dr {A : Nat → Prop} {w1 w2 : va_W} (h : va_D A (w1 ++ w2)) : va_D A w2 :=
  ⟨fun i j p q hi hj hpq => by have := h.1 _ _ p q (tw_ix (w1 := w1) hi) (tw_ix (w1 := w1) hj) hpq; omega, fun k q hk => h.2 _ q (tw_ix hk)⟩
theorem tw_ne {A : Nat → Prop} {w1 w2 : va_W} (h : va_D A (w1 ++ w2)) {i j : Nat} {p q : Nat × va_E} (hi : w1[i]? = some p) (hj : w2[j]? = some q) : p.1 ≠ q.1 := by
  intro hpq
  have hl := (List.getElem?_eq_some_iff.mp hi).1
  have := h.1 i _ p q (by rw [List.getElem?_append_left hl]; exact hi) (tw_ix (w1 := w1) hj) hpq
  omega
/-- what a callee of the world w1 doesn't touch -/
theorem tw_kept {D : va_G} {cl : List vw_C} {w1 w2 : va_W} {H H1 : Heap} (hP : va_P D cl w2 H) (hne : ∀ (i j : Nat) (p q : Nat × va_E), w1[i]? = some p → w2[j]? = some q → p.1 ≠ q.1) (hk : ∀ q : Nat, q < H.size → ¬ va_A w1 H.size q → H1[q]? = H[q]?) : va_P D cl w2 H1 := by
  refine hP.kept (fun j q hq => hk q.1 (hP j q hq).lt ?_)
  rintro (⟨i, e, hi⟩ | h)
  · exact hne i j (q.1, e) q hi hq rfl
  · exact absurd h (Nat.not_le.mpr (hP j q hq).lt)
theorem x_adr {h : Nat → Nat} {d : ClassId} {sc : Nat → Nat} {ar : Nat → Nat → Nat} {k : Nat} {q : Nat × va_E} (hq : (xW h d sc ar)[k]? = some q) : k < 11 ∧ q.1 = h k := by
  have hk : k < 11 := (List.getElem?_eq_some_iff.mp hq).1
  refine ⟨hk, ?_⟩
  rcases (show k = 0 ∨ k = 1 ∨ k = 2 ∨ k = 3 ∨ k = 4 ∨ k = 5 ∨ k = 6 ∨ k = 7 ∨ k = 8 ∨ k = 9 ∨ k = 10 by omega) with rfl | rfl | rfl | rfl | rfl | rfl | rfl | rfl | rfl | rfl | rfl <;> exact congrArg Prod.fst (Option.some.inj (show some _ = some q from hq)).symm
theorem x_adr' {h : Nat → Nat} {d : ClassId} {sc : Nat → Nat} {ar : Nat → Nat → Nat} {k : Nat} (hk : k < 11) : ∃ e, (xW h d sc ar)[k]? = some (h k, e) := by
  rcases (show k = 0 ∨ k = 1 ∨ k = 2 ∨ k = 3 ∨ k = 4 ∨ k = 5 ∨ k = 6 ∨ k = 7 ∨ k = 8 ∨ k = 9 ∨ k = 10 by omega) with rfl | rfl | rfl | rfl | rfl | rfl | rfl | rfl | rfl | rfl | rfl <;> exact ⟨_, rfl⟩
theorem y_adr {h : Nat → Nat} {d dz : ClassId} {sc : Nat → Nat} {ar : Nat → Nat → Nat} {k : Nat} {q : Nat × va_E} (hq : (yW h d dz sc ar)[k]? = some q) : k < 9 ∧ q.1 = h k := by
  have hk : k < 9 := (List.getElem?_eq_some_iff.mp hq).1
  refine ⟨hk, ?_⟩
  rcases (show k = 0 ∨ k = 1 ∨ k = 2 ∨ k = 3 ∨ k = 4 ∨ k = 5 ∨ k = 6 ∨ k = 7 ∨ k = 8 by omega) with rfl | rfl | rfl | rfl | rfl | rfl | rfl | rfl | rfl <;> exact congrArg Prod.fst (Option.some.inj (show some _ = some q from hq)).symm
theorem y_adr' {h : Nat → Nat} {d dz : ClassId} {sc : Nat → Nat} {ar : Nat → Nat → Nat} {k : Nat} (hk : k < 9) : ∃ e, (yW h d dz sc ar)[k]? = some (h k, e) := by
  rcases (show k = 0 ∨ k = 1 ∨ k = 2 ∨ k = 3 ∨ k = 4 ∨ k = 5 ∨ k = 6 ∨ k = 7 ∨ k = 8 by omega) with rfl | rfl | rfl | rfl | rfl | rfl | rfl | rfl | rfl <;> exact ⟨_, rfl⟩
def lH (dC : Nat → ClassId) (dI : Nat → Nat → Nat) (A : Nat → Prop) (H0 : Heap) (h g : Nat → Nat) (d d2 dz : ClassId) (sx : Nat → Nat) (ax : Nat → Nat → Nat) (sm : Nat → Nat) (am : Nat → Nat → Nat) (H : Heap) (locs : List Loc) : Prop := va_P (dC, dI) vwCl (xW h d sx ax) H ∧ va_D A (xW h d sx ax) ∧ va_P (dC, dI) vwCl (yW g d2 dz sm am) H ∧ va_D A (yW g d2 dz sm am) ∧ va_S A H0 H locs
end
section
/-! THE CLAIM OUT OF ONE WALK OF THE LAW'S BODY. Your part is whole_start (and what it stands on); all else here is the same for every law, but numbers. -/
def R_law : String := "FrontierWatchLaw"
def lw_P (b : Addr) (xs : List Int32) (args : Array Value) (s : State) : Prop := args = #[.ref b] ∧ s.IntsAt b xs ∧ xs.length ≤ 320 ∧ (Jvm.Cond.and given_1 narrow_1).before args s = true
def lw_Q (_ : Array Value) (s : State) (o : Outcome) (t : State) : Prop := o = .returned (some (.int 1)) ∧ Framed s o t [] 600000 7290000
def lw_Z (below : List Frame) (a : Array Value) (s : State) : State → Prop := fun t => ∃ o, t.status = .running ∧ Ended t below o ∧ lw_Q a s o t
/-- the law's own end, with 1 on the stack, nothing written that was there before, its room as the claim has it -/
theorem lw_ret {p : Program} {l : Launch} {e : Env} {s : State} {m : MethodId} {below : List Frame} {meth : Method} {c : Code} {b : Nat} (hx : p.tables.exec = Jvm.exec) (hb : c.code = code) (hr : meth.sig.returnType = ret) (hlocks : meth.locks = false) {pc : Nat} {H : Heap} {ls : Array Slot} (hdg : decode code pc = .ok (.ireturn, 1)) : W p l e room_1 s m #[Value.ref b] below meth c H [] 600000 7290000 (lw_Z below #[Value.ref b] s) (F0 m pc ls [.int 1]) := by
  intro T hT X
  obtain ⟨fs, hret, hrun, hended, hW, hframe⟩ := X.leave (v := some (.int 1)) (hlocks := hlocks) (fun h => by rw [hr] at h; cases h)
  have hmeth' : T.vm.method? m = some meth := X.method'
  refine ⟨T.setFrames fs, ?_, .returned (some (.int 1)), hrun, hended, rfl, ⟨_, rfl⟩, hW, hframe⟩
  jvm_step X.here [X.here.top, hx, hb, hdg, hmeth', hr, ret, narrow_b1]
  (try refine ⟨rfl, ?_⟩); (try refine ⟨rfl, ?_⟩)
  first | (intro acts; rw [hret _ acts rfl rfl rfl]) | rw [hret _ _ rfl rfl rfl]
  exact Steps.refl _
/-- what holds at the law's entry: the machine, the code, the tables' words (any of lw_tbl by 'hts w (by decide +kernel)'), the script of L ints xs at the cell b, what the Statement gives of the start (any of its parts by flat_of_before) -/
def lw_At (p : Program) (s : State) (m : MethodId) (meth : Method) (c : Code) (b L : Nat) (xs : Nat → Int32) : Prop :=
  p.tables.exec = Jvm.exec ∧ c.code = code ∧ meth.sig.returnType = ret ∧ c.maxLocals = 4 ∧ s.vm.findClass R_law = some m.cls ∧ (∀ w ∈ lw_tbl, w.before #[Value.ref b] s = true) ∧ va_X b L xs s s.heap ∧ b < s.heap.size ∧ meth.locks = false ∧ (Jvm.Cond.and given_1 narrow_1).before #[Value.ref b] s = true
end
section
/-! calls in the law's frame -/
section LC
variable {p : Program} {l : Launch} {e : Env} {R : Room} {s : State} {m : MethodId} {args : Array Value} {below : List Frame} {meth : Method} {c : Code} {H : Heap} {locs : List Loc} {cells slots : Nat} {Q : State → Prop} {cc : ByteArray} {pc : Nat} {ls : Array Slot} {rest : List Value}
variable {dC : Nat → ClassId} {dI : Nat → Nat → Nat} {A : Nat → Prop} {h g : Nat → Nat} {d d2 dz : ClassId} {sx sm : Nat → Nat} {ax am : Nat → Nat → Nat} {nL : Nat}
/-- a call of a public method of the component -/
theorem lx_calli (F : CallFix p m c cc nL s args lw_all R_law) (hK : va_K (dC, dI) vwCl [(d, .int)] s) (hne : ∀ i j : Nat, i ≤ 10 → j ≤ 8 → h i ≠ g j) (hA : ∀ q : Nat, s.heap.size ≤ q → A q) (hH : lH dC dI A s.heap h g d d2 dz sx ax sm am H locs) {y : MethodName} {bytes : ByteArray} {maxL n index : Nat} {ret : Option FieldType} {rm : Room} {As : List Value} {post : Int32 → ((Nat → Nat) × (Nat → Nat → Nat)) → Prop}
    (hM : ∀ sz, Met l y (ws_ y bytes maxL ret) rm (x_Pc dC dI h d sz sx ax (.ref (h 0) :: As)) (va_Qi post (x_B dC dI (x_A h d sx ax sz) h d) (x_A h d sx ax sz)) 0 0 (x_A h d sx ax sz))
    (cw : CallW R s args R_law RX0 index y bytes maxL ret (ws_ y bytes maxL ret) rm 0 0 n) (hn : As.length = n) (hsz : ls.size = nL) (hW : (rest.map fun v => v.category).sum ≤ 8) {st : List Value} (hst : st = As.reverse ++ .ref (h 0) :: rest) (hd : decode cc pc = .ok (.invokevirtual index, 3)) (hf : cells ≤ R.cells ∧ slots ≤ R.slots)
    (kk : ∀ (r : Int32) (sx1 : Nat → Nat) (ax1 : Nat → Nat → Nat) (H1 : Heap) (locs1 : List Loc), post r (sx1, ax1) → lH dC dI A s.heap h g d d2 dz sx1 ax1 sm am H1 locs1 → W p l e R s m args below meth c H1 locs1 cells slots Q (F0 m (pc + 3) ls (.int r :: rest))) : W p l e R s m args below meth c H locs cells slots Q (F0 m pc ls st) := by
  obtain ⟨hP, hD, hP2, hD2, hS⟩ := hH
  have hFc : ∀ q, va_A (xW h d sx ax) H.size q → A q := by
    intro q hq
    rcases hq with ⟨k, e', hk⟩ | hq
    · exact hD.2 k _ hk
    · exact hA q (Nat.le_trans hS.1 hq)
  refine va_calli (va_runV (g := F0 m pc ls st) (As := As) (rest := rest) F (hM H.size) cw ⟨fun a U g mk q => by obtain ⟨q0, q1, qP, qK, qD⟩ := q; exact ⟨q0, q1, qP, va_K.moved (u := U) (U := U.calling g mk a) (Vm.Alike.refl U.vm) qK, qD⟩, va_recv hK hP (ci := 0) (q0 := 0) rfl rfl, fun U hU hW => ⟨rfl, by rw [hU], by rw [hU]; exact hP, va_K.moved hW.alike hK, hD.weaken (fun _ _ _ _ => trivial)⟩⟩ rfl hn hsz hst (lv_room hW) hd hf) hS (fun q _ h => hFc q h) hFc (fun r u t H1 locs1 ht hvm hw hB hz hk hS => ?_)
  obtain ⟨sx1, ax1⟩ := u
  obtain ⟨hP1, hK1, hD1⟩ := hB
  rw [ht] at hP1
  have hP2' := tw_kept (w1 := xW h d sx ax) hP2 (fun i j x y hx hy hxy => hne i j (by have := (x_adr hx).1; omega) (by have := (y_adr hy).1; omega) (by rw [← (x_adr hx).2, ← (y_adr hy).2]; exact hxy)) hk
  have hD1' : va_D A (xW h d sx1 ax1) := hD1.weaken (fun k q hq hh => by
    rcases hh with ⟨k2, e2, h2⟩ | h2
    · exact hFc _ (Or.inl ⟨k2, e2, h2⟩)
    · exact hFc _ (Or.inr h2))
  exact kk r sx1 ax1 H1 locs1 hw ⟨hP1, hD1', hP2', hD2, hS⟩
/-- a call of a public method of the model -/
theorem ly_calli (F : CallFix p m c cc nL s args lw_all R_law) (hK : va_K (dC, dI) vwCl [(d2, .int), (dz, .boolean)] s) (hne : ∀ i j : Nat, i ≤ 10 → j ≤ 8 → h i ≠ g j) (hA : ∀ q : Nat, s.heap.size ≤ q → A q) (hH : lH dC dI A s.heap h g d d2 dz sx ax sm am H locs) {y : MethodName} {bytes : ByteArray} {maxL n index : Nat} {ret : Option FieldType} {rm : Room} {As : List Value} {post : Int32 → ((Nat → Nat) × (Nat → Nat → Nat)) → Prop}
    (hM : ∀ sz, Met l y (ws_ y bytes maxL ret) rm (y_Pc dC dI g d2 dz sz sm am (.ref (g 0) :: As)) (va_Qi post (y_B dC dI (y_A g d2 dz sm am sz) g d2 dz) (y_A g d2 dz sm am sz)) 0 0 (y_A g d2 dz sm am sz))
    (cw : CallW R s args R_law RX1 index y bytes maxL ret (ws_ y bytes maxL ret) rm 0 0 n) (hn : As.length = n) (hsz : ls.size = nL) (hW : (rest.map fun v => v.category).sum ≤ 8) {st : List Value} (hst : st = As.reverse ++ .ref (g 0) :: rest) (hd : decode cc pc = .ok (.invokevirtual index, 3)) (hf : cells ≤ R.cells ∧ slots ≤ R.slots)
    (kk : ∀ (r : Int32) (sm1 : Nat → Nat) (am1 : Nat → Nat → Nat) (H1 : Heap) (locs1 : List Loc), post r (sm1, am1) → lH dC dI A s.heap h g d d2 dz sx ax sm1 am1 H1 locs1 → W p l e R s m args below meth c H1 locs1 cells slots Q (F0 m (pc + 3) ls (.int r :: rest))) : W p l e R s m args below meth c H locs cells slots Q (F0 m pc ls st) := by
  obtain ⟨hP2, hD2, hP, hD, hS⟩ := hH
  have hFc : ∀ q, va_A (yW g d2 dz sm am) H.size q → A q := by
    intro q hq
    rcases hq with ⟨k, e', hk⟩ | hq
    · exact hD.2 k _ hk
    · exact hA q (Nat.le_trans hS.1 hq)
  refine va_calli (va_runV (g := F0 m pc ls st) (As := As) (rest := rest) F (hM H.size) cw ⟨fun a U g mk q => by obtain ⟨q0, q1, qP, qK, qD⟩ := q; exact ⟨q0, q1, qP, va_K.moved (u := U) (U := U.calling g mk a) (Vm.Alike.refl U.vm) qK, qD⟩, va_recv hK hP (ci := 1) (q0 := 0) rfl rfl, fun U hU hW => ⟨rfl, by rw [hU], by rw [hU]; exact hP, va_K.moved hW.alike hK, hD.weaken (fun _ _ _ _ => trivial)⟩⟩ rfl hn hsz hst (lv_room hW) hd hf) hS (fun q _ h => hFc q h) hFc (fun r u t H1 locs1 ht hvm hw hB hz hk hS => ?_)
  obtain ⟨sm1, am1⟩ := u
  obtain ⟨hP1, hK1, hD1⟩ := hB
  rw [ht] at hP1
  have hP2' := tw_kept (w1 := yW g d2 dz sm am) hP2 (fun i j x y hx hy hxy => hne j i (by have := (x_adr hy).1; omega) (by have := (y_adr hx).1; omega) (by rw [← (x_adr hy).2, ← (y_adr hx).2]; exact hxy.symm)) hk
  have hD1' : va_D A (yW g d2 dz sm1 am1) := hD1.weaken (fun k q hq hh => by
    rcases hh with ⟨k2, e2, h2⟩ | h2
    · exact hFc _ (Or.inl ⟨k2, e2, h2⟩)
    · exact hFc _ (Or.inr h2))
  exact kk r sm1 am1 H1 locs1 hw ⟨hP2', hD2, hP1, hD1', hS⟩
/-- an int of the script -/
theorem l_sld (hx : p.tables.exec = Jvm.exec) (hb : c.code = cc) {b L : Nat} {xs : Nat → Int32} (hX : va_X b L xs s s.heap) (hbl : b < s.heap.size) (hbA : ¬ A b) (hH : lH dC dI A s.heap h g d d2 dz sx ax sm am H locs) {j : Nat} (hj : j < L) (hL : L ≤ 320) (hd : decode cc pc = .ok (.iaload, 1)) (kk : W p l e R s m args below meth c H locs cells slots Q (F0 m (pc + 1) ls (.int (xs j) :: rest))) : W p l e R s m args below meth c H locs cells slots Q (F0 m pc ls (.int (nI j) :: .ref b :: rest)) := by
  refine va_sld hx hb hX hbl hbA hH.2.2.2.2 (vp_in_nI hj (by omega)) hd ?_
  rw [nI_clamp (by omega)]
  exact kk
end LC
end
section
/-! the law's loop -/
set_option maxHeartbeats 4000000 in
set_option maxRecDepth 100000 in
/-- one round of the law: link -/
theorem lc_link {p : Program} {l : Launch} {e : Env} {s : State} {m : MethodId} {below : List Frame} {meth : Method} {c : Code} {dC : Nat → ClassId} {dI : Nat → Nat → Nat} {A : Nat → Prop} {h g : Nat → Nat} {d d2 dz : ClassId} {b L : Nat} {xs : Nat → Int32} (hL : L ≤ 320) (F : CallFix p m c cL_law 4 s #[Value.ref b] lw_all R_law) (hX : va_X b L xs s s.heap) (hbl : b < s.heap.size) (hbA : ¬ A b) (hA : ∀ q : Nat, s.heap.size ≤ q → A q) (hKx : va_K (dC, dI) vwCl [(d, .int)] s) (hKm : va_K (dC, dI) vwCl [(d2, .int), (dz, .boolean)] s) (hne : ∀ i j : Nat, i ≤ 10 → j ≤ 8 → h i ≠ g j) (i : Nat) (hi : i + 5 ≤ L) (sx : Nat → Nat) (ax : Nat → Nat → Nat) (sm : Nat → Nat) (am : Nat → Nat → Nat) (NX : ∀ (sx : Nat → Nat) (ax : Nat → Nat → Nat) (sm : Nat → Nat) (am : Nat → Nat → Nat), x_I sx ax → y_I sm am → nvX sx ax = nvM sm am → ∀ (H : Heap) (locs : List Loc), lH dC dI A s.heap h g d d2 dz sx ax sm am H locs → ∀ ls : Array Slot, lv_has ls 4 [(0, .ref b), (1, .ref (h 0)), (2, .ref (g 0)), (3, .int (nI i))] → W p l e room_1 s m #[Value.ref b] below meth c H locs 20 5558 (lw_Z below #[Value.ref b] s) (F0 m 468 ls [])) : x_I sx ax → y_I sm am → nvX sx ax = nvM sm am → ∀ (H : Heap) (locs : List Loc), lH dC dI A s.heap h g d d2 dz sx ax sm am H locs → ∀ ls : Array Slot, lv_has ls 4 [(0, .ref b), (1, .ref (h 0)), (2, .ref (g 0)), (3, .int (nI i))] → W p l e room_1 s m #[Value.ref b] below meth c H locs 20 5558 (lw_Z below #[Value.ref b] s) (F0 m 88 ls []) := by
  intro hIx hIm eN H locs hH ls hl
  have hx := F.1
  have hb := F.2.1
  have hts := F.2.2.2.2
  refine lv_aload_n hx hb dL_law_88 rfl (lv_at hl 1 rfl) ?_
  refine lv_aload_n hx hb dL_law_89 rfl (lv_at hl 0 rfl) ?_
  refine lv_iload_n hx hb dL_law_90 rfl (lv_at hl 3 rfl) ?_
  refine lv_iconst (v := nI 1) hx hb dL_law_91 (by decide +kernel) ?_
  refine nw_iadd hx hb dL_law_92 ?_
  refine l_sld hx hb hX hbl hbA hH (j := i + 1) (by omega) hL dL_law_93 ?_
  refine lv_aload_n hx hb dL_law_94 rfl (lv_at hl 0 rfl) ?_
  refine lv_iload_n hx hb dL_law_95 rfl (lv_at hl 3 rfl) ?_
  refine lv_iconst (v := nI 2) hx hb dL_law_96 (by decide +kernel) ?_
  refine nw_iadd hx hb dL_law_97 ?_
  refine l_sld hx hb hX hbl hbA hH (j := i + 2) (by omega) hL dL_law_98 ?_
  refine lv_aload_n hx hb dL_law_99 rfl (lv_at hl 0 rfl) ?_
  refine lv_iload_n hx hb dL_law_100 rfl (lv_at hl 3 rfl) ?_
  refine lv_iconst (v := nI 3) hx hb dL_law_101 (by decide +kernel) ?_
  refine nw_iadd hx hb dL_law_102 ?_
  refine l_sld hx hb hX hbl hbA hH (j := i + 3) (by omega) hL dL_law_103 ?_
  refine lv_aload_n hx hb dL_law_104 rfl (lv_at hl 0 rfl) ?_
  refine lv_iload_n hx hb dL_law_105 rfl (lv_at hl 3 rfl) ?_
  refine lv_iconst (v := nI 4) hx hb dL_law_106 (by decide +kernel) ?_
  refine nw_iadd hx hb dL_law_107 ?_
  refine l_sld hx hb hX hbl hbA hH (j := i + 4) (by omega) hL dL_law_108 ?_
  refine lx_calli F hKx hne hA hH (As := [.int (xs (i + 1)), .int (xs (i + 2)), .int (xs (i + 3)), .int (xs (i + 4))]) (rest := []) (fun sz => mX0_link l dC dI h d sx ax (xs (i + 1)) (xs (i + 2)) (xs (i + 3)) (xs (i + 4)) hIx sz) (cwV 4 hts (lw_V q82 q83 q84 q15 q85) rfl rfl rfl (by decide +kernel) ⟨Nat.le_of_ble_eq_true rfl, Nat.le_of_ble_eq_true rfl⟩) rfl hl.1 (Nat.le_of_ble_eq_true rfl) rfl dL_law_109 ⟨by exact Nat.le_of_ble_eq_true rfl, by exact Nat.le_of_ble_eq_true rfl⟩ (fun r1 sx1 ax1 H locs hp hH => ?_)
  try dsimp only at hp
  obtain ⟨hIx1, ex, rx⟩ := hp
  refine lv_aload_n hx hb dL_law_112 rfl (lv_at hl 2 rfl) ?_
  refine lv_aload_n hx hb dL_law_113 rfl (lv_at hl 0 rfl) ?_
  refine lv_iload_n hx hb dL_law_114 rfl (lv_at hl 3 rfl) ?_
  refine lv_iconst (v := nI 1) hx hb dL_law_115 (by decide +kernel) ?_
  refine nw_iadd hx hb dL_law_116 ?_
  refine l_sld hx hb hX hbl hbA hH (j := i + 1) (by omega) hL dL_law_117 ?_
  refine lv_aload_n hx hb dL_law_118 rfl (lv_at hl 0 rfl) ?_
  refine lv_iload_n hx hb dL_law_119 rfl (lv_at hl 3 rfl) ?_
  refine lv_iconst (v := nI 2) hx hb dL_law_120 (by decide +kernel) ?_
  refine nw_iadd hx hb dL_law_121 ?_
  refine l_sld hx hb hX hbl hbA hH (j := i + 2) (by omega) hL dL_law_122 ?_
  refine lv_aload_n hx hb dL_law_123 rfl (lv_at hl 0 rfl) ?_
  refine lv_iload_n hx hb dL_law_124 rfl (lv_at hl 3 rfl) ?_
  refine lv_iconst (v := nI 3) hx hb dL_law_125 (by decide +kernel) ?_
  refine nw_iadd hx hb dL_law_126 ?_
  refine l_sld hx hb hX hbl hbA hH (j := i + 3) (by omega) hL dL_law_127 ?_
  refine lv_aload_n hx hb dL_law_128 rfl (lv_at hl 0 rfl) ?_
  refine lv_iload_n hx hb dL_law_129 rfl (lv_at hl 3 rfl) ?_
  refine lv_iconst (v := nI 4) hx hb dL_law_130 (by decide +kernel) ?_
  refine nw_iadd hx hb dL_law_131 ?_
  refine l_sld hx hb hX hbl hbA hH (j := i + 4) (by omega) hL dL_law_132 ?_
  refine ly_calli F hKm hne hA hH (As := [.int (xs (i + 1)), .int (xs (i + 2)), .int (xs (i + 3)), .int (xs (i + 4))]) (rest := [.int r1]) (fun sz => mX1_link l dC dI g d2 dz sm am (xs (i + 1)) (xs (i + 2)) (xs (i + 3)) (xs (i + 4)) hIm sz) (cwV 4 hts (lw_V q178 q179 q180 q16 q181) rfl rfl rfl (by decide +kernel) ⟨Nat.le_of_ble_eq_true rfl, Nat.le_of_ble_eq_true rfl⟩) rfl hl.1 (Nat.le_of_ble_eq_true rfl) rfl dL_law_133 ⟨by exact Nat.le_of_ble_eq_true rfl, by exact Nat.le_of_ble_eq_true rfl⟩ (fun r2 sm1 am1 H locs hp hH => ?_)
  try dsimp only at hp
  obtain ⟨hIy1, ey, ry⟩ := hp
  refine lv_icmp_eq (tgt := 468) hx hb dL_law_136 (by decide) (fun _ => ?_) (fun q => absurd (show r1 = r2 by rw [rx, ry, eN]) q)
  exact NX sx1 ax1 sm1 am1 hIx1 hIy1 (by rw [ex, ey, eN]) H locs hH ls hl
set_option maxHeartbeats 4000000 in
set_option maxRecDepth 100000 in
/-- one round of the law: unlink -/
theorem lc_unlink {p : Program} {l : Launch} {e : Env} {s : State} {m : MethodId} {below : List Frame} {meth : Method} {c : Code} {dC : Nat → ClassId} {dI : Nat → Nat → Nat} {A : Nat → Prop} {h g : Nat → Nat} {d d2 dz : ClassId} {b L : Nat} {xs : Nat → Int32} (hL : L ≤ 320) (F : CallFix p m c cL_law 4 s #[Value.ref b] lw_all R_law) (hX : va_X b L xs s s.heap) (hbl : b < s.heap.size) (hbA : ¬ A b) (hA : ∀ q : Nat, s.heap.size ≤ q → A q) (hKx : va_K (dC, dI) vwCl [(d, .int)] s) (hKm : va_K (dC, dI) vwCl [(d2, .int), (dz, .boolean)] s) (hne : ∀ i j : Nat, i ≤ 10 → j ≤ 8 → h i ≠ g j) (i : Nat) (hi : i + 5 ≤ L) (sx : Nat → Nat) (ax : Nat → Nat → Nat) (sm : Nat → Nat) (am : Nat → Nat → Nat) (NX : ∀ (sx : Nat → Nat) (ax : Nat → Nat → Nat) (sm : Nat → Nat) (am : Nat → Nat → Nat), x_I sx ax → y_I sm am → nvX sx ax = nvM sm am → ∀ (H : Heap) (locs : List Loc), lH dC dI A s.heap h g d d2 dz sx ax sm am H locs → ∀ ls : Array Slot, lv_has ls 4 [(0, .ref b), (1, .ref (h 0)), (2, .ref (g 0)), (3, .int (nI i))] → W p l e room_1 s m #[Value.ref b] below meth c H locs 20 5558 (lw_Z below #[Value.ref b] s) (F0 m 468 ls [])) : x_I sx ax → y_I sm am → nvX sx ax = nvM sm am → ∀ (H : Heap) (locs : List Loc), lH dC dI A s.heap h g d d2 dz sx ax sm am H locs → ∀ ls : Array Slot, lv_has ls 4 [(0, .ref b), (1, .ref (h 0)), (2, .ref (g 0)), (3, .int (nI i))] → W p l e room_1 s m #[Value.ref b] below meth c H locs 20 5558 (lw_Z below #[Value.ref b] s) (F0 m 141 ls []) := by
  intro hIx hIm eN H locs hH ls hl
  have hx := F.1
  have hb := F.2.1
  have hts := F.2.2.2.2
  refine lv_aload_n hx hb dL_law_141 rfl (lv_at hl 1 rfl) ?_
  refine lv_aload_n hx hb dL_law_142 rfl (lv_at hl 0 rfl) ?_
  refine lv_iload_n hx hb dL_law_143 rfl (lv_at hl 3 rfl) ?_
  refine lv_iconst (v := nI 1) hx hb dL_law_144 (by decide +kernel) ?_
  refine nw_iadd hx hb dL_law_145 ?_
  refine l_sld hx hb hX hbl hbA hH (j := i + 1) (by omega) hL dL_law_146 ?_
  refine lx_calli F hKx hne hA hH (As := [.int (xs (i + 1))]) (rest := []) (fun sz => mX0_unlink l dC dI h d sx ax (xs (i + 1)) hIx sz) (cwV 1 hts (lw_V q89 q90 q91 q15 q92) rfl rfl rfl (by decide +kernel) ⟨Nat.le_of_ble_eq_true rfl, Nat.le_of_ble_eq_true rfl⟩) rfl hl.1 (Nat.le_of_ble_eq_true rfl) rfl dL_law_147 ⟨by exact Nat.le_of_ble_eq_true rfl, by exact Nat.le_of_ble_eq_true rfl⟩ (fun r1 sx1 ax1 H locs hp hH => ?_)
  try dsimp only at hp
  obtain ⟨hIx1, ex, rx⟩ := hp
  refine lv_aload_n hx hb dL_law_150 rfl (lv_at hl 2 rfl) ?_
  refine lv_aload_n hx hb dL_law_151 rfl (lv_at hl 0 rfl) ?_
  refine lv_iload_n hx hb dL_law_152 rfl (lv_at hl 3 rfl) ?_
  refine lv_iconst (v := nI 1) hx hb dL_law_153 (by decide +kernel) ?_
  refine nw_iadd hx hb dL_law_154 ?_
  refine l_sld hx hb hX hbl hbA hH (j := i + 1) (by omega) hL dL_law_155 ?_
  refine ly_calli F hKm hne hA hH (As := [.int (xs (i + 1))]) (rest := [.int r1]) (fun sz => mX1_unlink l dC dI g d2 dz sm am (xs (i + 1)) hIm sz) (cwV 1 hts (lw_V q185 q186 q187 q16 q188) rfl rfl rfl (by decide +kernel) ⟨Nat.le_of_ble_eq_true rfl, Nat.le_of_ble_eq_true rfl⟩) rfl hl.1 (Nat.le_of_ble_eq_true rfl) rfl dL_law_156 ⟨by exact Nat.le_of_ble_eq_true rfl, by exact Nat.le_of_ble_eq_true rfl⟩ (fun r2 sm1 am1 H locs hp hH => ?_)
  try dsimp only at hp
  obtain ⟨hIy1, ey, ry⟩ := hp
  refine lv_icmp_eq (tgt := 468) hx hb dL_law_159 (by decide) (fun _ => ?_) (fun q => absurd (show r1 = r2 by rw [rx, ry, eN]) q)
  exact NX sx1 ax1 sm1 am1 hIx1 hIy1 (by rw [ex, ey, eN]) H locs hH ls hl
set_option maxHeartbeats 4000000 in
set_option maxRecDepth 100000 in
/-- one round of the law: put -/
theorem lc_put {p : Program} {l : Launch} {e : Env} {s : State} {m : MethodId} {below : List Frame} {meth : Method} {c : Code} {dC : Nat → ClassId} {dI : Nat → Nat → Nat} {A : Nat → Prop} {h g : Nat → Nat} {d d2 dz : ClassId} {b L : Nat} {xs : Nat → Int32} (hL : L ≤ 320) (F : CallFix p m c cL_law 4 s #[Value.ref b] lw_all R_law) (hX : va_X b L xs s s.heap) (hbl : b < s.heap.size) (hbA : ¬ A b) (hA : ∀ q : Nat, s.heap.size ≤ q → A q) (hKx : va_K (dC, dI) vwCl [(d, .int)] s) (hKm : va_K (dC, dI) vwCl [(d2, .int), (dz, .boolean)] s) (hne : ∀ i j : Nat, i ≤ 10 → j ≤ 8 → h i ≠ g j) (i : Nat) (hi : i + 5 ≤ L) (sx : Nat → Nat) (ax : Nat → Nat → Nat) (sm : Nat → Nat) (am : Nat → Nat → Nat) (NX : ∀ (sx : Nat → Nat) (ax : Nat → Nat → Nat) (sm : Nat → Nat) (am : Nat → Nat → Nat), x_I sx ax → y_I sm am → nvX sx ax = nvM sm am → ∀ (H : Heap) (locs : List Loc), lH dC dI A s.heap h g d d2 dz sx ax sm am H locs → ∀ ls : Array Slot, lv_has ls 4 [(0, .ref b), (1, .ref (h 0)), (2, .ref (g 0)), (3, .int (nI i))] → W p l e room_1 s m #[Value.ref b] below meth c H locs 20 5558 (lw_Z below #[Value.ref b] s) (F0 m 468 ls [])) : x_I sx ax → y_I sm am → nvX sx ax = nvM sm am → ∀ (H : Heap) (locs : List Loc), lH dC dI A s.heap h g d d2 dz sx ax sm am H locs → ∀ ls : Array Slot, lv_has ls 4 [(0, .ref b), (1, .ref (h 0)), (2, .ref (g 0)), (3, .int (nI i))] → W p l e room_1 s m #[Value.ref b] below meth c H locs 20 5558 (lw_Z below #[Value.ref b] s) (F0 m 164 ls []) := by
  intro hIx hIm eN H locs hH ls hl
  have hx := F.1
  have hb := F.2.1
  have hts := F.2.2.2.2
  refine lv_aload_n hx hb dL_law_164 rfl (lv_at hl 1 rfl) ?_
  refine lv_aload_n hx hb dL_law_165 rfl (lv_at hl 0 rfl) ?_
  refine lv_iload_n hx hb dL_law_166 rfl (lv_at hl 3 rfl) ?_
  refine lv_iconst (v := nI 1) hx hb dL_law_167 (by decide +kernel) ?_
  refine nw_iadd hx hb dL_law_168 ?_
  refine l_sld hx hb hX hbl hbA hH (j := i + 1) (by omega) hL dL_law_169 ?_
  refine lv_aload_n hx hb dL_law_170 rfl (lv_at hl 0 rfl) ?_
  refine lv_iload_n hx hb dL_law_171 rfl (lv_at hl 3 rfl) ?_
  refine lv_iconst (v := nI 2) hx hb dL_law_172 (by decide +kernel) ?_
  refine nw_iadd hx hb dL_law_173 ?_
  refine l_sld hx hb hX hbl hbA hH (j := i + 2) (by omega) hL dL_law_174 ?_
  refine lv_aload_n hx hb dL_law_175 rfl (lv_at hl 0 rfl) ?_
  refine lv_iload_n hx hb dL_law_176 rfl (lv_at hl 3 rfl) ?_
  refine lv_iconst (v := nI 3) hx hb dL_law_177 (by decide +kernel) ?_
  refine nw_iadd hx hb dL_law_178 ?_
  refine l_sld hx hb hX hbl hbA hH (j := i + 3) (by omega) hL dL_law_179 ?_
  refine lx_calli F hKx hne hA hH (As := [.int (xs (i + 1)), .int (xs (i + 2)), .int (xs (i + 3))]) (rest := []) (fun sz => mX0_put l dC dI h d sx ax (xs (i + 1)) (xs (i + 2)) (xs (i + 3)) hIx sz) (cwV 3 hts (lw_V q93 q94 q95 q15 q96) rfl rfl rfl (by decide +kernel) ⟨Nat.le_of_ble_eq_true rfl, Nat.le_of_ble_eq_true rfl⟩) rfl hl.1 (Nat.le_of_ble_eq_true rfl) rfl dL_law_180 ⟨by exact Nat.le_of_ble_eq_true rfl, by exact Nat.le_of_ble_eq_true rfl⟩ (fun r1 sx1 ax1 H locs hp hH => ?_)
  try dsimp only at hp
  obtain ⟨hIx1, ex, rx⟩ := hp
  refine lv_aload_n hx hb dL_law_183 rfl (lv_at hl 2 rfl) ?_
  refine lv_aload_n hx hb dL_law_184 rfl (lv_at hl 0 rfl) ?_
  refine lv_iload_n hx hb dL_law_185 rfl (lv_at hl 3 rfl) ?_
  refine lv_iconst (v := nI 1) hx hb dL_law_186 (by decide +kernel) ?_
  refine nw_iadd hx hb dL_law_187 ?_
  refine l_sld hx hb hX hbl hbA hH (j := i + 1) (by omega) hL dL_law_188 ?_
  refine lv_aload_n hx hb dL_law_189 rfl (lv_at hl 0 rfl) ?_
  refine lv_iload_n hx hb dL_law_190 rfl (lv_at hl 3 rfl) ?_
  refine lv_iconst (v := nI 2) hx hb dL_law_191 (by decide +kernel) ?_
  refine nw_iadd hx hb dL_law_192 ?_
  refine l_sld hx hb hX hbl hbA hH (j := i + 2) (by omega) hL dL_law_193 ?_
  refine lv_aload_n hx hb dL_law_194 rfl (lv_at hl 0 rfl) ?_
  refine lv_iload_n hx hb dL_law_195 rfl (lv_at hl 3 rfl) ?_
  refine lv_iconst (v := nI 3) hx hb dL_law_196 (by decide +kernel) ?_
  refine nw_iadd hx hb dL_law_197 ?_
  refine l_sld hx hb hX hbl hbA hH (j := i + 3) (by omega) hL dL_law_198 ?_
  refine ly_calli F hKm hne hA hH (As := [.int (xs (i + 1)), .int (xs (i + 2)), .int (xs (i + 3))]) (rest := [.int r1]) (fun sz => mX1_put l dC dI g d2 dz sm am (xs (i + 1)) (xs (i + 2)) (xs (i + 3)) hIm sz) (cwV 3 hts (lw_V q189 q190 q191 q16 q192) rfl rfl rfl (by decide +kernel) ⟨Nat.le_of_ble_eq_true rfl, Nat.le_of_ble_eq_true rfl⟩) rfl hl.1 (Nat.le_of_ble_eq_true rfl) rfl dL_law_199 ⟨by exact Nat.le_of_ble_eq_true rfl, by exact Nat.le_of_ble_eq_true rfl⟩ (fun r2 sm1 am1 H locs hp hH => ?_)
  try dsimp only at hp
  obtain ⟨hIy1, ey, ry⟩ := hp
  refine lv_icmp_eq (tgt := 468) hx hb dL_law_202 (by decide) (fun _ => ?_) (fun q => absurd (show r1 = r2 by rw [rx, ry, eN]) q)
  exact NX sx1 ax1 sm1 am1 hIx1 hIy1 (by rw [ex, ey, eN]) H locs hH ls hl
set_option maxHeartbeats 4000000 in
set_option maxRecDepth 100000 in
/-- one round of the law: take -/
theorem lc_take {p : Program} {l : Launch} {e : Env} {s : State} {m : MethodId} {below : List Frame} {meth : Method} {c : Code} {dC : Nat → ClassId} {dI : Nat → Nat → Nat} {A : Nat → Prop} {h g : Nat → Nat} {d d2 dz : ClassId} {b L : Nat} {xs : Nat → Int32} (hL : L ≤ 320) (F : CallFix p m c cL_law 4 s #[Value.ref b] lw_all R_law) (hX : va_X b L xs s s.heap) (hbl : b < s.heap.size) (hbA : ¬ A b) (hA : ∀ q : Nat, s.heap.size ≤ q → A q) (hKx : va_K (dC, dI) vwCl [(d, .int)] s) (hKm : va_K (dC, dI) vwCl [(d2, .int), (dz, .boolean)] s) (hne : ∀ i j : Nat, i ≤ 10 → j ≤ 8 → h i ≠ g j) (i : Nat) (hi : i + 5 ≤ L) (sx : Nat → Nat) (ax : Nat → Nat → Nat) (sm : Nat → Nat) (am : Nat → Nat → Nat) (NX : ∀ (sx : Nat → Nat) (ax : Nat → Nat → Nat) (sm : Nat → Nat) (am : Nat → Nat → Nat), x_I sx ax → y_I sm am → nvX sx ax = nvM sm am → ∀ (H : Heap) (locs : List Loc), lH dC dI A s.heap h g d d2 dz sx ax sm am H locs → ∀ ls : Array Slot, lv_has ls 4 [(0, .ref b), (1, .ref (h 0)), (2, .ref (g 0)), (3, .int (nI i))] → W p l e room_1 s m #[Value.ref b] below meth c H locs 20 5558 (lw_Z below #[Value.ref b] s) (F0 m 468 ls [])) : x_I sx ax → y_I sm am → nvX sx ax = nvM sm am → ∀ (H : Heap) (locs : List Loc), lH dC dI A s.heap h g d d2 dz sx ax sm am H locs → ∀ ls : Array Slot, lv_has ls 4 [(0, .ref b), (1, .ref (h 0)), (2, .ref (g 0)), (3, .int (nI i))] → W p l e room_1 s m #[Value.ref b] below meth c H locs 20 5558 (lw_Z below #[Value.ref b] s) (F0 m 207 ls []) := by
  intro hIx hIm eN H locs hH ls hl
  have hx := F.1
  have hb := F.2.1
  have hts := F.2.2.2.2
  refine lv_aload_n hx hb dL_law_207 rfl (lv_at hl 1 rfl) ?_
  refine lv_aload_n hx hb dL_law_208 rfl (lv_at hl 0 rfl) ?_
  refine lv_iload_n hx hb dL_law_209 rfl (lv_at hl 3 rfl) ?_
  refine lv_iconst (v := nI 1) hx hb dL_law_210 (by decide +kernel) ?_
  refine nw_iadd hx hb dL_law_211 ?_
  refine l_sld hx hb hX hbl hbA hH (j := i + 1) (by omega) hL dL_law_212 ?_
  refine lv_aload_n hx hb dL_law_213 rfl (lv_at hl 0 rfl) ?_
  refine lv_iload_n hx hb dL_law_214 rfl (lv_at hl 3 rfl) ?_
  refine lv_iconst (v := nI 2) hx hb dL_law_215 (by decide +kernel) ?_
  refine nw_iadd hx hb dL_law_216 ?_
  refine l_sld hx hb hX hbl hbA hH (j := i + 2) (by omega) hL dL_law_217 ?_
  refine lv_aload_n hx hb dL_law_218 rfl (lv_at hl 0 rfl) ?_
  refine lv_iload_n hx hb dL_law_219 rfl (lv_at hl 3 rfl) ?_
  refine lv_iconst (v := nI 3) hx hb dL_law_220 (by decide +kernel) ?_
  refine nw_iadd hx hb dL_law_221 ?_
  refine l_sld hx hb hX hbl hbA hH (j := i + 3) (by omega) hL dL_law_222 ?_
  refine lx_calli F hKx hne hA hH (As := [.int (xs (i + 1)), .int (xs (i + 2)), .int (xs (i + 3))]) (rest := []) (fun sz => mX0_take l dC dI h d sx ax (xs (i + 1)) (xs (i + 2)) (xs (i + 3)) hIx sz) (cwV 3 hts (lw_V q100 q101 q102 q15 q103) rfl rfl rfl (by decide +kernel) ⟨Nat.le_of_ble_eq_true rfl, Nat.le_of_ble_eq_true rfl⟩) rfl hl.1 (Nat.le_of_ble_eq_true rfl) rfl dL_law_223 ⟨by exact Nat.le_of_ble_eq_true rfl, by exact Nat.le_of_ble_eq_true rfl⟩ (fun r1 sx1 ax1 H locs hp hH => ?_)
  try dsimp only at hp
  obtain ⟨hIx1, ex, rx⟩ := hp
  refine lv_aload_n hx hb dL_law_226 rfl (lv_at hl 2 rfl) ?_
  refine lv_aload_n hx hb dL_law_227 rfl (lv_at hl 0 rfl) ?_
  refine lv_iload_n hx hb dL_law_228 rfl (lv_at hl 3 rfl) ?_
  refine lv_iconst (v := nI 1) hx hb dL_law_229 (by decide +kernel) ?_
  refine nw_iadd hx hb dL_law_230 ?_
  refine l_sld hx hb hX hbl hbA hH (j := i + 1) (by omega) hL dL_law_231 ?_
  refine lv_aload_n hx hb dL_law_232 rfl (lv_at hl 0 rfl) ?_
  refine lv_iload_n hx hb dL_law_233 rfl (lv_at hl 3 rfl) ?_
  refine lv_iconst (v := nI 2) hx hb dL_law_234 (by decide +kernel) ?_
  refine nw_iadd hx hb dL_law_235 ?_
  refine l_sld hx hb hX hbl hbA hH (j := i + 2) (by omega) hL dL_law_236 ?_
  refine lv_aload_n hx hb dL_law_237 rfl (lv_at hl 0 rfl) ?_
  refine lv_iload_n hx hb dL_law_238 rfl (lv_at hl 3 rfl) ?_
  refine lv_iconst (v := nI 3) hx hb dL_law_239 (by decide +kernel) ?_
  refine nw_iadd hx hb dL_law_240 ?_
  refine l_sld hx hb hX hbl hbA hH (j := i + 3) (by omega) hL dL_law_241 ?_
  refine ly_calli F hKm hne hA hH (As := [.int (xs (i + 1)), .int (xs (i + 2)), .int (xs (i + 3))]) (rest := [.int r1]) (fun sz => mX1_take l dC dI g d2 dz sm am (xs (i + 1)) (xs (i + 2)) (xs (i + 3)) hIm sz) (cwV 3 hts (lw_V q196 q197 q198 q16 q199) rfl rfl rfl (by decide +kernel) ⟨Nat.le_of_ble_eq_true rfl, Nat.le_of_ble_eq_true rfl⟩) rfl hl.1 (Nat.le_of_ble_eq_true rfl) rfl dL_law_242 ⟨by exact Nat.le_of_ble_eq_true rfl, by exact Nat.le_of_ble_eq_true rfl⟩ (fun r2 sm1 am1 H locs hp hH => ?_)
  try dsimp only at hp
  obtain ⟨hIy1, ey, ry⟩ := hp
  refine lv_icmp_eq (tgt := 468) hx hb dL_law_245 (by decide) (fun _ => ?_) (fun q => absurd (show r1 = r2 by rw [rx, ry, eN]) q)
  exact NX sx1 ax1 sm1 am1 hIx1 hIy1 (by rw [ex, ey, eN]) H locs hH ls hl
set_option maxHeartbeats 4000000 in
set_option maxRecDepth 100000 in
/-- one round of the law: pass -/
theorem lc_pass {p : Program} {l : Launch} {e : Env} {s : State} {m : MethodId} {below : List Frame} {meth : Method} {c : Code} {dC : Nat → ClassId} {dI : Nat → Nat → Nat} {A : Nat → Prop} {h g : Nat → Nat} {d d2 dz : ClassId} {b L : Nat} {xs : Nat → Int32} (hL : L ≤ 320) (F : CallFix p m c cL_law 4 s #[Value.ref b] lw_all R_law) (hX : va_X b L xs s s.heap) (hbl : b < s.heap.size) (hbA : ¬ A b) (hA : ∀ q : Nat, s.heap.size ≤ q → A q) (hKx : va_K (dC, dI) vwCl [(d, .int)] s) (hKm : va_K (dC, dI) vwCl [(d2, .int), (dz, .boolean)] s) (hne : ∀ i j : Nat, i ≤ 10 → j ≤ 8 → h i ≠ g j) (i : Nat) (hi : i + 5 ≤ L) (sx : Nat → Nat) (ax : Nat → Nat → Nat) (sm : Nat → Nat) (am : Nat → Nat → Nat) (NX : ∀ (sx : Nat → Nat) (ax : Nat → Nat → Nat) (sm : Nat → Nat) (am : Nat → Nat → Nat), x_I sx ax → y_I sm am → nvX sx ax = nvM sm am → ∀ (H : Heap) (locs : List Loc), lH dC dI A s.heap h g d d2 dz sx ax sm am H locs → ∀ ls : Array Slot, lv_has ls 4 [(0, .ref b), (1, .ref (h 0)), (2, .ref (g 0)), (3, .int (nI i))] → W p l e room_1 s m #[Value.ref b] below meth c H locs 20 5558 (lw_Z below #[Value.ref b] s) (F0 m 468 ls [])) : x_I sx ax → y_I sm am → nvX sx ax = nvM sm am → ∀ (H : Heap) (locs : List Loc), lH dC dI A s.heap h g d d2 dz sx ax sm am H locs → ∀ ls : Array Slot, lv_has ls 4 [(0, .ref b), (1, .ref (h 0)), (2, .ref (g 0)), (3, .int (nI i))] → W p l e room_1 s m #[Value.ref b] below meth c H locs 20 5558 (lw_Z below #[Value.ref b] s) (F0 m 250 ls []) := by
  intro hIx hIm eN H locs hH ls hl
  have hx := F.1
  have hb := F.2.1
  have hts := F.2.2.2.2
  refine lv_aload_n hx hb dL_law_250 rfl (lv_at hl 1 rfl) ?_
  refine lv_aload_n hx hb dL_law_251 rfl (lv_at hl 0 rfl) ?_
  refine lv_iload_n hx hb dL_law_252 rfl (lv_at hl 3 rfl) ?_
  refine lv_iconst (v := nI 1) hx hb dL_law_253 (by decide +kernel) ?_
  refine nw_iadd hx hb dL_law_254 ?_
  refine l_sld hx hb hX hbl hbA hH (j := i + 1) (by omega) hL dL_law_255 ?_
  refine lv_aload_n hx hb dL_law_256 rfl (lv_at hl 0 rfl) ?_
  refine lv_iload_n hx hb dL_law_257 rfl (lv_at hl 3 rfl) ?_
  refine lv_iconst (v := nI 2) hx hb dL_law_258 (by decide +kernel) ?_
  refine nw_iadd hx hb dL_law_259 ?_
  refine l_sld hx hb hX hbl hbA hH (j := i + 2) (by omega) hL dL_law_260 ?_
  refine lv_aload_n hx hb dL_law_261 rfl (lv_at hl 0 rfl) ?_
  refine lv_iload_n hx hb dL_law_262 rfl (lv_at hl 3 rfl) ?_
  refine lv_iconst (v := nI 3) hx hb dL_law_263 (by decide +kernel) ?_
  refine nw_iadd hx hb dL_law_264 ?_
  refine l_sld hx hb hX hbl hbA hH (j := i + 3) (by omega) hL dL_law_265 ?_
  refine lx_calli F hKx hne hA hH (As := [.int (xs (i + 1)), .int (xs (i + 2)), .int (xs (i + 3))]) (rest := []) (fun sz => mX0_pass l dC dI h d sx ax (xs (i + 1)) (xs (i + 2)) (xs (i + 3)) hIx sz) (cwV 3 hts (lw_V q108 q109 q110 q15 q111) rfl rfl rfl (by decide +kernel) ⟨Nat.le_of_ble_eq_true rfl, Nat.le_of_ble_eq_true rfl⟩) rfl hl.1 (Nat.le_of_ble_eq_true rfl) rfl dL_law_266 ⟨by exact Nat.le_of_ble_eq_true rfl, by exact Nat.le_of_ble_eq_true rfl⟩ (fun r1 sx1 ax1 H locs hp hH => ?_)
  try dsimp only at hp
  obtain ⟨hIx1, ex, rx⟩ := hp
  refine lv_aload_n hx hb dL_law_269 rfl (lv_at hl 2 rfl) ?_
  refine lv_aload_n hx hb dL_law_270 rfl (lv_at hl 0 rfl) ?_
  refine lv_iload_n hx hb dL_law_271 rfl (lv_at hl 3 rfl) ?_
  refine lv_iconst (v := nI 1) hx hb dL_law_272 (by decide +kernel) ?_
  refine nw_iadd hx hb dL_law_273 ?_
  refine l_sld hx hb hX hbl hbA hH (j := i + 1) (by omega) hL dL_law_274 ?_
  refine lv_aload_n hx hb dL_law_275 rfl (lv_at hl 0 rfl) ?_
  refine lv_iload_n hx hb dL_law_276 rfl (lv_at hl 3 rfl) ?_
  refine lv_iconst (v := nI 2) hx hb dL_law_277 (by decide +kernel) ?_
  refine nw_iadd hx hb dL_law_278 ?_
  refine l_sld hx hb hX hbl hbA hH (j := i + 2) (by omega) hL dL_law_279 ?_
  refine lv_aload_n hx hb dL_law_280 rfl (lv_at hl 0 rfl) ?_
  refine lv_iload_n hx hb dL_law_281 rfl (lv_at hl 3 rfl) ?_
  refine lv_iconst (v := nI 3) hx hb dL_law_282 (by decide +kernel) ?_
  refine nw_iadd hx hb dL_law_283 ?_
  refine l_sld hx hb hX hbl hbA hH (j := i + 3) (by omega) hL dL_law_284 ?_
  refine ly_calli F hKm hne hA hH (As := [.int (xs (i + 1)), .int (xs (i + 2)), .int (xs (i + 3))]) (rest := [.int r1]) (fun sz => mX1_pass l dC dI g d2 dz sm am (xs (i + 1)) (xs (i + 2)) (xs (i + 3)) hIm sz) (cwV 3 hts (lw_V q204 q205 q206 q16 q207) rfl rfl rfl (by decide +kernel) ⟨Nat.le_of_ble_eq_true rfl, Nat.le_of_ble_eq_true rfl⟩) rfl hl.1 (Nat.le_of_ble_eq_true rfl) rfl dL_law_285 ⟨by exact Nat.le_of_ble_eq_true rfl, by exact Nat.le_of_ble_eq_true rfl⟩ (fun r2 sm1 am1 H locs hp hH => ?_)
  try dsimp only at hp
  obtain ⟨hIy1, ey, ry⟩ := hp
  refine lv_icmp_eq (tgt := 468) hx hb dL_law_288 (by decide) (fun _ => ?_) (fun q => absurd (show r1 = r2 by rw [rx, ry, eN]) q)
  exact NX sx1 ax1 sm1 am1 hIx1 hIy1 (by rw [ex, ey, eN]) H locs hH ls hl
set_option maxHeartbeats 4000000 in
set_option maxRecDepth 100000 in
/-- one round of the law: possible -/
theorem lc_possible {p : Program} {l : Launch} {e : Env} {s : State} {m : MethodId} {below : List Frame} {meth : Method} {c : Code} {dC : Nat → ClassId} {dI : Nat → Nat → Nat} {A : Nat → Prop} {h g : Nat → Nat} {d d2 dz : ClassId} {b L : Nat} {xs : Nat → Int32} (hL : L ≤ 320) (F : CallFix p m c cL_law 4 s #[Value.ref b] lw_all R_law) (hX : va_X b L xs s s.heap) (hbl : b < s.heap.size) (hbA : ¬ A b) (hA : ∀ q : Nat, s.heap.size ≤ q → A q) (hKx : va_K (dC, dI) vwCl [(d, .int)] s) (hKm : va_K (dC, dI) vwCl [(d2, .int), (dz, .boolean)] s) (hne : ∀ i j : Nat, i ≤ 10 → j ≤ 8 → h i ≠ g j) (i : Nat) (hi : i + 5 ≤ L) (sx : Nat → Nat) (ax : Nat → Nat → Nat) (sm : Nat → Nat) (am : Nat → Nat → Nat) (NX : ∀ (sx : Nat → Nat) (ax : Nat → Nat → Nat) (sm : Nat → Nat) (am : Nat → Nat → Nat), x_I sx ax → y_I sm am → nvX sx ax = nvM sm am → ∀ (H : Heap) (locs : List Loc), lH dC dI A s.heap h g d d2 dz sx ax sm am H locs → ∀ ls : Array Slot, lv_has ls 4 [(0, .ref b), (1, .ref (h 0)), (2, .ref (g 0)), (3, .int (nI i))] → W p l e room_1 s m #[Value.ref b] below meth c H locs 20 5558 (lw_Z below #[Value.ref b] s) (F0 m 468 ls [])) : x_I sx ax → y_I sm am → nvX sx ax = nvM sm am → ∀ (H : Heap) (locs : List Loc), lH dC dI A s.heap h g d d2 dz sx ax sm am H locs → ∀ ls : Array Slot, lv_has ls 4 [(0, .ref b), (1, .ref (h 0)), (2, .ref (g 0)), (3, .int (nI i))] → W p l e room_1 s m #[Value.ref b] below meth c H locs 20 5558 (lw_Z below #[Value.ref b] s) (F0 m 293 ls []) := by
  intro hIx hIm eN H locs hH ls hl
  have hx := F.1
  have hb := F.2.1
  have hts := F.2.2.2.2
  refine lv_aload_n hx hb dL_law_293 rfl (lv_at hl 1 rfl) ?_
  refine lv_aload_n hx hb dL_law_294 rfl (lv_at hl 0 rfl) ?_
  refine lv_iload_n hx hb dL_law_295 rfl (lv_at hl 3 rfl) ?_
  refine lv_iconst (v := nI 1) hx hb dL_law_296 (by decide +kernel) ?_
  refine nw_iadd hx hb dL_law_297 ?_
  refine l_sld hx hb hX hbl hbA hH (j := i + 1) (by omega) hL dL_law_298 ?_
  refine lv_aload_n hx hb dL_law_299 rfl (lv_at hl 0 rfl) ?_
  refine lv_iload_n hx hb dL_law_300 rfl (lv_at hl 3 rfl) ?_
  refine lv_iconst (v := nI 2) hx hb dL_law_301 (by decide +kernel) ?_
  refine nw_iadd hx hb dL_law_302 ?_
  refine l_sld hx hb hX hbl hbA hH (j := i + 2) (by omega) hL dL_law_303 ?_
  refine lv_aload_n hx hb dL_law_304 rfl (lv_at hl 0 rfl) ?_
  refine lv_iload_n hx hb dL_law_305 rfl (lv_at hl 3 rfl) ?_
  refine lv_iconst (v := nI 3) hx hb dL_law_306 (by decide +kernel) ?_
  refine nw_iadd hx hb dL_law_307 ?_
  refine l_sld hx hb hX hbl hbA hH (j := i + 3) (by omega) hL dL_law_308 ?_
  refine lx_calli F hKx hne hA hH (As := [.int (xs (i + 1)), .int (xs (i + 2)), .int (xs (i + 3))]) (rest := []) (fun sz => mX0_possible l dC dI h d sx ax (xs (i + 1)) (xs (i + 2)) (xs (i + 3)) hIx sz) (cwV 3 hts (lw_V q112 q113 q114 q15 q115) rfl rfl rfl (by decide +kernel) ⟨Nat.le_of_ble_eq_true rfl, Nat.le_of_ble_eq_true rfl⟩) rfl hl.1 (Nat.le_of_ble_eq_true rfl) rfl dL_law_309 ⟨by exact Nat.le_of_ble_eq_true rfl, by exact Nat.le_of_ble_eq_true rfl⟩ (fun r1 sx1 ax1 H locs hp hH => ?_)
  try dsimp only at hp
  obtain ⟨hIx1, ex, rx⟩ := hp
  refine lv_aload_n hx hb dL_law_312 rfl (lv_at hl 2 rfl) ?_
  refine lv_aload_n hx hb dL_law_313 rfl (lv_at hl 0 rfl) ?_
  refine lv_iload_n hx hb dL_law_314 rfl (lv_at hl 3 rfl) ?_
  refine lv_iconst (v := nI 1) hx hb dL_law_315 (by decide +kernel) ?_
  refine nw_iadd hx hb dL_law_316 ?_
  refine l_sld hx hb hX hbl hbA hH (j := i + 1) (by omega) hL dL_law_317 ?_
  refine lv_aload_n hx hb dL_law_318 rfl (lv_at hl 0 rfl) ?_
  refine lv_iload_n hx hb dL_law_319 rfl (lv_at hl 3 rfl) ?_
  refine lv_iconst (v := nI 2) hx hb dL_law_320 (by decide +kernel) ?_
  refine nw_iadd hx hb dL_law_321 ?_
  refine l_sld hx hb hX hbl hbA hH (j := i + 2) (by omega) hL dL_law_322 ?_
  refine lv_aload_n hx hb dL_law_323 rfl (lv_at hl 0 rfl) ?_
  refine lv_iload_n hx hb dL_law_324 rfl (lv_at hl 3 rfl) ?_
  refine lv_iconst (v := nI 3) hx hb dL_law_325 (by decide +kernel) ?_
  refine nw_iadd hx hb dL_law_326 ?_
  refine l_sld hx hb hX hbl hbA hH (j := i + 3) (by omega) hL dL_law_327 ?_
  refine ly_calli F hKm hne hA hH (As := [.int (xs (i + 1)), .int (xs (i + 2)), .int (xs (i + 3))]) (rest := [.int r1]) (fun sz => mX1_possible l dC dI g d2 dz sm am (xs (i + 1)) (xs (i + 2)) (xs (i + 3)) hIm sz) (cwV 3 hts (lw_V q208 q209 q210 q16 q211) rfl rfl rfl (by decide +kernel) ⟨Nat.le_of_ble_eq_true rfl, Nat.le_of_ble_eq_true rfl⟩) rfl hl.1 (Nat.le_of_ble_eq_true rfl) rfl dL_law_328 ⟨by exact Nat.le_of_ble_eq_true rfl, by exact Nat.le_of_ble_eq_true rfl⟩ (fun r2 sm1 am1 H locs hp hH => ?_)
  try dsimp only at hp
  obtain ⟨hIy1, ey, ry⟩ := hp
  refine lv_icmp_eq (tgt := 468) hx hb dL_law_331 (by decide) (fun _ => ?_) (fun q => absurd (show r1 = r2 by rw [rx, ry, eN]) q)
  exact NX sx1 ax1 sm1 am1 hIx1 hIy1 (by rw [ex, ey, eN]) H locs hH ls hl
set_option maxHeartbeats 4000000 in
set_option maxRecDepth 100000 in
/-- one round of the law: ready -/
theorem lc_ready {p : Program} {l : Launch} {e : Env} {s : State} {m : MethodId} {below : List Frame} {meth : Method} {c : Code} {dC : Nat → ClassId} {dI : Nat → Nat → Nat} {A : Nat → Prop} {h g : Nat → Nat} {d d2 dz : ClassId} {b L : Nat} {xs : Nat → Int32} (hL : L ≤ 320) (F : CallFix p m c cL_law 4 s #[Value.ref b] lw_all R_law) (hX : va_X b L xs s s.heap) (hbl : b < s.heap.size) (hbA : ¬ A b) (hA : ∀ q : Nat, s.heap.size ≤ q → A q) (hKx : va_K (dC, dI) vwCl [(d, .int)] s) (hKm : va_K (dC, dI) vwCl [(d2, .int), (dz, .boolean)] s) (hne : ∀ i j : Nat, i ≤ 10 → j ≤ 8 → h i ≠ g j) (i : Nat) (hi : i + 5 ≤ L) (sx : Nat → Nat) (ax : Nat → Nat → Nat) (sm : Nat → Nat) (am : Nat → Nat → Nat) (NX : ∀ (sx : Nat → Nat) (ax : Nat → Nat → Nat) (sm : Nat → Nat) (am : Nat → Nat → Nat), x_I sx ax → y_I sm am → nvX sx ax = nvM sm am → ∀ (H : Heap) (locs : List Loc), lH dC dI A s.heap h g d d2 dz sx ax sm am H locs → ∀ ls : Array Slot, lv_has ls 4 [(0, .ref b), (1, .ref (h 0)), (2, .ref (g 0)), (3, .int (nI i))] → W p l e room_1 s m #[Value.ref b] below meth c H locs 20 5558 (lw_Z below #[Value.ref b] s) (F0 m 468 ls [])) : x_I sx ax → y_I sm am → nvX sx ax = nvM sm am → ∀ (H : Heap) (locs : List Loc), lH dC dI A s.heap h g d d2 dz sx ax sm am H locs → ∀ ls : Array Slot, lv_has ls 4 [(0, .ref b), (1, .ref (h 0)), (2, .ref (g 0)), (3, .int (nI i))] → W p l e room_1 s m #[Value.ref b] below meth c H locs 20 5558 (lw_Z below #[Value.ref b] s) (F0 m 336 ls []) := by
  intro hIx hIm eN H locs hH ls hl
  have hx := F.1
  have hb := F.2.1
  have hts := F.2.2.2.2
  refine lv_aload_n hx hb dL_law_336 rfl (lv_at hl 1 rfl) ?_
  refine lv_aload_n hx hb dL_law_337 rfl (lv_at hl 0 rfl) ?_
  refine lv_iload_n hx hb dL_law_338 rfl (lv_at hl 3 rfl) ?_
  refine lv_iconst (v := nI 1) hx hb dL_law_339 (by decide +kernel) ?_
  refine nw_iadd hx hb dL_law_340 ?_
  refine l_sld hx hb hX hbl hbA hH (j := i + 1) (by omega) hL dL_law_341 ?_
  refine lv_aload_n hx hb dL_law_342 rfl (lv_at hl 0 rfl) ?_
  refine lv_iload_n hx hb dL_law_343 rfl (lv_at hl 3 rfl) ?_
  refine lv_iconst (v := nI 2) hx hb dL_law_344 (by decide +kernel) ?_
  refine nw_iadd hx hb dL_law_345 ?_
  refine l_sld hx hb hX hbl hbA hH (j := i + 2) (by omega) hL dL_law_346 ?_
  refine lv_aload_n hx hb dL_law_347 rfl (lv_at hl 0 rfl) ?_
  refine lv_iload_n hx hb dL_law_348 rfl (lv_at hl 3 rfl) ?_
  refine lv_iconst (v := nI 3) hx hb dL_law_349 (by decide +kernel) ?_
  refine nw_iadd hx hb dL_law_350 ?_
  refine l_sld hx hb hX hbl hbA hH (j := i + 3) (by omega) hL dL_law_351 ?_
  refine lx_calli F hKx hne hA hH (As := [.int (xs (i + 1)), .int (xs (i + 2)), .int (xs (i + 3))]) (rest := []) (fun sz => mX0_ready l dC dI h d sx ax (xs (i + 1)) (xs (i + 2)) (xs (i + 3)) hIx sz) (cwV 3 hts (lw_V q116 q117 q118 q15 q119) rfl rfl rfl (by decide +kernel) ⟨Nat.le_of_ble_eq_true rfl, Nat.le_of_ble_eq_true rfl⟩) rfl hl.1 (Nat.le_of_ble_eq_true rfl) rfl dL_law_352 ⟨by exact Nat.le_of_ble_eq_true rfl, by exact Nat.le_of_ble_eq_true rfl⟩ (fun r1 sx1 ax1 H locs hp hH => ?_)
  try dsimp only at hp
  obtain ⟨hIx1, ex, rx⟩ := hp
  refine lv_aload_n hx hb dL_law_355 rfl (lv_at hl 2 rfl) ?_
  refine lv_aload_n hx hb dL_law_356 rfl (lv_at hl 0 rfl) ?_
  refine lv_iload_n hx hb dL_law_357 rfl (lv_at hl 3 rfl) ?_
  refine lv_iconst (v := nI 1) hx hb dL_law_358 (by decide +kernel) ?_
  refine nw_iadd hx hb dL_law_359 ?_
  refine l_sld hx hb hX hbl hbA hH (j := i + 1) (by omega) hL dL_law_360 ?_
  refine lv_aload_n hx hb dL_law_361 rfl (lv_at hl 0 rfl) ?_
  refine lv_iload_n hx hb dL_law_362 rfl (lv_at hl 3 rfl) ?_
  refine lv_iconst (v := nI 2) hx hb dL_law_363 (by decide +kernel) ?_
  refine nw_iadd hx hb dL_law_364 ?_
  refine l_sld hx hb hX hbl hbA hH (j := i + 2) (by omega) hL dL_law_365 ?_
  refine lv_aload_n hx hb dL_law_366 rfl (lv_at hl 0 rfl) ?_
  refine lv_iload_n hx hb dL_law_367 rfl (lv_at hl 3 rfl) ?_
  refine lv_iconst (v := nI 3) hx hb dL_law_368 (by decide +kernel) ?_
  refine nw_iadd hx hb dL_law_369 ?_
  refine l_sld hx hb hX hbl hbA hH (j := i + 3) (by omega) hL dL_law_370 ?_
  refine ly_calli F hKm hne hA hH (As := [.int (xs (i + 1)), .int (xs (i + 2)), .int (xs (i + 3))]) (rest := [.int r1]) (fun sz => mX1_ready l dC dI g d2 dz sm am (xs (i + 1)) (xs (i + 2)) (xs (i + 3)) hIm sz) (cwV 3 hts (lw_V q232 q233 q234 q16 q235) rfl rfl rfl (by decide +kernel) ⟨Nat.le_of_ble_eq_true rfl, Nat.le_of_ble_eq_true rfl⟩) rfl hl.1 (Nat.le_of_ble_eq_true rfl) rfl dL_law_371 ⟨by exact Nat.le_of_ble_eq_true rfl, by exact Nat.le_of_ble_eq_true rfl⟩ (fun r2 sm1 am1 H locs hp hH => ?_)
  try dsimp only at hp
  obtain ⟨hIy1, ey, ry⟩ := hp
  refine lv_icmp_eq (tgt := 468) hx hb dL_law_374 (by decide) (fun _ => ?_) (fun q => absurd (show r1 = r2 by rw [rx, ry, eN]) q)
  exact NX sx1 ax1 sm1 am1 hIx1 hIy1 (by rw [ex, ey, eN]) H locs hH ls hl
set_option maxHeartbeats 4000000 in
set_option maxRecDepth 100000 in
/-- one round of the law: front -/
theorem lc_front {p : Program} {l : Launch} {e : Env} {s : State} {m : MethodId} {below : List Frame} {meth : Method} {c : Code} {dC : Nat → ClassId} {dI : Nat → Nat → Nat} {A : Nat → Prop} {h g : Nat → Nat} {d d2 dz : ClassId} {b L : Nat} {xs : Nat → Int32} (hL : L ≤ 320) (F : CallFix p m c cL_law 4 s #[Value.ref b] lw_all R_law) (hX : va_X b L xs s s.heap) (hbl : b < s.heap.size) (hbA : ¬ A b) (hA : ∀ q : Nat, s.heap.size ≤ q → A q) (hKx : va_K (dC, dI) vwCl [(d, .int)] s) (hKm : va_K (dC, dI) vwCl [(d2, .int), (dz, .boolean)] s) (hne : ∀ i j : Nat, i ≤ 10 → j ≤ 8 → h i ≠ g j) (i : Nat) (hi : i + 5 ≤ L) (sx : Nat → Nat) (ax : Nat → Nat → Nat) (sm : Nat → Nat) (am : Nat → Nat → Nat) (NX : ∀ (sx : Nat → Nat) (ax : Nat → Nat → Nat) (sm : Nat → Nat) (am : Nat → Nat → Nat), x_I sx ax → y_I sm am → nvX sx ax = nvM sm am → ∀ (H : Heap) (locs : List Loc), lH dC dI A s.heap h g d d2 dz sx ax sm am H locs → ∀ ls : Array Slot, lv_has ls 4 [(0, .ref b), (1, .ref (h 0)), (2, .ref (g 0)), (3, .int (nI i))] → W p l e room_1 s m #[Value.ref b] below meth c H locs 20 5558 (lw_Z below #[Value.ref b] s) (F0 m 468 ls [])) : x_I sx ax → y_I sm am → nvX sx ax = nvM sm am → ∀ (H : Heap) (locs : List Loc), lH dC dI A s.heap h g d d2 dz sx ax sm am H locs → ∀ ls : Array Slot, lv_has ls 4 [(0, .ref b), (1, .ref (h 0)), (2, .ref (g 0)), (3, .int (nI i))] → W p l e room_1 s m #[Value.ref b] below meth c H locs 20 5558 (lw_Z below #[Value.ref b] s) (F0 m 379 ls []) := by
  intro hIx hIm eN H locs hH ls hl
  have hx := F.1
  have hb := F.2.1
  have hts := F.2.2.2.2
  refine lv_aload_n hx hb dL_law_379 rfl (lv_at hl 1 rfl) ?_
  refine lv_aload_n hx hb dL_law_380 rfl (lv_at hl 0 rfl) ?_
  refine lv_iload_n hx hb dL_law_381 rfl (lv_at hl 3 rfl) ?_
  refine lv_iconst (v := nI 1) hx hb dL_law_382 (by decide +kernel) ?_
  refine nw_iadd hx hb dL_law_383 ?_
  refine l_sld hx hb hX hbl hbA hH (j := i + 1) (by omega) hL dL_law_384 ?_
  refine lx_calli F hKx hne hA hH (As := [.int (xs (i + 1))]) (rest := []) (fun sz => mX0_front l dC dI h d sx ax (xs (i + 1)) hIx sz) (cwV 1 hts (lw_V q124 q125 q126 q15 q127) rfl rfl rfl (by decide +kernel) ⟨Nat.le_of_ble_eq_true rfl, Nat.le_of_ble_eq_true rfl⟩) rfl hl.1 (Nat.le_of_ble_eq_true rfl) rfl dL_law_385 ⟨by exact Nat.le_of_ble_eq_true rfl, by exact Nat.le_of_ble_eq_true rfl⟩ (fun r1 sx1 ax1 H locs hp hH => ?_)
  try dsimp only at hp
  obtain ⟨hIx1, ex, rx⟩ := hp
  refine lv_aload_n hx hb dL_law_388 rfl (lv_at hl 2 rfl) ?_
  refine lv_aload_n hx hb dL_law_389 rfl (lv_at hl 0 rfl) ?_
  refine lv_iload_n hx hb dL_law_390 rfl (lv_at hl 3 rfl) ?_
  refine lv_iconst (v := nI 1) hx hb dL_law_391 (by decide +kernel) ?_
  refine nw_iadd hx hb dL_law_392 ?_
  refine l_sld hx hb hX hbl hbA hH (j := i + 1) (by omega) hL dL_law_393 ?_
  refine ly_calli F hKm hne hA hH (As := [.int (xs (i + 1))]) (rest := [.int r1]) (fun sz => mX1_front l dC dI g d2 dz sm am (xs (i + 1)) hIm sz) (cwV 1 hts (lw_V q236 q237 q238 q16 q239) rfl rfl rfl (by decide +kernel) ⟨Nat.le_of_ble_eq_true rfl, Nat.le_of_ble_eq_true rfl⟩) rfl hl.1 (Nat.le_of_ble_eq_true rfl) rfl dL_law_394 ⟨by exact Nat.le_of_ble_eq_true rfl, by exact Nat.le_of_ble_eq_true rfl⟩ (fun r2 sm1 am1 H locs hp hH => ?_)
  try dsimp only at hp
  obtain ⟨hIy1, ey, ry⟩ := hp
  refine lv_icmp_eq (tgt := 468) hx hb dL_law_397 (by decide) (fun _ => ?_) (fun q => absurd (show r1 = r2 by rw [rx, ry, eN]) q)
  exact NX sx1 ax1 sm1 am1 hIx1 hIy1 (by rw [ex, ey, eN]) H locs hH ls hl
set_option maxHeartbeats 4000000 in
set_option maxRecDepth 100000 in
/-- one round of the law: frontAt -/
theorem lc_frontAt {p : Program} {l : Launch} {e : Env} {s : State} {m : MethodId} {below : List Frame} {meth : Method} {c : Code} {dC : Nat → ClassId} {dI : Nat → Nat → Nat} {A : Nat → Prop} {h g : Nat → Nat} {d d2 dz : ClassId} {b L : Nat} {xs : Nat → Int32} (hL : L ≤ 320) (F : CallFix p m c cL_law 4 s #[Value.ref b] lw_all R_law) (hX : va_X b L xs s s.heap) (hbl : b < s.heap.size) (hbA : ¬ A b) (hA : ∀ q : Nat, s.heap.size ≤ q → A q) (hKx : va_K (dC, dI) vwCl [(d, .int)] s) (hKm : va_K (dC, dI) vwCl [(d2, .int), (dz, .boolean)] s) (hne : ∀ i j : Nat, i ≤ 10 → j ≤ 8 → h i ≠ g j) (i : Nat) (hi : i + 5 ≤ L) (sx : Nat → Nat) (ax : Nat → Nat → Nat) (sm : Nat → Nat) (am : Nat → Nat → Nat) (NX : ∀ (sx : Nat → Nat) (ax : Nat → Nat → Nat) (sm : Nat → Nat) (am : Nat → Nat → Nat), x_I sx ax → y_I sm am → nvX sx ax = nvM sm am → ∀ (H : Heap) (locs : List Loc), lH dC dI A s.heap h g d d2 dz sx ax sm am H locs → ∀ ls : Array Slot, lv_has ls 4 [(0, .ref b), (1, .ref (h 0)), (2, .ref (g 0)), (3, .int (nI i))] → W p l e room_1 s m #[Value.ref b] below meth c H locs 20 5558 (lw_Z below #[Value.ref b] s) (F0 m 468 ls [])) : x_I sx ax → y_I sm am → nvX sx ax = nvM sm am → ∀ (H : Heap) (locs : List Loc), lH dC dI A s.heap h g d d2 dz sx ax sm am H locs → ∀ ls : Array Slot, lv_has ls 4 [(0, .ref b), (1, .ref (h 0)), (2, .ref (g 0)), (3, .int (nI i))] → W p l e room_1 s m #[Value.ref b] below meth c H locs 20 5558 (lw_Z below #[Value.ref b] s) (F0 m 402 ls []) := by
  intro hIx hIm eN H locs hH ls hl
  have hx := F.1
  have hb := F.2.1
  have hts := F.2.2.2.2
  refine lv_aload_n hx hb dL_law_402 rfl (lv_at hl 1 rfl) ?_
  refine lv_aload_n hx hb dL_law_403 rfl (lv_at hl 0 rfl) ?_
  refine lv_iload_n hx hb dL_law_404 rfl (lv_at hl 3 rfl) ?_
  refine lv_iconst (v := nI 1) hx hb dL_law_405 (by decide +kernel) ?_
  refine nw_iadd hx hb dL_law_406 ?_
  refine l_sld hx hb hX hbl hbA hH (j := i + 1) (by omega) hL dL_law_407 ?_
  refine lv_aload_n hx hb dL_law_408 rfl (lv_at hl 0 rfl) ?_
  refine lv_iload_n hx hb dL_law_409 rfl (lv_at hl 3 rfl) ?_
  refine lv_iconst (v := nI 2) hx hb dL_law_410 (by decide +kernel) ?_
  refine nw_iadd hx hb dL_law_411 ?_
  refine l_sld hx hb hX hbl hbA hH (j := i + 2) (by omega) hL dL_law_412 ?_
  refine lx_calli F hKx hne hA hH (As := [.int (xs (i + 1)), .int (xs (i + 2))]) (rest := []) (fun sz => mX0_frontAt l dC dI h d sx ax (xs (i + 1)) (xs (i + 2)) hIx sz) (cwV 2 hts (lw_V q132 q133 q134 q15 q135) rfl rfl rfl (by decide +kernel) ⟨Nat.le_of_ble_eq_true rfl, Nat.le_of_ble_eq_true rfl⟩) rfl hl.1 (Nat.le_of_ble_eq_true rfl) rfl dL_law_413 ⟨by exact Nat.le_of_ble_eq_true rfl, by exact Nat.le_of_ble_eq_true rfl⟩ (fun r1 sx1 ax1 H locs hp hH => ?_)
  try dsimp only at hp
  obtain ⟨hIx1, ex, rx⟩ := hp
  refine lv_aload_n hx hb dL_law_416 rfl (lv_at hl 2 rfl) ?_
  refine lv_aload_n hx hb dL_law_417 rfl (lv_at hl 0 rfl) ?_
  refine lv_iload_n hx hb dL_law_418 rfl (lv_at hl 3 rfl) ?_
  refine lv_iconst (v := nI 1) hx hb dL_law_419 (by decide +kernel) ?_
  refine nw_iadd hx hb dL_law_420 ?_
  refine l_sld hx hb hX hbl hbA hH (j := i + 1) (by omega) hL dL_law_421 ?_
  refine lv_aload_n hx hb dL_law_422 rfl (lv_at hl 0 rfl) ?_
  refine lv_iload_n hx hb dL_law_423 rfl (lv_at hl 3 rfl) ?_
  refine lv_iconst (v := nI 2) hx hb dL_law_424 (by decide +kernel) ?_
  refine nw_iadd hx hb dL_law_425 ?_
  refine l_sld hx hb hX hbl hbA hH (j := i + 2) (by omega) hL dL_law_426 ?_
  refine ly_calli F hKm hne hA hH (As := [.int (xs (i + 1)), .int (xs (i + 2))]) (rest := [.int r1]) (fun sz => mX1_frontAt l dC dI g d2 dz sm am (xs (i + 1)) (xs (i + 2)) hIm sz) (cwV 2 hts (lw_V q244 q245 q246 q16 q247) rfl rfl rfl (by decide +kernel) ⟨Nat.le_of_ble_eq_true rfl, Nat.le_of_ble_eq_true rfl⟩) rfl hl.1 (Nat.le_of_ble_eq_true rfl) rfl dL_law_427 ⟨by exact Nat.le_of_ble_eq_true rfl, by exact Nat.le_of_ble_eq_true rfl⟩ (fun r2 sm1 am1 H locs hp hH => ?_)
  try dsimp only at hp
  obtain ⟨hIy1, ey, ry⟩ := hp
  refine lv_icmp_eq (tgt := 468) hx hb dL_law_430 (by decide) (fun _ => ?_) (fun q => absurd (show r1 = r2 by rw [rx, ry, eN]) q)
  exact NX sx1 ax1 sm1 am1 hIx1 hIy1 (by rw [ex, ey, eN]) H locs hH ls hl
set_option maxHeartbeats 4000000 in
set_option maxRecDepth 100000 in
/-- one round of the law: shortest -/
theorem lc_shortest {p : Program} {l : Launch} {e : Env} {s : State} {m : MethodId} {below : List Frame} {meth : Method} {c : Code} {dC : Nat → ClassId} {dI : Nat → Nat → Nat} {A : Nat → Prop} {h g : Nat → Nat} {d d2 dz : ClassId} {b L : Nat} {xs : Nat → Int32} (hL : L ≤ 320) (F : CallFix p m c cL_law 4 s #[Value.ref b] lw_all R_law) (hX : va_X b L xs s s.heap) (hbl : b < s.heap.size) (hbA : ¬ A b) (hA : ∀ q : Nat, s.heap.size ≤ q → A q) (hKx : va_K (dC, dI) vwCl [(d, .int)] s) (hKm : va_K (dC, dI) vwCl [(d2, .int), (dz, .boolean)] s) (hne : ∀ i j : Nat, i ≤ 10 → j ≤ 8 → h i ≠ g j) (i : Nat) (hi : i + 5 ≤ L) (sx : Nat → Nat) (ax : Nat → Nat → Nat) (sm : Nat → Nat) (am : Nat → Nat → Nat) (NX : ∀ (sx : Nat → Nat) (ax : Nat → Nat → Nat) (sm : Nat → Nat) (am : Nat → Nat → Nat), x_I sx ax → y_I sm am → nvX sx ax = nvM sm am → ∀ (H : Heap) (locs : List Loc), lH dC dI A s.heap h g d d2 dz sx ax sm am H locs → ∀ ls : Array Slot, lv_has ls 4 [(0, .ref b), (1, .ref (h 0)), (2, .ref (g 0)), (3, .int (nI i))] → W p l e room_1 s m #[Value.ref b] below meth c H locs 20 5558 (lw_Z below #[Value.ref b] s) (F0 m 468 ls [])) : x_I sx ax → y_I sm am → nvX sx ax = nvM sm am → ∀ (H : Heap) (locs : List Loc), lH dC dI A s.heap h g d d2 dz sx ax sm am H locs → ∀ ls : Array Slot, lv_has ls 4 [(0, .ref b), (1, .ref (h 0)), (2, .ref (g 0)), (3, .int (nI i))] → W p l e room_1 s m #[Value.ref b] below meth c H locs 20 5558 (lw_Z below #[Value.ref b] s) (F0 m 435 ls []) := by
  intro hIx hIm eN H locs hH ls hl
  have hx := F.1
  have hb := F.2.1
  have hts := F.2.2.2.2
  refine lv_aload_n hx hb dL_law_435 rfl (lv_at hl 1 rfl) ?_
  refine lv_aload_n hx hb dL_law_436 rfl (lv_at hl 0 rfl) ?_
  refine lv_iload_n hx hb dL_law_437 rfl (lv_at hl 3 rfl) ?_
  refine lv_iconst (v := nI 1) hx hb dL_law_438 (by decide +kernel) ?_
  refine nw_iadd hx hb dL_law_439 ?_
  refine l_sld hx hb hX hbl hbA hH (j := i + 1) (by omega) hL dL_law_440 ?_
  refine lv_aload_n hx hb dL_law_441 rfl (lv_at hl 0 rfl) ?_
  refine lv_iload_n hx hb dL_law_442 rfl (lv_at hl 3 rfl) ?_
  refine lv_iconst (v := nI 2) hx hb dL_law_443 (by decide +kernel) ?_
  refine nw_iadd hx hb dL_law_444 ?_
  refine l_sld hx hb hX hbl hbA hH (j := i + 2) (by omega) hL dL_law_445 ?_
  refine lx_calli F hKx hne hA hH (As := [.int (xs (i + 1)), .int (xs (i + 2))]) (rest := []) (fun sz => mX0_shortest l dC dI h d sx ax (xs (i + 1)) (xs (i + 2)) hIx sz) (cwV 2 hts (lw_V q136 q137 q138 q15 q139) rfl rfl rfl (by decide +kernel) ⟨Nat.le_of_ble_eq_true rfl, Nat.le_of_ble_eq_true rfl⟩) rfl hl.1 (Nat.le_of_ble_eq_true rfl) rfl dL_law_446 ⟨by exact Nat.le_of_ble_eq_true rfl, by exact Nat.le_of_ble_eq_true rfl⟩ (fun r1 sx1 ax1 H locs hp hH => ?_)
  try dsimp only at hp
  obtain ⟨hIx1, ex, rx⟩ := hp
  refine lv_aload_n hx hb dL_law_449 rfl (lv_at hl 2 rfl) ?_
  refine lv_aload_n hx hb dL_law_450 rfl (lv_at hl 0 rfl) ?_
  refine lv_iload_n hx hb dL_law_451 rfl (lv_at hl 3 rfl) ?_
  refine lv_iconst (v := nI 1) hx hb dL_law_452 (by decide +kernel) ?_
  refine nw_iadd hx hb dL_law_453 ?_
  refine l_sld hx hb hX hbl hbA hH (j := i + 1) (by omega) hL dL_law_454 ?_
  refine lv_aload_n hx hb dL_law_455 rfl (lv_at hl 0 rfl) ?_
  refine lv_iload_n hx hb dL_law_456 rfl (lv_at hl 3 rfl) ?_
  refine lv_iconst (v := nI 2) hx hb dL_law_457 (by decide +kernel) ?_
  refine nw_iadd hx hb dL_law_458 ?_
  refine l_sld hx hb hX hbl hbA hH (j := i + 2) (by omega) hL dL_law_459 ?_
  refine ly_calli F hKm hne hA hH (As := [.int (xs (i + 1)), .int (xs (i + 2))]) (rest := [.int r1]) (fun sz => mX1_shortest l dC dI g d2 dz sm am (xs (i + 1)) (xs (i + 2)) hIm sz) (cwV 2 hts (lw_V q248 q249 q250 q16 q251) rfl rfl rfl (by decide +kernel) ⟨Nat.le_of_ble_eq_true rfl, Nat.le_of_ble_eq_true rfl⟩) rfl hl.1 (Nat.le_of_ble_eq_true rfl) rfl dL_law_460 ⟨by exact Nat.le_of_ble_eq_true rfl, by exact Nat.le_of_ble_eq_true rfl⟩ (fun r2 sm1 am1 H locs hp hH => ?_)
  try dsimp only at hp
  obtain ⟨hIy1, ey, ry⟩ := hp
  refine lv_icmp_eq (tgt := 468) hx hb dL_law_463 (by decide) (fun _ => ?_) (fun q => absurd (show r1 = r2 by rw [rx, ry, eN]) q)
  exact NX sx1 ax1 sm1 am1 hIx1 hIy1 (by rw [ex, ey, eN]) H locs hH ls hl
end
section
/-! the law's loop, and its start -/
set_option maxHeartbeats 4000000 in
set_option maxRecDepth 100000 in
theorem law_loop {p : Program} {l : Launch} {e : Env} {s : State} {m : MethodId} {below : List Frame} {meth : Method} {c : Code} {dC : Nat → ClassId} {dI : Nat → Nat → Nat} {A : Nat → Prop} {h g : Nat → Nat} {d d2 dz : ClassId} {b L : Nat} {xs : Nat → Int32} (hL : L ≤ 320) (F : CallFix p m c cL_law 4 s #[Value.ref b] lw_all R_law) (hX : va_X b L xs s s.heap) (hbl : b < s.heap.size) (hbA : ¬ A b) (hA : ∀ q : Nat, s.heap.size ≤ q → A q) (hKx : va_K (dC, dI) vwCl [(d, .int)] s) (hKm : va_K (dC, dI) vwCl [(d2, .int), (dz, .boolean)] s) (hne : ∀ i j : Nat, i ≤ 10 → j ≤ 8 → h i ≠ g j) (hr : meth.sig.returnType = ret) (hlk : meth.locks = false) (hAs : ∀ q : Nat, A q → s.heap.size ≤ q) : ∀ (n i : Nat) (sx : Nat → Nat) (ax : Nat → Nat → Nat) (sm : Nat → Nat) (am : Nat → Nat → Nat), L - i < n → i ≤ L → x_I sx ax → y_I sm am → nvX sx ax = nvM sm am → ∀ (H : Heap) (locs : List Loc), lH dC dI A s.heap h g d d2 dz sx ax sm am H locs → ∀ ls : Array Slot, lv_has ls 4 [(0, .ref b), (1, .ref (h 0)), (2, .ref (g 0)), (3, .int (nI i))] → W p l e room_1 s m #[Value.ref b] below meth c H locs 20 5558 (lw_Z below #[Value.ref b] s) (F0 m 18 ls []) := by
  have hx := F.1
  have hb := F.2.1
  intro n
  induction n with
  | zero => intro _ _ _ _ _ hlt; exact absurd hlt (Nat.not_lt_zero _)
  | succ n ih =>
    intro i sx ax sm am hn hi hIx hIm eN H locs hH ls hl
    refine lv_iload_n hx hb dL_law_18 rfl (lv_at hl 3 rfl) ?_
    refine lv_aload_n hx hb dL_law_19 rfl (lv_at hl 0 rfl) ?_
    refine va_slen hx hb hX hbl hbA hH.2.2.2.2 dL_law_20 ?_
    refine lv_iconst (v := nI 5) hx hb dL_law_21 (by decide +kernel) ?_
    refine lv_isub hx hb dL_law_22 ?_
    refine lv_icmp_gt (tgt := 474) hx hb dL_law_23 (by decide) (fun c23 => ?_) (fun c23 => ?_)
    · refine lv_iconst (v := 1) hx hb dL_law_474 (by decide +kernel) ?_
      refine va_forget (fun q hq => hAs _ (hH.2.2.2.2.2.2 q hq)) ?_
      refine W.widen (k := 600000) (n := 7290000) (Nat.le_of_ble_eq_true rfl) (Nat.le_of_ble_eq_true rfl) ?_
      exact lw_ret hx hb hr hlk dL_law_475
    · have c23 : ¬ (L < 5 + i) := fun z => c23 ((nw_subgt (a := L) (t := 5) (z := i) (by omega) (by omega) (by omega)).mpr z)
      have NX : ∀ (sx : Nat → Nat) (ax : Nat → Nat → Nat) (sm : Nat → Nat) (am : Nat → Nat → Nat), x_I sx ax → y_I sm am → nvX sx ax = nvM sm am → ∀ (H : Heap) (locs : List Loc), lH dC dI A s.heap h g d d2 dz sx ax sm am H locs → ∀ ls : Array Slot, lv_has ls 4 [(0, .ref b), (1, .ref (h 0)), (2, .ref (g 0)), (3, .int (nI i))] → W p l e room_1 s m #[Value.ref b] below meth c H locs 20 5558 (lw_Z below #[Value.ref b] s) (F0 m 468 ls []) := by
        intro sx ax sm am hIx hIm eN H locs hH ls hl
        refine lv_iinc (v := nI (i + 5)) (lv' := [(3, .int (nI (i + 5))), (0, .ref b), (1, .ref (h 0)), (2, .ref (g 0))]) hx hb dL_law_468 hl (k := 3) rfl (nw_inc5 _) (by decide) rfl (fun ls hl => ?_)
        refine lv_goto (tgt := 18) hx hb dL_law_471 (by decide) ?_
        exact ih (i + 5) sx ax sm am (by omega) (by omega) hIx hIm eN H locs hH ls (lv_sub hl [1, 2, 3, 0] rfl)
      refine lv_aload_n hx hb dL_law_26 rfl (lv_at hl 0 rfl) ?_
      refine lv_iload_n hx hb dL_law_27 rfl (lv_at hl 3 rfl) ?_
      refine l_sld hx hb hX hbl hbA hH (j := i) (by omega) hL dL_law_28 ?_
      refine lv_bipush (v := nI 15) hx hb dL_law_29 (by decide +kernel) ?_
      refine lv_iand hx hb dL_law_31 ?_
      generalize xs i &&& nI 15 = z
      by_cases hz : 0 ≤ z.toInt ∧ z.toInt ≤ 9
      · rcases (show z.toInt = 0 ∨ z.toInt = 1 ∨ z.toInt = 2 ∨ z.toInt = 3 ∨ z.toInt = 4 ∨ z.toInt = 5 ∨ z.toInt = 6 ∨ z.toInt = 7 ∨ z.toInt = 8 ∨ z.toInt = 9 by omega) with hk | hk | hk | hk | hk | hk | hk | hk | hk | hk
        · refine lv_tableIn (off := 56) (tgt := 88) hx hb dL_law_32 (by omega) (by omega) (by rw [hk]; first | rfl | decide) (by decide) ?_
          exact lc_link hL F hX hbl hbA hA hKx hKm hne i (by omega) sx ax sm am NX hIx hIm eN H locs hH ls hl
        · refine lv_tableIn (off := 109) (tgt := 141) hx hb dL_law_32 (by omega) (by omega) (by rw [hk]; first | rfl | decide) (by decide) ?_
          exact lc_unlink hL F hX hbl hbA hA hKx hKm hne i (by omega) sx ax sm am NX hIx hIm eN H locs hH ls hl
        · refine lv_tableIn (off := 132) (tgt := 164) hx hb dL_law_32 (by omega) (by omega) (by rw [hk]; first | rfl | decide) (by decide) ?_
          exact lc_put hL F hX hbl hbA hA hKx hKm hne i (by omega) sx ax sm am NX hIx hIm eN H locs hH ls hl
        · refine lv_tableIn (off := 175) (tgt := 207) hx hb dL_law_32 (by omega) (by omega) (by rw [hk]; first | rfl | decide) (by decide) ?_
          exact lc_take hL F hX hbl hbA hA hKx hKm hne i (by omega) sx ax sm am NX hIx hIm eN H locs hH ls hl
        · refine lv_tableIn (off := 218) (tgt := 250) hx hb dL_law_32 (by omega) (by omega) (by rw [hk]; first | rfl | decide) (by decide) ?_
          exact lc_pass hL F hX hbl hbA hA hKx hKm hne i (by omega) sx ax sm am NX hIx hIm eN H locs hH ls hl
        · refine lv_tableIn (off := 261) (tgt := 293) hx hb dL_law_32 (by omega) (by omega) (by rw [hk]; first | rfl | decide) (by decide) ?_
          exact lc_possible hL F hX hbl hbA hA hKx hKm hne i (by omega) sx ax sm am NX hIx hIm eN H locs hH ls hl
        · refine lv_tableIn (off := 304) (tgt := 336) hx hb dL_law_32 (by omega) (by omega) (by rw [hk]; first | rfl | decide) (by decide) ?_
          exact lc_ready hL F hX hbl hbA hA hKx hKm hne i (by omega) sx ax sm am NX hIx hIm eN H locs hH ls hl
        · refine lv_tableIn (off := 347) (tgt := 379) hx hb dL_law_32 (by omega) (by omega) (by rw [hk]; first | rfl | decide) (by decide) ?_
          exact lc_front hL F hX hbl hbA hA hKx hKm hne i (by omega) sx ax sm am NX hIx hIm eN H locs hH ls hl
        · refine lv_tableIn (off := 370) (tgt := 402) hx hb dL_law_32 (by omega) (by omega) (by rw [hk]; first | rfl | decide) (by decide) ?_
          exact lc_frontAt hL F hX hbl hbA hA hKx hKm hne i (by omega) sx ax sm am NX hIx hIm eN H locs hH ls hl
        · refine lv_tableIn (off := 403) (tgt := 435) hx hb dL_law_32 (by omega) (by omega) (by rw [hk]; first | rfl | decide) (by decide) ?_
          exact lc_shortest hL F hX hbl hbA hA hKx hKm hne i (by omega) sx ax sm am NX hIx hIm eN H locs hH ls hl
      · refine lv_tableOut (tgt := 468) hx hb dL_law_32 (by omega) (by decide) ?_
        exact NX sx ax sm am hIx hIm eN H locs hH ls hl
theorem law_classes {s0 : State} {b0 : Addr} (ht0 : ∀ w ∈ lw_tbl, w.before #[Value.ref b0] s0 = true) : ∃ (dC : Nat → ClassId) (dI : Nat → Nat → Nat), ∀ (k : Nat) (q : vw_C), vwCl[k]? = some q → u_Kn s0 q.1 q.2.1 q.2.2 (dC k) (dI k) := by
  obtain ⟨c0_, iS0, hKn0⟩ := u_known (C := RX0) (T := TX0) (N := 13) (n := 13) ht0 (fun w h => lw_all_tbl (in_X0 w h)) (ht0 _ (lw_all_tbl q18))
  obtain ⟨c1_, iS1, hKn1⟩ := u_known (C := RX1) (T := TX1) (N := 10) (n := 10) ht0 (fun w h => lw_all_tbl (in_X1 w h)) (ht0 _ (lw_all_tbl q141))
  refine ⟨fun k => if k = 0 then c0_ else c1_, fun k => if k = 0 then iS0 else iS1, ?_⟩
  intro k q hq
  match k, hq with
  | 0, hq => cases hq; exact hKn0
  | 1, hq => cases hq; exact hKn1
  | k + 2, hq => simp [vwCl] at hq
set_option maxHeartbeats 4000000 in
set_option maxRecDepth 100000 in
/-- from the entry, for every script of at most 320 ints, the law comes to its end with true -/
theorem whole_start {p : Program} {e : Env} {s : State} {m : MethodId} {below : List Frame} {meth : Method} {c : Code} (l : Launch) {b L : Nat} {xs : Nat → Int32} (hL : L ≤ 320) (C0 : lw_At p s m meth c b L xs) : W p l e room_1 s m #[Value.ref b] below meth c s.heap [] 0 0 (lw_Z below #[Value.ref b] s) (entryFrame m ([Value.ref b] : List Value).toArray 4) := by
  obtain ⟨hx, hb, hr, hml, hown, hts0, hX, hbl, hlk, hgv⟩ := C0
  have hts : ∀ w ∈ lw_all, w.before #[Value.ref b] s = true := fun w h => hts0 w (lw_all_tbl h)
  obtain ⟨dC, dI, hKc⟩ := law_classes hts0
  have hK : va_K (dC, dI) vwCl [] s := ⟨hKc, fun k q h => by simp at h⟩
  have hP : va_P (dC, dI) vwCl [] s.heap := fun k q h => by simp at h
  obtain ⟨A, hAe⟩ : ∃ A : Nat → Prop, A = fun q => s.heap.size ≤ q := ⟨_, rfl⟩
  have hA : ∀ q : Nat, s.heap.size ≤ q → A q := fun q h => by rw [hAe]; exact h
  have hAs : ∀ q : Nat, A q → s.heap.size ≤ q := fun q h => by rw [hAe] at h; exact h
  have hD : va_D A [] := ⟨fun i j p q h => by simp at h, fun k q h => by simp at h⟩
  have hS : va_S A s.heap s.heap [] := va_S.rf
  have hbA : ¬ A b := fun h => absurd (hAs b h) (Nat.not_le.mpr hbl)
  have hl := lv_entry ([Value.ref b]) (n := 4) (Nat.le_of_ble_eq_true rfl)
  rw [lg_entry_eq]
  generalize (lg_sl ([Value.ref b]) ++ List.replicate (4 - (lg_sl ([Value.ref b])).length) Slot.unset).toArray = ls at hl ⊢
  have hl : lv_has ls 4 [(0, .ref b)] := hl
  have F : CallFix p m c cL_law 4 s #[Value.ref b] lw_all R_law := ⟨hx, hb, hml, hown, hts⟩
  refine va_new (ci := 0) (fs := x_O0) (C := RX0) (T := TX0) (N := 13) hx hb hts in_X0 tyX0 tyX0_ok hown (hts _ q17) (hts _ q18) (hts _ q15) hK hP hD hS hA rfl (fun j hj => by rcases (show j = 0 ∨ j = 1 ∨ j = 2 ∨ j = 3 ∨ j = 4 ∨ j = 5 ∨ j = 6 ∨ j = 7 ∨ j = 8 ∨ j = 9 ∨ j = 10 ∨ j = 11 ∨ j = 12 by omega) with rfl | rfl | rfl | rfl | rfl | rfl | rfl | rfl | rfl | rfl | rfl | rfl | rfl <;> first | rfl | exact congrArg Value.int nI_0.symm) (Nat.le_of_ble_eq_true rfl) (Nat.le_of_ble_eq_true rfl) dL_law_0 (fun q0 H hP hD hS => ?_)
  have hP : va_P (dC, dI) vwCl [(q0, .inr (0, x_O0))] H := hP
  have hD : va_D A [(q0, .inr (0, x_O0))] := hD
  refine W.widen (k := 1) (n := 13) (Nat.le_of_ble_eq_true rfl) (Nat.le_of_ble_eq_true rfl) ?_
  refine lv_dup hx hb dL_law_3 rfl ?_
  have hFc := va_free (wc := [(q0, .inr (0, x_O0))]) hD hS hA [0] rfl
  refine va_callv (va_runI (As := []) (rest := [.ref q0]) F (mX0_init l dC dI q0 H.size) (cwI 0 hts (lw_meth q21) rfl rfl rfl (hts _ q15) (hts _ q19) (hts _ q20) rfl (by decide +kernel) ⟨Nat.le_of_ble_eq_true rfl, Nat.le_of_ble_eq_true rfl⟩) ⟨fun a U g mk q => by obtain ⟨q0, q1, qP, qK, qD⟩ := q; exact ⟨q0, q1, qP, va_K.moved (u := U) (U := U.calling g mk a) (Vm.Alike.refl U.vm) qK, qD⟩, fun U hU hW => ⟨rfl, by rw [hU], by rw [hU]; exact hP, va_K.moved hW.alike hK, hD.weaken (fun _ _ _ _ => trivial)⟩⟩ rfl rfl hl.1 rfl (lv_room (Nat.le_of_ble_eq_true rfl)) dL_law_4 ⟨by exact Nat.le_of_ble_eq_true rfl, by exact Nat.le_of_ble_eq_true rfl⟩) hS (fun q _ h => hFc q h) hFc (fun u t H1 locs ht hvm hw hB hz1 hk1 hS => ?_)
  obtain ⟨h, d, sx, ax⟩ := u
  obtain ⟨hPx, hKx, hDx⟩ := hB
  rw [ht] at hPx
  have hKx : va_K (dC, dI) vwCl [(d, .int)] s := va_K.moved hvm.symm hKx
  obtain ⟨eh0, hIx, eNx⟩ := hw
  have eh0 : h 0 = q0 := eh0
  have hPx : va_P (dC, dI) vwCl (xW h d sx ax) H1 := hPx
  have hDx : va_D A (xW h d sx ax) := hDx.weaken (fun k q _ hh => hFc _ hh)
  refine W.widen (k := 11) (n := 2913) (Nat.le_of_ble_eq_true rfl) (Nat.le_of_ble_eq_true rfl) ?_
  rw [← eh0]
  refine lv_astore_n (lv' := [(1, .ref (h 0)), (0, .ref b)]) hx hb dL_law_7 rfl hl (by decide) rfl (fun ls hl => ?_)
  refine va_new (ci := 1) (fs := y_O0) (C := RX1) (T := TX1) (N := 10) hx hb hts in_X1 tyX1 tyX1_ok hown (hts _ q140) (hts _ q141) (hts _ q16) hK hPx hDx hS hA rfl (fun j hj => by rcases (show j = 0 ∨ j = 1 ∨ j = 2 ∨ j = 3 ∨ j = 4 ∨ j = 5 ∨ j = 6 ∨ j = 7 ∨ j = 8 ∨ j = 9 by omega) with rfl | rfl | rfl | rfl | rfl | rfl | rfl | rfl | rfl | rfl <;> first | rfl | exact congrArg Value.int nI_0.symm) (Nat.le_of_ble_eq_true rfl) (Nat.le_of_ble_eq_true rfl) dL_law_8 (fun q8 H hPb hDb hS => ?_)
  have hPx := tw_Pl hPb
  have hDx := tw_Dl hDb
  have hP := tw_Pr hPb
  have hD := tw_Dr hDb
  refine W.widen (k := 12) (n := 2923) (Nat.le_of_ble_eq_true rfl) (Nat.le_of_ble_eq_true rfl) ?_
  refine lv_dup hx hb dL_law_11 rfl ?_
  have hFc := va_free (wc := [(q8, .inr (1, y_O0))]) hD hS hA [0] rfl
  refine va_callv (va_runI (As := []) (rest := [.ref q8]) F (mX1_init l dC dI q8 H.size) (cwI 0 hts (lw_meth q144) rfl rfl rfl (hts _ q16) (hts _ q142) (hts _ q143) rfl (by decide +kernel) ⟨Nat.le_of_ble_eq_true rfl, Nat.le_of_ble_eq_true rfl⟩) ⟨fun a U g mk q => by obtain ⟨q0, q1, qP, qK, qD⟩ := q; exact ⟨q0, q1, qP, va_K.moved (u := U) (U := U.calling g mk a) (Vm.Alike.refl U.vm) qK, qD⟩, fun U hU hW => ⟨rfl, by rw [hU], by rw [hU]; exact hP, va_K.moved hW.alike hK, hD.weaken (fun _ _ _ _ => trivial)⟩⟩ rfl rfl hl.1 rfl (lv_room (Nat.le_of_ble_eq_true rfl)) dL_law_12 ⟨by exact Nat.le_of_ble_eq_true rfl, by exact Nat.le_of_ble_eq_true rfl⟩) hS (fun q _ h => hFc q h) hFc (fun u t H2 locs ht hvm hw hB hz2 hk2 hS => ?_)
  obtain ⟨g, d2, dz, sm, am⟩ := u
  obtain ⟨hPm, hKm, hDm⟩ := hB
  rw [ht] at hPm
  have hKm : va_K (dC, dI) vwCl [(d2, .int), (dz, .boolean)] s := va_K.moved hvm.symm hKm
  obtain ⟨eg0, hIm, eNm⟩ := hw
  have eg0 : g 0 = q8 := eg0
  have hPm : va_P (dC, dI) vwCl (yW g d2 dz sm am) H2 := hPm
  have hne : ∀ i j : Nat, i ≤ 10 → j ≤ 8 → h i ≠ g j := by
    intro i j hi hj hij
    obtain ⟨ei, hei⟩ := x_adr' (h := h) (d := d) (sc := sx) (ar := ax) (k := i) (by omega)
    obtain ⟨ej, hej⟩ := y_adr' (h := g) (d := d2) (dz := dz) (sc := sm) (ar := am) (k := j) (by omega)
    have h1 := hDm.2 j _ hej
    rcases h1 with ⟨k2, e2, h2⟩ | h2
    · exact tw_ne hDb hei h2 hij
    · have h3 := (hPx i _ hei).lt
      exact absurd h2 (Nat.not_le.mpr (by rw [← hij]; exact h3))
  have hPx : va_P (dC, dI) vwCl (xW h d sx ax) H2 := tw_kept (w1 := [(q8, .inr (1, y_O0))]) hPx (fun i j p q hp hq hpq => tw_ne hDb hq hp hpq.symm) hk2
  have hDm : va_D A (yW g d2 dz sm am) := hDm.weaken (fun k q _ hh => hFc _ hh)
  refine W.widen (k := 20) (n := 5558) (Nat.le_of_ble_eq_true rfl) (Nat.le_of_ble_eq_true rfl) ?_
  rw [← eg0]
  refine lv_astore_n (lv' := [(2, .ref (g 0)), (1, .ref (h 0)), (0, .ref b)]) hx hb dL_law_15 rfl hl (by decide) rfl (fun ls hl => ?_)
  refine lv_iconst (v := nI 0) hx hb dL_law_16 (by decide +kernel) ?_
  refine lv_istore_n (lv' := [(3, .int (nI 0)), (2, .ref (g 0)), (1, .ref (h 0)), (0, .ref b)]) hx hb dL_law_17 rfl hl (by decide) rfl (fun ls hl => ?_)
  exact law_loop hL F hX hbl hbA hA hKx hKm hne hr hlk hAs (L + 1) 0 sx ax sm am (by omega) (Nat.zero_le _) hIx hIm (eNx.trans eNm.symm) H2 locs ⟨hPx, hDx, hPm, hDm, hS⟩ ls (lv_sub hl [3, 2, 1, 0] rfl)
end
section
set_option maxHeartbeats 4000000 in
theorem lw_walk (l : Launch) (b : Addr) (xs : List Int32) : MetFree l x (headSpec (Jvm.Cond.code x code maxLocals ret :: tables_1) room_1) (lw_P b xs) (fun _ _ _ _ _ => True) lw_Q := by
  refine MetFree.of_bodyS (code := code) (maxLocals := maxLocals) (ret := ret) (by decide) ?_ ?_
  · intro args s m h hn
    obtain ⟨meth, c, h1, h2, h3, h4, h5, h6, -, -⟩ := Cond.code_spec hn (atoms_spec (ws := Jvm.Cond.code x code maxLocals ret :: tables_1) h _ List.mem_cons_self)
    exact ⟨meth, c, h1, h2, h3, h4, h5, h6⟩
  · intro p e s m args below meth c s₁ B hml0 hP _
    obtain ⟨rfl, hx, hbd, hgv⟩ := hP
    obtain ⟨scr, harrAt, hlist, hof, hsmall⟩ := hx
    obtain ⟨hcb, hkn, -, -⟩ := State.arrayAt?_spec harrAt
    have hown : s.vm.findClass R_law = some m.cls := findClass_of_methodNamed B.named
    have hts0 : ∀ c ∈ (Jvm.Cond.code x code maxLocals ret :: tables_1), c.before #[Value.ref b] s = true := atoms_spec (ws := Jvm.Cond.code x code maxLocals ret :: tables_1) B.pre
    have hts : ∀ w ∈ lw_tbl, w.before #[Value.ref b] s = true := k2_hts_sels lw_privs (fun w hw => hts0 w (List.mem_cons_of_mem _ hw)) lw_privs_ok
    have hml : c.maxLocals = 4 := B.maxLocals_eq (hts0 _ List.mem_cons_self)
    have X₀ : Stand p l e room_1 s m #[Value.ref b] below meth c s₁ [] 0 0 := Stand.of_body B
    have hh0 : s₁.heap = s.heap := by rw [B.state]; rfl
    have hsz : scr.slots.size = xs.length := by rw [← Array.length_toList, hlist, List.length_map]
    have hval : ∀ j : Nat, j < xs.length → scr.slots[j]? = some (.int (xs.getD j 0)) := fun j hj => by
      rw [← Array.getElem?_toList, hlist]
      simp [hj]
    have hbl : b < s.heap.size := (Array.getElem?_eq_some_iff.mp hcb).1
    have hX : va_X b xs.length (fun j => xs.getD j 0) s s.heap := ⟨scr, hcb, hof, hkn, hsz, hval⟩
    have K : W p l e room_1 s m #[Value.ref b] below meth c s₁.heap [] 0 0 (lw_Z below #[Value.ref b] s) (entryFrame m ([Value.ref b] : List Value).toArray 4) := by
      rw [hh0]
      exact whole_start l hbd ⟨B.exec, B.bytes, B.returns, hml, hown, hts, hX, hbl, B.notSynchronized, hgv⟩
    obtain ⟨t, a1, o, b1, b2, b3⟩ := K s₁ rfl X₀
    exact ⟨t, o, a1, b1, b2, b3⟩
theorem lw_pre_spec {args : Array Value} {s : State} (h : (Jvm.Cond.and given_1 narrow_1).before args s = true) (hr : rest_1_c.before args s = true) : ∃ (b : Addr) (xs : List Int32), lw_P b xs args s := by
  have hs := flat_of_before _ h
  have hq := flat_of_before _ hr
  have hc : (Cond.count 1).before args s = true := hs _ (by decide +kernel)
  have harr : (Cond.arrayOf (.arg 0) .int).before args s = true := hs _ (by decide +kernel)
  have hle : (Cond.le (.length (.arg 0)) (.int 320)).before args s = true := hs _ (by decide +kernel)
  have hlen : (Cond.isInt (.length (.arg 0))).before args s = true := hq _ (by decide +kernel)
  have hall : (Cond.all (.arg 0) (.isInt (.elem (.arg 0) (.index 0)))).before args s = true := hq _ (by decide +kernel)
  obtain ⟨b, xs, hb, hx⟩ := State.ints_of_pre rfl harr hlen hall
  have hsm : xs.length < 2 ^ 31 := hx.choose_spec.2.2.2
  have hev : (Term.length (.arg 0)).eval args s none [] s = some (.int xs.length.toInt32) := hx.length_eval hb
  have hv := Cond.le_ints hev (show (Term.int 320).eval args s none [] s = some (.int 320) from rfl)
  have hd : xs.length.toInt32 ≤ 320 := by
    simpa [Cond.before, Cond.holds, hv] using hle
  have hN : xs.length ≤ 320 := (Int32.ofNat_le_ofNat hsm (by decide)).mp (show Int32.ofNat xs.length ≤ Int32.ofNat 320 from hd)
  exact ⟨b, xs, Cond.one_arg hc (show args[0]? = some (.ref b) from hb), hx, hN, h⟩
theorem lw_comes (l : Launch) : Comes l x (Jvm.Cond.code x code maxLocals ret :: tables_1) room_1 (fun tb e args s => Calls_1 tb e args s ∧ rest_1 tb e args s ∧ Pre_1 tb e args s)
    (fun _ _ args s o t => lw_Q args s o t) := by
  intro p e ha hc hk s m args below hf hfit hheap happ hpre
  obtain ⟨b, xs, hP⟩ := lw_pre_spec hpre.2.2 hpre.2.1
  obtain ⟨k, o, h1, h2, h3, hQ⟩ := lw_walk l b xs p e ha hc hk s m args below hf ((Spec.applies_iff_loose hf).mp happ).1 hP trivial
  exact ⟨k, o, h1, h2, h3, hQ⟩
theorem lw_frame {s t : State} {o : Outcome} {args : Array Value} (h : Framed s o t [] 600000 7290000) :
    Framed s o t (fieldLocs frame_1_writes args s ++ arrayLocs frame_1_arrays args s ++ staticLocs frame_1_statics s) 600000 7290000 := h
theorem lw_limb (L : Cond) (hL : ∀ (args : Array Value) (s t : State), L.after args s (.returned (some (.int 1))) t = true) :
    ArmFor flags0 classFile x code maxLocals ret World_1 tables_1 room_1 Calls_1 rest_1 Pre_1
      (fun tb e a s o t => postC L tb e a s o t ∧ Framed s o t (fieldLocs frame_1_writes a s ++ arrayLocs frame_1_arrays a s ++ staticLocs frame_1_statics s) 600000 7290000) := by
  intro l _ _ _ p e ha hc hk s m args below hf hfit hheap happ hpre
  obtain ⟨k, o, h1, h2, h3, rfl, hF⟩ := lw_comes l p e ha hc hk s m args below hf hfit hheap happ hpre
  exact ⟨k, _, h1, h2, h3, hL args s _, lw_frame hF⟩
theorem i_vc : Claimed_1_1 ∧ Claimed_1_2 := ⟨lw_limb limb_1_1 (fun args s t => by simp [limb_1_1, Cond.after, Cond.holds, Cond.value]), lw_limb limb_1_2 (fun args s t => Cond.after_iff.mpr (by
  first | (rw [show limb_1_2 = Cond.eq .result (.int 1) from rfl, Cond.eq_ints (x := 1) (y := 1) rfl rfl]; simp; done) | (simp [limb_1_2, Cond.value, Term.eval]; done)))⟩
end
