section
-- ===== PART A: goes FIRST, ahead of the names: the tables' words, and 'selects' of the private methods out of them =====
/-- a private method of a class that the tables say can be made, by its rows of tables_1 -/
def lw_okq (q : MethodName × Nat) : Prop := (q.1.cls ≠ "java/lang/invoke/MethodHandle" ∧ q.1.cls ≠ "java/lang/invoke/VarHandle") ∧ Cond.instantiable q.1.cls q.2 ∈ tables_1 ∧ Cond.privateMethod q.1 ∈ tables_1 ∧ Cond.instanceMethod q.1 ∈ tables_1
set_option maxRecDepth 100000
theorem lw_p0 : lw_okq (⟨"WildcardMatcher", "isShift", "(I)Z"⟩, 9) := ⟨⟨by decide +kernel, by decide +kernel⟩, List.mem_of_getElem? (i := 4) rfl, List.mem_of_getElem? (i := 67) rfl, List.mem_of_getElem? (i := 68) rfl⟩
theorem lw_p1 : lw_okq (⟨"WildcardMatcher", "prepare", "()V"⟩, 9) := ⟨⟨by decide +kernel, by decide +kernel⟩, List.mem_of_getElem? (i := 4) rfl, List.mem_of_getElem? (i := 71) rfl, List.mem_of_getElem? (i := 72) rfl⟩
theorem lw_p2 : lw_okq (⟨"WildcardMatcher", "clearSum", "()V"⟩, 9) := ⟨⟨by decide +kernel, by decide +kernel⟩, List.mem_of_getElem? (i := 4) rfl, List.mem_of_getElem? (i := 75) rfl, List.mem_of_getElem? (i := 76) rfl⟩
theorem lw_p3 : lw_okq (⟨"WildcardMatcher", "addProduct", "(III)V"⟩, 9) := ⟨⟨by decide +kernel, by decide +kernel⟩, List.mem_of_getElem? (i := 4) rfl, List.mem_of_getElem? (i := 79) rfl, List.mem_of_getElem? (i := 80) rfl⟩
theorem lw_p4 : lw_okq (⟨"WildcardMatcher", "measure", "(II)I"⟩, 9) := ⟨⟨by decide +kernel, by decide +kernel⟩, List.mem_of_getElem? (i := 4) rfl, List.mem_of_getElem? (i := 83) rfl, List.mem_of_getElem? (i := 84) rfl⟩
theorem lw_p5 : lw_okq (⟨"WildcardMatcher", "transform", "(IZ)V"⟩, 9) := ⟨⟨by decide +kernel, by decide +kernel⟩, List.mem_of_getElem? (i := 4) rfl, List.mem_of_getElem? (i := 87) rfl, List.mem_of_getElem? (i := 88) rfl⟩
theorem lw_p6 : lw_okq (⟨"WildcardMatcher", "turnedBits", "(I)I"⟩, 9) := ⟨⟨by decide +kernel, by decide +kernel⟩, List.mem_of_getElem? (i := 4) rfl, List.mem_of_getElem? (i := 91) rfl, List.mem_of_getElem? (i := 92) rfl⟩
theorem lw_p7 : lw_okq (⟨"WildcardMatcher", "butterfly", "(III)V"⟩, 9) := ⟨⟨by decide +kernel, by decide +kernel⟩, List.mem_of_getElem? (i := 4) rfl, List.mem_of_getElem? (i := 95) rfl, List.mem_of_getElem? (i := 96) rfl⟩
theorem lw_p8 : lw_okq (⟨"WildcardMatcher", "divideBySize", "(I)V"⟩, 9) := ⟨⟨by decide +kernel, by decide +kernel⟩, List.mem_of_getElem? (i := 4) rfl, List.mem_of_getElem? (i := 99) rfl, List.mem_of_getElem? (i := 100) rfl⟩
theorem lw_p9 : lw_okq (⟨"WildcardMatcher", "wrongAt", "(I)I"⟩, 9) := ⟨⟨by decide +kernel, by decide +kernel⟩, List.mem_of_getElem? (i := 4) rfl, List.mem_of_getElem? (i := 116) rfl, List.mem_of_getElem? (i := 117) rfl⟩
theorem lw_p10 : lw_okq (⟨"WildcardMatcherModel", "isLetter", "(ZI)Z"⟩, 4) := ⟨⟨by decide +kernel, by decide +kernel⟩, List.mem_of_getElem? (i := 132) rfl, List.mem_of_getElem? (i := 159) rfl, List.mem_of_getElem? (i := 160) rfl⟩
theorem lw_p11 : lw_okq (⟨"WildcardMatcherModel", "isShift", "(I)Z"⟩, 4) := ⟨⟨by decide +kernel, by decide +kernel⟩, List.mem_of_getElem? (i := 132) rfl, List.mem_of_getElem? (i := 179) rfl, List.mem_of_getElem? (i := 180) rfl⟩
theorem lw_p12 : lw_okq (⟨"WildcardMatcherModel", "differing", "(I)I"⟩, 4) := ⟨⟨by decide +kernel, by decide +kernel⟩, List.mem_of_getElem? (i := 132) rfl, List.mem_of_getElem? (i := 183) rfl, List.mem_of_getElem? (i := 184) rfl⟩
def lw_privs_1 : List (MethodName × Nat) := [(⟨"WildcardMatcher", "isShift", "(I)Z"⟩, 9), (⟨"WildcardMatcher", "prepare", "()V"⟩, 9), (⟨"WildcardMatcher", "clearSum", "()V"⟩, 9), (⟨"WildcardMatcher", "addProduct", "(III)V"⟩, 9), (⟨"WildcardMatcher", "measure", "(II)I"⟩, 9), (⟨"WildcardMatcher", "transform", "(IZ)V"⟩, 9), (⟨"WildcardMatcher", "turnedBits", "(I)I"⟩, 9), (⟨"WildcardMatcher", "butterfly", "(III)V"⟩, 9), (⟨"WildcardMatcher", "divideBySize", "(I)V"⟩, 9), (⟨"WildcardMatcher", "wrongAt", "(I)I"⟩, 9), (⟨"WildcardMatcherModel", "isLetter", "(ZI)Z"⟩, 4), (⟨"WildcardMatcherModel", "isShift", "(I)Z"⟩, 4), (⟨"WildcardMatcherModel", "differing", "(I)I"⟩, 4)]
theorem lw_r1 : ∀ q ∈ lw_privs_1, lw_okq q := List.forall_mem_cons.mpr ⟨lw_p0, List.forall_mem_cons.mpr ⟨lw_p1, List.forall_mem_cons.mpr ⟨lw_p2, List.forall_mem_cons.mpr ⟨lw_p3, List.forall_mem_cons.mpr ⟨lw_p4, List.forall_mem_cons.mpr ⟨lw_p5, List.forall_mem_cons.mpr ⟨lw_p6, List.forall_mem_cons.mpr ⟨lw_p7, List.forall_mem_cons.mpr ⟨lw_p8, List.forall_mem_cons.mpr ⟨lw_p9, List.forall_mem_cons.mpr ⟨lw_p10, List.forall_mem_cons.mpr ⟨lw_p11, List.forall_mem_cons.mpr ⟨lw_p12, fun _ h => absurd h List.not_mem_nil⟩⟩⟩⟩⟩⟩⟩⟩⟩⟩⟩⟩⟩
def lw_privs : List (MethodName × Nat) := lw_privs_1
def lw_tbl : List Cond := k2_sels lw_privs ++ tables_1
theorem lw_privs_ok : ∀ q ∈ lw_privs, lw_okq q := lw_r1
-- ===== ONE list of words for every method: the tables' words that hold all through a run =====
def lw_all : List Cond := lw_tbl.filter goodWord
/-- a word of the tables by its place: claim/WORDS.tsv -/
theorem lw_w {w : Cond} (i : Nat) (h : lw_tbl[i]? = some w) (g : goodWord w = true) : w ∈ lw_all := List.mem_filter.mpr ⟨List.mem_of_getElem? h, g⟩
theorem lw_all_tbl {w : Cond} (h : w ∈ lw_all) : w ∈ lw_tbl := (List.mem_filter.mp h).1
theorem lw_self : GoodIn lw_all lw_all := fun w h => ⟨h, good_of_word (List.mem_filter.mp h).2⟩
/-- a class's field words, by their places -/
theorem lw_in (ws : List Cond) (ps : List Nat) (hp : ws = ps.filterMap (fun i => lw_tbl[i]?)) (hg : ws.all goodWord = true) : ∀ w ∈ ws, w ∈ lw_all := by
  intro w h
  have h1 := List.all_eq_true.mp hg w h
  rw [hp] at h
  obtain ⟨i, -, hi⟩ := List.mem_filterMap.mp h
  exact lw_w i hi h1
/-- the words of a contract for the method y with code b, L locals, answer r -/
abbrev ws_ (y : MethodName) (b : ByteArray) (L : Nat) (r : Option FieldType) : List Cond := Cond.code y b L r :: lw_all
theorem lw_meth {y : MethodName} {b : ByteArray} {L : Nat} {r : Option FieldType} (h : Cond.code y b L r ∈ lw_all) : GoodIn lw_all (ws_ y b L r) := by
  intro w hw
  rcases List.mem_cons.mp hw with e | e
  · rw [e]
    exact lw_self _ h
  · exact lw_self _ e
theorem lw_app {a c : List Cond} (ha : ∀ w ∈ a, w ∈ lw_all) (hc : GoodIn lw_all c) : GoodIn lw_all (a ++ c) := by
  intro w hw
  rcases List.mem_append.mp hw with e | e
  · exact lw_self w (ha w e)
  · exact hc w e
/-- what a call through an object asks: cwV n hts (lw_V ..) -/
theorem lw_V {own : String} {idx : Nat} {C : String} {y : MethodName} {b : ByteArray} {L : Nat} {r : Option FieldType} (h1 : Cond.methodLink own idx y ∈ lw_all) (h2 : Cond.instanceMethod y ∈ lw_all) (h3 : Cond.selects C y y ∈ lw_all) (h4 : Cond.initialized C ∈ lw_all) (h5 : Cond.code y b L r ∈ lw_all) : GoodIn lw_all (wsV own idx C y (ws_ y b L r)) := by
  refine lw_app ?_ (lw_meth h5)
  intro w hw
  simp only [List.mem_cons, List.not_mem_nil, or_false] at hw
  rcases hw with e | e | e | e
  · rw [e]; exact h1
  · rw [e]; exact h2
  · rw [e]; exact h3
  · rw [e]; exact h4
/-- what a static call asks: va_cwS n hts (lw_S ..) -/
theorem lw_S {own : String} {idx : Nat} {y : MethodName} {b : ByteArray} {L : Nat} {r : Option FieldType} (h1 : Cond.methodLink own idx y ∈ lw_all) (h2 : Cond.static y ∈ lw_all) (h3 : Cond.initialized y.cls ∈ lw_all) (h4 : Cond.code y b L r ∈ lw_all) : GoodIn lw_all (va_wsS own idx y (ws_ y b L r)) := by
  refine lw_app ?_ (lw_meth h4)
  intro w hw
  simp only [List.mem_cons, List.not_mem_nil, or_false] at hw
  rcases hw with e | e | e
  · rw [e]; exact h1
  · rw [e]; exact h2
  · rw [e]; exact h3
/-- the words of a contract for a method WITH HANDLERS (hh: its table) -/
abbrev wsW_ (y : MethodName) (b : ByteArray) (L : Nat) (r : Option FieldType) (hh : List (Nat × Nat × Nat × Nat)) : List Cond := Cond.codeWith y b L r hh :: lw_all
theorem lw_methW {y : MethodName} {b : ByteArray} {L : Nat} {r : Option FieldType} {hh : List (Nat × Nat × Nat × Nat)} (h : Cond.codeWith y b L r hh ∈ lw_all) : GoodIn lw_all (wsW_ y b L r hh) := by
  intro w hw
  rcases List.mem_cons.mp hw with e | e
  · rw [e]
    exact lw_self _ h
  · exact lw_self _ e
/-- any list of words by their places (lw_in), good -/
theorem lw_good {ws : List Cond} (h : ∀ w ∈ ws, w ∈ lw_all) : GoodIn lw_all ws := fun w hw => lw_self w (h w hw)
/-- what a call of a method with handlers asks: vx_cwVW n hts (lw_VW ..), vx_cwSW n hts (lw_SW ..) -/
theorem lw_VW {own : String} {idx : Nat} {C : String} {y : MethodName} {b : ByteArray} {L : Nat} {r : Option FieldType} {hh : List (Nat × Nat × Nat × Nat)} (h1 : Cond.methodLink own idx y ∈ lw_all) (h2 : Cond.instanceMethod y ∈ lw_all) (h3 : Cond.selects C y y ∈ lw_all) (h4 : Cond.initialized C ∈ lw_all) (h5 : Cond.codeWith y b L r hh ∈ lw_all) : GoodIn lw_all (wsV own idx C y (wsW_ y b L r hh)) := by
  refine lw_app ?_ (lw_methW h5)
  intro w hw
  simp only [List.mem_cons, List.not_mem_nil, or_false] at hw
  rcases hw with e | e | e | e
  · rw [e]; exact h1
  · rw [e]; exact h2
  · rw [e]; exact h3
  · rw [e]; exact h4
theorem lw_SW {own : String} {idx : Nat} {y : MethodName} {b : ByteArray} {L : Nat} {r : Option FieldType} {hh : List (Nat × Nat × Nat × Nat)} (h1 : Cond.methodLink own idx y ∈ lw_all) (h2 : Cond.static y ∈ lw_all) (h3 : Cond.initialized y.cls ∈ lw_all) (h4 : Cond.codeWith y b L r hh ∈ lw_all) : GoodIn lw_all (va_wsS own idx y (wsW_ y b L r hh)) := by
  refine lw_app ?_ (lw_methW h4)
  intro w hw
  simp only [List.mem_cons, List.not_mem_nil, or_false] at hw
  rcases hw with e | e | e
  · rw [e]; exact h1
  · rw [e]; exact h2
  · rw [e]; exact h3
/-- a word by its place in its run of the tables -/
theorem lw_at {r : List Cond} (hr : ∀ w ∈ r, w ∈ lw_tbl) {w : Cond} (i : Nat) (h : r[i]? = some w) : w ∈ lw_tbl := hr w (List.mem_of_getElem? h)
theorem lw_g {w : Cond} (h : w ∈ lw_tbl) (g : goodWord w = true) : w ∈ lw_all := List.mem_filter.mpr ⟨h, g⟩
theorem lw_ms : ∀ w ∈ k2_sels lw_privs, w ∈ lw_tbl := fun w h => show w ∈ k2_sels lw_privs ++ tables_1 from List.mem_append_left _ h
theorem lw_m0 : ∀ w ∈ tables_1, w ∈ lw_tbl := fun w h => show w ∈ k2_sels lw_privs ++ tables_1 from List.mem_append_right (k2_sels lw_privs) h
theorem qs0 : (Cond.selects "WildcardMatcher" ⟨"WildcardMatcher", "isShift", "(I)Z"⟩ ⟨"WildcardMatcher", "isShift", "(I)Z"⟩) ∈ lw_all := lw_g (lw_at lw_ms 0 rfl) rfl
theorem qs1 : (Cond.selects "WildcardMatcher" ⟨"WildcardMatcher", "prepare", "()V"⟩ ⟨"WildcardMatcher", "prepare", "()V"⟩) ∈ lw_all := lw_g (lw_at lw_ms 1 rfl) rfl
theorem qs2 : (Cond.selects "WildcardMatcher" ⟨"WildcardMatcher", "clearSum", "()V"⟩ ⟨"WildcardMatcher", "clearSum", "()V"⟩) ∈ lw_all := lw_g (lw_at lw_ms 2 rfl) rfl
theorem qs3 : (Cond.selects "WildcardMatcher" ⟨"WildcardMatcher", "addProduct", "(III)V"⟩ ⟨"WildcardMatcher", "addProduct", "(III)V"⟩) ∈ lw_all := lw_g (lw_at lw_ms 3 rfl) rfl
theorem qs4 : (Cond.selects "WildcardMatcher" ⟨"WildcardMatcher", "measure", "(II)I"⟩ ⟨"WildcardMatcher", "measure", "(II)I"⟩) ∈ lw_all := lw_g (lw_at lw_ms 4 rfl) rfl
theorem qs5 : (Cond.selects "WildcardMatcher" ⟨"WildcardMatcher", "transform", "(IZ)V"⟩ ⟨"WildcardMatcher", "transform", "(IZ)V"⟩) ∈ lw_all := lw_g (lw_at lw_ms 5 rfl) rfl
theorem qs6 : (Cond.selects "WildcardMatcher" ⟨"WildcardMatcher", "turnedBits", "(I)I"⟩ ⟨"WildcardMatcher", "turnedBits", "(I)I"⟩) ∈ lw_all := lw_g (lw_at lw_ms 6 rfl) rfl
theorem qs7 : (Cond.selects "WildcardMatcher" ⟨"WildcardMatcher", "butterfly", "(III)V"⟩ ⟨"WildcardMatcher", "butterfly", "(III)V"⟩) ∈ lw_all := lw_g (lw_at lw_ms 7 rfl) rfl
theorem qs8 : (Cond.selects "WildcardMatcher" ⟨"WildcardMatcher", "divideBySize", "(I)V"⟩ ⟨"WildcardMatcher", "divideBySize", "(I)V"⟩) ∈ lw_all := lw_g (lw_at lw_ms 8 rfl) rfl
theorem qs9 : (Cond.selects "WildcardMatcher" ⟨"WildcardMatcher", "wrongAt", "(I)I"⟩ ⟨"WildcardMatcher", "wrongAt", "(I)I"⟩) ∈ lw_all := lw_g (lw_at lw_ms 9 rfl) rfl
theorem qs10 : (Cond.selects "WildcardMatcherModel" ⟨"WildcardMatcherModel", "isLetter", "(ZI)Z"⟩ ⟨"WildcardMatcherModel", "isLetter", "(ZI)Z"⟩) ∈ lw_all := lw_g (lw_at lw_ms 10 rfl) rfl
theorem qs11 : (Cond.selects "WildcardMatcherModel" ⟨"WildcardMatcherModel", "isShift", "(I)Z"⟩ ⟨"WildcardMatcherModel", "isShift", "(I)Z"⟩) ∈ lw_all := lw_g (lw_at lw_ms 11 rfl) rfl
theorem qs12 : (Cond.selects "WildcardMatcherModel" ⟨"WildcardMatcherModel", "differing", "(I)I"⟩ ⟨"WildcardMatcherModel", "differing", "(I)I"⟩) ∈ lw_all := lw_g (lw_at lw_ms 12 rfl) rfl
end
section
set_option maxRecDepth 100000
/-! WildcardMatcher -/
def RX0 : String := "WildcardMatcher"
def TX0 : u_T := fun k => match k with
  | 0 => ("WildcardMatcher", "textLength", "I", false)
  | 1 => ("WildcardMatcher", "patternLength", "I", false)
  | 2 => ("WildcardMatcher", "text", "[B", true)
  | 3 => ("WildcardMatcher", "pattern", "[B", true)
  | 4 => ("WildcardMatcher", "root", "[I", true)
  | 5 => ("WildcardMatcher", "work", "[I", true)
  | 6 => ("WildcardMatcher", "ready", "Z", false)
  | 7 => ("WildcardMatcher", "difference", "[I", true)
  | _ => ("WildcardMatcher", "wrong", "[I", true)
def tyX0 : Nat → FieldType := fun k => match k with
  | 0 => .int
  | 1 => .int
  | 2 => .array .byte
  | 3 => .array .byte
  | 4 => .array .int
  | 5 => .array .int
  | 6 => .boolean
  | 7 => .array .int
  | _ => .array .int
abbrev wsX00 : List Cond := u_ws RX0 TX0 9
theorem nmX0 : ∀ a, a < 9 → ∀ b, b < 9 → a ≠ b → (TX0 a).2.1 ≠ (TX0 b).2.1 := by decide +kernel
theorem tyX0_ok : ∀ k, k < 9 → parseFieldDescriptor (TX0 k).2.2.1 = some (tyX0 k) := by decide +kernel
abbrev cX0_init : ByteArray := prog_1_method_1_code
def yX0_init : MethodName := ⟨RX0, "<init>", "()V"⟩
theorem dX0_init_0 : decode cX0_init 0 = .ok (.aload_n 0, 1) := by decide +kernel
theorem dX0_init_1 : decode cX0_init 1 = .ok (.invokespecial 1, 3) := by decide +kernel
theorem dX0_init_4 : decode cX0_init 4 = .ok (.aload_n 0, 1) := by decide +kernel
theorem dX0_init_5 : decode cX0_init 5 = .ok (.bipush 40, 2) := by decide +kernel
theorem dX0_init_7 : decode cX0_init 7 = .ok (.newarray .byte, 2) := by decide +kernel
theorem dX0_init_9 : decode cX0_init 9 = .ok (.putfield 7, 3) := by decide +kernel
theorem dX0_init_12 : decode cX0_init 12 = .ok (.aload_n 0, 1) := by decide +kernel
theorem dX0_init_13 : decode cX0_init 13 = .ok (.bipush 12, 2) := by decide +kernel
theorem dX0_init_15 : decode cX0_init 15 = .ok (.newarray .byte, 2) := by decide +kernel
theorem dX0_init_17 : decode cX0_init 17 = .ok (.putfield 13, 3) := by decide +kernel
theorem dX0_init_20 : decode cX0_init 20 = .ok (.aload_n 0, 1) := by decide +kernel
theorem dX0_init_21 : decode cX0_init 21 = .ok (.bipush 64, 2) := by decide +kernel
theorem dX0_init_23 : decode cX0_init 23 = .ok (.newarray .int, 2) := by decide +kernel
theorem dX0_init_25 : decode cX0_init 25 = .ok (.putfield 16, 3) := by decide +kernel
theorem dX0_init_28 : decode cX0_init 28 = .ok (.aload_n 0, 1) := by decide +kernel
theorem dX0_init_29 : decode cX0_init 29 = .ok (.sipush 192, 3) := by decide +kernel
theorem dX0_init_32 : decode cX0_init 32 = .ok (.newarray .int, 2) := by decide +kernel
theorem dX0_init_34 : decode cX0_init 34 = .ok (.putfield 20, 3) := by decide +kernel
theorem dX0_init_37 : decode cX0_init 37 = .ok (.aload_n 0, 1) := by decide +kernel
theorem dX0_init_38 : decode cX0_init 38 = .ok (.bipush 40, 2) := by decide +kernel
theorem dX0_init_40 : decode cX0_init 40 = .ok (.newarray .int, 2) := by decide +kernel
theorem dX0_init_42 : decode cX0_init 42 = .ok (.putfield 23, 3) := by decide +kernel
theorem dX0_init_45 : decode cX0_init 45 = .ok (.aload_n 0, 1) := by decide +kernel
theorem dX0_init_46 : decode cX0_init 46 = .ok (.bipush 40, 2) := by decide +kernel
theorem dX0_init_48 : decode cX0_init 48 = .ok (.newarray .int, 2) := by decide +kernel
theorem dX0_init_50 : decode cX0_init 50 = .ok (.putfield 26, 3) := by decide +kernel
theorem dX0_init_53 : decode cX0_init 53 = .ok (.iconst 1, 1) := by decide +kernel
theorem dX0_init_54 : decode cX0_init 54 = .ok (.istore_n 1, 1) := by decide +kernel
theorem dX0_init_55 : decode cX0_init 55 = .ok (.iconst 0, 1) := by decide +kernel
theorem dX0_init_56 : decode cX0_init 56 = .ok (.istore_n 2, 1) := by decide +kernel
theorem dX0_init_57 : decode cX0_init 57 = .ok (.iload_n 2, 1) := by decide +kernel
theorem dX0_init_58 : decode cX0_init 58 = .ok (.bipush 120, 2) := by decide +kernel
theorem dX0_init_60 : decode cX0_init 60 = .ok (.if_icmp .ge 18, 3) := by decide +kernel
theorem dX0_init_63 : decode cX0_init 63 = .ok (.iload_n 1, 1) := by decide +kernel
theorem dX0_init_64 : decode cX0_init 64 = .ok (.bipush 17, 2) := by decide +kernel
theorem dX0_init_66 : decode cX0_init 66 = .ok (.imul, 1) := by decide +kernel
theorem dX0_init_67 : decode cX0_init 67 = .ok (.sipush 7681, 3) := by decide +kernel
theorem dX0_init_70 : decode cX0_init 70 = .ok (.irem, 1) := by decide +kernel
theorem dX0_init_71 : decode cX0_init 71 = .ok (.istore_n 1, 1) := by decide +kernel
theorem dX0_init_72 : decode cX0_init 72 = .ok (.iinc 2 1, 3) := by decide +kernel
theorem dX0_init_75 : decode cX0_init 75 = .ok (.goto (-18), 3) := by decide +kernel
theorem dX0_init_78 : decode cX0_init 78 = .ok (.aload_n 0, 1) := by decide +kernel
theorem dX0_init_79 : decode cX0_init 79 = .ok (.getfield 16, 3) := by decide +kernel
theorem dX0_init_82 : decode cX0_init 82 = .ok (.iconst 0, 1) := by decide +kernel
theorem dX0_init_83 : decode cX0_init 83 = .ok (.iconst 1, 1) := by decide +kernel
theorem dX0_init_84 : decode cX0_init 84 = .ok (.iastore, 1) := by decide +kernel
theorem dX0_init_85 : decode cX0_init 85 = .ok (.iconst 1, 1) := by decide +kernel
theorem dX0_init_86 : decode cX0_init 86 = .ok (.istore_n 2, 1) := by decide +kernel
theorem dX0_init_87 : decode cX0_init 87 = .ok (.iload_n 2, 1) := by decide +kernel
theorem dX0_init_88 : decode cX0_init 88 = .ok (.bipush 64, 2) := by decide +kernel
theorem dX0_init_90 : decode cX0_init 90 = .ok (.if_icmp .ge 29, 3) := by decide +kernel
theorem dX0_init_93 : decode cX0_init 93 = .ok (.aload_n 0, 1) := by decide +kernel
theorem dX0_init_94 : decode cX0_init 94 = .ok (.getfield 16, 3) := by decide +kernel
theorem dX0_init_97 : decode cX0_init 97 = .ok (.iload_n 2, 1) := by decide +kernel
theorem dX0_init_98 : decode cX0_init 98 = .ok (.aload_n 0, 1) := by decide +kernel
theorem dX0_init_99 : decode cX0_init 99 = .ok (.getfield 16, 3) := by decide +kernel
theorem dX0_init_102 : decode cX0_init 102 = .ok (.iload_n 2, 1) := by decide +kernel
theorem dX0_init_103 : decode cX0_init 103 = .ok (.iconst 1, 1) := by decide +kernel
theorem dX0_init_104 : decode cX0_init 104 = .ok (.isub, 1) := by decide +kernel
theorem dX0_init_105 : decode cX0_init 105 = .ok (.iaload, 1) := by decide +kernel
theorem dX0_init_106 : decode cX0_init 106 = .ok (.iload_n 1, 1) := by decide +kernel
theorem dX0_init_107 : decode cX0_init 107 = .ok (.imul, 1) := by decide +kernel
theorem dX0_init_108 : decode cX0_init 108 = .ok (.sipush 7681, 3) := by decide +kernel
theorem dX0_init_111 : decode cX0_init 111 = .ok (.irem, 1) := by decide +kernel
theorem dX0_init_112 : decode cX0_init 112 = .ok (.iastore, 1) := by decide +kernel
theorem dX0_init_113 : decode cX0_init 113 = .ok (.iinc 2 1, 3) := by decide +kernel
theorem dX0_init_116 : decode cX0_init 116 = .ok (.goto (-29), 3) := by decide +kernel
theorem dX0_init_119 : decode cX0_init 119 = .ok (.return_, 1) := by decide +kernel
abbrev cX0_type : ByteArray := prog_1_method_2_code
def yX0_type : MethodName := ⟨RX0, "type", "(ZI)I"⟩
theorem dX0_type_0 : decode cX0_type 0 = .ok (.iload_n 1, 1) := by decide +kernel
theorem dX0_type_1 : decode cX0_type 1 = .ok (.ifCond .eq 15, 3) := by decide +kernel
theorem dX0_type_4 : decode cX0_type 4 = .ok (.aload_n 0, 1) := by decide +kernel
theorem dX0_type_5 : decode cX0_type 5 = .ok (.getfield 29, 3) := by decide +kernel
theorem dX0_type_8 : decode cX0_type 8 = .ok (.bipush 12, 2) := by decide +kernel
theorem dX0_type_10 : decode cX0_type 10 = .ok (.if_icmp .lt 17, 3) := by decide +kernel
theorem dX0_type_13 : decode cX0_type 13 = .ok (.goto 12, 3) := by decide +kernel
theorem dX0_type_16 : decode cX0_type 16 = .ok (.aload_n 0, 1) := by decide +kernel
theorem dX0_type_17 : decode cX0_type 17 = .ok (.getfield 33, 3) := by decide +kernel
theorem dX0_type_20 : decode cX0_type 20 = .ok (.bipush 40, 2) := by decide +kernel
theorem dX0_type_22 : decode cX0_type 22 = .ok (.if_icmp .lt 5, 3) := by decide +kernel
theorem dX0_type_25 : decode cX0_type 25 = .ok (.iconst (-1), 1) := by decide +kernel
theorem dX0_type_26 : decode cX0_type 26 = .ok (.ireturn, 1) := by decide +kernel
theorem dX0_type_27 : decode cX0_type 27 = .ok (.iload_n 2, 1) := by decide +kernel
theorem dX0_type_28 : decode cX0_type 28 = .ok (.ifCond .lt 8, 3) := by decide +kernel
theorem dX0_type_31 : decode cX0_type 31 = .ok (.iload_n 2, 1) := by decide +kernel
theorem dX0_type_32 : decode cX0_type 32 = .ok (.iconst 4, 1) := by decide +kernel
theorem dX0_type_33 : decode cX0_type 33 = .ok (.if_icmp .le 6, 3) := by decide +kernel
theorem dX0_type_36 : decode cX0_type 36 = .ok (.bipush (-2), 2) := by decide +kernel
theorem dX0_type_38 : decode cX0_type 38 = .ok (.ireturn, 1) := by decide +kernel
theorem dX0_type_39 : decode cX0_type 39 = .ok (.aload_n 0, 1) := by decide +kernel
theorem dX0_type_40 : decode cX0_type 40 = .ok (.iconst 0, 1) := by decide +kernel
theorem dX0_type_41 : decode cX0_type 41 = .ok (.putfield 36, 3) := by decide +kernel
theorem dX0_type_44 : decode cX0_type 44 = .ok (.iload_n 1, 1) := by decide +kernel
theorem dX0_type_45 : decode cX0_type 45 = .ok (.ifCond .eq 29, 3) := by decide +kernel
theorem dX0_type_48 : decode cX0_type 48 = .ok (.aload_n 0, 1) := by decide +kernel
theorem dX0_type_49 : decode cX0_type 49 = .ok (.getfield 13, 3) := by decide +kernel
theorem dX0_type_52 : decode cX0_type 52 = .ok (.aload_n 0, 1) := by decide +kernel
theorem dX0_type_53 : decode cX0_type 53 = .ok (.getfield 29, 3) := by decide +kernel
theorem dX0_type_56 : decode cX0_type 56 = .ok (.iload_n 2, 1) := by decide +kernel
theorem dX0_type_57 : decode cX0_type 57 = .ok (.i2b, 1) := by decide +kernel
theorem dX0_type_58 : decode cX0_type 58 = .ok (.bastore, 1) := by decide +kernel
theorem dX0_type_59 : decode cX0_type 59 = .ok (.aload_n 0, 1) := by decide +kernel
theorem dX0_type_60 : decode cX0_type 60 = .ok (.dup, 1) := by decide +kernel
theorem dX0_type_61 : decode cX0_type 61 = .ok (.getfield 29, 3) := by decide +kernel
theorem dX0_type_64 : decode cX0_type 64 = .ok (.iconst 1, 1) := by decide +kernel
theorem dX0_type_65 : decode cX0_type 65 = .ok (.iadd, 1) := by decide +kernel
theorem dX0_type_66 : decode cX0_type 66 = .ok (.putfield 29, 3) := by decide +kernel
theorem dX0_type_69 : decode cX0_type 69 = .ok (.aload_n 0, 1) := by decide +kernel
theorem dX0_type_70 : decode cX0_type 70 = .ok (.getfield 29, 3) := by decide +kernel
theorem dX0_type_73 : decode cX0_type 73 = .ok (.ireturn, 1) := by decide +kernel
theorem dX0_type_74 : decode cX0_type 74 = .ok (.aload_n 0, 1) := by decide +kernel
theorem dX0_type_75 : decode cX0_type 75 = .ok (.getfield 7, 3) := by decide +kernel
theorem dX0_type_78 : decode cX0_type 78 = .ok (.aload_n 0, 1) := by decide +kernel
theorem dX0_type_79 : decode cX0_type 79 = .ok (.getfield 33, 3) := by decide +kernel
theorem dX0_type_82 : decode cX0_type 82 = .ok (.iload_n 2, 1) := by decide +kernel
theorem dX0_type_83 : decode cX0_type 83 = .ok (.i2b, 1) := by decide +kernel
theorem dX0_type_84 : decode cX0_type 84 = .ok (.bastore, 1) := by decide +kernel
theorem dX0_type_85 : decode cX0_type 85 = .ok (.aload_n 0, 1) := by decide +kernel
theorem dX0_type_86 : decode cX0_type 86 = .ok (.dup, 1) := by decide +kernel
theorem dX0_type_87 : decode cX0_type 87 = .ok (.getfield 33, 3) := by decide +kernel
theorem dX0_type_90 : decode cX0_type 90 = .ok (.iconst 1, 1) := by decide +kernel
theorem dX0_type_91 : decode cX0_type 91 = .ok (.iadd, 1) := by decide +kernel
theorem dX0_type_92 : decode cX0_type 92 = .ok (.putfield 33, 3) := by decide +kernel
theorem dX0_type_95 : decode cX0_type 95 = .ok (.aload_n 0, 1) := by decide +kernel
theorem dX0_type_96 : decode cX0_type 96 = .ok (.getfield 33, 3) := by decide +kernel
theorem dX0_type_99 : decode cX0_type 99 = .ok (.ireturn, 1) := by decide +kernel
abbrev cX0_replace : ByteArray := prog_1_method_3_code
def yX0_replace : MethodName := ⟨RX0, "replace", "(ZII)Z"⟩
theorem dX0_replace_0 : decode cX0_replace 0 = .ok (.iload_n 2, 1) := by decide +kernel
theorem dX0_replace_1 : decode cX0_replace 1 = .ok (.ifCond .lt 21, 3) := by decide +kernel
theorem dX0_replace_4 : decode cX0_replace 4 = .ok (.iload_n 2, 1) := by decide +kernel
theorem dX0_replace_5 : decode cX0_replace 5 = .ok (.aload_n 0, 1) := by decide +kernel
theorem dX0_replace_6 : decode cX0_replace 6 = .ok (.iload_n 1, 1) := by decide +kernel
theorem dX0_replace_7 : decode cX0_replace 7 = .ok (.invokevirtual 40, 3) := by decide +kernel
theorem dX0_replace_10 : decode cX0_replace 10 = .ok (.if_icmp .ge 12, 3) := by decide +kernel
theorem dX0_replace_13 : decode cX0_replace 13 = .ok (.iload_n 3, 1) := by decide +kernel
theorem dX0_replace_14 : decode cX0_replace 14 = .ok (.ifCond .lt 8, 3) := by decide +kernel
theorem dX0_replace_17 : decode cX0_replace 17 = .ok (.iload_n 3, 1) := by decide +kernel
theorem dX0_replace_18 : decode cX0_replace 18 = .ok (.iconst 4, 1) := by decide +kernel
theorem dX0_replace_19 : decode cX0_replace 19 = .ok (.if_icmp .le 5, 3) := by decide +kernel
theorem dX0_replace_22 : decode cX0_replace 22 = .ok (.iconst 0, 1) := by decide +kernel
theorem dX0_replace_23 : decode cX0_replace 23 = .ok (.ireturn, 1) := by decide +kernel
theorem dX0_replace_24 : decode cX0_replace 24 = .ok (.aload_n 0, 1) := by decide +kernel
theorem dX0_replace_25 : decode cX0_replace 25 = .ok (.iconst 0, 1) := by decide +kernel
theorem dX0_replace_26 : decode cX0_replace 26 = .ok (.putfield 36, 3) := by decide +kernel
theorem dX0_replace_29 : decode cX0_replace 29 = .ok (.iload_n 1, 1) := by decide +kernel
theorem dX0_replace_30 : decode cX0_replace 30 = .ok (.ifCond .eq 14, 3) := by decide +kernel
theorem dX0_replace_33 : decode cX0_replace 33 = .ok (.aload_n 0, 1) := by decide +kernel
theorem dX0_replace_34 : decode cX0_replace 34 = .ok (.getfield 13, 3) := by decide +kernel
theorem dX0_replace_37 : decode cX0_replace 37 = .ok (.iload_n 2, 1) := by decide +kernel
theorem dX0_replace_38 : decode cX0_replace 38 = .ok (.iload_n 3, 1) := by decide +kernel
theorem dX0_replace_39 : decode cX0_replace 39 = .ok (.i2b, 1) := by decide +kernel
theorem dX0_replace_40 : decode cX0_replace 40 = .ok (.bastore, 1) := by decide +kernel
theorem dX0_replace_41 : decode cX0_replace 41 = .ok (.goto 11, 3) := by decide +kernel
theorem dX0_replace_44 : decode cX0_replace 44 = .ok (.aload_n 0, 1) := by decide +kernel
theorem dX0_replace_45 : decode cX0_replace 45 = .ok (.getfield 7, 3) := by decide +kernel
theorem dX0_replace_48 : decode cX0_replace 48 = .ok (.iload_n 2, 1) := by decide +kernel
theorem dX0_replace_49 : decode cX0_replace 49 = .ok (.iload_n 3, 1) := by decide +kernel
theorem dX0_replace_50 : decode cX0_replace 50 = .ok (.i2b, 1) := by decide +kernel
theorem dX0_replace_51 : decode cX0_replace 51 = .ok (.bastore, 1) := by decide +kernel
theorem dX0_replace_52 : decode cX0_replace 52 = .ok (.iconst 1, 1) := by decide +kernel
theorem dX0_replace_53 : decode cX0_replace 53 = .ok (.ireturn, 1) := by decide +kernel
abbrev cX0_length : ByteArray := prog_1_method_6_code
def yX0_length : MethodName := ⟨RX0, "length", "(Z)I"⟩
theorem dX0_length_0 : decode cX0_length 0 = .ok (.iload_n 1, 1) := by decide +kernel
theorem dX0_length_1 : decode cX0_length 1 = .ok (.ifCond .eq 10, 3) := by decide +kernel
theorem dX0_length_4 : decode cX0_length 4 = .ok (.aload_n 0, 1) := by decide +kernel
theorem dX0_length_5 : decode cX0_length 5 = .ok (.getfield 29, 3) := by decide +kernel
theorem dX0_length_8 : decode cX0_length 8 = .ok (.goto 7, 3) := by decide +kernel
theorem dX0_length_11 : decode cX0_length 11 = .ok (.aload_n 0, 1) := by decide +kernel
theorem dX0_length_12 : decode cX0_length 12 = .ok (.getfield 33, 3) := by decide +kernel
theorem dX0_length_15 : decode cX0_length 15 = .ok (.ireturn, 1) := by decide +kernel
abbrev cX0_shorten : ByteArray := prog_1_method_4_code
def yX0_shorten : MethodName := ⟨RX0, "shorten", "(Z)I"⟩
theorem dX0_shorten_0 : decode cX0_shorten 0 = .ok (.aload_n 0, 1) := by decide +kernel
theorem dX0_shorten_1 : decode cX0_shorten 1 = .ok (.iload_n 1, 1) := by decide +kernel
theorem dX0_shorten_2 : decode cX0_shorten 2 = .ok (.invokevirtual 40, 3) := by decide +kernel
theorem dX0_shorten_5 : decode cX0_shorten 5 = .ok (.iconst 1, 1) := by decide +kernel
theorem dX0_shorten_6 : decode cX0_shorten 6 = .ok (.isub, 1) := by decide +kernel
theorem dX0_shorten_7 : decode cX0_shorten 7 = .ok (.istore_n 2, 1) := by decide +kernel
theorem dX0_shorten_8 : decode cX0_shorten 8 = .ok (.iload_n 2, 1) := by decide +kernel
theorem dX0_shorten_9 : decode cX0_shorten 9 = .ok (.ifCond .ge 6, 3) := by decide +kernel
theorem dX0_shorten_12 : decode cX0_shorten 12 = .ok (.bipush (-2), 2) := by decide +kernel
theorem dX0_shorten_14 : decode cX0_shorten 14 = .ok (.ireturn, 1) := by decide +kernel
theorem dX0_shorten_15 : decode cX0_shorten 15 = .ok (.aload_n 0, 1) := by decide +kernel
theorem dX0_shorten_16 : decode cX0_shorten 16 = .ok (.iconst 0, 1) := by decide +kernel
theorem dX0_shorten_17 : decode cX0_shorten 17 = .ok (.putfield 36, 3) := by decide +kernel
theorem dX0_shorten_20 : decode cX0_shorten 20 = .ok (.iconst 0, 1) := by decide +kernel
theorem dX0_shorten_21 : decode cX0_shorten 21 = .ok (.istore_n 3, 1) := by decide +kernel
theorem dX0_shorten_22 : decode cX0_shorten 22 = .ok (.iload_n 3, 1) := by decide +kernel
theorem dX0_shorten_23 : decode cX0_shorten 23 = .ok (.iload_n 2, 1) := by decide +kernel
theorem dX0_shorten_24 : decode cX0_shorten 24 = .ok (.if_icmp .ge 44, 3) := by decide +kernel
theorem dX0_shorten_27 : decode cX0_shorten 27 = .ok (.iload_n 1, 1) := by decide +kernel
theorem dX0_shorten_28 : decode cX0_shorten 28 = .ok (.ifCond .eq 20, 3) := by decide +kernel
theorem dX0_shorten_31 : decode cX0_shorten 31 = .ok (.aload_n 0, 1) := by decide +kernel
theorem dX0_shorten_32 : decode cX0_shorten 32 = .ok (.getfield 13, 3) := by decide +kernel
theorem dX0_shorten_35 : decode cX0_shorten 35 = .ok (.iload_n 3, 1) := by decide +kernel
theorem dX0_shorten_36 : decode cX0_shorten 36 = .ok (.aload_n 0, 1) := by decide +kernel
theorem dX0_shorten_37 : decode cX0_shorten 37 = .ok (.getfield 13, 3) := by decide +kernel
theorem dX0_shorten_40 : decode cX0_shorten 40 = .ok (.iload_n 3, 1) := by decide +kernel
theorem dX0_shorten_41 : decode cX0_shorten 41 = .ok (.iconst 1, 1) := by decide +kernel
theorem dX0_shorten_42 : decode cX0_shorten 42 = .ok (.iadd, 1) := by decide +kernel
theorem dX0_shorten_43 : decode cX0_shorten 43 = .ok (.baload, 1) := by decide +kernel
theorem dX0_shorten_44 : decode cX0_shorten 44 = .ok (.bastore, 1) := by decide +kernel
theorem dX0_shorten_45 : decode cX0_shorten 45 = .ok (.goto 17, 3) := by decide +kernel
theorem dX0_shorten_48 : decode cX0_shorten 48 = .ok (.aload_n 0, 1) := by decide +kernel
theorem dX0_shorten_49 : decode cX0_shorten 49 = .ok (.getfield 7, 3) := by decide +kernel
theorem dX0_shorten_52 : decode cX0_shorten 52 = .ok (.iload_n 3, 1) := by decide +kernel
theorem dX0_shorten_53 : decode cX0_shorten 53 = .ok (.aload_n 0, 1) := by decide +kernel
theorem dX0_shorten_54 : decode cX0_shorten 54 = .ok (.getfield 7, 3) := by decide +kernel
theorem dX0_shorten_57 : decode cX0_shorten 57 = .ok (.iload_n 3, 1) := by decide +kernel
theorem dX0_shorten_58 : decode cX0_shorten 58 = .ok (.iconst 1, 1) := by decide +kernel
theorem dX0_shorten_59 : decode cX0_shorten 59 = .ok (.iadd, 1) := by decide +kernel
theorem dX0_shorten_60 : decode cX0_shorten 60 = .ok (.baload, 1) := by decide +kernel
theorem dX0_shorten_61 : decode cX0_shorten 61 = .ok (.bastore, 1) := by decide +kernel
theorem dX0_shorten_62 : decode cX0_shorten 62 = .ok (.iinc 3 1, 3) := by decide +kernel
theorem dX0_shorten_65 : decode cX0_shorten 65 = .ok (.goto (-43), 3) := by decide +kernel
theorem dX0_shorten_68 : decode cX0_shorten 68 = .ok (.iload_n 1, 1) := by decide +kernel
theorem dX0_shorten_69 : decode cX0_shorten 69 = .ok (.ifCond .eq 11, 3) := by decide +kernel
theorem dX0_shorten_72 : decode cX0_shorten 72 = .ok (.aload_n 0, 1) := by decide +kernel
theorem dX0_shorten_73 : decode cX0_shorten 73 = .ok (.iload_n 2, 1) := by decide +kernel
theorem dX0_shorten_74 : decode cX0_shorten 74 = .ok (.putfield 29, 3) := by decide +kernel
theorem dX0_shorten_77 : decode cX0_shorten 77 = .ok (.goto 8, 3) := by decide +kernel
theorem dX0_shorten_80 : decode cX0_shorten 80 = .ok (.aload_n 0, 1) := by decide +kernel
theorem dX0_shorten_81 : decode cX0_shorten 81 = .ok (.iload_n 2, 1) := by decide +kernel
theorem dX0_shorten_82 : decode cX0_shorten 82 = .ok (.putfield 33, 3) := by decide +kernel
theorem dX0_shorten_85 : decode cX0_shorten 85 = .ok (.iload_n 2, 1) := by decide +kernel
theorem dX0_shorten_86 : decode cX0_shorten 86 = .ok (.ireturn, 1) := by decide +kernel
abbrev cX0_letter : ByteArray := prog_1_method_5_code
def yX0_letter : MethodName := ⟨RX0, "letter", "(ZI)I"⟩
theorem dX0_letter_0 : decode cX0_letter 0 = .ok (.iload_n 2, 1) := by decide +kernel
theorem dX0_letter_1 : decode cX0_letter 1 = .ok (.ifCond .lt 12, 3) := by decide +kernel
theorem dX0_letter_4 : decode cX0_letter 4 = .ok (.iload_n 2, 1) := by decide +kernel
theorem dX0_letter_5 : decode cX0_letter 5 = .ok (.aload_n 0, 1) := by decide +kernel
theorem dX0_letter_6 : decode cX0_letter 6 = .ok (.iload_n 1, 1) := by decide +kernel
theorem dX0_letter_7 : decode cX0_letter 7 = .ok (.invokevirtual 40, 3) := by decide +kernel
theorem dX0_letter_10 : decode cX0_letter 10 = .ok (.if_icmp .lt 6, 3) := by decide +kernel
theorem dX0_letter_13 : decode cX0_letter 13 = .ok (.bipush (-2), 2) := by decide +kernel
theorem dX0_letter_15 : decode cX0_letter 15 = .ok (.ireturn, 1) := by decide +kernel
theorem dX0_letter_16 : decode cX0_letter 16 = .ok (.iload_n 1, 1) := by decide +kernel
theorem dX0_letter_17 : decode cX0_letter 17 = .ok (.ifCond .eq 12, 3) := by decide +kernel
theorem dX0_letter_20 : decode cX0_letter 20 = .ok (.aload_n 0, 1) := by decide +kernel
theorem dX0_letter_21 : decode cX0_letter 21 = .ok (.getfield 13, 3) := by decide +kernel
theorem dX0_letter_24 : decode cX0_letter 24 = .ok (.iload_n 2, 1) := by decide +kernel
theorem dX0_letter_25 : decode cX0_letter 25 = .ok (.baload, 1) := by decide +kernel
theorem dX0_letter_26 : decode cX0_letter 26 = .ok (.goto 9, 3) := by decide +kernel
theorem dX0_letter_29 : decode cX0_letter 29 = .ok (.aload_n 0, 1) := by decide +kernel
theorem dX0_letter_30 : decode cX0_letter 30 = .ok (.getfield 7, 3) := by decide +kernel
theorem dX0_letter_33 : decode cX0_letter 33 = .ok (.iload_n 2, 1) := by decide +kernel
theorem dX0_letter_34 : decode cX0_letter 34 = .ok (.baload, 1) := by decide +kernel
theorem dX0_letter_35 : decode cX0_letter 35 = .ok (.ireturn, 1) := by decide +kernel
abbrev cX0_matches : ByteArray := prog_1_method_7_code
def yX0_matches : MethodName := ⟨RX0, "matches", "(I)Z"⟩
theorem dX0_matches_0 : decode cX0_matches 0 = .ok (.aload_n 0, 1) := by decide +kernel
theorem dX0_matches_1 : decode cX0_matches 1 = .ok (.iload_n 1, 1) := by decide +kernel
theorem dX0_matches_2 : decode cX0_matches 2 = .ok (.invokevirtual 44, 3) := by decide +kernel
theorem dX0_matches_5 : decode cX0_matches 5 = .ok (.ifCond .ne 5, 3) := by decide +kernel
theorem dX0_matches_8 : decode cX0_matches 8 = .ok (.iconst 0, 1) := by decide +kernel
theorem dX0_matches_9 : decode cX0_matches 9 = .ok (.ireturn, 1) := by decide +kernel
theorem dX0_matches_10 : decode cX0_matches 10 = .ok (.aload_n 0, 1) := by decide +kernel
theorem dX0_matches_11 : decode cX0_matches 11 = .ok (.invokevirtual 48, 3) := by decide +kernel
theorem dX0_matches_14 : decode cX0_matches 14 = .ok (.aload_n 0, 1) := by decide +kernel
theorem dX0_matches_15 : decode cX0_matches 15 = .ok (.getfield 29, 3) := by decide +kernel
theorem dX0_matches_18 : decode cX0_matches 18 = .ok (.ifCond .eq 12, 3) := by decide +kernel
theorem dX0_matches_21 : decode cX0_matches 21 = .ok (.aload_n 0, 1) := by decide +kernel
theorem dX0_matches_22 : decode cX0_matches 22 = .ok (.getfield 23, 3) := by decide +kernel
theorem dX0_matches_25 : decode cX0_matches 25 = .ok (.iload_n 1, 1) := by decide +kernel
theorem dX0_matches_26 : decode cX0_matches 26 = .ok (.iaload, 1) := by decide +kernel
theorem dX0_matches_27 : decode cX0_matches 27 = .ok (.ifCond .ne 7, 3) := by decide +kernel
theorem dX0_matches_30 : decode cX0_matches 30 = .ok (.iconst 1, 1) := by decide +kernel
theorem dX0_matches_31 : decode cX0_matches 31 = .ok (.goto 4, 3) := by decide +kernel
theorem dX0_matches_34 : decode cX0_matches 34 = .ok (.iconst 0, 1) := by decide +kernel
theorem dX0_matches_35 : decode cX0_matches 35 = .ok (.ireturn, 1) := by decide +kernel
abbrev cX0_isShift : ByteArray := prog_1_method_14_code
def yX0_isShift : MethodName := ⟨RX0, "isShift", "(I)Z"⟩
theorem dX0_isShift_0 : decode cX0_isShift 0 = .ok (.iload_n 1, 1) := by decide +kernel
theorem dX0_isShift_1 : decode cX0_isShift 1 = .ok (.ifCond .lt 20, 3) := by decide +kernel
theorem dX0_isShift_4 : decode cX0_isShift 4 = .ok (.iload_n 1, 1) := by decide +kernel
theorem dX0_isShift_5 : decode cX0_isShift 5 = .ok (.aload_n 0, 1) := by decide +kernel
theorem dX0_isShift_6 : decode cX0_isShift 6 = .ok (.getfield 33, 3) := by decide +kernel
theorem dX0_isShift_9 : decode cX0_isShift 9 = .ok (.aload_n 0, 1) := by decide +kernel
theorem dX0_isShift_10 : decode cX0_isShift 10 = .ok (.getfield 29, 3) := by decide +kernel
theorem dX0_isShift_13 : decode cX0_isShift 13 = .ok (.isub, 1) := by decide +kernel
theorem dX0_isShift_14 : decode cX0_isShift 14 = .ok (.if_icmp .gt 7, 3) := by decide +kernel
theorem dX0_isShift_17 : decode cX0_isShift 17 = .ok (.iconst 1, 1) := by decide +kernel
theorem dX0_isShift_18 : decode cX0_isShift 18 = .ok (.goto 4, 3) := by decide +kernel
theorem dX0_isShift_21 : decode cX0_isShift 21 = .ok (.iconst 0, 1) := by decide +kernel
theorem dX0_isShift_22 : decode cX0_isShift 22 = .ok (.ireturn, 1) := by decide +kernel
end
section
set_option maxRecDepth 100000
abbrev cX0_prepare : ByteArray := prog_1_method_16_code
def yX0_prepare : MethodName := ⟨RX0, "prepare", "()V"⟩
theorem dX0_prepare_0 : decode cX0_prepare 0 = .ok (.aload_n 0, 1) := by decide +kernel
theorem dX0_prepare_1 : decode cX0_prepare 1 = .ok (.getfield 36, 3) := by decide +kernel
theorem dX0_prepare_4 : decode cX0_prepare 4 = .ok (.ifCond .eq 4, 3) := by decide +kernel
theorem dX0_prepare_7 : decode cX0_prepare 7 = .ok (.return_, 1) := by decide +kernel
theorem dX0_prepare_8 : decode cX0_prepare 8 = .ok (.aload_n 0, 1) := by decide +kernel
theorem dX0_prepare_9 : decode cX0_prepare 9 = .ok (.iconst 1, 1) := by decide +kernel
theorem dX0_prepare_10 : decode cX0_prepare 10 = .ok (.putfield 36, 3) := by decide +kernel
theorem dX0_prepare_13 : decode cX0_prepare 13 = .ok (.aload_n 0, 1) := by decide +kernel
theorem dX0_prepare_14 : decode cX0_prepare 14 = .ok (.getfield 29, 3) := by decide +kernel
theorem dX0_prepare_17 : decode cX0_prepare 17 = .ok (.ifCond .eq 14, 3) := by decide +kernel
theorem dX0_prepare_20 : decode cX0_prepare 20 = .ok (.aload_n 0, 1) := by decide +kernel
theorem dX0_prepare_21 : decode cX0_prepare 21 = .ok (.getfield 29, 3) := by decide +kernel
theorem dX0_prepare_24 : decode cX0_prepare 24 = .ok (.aload_n 0, 1) := by decide +kernel
theorem dX0_prepare_25 : decode cX0_prepare 25 = .ok (.getfield 33, 3) := by decide +kernel
theorem dX0_prepare_28 : decode cX0_prepare 28 = .ok (.if_icmp .le 4, 3) := by decide +kernel
theorem dX0_prepare_31 : decode cX0_prepare 31 = .ok (.return_, 1) := by decide +kernel
theorem dX0_prepare_32 : decode cX0_prepare 32 = .ok (.aload_n 0, 1) := by decide +kernel
theorem dX0_prepare_33 : decode cX0_prepare 33 = .ok (.invokevirtual 58, 3) := by decide +kernel
theorem dX0_prepare_36 : decode cX0_prepare 36 = .ok (.aload_n 0, 1) := by decide +kernel
theorem dX0_prepare_37 : decode cX0_prepare 37 = .ok (.iconst 3, 1) := by decide +kernel
theorem dX0_prepare_38 : decode cX0_prepare 38 = .ok (.iconst 1, 1) := by decide +kernel
theorem dX0_prepare_39 : decode cX0_prepare 39 = .ok (.iconst 1, 1) := by decide +kernel
theorem dX0_prepare_40 : decode cX0_prepare 40 = .ok (.invokevirtual 61, 3) := by decide +kernel
theorem dX0_prepare_43 : decode cX0_prepare 43 = .ok (.aload_n 0, 1) := by decide +kernel
theorem dX0_prepare_44 : decode cX0_prepare 44 = .ok (.iconst 2, 1) := by decide +kernel
theorem dX0_prepare_45 : decode cX0_prepare 45 = .ok (.iconst 2, 1) := by decide +kernel
theorem dX0_prepare_46 : decode cX0_prepare 46 = .ok (.sipush 7679, 3) := by decide +kernel
theorem dX0_prepare_49 : decode cX0_prepare 49 = .ok (.invokevirtual 61, 3) := by decide +kernel
theorem dX0_prepare_52 : decode cX0_prepare 52 = .ok (.aload_n 0, 1) := by decide +kernel
theorem dX0_prepare_53 : decode cX0_prepare 53 = .ok (.iconst 1, 1) := by decide +kernel
theorem dX0_prepare_54 : decode cX0_prepare 54 = .ok (.iconst 3, 1) := by decide +kernel
theorem dX0_prepare_55 : decode cX0_prepare 55 = .ok (.iconst 1, 1) := by decide +kernel
theorem dX0_prepare_56 : decode cX0_prepare 56 = .ok (.invokevirtual 61, 3) := by decide +kernel
theorem dX0_prepare_59 : decode cX0_prepare 59 = .ok (.aload_n 0, 1) := by decide +kernel
theorem dX0_prepare_60 : decode cX0_prepare 60 = .ok (.sipush 128, 3) := by decide +kernel
theorem dX0_prepare_63 : decode cX0_prepare 63 = .ok (.iconst 1, 1) := by decide +kernel
theorem dX0_prepare_64 : decode cX0_prepare 64 = .ok (.invokevirtual 65, 3) := by decide +kernel
theorem dX0_prepare_67 : decode cX0_prepare 67 = .ok (.iconst 0, 1) := by decide +kernel
theorem dX0_prepare_68 : decode cX0_prepare 68 = .ok (.istore_n 1, 1) := by decide +kernel
theorem dX0_prepare_69 : decode cX0_prepare 69 = .ok (.iload_n 1, 1) := by decide +kernel
theorem dX0_prepare_70 : decode cX0_prepare 70 = .ok (.aload_n 0, 1) := by decide +kernel
theorem dX0_prepare_71 : decode cX0_prepare 71 = .ok (.getfield 33, 3) := by decide +kernel
theorem dX0_prepare_74 : decode cX0_prepare 74 = .ok (.if_icmp .ge 32, 3) := by decide +kernel
theorem dX0_prepare_77 : decode cX0_prepare 77 = .ok (.aload_n 0, 1) := by decide +kernel
theorem dX0_prepare_78 : decode cX0_prepare 78 = .ok (.getfield 23, 3) := by decide +kernel
theorem dX0_prepare_81 : decode cX0_prepare 81 = .ok (.iload_n 1, 1) := by decide +kernel
theorem dX0_prepare_82 : decode cX0_prepare 82 = .ok (.aload_n 0, 1) := by decide +kernel
theorem dX0_prepare_83 : decode cX0_prepare 83 = .ok (.getfield 20, 3) := by decide +kernel
theorem dX0_prepare_86 : decode cX0_prepare 86 = .ok (.sipush 128, 3) := by decide +kernel
theorem dX0_prepare_89 : decode cX0_prepare 89 = .ok (.iload_n 1, 1) := by decide +kernel
theorem dX0_prepare_90 : decode cX0_prepare 90 = .ok (.iadd, 1) := by decide +kernel
theorem dX0_prepare_91 : decode cX0_prepare 91 = .ok (.aload_n 0, 1) := by decide +kernel
theorem dX0_prepare_92 : decode cX0_prepare 92 = .ok (.getfield 29, 3) := by decide +kernel
theorem dX0_prepare_95 : decode cX0_prepare 95 = .ok (.iadd, 1) := by decide +kernel
theorem dX0_prepare_96 : decode cX0_prepare 96 = .ok (.iconst 1, 1) := by decide +kernel
theorem dX0_prepare_97 : decode cX0_prepare 97 = .ok (.isub, 1) := by decide +kernel
theorem dX0_prepare_98 : decode cX0_prepare 98 = .ok (.iaload, 1) := by decide +kernel
theorem dX0_prepare_99 : decode cX0_prepare 99 = .ok (.iastore, 1) := by decide +kernel
theorem dX0_prepare_100 : decode cX0_prepare 100 = .ok (.iinc 1 1, 3) := by decide +kernel
theorem dX0_prepare_103 : decode cX0_prepare 103 = .ok (.goto (-34), 3) := by decide +kernel
theorem dX0_prepare_106 : decode cX0_prepare 106 = .ok (.aload_n 0, 1) := by decide +kernel
theorem dX0_prepare_107 : decode cX0_prepare 107 = .ok (.invokevirtual 58, 3) := by decide +kernel
theorem dX0_prepare_110 : decode cX0_prepare 110 = .ok (.aload_n 0, 1) := by decide +kernel
theorem dX0_prepare_111 : decode cX0_prepare 111 = .ok (.iconst 0, 1) := by decide +kernel
theorem dX0_prepare_112 : decode cX0_prepare 112 = .ok (.iconst 0, 1) := by decide +kernel
theorem dX0_prepare_113 : decode cX0_prepare 113 = .ok (.iconst 1, 1) := by decide +kernel
theorem dX0_prepare_114 : decode cX0_prepare 114 = .ok (.invokevirtual 61, 3) := by decide +kernel
theorem dX0_prepare_117 : decode cX0_prepare 117 = .ok (.iconst 1, 1) := by decide +kernel
theorem dX0_prepare_118 : decode cX0_prepare 118 = .ok (.istore_n 1, 1) := by decide +kernel
theorem dX0_prepare_119 : decode cX0_prepare 119 = .ok (.iload_n 1, 1) := by decide +kernel
theorem dX0_prepare_120 : decode cX0_prepare 120 = .ok (.iconst 4, 1) := by decide +kernel
theorem dX0_prepare_121 : decode cX0_prepare 121 = .ok (.if_icmp .gt 20, 3) := by decide +kernel
theorem dX0_prepare_124 : decode cX0_prepare 124 = .ok (.aload_n 0, 1) := by decide +kernel
theorem dX0_prepare_125 : decode cX0_prepare 125 = .ok (.iload_n 1, 1) := by decide +kernel
theorem dX0_prepare_126 : decode cX0_prepare 126 = .ok (.ineg, 1) := by decide +kernel
theorem dX0_prepare_127 : decode cX0_prepare 127 = .ok (.iload_n 1, 1) := by decide +kernel
theorem dX0_prepare_128 : decode cX0_prepare 128 = .ok (.ineg, 1) := by decide +kernel
theorem dX0_prepare_129 : decode cX0_prepare 129 = .ok (.sipush 7680, 3) := by decide +kernel
theorem dX0_prepare_132 : decode cX0_prepare 132 = .ok (.invokevirtual 61, 3) := by decide +kernel
theorem dX0_prepare_135 : decode cX0_prepare 135 = .ok (.iinc 1 1, 3) := by decide +kernel
theorem dX0_prepare_138 : decode cX0_prepare 138 = .ok (.goto (-19), 3) := by decide +kernel
theorem dX0_prepare_141 : decode cX0_prepare 141 = .ok (.aload_n 0, 1) := by decide +kernel
theorem dX0_prepare_142 : decode cX0_prepare 142 = .ok (.sipush 128, 3) := by decide +kernel
theorem dX0_prepare_145 : decode cX0_prepare 145 = .ok (.iconst 1, 1) := by decide +kernel
theorem dX0_prepare_146 : decode cX0_prepare 146 = .ok (.invokevirtual 65, 3) := by decide +kernel
theorem dX0_prepare_149 : decode cX0_prepare 149 = .ok (.iconst 0, 1) := by decide +kernel
theorem dX0_prepare_150 : decode cX0_prepare 150 = .ok (.istore_n 1, 1) := by decide +kernel
theorem dX0_prepare_151 : decode cX0_prepare 151 = .ok (.iload_n 1, 1) := by decide +kernel
theorem dX0_prepare_152 : decode cX0_prepare 152 = .ok (.aload_n 0, 1) := by decide +kernel
theorem dX0_prepare_153 : decode cX0_prepare 153 = .ok (.getfield 33, 3) := by decide +kernel
theorem dX0_prepare_156 : decode cX0_prepare 156 = .ok (.if_icmp .ge 32, 3) := by decide +kernel
theorem dX0_prepare_159 : decode cX0_prepare 159 = .ok (.aload_n 0, 1) := by decide +kernel
theorem dX0_prepare_160 : decode cX0_prepare 160 = .ok (.getfield 26, 3) := by decide +kernel
theorem dX0_prepare_163 : decode cX0_prepare 163 = .ok (.iload_n 1, 1) := by decide +kernel
theorem dX0_prepare_164 : decode cX0_prepare 164 = .ok (.aload_n 0, 1) := by decide +kernel
theorem dX0_prepare_165 : decode cX0_prepare 165 = .ok (.getfield 20, 3) := by decide +kernel
theorem dX0_prepare_168 : decode cX0_prepare 168 = .ok (.sipush 128, 3) := by decide +kernel
theorem dX0_prepare_171 : decode cX0_prepare 171 = .ok (.iload_n 1, 1) := by decide +kernel
theorem dX0_prepare_172 : decode cX0_prepare 172 = .ok (.iadd, 1) := by decide +kernel
theorem dX0_prepare_173 : decode cX0_prepare 173 = .ok (.aload_n 0, 1) := by decide +kernel
theorem dX0_prepare_174 : decode cX0_prepare 174 = .ok (.getfield 29, 3) := by decide +kernel
theorem dX0_prepare_177 : decode cX0_prepare 177 = .ok (.iadd, 1) := by decide +kernel
theorem dX0_prepare_178 : decode cX0_prepare 178 = .ok (.iconst 1, 1) := by decide +kernel
theorem dX0_prepare_179 : decode cX0_prepare 179 = .ok (.isub, 1) := by decide +kernel
theorem dX0_prepare_180 : decode cX0_prepare 180 = .ok (.iaload, 1) := by decide +kernel
theorem dX0_prepare_181 : decode cX0_prepare 181 = .ok (.iastore, 1) := by decide +kernel
theorem dX0_prepare_182 : decode cX0_prepare 182 = .ok (.iinc 1 1, 3) := by decide +kernel
theorem dX0_prepare_185 : decode cX0_prepare 185 = .ok (.goto (-34), 3) := by decide +kernel
theorem dX0_prepare_188 : decode cX0_prepare 188 = .ok (.return_, 1) := by decide +kernel
abbrev cX0_clearSum : ByteArray := prog_1_method_17_code
def yX0_clearSum : MethodName := ⟨RX0, "clearSum", "()V"⟩
theorem dX0_clearSum_0 : decode cX0_clearSum 0 = .ok (.iconst 0, 1) := by decide +kernel
theorem dX0_clearSum_1 : decode cX0_clearSum 1 = .ok (.istore_n 1, 1) := by decide +kernel
theorem dX0_clearSum_2 : decode cX0_clearSum 2 = .ok (.iload_n 1, 1) := by decide +kernel
theorem dX0_clearSum_3 : decode cX0_clearSum 3 = .ok (.bipush 64, 2) := by decide +kernel
theorem dX0_clearSum_5 : decode cX0_clearSum 5 = .ok (.if_icmp .ge 20, 3) := by decide +kernel
theorem dX0_clearSum_8 : decode cX0_clearSum 8 = .ok (.aload_n 0, 1) := by decide +kernel
theorem dX0_clearSum_9 : decode cX0_clearSum 9 = .ok (.getfield 20, 3) := by decide +kernel
theorem dX0_clearSum_12 : decode cX0_clearSum 12 = .ok (.sipush 128, 3) := by decide +kernel
theorem dX0_clearSum_15 : decode cX0_clearSum 15 = .ok (.iload_n 1, 1) := by decide +kernel
theorem dX0_clearSum_16 : decode cX0_clearSum 16 = .ok (.iadd, 1) := by decide +kernel
theorem dX0_clearSum_17 : decode cX0_clearSum 17 = .ok (.iconst 0, 1) := by decide +kernel
theorem dX0_clearSum_18 : decode cX0_clearSum 18 = .ok (.iastore, 1) := by decide +kernel
theorem dX0_clearSum_19 : decode cX0_clearSum 19 = .ok (.iinc 1 1, 3) := by decide +kernel
theorem dX0_clearSum_22 : decode cX0_clearSum 22 = .ok (.goto (-20), 3) := by decide +kernel
theorem dX0_clearSum_25 : decode cX0_clearSum 25 = .ok (.return_, 1) := by decide +kernel
abbrev cX0_addProduct : ByteArray := prog_1_method_19_code
def yX0_addProduct : MethodName := ⟨RX0, "addProduct", "(III)V"⟩
theorem dX0_addProduct_0 : decode cX0_addProduct 0 = .ok (.iconst 0, 1) := by decide +kernel
theorem dX0_addProduct_1 : decode cX0_addProduct 1 = .ok (.istore 4, 2) := by decide +kernel
theorem dX0_addProduct_3 : decode cX0_addProduct 3 = .ok (.iload 4, 2) := by decide +kernel
theorem dX0_addProduct_5 : decode cX0_addProduct 5 = .ok (.bipush 64, 2) := by decide +kernel
theorem dX0_addProduct_7 : decode cX0_addProduct 7 = .ok (.if_icmp .ge 30, 3) := by decide +kernel
theorem dX0_addProduct_10 : decode cX0_addProduct 10 = .ok (.aload_n 0, 1) := by decide +kernel
theorem dX0_addProduct_11 : decode cX0_addProduct 11 = .ok (.getfield 20, 3) := by decide +kernel
theorem dX0_addProduct_14 : decode cX0_addProduct 14 = .ok (.bipush 64, 2) := by decide +kernel
theorem dX0_addProduct_16 : decode cX0_addProduct 16 = .ok (.iload 4, 2) := by decide +kernel
theorem dX0_addProduct_18 : decode cX0_addProduct 18 = .ok (.iadd, 1) := by decide +kernel
theorem dX0_addProduct_19 : decode cX0_addProduct 19 = .ok (.iconst 0, 1) := by decide +kernel
theorem dX0_addProduct_20 : decode cX0_addProduct 20 = .ok (.iastore, 1) := by decide +kernel
theorem dX0_addProduct_21 : decode cX0_addProduct 21 = .ok (.aload_n 0, 1) := by decide +kernel
theorem dX0_addProduct_22 : decode cX0_addProduct 22 = .ok (.getfield 20, 3) := by decide +kernel
theorem dX0_addProduct_25 : decode cX0_addProduct 25 = .ok (.iconst 0, 1) := by decide +kernel
theorem dX0_addProduct_26 : decode cX0_addProduct 26 = .ok (.iload 4, 2) := by decide +kernel
theorem dX0_addProduct_28 : decode cX0_addProduct 28 = .ok (.iadd, 1) := by decide +kernel
theorem dX0_addProduct_29 : decode cX0_addProduct 29 = .ok (.iconst 0, 1) := by decide +kernel
theorem dX0_addProduct_30 : decode cX0_addProduct 30 = .ok (.iastore, 1) := by decide +kernel
theorem dX0_addProduct_31 : decode cX0_addProduct 31 = .ok (.iinc 4 1, 3) := by decide +kernel
theorem dX0_addProduct_34 : decode cX0_addProduct 34 = .ok (.goto (-31), 3) := by decide +kernel
theorem dX0_addProduct_37 : decode cX0_addProduct 37 = .ok (.iconst 0, 1) := by decide +kernel
theorem dX0_addProduct_38 : decode cX0_addProduct 38 = .ok (.istore 4, 2) := by decide +kernel
theorem dX0_addProduct_40 : decode cX0_addProduct 40 = .ok (.iload 4, 2) := by decide +kernel
theorem dX0_addProduct_42 : decode cX0_addProduct 42 = .ok (.aload_n 0, 1) := by decide +kernel
theorem dX0_addProduct_43 : decode cX0_addProduct 43 = .ok (.getfield 29, 3) := by decide +kernel
theorem dX0_addProduct_46 : decode cX0_addProduct 46 = .ok (.if_icmp .ge 38, 3) := by decide +kernel
theorem dX0_addProduct_49 : decode cX0_addProduct 49 = .ok (.aload_n 0, 1) := by decide +kernel
theorem dX0_addProduct_50 : decode cX0_addProduct 50 = .ok (.getfield 20, 3) := by decide +kernel
theorem dX0_addProduct_53 : decode cX0_addProduct 53 = .ok (.bipush 64, 2) := by decide +kernel
theorem dX0_addProduct_55 : decode cX0_addProduct 55 = .ok (.aload_n 0, 1) := by decide +kernel
theorem dX0_addProduct_56 : decode cX0_addProduct 56 = .ok (.getfield 29, 3) := by decide +kernel
theorem dX0_addProduct_59 : decode cX0_addProduct 59 = .ok (.iadd, 1) := by decide +kernel
theorem dX0_addProduct_60 : decode cX0_addProduct 60 = .ok (.iconst 1, 1) := by decide +kernel
theorem dX0_addProduct_61 : decode cX0_addProduct 61 = .ok (.isub, 1) := by decide +kernel
theorem dX0_addProduct_62 : decode cX0_addProduct 62 = .ok (.iload 4, 2) := by decide +kernel
theorem dX0_addProduct_64 : decode cX0_addProduct 64 = .ok (.isub, 1) := by decide +kernel
theorem dX0_addProduct_65 : decode cX0_addProduct 65 = .ok (.aload_n 0, 1) := by decide +kernel
theorem dX0_addProduct_66 : decode cX0_addProduct 66 = .ok (.aload_n 0, 1) := by decide +kernel
theorem dX0_addProduct_67 : decode cX0_addProduct 67 = .ok (.getfield 13, 3) := by decide +kernel
theorem dX0_addProduct_70 : decode cX0_addProduct 70 = .ok (.iload 4, 2) := by decide +kernel
theorem dX0_addProduct_72 : decode cX0_addProduct 72 = .ok (.baload, 1) := by decide +kernel
theorem dX0_addProduct_73 : decode cX0_addProduct 73 = .ok (.iload_n 1, 1) := by decide +kernel
theorem dX0_addProduct_74 : decode cX0_addProduct 74 = .ok (.invokevirtual 69, 3) := by decide +kernel
theorem dX0_addProduct_77 : decode cX0_addProduct 77 = .ok (.iastore, 1) := by decide +kernel
theorem dX0_addProduct_78 : decode cX0_addProduct 78 = .ok (.iinc 4 1, 3) := by decide +kernel
theorem dX0_addProduct_81 : decode cX0_addProduct 81 = .ok (.goto (-41), 3) := by decide +kernel
theorem dX0_addProduct_84 : decode cX0_addProduct 84 = .ok (.iconst 0, 1) := by decide +kernel
theorem dX0_addProduct_85 : decode cX0_addProduct 85 = .ok (.istore 4, 2) := by decide +kernel
theorem dX0_addProduct_87 : decode cX0_addProduct 87 = .ok (.iload 4, 2) := by decide +kernel
theorem dX0_addProduct_89 : decode cX0_addProduct 89 = .ok (.aload_n 0, 1) := by decide +kernel
theorem dX0_addProduct_90 : decode cX0_addProduct 90 = .ok (.getfield 33, 3) := by decide +kernel
theorem dX0_addProduct_93 : decode cX0_addProduct 93 = .ok (.aload_n 0, 1) := by decide +kernel
theorem dX0_addProduct_94 : decode cX0_addProduct 94 = .ok (.getfield 29, 3) := by decide +kernel
theorem dX0_addProduct_97 : decode cX0_addProduct 97 = .ok (.iadd, 1) := by decide +kernel
theorem dX0_addProduct_98 : decode cX0_addProduct 98 = .ok (.iconst 1, 1) := by decide +kernel
theorem dX0_addProduct_99 : decode cX0_addProduct 99 = .ok (.isub, 1) := by decide +kernel
theorem dX0_addProduct_100 : decode cX0_addProduct 100 = .ok (.if_icmp .ge 35, 3) := by decide +kernel
theorem dX0_addProduct_103 : decode cX0_addProduct 103 = .ok (.aload_n 0, 1) := by decide +kernel
theorem dX0_addProduct_104 : decode cX0_addProduct 104 = .ok (.getfield 20, 3) := by decide +kernel
theorem dX0_addProduct_107 : decode cX0_addProduct 107 = .ok (.iconst 0, 1) := by decide +kernel
theorem dX0_addProduct_108 : decode cX0_addProduct 108 = .ok (.iload 4, 2) := by decide +kernel
theorem dX0_addProduct_110 : decode cX0_addProduct 110 = .ok (.iadd, 1) := by decide +kernel
theorem dX0_addProduct_111 : decode cX0_addProduct 111 = .ok (.aload_n 0, 1) := by decide +kernel
theorem dX0_addProduct_112 : decode cX0_addProduct 112 = .ok (.aload_n 0, 1) := by decide +kernel
theorem dX0_addProduct_113 : decode cX0_addProduct 113 = .ok (.getfield 7, 3) := by decide +kernel
theorem dX0_addProduct_116 : decode cX0_addProduct 116 = .ok (.iload 4, 2) := by decide +kernel
theorem dX0_addProduct_118 : decode cX0_addProduct 118 = .ok (.aload_n 0, 1) := by decide +kernel
theorem dX0_addProduct_119 : decode cX0_addProduct 119 = .ok (.getfield 33, 3) := by decide +kernel
theorem dX0_addProduct_122 : decode cX0_addProduct 122 = .ok (.irem, 1) := by decide +kernel
theorem dX0_addProduct_123 : decode cX0_addProduct 123 = .ok (.baload, 1) := by decide +kernel
theorem dX0_addProduct_124 : decode cX0_addProduct 124 = .ok (.iload_n 2, 1) := by decide +kernel
theorem dX0_addProduct_125 : decode cX0_addProduct 125 = .ok (.invokevirtual 69, 3) := by decide +kernel
theorem dX0_addProduct_128 : decode cX0_addProduct 128 = .ok (.iastore, 1) := by decide +kernel
theorem dX0_addProduct_129 : decode cX0_addProduct 129 = .ok (.iinc 4 1, 3) := by decide +kernel
theorem dX0_addProduct_132 : decode cX0_addProduct 132 = .ok (.goto (-45), 3) := by decide +kernel
theorem dX0_addProduct_135 : decode cX0_addProduct 135 = .ok (.aload_n 0, 1) := by decide +kernel
theorem dX0_addProduct_136 : decode cX0_addProduct 136 = .ok (.bipush 64, 2) := by decide +kernel
theorem dX0_addProduct_138 : decode cX0_addProduct 138 = .ok (.iconst 0, 1) := by decide +kernel
theorem dX0_addProduct_139 : decode cX0_addProduct 139 = .ok (.invokevirtual 65, 3) := by decide +kernel
theorem dX0_addProduct_142 : decode cX0_addProduct 142 = .ok (.aload_n 0, 1) := by decide +kernel
theorem dX0_addProduct_143 : decode cX0_addProduct 143 = .ok (.iconst 0, 1) := by decide +kernel
theorem dX0_addProduct_144 : decode cX0_addProduct 144 = .ok (.iconst 0, 1) := by decide +kernel
theorem dX0_addProduct_145 : decode cX0_addProduct 145 = .ok (.invokevirtual 65, 3) := by decide +kernel
theorem dX0_addProduct_148 : decode cX0_addProduct 148 = .ok (.iconst 0, 1) := by decide +kernel
theorem dX0_addProduct_149 : decode cX0_addProduct 149 = .ok (.istore 4, 2) := by decide +kernel
theorem dX0_addProduct_151 : decode cX0_addProduct 151 = .ok (.iload 4, 2) := by decide +kernel
theorem dX0_addProduct_153 : decode cX0_addProduct 153 = .ok (.bipush 64, 2) := by decide +kernel
theorem dX0_addProduct_155 : decode cX0_addProduct 155 = .ok (.if_icmp .ge 70, 3) := by decide +kernel
theorem dX0_addProduct_158 : decode cX0_addProduct 158 = .ok (.aload_n 0, 1) := by decide +kernel
theorem dX0_addProduct_159 : decode cX0_addProduct 159 = .ok (.getfield 20, 3) := by decide +kernel
theorem dX0_addProduct_162 : decode cX0_addProduct 162 = .ok (.bipush 64, 2) := by decide +kernel
theorem dX0_addProduct_164 : decode cX0_addProduct 164 = .ok (.iload 4, 2) := by decide +kernel
theorem dX0_addProduct_166 : decode cX0_addProduct 166 = .ok (.iadd, 1) := by decide +kernel
theorem dX0_addProduct_167 : decode cX0_addProduct 167 = .ok (.iaload, 1) := by decide +kernel
theorem dX0_addProduct_168 : decode cX0_addProduct 168 = .ok (.aload_n 0, 1) := by decide +kernel
theorem dX0_addProduct_169 : decode cX0_addProduct 169 = .ok (.getfield 20, 3) := by decide +kernel
theorem dX0_addProduct_172 : decode cX0_addProduct 172 = .ok (.iconst 0, 1) := by decide +kernel
theorem dX0_addProduct_173 : decode cX0_addProduct 173 = .ok (.iload 4, 2) := by decide +kernel
theorem dX0_addProduct_175 : decode cX0_addProduct 175 = .ok (.iadd, 1) := by decide +kernel
theorem dX0_addProduct_176 : decode cX0_addProduct 176 = .ok (.iaload, 1) := by decide +kernel
theorem dX0_addProduct_177 : decode cX0_addProduct 177 = .ok (.imul, 1) := by decide +kernel
theorem dX0_addProduct_178 : decode cX0_addProduct 178 = .ok (.sipush 7681, 3) := by decide +kernel
theorem dX0_addProduct_181 : decode cX0_addProduct 181 = .ok (.irem, 1) := by decide +kernel
theorem dX0_addProduct_182 : decode cX0_addProduct 182 = .ok (.iload_n 3, 1) := by decide +kernel
theorem dX0_addProduct_183 : decode cX0_addProduct 183 = .ok (.imul, 1) := by decide +kernel
theorem dX0_addProduct_184 : decode cX0_addProduct 184 = .ok (.sipush 7681, 3) := by decide +kernel
theorem dX0_addProduct_187 : decode cX0_addProduct 187 = .ok (.irem, 1) := by decide +kernel
theorem dX0_addProduct_188 : decode cX0_addProduct 188 = .ok (.istore 5, 2) := by decide +kernel
theorem dX0_addProduct_190 : decode cX0_addProduct 190 = .ok (.aload_n 0, 1) := by decide +kernel
theorem dX0_addProduct_191 : decode cX0_addProduct 191 = .ok (.getfield 20, 3) := by decide +kernel
theorem dX0_addProduct_194 : decode cX0_addProduct 194 = .ok (.sipush 128, 3) := by decide +kernel
theorem dX0_addProduct_197 : decode cX0_addProduct 197 = .ok (.iload 4, 2) := by decide +kernel
theorem dX0_addProduct_199 : decode cX0_addProduct 199 = .ok (.iadd, 1) := by decide +kernel
theorem dX0_addProduct_200 : decode cX0_addProduct 200 = .ok (.aload_n 0, 1) := by decide +kernel
theorem dX0_addProduct_201 : decode cX0_addProduct 201 = .ok (.getfield 20, 3) := by decide +kernel
theorem dX0_addProduct_204 : decode cX0_addProduct 204 = .ok (.sipush 128, 3) := by decide +kernel
theorem dX0_addProduct_207 : decode cX0_addProduct 207 = .ok (.iload 4, 2) := by decide +kernel
theorem dX0_addProduct_209 : decode cX0_addProduct 209 = .ok (.iadd, 1) := by decide +kernel
theorem dX0_addProduct_210 : decode cX0_addProduct 210 = .ok (.iaload, 1) := by decide +kernel
theorem dX0_addProduct_211 : decode cX0_addProduct 211 = .ok (.iload 5, 2) := by decide +kernel
theorem dX0_addProduct_213 : decode cX0_addProduct 213 = .ok (.iadd, 1) := by decide +kernel
theorem dX0_addProduct_214 : decode cX0_addProduct 214 = .ok (.sipush 7681, 3) := by decide +kernel
theorem dX0_addProduct_217 : decode cX0_addProduct 217 = .ok (.irem, 1) := by decide +kernel
theorem dX0_addProduct_218 : decode cX0_addProduct 218 = .ok (.iastore, 1) := by decide +kernel
theorem dX0_addProduct_219 : decode cX0_addProduct 219 = .ok (.iinc 4 1, 3) := by decide +kernel
theorem dX0_addProduct_222 : decode cX0_addProduct 222 = .ok (.goto (-71), 3) := by decide +kernel
theorem dX0_addProduct_225 : decode cX0_addProduct 225 = .ok (.return_, 1) := by decide +kernel
abbrev cX0_measure : ByteArray := prog_1_method_18_code
def yX0_measure : MethodName := ⟨RX0, "measure", "(II)I"⟩
theorem dX0_measure_0 : decode cX0_measure 0 = .ok (.iload_n 2, 1) := by decide +kernel
theorem dX0_measure_1 : decode cX0_measure 1 = .ok (.ifCond .ge 15, 3) := by decide +kernel
theorem dX0_measure_4 : decode cX0_measure 4 = .ok (.iload_n 1, 1) := by decide +kernel
theorem dX0_measure_5 : decode cX0_measure 5 = .ok (.iload_n 2, 1) := by decide +kernel
theorem dX0_measure_6 : decode cX0_measure 6 = .ok (.ineg, 1) := by decide +kernel
theorem dX0_measure_7 : decode cX0_measure 7 = .ok (.if_icmp .ne 7, 3) := by decide +kernel
theorem dX0_measure_10 : decode cX0_measure 10 = .ok (.iconst 1, 1) := by decide +kernel
theorem dX0_measure_11 : decode cX0_measure 11 = .ok (.goto 4, 3) := by decide +kernel
theorem dX0_measure_14 : decode cX0_measure 14 = .ok (.iconst 0, 1) := by decide +kernel
theorem dX0_measure_15 : decode cX0_measure 15 = .ok (.ireturn, 1) := by decide +kernel
theorem dX0_measure_16 : decode cX0_measure 16 = .ok (.iload_n 1, 1) := by decide +kernel
theorem dX0_measure_17 : decode cX0_measure 17 = .ok (.ifCond .ne 5, 3) := by decide +kernel
theorem dX0_measure_20 : decode cX0_measure 20 = .ok (.iconst 0, 1) := by decide +kernel
theorem dX0_measure_21 : decode cX0_measure 21 = .ok (.ireturn, 1) := by decide +kernel
theorem dX0_measure_22 : decode cX0_measure 22 = .ok (.iconst 1, 1) := by decide +kernel
theorem dX0_measure_23 : decode cX0_measure 23 = .ok (.istore_n 3, 1) := by decide +kernel
theorem dX0_measure_24 : decode cX0_measure 24 = .ok (.iconst 0, 1) := by decide +kernel
theorem dX0_measure_25 : decode cX0_measure 25 = .ok (.istore 4, 2) := by decide +kernel
theorem dX0_measure_27 : decode cX0_measure 27 = .ok (.iload 4, 2) := by decide +kernel
theorem dX0_measure_29 : decode cX0_measure 29 = .ok (.iload_n 2, 1) := by decide +kernel
theorem dX0_measure_30 : decode cX0_measure 30 = .ok (.if_icmp .ge 13, 3) := by decide +kernel
theorem dX0_measure_33 : decode cX0_measure 33 = .ok (.iload_n 3, 1) := by decide +kernel
theorem dX0_measure_34 : decode cX0_measure 34 = .ok (.iload_n 1, 1) := by decide +kernel
theorem dX0_measure_35 : decode cX0_measure 35 = .ok (.imul, 1) := by decide +kernel
theorem dX0_measure_36 : decode cX0_measure 36 = .ok (.istore_n 3, 1) := by decide +kernel
theorem dX0_measure_37 : decode cX0_measure 37 = .ok (.iinc 4 1, 3) := by decide +kernel
theorem dX0_measure_40 : decode cX0_measure 40 = .ok (.goto (-13), 3) := by decide +kernel
theorem dX0_measure_43 : decode cX0_measure 43 = .ok (.iload_n 3, 1) := by decide +kernel
theorem dX0_measure_44 : decode cX0_measure 44 = .ok (.ireturn, 1) := by decide +kernel
end
section
set_option maxRecDepth 100000
abbrev cX0_transform : ByteArray := prog_1_method_21_code
def yX0_transform : MethodName := ⟨RX0, "transform", "(IZ)V"⟩
theorem dX0_transform_0 : decode cX0_transform 0 = .ok (.iconst 0, 1) := by decide +kernel
theorem dX0_transform_1 : decode cX0_transform 1 = .ok (.istore_n 3, 1) := by decide +kernel
theorem dX0_transform_2 : decode cX0_transform 2 = .ok (.iload_n 3, 1) := by decide +kernel
theorem dX0_transform_3 : decode cX0_transform 3 = .ok (.bipush 64, 2) := by decide +kernel
theorem dX0_transform_5 : decode cX0_transform 5 = .ok (.if_icmp .ge 63, 3) := by decide +kernel
theorem dX0_transform_8 : decode cX0_transform 8 = .ok (.aload_n 0, 1) := by decide +kernel
theorem dX0_transform_9 : decode cX0_transform 9 = .ok (.iload_n 3, 1) := by decide +kernel
theorem dX0_transform_10 : decode cX0_transform 10 = .ok (.invokevirtual 73, 3) := by decide +kernel
theorem dX0_transform_13 : decode cX0_transform 13 = .ok (.istore 4, 2) := by decide +kernel
theorem dX0_transform_15 : decode cX0_transform 15 = .ok (.iload 4, 2) := by decide +kernel
theorem dX0_transform_17 : decode cX0_transform 17 = .ok (.iload_n 3, 1) := by decide +kernel
theorem dX0_transform_18 : decode cX0_transform 18 = .ok (.if_icmp .gt 6, 3) := by decide +kernel
theorem dX0_transform_21 : decode cX0_transform 21 = .ok (.goto 41, 3) := by decide +kernel
theorem dX0_transform_24 : decode cX0_transform 24 = .ok (.aload_n 0, 1) := by decide +kernel
theorem dX0_transform_25 : decode cX0_transform 25 = .ok (.getfield 20, 3) := by decide +kernel
theorem dX0_transform_28 : decode cX0_transform 28 = .ok (.iload_n 1, 1) := by decide +kernel
theorem dX0_transform_29 : decode cX0_transform 29 = .ok (.iload_n 3, 1) := by decide +kernel
theorem dX0_transform_30 : decode cX0_transform 30 = .ok (.iadd, 1) := by decide +kernel
theorem dX0_transform_31 : decode cX0_transform 31 = .ok (.iaload, 1) := by decide +kernel
theorem dX0_transform_32 : decode cX0_transform 32 = .ok (.istore 5, 2) := by decide +kernel
theorem dX0_transform_34 : decode cX0_transform 34 = .ok (.aload_n 0, 1) := by decide +kernel
theorem dX0_transform_35 : decode cX0_transform 35 = .ok (.getfield 20, 3) := by decide +kernel
theorem dX0_transform_38 : decode cX0_transform 38 = .ok (.iload_n 1, 1) := by decide +kernel
theorem dX0_transform_39 : decode cX0_transform 39 = .ok (.iload_n 3, 1) := by decide +kernel
theorem dX0_transform_40 : decode cX0_transform 40 = .ok (.iadd, 1) := by decide +kernel
theorem dX0_transform_41 : decode cX0_transform 41 = .ok (.aload_n 0, 1) := by decide +kernel
theorem dX0_transform_42 : decode cX0_transform 42 = .ok (.getfield 20, 3) := by decide +kernel
theorem dX0_transform_45 : decode cX0_transform 45 = .ok (.iload_n 1, 1) := by decide +kernel
theorem dX0_transform_46 : decode cX0_transform 46 = .ok (.iload 4, 2) := by decide +kernel
theorem dX0_transform_48 : decode cX0_transform 48 = .ok (.iadd, 1) := by decide +kernel
theorem dX0_transform_49 : decode cX0_transform 49 = .ok (.iaload, 1) := by decide +kernel
theorem dX0_transform_50 : decode cX0_transform 50 = .ok (.iastore, 1) := by decide +kernel
theorem dX0_transform_51 : decode cX0_transform 51 = .ok (.aload_n 0, 1) := by decide +kernel
theorem dX0_transform_52 : decode cX0_transform 52 = .ok (.getfield 20, 3) := by decide +kernel
theorem dX0_transform_55 : decode cX0_transform 55 = .ok (.iload_n 1, 1) := by decide +kernel
theorem dX0_transform_56 : decode cX0_transform 56 = .ok (.iload 4, 2) := by decide +kernel
theorem dX0_transform_58 : decode cX0_transform 58 = .ok (.iadd, 1) := by decide +kernel
theorem dX0_transform_59 : decode cX0_transform 59 = .ok (.iload 5, 2) := by decide +kernel
theorem dX0_transform_61 : decode cX0_transform 61 = .ok (.iastore, 1) := by decide +kernel
theorem dX0_transform_62 : decode cX0_transform 62 = .ok (.iinc 3 1, 3) := by decide +kernel
theorem dX0_transform_65 : decode cX0_transform 65 = .ok (.goto (-63), 3) := by decide +kernel
theorem dX0_transform_68 : decode cX0_transform 68 = .ok (.iconst 1, 1) := by decide +kernel
theorem dX0_transform_69 : decode cX0_transform 69 = .ok (.istore_n 3, 1) := by decide +kernel
theorem dX0_transform_70 : decode cX0_transform 70 = .ok (.iload_n 3, 1) := by decide +kernel
theorem dX0_transform_71 : decode cX0_transform 71 = .ok (.bipush 64, 2) := by decide +kernel
theorem dX0_transform_73 : decode cX0_transform 73 = .ok (.if_icmp .ge 85, 3) := by decide +kernel
theorem dX0_transform_76 : decode cX0_transform 76 = .ok (.iconst 0, 1) := by decide +kernel
theorem dX0_transform_77 : decode cX0_transform 77 = .ok (.istore 4, 2) := by decide +kernel
theorem dX0_transform_79 : decode cX0_transform 79 = .ok (.iload 4, 2) := by decide +kernel
theorem dX0_transform_81 : decode cX0_transform 81 = .ok (.bipush 32, 2) := by decide +kernel
theorem dX0_transform_83 : decode cX0_transform 83 = .ok (.if_icmp .ge 68, 3) := by decide +kernel
theorem dX0_transform_86 : decode cX0_transform 86 = .ok (.iload 4, 2) := by decide +kernel
theorem dX0_transform_88 : decode cX0_transform 88 = .ok (.iload_n 3, 1) := by decide +kernel
theorem dX0_transform_89 : decode cX0_transform 89 = .ok (.irem, 1) := by decide +kernel
theorem dX0_transform_90 : decode cX0_transform 90 = .ok (.istore 5, 2) := by decide +kernel
theorem dX0_transform_92 : decode cX0_transform 92 = .ok (.iload_n 1, 1) := by decide +kernel
theorem dX0_transform_93 : decode cX0_transform 93 = .ok (.iload 4, 2) := by decide +kernel
theorem dX0_transform_95 : decode cX0_transform 95 = .ok (.iload_n 3, 1) := by decide +kernel
theorem dX0_transform_96 : decode cX0_transform 96 = .ok (.idiv, 1) := by decide +kernel
theorem dX0_transform_97 : decode cX0_transform 97 = .ok (.iconst 2, 1) := by decide +kernel
theorem dX0_transform_98 : decode cX0_transform 98 = .ok (.imul, 1) := by decide +kernel
theorem dX0_transform_99 : decode cX0_transform 99 = .ok (.iload_n 3, 1) := by decide +kernel
theorem dX0_transform_100 : decode cX0_transform 100 = .ok (.imul, 1) := by decide +kernel
theorem dX0_transform_101 : decode cX0_transform 101 = .ok (.iadd, 1) := by decide +kernel
theorem dX0_transform_102 : decode cX0_transform 102 = .ok (.iload 5, 2) := by decide +kernel
theorem dX0_transform_104 : decode cX0_transform 104 = .ok (.iadd, 1) := by decide +kernel
theorem dX0_transform_105 : decode cX0_transform 105 = .ok (.istore 6, 2) := by decide +kernel
theorem dX0_transform_107 : decode cX0_transform 107 = .ok (.iload 5, 2) := by decide +kernel
theorem dX0_transform_109 : decode cX0_transform 109 = .ok (.bipush 32, 2) := by decide +kernel
theorem dX0_transform_111 : decode cX0_transform 111 = .ok (.iload_n 3, 1) := by decide +kernel
theorem dX0_transform_112 : decode cX0_transform 112 = .ok (.idiv, 1) := by decide +kernel
theorem dX0_transform_113 : decode cX0_transform 113 = .ok (.imul, 1) := by decide +kernel
theorem dX0_transform_114 : decode cX0_transform 114 = .ok (.istore 7, 2) := by decide +kernel
theorem dX0_transform_116 : decode cX0_transform 116 = .ok (.aload_n 0, 1) := by decide +kernel
theorem dX0_transform_117 : decode cX0_transform 117 = .ok (.iload 6, 2) := by decide +kernel
theorem dX0_transform_119 : decode cX0_transform 119 = .ok (.iload 6, 2) := by decide +kernel
theorem dX0_transform_121 : decode cX0_transform 121 = .ok (.iload_n 3, 1) := by decide +kernel
theorem dX0_transform_122 : decode cX0_transform 122 = .ok (.iadd, 1) := by decide +kernel
theorem dX0_transform_123 : decode cX0_transform 123 = .ok (.iload_n 2, 1) := by decide +kernel
theorem dX0_transform_124 : decode cX0_transform 124 = .ok (.ifCond .eq 16, 3) := by decide +kernel
theorem dX0_transform_127 : decode cX0_transform 127 = .ok (.iload 7, 2) := by decide +kernel
theorem dX0_transform_129 : decode cX0_transform 129 = .ok (.ifCond .le 11, 3) := by decide +kernel
theorem dX0_transform_132 : decode cX0_transform 132 = .ok (.bipush 64, 2) := by decide +kernel
theorem dX0_transform_134 : decode cX0_transform 134 = .ok (.iload 7, 2) := by decide +kernel
theorem dX0_transform_136 : decode cX0_transform 136 = .ok (.isub, 1) := by decide +kernel
theorem dX0_transform_137 : decode cX0_transform 137 = .ok (.goto 5, 3) := by decide +kernel
theorem dX0_transform_140 : decode cX0_transform 140 = .ok (.iload 7, 2) := by decide +kernel
theorem dX0_transform_142 : decode cX0_transform 142 = .ok (.invokevirtual 76, 3) := by decide +kernel
theorem dX0_transform_145 : decode cX0_transform 145 = .ok (.iinc 4 1, 3) := by decide +kernel
theorem dX0_transform_148 : decode cX0_transform 148 = .ok (.goto (-69), 3) := by decide +kernel
theorem dX0_transform_151 : decode cX0_transform 151 = .ok (.iload_n 3, 1) := by decide +kernel
theorem dX0_transform_152 : decode cX0_transform 152 = .ok (.iconst 2, 1) := by decide +kernel
theorem dX0_transform_153 : decode cX0_transform 153 = .ok (.imul, 1) := by decide +kernel
theorem dX0_transform_154 : decode cX0_transform 154 = .ok (.istore_n 3, 1) := by decide +kernel
theorem dX0_transform_155 : decode cX0_transform 155 = .ok (.goto (-85), 3) := by decide +kernel
theorem dX0_transform_158 : decode cX0_transform 158 = .ok (.iload_n 2, 1) := by decide +kernel
theorem dX0_transform_159 : decode cX0_transform 159 = .ok (.ifCond .eq 8, 3) := by decide +kernel
theorem dX0_transform_162 : decode cX0_transform 162 = .ok (.aload_n 0, 1) := by decide +kernel
theorem dX0_transform_163 : decode cX0_transform 163 = .ok (.iload_n 1, 1) := by decide +kernel
theorem dX0_transform_164 : decode cX0_transform 164 = .ok (.invokevirtual 79, 3) := by decide +kernel
theorem dX0_transform_167 : decode cX0_transform 167 = .ok (.return_, 1) := by decide +kernel
abbrev cX0_turnedBits : ByteArray := prog_1_method_20_code
def yX0_turnedBits : MethodName := ⟨RX0, "turnedBits", "(I)I"⟩
theorem dX0_turnedBits_0 : decode cX0_turnedBits 0 = .ok (.iconst 0, 1) := by decide +kernel
theorem dX0_turnedBits_1 : decode cX0_turnedBits 1 = .ok (.istore_n 2, 1) := by decide +kernel
theorem dX0_turnedBits_2 : decode cX0_turnedBits 2 = .ok (.iconst 0, 1) := by decide +kernel
theorem dX0_turnedBits_3 : decode cX0_turnedBits 3 = .ok (.istore_n 3, 1) := by decide +kernel
theorem dX0_turnedBits_4 : decode cX0_turnedBits 4 = .ok (.iload_n 3, 1) := by decide +kernel
theorem dX0_turnedBits_5 : decode cX0_turnedBits 5 = .ok (.bipush 6, 2) := by decide +kernel
theorem dX0_turnedBits_7 : decode cX0_turnedBits 7 = .ok (.if_icmp .ge 21, 3) := by decide +kernel
theorem dX0_turnedBits_10 : decode cX0_turnedBits 10 = .ok (.iload_n 2, 1) := by decide +kernel
theorem dX0_turnedBits_11 : decode cX0_turnedBits 11 = .ok (.iload_n 1, 1) := by decide +kernel
theorem dX0_turnedBits_12 : decode cX0_turnedBits 12 = .ok (.iload_n 3, 1) := by decide +kernel
theorem dX0_turnedBits_13 : decode cX0_turnedBits 13 = .ok (.ishr, 1) := by decide +kernel
theorem dX0_turnedBits_14 : decode cX0_turnedBits 14 = .ok (.iconst 1, 1) := by decide +kernel
theorem dX0_turnedBits_15 : decode cX0_turnedBits 15 = .ok (.iand, 1) := by decide +kernel
theorem dX0_turnedBits_16 : decode cX0_turnedBits 16 = .ok (.iconst 5, 1) := by decide +kernel
theorem dX0_turnedBits_17 : decode cX0_turnedBits 17 = .ok (.iload_n 3, 1) := by decide +kernel
theorem dX0_turnedBits_18 : decode cX0_turnedBits 18 = .ok (.isub, 1) := by decide +kernel
theorem dX0_turnedBits_19 : decode cX0_turnedBits 19 = .ok (.ishl, 1) := by decide +kernel
theorem dX0_turnedBits_20 : decode cX0_turnedBits 20 = .ok (.ior, 1) := by decide +kernel
theorem dX0_turnedBits_21 : decode cX0_turnedBits 21 = .ok (.istore_n 2, 1) := by decide +kernel
theorem dX0_turnedBits_22 : decode cX0_turnedBits 22 = .ok (.iinc 3 1, 3) := by decide +kernel
theorem dX0_turnedBits_25 : decode cX0_turnedBits 25 = .ok (.goto (-21), 3) := by decide +kernel
theorem dX0_turnedBits_28 : decode cX0_turnedBits 28 = .ok (.iload_n 2, 1) := by decide +kernel
theorem dX0_turnedBits_29 : decode cX0_turnedBits 29 = .ok (.ireturn, 1) := by decide +kernel
abbrev cX0_butterfly : ByteArray := prog_1_method_22_code
def yX0_butterfly : MethodName := ⟨RX0, "butterfly", "(III)V"⟩
theorem dX0_butterfly_0 : decode cX0_butterfly 0 = .ok (.aload_n 0, 1) := by decide +kernel
theorem dX0_butterfly_1 : decode cX0_butterfly 1 = .ok (.getfield 20, 3) := by decide +kernel
theorem dX0_butterfly_4 : decode cX0_butterfly 4 = .ok (.iload_n 1, 1) := by decide +kernel
theorem dX0_butterfly_5 : decode cX0_butterfly 5 = .ok (.iaload, 1) := by decide +kernel
theorem dX0_butterfly_6 : decode cX0_butterfly 6 = .ok (.istore 4, 2) := by decide +kernel
theorem dX0_butterfly_8 : decode cX0_butterfly 8 = .ok (.aload_n 0, 1) := by decide +kernel
theorem dX0_butterfly_9 : decode cX0_butterfly 9 = .ok (.getfield 20, 3) := by decide +kernel
theorem dX0_butterfly_12 : decode cX0_butterfly 12 = .ok (.iload_n 2, 1) := by decide +kernel
theorem dX0_butterfly_13 : decode cX0_butterfly 13 = .ok (.iaload, 1) := by decide +kernel
theorem dX0_butterfly_14 : decode cX0_butterfly 14 = .ok (.aload_n 0, 1) := by decide +kernel
theorem dX0_butterfly_15 : decode cX0_butterfly 15 = .ok (.getfield 16, 3) := by decide +kernel
theorem dX0_butterfly_18 : decode cX0_butterfly 18 = .ok (.iload_n 3, 1) := by decide +kernel
theorem dX0_butterfly_19 : decode cX0_butterfly 19 = .ok (.iaload, 1) := by decide +kernel
theorem dX0_butterfly_20 : decode cX0_butterfly 20 = .ok (.imul, 1) := by decide +kernel
theorem dX0_butterfly_21 : decode cX0_butterfly 21 = .ok (.sipush 7681, 3) := by decide +kernel
theorem dX0_butterfly_24 : decode cX0_butterfly 24 = .ok (.irem, 1) := by decide +kernel
theorem dX0_butterfly_25 : decode cX0_butterfly 25 = .ok (.istore 5, 2) := by decide +kernel
theorem dX0_butterfly_27 : decode cX0_butterfly 27 = .ok (.aload_n 0, 1) := by decide +kernel
theorem dX0_butterfly_28 : decode cX0_butterfly 28 = .ok (.getfield 20, 3) := by decide +kernel
theorem dX0_butterfly_31 : decode cX0_butterfly 31 = .ok (.iload_n 1, 1) := by decide +kernel
theorem dX0_butterfly_32 : decode cX0_butterfly 32 = .ok (.iload 4, 2) := by decide +kernel
theorem dX0_butterfly_34 : decode cX0_butterfly 34 = .ok (.iload 5, 2) := by decide +kernel
theorem dX0_butterfly_36 : decode cX0_butterfly 36 = .ok (.iadd, 1) := by decide +kernel
theorem dX0_butterfly_37 : decode cX0_butterfly 37 = .ok (.sipush 7681, 3) := by decide +kernel
theorem dX0_butterfly_40 : decode cX0_butterfly 40 = .ok (.irem, 1) := by decide +kernel
theorem dX0_butterfly_41 : decode cX0_butterfly 41 = .ok (.iastore, 1) := by decide +kernel
theorem dX0_butterfly_42 : decode cX0_butterfly 42 = .ok (.aload_n 0, 1) := by decide +kernel
theorem dX0_butterfly_43 : decode cX0_butterfly 43 = .ok (.getfield 20, 3) := by decide +kernel
theorem dX0_butterfly_46 : decode cX0_butterfly 46 = .ok (.iload_n 2, 1) := by decide +kernel
theorem dX0_butterfly_47 : decode cX0_butterfly 47 = .ok (.iload 4, 2) := by decide +kernel
theorem dX0_butterfly_49 : decode cX0_butterfly 49 = .ok (.sipush 7681, 3) := by decide +kernel
theorem dX0_butterfly_52 : decode cX0_butterfly 52 = .ok (.iadd, 1) := by decide +kernel
theorem dX0_butterfly_53 : decode cX0_butterfly 53 = .ok (.iload 5, 2) := by decide +kernel
theorem dX0_butterfly_55 : decode cX0_butterfly 55 = .ok (.isub, 1) := by decide +kernel
theorem dX0_butterfly_56 : decode cX0_butterfly 56 = .ok (.sipush 7681, 3) := by decide +kernel
theorem dX0_butterfly_59 : decode cX0_butterfly 59 = .ok (.irem, 1) := by decide +kernel
theorem dX0_butterfly_60 : decode cX0_butterfly 60 = .ok (.iastore, 1) := by decide +kernel
theorem dX0_butterfly_61 : decode cX0_butterfly 61 = .ok (.return_, 1) := by decide +kernel
abbrev cX0_divideBySize : ByteArray := prog_1_method_23_code
def yX0_divideBySize : MethodName := ⟨RX0, "divideBySize", "(I)V"⟩
theorem dX0_divideBySize_0 : decode cX0_divideBySize 0 = .ok (.iconst 0, 1) := by decide +kernel
theorem dX0_divideBySize_1 : decode cX0_divideBySize 1 = .ok (.istore_n 2, 1) := by decide +kernel
theorem dX0_divideBySize_2 : decode cX0_divideBySize 2 = .ok (.iload_n 2, 1) := by decide +kernel
theorem dX0_divideBySize_3 : decode cX0_divideBySize 3 = .ok (.bipush 64, 2) := by decide +kernel
theorem dX0_divideBySize_5 : decode cX0_divideBySize 5 = .ok (.if_icmp .ge 33, 3) := by decide +kernel
theorem dX0_divideBySize_8 : decode cX0_divideBySize 8 = .ok (.aload_n 0, 1) := by decide +kernel
theorem dX0_divideBySize_9 : decode cX0_divideBySize 9 = .ok (.getfield 20, 3) := by decide +kernel
theorem dX0_divideBySize_12 : decode cX0_divideBySize 12 = .ok (.iload_n 1, 1) := by decide +kernel
theorem dX0_divideBySize_13 : decode cX0_divideBySize 13 = .ok (.iload_n 2, 1) := by decide +kernel
theorem dX0_divideBySize_14 : decode cX0_divideBySize 14 = .ok (.iadd, 1) := by decide +kernel
theorem dX0_divideBySize_15 : decode cX0_divideBySize 15 = .ok (.aload_n 0, 1) := by decide +kernel
theorem dX0_divideBySize_16 : decode cX0_divideBySize 16 = .ok (.getfield 20, 3) := by decide +kernel
theorem dX0_divideBySize_19 : decode cX0_divideBySize 19 = .ok (.iload_n 1, 1) := by decide +kernel
theorem dX0_divideBySize_20 : decode cX0_divideBySize 20 = .ok (.iload_n 2, 1) := by decide +kernel
theorem dX0_divideBySize_21 : decode cX0_divideBySize 21 = .ok (.iadd, 1) := by decide +kernel
theorem dX0_divideBySize_22 : decode cX0_divideBySize 22 = .ok (.iaload, 1) := by decide +kernel
theorem dX0_divideBySize_23 : decode cX0_divideBySize 23 = .ok (.sipush 7561, 3) := by decide +kernel
theorem dX0_divideBySize_26 : decode cX0_divideBySize 26 = .ok (.imul, 1) := by decide +kernel
theorem dX0_divideBySize_27 : decode cX0_divideBySize 27 = .ok (.sipush 7681, 3) := by decide +kernel
theorem dX0_divideBySize_30 : decode cX0_divideBySize 30 = .ok (.irem, 1) := by decide +kernel
theorem dX0_divideBySize_31 : decode cX0_divideBySize 31 = .ok (.iastore, 1) := by decide +kernel
theorem dX0_divideBySize_32 : decode cX0_divideBySize 32 = .ok (.iinc 2 1, 3) := by decide +kernel
theorem dX0_divideBySize_35 : decode cX0_divideBySize 35 = .ok (.goto (-33), 3) := by decide +kernel
theorem dX0_divideBySize_38 : decode cX0_divideBySize 38 = .ok (.return_, 1) := by decide +kernel
abbrev cX0_matchCount : ByteArray := prog_1_method_8_code
def yX0_matchCount : MethodName := ⟨RX0, "matchCount", "()I"⟩
theorem dX0_matchCount_0 : decode cX0_matchCount 0 = .ok (.iconst 0, 1) := by decide +kernel
theorem dX0_matchCount_1 : decode cX0_matchCount 1 = .ok (.istore_n 1, 1) := by decide +kernel
theorem dX0_matchCount_2 : decode cX0_matchCount 2 = .ok (.iconst 0, 1) := by decide +kernel
theorem dX0_matchCount_3 : decode cX0_matchCount 3 = .ok (.istore_n 2, 1) := by decide +kernel
theorem dX0_matchCount_4 : decode cX0_matchCount 4 = .ok (.iload_n 2, 1) := by decide +kernel
theorem dX0_matchCount_5 : decode cX0_matchCount 5 = .ok (.aload_n 0, 1) := by decide +kernel
theorem dX0_matchCount_6 : decode cX0_matchCount 6 = .ok (.getfield 33, 3) := by decide +kernel
theorem dX0_matchCount_9 : decode cX0_matchCount 9 = .ok (.aload_n 0, 1) := by decide +kernel
theorem dX0_matchCount_10 : decode cX0_matchCount 10 = .ok (.getfield 29, 3) := by decide +kernel
theorem dX0_matchCount_13 : decode cX0_matchCount 13 = .ok (.isub, 1) := by decide +kernel
theorem dX0_matchCount_14 : decode cX0_matchCount 14 = .ok (.if_icmp .gt 20, 3) := by decide +kernel
theorem dX0_matchCount_17 : decode cX0_matchCount 17 = .ok (.aload_n 0, 1) := by decide +kernel
theorem dX0_matchCount_18 : decode cX0_matchCount 18 = .ok (.iload_n 2, 1) := by decide +kernel
theorem dX0_matchCount_19 : decode cX0_matchCount 19 = .ok (.invokevirtual 51, 3) := by decide +kernel
theorem dX0_matchCount_22 : decode cX0_matchCount 22 = .ok (.ifCond .eq 6, 3) := by decide +kernel
theorem dX0_matchCount_25 : decode cX0_matchCount 25 = .ok (.iinc 1 1, 3) := by decide +kernel
theorem dX0_matchCount_28 : decode cX0_matchCount 28 = .ok (.iinc 2 1, 3) := by decide +kernel
theorem dX0_matchCount_31 : decode cX0_matchCount 31 = .ok (.goto (-27), 3) := by decide +kernel
theorem dX0_matchCount_34 : decode cX0_matchCount 34 = .ok (.iload_n 1, 1) := by decide +kernel
theorem dX0_matchCount_35 : decode cX0_matchCount 35 = .ok (.ireturn, 1) := by decide +kernel
abbrev cX0_nextMatch : ByteArray := prog_1_method_9_code
def yX0_nextMatch : MethodName := ⟨RX0, "nextMatch", "(I)I"⟩
theorem dX0_nextMatch_0 : decode cX0_nextMatch 0 = .ok (.iconst 0, 1) := by decide +kernel
theorem dX0_nextMatch_1 : decode cX0_nextMatch 1 = .ok (.istore_n 2, 1) := by decide +kernel
theorem dX0_nextMatch_2 : decode cX0_nextMatch 2 = .ok (.iload_n 2, 1) := by decide +kernel
theorem dX0_nextMatch_3 : decode cX0_nextMatch 3 = .ok (.aload_n 0, 1) := by decide +kernel
theorem dX0_nextMatch_4 : decode cX0_nextMatch 4 = .ok (.getfield 33, 3) := by decide +kernel
theorem dX0_nextMatch_7 : decode cX0_nextMatch 7 = .ok (.aload_n 0, 1) := by decide +kernel
theorem dX0_nextMatch_8 : decode cX0_nextMatch 8 = .ok (.getfield 29, 3) := by decide +kernel
theorem dX0_nextMatch_11 : decode cX0_nextMatch 11 = .ok (.isub, 1) := by decide +kernel
theorem dX0_nextMatch_12 : decode cX0_nextMatch 12 = .ok (.if_icmp .gt 24, 3) := by decide +kernel
theorem dX0_nextMatch_15 : decode cX0_nextMatch 15 = .ok (.iload_n 2, 1) := by decide +kernel
theorem dX0_nextMatch_16 : decode cX0_nextMatch 16 = .ok (.iload_n 1, 1) := by decide +kernel
theorem dX0_nextMatch_17 : decode cX0_nextMatch 17 = .ok (.if_icmp .lt 13, 3) := by decide +kernel
theorem dX0_nextMatch_20 : decode cX0_nextMatch 20 = .ok (.aload_n 0, 1) := by decide +kernel
theorem dX0_nextMatch_21 : decode cX0_nextMatch 21 = .ok (.iload_n 2, 1) := by decide +kernel
theorem dX0_nextMatch_22 : decode cX0_nextMatch 22 = .ok (.invokevirtual 51, 3) := by decide +kernel
theorem dX0_nextMatch_25 : decode cX0_nextMatch 25 = .ok (.ifCond .eq 5, 3) := by decide +kernel
theorem dX0_nextMatch_28 : decode cX0_nextMatch 28 = .ok (.iload_n 2, 1) := by decide +kernel
theorem dX0_nextMatch_29 : decode cX0_nextMatch 29 = .ok (.ireturn, 1) := by decide +kernel
theorem dX0_nextMatch_30 : decode cX0_nextMatch 30 = .ok (.iinc 2 1, 3) := by decide +kernel
theorem dX0_nextMatch_33 : decode cX0_nextMatch 33 = .ok (.goto (-31), 3) := by decide +kernel
theorem dX0_nextMatch_36 : decode cX0_nextMatch 36 = .ok (.bipush (-3), 2) := by decide +kernel
theorem dX0_nextMatch_38 : decode cX0_nextMatch 38 = .ok (.ireturn, 1) := by decide +kernel
abbrev cX0_mismatches : ByteArray := prog_1_method_10_code
def yX0_mismatches : MethodName := ⟨RX0, "mismatches", "(I)I"⟩
theorem dX0_mismatches_0 : decode cX0_mismatches 0 = .ok (.aload_n 0, 1) := by decide +kernel
theorem dX0_mismatches_1 : decode cX0_mismatches 1 = .ok (.iload_n 1, 1) := by decide +kernel
theorem dX0_mismatches_2 : decode cX0_mismatches 2 = .ok (.invokevirtual 44, 3) := by decide +kernel
theorem dX0_mismatches_5 : decode cX0_mismatches 5 = .ok (.ifCond .eq 11, 3) := by decide +kernel
theorem dX0_mismatches_8 : decode cX0_mismatches 8 = .ok (.aload_n 0, 1) := by decide +kernel
theorem dX0_mismatches_9 : decode cX0_mismatches 9 = .ok (.iload_n 1, 1) := by decide +kernel
theorem dX0_mismatches_10 : decode cX0_mismatches 10 = .ok (.invokevirtual 54, 3) := by decide +kernel
theorem dX0_mismatches_13 : decode cX0_mismatches 13 = .ok (.goto 5, 3) := by decide +kernel
theorem dX0_mismatches_16 : decode cX0_mismatches 16 = .ok (.bipush (-2), 2) := by decide +kernel
theorem dX0_mismatches_18 : decode cX0_mismatches 18 = .ok (.ireturn, 1) := by decide +kernel
abbrev cX0_wrongAt : ByteArray := prog_1_method_15_code
def yX0_wrongAt : MethodName := ⟨RX0, "wrongAt", "(I)I"⟩
theorem dX0_wrongAt_0 : decode cX0_wrongAt 0 = .ok (.aload_n 0, 1) := by decide +kernel
theorem dX0_wrongAt_1 : decode cX0_wrongAt 1 = .ok (.invokevirtual 48, 3) := by decide +kernel
theorem dX0_wrongAt_4 : decode cX0_wrongAt 4 = .ok (.aload_n 0, 1) := by decide +kernel
theorem dX0_wrongAt_5 : decode cX0_wrongAt 5 = .ok (.getfield 29, 3) := by decide +kernel
theorem dX0_wrongAt_8 : decode cX0_wrongAt 8 = .ok (.ifCond .ne 7, 3) := by decide +kernel
theorem dX0_wrongAt_11 : decode cX0_wrongAt 11 = .ok (.iconst 0, 1) := by decide +kernel
theorem dX0_wrongAt_12 : decode cX0_wrongAt 12 = .ok (.goto 9, 3) := by decide +kernel
theorem dX0_wrongAt_15 : decode cX0_wrongAt 15 = .ok (.aload_n 0, 1) := by decide +kernel
theorem dX0_wrongAt_16 : decode cX0_wrongAt 16 = .ok (.getfield 26, 3) := by decide +kernel
theorem dX0_wrongAt_19 : decode cX0_wrongAt 19 = .ok (.iload_n 1, 1) := by decide +kernel
theorem dX0_wrongAt_20 : decode cX0_wrongAt 20 = .ok (.iaload, 1) := by decide +kernel
theorem dX0_wrongAt_21 : decode cX0_wrongAt 21 = .ok (.ireturn, 1) := by decide +kernel
abbrev cX0_bestShift : ByteArray := prog_1_method_11_code
def yX0_bestShift : MethodName := ⟨RX0, "bestShift", "()I"⟩
theorem dX0_bestShift_0 : decode cX0_bestShift 0 = .ok (.bipush (-3), 2) := by decide +kernel
theorem dX0_bestShift_2 : decode cX0_bestShift 2 = .ok (.istore_n 1, 1) := by decide +kernel
theorem dX0_bestShift_3 : decode cX0_bestShift 3 = .ok (.bipush 13, 2) := by decide +kernel
theorem dX0_bestShift_5 : decode cX0_bestShift 5 = .ok (.istore_n 2, 1) := by decide +kernel
theorem dX0_bestShift_6 : decode cX0_bestShift 6 = .ok (.iconst 0, 1) := by decide +kernel
theorem dX0_bestShift_7 : decode cX0_bestShift 7 = .ok (.istore_n 3, 1) := by decide +kernel
theorem dX0_bestShift_8 : decode cX0_bestShift 8 = .ok (.iload_n 3, 1) := by decide +kernel
theorem dX0_bestShift_9 : decode cX0_bestShift 9 = .ok (.aload_n 0, 1) := by decide +kernel
theorem dX0_bestShift_10 : decode cX0_bestShift 10 = .ok (.getfield 33, 3) := by decide +kernel
theorem dX0_bestShift_13 : decode cX0_bestShift 13 = .ok (.aload_n 0, 1) := by decide +kernel
theorem dX0_bestShift_14 : decode cX0_bestShift 14 = .ok (.getfield 29, 3) := by decide +kernel
theorem dX0_bestShift_17 : decode cX0_bestShift 17 = .ok (.isub, 1) := by decide +kernel
theorem dX0_bestShift_18 : decode cX0_bestShift 18 = .ok (.if_icmp .gt 30, 3) := by decide +kernel
theorem dX0_bestShift_21 : decode cX0_bestShift 21 = .ok (.aload_n 0, 1) := by decide +kernel
theorem dX0_bestShift_22 : decode cX0_bestShift 22 = .ok (.iload_n 3, 1) := by decide +kernel
theorem dX0_bestShift_23 : decode cX0_bestShift 23 = .ok (.invokevirtual 54, 3) := by decide +kernel
theorem dX0_bestShift_26 : decode cX0_bestShift 26 = .ok (.istore 4, 2) := by decide +kernel
theorem dX0_bestShift_28 : decode cX0_bestShift 28 = .ok (.iload 4, 2) := by decide +kernel
theorem dX0_bestShift_30 : decode cX0_bestShift 30 = .ok (.iload_n 2, 1) := by decide +kernel
theorem dX0_bestShift_31 : decode cX0_bestShift 31 = .ok (.if_icmp .lt 6, 3) := by decide +kernel
theorem dX0_bestShift_34 : decode cX0_bestShift 34 = .ok (.goto 8, 3) := by decide +kernel
theorem dX0_bestShift_37 : decode cX0_bestShift 37 = .ok (.iload 4, 2) := by decide +kernel
theorem dX0_bestShift_39 : decode cX0_bestShift 39 = .ok (.istore_n 2, 1) := by decide +kernel
theorem dX0_bestShift_40 : decode cX0_bestShift 40 = .ok (.iload_n 3, 1) := by decide +kernel
theorem dX0_bestShift_41 : decode cX0_bestShift 41 = .ok (.istore_n 1, 1) := by decide +kernel
theorem dX0_bestShift_42 : decode cX0_bestShift 42 = .ok (.iinc 3 1, 3) := by decide +kernel
theorem dX0_bestShift_45 : decode cX0_bestShift 45 = .ok (.goto (-37), 3) := by decide +kernel
theorem dX0_bestShift_48 : decode cX0_bestShift 48 = .ok (.iload_n 1, 1) := by decide +kernel
theorem dX0_bestShift_49 : decode cX0_bestShift 49 = .ok (.ireturn, 1) := by decide +kernel
abbrev cX0_within : ByteArray := prog_1_method_12_code
def yX0_within : MethodName := ⟨RX0, "within", "(I)I"⟩
theorem dX0_within_0 : decode cX0_within 0 = .ok (.iconst 0, 1) := by decide +kernel
theorem dX0_within_1 : decode cX0_within 1 = .ok (.istore_n 2, 1) := by decide +kernel
theorem dX0_within_2 : decode cX0_within 2 = .ok (.iconst 0, 1) := by decide +kernel
theorem dX0_within_3 : decode cX0_within 3 = .ok (.istore_n 3, 1) := by decide +kernel
theorem dX0_within_4 : decode cX0_within 4 = .ok (.iload_n 3, 1) := by decide +kernel
theorem dX0_within_5 : decode cX0_within 5 = .ok (.aload_n 0, 1) := by decide +kernel
theorem dX0_within_6 : decode cX0_within 6 = .ok (.getfield 33, 3) := by decide +kernel
theorem dX0_within_9 : decode cX0_within 9 = .ok (.aload_n 0, 1) := by decide +kernel
theorem dX0_within_10 : decode cX0_within 10 = .ok (.getfield 29, 3) := by decide +kernel
theorem dX0_within_13 : decode cX0_within 13 = .ok (.isub, 1) := by decide +kernel
theorem dX0_within_14 : decode cX0_within 14 = .ok (.if_icmp .gt 25, 3) := by decide +kernel
theorem dX0_within_17 : decode cX0_within 17 = .ok (.aload_n 0, 1) := by decide +kernel
theorem dX0_within_18 : decode cX0_within 18 = .ok (.iload_n 3, 1) := by decide +kernel
theorem dX0_within_19 : decode cX0_within 19 = .ok (.invokevirtual 54, 3) := by decide +kernel
theorem dX0_within_22 : decode cX0_within 22 = .ok (.istore 4, 2) := by decide +kernel
theorem dX0_within_24 : decode cX0_within 24 = .ok (.iload 4, 2) := by decide +kernel
theorem dX0_within_26 : decode cX0_within 26 = .ok (.iload_n 1, 1) := by decide +kernel
theorem dX0_within_27 : decode cX0_within 27 = .ok (.if_icmp .gt 6, 3) := by decide +kernel
theorem dX0_within_30 : decode cX0_within 30 = .ok (.iinc 2 1, 3) := by decide +kernel
theorem dX0_within_33 : decode cX0_within 33 = .ok (.iinc 3 1, 3) := by decide +kernel
theorem dX0_within_36 : decode cX0_within 36 = .ok (.goto (-32), 3) := by decide +kernel
theorem dX0_within_39 : decode cX0_within 39 = .ok (.iload_n 2, 1) := by decide +kernel
theorem dX0_within_40 : decode cX0_within 40 = .ok (.ireturn, 1) := by decide +kernel
abbrev cX0_turnedMismatches : ByteArray := prog_1_method_13_code
def yX0_turnedMismatches : MethodName := ⟨RX0, "turnedMismatches", "(I)I"⟩
theorem dX0_turnedMismatches_0 : decode cX0_turnedMismatches 0 = .ok (.iload_n 1, 1) := by decide +kernel
theorem dX0_turnedMismatches_1 : decode cX0_turnedMismatches 1 = .ok (.ifCond .lt 22, 3) := by decide +kernel
theorem dX0_turnedMismatches_4 : decode cX0_turnedMismatches 4 = .ok (.iload_n 1, 1) := by decide +kernel
theorem dX0_turnedMismatches_5 : decode cX0_turnedMismatches 5 = .ok (.aload_n 0, 1) := by decide +kernel
theorem dX0_turnedMismatches_6 : decode cX0_turnedMismatches 6 = .ok (.getfield 33, 3) := by decide +kernel
theorem dX0_turnedMismatches_9 : decode cX0_turnedMismatches 9 = .ok (.if_icmp .ge 14, 3) := by decide +kernel
theorem dX0_turnedMismatches_12 : decode cX0_turnedMismatches 12 = .ok (.aload_n 0, 1) := by decide +kernel
theorem dX0_turnedMismatches_13 : decode cX0_turnedMismatches 13 = .ok (.getfield 29, 3) := by decide +kernel
theorem dX0_turnedMismatches_16 : decode cX0_turnedMismatches 16 = .ok (.aload_n 0, 1) := by decide +kernel
theorem dX0_turnedMismatches_17 : decode cX0_turnedMismatches 17 = .ok (.getfield 33, 3) := by decide +kernel
theorem dX0_turnedMismatches_20 : decode cX0_turnedMismatches 20 = .ok (.if_icmp .le 6, 3) := by decide +kernel
theorem dX0_turnedMismatches_23 : decode cX0_turnedMismatches 23 = .ok (.bipush (-2), 2) := by decide +kernel
theorem dX0_turnedMismatches_25 : decode cX0_turnedMismatches 25 = .ok (.ireturn, 1) := by decide +kernel
theorem dX0_turnedMismatches_26 : decode cX0_turnedMismatches 26 = .ok (.aload_n 0, 1) := by decide +kernel
theorem dX0_turnedMismatches_27 : decode cX0_turnedMismatches 27 = .ok (.iload_n 1, 1) := by decide +kernel
theorem dX0_turnedMismatches_28 : decode cX0_turnedMismatches 28 = .ok (.invokevirtual 54, 3) := by decide +kernel
theorem dX0_turnedMismatches_31 : decode cX0_turnedMismatches 31 = .ok (.ireturn, 1) := by decide +kernel
end
section
set_option maxRecDepth 100000
/-! WildcardMatcherModel -/
def RX1 : String := "WildcardMatcherModel"
def TX1 : u_T := fun k => match k with
  | 0 => ("WildcardMatcherModel", "n", "I", false)
  | 1 => ("WildcardMatcherModel", "m", "I", false)
  | 2 => ("WildcardMatcherModel", "text", "[I", false)
  | _ => ("WildcardMatcherModel", "pattern", "[I", false)
def tyX1 : Nat → FieldType := fun k => match k with
  | 0 => .int
  | 1 => .int
  | 2 => .array .int
  | _ => .array .int
abbrev wsX10 : List Cond := u_ws RX1 TX1 4
theorem nmX1 : ∀ a, a < 4 → ∀ b, b < 4 → a ≠ b → (TX1 a).2.1 ≠ (TX1 b).2.1 := by decide +kernel
theorem tyX1_ok : ∀ k, k < 4 → parseFieldDescriptor (TX1 k).2.2.1 = some (tyX1 k) := by decide +kernel
abbrev cX1_init : ByteArray := prog_3_method_1_code
def yX1_init : MethodName := ⟨RX1, "<init>", "()V"⟩
theorem dX1_init_0 : decode cX1_init 0 = .ok (.aload_n 0, 1) := by decide +kernel
theorem dX1_init_1 : decode cX1_init 1 = .ok (.invokespecial 1, 3) := by decide +kernel
theorem dX1_init_4 : decode cX1_init 4 = .ok (.aload_n 0, 1) := by decide +kernel
theorem dX1_init_5 : decode cX1_init 5 = .ok (.iconst 0, 1) := by decide +kernel
theorem dX1_init_6 : decode cX1_init 6 = .ok (.putfield 7, 3) := by decide +kernel
theorem dX1_init_9 : decode cX1_init 9 = .ok (.aload_n 0, 1) := by decide +kernel
theorem dX1_init_10 : decode cX1_init 10 = .ok (.iconst 0, 1) := by decide +kernel
theorem dX1_init_11 : decode cX1_init 11 = .ok (.putfield 13, 3) := by decide +kernel
theorem dX1_init_14 : decode cX1_init 14 = .ok (.aload_n 0, 1) := by decide +kernel
theorem dX1_init_15 : decode cX1_init 15 = .ok (.bipush 40, 2) := by decide +kernel
theorem dX1_init_17 : decode cX1_init 17 = .ok (.newarray .int, 2) := by decide +kernel
theorem dX1_init_19 : decode cX1_init 19 = .ok (.putfield 16, 3) := by decide +kernel
theorem dX1_init_22 : decode cX1_init 22 = .ok (.aload_n 0, 1) := by decide +kernel
theorem dX1_init_23 : decode cX1_init 23 = .ok (.bipush 12, 2) := by decide +kernel
theorem dX1_init_25 : decode cX1_init 25 = .ok (.newarray .int, 2) := by decide +kernel
theorem dX1_init_27 : decode cX1_init 27 = .ok (.putfield 20, 3) := by decide +kernel
theorem dX1_init_30 : decode cX1_init 30 = .ok (.return_, 1) := by decide +kernel
abbrev cX1_type : ByteArray := prog_3_method_2_code
def yX1_type : MethodName := ⟨RX1, "type", "(ZI)I"⟩
theorem dX1_type_0 : decode cX1_type 0 = .ok (.iload_n 1, 1) := by decide +kernel
theorem dX1_type_1 : decode cX1_type 1 = .ok (.ifCond .eq 15, 3) := by decide +kernel
theorem dX1_type_4 : decode cX1_type 4 = .ok (.aload_n 0, 1) := by decide +kernel
theorem dX1_type_5 : decode cX1_type 5 = .ok (.getfield 13, 3) := by decide +kernel
theorem dX1_type_8 : decode cX1_type 8 = .ok (.bipush 12, 2) := by decide +kernel
theorem dX1_type_10 : decode cX1_type 10 = .ok (.if_icmp .ne 17, 3) := by decide +kernel
theorem dX1_type_13 : decode cX1_type 13 = .ok (.goto 12, 3) := by decide +kernel
theorem dX1_type_16 : decode cX1_type 16 = .ok (.aload_n 0, 1) := by decide +kernel
theorem dX1_type_17 : decode cX1_type 17 = .ok (.getfield 7, 3) := by decide +kernel
theorem dX1_type_20 : decode cX1_type 20 = .ok (.bipush 40, 2) := by decide +kernel
theorem dX1_type_22 : decode cX1_type 22 = .ok (.if_icmp .ne 5, 3) := by decide +kernel
theorem dX1_type_25 : decode cX1_type 25 = .ok (.iconst (-1), 1) := by decide +kernel
theorem dX1_type_26 : decode cX1_type 26 = .ok (.ireturn, 1) := by decide +kernel
theorem dX1_type_27 : decode cX1_type 27 = .ok (.iload_n 2, 1) := by decide +kernel
theorem dX1_type_28 : decode cX1_type 28 = .ok (.ifCond .lt 8, 3) := by decide +kernel
theorem dX1_type_31 : decode cX1_type 31 = .ok (.iload_n 2, 1) := by decide +kernel
theorem dX1_type_32 : decode cX1_type 32 = .ok (.iconst 4, 1) := by decide +kernel
theorem dX1_type_33 : decode cX1_type 33 = .ok (.if_icmp .le 6, 3) := by decide +kernel
theorem dX1_type_36 : decode cX1_type 36 = .ok (.bipush (-2), 2) := by decide +kernel
theorem dX1_type_38 : decode cX1_type 38 = .ok (.ireturn, 1) := by decide +kernel
theorem dX1_type_39 : decode cX1_type 39 = .ok (.iload_n 1, 1) := by decide +kernel
theorem dX1_type_40 : decode cX1_type 40 = .ok (.ifCond .eq 28, 3) := by decide +kernel
theorem dX1_type_43 : decode cX1_type 43 = .ok (.aload_n 0, 1) := by decide +kernel
theorem dX1_type_44 : decode cX1_type 44 = .ok (.getfield 20, 3) := by decide +kernel
theorem dX1_type_47 : decode cX1_type 47 = .ok (.aload_n 0, 1) := by decide +kernel
theorem dX1_type_48 : decode cX1_type 48 = .ok (.getfield 13, 3) := by decide +kernel
theorem dX1_type_51 : decode cX1_type 51 = .ok (.iload_n 2, 1) := by decide +kernel
theorem dX1_type_52 : decode cX1_type 52 = .ok (.iastore, 1) := by decide +kernel
theorem dX1_type_53 : decode cX1_type 53 = .ok (.aload_n 0, 1) := by decide +kernel
theorem dX1_type_54 : decode cX1_type 54 = .ok (.dup, 1) := by decide +kernel
theorem dX1_type_55 : decode cX1_type 55 = .ok (.getfield 13, 3) := by decide +kernel
theorem dX1_type_58 : decode cX1_type 58 = .ok (.iconst 1, 1) := by decide +kernel
theorem dX1_type_59 : decode cX1_type 59 = .ok (.iadd, 1) := by decide +kernel
theorem dX1_type_60 : decode cX1_type 60 = .ok (.putfield 13, 3) := by decide +kernel
theorem dX1_type_63 : decode cX1_type 63 = .ok (.aload_n 0, 1) := by decide +kernel
theorem dX1_type_64 : decode cX1_type 64 = .ok (.getfield 13, 3) := by decide +kernel
theorem dX1_type_67 : decode cX1_type 67 = .ok (.ireturn, 1) := by decide +kernel
theorem dX1_type_68 : decode cX1_type 68 = .ok (.aload_n 0, 1) := by decide +kernel
theorem dX1_type_69 : decode cX1_type 69 = .ok (.getfield 16, 3) := by decide +kernel
theorem dX1_type_72 : decode cX1_type 72 = .ok (.aload_n 0, 1) := by decide +kernel
theorem dX1_type_73 : decode cX1_type 73 = .ok (.getfield 7, 3) := by decide +kernel
theorem dX1_type_76 : decode cX1_type 76 = .ok (.iload_n 2, 1) := by decide +kernel
theorem dX1_type_77 : decode cX1_type 77 = .ok (.iastore, 1) := by decide +kernel
theorem dX1_type_78 : decode cX1_type 78 = .ok (.aload_n 0, 1) := by decide +kernel
theorem dX1_type_79 : decode cX1_type 79 = .ok (.dup, 1) := by decide +kernel
theorem dX1_type_80 : decode cX1_type 80 = .ok (.getfield 7, 3) := by decide +kernel
theorem dX1_type_83 : decode cX1_type 83 = .ok (.iconst 1, 1) := by decide +kernel
theorem dX1_type_84 : decode cX1_type 84 = .ok (.iadd, 1) := by decide +kernel
theorem dX1_type_85 : decode cX1_type 85 = .ok (.putfield 7, 3) := by decide +kernel
theorem dX1_type_88 : decode cX1_type 88 = .ok (.aload_n 0, 1) := by decide +kernel
theorem dX1_type_89 : decode cX1_type 89 = .ok (.getfield 7, 3) := by decide +kernel
theorem dX1_type_92 : decode cX1_type 92 = .ok (.ireturn, 1) := by decide +kernel
abbrev cX1_replace : ByteArray := prog_3_method_4_code
def yX1_replace : MethodName := ⟨RX1, "replace", "(ZII)Z"⟩
theorem dX1_replace_0 : decode cX1_replace 0 = .ok (.aload_n 0, 1) := by decide +kernel
theorem dX1_replace_1 : decode cX1_replace 1 = .ok (.iload_n 1, 1) := by decide +kernel
theorem dX1_replace_2 : decode cX1_replace 2 = .ok (.iload_n 2, 1) := by decide +kernel
theorem dX1_replace_3 : decode cX1_replace 3 = .ok (.invokevirtual 23, 3) := by decide +kernel
theorem dX1_replace_6 : decode cX1_replace 6 = .ok (.ifCond .eq 12, 3) := by decide +kernel
theorem dX1_replace_9 : decode cX1_replace 9 = .ok (.iload_n 3, 1) := by decide +kernel
theorem dX1_replace_10 : decode cX1_replace 10 = .ok (.ifCond .lt 8, 3) := by decide +kernel
theorem dX1_replace_13 : decode cX1_replace 13 = .ok (.iload_n 3, 1) := by decide +kernel
theorem dX1_replace_14 : decode cX1_replace 14 = .ok (.iconst 4, 1) := by decide +kernel
theorem dX1_replace_15 : decode cX1_replace 15 = .ok (.if_icmp .le 5, 3) := by decide +kernel
theorem dX1_replace_18 : decode cX1_replace 18 = .ok (.iconst 0, 1) := by decide +kernel
theorem dX1_replace_19 : decode cX1_replace 19 = .ok (.ireturn, 1) := by decide +kernel
theorem dX1_replace_20 : decode cX1_replace 20 = .ok (.iload_n 1, 1) := by decide +kernel
theorem dX1_replace_21 : decode cX1_replace 21 = .ok (.ifCond .eq 13, 3) := by decide +kernel
theorem dX1_replace_24 : decode cX1_replace 24 = .ok (.aload_n 0, 1) := by decide +kernel
theorem dX1_replace_25 : decode cX1_replace 25 = .ok (.getfield 20, 3) := by decide +kernel
theorem dX1_replace_28 : decode cX1_replace 28 = .ok (.iload_n 2, 1) := by decide +kernel
theorem dX1_replace_29 : decode cX1_replace 29 = .ok (.iload_n 3, 1) := by decide +kernel
theorem dX1_replace_30 : decode cX1_replace 30 = .ok (.iastore, 1) := by decide +kernel
theorem dX1_replace_31 : decode cX1_replace 31 = .ok (.goto 10, 3) := by decide +kernel
theorem dX1_replace_34 : decode cX1_replace 34 = .ok (.aload_n 0, 1) := by decide +kernel
theorem dX1_replace_35 : decode cX1_replace 35 = .ok (.getfield 16, 3) := by decide +kernel
theorem dX1_replace_38 : decode cX1_replace 38 = .ok (.iload_n 2, 1) := by decide +kernel
theorem dX1_replace_39 : decode cX1_replace 39 = .ok (.iload_n 3, 1) := by decide +kernel
theorem dX1_replace_40 : decode cX1_replace 40 = .ok (.iastore, 1) := by decide +kernel
theorem dX1_replace_41 : decode cX1_replace 41 = .ok (.iconst 1, 1) := by decide +kernel
theorem dX1_replace_42 : decode cX1_replace 42 = .ok (.ireturn, 1) := by decide +kernel
abbrev cX1_isLetter : ByteArray := prog_3_method_3_code
def yX1_isLetter : MethodName := ⟨RX1, "isLetter", "(ZI)Z"⟩
theorem dX1_isLetter_0 : decode cX1_isLetter 0 = .ok (.iload_n 2, 1) := by decide +kernel
theorem dX1_isLetter_1 : decode cX1_isLetter 1 = .ok (.ifCond .lt 26, 3) := by decide +kernel
theorem dX1_isLetter_4 : decode cX1_isLetter 4 = .ok (.iload_n 2, 1) := by decide +kernel
theorem dX1_isLetter_5 : decode cX1_isLetter 5 = .ok (.iload_n 1, 1) := by decide +kernel
theorem dX1_isLetter_6 : decode cX1_isLetter 6 = .ok (.ifCond .eq 10, 3) := by decide +kernel
theorem dX1_isLetter_9 : decode cX1_isLetter 9 = .ok (.aload_n 0, 1) := by decide +kernel
theorem dX1_isLetter_10 : decode cX1_isLetter 10 = .ok (.getfield 13, 3) := by decide +kernel
theorem dX1_isLetter_13 : decode cX1_isLetter 13 = .ok (.goto 7, 3) := by decide +kernel
theorem dX1_isLetter_16 : decode cX1_isLetter 16 = .ok (.aload_n 0, 1) := by decide +kernel
theorem dX1_isLetter_17 : decode cX1_isLetter 17 = .ok (.getfield 7, 3) := by decide +kernel
theorem dX1_isLetter_20 : decode cX1_isLetter 20 = .ok (.if_icmp .ge 7, 3) := by decide +kernel
theorem dX1_isLetter_23 : decode cX1_isLetter 23 = .ok (.iconst 1, 1) := by decide +kernel
theorem dX1_isLetter_24 : decode cX1_isLetter 24 = .ok (.goto 4, 3) := by decide +kernel
theorem dX1_isLetter_27 : decode cX1_isLetter 27 = .ok (.iconst 0, 1) := by decide +kernel
theorem dX1_isLetter_28 : decode cX1_isLetter 28 = .ok (.ireturn, 1) := by decide +kernel
abbrev cX1_shorten : ByteArray := prog_3_method_5_code
def yX1_shorten : MethodName := ⟨RX1, "shorten", "(Z)I"⟩
theorem dX1_shorten_0 : decode cX1_shorten 0 = .ok (.aload_n 0, 1) := by decide +kernel
theorem dX1_shorten_1 : decode cX1_shorten 1 = .ok (.iload_n 1, 1) := by decide +kernel
theorem dX1_shorten_2 : decode cX1_shorten 2 = .ok (.iconst 0, 1) := by decide +kernel
theorem dX1_shorten_3 : decode cX1_shorten 3 = .ok (.invokevirtual 23, 3) := by decide +kernel
theorem dX1_shorten_6 : decode cX1_shorten 6 = .ok (.ifCond .ne 6, 3) := by decide +kernel
theorem dX1_shorten_9 : decode cX1_shorten 9 = .ok (.bipush (-2), 2) := by decide +kernel
theorem dX1_shorten_11 : decode cX1_shorten 11 = .ok (.ireturn, 1) := by decide +kernel
theorem dX1_shorten_12 : decode cX1_shorten 12 = .ok (.iload_n 1, 1) := by decide +kernel
theorem dX1_shorten_13 : decode cX1_shorten 13 = .ok (.ifCond .eq 48, 3) := by decide +kernel
theorem dX1_shorten_16 : decode cX1_shorten 16 = .ok (.iconst 1, 1) := by decide +kernel
theorem dX1_shorten_17 : decode cX1_shorten 17 = .ok (.istore_n 2, 1) := by decide +kernel
theorem dX1_shorten_18 : decode cX1_shorten 18 = .ok (.iload_n 2, 1) := by decide +kernel
theorem dX1_shorten_19 : decode cX1_shorten 19 = .ok (.aload_n 0, 1) := by decide +kernel
theorem dX1_shorten_20 : decode cX1_shorten 20 = .ok (.getfield 13, 3) := by decide +kernel
theorem dX1_shorten_23 : decode cX1_shorten 23 = .ok (.if_icmp .ge 23, 3) := by decide +kernel
theorem dX1_shorten_26 : decode cX1_shorten 26 = .ok (.aload_n 0, 1) := by decide +kernel
theorem dX1_shorten_27 : decode cX1_shorten 27 = .ok (.getfield 20, 3) := by decide +kernel
theorem dX1_shorten_30 : decode cX1_shorten 30 = .ok (.iload_n 2, 1) := by decide +kernel
theorem dX1_shorten_31 : decode cX1_shorten 31 = .ok (.iconst 1, 1) := by decide +kernel
theorem dX1_shorten_32 : decode cX1_shorten 32 = .ok (.isub, 1) := by decide +kernel
theorem dX1_shorten_33 : decode cX1_shorten 33 = .ok (.aload_n 0, 1) := by decide +kernel
theorem dX1_shorten_34 : decode cX1_shorten 34 = .ok (.getfield 20, 3) := by decide +kernel
theorem dX1_shorten_37 : decode cX1_shorten 37 = .ok (.iload_n 2, 1) := by decide +kernel
theorem dX1_shorten_38 : decode cX1_shorten 38 = .ok (.iaload, 1) := by decide +kernel
theorem dX1_shorten_39 : decode cX1_shorten 39 = .ok (.iastore, 1) := by decide +kernel
theorem dX1_shorten_40 : decode cX1_shorten 40 = .ok (.iinc 2 1, 3) := by decide +kernel
theorem dX1_shorten_43 : decode cX1_shorten 43 = .ok (.goto (-25), 3) := by decide +kernel
theorem dX1_shorten_46 : decode cX1_shorten 46 = .ok (.aload_n 0, 1) := by decide +kernel
theorem dX1_shorten_47 : decode cX1_shorten 47 = .ok (.dup, 1) := by decide +kernel
theorem dX1_shorten_48 : decode cX1_shorten 48 = .ok (.getfield 13, 3) := by decide +kernel
theorem dX1_shorten_51 : decode cX1_shorten 51 = .ok (.iconst 1, 1) := by decide +kernel
theorem dX1_shorten_52 : decode cX1_shorten 52 = .ok (.isub, 1) := by decide +kernel
theorem dX1_shorten_53 : decode cX1_shorten 53 = .ok (.putfield 13, 3) := by decide +kernel
theorem dX1_shorten_56 : decode cX1_shorten 56 = .ok (.aload_n 0, 1) := by decide +kernel
theorem dX1_shorten_57 : decode cX1_shorten 57 = .ok (.getfield 13, 3) := by decide +kernel
theorem dX1_shorten_60 : decode cX1_shorten 60 = .ok (.ireturn, 1) := by decide +kernel
theorem dX1_shorten_61 : decode cX1_shorten 61 = .ok (.iconst 1, 1) := by decide +kernel
theorem dX1_shorten_62 : decode cX1_shorten 62 = .ok (.istore_n 2, 1) := by decide +kernel
theorem dX1_shorten_63 : decode cX1_shorten 63 = .ok (.iload_n 2, 1) := by decide +kernel
theorem dX1_shorten_64 : decode cX1_shorten 64 = .ok (.aload_n 0, 1) := by decide +kernel
theorem dX1_shorten_65 : decode cX1_shorten 65 = .ok (.getfield 7, 3) := by decide +kernel
theorem dX1_shorten_68 : decode cX1_shorten 68 = .ok (.if_icmp .ge 23, 3) := by decide +kernel
theorem dX1_shorten_71 : decode cX1_shorten 71 = .ok (.aload_n 0, 1) := by decide +kernel
theorem dX1_shorten_72 : decode cX1_shorten 72 = .ok (.getfield 16, 3) := by decide +kernel
theorem dX1_shorten_75 : decode cX1_shorten 75 = .ok (.iload_n 2, 1) := by decide +kernel
theorem dX1_shorten_76 : decode cX1_shorten 76 = .ok (.iconst 1, 1) := by decide +kernel
theorem dX1_shorten_77 : decode cX1_shorten 77 = .ok (.isub, 1) := by decide +kernel
theorem dX1_shorten_78 : decode cX1_shorten 78 = .ok (.aload_n 0, 1) := by decide +kernel
theorem dX1_shorten_79 : decode cX1_shorten 79 = .ok (.getfield 16, 3) := by decide +kernel
theorem dX1_shorten_82 : decode cX1_shorten 82 = .ok (.iload_n 2, 1) := by decide +kernel
theorem dX1_shorten_83 : decode cX1_shorten 83 = .ok (.iaload, 1) := by decide +kernel
theorem dX1_shorten_84 : decode cX1_shorten 84 = .ok (.iastore, 1) := by decide +kernel
theorem dX1_shorten_85 : decode cX1_shorten 85 = .ok (.iinc 2 1, 3) := by decide +kernel
theorem dX1_shorten_88 : decode cX1_shorten 88 = .ok (.goto (-25), 3) := by decide +kernel
theorem dX1_shorten_91 : decode cX1_shorten 91 = .ok (.aload_n 0, 1) := by decide +kernel
theorem dX1_shorten_92 : decode cX1_shorten 92 = .ok (.dup, 1) := by decide +kernel
theorem dX1_shorten_93 : decode cX1_shorten 93 = .ok (.getfield 7, 3) := by decide +kernel
theorem dX1_shorten_96 : decode cX1_shorten 96 = .ok (.iconst 1, 1) := by decide +kernel
theorem dX1_shorten_97 : decode cX1_shorten 97 = .ok (.isub, 1) := by decide +kernel
theorem dX1_shorten_98 : decode cX1_shorten 98 = .ok (.putfield 7, 3) := by decide +kernel
theorem dX1_shorten_101 : decode cX1_shorten 101 = .ok (.aload_n 0, 1) := by decide +kernel
theorem dX1_shorten_102 : decode cX1_shorten 102 = .ok (.getfield 7, 3) := by decide +kernel
theorem dX1_shorten_105 : decode cX1_shorten 105 = .ok (.ireturn, 1) := by decide +kernel
abbrev cX1_letter : ByteArray := prog_3_method_6_code
def yX1_letter : MethodName := ⟨RX1, "letter", "(ZI)I"⟩
theorem dX1_letter_0 : decode cX1_letter 0 = .ok (.aload_n 0, 1) := by decide +kernel
theorem dX1_letter_1 : decode cX1_letter 1 = .ok (.iload_n 1, 1) := by decide +kernel
theorem dX1_letter_2 : decode cX1_letter 2 = .ok (.iload_n 2, 1) := by decide +kernel
theorem dX1_letter_3 : decode cX1_letter 3 = .ok (.invokevirtual 23, 3) := by decide +kernel
theorem dX1_letter_6 : decode cX1_letter 6 = .ok (.ifCond .ne 6, 3) := by decide +kernel
theorem dX1_letter_9 : decode cX1_letter 9 = .ok (.bipush (-2), 2) := by decide +kernel
theorem dX1_letter_11 : decode cX1_letter 11 = .ok (.ireturn, 1) := by decide +kernel
theorem dX1_letter_12 : decode cX1_letter 12 = .ok (.iload_n 1, 1) := by decide +kernel
theorem dX1_letter_13 : decode cX1_letter 13 = .ok (.ifCond .eq 12, 3) := by decide +kernel
theorem dX1_letter_16 : decode cX1_letter 16 = .ok (.aload_n 0, 1) := by decide +kernel
theorem dX1_letter_17 : decode cX1_letter 17 = .ok (.getfield 20, 3) := by decide +kernel
theorem dX1_letter_20 : decode cX1_letter 20 = .ok (.iload_n 2, 1) := by decide +kernel
theorem dX1_letter_21 : decode cX1_letter 21 = .ok (.iaload, 1) := by decide +kernel
theorem dX1_letter_22 : decode cX1_letter 22 = .ok (.goto 9, 3) := by decide +kernel
theorem dX1_letter_25 : decode cX1_letter 25 = .ok (.aload_n 0, 1) := by decide +kernel
theorem dX1_letter_26 : decode cX1_letter 26 = .ok (.getfield 16, 3) := by decide +kernel
theorem dX1_letter_29 : decode cX1_letter 29 = .ok (.iload_n 2, 1) := by decide +kernel
theorem dX1_letter_30 : decode cX1_letter 30 = .ok (.iaload, 1) := by decide +kernel
theorem dX1_letter_31 : decode cX1_letter 31 = .ok (.ireturn, 1) := by decide +kernel
abbrev cX1_length : ByteArray := prog_3_method_7_code
def yX1_length : MethodName := ⟨RX1, "length", "(Z)I"⟩
theorem dX1_length_0 : decode cX1_length 0 = .ok (.iload_n 1, 1) := by decide +kernel
theorem dX1_length_1 : decode cX1_length 1 = .ok (.ifCond .eq 10, 3) := by decide +kernel
theorem dX1_length_4 : decode cX1_length 4 = .ok (.aload_n 0, 1) := by decide +kernel
theorem dX1_length_5 : decode cX1_length 5 = .ok (.getfield 13, 3) := by decide +kernel
theorem dX1_length_8 : decode cX1_length 8 = .ok (.goto 7, 3) := by decide +kernel
theorem dX1_length_11 : decode cX1_length 11 = .ok (.aload_n 0, 1) := by decide +kernel
theorem dX1_length_12 : decode cX1_length 12 = .ok (.getfield 7, 3) := by decide +kernel
theorem dX1_length_15 : decode cX1_length 15 = .ok (.ireturn, 1) := by decide +kernel
abbrev cX1_matches : ByteArray := prog_3_method_10_code
def yX1_matches : MethodName := ⟨RX1, "matches", "(I)Z"⟩
theorem dX1_matches_0 : decode cX1_matches 0 = .ok (.aload_n 0, 1) := by decide +kernel
theorem dX1_matches_1 : decode cX1_matches 1 = .ok (.iload_n 1, 1) := by decide +kernel
theorem dX1_matches_2 : decode cX1_matches 2 = .ok (.invokevirtual 27, 3) := by decide +kernel
theorem dX1_matches_5 : decode cX1_matches 5 = .ok (.ifCond .eq 15, 3) := by decide +kernel
theorem dX1_matches_8 : decode cX1_matches 8 = .ok (.aload_n 0, 1) := by decide +kernel
theorem dX1_matches_9 : decode cX1_matches 9 = .ok (.iload_n 1, 1) := by decide +kernel
theorem dX1_matches_10 : decode cX1_matches 10 = .ok (.invokevirtual 31, 3) := by decide +kernel
theorem dX1_matches_13 : decode cX1_matches 13 = .ok (.ifCond .ne 7, 3) := by decide +kernel
theorem dX1_matches_16 : decode cX1_matches 16 = .ok (.iconst 1, 1) := by decide +kernel
theorem dX1_matches_17 : decode cX1_matches 17 = .ok (.goto 4, 3) := by decide +kernel
theorem dX1_matches_20 : decode cX1_matches 20 = .ok (.iconst 0, 1) := by decide +kernel
theorem dX1_matches_21 : decode cX1_matches 21 = .ok (.ireturn, 1) := by decide +kernel
abbrev cX1_isShift : ByteArray := prog_3_method_8_code
def yX1_isShift : MethodName := ⟨RX1, "isShift", "(I)Z"⟩
theorem dX1_isShift_0 : decode cX1_isShift 0 = .ok (.iload_n 1, 1) := by decide +kernel
theorem dX1_isShift_1 : decode cX1_isShift 1 = .ok (.ifCond .lt 20, 3) := by decide +kernel
theorem dX1_isShift_4 : decode cX1_isShift 4 = .ok (.iload_n 1, 1) := by decide +kernel
theorem dX1_isShift_5 : decode cX1_isShift 5 = .ok (.aload_n 0, 1) := by decide +kernel
theorem dX1_isShift_6 : decode cX1_isShift 6 = .ok (.getfield 7, 3) := by decide +kernel
theorem dX1_isShift_9 : decode cX1_isShift 9 = .ok (.aload_n 0, 1) := by decide +kernel
theorem dX1_isShift_10 : decode cX1_isShift 10 = .ok (.getfield 13, 3) := by decide +kernel
theorem dX1_isShift_13 : decode cX1_isShift 13 = .ok (.isub, 1) := by decide +kernel
theorem dX1_isShift_14 : decode cX1_isShift 14 = .ok (.if_icmp .gt 7, 3) := by decide +kernel
theorem dX1_isShift_17 : decode cX1_isShift 17 = .ok (.iconst 1, 1) := by decide +kernel
theorem dX1_isShift_18 : decode cX1_isShift 18 = .ok (.goto 4, 3) := by decide +kernel
theorem dX1_isShift_21 : decode cX1_isShift 21 = .ok (.iconst 0, 1) := by decide +kernel
theorem dX1_isShift_22 : decode cX1_isShift 22 = .ok (.ireturn, 1) := by decide +kernel
abbrev cX1_differing : ByteArray := prog_3_method_9_code
def yX1_differing : MethodName := ⟨RX1, "differing", "(I)I"⟩
theorem dX1_differing_0 : decode cX1_differing 0 = .ok (.iconst 0, 1) := by decide +kernel
theorem dX1_differing_1 : decode cX1_differing 1 = .ok (.istore_n 2, 1) := by decide +kernel
theorem dX1_differing_2 : decode cX1_differing 2 = .ok (.iconst 0, 1) := by decide +kernel
theorem dX1_differing_3 : decode cX1_differing 3 = .ok (.istore_n 3, 1) := by decide +kernel
theorem dX1_differing_4 : decode cX1_differing 4 = .ok (.iload_n 3, 1) := by decide +kernel
theorem dX1_differing_5 : decode cX1_differing 5 = .ok (.aload_n 0, 1) := by decide +kernel
theorem dX1_differing_6 : decode cX1_differing 6 = .ok (.getfield 13, 3) := by decide +kernel
theorem dX1_differing_9 : decode cX1_differing 9 = .ok (.if_icmp .ge 64, 3) := by decide +kernel
theorem dX1_differing_12 : decode cX1_differing 12 = .ok (.aload_n 0, 1) := by decide +kernel
theorem dX1_differing_13 : decode cX1_differing 13 = .ok (.getfield 16, 3) := by decide +kernel
theorem dX1_differing_16 : decode cX1_differing 16 = .ok (.aload_n 0, 1) := by decide +kernel
theorem dX1_differing_17 : decode cX1_differing 17 = .ok (.getfield 7, 3) := by decide +kernel
theorem dX1_differing_20 : decode cX1_differing 20 = .ok (.iconst 1, 1) := by decide +kernel
theorem dX1_differing_21 : decode cX1_differing 21 = .ok (.if_icmp .ge 7, 3) := by decide +kernel
theorem dX1_differing_24 : decode cX1_differing 24 = .ok (.iconst 0, 1) := by decide +kernel
theorem dX1_differing_25 : decode cX1_differing 25 = .ok (.goto 11, 3) := by decide +kernel
theorem dX1_differing_28 : decode cX1_differing 28 = .ok (.iload_n 1, 1) := by decide +kernel
theorem dX1_differing_29 : decode cX1_differing 29 = .ok (.iload_n 3, 1) := by decide +kernel
theorem dX1_differing_30 : decode cX1_differing 30 = .ok (.iadd, 1) := by decide +kernel
theorem dX1_differing_31 : decode cX1_differing 31 = .ok (.aload_n 0, 1) := by decide +kernel
theorem dX1_differing_32 : decode cX1_differing 32 = .ok (.getfield 7, 3) := by decide +kernel
theorem dX1_differing_35 : decode cX1_differing 35 = .ok (.irem, 1) := by decide +kernel
theorem dX1_differing_36 : decode cX1_differing 36 = .ok (.iaload, 1) := by decide +kernel
theorem dX1_differing_37 : decode cX1_differing 37 = .ok (.istore 4, 2) := by decide +kernel
theorem dX1_differing_39 : decode cX1_differing 39 = .ok (.aload_n 0, 1) := by decide +kernel
theorem dX1_differing_40 : decode cX1_differing 40 = .ok (.getfield 20, 3) := by decide +kernel
theorem dX1_differing_43 : decode cX1_differing 43 = .ok (.iload_n 3, 1) := by decide +kernel
theorem dX1_differing_44 : decode cX1_differing 44 = .ok (.iaload, 1) := by decide +kernel
theorem dX1_differing_45 : decode cX1_differing 45 = .ok (.istore 5, 2) := by decide +kernel
theorem dX1_differing_47 : decode cX1_differing 47 = .ok (.iload 4, 2) := by decide +kernel
theorem dX1_differing_49 : decode cX1_differing 49 = .ok (.iload 5, 2) := by decide +kernel
theorem dX1_differing_51 : decode cX1_differing 51 = .ok (.if_icmp .eq 16, 3) := by decide +kernel
theorem dX1_differing_54 : decode cX1_differing 54 = .ok (.iload 4, 2) := by decide +kernel
theorem dX1_differing_56 : decode cX1_differing 56 = .ok (.ifCond .eq 11, 3) := by decide +kernel
theorem dX1_differing_59 : decode cX1_differing 59 = .ok (.iload 5, 2) := by decide +kernel
theorem dX1_differing_61 : decode cX1_differing 61 = .ok (.ifCond .eq 6, 3) := by decide +kernel
theorem dX1_differing_64 : decode cX1_differing 64 = .ok (.iinc 2 1, 3) := by decide +kernel
theorem dX1_differing_67 : decode cX1_differing 67 = .ok (.iinc 3 1, 3) := by decide +kernel
theorem dX1_differing_70 : decode cX1_differing 70 = .ok (.goto (-66), 3) := by decide +kernel
theorem dX1_differing_73 : decode cX1_differing 73 = .ok (.iload_n 2, 1) := by decide +kernel
theorem dX1_differing_74 : decode cX1_differing 74 = .ok (.ireturn, 1) := by decide +kernel
abbrev cX1_matchCount : ByteArray := prog_3_method_11_code
def yX1_matchCount : MethodName := ⟨RX1, "matchCount", "()I"⟩
theorem dX1_matchCount_0 : decode cX1_matchCount 0 = .ok (.iconst 0, 1) := by decide +kernel
theorem dX1_matchCount_1 : decode cX1_matchCount 1 = .ok (.istore_n 1, 1) := by decide +kernel
theorem dX1_matchCount_2 : decode cX1_matchCount 2 = .ok (.iconst 0, 1) := by decide +kernel
theorem dX1_matchCount_3 : decode cX1_matchCount 3 = .ok (.istore_n 2, 1) := by decide +kernel
theorem dX1_matchCount_4 : decode cX1_matchCount 4 = .ok (.iload_n 2, 1) := by decide +kernel
theorem dX1_matchCount_5 : decode cX1_matchCount 5 = .ok (.aload_n 0, 1) := by decide +kernel
theorem dX1_matchCount_6 : decode cX1_matchCount 6 = .ok (.getfield 7, 3) := by decide +kernel
theorem dX1_matchCount_9 : decode cX1_matchCount 9 = .ok (.aload_n 0, 1) := by decide +kernel
theorem dX1_matchCount_10 : decode cX1_matchCount 10 = .ok (.getfield 13, 3) := by decide +kernel
theorem dX1_matchCount_13 : decode cX1_matchCount 13 = .ok (.isub, 1) := by decide +kernel
theorem dX1_matchCount_14 : decode cX1_matchCount 14 = .ok (.if_icmp .gt 20, 3) := by decide +kernel
theorem dX1_matchCount_17 : decode cX1_matchCount 17 = .ok (.aload_n 0, 1) := by decide +kernel
theorem dX1_matchCount_18 : decode cX1_matchCount 18 = .ok (.iload_n 2, 1) := by decide +kernel
theorem dX1_matchCount_19 : decode cX1_matchCount 19 = .ok (.invokevirtual 35, 3) := by decide +kernel
theorem dX1_matchCount_22 : decode cX1_matchCount 22 = .ok (.ifCond .eq 6, 3) := by decide +kernel
theorem dX1_matchCount_25 : decode cX1_matchCount 25 = .ok (.iinc 1 1, 3) := by decide +kernel
theorem dX1_matchCount_28 : decode cX1_matchCount 28 = .ok (.iinc 2 1, 3) := by decide +kernel
theorem dX1_matchCount_31 : decode cX1_matchCount 31 = .ok (.goto (-27), 3) := by decide +kernel
theorem dX1_matchCount_34 : decode cX1_matchCount 34 = .ok (.iload_n 1, 1) := by decide +kernel
theorem dX1_matchCount_35 : decode cX1_matchCount 35 = .ok (.ireturn, 1) := by decide +kernel
abbrev cX1_nextMatch : ByteArray := prog_3_method_12_code
def yX1_nextMatch : MethodName := ⟨RX1, "nextMatch", "(I)I"⟩
theorem dX1_nextMatch_0 : decode cX1_nextMatch 0 = .ok (.iconst 0, 1) := by decide +kernel
theorem dX1_nextMatch_1 : decode cX1_nextMatch 1 = .ok (.istore_n 2, 1) := by decide +kernel
theorem dX1_nextMatch_2 : decode cX1_nextMatch 2 = .ok (.iload_n 2, 1) := by decide +kernel
theorem dX1_nextMatch_3 : decode cX1_nextMatch 3 = .ok (.aload_n 0, 1) := by decide +kernel
theorem dX1_nextMatch_4 : decode cX1_nextMatch 4 = .ok (.getfield 7, 3) := by decide +kernel
theorem dX1_nextMatch_7 : decode cX1_nextMatch 7 = .ok (.aload_n 0, 1) := by decide +kernel
theorem dX1_nextMatch_8 : decode cX1_nextMatch 8 = .ok (.getfield 13, 3) := by decide +kernel
theorem dX1_nextMatch_11 : decode cX1_nextMatch 11 = .ok (.isub, 1) := by decide +kernel
theorem dX1_nextMatch_12 : decode cX1_nextMatch 12 = .ok (.if_icmp .gt 24, 3) := by decide +kernel
theorem dX1_nextMatch_15 : decode cX1_nextMatch 15 = .ok (.iload_n 2, 1) := by decide +kernel
theorem dX1_nextMatch_16 : decode cX1_nextMatch 16 = .ok (.iload_n 1, 1) := by decide +kernel
theorem dX1_nextMatch_17 : decode cX1_nextMatch 17 = .ok (.if_icmp .lt 13, 3) := by decide +kernel
theorem dX1_nextMatch_20 : decode cX1_nextMatch 20 = .ok (.aload_n 0, 1) := by decide +kernel
theorem dX1_nextMatch_21 : decode cX1_nextMatch 21 = .ok (.iload_n 2, 1) := by decide +kernel
theorem dX1_nextMatch_22 : decode cX1_nextMatch 22 = .ok (.invokevirtual 35, 3) := by decide +kernel
theorem dX1_nextMatch_25 : decode cX1_nextMatch 25 = .ok (.ifCond .eq 5, 3) := by decide +kernel
theorem dX1_nextMatch_28 : decode cX1_nextMatch 28 = .ok (.iload_n 2, 1) := by decide +kernel
theorem dX1_nextMatch_29 : decode cX1_nextMatch 29 = .ok (.ireturn, 1) := by decide +kernel
theorem dX1_nextMatch_30 : decode cX1_nextMatch 30 = .ok (.iinc 2 1, 3) := by decide +kernel
theorem dX1_nextMatch_33 : decode cX1_nextMatch 33 = .ok (.goto (-31), 3) := by decide +kernel
theorem dX1_nextMatch_36 : decode cX1_nextMatch 36 = .ok (.bipush (-3), 2) := by decide +kernel
theorem dX1_nextMatch_38 : decode cX1_nextMatch 38 = .ok (.ireturn, 1) := by decide +kernel
abbrev cX1_mismatches : ByteArray := prog_3_method_13_code
def yX1_mismatches : MethodName := ⟨RX1, "mismatches", "(I)I"⟩
theorem dX1_mismatches_0 : decode cX1_mismatches 0 = .ok (.aload_n 0, 1) := by decide +kernel
theorem dX1_mismatches_1 : decode cX1_mismatches 1 = .ok (.iload_n 1, 1) := by decide +kernel
theorem dX1_mismatches_2 : decode cX1_mismatches 2 = .ok (.invokevirtual 27, 3) := by decide +kernel
theorem dX1_mismatches_5 : decode cX1_mismatches 5 = .ok (.ifCond .eq 11, 3) := by decide +kernel
theorem dX1_mismatches_8 : decode cX1_mismatches 8 = .ok (.aload_n 0, 1) := by decide +kernel
theorem dX1_mismatches_9 : decode cX1_mismatches 9 = .ok (.iload_n 1, 1) := by decide +kernel
theorem dX1_mismatches_10 : decode cX1_mismatches 10 = .ok (.invokevirtual 31, 3) := by decide +kernel
theorem dX1_mismatches_13 : decode cX1_mismatches 13 = .ok (.goto 5, 3) := by decide +kernel
theorem dX1_mismatches_16 : decode cX1_mismatches 16 = .ok (.bipush (-2), 2) := by decide +kernel
theorem dX1_mismatches_18 : decode cX1_mismatches 18 = .ok (.ireturn, 1) := by decide +kernel
abbrev cX1_bestShift : ByteArray := prog_3_method_14_code
def yX1_bestShift : MethodName := ⟨RX1, "bestShift", "()I"⟩
theorem dX1_bestShift_0 : decode cX1_bestShift 0 = .ok (.bipush (-3), 2) := by decide +kernel
theorem dX1_bestShift_2 : decode cX1_bestShift 2 = .ok (.istore_n 1, 1) := by decide +kernel
theorem dX1_bestShift_3 : decode cX1_bestShift 3 = .ok (.bipush 100, 2) := by decide +kernel
theorem dX1_bestShift_5 : decode cX1_bestShift 5 = .ok (.istore_n 2, 1) := by decide +kernel
theorem dX1_bestShift_6 : decode cX1_bestShift 6 = .ok (.iconst 0, 1) := by decide +kernel
theorem dX1_bestShift_7 : decode cX1_bestShift 7 = .ok (.istore_n 3, 1) := by decide +kernel
theorem dX1_bestShift_8 : decode cX1_bestShift 8 = .ok (.iload_n 3, 1) := by decide +kernel
theorem dX1_bestShift_9 : decode cX1_bestShift 9 = .ok (.aload_n 0, 1) := by decide +kernel
theorem dX1_bestShift_10 : decode cX1_bestShift 10 = .ok (.getfield 7, 3) := by decide +kernel
theorem dX1_bestShift_13 : decode cX1_bestShift 13 = .ok (.aload_n 0, 1) := by decide +kernel
theorem dX1_bestShift_14 : decode cX1_bestShift 14 = .ok (.getfield 13, 3) := by decide +kernel
theorem dX1_bestShift_17 : decode cX1_bestShift 17 = .ok (.isub, 1) := by decide +kernel
theorem dX1_bestShift_18 : decode cX1_bestShift 18 = .ok (.if_icmp .gt 27, 3) := by decide +kernel
theorem dX1_bestShift_21 : decode cX1_bestShift 21 = .ok (.aload_n 0, 1) := by decide +kernel
theorem dX1_bestShift_22 : decode cX1_bestShift 22 = .ok (.iload_n 3, 1) := by decide +kernel
theorem dX1_bestShift_23 : decode cX1_bestShift 23 = .ok (.invokevirtual 31, 3) := by decide +kernel
theorem dX1_bestShift_26 : decode cX1_bestShift 26 = .ok (.istore 4, 2) := by decide +kernel
theorem dX1_bestShift_28 : decode cX1_bestShift 28 = .ok (.iload 4, 2) := by decide +kernel
theorem dX1_bestShift_30 : decode cX1_bestShift 30 = .ok (.iload_n 2, 1) := by decide +kernel
theorem dX1_bestShift_31 : decode cX1_bestShift 31 = .ok (.if_icmp .ge 8, 3) := by decide +kernel
theorem dX1_bestShift_34 : decode cX1_bestShift 34 = .ok (.iload 4, 2) := by decide +kernel
theorem dX1_bestShift_36 : decode cX1_bestShift 36 = .ok (.istore_n 2, 1) := by decide +kernel
theorem dX1_bestShift_37 : decode cX1_bestShift 37 = .ok (.iload_n 3, 1) := by decide +kernel
theorem dX1_bestShift_38 : decode cX1_bestShift 38 = .ok (.istore_n 1, 1) := by decide +kernel
theorem dX1_bestShift_39 : decode cX1_bestShift 39 = .ok (.iinc 3 1, 3) := by decide +kernel
theorem dX1_bestShift_42 : decode cX1_bestShift 42 = .ok (.goto (-34), 3) := by decide +kernel
theorem dX1_bestShift_45 : decode cX1_bestShift 45 = .ok (.iload_n 1, 1) := by decide +kernel
theorem dX1_bestShift_46 : decode cX1_bestShift 46 = .ok (.ireturn, 1) := by decide +kernel
abbrev cX1_within : ByteArray := prog_3_method_15_code
def yX1_within : MethodName := ⟨RX1, "within", "(I)I"⟩
theorem dX1_within_0 : decode cX1_within 0 = .ok (.iconst 0, 1) := by decide +kernel
theorem dX1_within_1 : decode cX1_within 1 = .ok (.istore_n 2, 1) := by decide +kernel
theorem dX1_within_2 : decode cX1_within 2 = .ok (.iconst 0, 1) := by decide +kernel
theorem dX1_within_3 : decode cX1_within 3 = .ok (.istore_n 3, 1) := by decide +kernel
theorem dX1_within_4 : decode cX1_within 4 = .ok (.iload_n 3, 1) := by decide +kernel
theorem dX1_within_5 : decode cX1_within 5 = .ok (.aload_n 0, 1) := by decide +kernel
theorem dX1_within_6 : decode cX1_within 6 = .ok (.getfield 7, 3) := by decide +kernel
theorem dX1_within_9 : decode cX1_within 9 = .ok (.aload_n 0, 1) := by decide +kernel
theorem dX1_within_10 : decode cX1_within 10 = .ok (.getfield 13, 3) := by decide +kernel
theorem dX1_within_13 : decode cX1_within 13 = .ok (.isub, 1) := by decide +kernel
theorem dX1_within_14 : decode cX1_within 14 = .ok (.if_icmp .gt 21, 3) := by decide +kernel
theorem dX1_within_17 : decode cX1_within 17 = .ok (.aload_n 0, 1) := by decide +kernel
theorem dX1_within_18 : decode cX1_within 18 = .ok (.iload_n 3, 1) := by decide +kernel
theorem dX1_within_19 : decode cX1_within 19 = .ok (.invokevirtual 31, 3) := by decide +kernel
theorem dX1_within_22 : decode cX1_within 22 = .ok (.iload_n 1, 1) := by decide +kernel
theorem dX1_within_23 : decode cX1_within 23 = .ok (.if_icmp .gt 6, 3) := by decide +kernel
theorem dX1_within_26 : decode cX1_within 26 = .ok (.iinc 2 1, 3) := by decide +kernel
theorem dX1_within_29 : decode cX1_within 29 = .ok (.iinc 3 1, 3) := by decide +kernel
theorem dX1_within_32 : decode cX1_within 32 = .ok (.goto (-28), 3) := by decide +kernel
theorem dX1_within_35 : decode cX1_within 35 = .ok (.iload_n 2, 1) := by decide +kernel
theorem dX1_within_36 : decode cX1_within 36 = .ok (.ireturn, 1) := by decide +kernel
abbrev cX1_turnedMismatches : ByteArray := prog_3_method_16_code
def yX1_turnedMismatches : MethodName := ⟨RX1, "turnedMismatches", "(I)I"⟩
theorem dX1_turnedMismatches_0 : decode cX1_turnedMismatches 0 = .ok (.iload_n 1, 1) := by decide +kernel
theorem dX1_turnedMismatches_1 : decode cX1_turnedMismatches 1 = .ok (.ifCond .lt 30, 3) := by decide +kernel
theorem dX1_turnedMismatches_4 : decode cX1_turnedMismatches 4 = .ok (.iload_n 1, 1) := by decide +kernel
theorem dX1_turnedMismatches_5 : decode cX1_turnedMismatches 5 = .ok (.aload_n 0, 1) := by decide +kernel
theorem dX1_turnedMismatches_6 : decode cX1_turnedMismatches 6 = .ok (.getfield 7, 3) := by decide +kernel
theorem dX1_turnedMismatches_9 : decode cX1_turnedMismatches 9 = .ok (.if_icmp .ge 22, 3) := by decide +kernel
theorem dX1_turnedMismatches_12 : decode cX1_turnedMismatches 12 = .ok (.aload_n 0, 1) := by decide +kernel
theorem dX1_turnedMismatches_13 : decode cX1_turnedMismatches 13 = .ok (.getfield 13, 3) := by decide +kernel
theorem dX1_turnedMismatches_16 : decode cX1_turnedMismatches 16 = .ok (.aload_n 0, 1) := by decide +kernel
theorem dX1_turnedMismatches_17 : decode cX1_turnedMismatches 17 = .ok (.getfield 7, 3) := by decide +kernel
theorem dX1_turnedMismatches_20 : decode cX1_turnedMismatches 20 = .ok (.if_icmp .gt 11, 3) := by decide +kernel
theorem dX1_turnedMismatches_23 : decode cX1_turnedMismatches 23 = .ok (.aload_n 0, 1) := by decide +kernel
theorem dX1_turnedMismatches_24 : decode cX1_turnedMismatches 24 = .ok (.iload_n 1, 1) := by decide +kernel
theorem dX1_turnedMismatches_25 : decode cX1_turnedMismatches 25 = .ok (.invokevirtual 31, 3) := by decide +kernel
theorem dX1_turnedMismatches_28 : decode cX1_turnedMismatches 28 = .ok (.goto 5, 3) := by decide +kernel
theorem dX1_turnedMismatches_31 : decode cX1_turnedMismatches 31 = .ok (.bipush (-2), 2) := by decide +kernel
theorem dX1_turnedMismatches_33 : decode cX1_turnedMismatches 33 = .ok (.ireturn, 1) := by decide +kernel
end
section
set_option maxRecDepth 100000
/-! the law's own entry -/
abbrev cL_law : ByteArray := code
theorem dL_law_0 : decode cL_law 0 = .ok (.new 7, 3) := by decide +kernel
theorem dL_law_3 : decode cL_law 3 = .ok (.dup, 1) := by decide +kernel
theorem dL_law_4 : decode cL_law 4 = .ok (.invokespecial 9, 3) := by decide +kernel
theorem dL_law_7 : decode cL_law 7 = .ok (.astore_n 1, 1) := by decide +kernel
theorem dL_law_8 : decode cL_law 8 = .ok (.new 10, 3) := by decide +kernel
theorem dL_law_11 : decode cL_law 11 = .ok (.dup, 1) := by decide +kernel
theorem dL_law_12 : decode cL_law 12 = .ok (.invokespecial 12, 3) := by decide +kernel
theorem dL_law_15 : decode cL_law 15 = .ok (.astore_n 2, 1) := by decide +kernel
theorem dL_law_16 : decode cL_law 16 = .ok (.iconst 0, 1) := by decide +kernel
theorem dL_law_17 : decode cL_law 17 = .ok (.istore_n 3, 1) := by decide +kernel
theorem dL_law_18 : decode cL_law 18 = .ok (.iload_n 3, 1) := by decide +kernel
theorem dL_law_19 : decode cL_law 19 = .ok (.aload_n 0, 1) := by decide +kernel
theorem dL_law_20 : decode cL_law 20 = .ok (.arraylength, 1) := by decide +kernel
theorem dL_law_21 : decode cL_law 21 = .ok (.iconst 4, 1) := by decide +kernel
theorem dL_law_22 : decode cL_law 22 = .ok (.isub, 1) := by decide +kernel
theorem dL_law_23 : decode cL_law 23 = .ok (.if_icmp .gt 455, 3) := by decide +kernel
theorem dL_law_26 : decode cL_law 26 = .ok (.aload_n 0, 1) := by decide +kernel
theorem dL_law_27 : decode cL_law 27 = .ok (.iload_n 3, 1) := by decide +kernel
theorem dL_law_28 : decode cL_law 28 = .ok (.iaload, 1) := by decide +kernel
theorem dL_law_29 : decode cL_law 29 = .ok (.bipush 15, 2) := by decide +kernel
theorem dL_law_31 : decode cL_law 31 = .ok (.iand, 1) := by decide +kernel
theorem dL_law_32 : decode cL_law 32 = .ok (.tableswitch 440 0 11 #[64, 113, 172, 211, 260, 299, 322, 335, 358, 381, 394, 417], 64) := by decide +kernel
theorem dL_law_96 : decode cL_law 96 = .ok (.aload_n 1, 1) := by decide +kernel
theorem dL_law_97 : decode cL_law 97 = .ok (.aload_n 0, 1) := by decide +kernel
theorem dL_law_98 : decode cL_law 98 = .ok (.iload_n 3, 1) := by decide +kernel
theorem dL_law_99 : decode cL_law 99 = .ok (.iconst 1, 1) := by decide +kernel
theorem dL_law_100 : decode cL_law 100 = .ok (.iadd, 1) := by decide +kernel
theorem dL_law_101 : decode cL_law 101 = .ok (.iaload, 1) := by decide +kernel
theorem dL_law_102 : decode cL_law 102 = .ok (.ifCond .eq 7, 3) := by decide +kernel
theorem dL_law_105 : decode cL_law 105 = .ok (.iconst 1, 1) := by decide +kernel
theorem dL_law_106 : decode cL_law 106 = .ok (.goto 4, 3) := by decide +kernel
theorem dL_law_109 : decode cL_law 109 = .ok (.iconst 0, 1) := by decide +kernel
theorem dL_law_110 : decode cL_law 110 = .ok (.aload_n 0, 1) := by decide +kernel
theorem dL_law_111 : decode cL_law 111 = .ok (.iload_n 3, 1) := by decide +kernel
theorem dL_law_112 : decode cL_law 112 = .ok (.iconst 2, 1) := by decide +kernel
theorem dL_law_113 : decode cL_law 113 = .ok (.iadd, 1) := by decide +kernel
theorem dL_law_114 : decode cL_law 114 = .ok (.iaload, 1) := by decide +kernel
theorem dL_law_115 : decode cL_law 115 = .ok (.invokevirtual 13, 3) := by decide +kernel
theorem dL_law_118 : decode cL_law 118 = .ok (.aload_n 2, 1) := by decide +kernel
theorem dL_law_119 : decode cL_law 119 = .ok (.aload_n 0, 1) := by decide +kernel
theorem dL_law_120 : decode cL_law 120 = .ok (.iload_n 3, 1) := by decide +kernel
theorem dL_law_121 : decode cL_law 121 = .ok (.iconst 1, 1) := by decide +kernel
theorem dL_law_122 : decode cL_law 122 = .ok (.iadd, 1) := by decide +kernel
theorem dL_law_123 : decode cL_law 123 = .ok (.iaload, 1) := by decide +kernel
theorem dL_law_124 : decode cL_law 124 = .ok (.ifCond .eq 7, 3) := by decide +kernel
theorem dL_law_127 : decode cL_law 127 = .ok (.iconst 1, 1) := by decide +kernel
theorem dL_law_128 : decode cL_law 128 = .ok (.goto 4, 3) := by decide +kernel
theorem dL_law_131 : decode cL_law 131 = .ok (.iconst 0, 1) := by decide +kernel
theorem dL_law_132 : decode cL_law 132 = .ok (.aload_n 0, 1) := by decide +kernel
theorem dL_law_133 : decode cL_law 133 = .ok (.iload_n 3, 1) := by decide +kernel
theorem dL_law_134 : decode cL_law 134 = .ok (.iconst 2, 1) := by decide +kernel
theorem dL_law_135 : decode cL_law 135 = .ok (.iadd, 1) := by decide +kernel
theorem dL_law_136 : decode cL_law 136 = .ok (.iaload, 1) := by decide +kernel
theorem dL_law_137 : decode cL_law 137 = .ok (.invokevirtual 17, 3) := by decide +kernel
theorem dL_law_140 : decode cL_law 140 = .ok (.if_icmp .eq 332, 3) := by decide +kernel
theorem dL_law_143 : decode cL_law 143 = .ok (.iconst 0, 1) := by decide +kernel
theorem dL_law_144 : decode cL_law 144 = .ok (.ireturn, 1) := by decide +kernel
theorem dL_law_145 : decode cL_law 145 = .ok (.aload_n 1, 1) := by decide +kernel
theorem dL_law_146 : decode cL_law 146 = .ok (.aload_n 0, 1) := by decide +kernel
theorem dL_law_147 : decode cL_law 147 = .ok (.iload_n 3, 1) := by decide +kernel
theorem dL_law_148 : decode cL_law 148 = .ok (.iconst 1, 1) := by decide +kernel
theorem dL_law_149 : decode cL_law 149 = .ok (.iadd, 1) := by decide +kernel
theorem dL_law_150 : decode cL_law 150 = .ok (.iaload, 1) := by decide +kernel
theorem dL_law_151 : decode cL_law 151 = .ok (.ifCond .eq 7, 3) := by decide +kernel
theorem dL_law_154 : decode cL_law 154 = .ok (.iconst 1, 1) := by decide +kernel
theorem dL_law_155 : decode cL_law 155 = .ok (.goto 4, 3) := by decide +kernel
theorem dL_law_158 : decode cL_law 158 = .ok (.iconst 0, 1) := by decide +kernel
theorem dL_law_159 : decode cL_law 159 = .ok (.aload_n 0, 1) := by decide +kernel
theorem dL_law_160 : decode cL_law 160 = .ok (.iload_n 3, 1) := by decide +kernel
theorem dL_law_161 : decode cL_law 161 = .ok (.iconst 2, 1) := by decide +kernel
theorem dL_law_162 : decode cL_law 162 = .ok (.iadd, 1) := by decide +kernel
theorem dL_law_163 : decode cL_law 163 = .ok (.iaload, 1) := by decide +kernel
theorem dL_law_164 : decode cL_law 164 = .ok (.aload_n 0, 1) := by decide +kernel
theorem dL_law_165 : decode cL_law 165 = .ok (.iload_n 3, 1) := by decide +kernel
theorem dL_law_166 : decode cL_law 166 = .ok (.iconst 3, 1) := by decide +kernel
theorem dL_law_167 : decode cL_law 167 = .ok (.iadd, 1) := by decide +kernel
theorem dL_law_168 : decode cL_law 168 = .ok (.iaload, 1) := by decide +kernel
theorem dL_law_169 : decode cL_law 169 = .ok (.invokevirtual 18, 3) := by decide +kernel
theorem dL_law_172 : decode cL_law 172 = .ok (.aload_n 2, 1) := by decide +kernel
theorem dL_law_173 : decode cL_law 173 = .ok (.aload_n 0, 1) := by decide +kernel
theorem dL_law_174 : decode cL_law 174 = .ok (.iload_n 3, 1) := by decide +kernel
theorem dL_law_175 : decode cL_law 175 = .ok (.iconst 1, 1) := by decide +kernel
theorem dL_law_176 : decode cL_law 176 = .ok (.iadd, 1) := by decide +kernel
theorem dL_law_177 : decode cL_law 177 = .ok (.iaload, 1) := by decide +kernel
theorem dL_law_178 : decode cL_law 178 = .ok (.ifCond .eq 7, 3) := by decide +kernel
theorem dL_law_181 : decode cL_law 181 = .ok (.iconst 1, 1) := by decide +kernel
theorem dL_law_182 : decode cL_law 182 = .ok (.goto 4, 3) := by decide +kernel
theorem dL_law_185 : decode cL_law 185 = .ok (.iconst 0, 1) := by decide +kernel
theorem dL_law_186 : decode cL_law 186 = .ok (.aload_n 0, 1) := by decide +kernel
theorem dL_law_187 : decode cL_law 187 = .ok (.iload_n 3, 1) := by decide +kernel
theorem dL_law_188 : decode cL_law 188 = .ok (.iconst 2, 1) := by decide +kernel
theorem dL_law_189 : decode cL_law 189 = .ok (.iadd, 1) := by decide +kernel
theorem dL_law_190 : decode cL_law 190 = .ok (.iaload, 1) := by decide +kernel
theorem dL_law_191 : decode cL_law 191 = .ok (.aload_n 0, 1) := by decide +kernel
theorem dL_law_192 : decode cL_law 192 = .ok (.iload_n 3, 1) := by decide +kernel
theorem dL_law_193 : decode cL_law 193 = .ok (.iconst 3, 1) := by decide +kernel
theorem dL_law_194 : decode cL_law 194 = .ok (.iadd, 1) := by decide +kernel
theorem dL_law_195 : decode cL_law 195 = .ok (.iaload, 1) := by decide +kernel
theorem dL_law_196 : decode cL_law 196 = .ok (.invokevirtual 22, 3) := by decide +kernel
theorem dL_law_199 : decode cL_law 199 = .ok (.if_icmp .eq 273, 3) := by decide +kernel
theorem dL_law_202 : decode cL_law 202 = .ok (.iconst 0, 1) := by decide +kernel
theorem dL_law_203 : decode cL_law 203 = .ok (.ireturn, 1) := by decide +kernel
theorem dL_law_204 : decode cL_law 204 = .ok (.aload_n 1, 1) := by decide +kernel
theorem dL_law_205 : decode cL_law 205 = .ok (.aload_n 0, 1) := by decide +kernel
theorem dL_law_206 : decode cL_law 206 = .ok (.iload_n 3, 1) := by decide +kernel
theorem dL_law_207 : decode cL_law 207 = .ok (.iconst 1, 1) := by decide +kernel
theorem dL_law_208 : decode cL_law 208 = .ok (.iadd, 1) := by decide +kernel
theorem dL_law_209 : decode cL_law 209 = .ok (.iaload, 1) := by decide +kernel
theorem dL_law_210 : decode cL_law 210 = .ok (.ifCond .eq 7, 3) := by decide +kernel
theorem dL_law_213 : decode cL_law 213 = .ok (.iconst 1, 1) := by decide +kernel
theorem dL_law_214 : decode cL_law 214 = .ok (.goto 4, 3) := by decide +kernel
theorem dL_law_217 : decode cL_law 217 = .ok (.iconst 0, 1) := by decide +kernel
theorem dL_law_218 : decode cL_law 218 = .ok (.invokevirtual 23, 3) := by decide +kernel
theorem dL_law_221 : decode cL_law 221 = .ok (.aload_n 2, 1) := by decide +kernel
theorem dL_law_222 : decode cL_law 222 = .ok (.aload_n 0, 1) := by decide +kernel
theorem dL_law_223 : decode cL_law 223 = .ok (.iload_n 3, 1) := by decide +kernel
theorem dL_law_224 : decode cL_law 224 = .ok (.iconst 1, 1) := by decide +kernel
theorem dL_law_225 : decode cL_law 225 = .ok (.iadd, 1) := by decide +kernel
theorem dL_law_226 : decode cL_law 226 = .ok (.iaload, 1) := by decide +kernel
theorem dL_law_227 : decode cL_law 227 = .ok (.ifCond .eq 7, 3) := by decide +kernel
theorem dL_law_230 : decode cL_law 230 = .ok (.iconst 1, 1) := by decide +kernel
theorem dL_law_231 : decode cL_law 231 = .ok (.goto 4, 3) := by decide +kernel
theorem dL_law_234 : decode cL_law 234 = .ok (.iconst 0, 1) := by decide +kernel
theorem dL_law_235 : decode cL_law 235 = .ok (.invokevirtual 27, 3) := by decide +kernel
theorem dL_law_238 : decode cL_law 238 = .ok (.if_icmp .eq 234, 3) := by decide +kernel
theorem dL_law_241 : decode cL_law 241 = .ok (.iconst 0, 1) := by decide +kernel
theorem dL_law_242 : decode cL_law 242 = .ok (.ireturn, 1) := by decide +kernel
theorem dL_law_243 : decode cL_law 243 = .ok (.aload_n 1, 1) := by decide +kernel
theorem dL_law_244 : decode cL_law 244 = .ok (.aload_n 0, 1) := by decide +kernel
theorem dL_law_245 : decode cL_law 245 = .ok (.iload_n 3, 1) := by decide +kernel
theorem dL_law_246 : decode cL_law 246 = .ok (.iconst 1, 1) := by decide +kernel
theorem dL_law_247 : decode cL_law 247 = .ok (.iadd, 1) := by decide +kernel
theorem dL_law_248 : decode cL_law 248 = .ok (.iaload, 1) := by decide +kernel
theorem dL_law_249 : decode cL_law 249 = .ok (.ifCond .eq 7, 3) := by decide +kernel
theorem dL_law_252 : decode cL_law 252 = .ok (.iconst 1, 1) := by decide +kernel
theorem dL_law_253 : decode cL_law 253 = .ok (.goto 4, 3) := by decide +kernel
theorem dL_law_256 : decode cL_law 256 = .ok (.iconst 0, 1) := by decide +kernel
theorem dL_law_257 : decode cL_law 257 = .ok (.aload_n 0, 1) := by decide +kernel
theorem dL_law_258 : decode cL_law 258 = .ok (.iload_n 3, 1) := by decide +kernel
theorem dL_law_259 : decode cL_law 259 = .ok (.iconst 2, 1) := by decide +kernel
theorem dL_law_260 : decode cL_law 260 = .ok (.iadd, 1) := by decide +kernel
theorem dL_law_261 : decode cL_law 261 = .ok (.iaload, 1) := by decide +kernel
theorem dL_law_262 : decode cL_law 262 = .ok (.invokevirtual 28, 3) := by decide +kernel
theorem dL_law_265 : decode cL_law 265 = .ok (.aload_n 2, 1) := by decide +kernel
theorem dL_law_266 : decode cL_law 266 = .ok (.aload_n 0, 1) := by decide +kernel
theorem dL_law_267 : decode cL_law 267 = .ok (.iload_n 3, 1) := by decide +kernel
theorem dL_law_268 : decode cL_law 268 = .ok (.iconst 1, 1) := by decide +kernel
theorem dL_law_269 : decode cL_law 269 = .ok (.iadd, 1) := by decide +kernel
theorem dL_law_270 : decode cL_law 270 = .ok (.iaload, 1) := by decide +kernel
theorem dL_law_271 : decode cL_law 271 = .ok (.ifCond .eq 7, 3) := by decide +kernel
theorem dL_law_274 : decode cL_law 274 = .ok (.iconst 1, 1) := by decide +kernel
theorem dL_law_275 : decode cL_law 275 = .ok (.goto 4, 3) := by decide +kernel
theorem dL_law_278 : decode cL_law 278 = .ok (.iconst 0, 1) := by decide +kernel
theorem dL_law_279 : decode cL_law 279 = .ok (.aload_n 0, 1) := by decide +kernel
theorem dL_law_280 : decode cL_law 280 = .ok (.iload_n 3, 1) := by decide +kernel
theorem dL_law_281 : decode cL_law 281 = .ok (.iconst 2, 1) := by decide +kernel
theorem dL_law_282 : decode cL_law 282 = .ok (.iadd, 1) := by decide +kernel
theorem dL_law_283 : decode cL_law 283 = .ok (.iaload, 1) := by decide +kernel
theorem dL_law_284 : decode cL_law 284 = .ok (.invokevirtual 31, 3) := by decide +kernel
theorem dL_law_287 : decode cL_law 287 = .ok (.if_icmp .eq 185, 3) := by decide +kernel
theorem dL_law_290 : decode cL_law 290 = .ok (.iconst 0, 1) := by decide +kernel
theorem dL_law_291 : decode cL_law 291 = .ok (.ireturn, 1) := by decide +kernel
theorem dL_law_292 : decode cL_law 292 = .ok (.aload_n 1, 1) := by decide +kernel
theorem dL_law_293 : decode cL_law 293 = .ok (.aload_n 0, 1) := by decide +kernel
theorem dL_law_294 : decode cL_law 294 = .ok (.iload_n 3, 1) := by decide +kernel
theorem dL_law_295 : decode cL_law 295 = .ok (.iconst 1, 1) := by decide +kernel
theorem dL_law_296 : decode cL_law 296 = .ok (.iadd, 1) := by decide +kernel
theorem dL_law_297 : decode cL_law 297 = .ok (.iaload, 1) := by decide +kernel
theorem dL_law_298 : decode cL_law 298 = .ok (.ifCond .eq 7, 3) := by decide +kernel
theorem dL_law_301 : decode cL_law 301 = .ok (.iconst 1, 1) := by decide +kernel
theorem dL_law_302 : decode cL_law 302 = .ok (.goto 4, 3) := by decide +kernel
theorem dL_law_305 : decode cL_law 305 = .ok (.iconst 0, 1) := by decide +kernel
theorem dL_law_306 : decode cL_law 306 = .ok (.invokevirtual 32, 3) := by decide +kernel
theorem dL_law_309 : decode cL_law 309 = .ok (.aload_n 2, 1) := by decide +kernel
theorem dL_law_310 : decode cL_law 310 = .ok (.aload_n 0, 1) := by decide +kernel
theorem dL_law_311 : decode cL_law 311 = .ok (.iload_n 3, 1) := by decide +kernel
theorem dL_law_312 : decode cL_law 312 = .ok (.iconst 1, 1) := by decide +kernel
theorem dL_law_313 : decode cL_law 313 = .ok (.iadd, 1) := by decide +kernel
theorem dL_law_314 : decode cL_law 314 = .ok (.iaload, 1) := by decide +kernel
theorem dL_law_315 : decode cL_law 315 = .ok (.ifCond .eq 7, 3) := by decide +kernel
theorem dL_law_318 : decode cL_law 318 = .ok (.iconst 1, 1) := by decide +kernel
theorem dL_law_319 : decode cL_law 319 = .ok (.goto 4, 3) := by decide +kernel
theorem dL_law_322 : decode cL_law 322 = .ok (.iconst 0, 1) := by decide +kernel
theorem dL_law_323 : decode cL_law 323 = .ok (.invokevirtual 35, 3) := by decide +kernel
theorem dL_law_326 : decode cL_law 326 = .ok (.if_icmp .eq 146, 3) := by decide +kernel
theorem dL_law_329 : decode cL_law 329 = .ok (.iconst 0, 1) := by decide +kernel
theorem dL_law_330 : decode cL_law 330 = .ok (.ireturn, 1) := by decide +kernel
theorem dL_law_331 : decode cL_law 331 = .ok (.aload_n 1, 1) := by decide +kernel
theorem dL_law_332 : decode cL_law 332 = .ok (.aload_n 0, 1) := by decide +kernel
theorem dL_law_333 : decode cL_law 333 = .ok (.iload_n 3, 1) := by decide +kernel
theorem dL_law_334 : decode cL_law 334 = .ok (.iconst 1, 1) := by decide +kernel
theorem dL_law_335 : decode cL_law 335 = .ok (.iadd, 1) := by decide +kernel
theorem dL_law_336 : decode cL_law 336 = .ok (.iaload, 1) := by decide +kernel
theorem dL_law_337 : decode cL_law 337 = .ok (.invokevirtual 36, 3) := by decide +kernel
theorem dL_law_340 : decode cL_law 340 = .ok (.aload_n 2, 1) := by decide +kernel
theorem dL_law_341 : decode cL_law 341 = .ok (.aload_n 0, 1) := by decide +kernel
theorem dL_law_342 : decode cL_law 342 = .ok (.iload_n 3, 1) := by decide +kernel
theorem dL_law_343 : decode cL_law 343 = .ok (.iconst 1, 1) := by decide +kernel
theorem dL_law_344 : decode cL_law 344 = .ok (.iadd, 1) := by decide +kernel
theorem dL_law_345 : decode cL_law 345 = .ok (.iaload, 1) := by decide +kernel
theorem dL_law_346 : decode cL_law 346 = .ok (.invokevirtual 40, 3) := by decide +kernel
theorem dL_law_349 : decode cL_law 349 = .ok (.if_icmp .eq 123, 3) := by decide +kernel
theorem dL_law_352 : decode cL_law 352 = .ok (.iconst 0, 1) := by decide +kernel
theorem dL_law_353 : decode cL_law 353 = .ok (.ireturn, 1) := by decide +kernel
theorem dL_law_354 : decode cL_law 354 = .ok (.aload_n 1, 1) := by decide +kernel
theorem dL_law_355 : decode cL_law 355 = .ok (.invokevirtual 41, 3) := by decide +kernel
theorem dL_law_358 : decode cL_law 358 = .ok (.aload_n 2, 1) := by decide +kernel
theorem dL_law_359 : decode cL_law 359 = .ok (.invokevirtual 45, 3) := by decide +kernel
theorem dL_law_362 : decode cL_law 362 = .ok (.if_icmp .eq 110, 3) := by decide +kernel
theorem dL_law_365 : decode cL_law 365 = .ok (.iconst 0, 1) := by decide +kernel
theorem dL_law_366 : decode cL_law 366 = .ok (.ireturn, 1) := by decide +kernel
theorem dL_law_367 : decode cL_law 367 = .ok (.aload_n 1, 1) := by decide +kernel
theorem dL_law_368 : decode cL_law 368 = .ok (.aload_n 0, 1) := by decide +kernel
theorem dL_law_369 : decode cL_law 369 = .ok (.iload_n 3, 1) := by decide +kernel
theorem dL_law_370 : decode cL_law 370 = .ok (.iconst 1, 1) := by decide +kernel
theorem dL_law_371 : decode cL_law 371 = .ok (.iadd, 1) := by decide +kernel
theorem dL_law_372 : decode cL_law 372 = .ok (.iaload, 1) := by decide +kernel
theorem dL_law_373 : decode cL_law 373 = .ok (.invokevirtual 46, 3) := by decide +kernel
theorem dL_law_376 : decode cL_law 376 = .ok (.aload_n 2, 1) := by decide +kernel
theorem dL_law_377 : decode cL_law 377 = .ok (.aload_n 0, 1) := by decide +kernel
theorem dL_law_378 : decode cL_law 378 = .ok (.iload_n 3, 1) := by decide +kernel
theorem dL_law_379 : decode cL_law 379 = .ok (.iconst 1, 1) := by decide +kernel
theorem dL_law_380 : decode cL_law 380 = .ok (.iadd, 1) := by decide +kernel
theorem dL_law_381 : decode cL_law 381 = .ok (.iaload, 1) := by decide +kernel
theorem dL_law_382 : decode cL_law 382 = .ok (.invokevirtual 50, 3) := by decide +kernel
theorem dL_law_385 : decode cL_law 385 = .ok (.if_icmp .eq 87, 3) := by decide +kernel
theorem dL_law_388 : decode cL_law 388 = .ok (.iconst 0, 1) := by decide +kernel
theorem dL_law_389 : decode cL_law 389 = .ok (.ireturn, 1) := by decide +kernel
theorem dL_law_390 : decode cL_law 390 = .ok (.aload_n 1, 1) := by decide +kernel
theorem dL_law_391 : decode cL_law 391 = .ok (.aload_n 0, 1) := by decide +kernel
theorem dL_law_392 : decode cL_law 392 = .ok (.iload_n 3, 1) := by decide +kernel
theorem dL_law_393 : decode cL_law 393 = .ok (.iconst 1, 1) := by decide +kernel
theorem dL_law_394 : decode cL_law 394 = .ok (.iadd, 1) := by decide +kernel
theorem dL_law_395 : decode cL_law 395 = .ok (.iaload, 1) := by decide +kernel
theorem dL_law_396 : decode cL_law 396 = .ok (.invokevirtual 51, 3) := by decide +kernel
theorem dL_law_399 : decode cL_law 399 = .ok (.aload_n 2, 1) := by decide +kernel
theorem dL_law_400 : decode cL_law 400 = .ok (.aload_n 0, 1) := by decide +kernel
theorem dL_law_401 : decode cL_law 401 = .ok (.iload_n 3, 1) := by decide +kernel
theorem dL_law_402 : decode cL_law 402 = .ok (.iconst 1, 1) := by decide +kernel
theorem dL_law_403 : decode cL_law 403 = .ok (.iadd, 1) := by decide +kernel
theorem dL_law_404 : decode cL_law 404 = .ok (.iaload, 1) := by decide +kernel
theorem dL_law_405 : decode cL_law 405 = .ok (.invokevirtual 54, 3) := by decide +kernel
theorem dL_law_408 : decode cL_law 408 = .ok (.if_icmp .eq 64, 3) := by decide +kernel
theorem dL_law_411 : decode cL_law 411 = .ok (.iconst 0, 1) := by decide +kernel
theorem dL_law_412 : decode cL_law 412 = .ok (.ireturn, 1) := by decide +kernel
theorem dL_law_413 : decode cL_law 413 = .ok (.aload_n 1, 1) := by decide +kernel
theorem dL_law_414 : decode cL_law 414 = .ok (.invokevirtual 55, 3) := by decide +kernel
theorem dL_law_417 : decode cL_law 417 = .ok (.aload_n 2, 1) := by decide +kernel
theorem dL_law_418 : decode cL_law 418 = .ok (.invokevirtual 58, 3) := by decide +kernel
theorem dL_law_421 : decode cL_law 421 = .ok (.if_icmp .eq 51, 3) := by decide +kernel
theorem dL_law_424 : decode cL_law 424 = .ok (.iconst 0, 1) := by decide +kernel
theorem dL_law_425 : decode cL_law 425 = .ok (.ireturn, 1) := by decide +kernel
theorem dL_law_426 : decode cL_law 426 = .ok (.aload_n 1, 1) := by decide +kernel
theorem dL_law_427 : decode cL_law 427 = .ok (.aload_n 0, 1) := by decide +kernel
theorem dL_law_428 : decode cL_law 428 = .ok (.iload_n 3, 1) := by decide +kernel
theorem dL_law_429 : decode cL_law 429 = .ok (.iconst 1, 1) := by decide +kernel
theorem dL_law_430 : decode cL_law 430 = .ok (.iadd, 1) := by decide +kernel
theorem dL_law_431 : decode cL_law 431 = .ok (.iaload, 1) := by decide +kernel
theorem dL_law_432 : decode cL_law 432 = .ok (.invokevirtual 59, 3) := by decide +kernel
theorem dL_law_435 : decode cL_law 435 = .ok (.aload_n 2, 1) := by decide +kernel
theorem dL_law_436 : decode cL_law 436 = .ok (.aload_n 0, 1) := by decide +kernel
theorem dL_law_437 : decode cL_law 437 = .ok (.iload_n 3, 1) := by decide +kernel
theorem dL_law_438 : decode cL_law 438 = .ok (.iconst 1, 1) := by decide +kernel
theorem dL_law_439 : decode cL_law 439 = .ok (.iadd, 1) := by decide +kernel
theorem dL_law_440 : decode cL_law 440 = .ok (.iaload, 1) := by decide +kernel
theorem dL_law_441 : decode cL_law 441 = .ok (.invokevirtual 62, 3) := by decide +kernel
theorem dL_law_444 : decode cL_law 444 = .ok (.if_icmp .eq 28, 3) := by decide +kernel
theorem dL_law_447 : decode cL_law 447 = .ok (.iconst 0, 1) := by decide +kernel
theorem dL_law_448 : decode cL_law 448 = .ok (.ireturn, 1) := by decide +kernel
theorem dL_law_449 : decode cL_law 449 = .ok (.aload_n 1, 1) := by decide +kernel
theorem dL_law_450 : decode cL_law 450 = .ok (.aload_n 0, 1) := by decide +kernel
theorem dL_law_451 : decode cL_law 451 = .ok (.iload_n 3, 1) := by decide +kernel
theorem dL_law_452 : decode cL_law 452 = .ok (.iconst 1, 1) := by decide +kernel
theorem dL_law_453 : decode cL_law 453 = .ok (.iadd, 1) := by decide +kernel
theorem dL_law_454 : decode cL_law 454 = .ok (.iaload, 1) := by decide +kernel
theorem dL_law_455 : decode cL_law 455 = .ok (.invokevirtual 63, 3) := by decide +kernel
theorem dL_law_458 : decode cL_law 458 = .ok (.aload_n 2, 1) := by decide +kernel
theorem dL_law_459 : decode cL_law 459 = .ok (.aload_n 0, 1) := by decide +kernel
theorem dL_law_460 : decode cL_law 460 = .ok (.iload_n 3, 1) := by decide +kernel
theorem dL_law_461 : decode cL_law 461 = .ok (.iconst 1, 1) := by decide +kernel
theorem dL_law_462 : decode cL_law 462 = .ok (.iadd, 1) := by decide +kernel
theorem dL_law_463 : decode cL_law 463 = .ok (.iaload, 1) := by decide +kernel
theorem dL_law_464 : decode cL_law 464 = .ok (.invokevirtual 66, 3) := by decide +kernel
theorem dL_law_467 : decode cL_law 467 = .ok (.if_icmp .eq 5, 3) := by decide +kernel
theorem dL_law_470 : decode cL_law 470 = .ok (.iconst 0, 1) := by decide +kernel
theorem dL_law_471 : decode cL_law 471 = .ok (.ireturn, 1) := by decide +kernel
theorem dL_law_472 : decode cL_law 472 = .ok (.iinc 3 4, 3) := by decide +kernel
theorem dL_law_475 : decode cL_law 475 = .ok (.goto (-457), 3) := by decide +kernel
theorem dL_law_478 : decode cL_law 478 = .ok (.iconst 1, 1) := by decide +kernel
theorem dL_law_479 : decode cL_law 479 = .ok (.ireturn, 1) := by decide +kernel
end
section
set_option maxRecDepth 100000
/-! java/lang/Object -/
def RJ0 : String := "java/lang/Object"
abbrev cJ0_init : ByteArray := object_method_1_code
def yJ0_init : MethodName := ⟨RJ0, "<init>", "()V"⟩
theorem dJ0_init_0 : decode cJ0_init 0 = .ok (.return_, 1) := by decide +kernel
theorem q22 : (Jvm.Cond.instanceMethod ({ cls := "java/lang/Object", name := "<init>", desc := "()V" } : Jvm.MethodName)) ∈ lw_all := lw_g (lw_at lw_m0 9 rfl) rfl
theorem q23 : (Jvm.Cond.code ({ cls := "java/lang/Object", name := "<init>", desc := "()V" } : Jvm.MethodName) object_method_1_code (1 : Nat) (Option.none : Option Jvm.ClassFile.FieldType)) ∈ lw_all := lw_g (lw_at lw_m0 10 rfl) rfl
theorem q14 : (Jvm.Cond.initialized "WildcardMatcher") ∈ lw_all := lw_g (lw_at lw_m0 1 rfl) rfl
theorem q17 : (Jvm.Cond.instantiable "WildcardMatcher" (9 : Nat)) ∈ lw_all := lw_g (lw_at lw_m0 4 rfl) rfl
theorem q19 : (Jvm.Cond.instanceMethod ({ cls := "WildcardMatcher", name := "<init>", desc := "()V" } : Jvm.MethodName)) ∈ lw_all := lw_g (lw_at lw_m0 6 rfl) rfl
theorem q20 : (Jvm.Cond.code ({ cls := "WildcardMatcher", name := "<init>", desc := "()V" } : Jvm.MethodName) prog_1_method_1_code (3 : Nat) (Option.none : Option Jvm.ClassFile.FieldType)) ∈ lw_all := lw_g (lw_at lw_m0 7 rfl) rfl
theorem q21 : (Jvm.Cond.methodLink "WildcardMatcher" (1 : Nat) ({ cls := "java/lang/Object", name := "<init>", desc := "()V" } : Jvm.MethodName)) ∈ lw_all := lw_g (lw_at lw_m0 8 rfl) rfl
theorem q24 : (Jvm.Cond.fieldLink "WildcardMatcher" (33 : Nat) "WildcardMatcher" "textLength" "I") ∈ lw_all := lw_g (lw_at lw_m0 11 rfl) rfl
theorem q25 : (Jvm.Cond.fieldLink "WildcardMatcher" (29 : Nat) "WildcardMatcher" "patternLength" "I") ∈ lw_all := lw_g (lw_at lw_m0 12 rfl) rfl
theorem q26 : (Jvm.Cond.fieldLink "WildcardMatcher" (7 : Nat) "WildcardMatcher" "text" "[B") ∈ lw_all := lw_g (lw_at lw_m0 13 rfl) rfl
theorem q27 : (Jvm.Cond.fieldLink "WildcardMatcher" (13 : Nat) "WildcardMatcher" "pattern" "[B") ∈ lw_all := lw_g (lw_at lw_m0 14 rfl) rfl
theorem q28 : (Jvm.Cond.fieldLink "WildcardMatcher" (16 : Nat) "WildcardMatcher" "root" "[I") ∈ lw_all := lw_g (lw_at lw_m0 15 rfl) rfl
theorem q29 : (Jvm.Cond.fieldLink "WildcardMatcher" (20 : Nat) "WildcardMatcher" "work" "[I") ∈ lw_all := lw_g (lw_at lw_m0 16 rfl) rfl
theorem q30 : (Jvm.Cond.fieldLink "WildcardMatcher" (36 : Nat) "WildcardMatcher" "ready" "Z") ∈ lw_all := lw_g (lw_at lw_m0 17 rfl) rfl
theorem q31 : (Jvm.Cond.fieldLink "WildcardMatcher" (23 : Nat) "WildcardMatcher" "difference" "[I") ∈ lw_all := lw_g (lw_at lw_m0 18 rfl) rfl
theorem q32 : (Jvm.Cond.fieldLink "WildcardMatcher" (26 : Nat) "WildcardMatcher" "wrong" "[I") ∈ lw_all := lw_g (lw_at lw_m0 19 rfl) rfl
theorem q33 : (Jvm.Cond.lays "WildcardMatcher" "WildcardMatcher" "textLength" "I") ∈ lw_all := lw_g (lw_at lw_m0 20 rfl) rfl
theorem q34 : (Jvm.Cond.soleField "WildcardMatcher" "textLength") ∈ lw_all := lw_g (lw_at lw_m0 21 rfl) rfl
theorem q35 : (Jvm.Cond.lays "WildcardMatcher" "WildcardMatcher" "patternLength" "I") ∈ lw_all := lw_g (lw_at lw_m0 22 rfl) rfl
theorem q36 : (Jvm.Cond.soleField "WildcardMatcher" "patternLength") ∈ lw_all := lw_g (lw_at lw_m0 23 rfl) rfl
theorem q37 : (Jvm.Cond.laysFinal "WildcardMatcher" "WildcardMatcher" "text" "[B") ∈ lw_all := lw_g (lw_at lw_m0 24 rfl) rfl
theorem q38 : (Jvm.Cond.soleField "WildcardMatcher" "text") ∈ lw_all := lw_g (lw_at lw_m0 25 rfl) rfl
theorem q39 : (Jvm.Cond.laysFinal "WildcardMatcher" "WildcardMatcher" "pattern" "[B") ∈ lw_all := lw_g (lw_at lw_m0 26 rfl) rfl
theorem q40 : (Jvm.Cond.soleField "WildcardMatcher" "pattern") ∈ lw_all := lw_g (lw_at lw_m0 27 rfl) rfl
theorem q41 : (Jvm.Cond.laysFinal "WildcardMatcher" "WildcardMatcher" "root" "[I") ∈ lw_all := lw_g (lw_at lw_m0 28 rfl) rfl
theorem q42 : (Jvm.Cond.soleField "WildcardMatcher" "root") ∈ lw_all := lw_g (lw_at lw_m0 29 rfl) rfl
theorem q43 : (Jvm.Cond.laysFinal "WildcardMatcher" "WildcardMatcher" "work" "[I") ∈ lw_all := lw_g (lw_at lw_m0 30 rfl) rfl
theorem q44 : (Jvm.Cond.soleField "WildcardMatcher" "work") ∈ lw_all := lw_g (lw_at lw_m0 31 rfl) rfl
theorem q45 : (Jvm.Cond.lays "WildcardMatcher" "WildcardMatcher" "ready" "Z") ∈ lw_all := lw_g (lw_at lw_m0 32 rfl) rfl
theorem q46 : (Jvm.Cond.soleField "WildcardMatcher" "ready") ∈ lw_all := lw_g (lw_at lw_m0 33 rfl) rfl
theorem q47 : (Jvm.Cond.laysFinal "WildcardMatcher" "WildcardMatcher" "difference" "[I") ∈ lw_all := lw_g (lw_at lw_m0 34 rfl) rfl
theorem q48 : (Jvm.Cond.soleField "WildcardMatcher" "difference") ∈ lw_all := lw_g (lw_at lw_m0 35 rfl) rfl
theorem q49 : (Jvm.Cond.laysFinal "WildcardMatcher" "WildcardMatcher" "wrong" "[I") ∈ lw_all := lw_g (lw_at lw_m0 36 rfl) rfl
theorem q50 : (Jvm.Cond.soleField "WildcardMatcher" "wrong") ∈ lw_all := lw_g (lw_at lw_m0 37 rfl) rfl
theorem q51 : (Jvm.Cond.superclass "WildcardMatcher" "java/lang/Object") ∈ lw_all := lw_g (lw_at lw_m0 38 rfl) rfl
theorem q55 : (Jvm.Cond.instanceMethod ({ cls := "WildcardMatcher", name := "type", desc := "(ZI)I" } : Jvm.MethodName)) ∈ lw_all := lw_g (lw_at lw_m0 42 rfl) rfl
theorem q56 : (Jvm.Cond.selects "WildcardMatcher" ({ cls := "WildcardMatcher", name := "type", desc := "(ZI)I" } : Jvm.MethodName) ({ cls := "WildcardMatcher", name := "type", desc := "(ZI)I" } : Jvm.MethodName)) ∈ lw_all := lw_g (lw_at lw_m0 43 rfl) rfl
theorem q57 : (Jvm.Cond.code ({ cls := "WildcardMatcher", name := "type", desc := "(ZI)I" } : Jvm.MethodName) prog_1_method_2_code (3 : Nat) (Option.some Jvm.ClassFile.FieldType.int)) ∈ lw_all := lw_g (lw_at lw_m0 44 rfl) rfl
theorem q59 : (Jvm.Cond.instanceMethod ({ cls := "WildcardMatcher", name := "replace", desc := "(ZII)Z" } : Jvm.MethodName)) ∈ lw_all := lw_g (lw_at lw_m0 46 rfl) rfl
theorem q60 : (Jvm.Cond.selects "WildcardMatcher" ({ cls := "WildcardMatcher", name := "replace", desc := "(ZII)Z" } : Jvm.MethodName) ({ cls := "WildcardMatcher", name := "replace", desc := "(ZII)Z" } : Jvm.MethodName)) ∈ lw_all := lw_g (lw_at lw_m0 47 rfl) rfl
theorem q61 : (Jvm.Cond.code ({ cls := "WildcardMatcher", name := "replace", desc := "(ZII)Z" } : Jvm.MethodName) prog_1_method_3_code (4 : Nat) (Option.some Jvm.ClassFile.FieldType.boolean)) ∈ lw_all := lw_g (lw_at lw_m0 48 rfl) rfl
theorem q62 : (Jvm.Cond.methodLink "WildcardMatcher" (40 : Nat) ({ cls := "WildcardMatcher", name := "length", desc := "(Z)I" } : Jvm.MethodName)) ∈ lw_all := lw_g (lw_at lw_m0 49 rfl) rfl
theorem q63 : (Jvm.Cond.instanceMethod ({ cls := "WildcardMatcher", name := "length", desc := "(Z)I" } : Jvm.MethodName)) ∈ lw_all := lw_g (lw_at lw_m0 50 rfl) rfl
theorem q64 : (Jvm.Cond.selects "WildcardMatcher" ({ cls := "WildcardMatcher", name := "length", desc := "(Z)I" } : Jvm.MethodName) ({ cls := "WildcardMatcher", name := "length", desc := "(Z)I" } : Jvm.MethodName)) ∈ lw_all := lw_g (lw_at lw_m0 51 rfl) rfl
theorem q65 : (Jvm.Cond.code ({ cls := "WildcardMatcher", name := "length", desc := "(Z)I" } : Jvm.MethodName) prog_1_method_6_code (2 : Nat) (Option.some Jvm.ClassFile.FieldType.int)) ∈ lw_all := lw_g (lw_at lw_m0 52 rfl) rfl
theorem q67 : (Jvm.Cond.instanceMethod ({ cls := "WildcardMatcher", name := "shorten", desc := "(Z)I" } : Jvm.MethodName)) ∈ lw_all := lw_g (lw_at lw_m0 54 rfl) rfl
theorem q68 : (Jvm.Cond.selects "WildcardMatcher" ({ cls := "WildcardMatcher", name := "shorten", desc := "(Z)I" } : Jvm.MethodName) ({ cls := "WildcardMatcher", name := "shorten", desc := "(Z)I" } : Jvm.MethodName)) ∈ lw_all := lw_g (lw_at lw_m0 55 rfl) rfl
theorem q69 : (Jvm.Cond.code ({ cls := "WildcardMatcher", name := "shorten", desc := "(Z)I" } : Jvm.MethodName) prog_1_method_4_code (4 : Nat) (Option.some Jvm.ClassFile.FieldType.int)) ∈ lw_all := lw_g (lw_at lw_m0 56 rfl) rfl
theorem q71 : (Jvm.Cond.instanceMethod ({ cls := "WildcardMatcher", name := "letter", desc := "(ZI)I" } : Jvm.MethodName)) ∈ lw_all := lw_g (lw_at lw_m0 58 rfl) rfl
theorem q72 : (Jvm.Cond.selects "WildcardMatcher" ({ cls := "WildcardMatcher", name := "letter", desc := "(ZI)I" } : Jvm.MethodName) ({ cls := "WildcardMatcher", name := "letter", desc := "(ZI)I" } : Jvm.MethodName)) ∈ lw_all := lw_g (lw_at lw_m0 59 rfl) rfl
theorem q73 : (Jvm.Cond.code ({ cls := "WildcardMatcher", name := "letter", desc := "(ZI)I" } : Jvm.MethodName) prog_1_method_5_code (3 : Nat) (Option.some Jvm.ClassFile.FieldType.int)) ∈ lw_all := lw_g (lw_at lw_m0 60 rfl) rfl
theorem q76 : (Jvm.Cond.instanceMethod ({ cls := "WildcardMatcher", name := "matches", desc := "(I)Z" } : Jvm.MethodName)) ∈ lw_all := lw_g (lw_at lw_m0 63 rfl) rfl
theorem q77 : (Jvm.Cond.selects "WildcardMatcher" ({ cls := "WildcardMatcher", name := "matches", desc := "(I)Z" } : Jvm.MethodName) ({ cls := "WildcardMatcher", name := "matches", desc := "(I)Z" } : Jvm.MethodName)) ∈ lw_all := lw_g (lw_at lw_m0 64 rfl) rfl
theorem q78 : (Jvm.Cond.code ({ cls := "WildcardMatcher", name := "matches", desc := "(I)Z" } : Jvm.MethodName) prog_1_method_7_code (2 : Nat) (Option.some Jvm.ClassFile.FieldType.boolean)) ∈ lw_all := lw_g (lw_at lw_m0 65 rfl) rfl
theorem q79 : (Jvm.Cond.methodLink "WildcardMatcher" (44 : Nat) ({ cls := "WildcardMatcher", name := "isShift", desc := "(I)Z" } : Jvm.MethodName)) ∈ lw_all := lw_g (lw_at lw_m0 66 rfl) rfl
theorem q80 : (Jvm.Cond.privateMethod ({ cls := "WildcardMatcher", name := "isShift", desc := "(I)Z" } : Jvm.MethodName)) ∈ lw_tbl := lw_at lw_m0 67 rfl
theorem q81 : (Jvm.Cond.instanceMethod ({ cls := "WildcardMatcher", name := "isShift", desc := "(I)Z" } : Jvm.MethodName)) ∈ lw_all := lw_g (lw_at lw_m0 68 rfl) rfl
theorem q82 : (Jvm.Cond.code ({ cls := "WildcardMatcher", name := "isShift", desc := "(I)Z" } : Jvm.MethodName) prog_1_method_14_code (2 : Nat) (Option.some Jvm.ClassFile.FieldType.boolean)) ∈ lw_all := lw_g (lw_at lw_m0 69 rfl) rfl
theorem q83 : (Jvm.Cond.methodLink "WildcardMatcher" (48 : Nat) ({ cls := "WildcardMatcher", name := "prepare", desc := "()V" } : Jvm.MethodName)) ∈ lw_all := lw_g (lw_at lw_m0 70 rfl) rfl
theorem q84 : (Jvm.Cond.privateMethod ({ cls := "WildcardMatcher", name := "prepare", desc := "()V" } : Jvm.MethodName)) ∈ lw_tbl := lw_at lw_m0 71 rfl
theorem q85 : (Jvm.Cond.instanceMethod ({ cls := "WildcardMatcher", name := "prepare", desc := "()V" } : Jvm.MethodName)) ∈ lw_all := lw_g (lw_at lw_m0 72 rfl) rfl
theorem q86 : (Jvm.Cond.code ({ cls := "WildcardMatcher", name := "prepare", desc := "()V" } : Jvm.MethodName) prog_1_method_16_code (2 : Nat) (Option.none : Option Jvm.ClassFile.FieldType)) ∈ lw_all := lw_g (lw_at lw_m0 73 rfl) rfl
theorem q87 : (Jvm.Cond.methodLink "WildcardMatcher" (58 : Nat) ({ cls := "WildcardMatcher", name := "clearSum", desc := "()V" } : Jvm.MethodName)) ∈ lw_all := lw_g (lw_at lw_m0 74 rfl) rfl
theorem q88 : (Jvm.Cond.privateMethod ({ cls := "WildcardMatcher", name := "clearSum", desc := "()V" } : Jvm.MethodName)) ∈ lw_tbl := lw_at lw_m0 75 rfl
theorem q89 : (Jvm.Cond.instanceMethod ({ cls := "WildcardMatcher", name := "clearSum", desc := "()V" } : Jvm.MethodName)) ∈ lw_all := lw_g (lw_at lw_m0 76 rfl) rfl
theorem q90 : (Jvm.Cond.code ({ cls := "WildcardMatcher", name := "clearSum", desc := "()V" } : Jvm.MethodName) prog_1_method_17_code (2 : Nat) (Option.none : Option Jvm.ClassFile.FieldType)) ∈ lw_all := lw_g (lw_at lw_m0 77 rfl) rfl
theorem q91 : (Jvm.Cond.methodLink "WildcardMatcher" (61 : Nat) ({ cls := "WildcardMatcher", name := "addProduct", desc := "(III)V" } : Jvm.MethodName)) ∈ lw_all := lw_g (lw_at lw_m0 78 rfl) rfl
theorem q92 : (Jvm.Cond.privateMethod ({ cls := "WildcardMatcher", name := "addProduct", desc := "(III)V" } : Jvm.MethodName)) ∈ lw_tbl := lw_at lw_m0 79 rfl
theorem q93 : (Jvm.Cond.instanceMethod ({ cls := "WildcardMatcher", name := "addProduct", desc := "(III)V" } : Jvm.MethodName)) ∈ lw_all := lw_g (lw_at lw_m0 80 rfl) rfl
theorem q94 : (Jvm.Cond.code ({ cls := "WildcardMatcher", name := "addProduct", desc := "(III)V" } : Jvm.MethodName) prog_1_method_19_code (6 : Nat) (Option.none : Option Jvm.ClassFile.FieldType)) ∈ lw_all := lw_g (lw_at lw_m0 81 rfl) rfl
theorem q95 : (Jvm.Cond.methodLink "WildcardMatcher" (69 : Nat) ({ cls := "WildcardMatcher", name := "measure", desc := "(II)I" } : Jvm.MethodName)) ∈ lw_all := lw_g (lw_at lw_m0 82 rfl) rfl
theorem q96 : (Jvm.Cond.privateMethod ({ cls := "WildcardMatcher", name := "measure", desc := "(II)I" } : Jvm.MethodName)) ∈ lw_tbl := lw_at lw_m0 83 rfl
theorem q97 : (Jvm.Cond.instanceMethod ({ cls := "WildcardMatcher", name := "measure", desc := "(II)I" } : Jvm.MethodName)) ∈ lw_all := lw_g (lw_at lw_m0 84 rfl) rfl
theorem q98 : (Jvm.Cond.code ({ cls := "WildcardMatcher", name := "measure", desc := "(II)I" } : Jvm.MethodName) prog_1_method_18_code (5 : Nat) (Option.some Jvm.ClassFile.FieldType.int)) ∈ lw_all := lw_g (lw_at lw_m0 85 rfl) rfl
theorem q99 : (Jvm.Cond.methodLink "WildcardMatcher" (65 : Nat) ({ cls := "WildcardMatcher", name := "transform", desc := "(IZ)V" } : Jvm.MethodName)) ∈ lw_all := lw_g (lw_at lw_m0 86 rfl) rfl
theorem q100 : (Jvm.Cond.privateMethod ({ cls := "WildcardMatcher", name := "transform", desc := "(IZ)V" } : Jvm.MethodName)) ∈ lw_tbl := lw_at lw_m0 87 rfl
theorem q101 : (Jvm.Cond.instanceMethod ({ cls := "WildcardMatcher", name := "transform", desc := "(IZ)V" } : Jvm.MethodName)) ∈ lw_all := lw_g (lw_at lw_m0 88 rfl) rfl
theorem q102 : (Jvm.Cond.code ({ cls := "WildcardMatcher", name := "transform", desc := "(IZ)V" } : Jvm.MethodName) prog_1_method_21_code (8 : Nat) (Option.none : Option Jvm.ClassFile.FieldType)) ∈ lw_all := lw_g (lw_at lw_m0 89 rfl) rfl
theorem q103 : (Jvm.Cond.methodLink "WildcardMatcher" (73 : Nat) ({ cls := "WildcardMatcher", name := "turnedBits", desc := "(I)I" } : Jvm.MethodName)) ∈ lw_all := lw_g (lw_at lw_m0 90 rfl) rfl
theorem q104 : (Jvm.Cond.privateMethod ({ cls := "WildcardMatcher", name := "turnedBits", desc := "(I)I" } : Jvm.MethodName)) ∈ lw_tbl := lw_at lw_m0 91 rfl
theorem q105 : (Jvm.Cond.instanceMethod ({ cls := "WildcardMatcher", name := "turnedBits", desc := "(I)I" } : Jvm.MethodName)) ∈ lw_all := lw_g (lw_at lw_m0 92 rfl) rfl
theorem q106 : (Jvm.Cond.code ({ cls := "WildcardMatcher", name := "turnedBits", desc := "(I)I" } : Jvm.MethodName) prog_1_method_20_code (4 : Nat) (Option.some Jvm.ClassFile.FieldType.int)) ∈ lw_all := lw_g (lw_at lw_m0 93 rfl) rfl
theorem q107 : (Jvm.Cond.methodLink "WildcardMatcher" (76 : Nat) ({ cls := "WildcardMatcher", name := "butterfly", desc := "(III)V" } : Jvm.MethodName)) ∈ lw_all := lw_g (lw_at lw_m0 94 rfl) rfl
theorem q108 : (Jvm.Cond.privateMethod ({ cls := "WildcardMatcher", name := "butterfly", desc := "(III)V" } : Jvm.MethodName)) ∈ lw_tbl := lw_at lw_m0 95 rfl
theorem q109 : (Jvm.Cond.instanceMethod ({ cls := "WildcardMatcher", name := "butterfly", desc := "(III)V" } : Jvm.MethodName)) ∈ lw_all := lw_g (lw_at lw_m0 96 rfl) rfl
theorem q110 : (Jvm.Cond.code ({ cls := "WildcardMatcher", name := "butterfly", desc := "(III)V" } : Jvm.MethodName) prog_1_method_22_code (6 : Nat) (Option.none : Option Jvm.ClassFile.FieldType)) ∈ lw_all := lw_g (lw_at lw_m0 97 rfl) rfl
theorem q111 : (Jvm.Cond.methodLink "WildcardMatcher" (79 : Nat) ({ cls := "WildcardMatcher", name := "divideBySize", desc := "(I)V" } : Jvm.MethodName)) ∈ lw_all := lw_g (lw_at lw_m0 98 rfl) rfl
theorem q112 : (Jvm.Cond.privateMethod ({ cls := "WildcardMatcher", name := "divideBySize", desc := "(I)V" } : Jvm.MethodName)) ∈ lw_tbl := lw_at lw_m0 99 rfl
theorem q113 : (Jvm.Cond.instanceMethod ({ cls := "WildcardMatcher", name := "divideBySize", desc := "(I)V" } : Jvm.MethodName)) ∈ lw_all := lw_g (lw_at lw_m0 100 rfl) rfl
theorem q114 : (Jvm.Cond.code ({ cls := "WildcardMatcher", name := "divideBySize", desc := "(I)V" } : Jvm.MethodName) prog_1_method_23_code (3 : Nat) (Option.none : Option Jvm.ClassFile.FieldType)) ∈ lw_all := lw_g (lw_at lw_m0 101 rfl) rfl
theorem q116 : (Jvm.Cond.instanceMethod ({ cls := "WildcardMatcher", name := "matchCount", desc := "()I" } : Jvm.MethodName)) ∈ lw_all := lw_g (lw_at lw_m0 103 rfl) rfl
theorem q117 : (Jvm.Cond.selects "WildcardMatcher" ({ cls := "WildcardMatcher", name := "matchCount", desc := "()I" } : Jvm.MethodName) ({ cls := "WildcardMatcher", name := "matchCount", desc := "()I" } : Jvm.MethodName)) ∈ lw_all := lw_g (lw_at lw_m0 104 rfl) rfl
theorem q118 : (Jvm.Cond.code ({ cls := "WildcardMatcher", name := "matchCount", desc := "()I" } : Jvm.MethodName) prog_1_method_8_code (3 : Nat) (Option.some Jvm.ClassFile.FieldType.int)) ∈ lw_all := lw_g (lw_at lw_m0 105 rfl) rfl
theorem q119 : (Jvm.Cond.methodLink "WildcardMatcher" (51 : Nat) ({ cls := "WildcardMatcher", name := "matches", desc := "(I)Z" } : Jvm.MethodName)) ∈ lw_all := lw_g (lw_at lw_m0 106 rfl) rfl
theorem q121 : (Jvm.Cond.instanceMethod ({ cls := "WildcardMatcher", name := "nextMatch", desc := "(I)I" } : Jvm.MethodName)) ∈ lw_all := lw_g (lw_at lw_m0 108 rfl) rfl
theorem q122 : (Jvm.Cond.selects "WildcardMatcher" ({ cls := "WildcardMatcher", name := "nextMatch", desc := "(I)I" } : Jvm.MethodName) ({ cls := "WildcardMatcher", name := "nextMatch", desc := "(I)I" } : Jvm.MethodName)) ∈ lw_all := lw_g (lw_at lw_m0 109 rfl) rfl
theorem q123 : (Jvm.Cond.code ({ cls := "WildcardMatcher", name := "nextMatch", desc := "(I)I" } : Jvm.MethodName) prog_1_method_9_code (3 : Nat) (Option.some Jvm.ClassFile.FieldType.int)) ∈ lw_all := lw_g (lw_at lw_m0 110 rfl) rfl
theorem q125 : (Jvm.Cond.instanceMethod ({ cls := "WildcardMatcher", name := "mismatches", desc := "(I)I" } : Jvm.MethodName)) ∈ lw_all := lw_g (lw_at lw_m0 112 rfl) rfl
theorem q126 : (Jvm.Cond.selects "WildcardMatcher" ({ cls := "WildcardMatcher", name := "mismatches", desc := "(I)I" } : Jvm.MethodName) ({ cls := "WildcardMatcher", name := "mismatches", desc := "(I)I" } : Jvm.MethodName)) ∈ lw_all := lw_g (lw_at lw_m0 113 rfl) rfl
theorem q127 : (Jvm.Cond.code ({ cls := "WildcardMatcher", name := "mismatches", desc := "(I)I" } : Jvm.MethodName) prog_1_method_10_code (2 : Nat) (Option.some Jvm.ClassFile.FieldType.int)) ∈ lw_all := lw_g (lw_at lw_m0 114 rfl) rfl
theorem q128 : (Jvm.Cond.methodLink "WildcardMatcher" (54 : Nat) ({ cls := "WildcardMatcher", name := "wrongAt", desc := "(I)I" } : Jvm.MethodName)) ∈ lw_all := lw_g (lw_at lw_m0 115 rfl) rfl
theorem q129 : (Jvm.Cond.privateMethod ({ cls := "WildcardMatcher", name := "wrongAt", desc := "(I)I" } : Jvm.MethodName)) ∈ lw_tbl := lw_at lw_m0 116 rfl
theorem q130 : (Jvm.Cond.instanceMethod ({ cls := "WildcardMatcher", name := "wrongAt", desc := "(I)I" } : Jvm.MethodName)) ∈ lw_all := lw_g (lw_at lw_m0 117 rfl) rfl
theorem q131 : (Jvm.Cond.code ({ cls := "WildcardMatcher", name := "wrongAt", desc := "(I)I" } : Jvm.MethodName) prog_1_method_15_code (2 : Nat) (Option.some Jvm.ClassFile.FieldType.int)) ∈ lw_all := lw_g (lw_at lw_m0 118 rfl) rfl
theorem q133 : (Jvm.Cond.instanceMethod ({ cls := "WildcardMatcher", name := "bestShift", desc := "()I" } : Jvm.MethodName)) ∈ lw_all := lw_g (lw_at lw_m0 120 rfl) rfl
theorem q134 : (Jvm.Cond.selects "WildcardMatcher" ({ cls := "WildcardMatcher", name := "bestShift", desc := "()I" } : Jvm.MethodName) ({ cls := "WildcardMatcher", name := "bestShift", desc := "()I" } : Jvm.MethodName)) ∈ lw_all := lw_g (lw_at lw_m0 121 rfl) rfl
theorem q135 : (Jvm.Cond.code ({ cls := "WildcardMatcher", name := "bestShift", desc := "()I" } : Jvm.MethodName) prog_1_method_11_code (5 : Nat) (Option.some Jvm.ClassFile.FieldType.int)) ∈ lw_all := lw_g (lw_at lw_m0 122 rfl) rfl
theorem q137 : (Jvm.Cond.instanceMethod ({ cls := "WildcardMatcher", name := "within", desc := "(I)I" } : Jvm.MethodName)) ∈ lw_all := lw_g (lw_at lw_m0 124 rfl) rfl
theorem q138 : (Jvm.Cond.selects "WildcardMatcher" ({ cls := "WildcardMatcher", name := "within", desc := "(I)I" } : Jvm.MethodName) ({ cls := "WildcardMatcher", name := "within", desc := "(I)I" } : Jvm.MethodName)) ∈ lw_all := lw_g (lw_at lw_m0 125 rfl) rfl
theorem q139 : (Jvm.Cond.code ({ cls := "WildcardMatcher", name := "within", desc := "(I)I" } : Jvm.MethodName) prog_1_method_12_code (5 : Nat) (Option.some Jvm.ClassFile.FieldType.int)) ∈ lw_all := lw_g (lw_at lw_m0 126 rfl) rfl
theorem q141 : (Jvm.Cond.instanceMethod ({ cls := "WildcardMatcher", name := "turnedMismatches", desc := "(I)I" } : Jvm.MethodName)) ∈ lw_all := lw_g (lw_at lw_m0 128 rfl) rfl
theorem q142 : (Jvm.Cond.selects "WildcardMatcher" ({ cls := "WildcardMatcher", name := "turnedMismatches", desc := "(I)I" } : Jvm.MethodName) ({ cls := "WildcardMatcher", name := "turnedMismatches", desc := "(I)I" } : Jvm.MethodName)) ∈ lw_all := lw_g (lw_at lw_m0 129 rfl) rfl
theorem q143 : (Jvm.Cond.code ({ cls := "WildcardMatcher", name := "turnedMismatches", desc := "(I)I" } : Jvm.MethodName) prog_1_method_13_code (2 : Nat) (Option.some Jvm.ClassFile.FieldType.int)) ∈ lw_all := lw_g (lw_at lw_m0 130 rfl) rfl
theorem in_X0 : ∀ w ∈ wsX00, w ∈ lw_all := lw_in wsX00 [33, 35, 37, 39, 41, 43, 45, 47, 49] (by decide +kernel) (by decide +kernel)
theorem q15 : (Jvm.Cond.initialized "WildcardMatcherModel") ∈ lw_all := lw_g (lw_at lw_m0 2 rfl) rfl
theorem q145 : (Jvm.Cond.instantiable "WildcardMatcherModel" (4 : Nat)) ∈ lw_all := lw_g (lw_at lw_m0 132 rfl) rfl
theorem q147 : (Jvm.Cond.instanceMethod ({ cls := "WildcardMatcherModel", name := "<init>", desc := "()V" } : Jvm.MethodName)) ∈ lw_all := lw_g (lw_at lw_m0 134 rfl) rfl
theorem q148 : (Jvm.Cond.code ({ cls := "WildcardMatcherModel", name := "<init>", desc := "()V" } : Jvm.MethodName) prog_3_method_1_code (1 : Nat) (Option.none : Option Jvm.ClassFile.FieldType)) ∈ lw_all := lw_g (lw_at lw_m0 135 rfl) rfl
theorem q149 : (Jvm.Cond.methodLink "WildcardMatcherModel" (1 : Nat) ({ cls := "java/lang/Object", name := "<init>", desc := "()V" } : Jvm.MethodName)) ∈ lw_all := lw_g (lw_at lw_m0 136 rfl) rfl
theorem q150 : (Jvm.Cond.fieldLink "WildcardMatcherModel" (7 : Nat) "WildcardMatcherModel" "n" "I") ∈ lw_all := lw_g (lw_at lw_m0 137 rfl) rfl
theorem q151 : (Jvm.Cond.fieldLink "WildcardMatcherModel" (13 : Nat) "WildcardMatcherModel" "m" "I") ∈ lw_all := lw_g (lw_at lw_m0 138 rfl) rfl
theorem q152 : (Jvm.Cond.fieldLink "WildcardMatcherModel" (16 : Nat) "WildcardMatcherModel" "text" "[I") ∈ lw_all := lw_g (lw_at lw_m0 139 rfl) rfl
theorem q153 : (Jvm.Cond.fieldLink "WildcardMatcherModel" (20 : Nat) "WildcardMatcherModel" "pattern" "[I") ∈ lw_all := lw_g (lw_at lw_m0 140 rfl) rfl
theorem q154 : (Jvm.Cond.lays "WildcardMatcherModel" "WildcardMatcherModel" "n" "I") ∈ lw_all := lw_g (lw_at lw_m0 141 rfl) rfl
theorem q155 : (Jvm.Cond.soleField "WildcardMatcherModel" "n") ∈ lw_all := lw_g (lw_at lw_m0 142 rfl) rfl
theorem q156 : (Jvm.Cond.lays "WildcardMatcherModel" "WildcardMatcherModel" "m" "I") ∈ lw_all := lw_g (lw_at lw_m0 143 rfl) rfl
theorem q157 : (Jvm.Cond.soleField "WildcardMatcherModel" "m") ∈ lw_all := lw_g (lw_at lw_m0 144 rfl) rfl
theorem q158 : (Jvm.Cond.lays "WildcardMatcherModel" "WildcardMatcherModel" "text" "[I") ∈ lw_all := lw_g (lw_at lw_m0 145 rfl) rfl
theorem q159 : (Jvm.Cond.soleField "WildcardMatcherModel" "text") ∈ lw_all := lw_g (lw_at lw_m0 146 rfl) rfl
theorem q160 : (Jvm.Cond.lays "WildcardMatcherModel" "WildcardMatcherModel" "pattern" "[I") ∈ lw_all := lw_g (lw_at lw_m0 147 rfl) rfl
theorem q161 : (Jvm.Cond.soleField "WildcardMatcherModel" "pattern") ∈ lw_all := lw_g (lw_at lw_m0 148 rfl) rfl
theorem q162 : (Jvm.Cond.superclass "WildcardMatcherModel" "java/lang/Object") ∈ lw_all := lw_g (lw_at lw_m0 149 rfl) rfl
theorem q164 : (Jvm.Cond.instanceMethod ({ cls := "WildcardMatcherModel", name := "type", desc := "(ZI)I" } : Jvm.MethodName)) ∈ lw_all := lw_g (lw_at lw_m0 151 rfl) rfl
theorem q165 : (Jvm.Cond.selects "WildcardMatcherModel" ({ cls := "WildcardMatcherModel", name := "type", desc := "(ZI)I" } : Jvm.MethodName) ({ cls := "WildcardMatcherModel", name := "type", desc := "(ZI)I" } : Jvm.MethodName)) ∈ lw_all := lw_g (lw_at lw_m0 152 rfl) rfl
theorem q166 : (Jvm.Cond.code ({ cls := "WildcardMatcherModel", name := "type", desc := "(ZI)I" } : Jvm.MethodName) prog_3_method_2_code (3 : Nat) (Option.some Jvm.ClassFile.FieldType.int)) ∈ lw_all := lw_g (lw_at lw_m0 153 rfl) rfl
theorem q168 : (Jvm.Cond.instanceMethod ({ cls := "WildcardMatcherModel", name := "replace", desc := "(ZII)Z" } : Jvm.MethodName)) ∈ lw_all := lw_g (lw_at lw_m0 155 rfl) rfl
theorem q169 : (Jvm.Cond.selects "WildcardMatcherModel" ({ cls := "WildcardMatcherModel", name := "replace", desc := "(ZII)Z" } : Jvm.MethodName) ({ cls := "WildcardMatcherModel", name := "replace", desc := "(ZII)Z" } : Jvm.MethodName)) ∈ lw_all := lw_g (lw_at lw_m0 156 rfl) rfl
theorem q170 : (Jvm.Cond.code ({ cls := "WildcardMatcherModel", name := "replace", desc := "(ZII)Z" } : Jvm.MethodName) prog_3_method_4_code (4 : Nat) (Option.some Jvm.ClassFile.FieldType.boolean)) ∈ lw_all := lw_g (lw_at lw_m0 157 rfl) rfl
theorem q171 : (Jvm.Cond.methodLink "WildcardMatcherModel" (23 : Nat) ({ cls := "WildcardMatcherModel", name := "isLetter", desc := "(ZI)Z" } : Jvm.MethodName)) ∈ lw_all := lw_g (lw_at lw_m0 158 rfl) rfl
theorem q172 : (Jvm.Cond.privateMethod ({ cls := "WildcardMatcherModel", name := "isLetter", desc := "(ZI)Z" } : Jvm.MethodName)) ∈ lw_tbl := lw_at lw_m0 159 rfl
theorem q173 : (Jvm.Cond.instanceMethod ({ cls := "WildcardMatcherModel", name := "isLetter", desc := "(ZI)Z" } : Jvm.MethodName)) ∈ lw_all := lw_g (lw_at lw_m0 160 rfl) rfl
theorem q174 : (Jvm.Cond.code ({ cls := "WildcardMatcherModel", name := "isLetter", desc := "(ZI)Z" } : Jvm.MethodName) prog_3_method_3_code (3 : Nat) (Option.some Jvm.ClassFile.FieldType.boolean)) ∈ lw_all := lw_g (lw_at lw_m0 161 rfl) rfl
theorem q176 : (Jvm.Cond.instanceMethod ({ cls := "WildcardMatcherModel", name := "shorten", desc := "(Z)I" } : Jvm.MethodName)) ∈ lw_all := lw_g (lw_at lw_m0 163 rfl) rfl
theorem q177 : (Jvm.Cond.selects "WildcardMatcherModel" ({ cls := "WildcardMatcherModel", name := "shorten", desc := "(Z)I" } : Jvm.MethodName) ({ cls := "WildcardMatcherModel", name := "shorten", desc := "(Z)I" } : Jvm.MethodName)) ∈ lw_all := lw_g (lw_at lw_m0 164 rfl) rfl
theorem q178 : (Jvm.Cond.code ({ cls := "WildcardMatcherModel", name := "shorten", desc := "(Z)I" } : Jvm.MethodName) prog_3_method_5_code (3 : Nat) (Option.some Jvm.ClassFile.FieldType.int)) ∈ lw_all := lw_g (lw_at lw_m0 165 rfl) rfl
theorem q180 : (Jvm.Cond.instanceMethod ({ cls := "WildcardMatcherModel", name := "letter", desc := "(ZI)I" } : Jvm.MethodName)) ∈ lw_all := lw_g (lw_at lw_m0 167 rfl) rfl
theorem q181 : (Jvm.Cond.selects "WildcardMatcherModel" ({ cls := "WildcardMatcherModel", name := "letter", desc := "(ZI)I" } : Jvm.MethodName) ({ cls := "WildcardMatcherModel", name := "letter", desc := "(ZI)I" } : Jvm.MethodName)) ∈ lw_all := lw_g (lw_at lw_m0 168 rfl) rfl
theorem q182 : (Jvm.Cond.code ({ cls := "WildcardMatcherModel", name := "letter", desc := "(ZI)I" } : Jvm.MethodName) prog_3_method_6_code (3 : Nat) (Option.some Jvm.ClassFile.FieldType.int)) ∈ lw_all := lw_g (lw_at lw_m0 169 rfl) rfl
theorem q184 : (Jvm.Cond.instanceMethod ({ cls := "WildcardMatcherModel", name := "length", desc := "(Z)I" } : Jvm.MethodName)) ∈ lw_all := lw_g (lw_at lw_m0 171 rfl) rfl
theorem q185 : (Jvm.Cond.selects "WildcardMatcherModel" ({ cls := "WildcardMatcherModel", name := "length", desc := "(Z)I" } : Jvm.MethodName) ({ cls := "WildcardMatcherModel", name := "length", desc := "(Z)I" } : Jvm.MethodName)) ∈ lw_all := lw_g (lw_at lw_m0 172 rfl) rfl
theorem q186 : (Jvm.Cond.code ({ cls := "WildcardMatcherModel", name := "length", desc := "(Z)I" } : Jvm.MethodName) prog_3_method_7_code (2 : Nat) (Option.some Jvm.ClassFile.FieldType.int)) ∈ lw_all := lw_g (lw_at lw_m0 173 rfl) rfl
theorem q188 : (Jvm.Cond.instanceMethod ({ cls := "WildcardMatcherModel", name := "matches", desc := "(I)Z" } : Jvm.MethodName)) ∈ lw_all := lw_g (lw_at lw_m0 175 rfl) rfl
theorem q189 : (Jvm.Cond.selects "WildcardMatcherModel" ({ cls := "WildcardMatcherModel", name := "matches", desc := "(I)Z" } : Jvm.MethodName) ({ cls := "WildcardMatcherModel", name := "matches", desc := "(I)Z" } : Jvm.MethodName)) ∈ lw_all := lw_g (lw_at lw_m0 176 rfl) rfl
theorem q190 : (Jvm.Cond.code ({ cls := "WildcardMatcherModel", name := "matches", desc := "(I)Z" } : Jvm.MethodName) prog_3_method_10_code (2 : Nat) (Option.some Jvm.ClassFile.FieldType.boolean)) ∈ lw_all := lw_g (lw_at lw_m0 177 rfl) rfl
theorem q191 : (Jvm.Cond.methodLink "WildcardMatcherModel" (27 : Nat) ({ cls := "WildcardMatcherModel", name := "isShift", desc := "(I)Z" } : Jvm.MethodName)) ∈ lw_all := lw_g (lw_at lw_m0 178 rfl) rfl
theorem q192 : (Jvm.Cond.privateMethod ({ cls := "WildcardMatcherModel", name := "isShift", desc := "(I)Z" } : Jvm.MethodName)) ∈ lw_tbl := lw_at lw_m0 179 rfl
theorem q193 : (Jvm.Cond.instanceMethod ({ cls := "WildcardMatcherModel", name := "isShift", desc := "(I)Z" } : Jvm.MethodName)) ∈ lw_all := lw_g (lw_at lw_m0 180 rfl) rfl
theorem q194 : (Jvm.Cond.code ({ cls := "WildcardMatcherModel", name := "isShift", desc := "(I)Z" } : Jvm.MethodName) prog_3_method_8_code (2 : Nat) (Option.some Jvm.ClassFile.FieldType.boolean)) ∈ lw_all := lw_g (lw_at lw_m0 181 rfl) rfl
theorem q195 : (Jvm.Cond.methodLink "WildcardMatcherModel" (31 : Nat) ({ cls := "WildcardMatcherModel", name := "differing", desc := "(I)I" } : Jvm.MethodName)) ∈ lw_all := lw_g (lw_at lw_m0 182 rfl) rfl
theorem q196 : (Jvm.Cond.privateMethod ({ cls := "WildcardMatcherModel", name := "differing", desc := "(I)I" } : Jvm.MethodName)) ∈ lw_tbl := lw_at lw_m0 183 rfl
theorem q197 : (Jvm.Cond.instanceMethod ({ cls := "WildcardMatcherModel", name := "differing", desc := "(I)I" } : Jvm.MethodName)) ∈ lw_all := lw_g (lw_at lw_m0 184 rfl) rfl
theorem q198 : (Jvm.Cond.code ({ cls := "WildcardMatcherModel", name := "differing", desc := "(I)I" } : Jvm.MethodName) prog_3_method_9_code (6 : Nat) (Option.some Jvm.ClassFile.FieldType.int)) ∈ lw_all := lw_g (lw_at lw_m0 185 rfl) rfl
theorem q200 : (Jvm.Cond.instanceMethod ({ cls := "WildcardMatcherModel", name := "matchCount", desc := "()I" } : Jvm.MethodName)) ∈ lw_all := lw_g (lw_at lw_m0 187 rfl) rfl
theorem q201 : (Jvm.Cond.selects "WildcardMatcherModel" ({ cls := "WildcardMatcherModel", name := "matchCount", desc := "()I" } : Jvm.MethodName) ({ cls := "WildcardMatcherModel", name := "matchCount", desc := "()I" } : Jvm.MethodName)) ∈ lw_all := lw_g (lw_at lw_m0 188 rfl) rfl
theorem q202 : (Jvm.Cond.code ({ cls := "WildcardMatcherModel", name := "matchCount", desc := "()I" } : Jvm.MethodName) prog_3_method_11_code (3 : Nat) (Option.some Jvm.ClassFile.FieldType.int)) ∈ lw_all := lw_g (lw_at lw_m0 189 rfl) rfl
theorem q203 : (Jvm.Cond.methodLink "WildcardMatcherModel" (35 : Nat) ({ cls := "WildcardMatcherModel", name := "matches", desc := "(I)Z" } : Jvm.MethodName)) ∈ lw_all := lw_g (lw_at lw_m0 190 rfl) rfl
theorem q205 : (Jvm.Cond.instanceMethod ({ cls := "WildcardMatcherModel", name := "nextMatch", desc := "(I)I" } : Jvm.MethodName)) ∈ lw_all := lw_g (lw_at lw_m0 192 rfl) rfl
theorem q206 : (Jvm.Cond.selects "WildcardMatcherModel" ({ cls := "WildcardMatcherModel", name := "nextMatch", desc := "(I)I" } : Jvm.MethodName) ({ cls := "WildcardMatcherModel", name := "nextMatch", desc := "(I)I" } : Jvm.MethodName)) ∈ lw_all := lw_g (lw_at lw_m0 193 rfl) rfl
theorem q207 : (Jvm.Cond.code ({ cls := "WildcardMatcherModel", name := "nextMatch", desc := "(I)I" } : Jvm.MethodName) prog_3_method_12_code (3 : Nat) (Option.some Jvm.ClassFile.FieldType.int)) ∈ lw_all := lw_g (lw_at lw_m0 194 rfl) rfl
theorem q209 : (Jvm.Cond.instanceMethod ({ cls := "WildcardMatcherModel", name := "mismatches", desc := "(I)I" } : Jvm.MethodName)) ∈ lw_all := lw_g (lw_at lw_m0 196 rfl) rfl
theorem q210 : (Jvm.Cond.selects "WildcardMatcherModel" ({ cls := "WildcardMatcherModel", name := "mismatches", desc := "(I)I" } : Jvm.MethodName) ({ cls := "WildcardMatcherModel", name := "mismatches", desc := "(I)I" } : Jvm.MethodName)) ∈ lw_all := lw_g (lw_at lw_m0 197 rfl) rfl
theorem q211 : (Jvm.Cond.code ({ cls := "WildcardMatcherModel", name := "mismatches", desc := "(I)I" } : Jvm.MethodName) prog_3_method_13_code (2 : Nat) (Option.some Jvm.ClassFile.FieldType.int)) ∈ lw_all := lw_g (lw_at lw_m0 198 rfl) rfl
theorem q213 : (Jvm.Cond.instanceMethod ({ cls := "WildcardMatcherModel", name := "bestShift", desc := "()I" } : Jvm.MethodName)) ∈ lw_all := lw_g (lw_at lw_m0 200 rfl) rfl
theorem q214 : (Jvm.Cond.selects "WildcardMatcherModel" ({ cls := "WildcardMatcherModel", name := "bestShift", desc := "()I" } : Jvm.MethodName) ({ cls := "WildcardMatcherModel", name := "bestShift", desc := "()I" } : Jvm.MethodName)) ∈ lw_all := lw_g (lw_at lw_m0 201 rfl) rfl
theorem q215 : (Jvm.Cond.code ({ cls := "WildcardMatcherModel", name := "bestShift", desc := "()I" } : Jvm.MethodName) prog_3_method_14_code (5 : Nat) (Option.some Jvm.ClassFile.FieldType.int)) ∈ lw_all := lw_g (lw_at lw_m0 202 rfl) rfl
theorem q217 : (Jvm.Cond.instanceMethod ({ cls := "WildcardMatcherModel", name := "within", desc := "(I)I" } : Jvm.MethodName)) ∈ lw_all := lw_g (lw_at lw_m0 204 rfl) rfl
theorem q218 : (Jvm.Cond.selects "WildcardMatcherModel" ({ cls := "WildcardMatcherModel", name := "within", desc := "(I)I" } : Jvm.MethodName) ({ cls := "WildcardMatcherModel", name := "within", desc := "(I)I" } : Jvm.MethodName)) ∈ lw_all := lw_g (lw_at lw_m0 205 rfl) rfl
theorem q219 : (Jvm.Cond.code ({ cls := "WildcardMatcherModel", name := "within", desc := "(I)I" } : Jvm.MethodName) prog_3_method_15_code (4 : Nat) (Option.some Jvm.ClassFile.FieldType.int)) ∈ lw_all := lw_g (lw_at lw_m0 206 rfl) rfl
theorem q221 : (Jvm.Cond.instanceMethod ({ cls := "WildcardMatcherModel", name := "turnedMismatches", desc := "(I)I" } : Jvm.MethodName)) ∈ lw_all := lw_g (lw_at lw_m0 208 rfl) rfl
theorem q222 : (Jvm.Cond.selects "WildcardMatcherModel" ({ cls := "WildcardMatcherModel", name := "turnedMismatches", desc := "(I)I" } : Jvm.MethodName) ({ cls := "WildcardMatcherModel", name := "turnedMismatches", desc := "(I)I" } : Jvm.MethodName)) ∈ lw_all := lw_g (lw_at lw_m0 209 rfl) rfl
theorem q223 : (Jvm.Cond.code ({ cls := "WildcardMatcherModel", name := "turnedMismatches", desc := "(I)I" } : Jvm.MethodName) prog_3_method_16_code (2 : Nat) (Option.some Jvm.ClassFile.FieldType.int)) ∈ lw_all := lw_g (lw_at lw_m0 210 rfl) rfl
theorem in_X1 : ∀ w ∈ wsX10, w ∈ lw_all := lw_in wsX10 [154, 156, 158, 160] (by decide +kernel) (by decide +kernel)
theorem q52 : (Jvm.Cond.arrayClass Jvm.ClassFile.FieldType.byte) ∈ lw_all := lw_g (lw_at lw_m0 39 rfl) rfl
theorem q53 : (Jvm.Cond.arrayClass Jvm.ClassFile.FieldType.int) ∈ lw_all := lw_g (lw_at lw_m0 40 rfl) rfl
theorem q13 : (Jvm.Cond.initialized "WildcardMatcherLaw") ∈ lw_all := lw_g (lw_at lw_m0 0 rfl) rfl
theorem q16 : (Jvm.Cond.classLink "WildcardMatcherLaw" (7 : Nat) "WildcardMatcher") ∈ lw_all := lw_g (lw_at lw_m0 3 rfl) rfl
theorem q18 : (Jvm.Cond.methodLink "WildcardMatcherLaw" (9 : Nat) ({ cls := "WildcardMatcher", name := "<init>", desc := "()V" } : Jvm.MethodName)) ∈ lw_all := lw_g (lw_at lw_m0 5 rfl) rfl
theorem q54 : (Jvm.Cond.methodLink "WildcardMatcherLaw" (13 : Nat) ({ cls := "WildcardMatcher", name := "type", desc := "(ZI)I" } : Jvm.MethodName)) ∈ lw_all := lw_g (lw_at lw_m0 41 rfl) rfl
theorem q58 : (Jvm.Cond.methodLink "WildcardMatcherLaw" (18 : Nat) ({ cls := "WildcardMatcher", name := "replace", desc := "(ZII)Z" } : Jvm.MethodName)) ∈ lw_all := lw_g (lw_at lw_m0 45 rfl) rfl
theorem q66 : (Jvm.Cond.methodLink "WildcardMatcherLaw" (23 : Nat) ({ cls := "WildcardMatcher", name := "shorten", desc := "(Z)I" } : Jvm.MethodName)) ∈ lw_all := lw_g (lw_at lw_m0 53 rfl) rfl
theorem q70 : (Jvm.Cond.methodLink "WildcardMatcherLaw" (28 : Nat) ({ cls := "WildcardMatcher", name := "letter", desc := "(ZI)I" } : Jvm.MethodName)) ∈ lw_all := lw_g (lw_at lw_m0 57 rfl) rfl
theorem q74 : (Jvm.Cond.methodLink "WildcardMatcherLaw" (32 : Nat) ({ cls := "WildcardMatcher", name := "length", desc := "(Z)I" } : Jvm.MethodName)) ∈ lw_all := lw_g (lw_at lw_m0 61 rfl) rfl
theorem q75 : (Jvm.Cond.methodLink "WildcardMatcherLaw" (36 : Nat) ({ cls := "WildcardMatcher", name := "matches", desc := "(I)Z" } : Jvm.MethodName)) ∈ lw_all := lw_g (lw_at lw_m0 62 rfl) rfl
theorem q115 : (Jvm.Cond.methodLink "WildcardMatcherLaw" (41 : Nat) ({ cls := "WildcardMatcher", name := "matchCount", desc := "()I" } : Jvm.MethodName)) ∈ lw_all := lw_g (lw_at lw_m0 102 rfl) rfl
theorem q120 : (Jvm.Cond.methodLink "WildcardMatcherLaw" (46 : Nat) ({ cls := "WildcardMatcher", name := "nextMatch", desc := "(I)I" } : Jvm.MethodName)) ∈ lw_all := lw_g (lw_at lw_m0 107 rfl) rfl
theorem q124 : (Jvm.Cond.methodLink "WildcardMatcherLaw" (51 : Nat) ({ cls := "WildcardMatcher", name := "mismatches", desc := "(I)I" } : Jvm.MethodName)) ∈ lw_all := lw_g (lw_at lw_m0 111 rfl) rfl
theorem q132 : (Jvm.Cond.methodLink "WildcardMatcherLaw" (55 : Nat) ({ cls := "WildcardMatcher", name := "bestShift", desc := "()I" } : Jvm.MethodName)) ∈ lw_all := lw_g (lw_at lw_m0 119 rfl) rfl
theorem q136 : (Jvm.Cond.methodLink "WildcardMatcherLaw" (59 : Nat) ({ cls := "WildcardMatcher", name := "within", desc := "(I)I" } : Jvm.MethodName)) ∈ lw_all := lw_g (lw_at lw_m0 123 rfl) rfl
theorem q140 : (Jvm.Cond.methodLink "WildcardMatcherLaw" (63 : Nat) ({ cls := "WildcardMatcher", name := "turnedMismatches", desc := "(I)I" } : Jvm.MethodName)) ∈ lw_all := lw_g (lw_at lw_m0 127 rfl) rfl
theorem q144 : (Jvm.Cond.classLink "WildcardMatcherLaw" (10 : Nat) "WildcardMatcherModel") ∈ lw_all := lw_g (lw_at lw_m0 131 rfl) rfl
theorem q146 : (Jvm.Cond.methodLink "WildcardMatcherLaw" (12 : Nat) ({ cls := "WildcardMatcherModel", name := "<init>", desc := "()V" } : Jvm.MethodName)) ∈ lw_all := lw_g (lw_at lw_m0 133 rfl) rfl
theorem q163 : (Jvm.Cond.methodLink "WildcardMatcherLaw" (17 : Nat) ({ cls := "WildcardMatcherModel", name := "type", desc := "(ZI)I" } : Jvm.MethodName)) ∈ lw_all := lw_g (lw_at lw_m0 150 rfl) rfl
theorem q167 : (Jvm.Cond.methodLink "WildcardMatcherLaw" (22 : Nat) ({ cls := "WildcardMatcherModel", name := "replace", desc := "(ZII)Z" } : Jvm.MethodName)) ∈ lw_all := lw_g (lw_at lw_m0 154 rfl) rfl
theorem q175 : (Jvm.Cond.methodLink "WildcardMatcherLaw" (27 : Nat) ({ cls := "WildcardMatcherModel", name := "shorten", desc := "(Z)I" } : Jvm.MethodName)) ∈ lw_all := lw_g (lw_at lw_m0 162 rfl) rfl
theorem q179 : (Jvm.Cond.methodLink "WildcardMatcherLaw" (31 : Nat) ({ cls := "WildcardMatcherModel", name := "letter", desc := "(ZI)I" } : Jvm.MethodName)) ∈ lw_all := lw_g (lw_at lw_m0 166 rfl) rfl
theorem q183 : (Jvm.Cond.methodLink "WildcardMatcherLaw" (35 : Nat) ({ cls := "WildcardMatcherModel", name := "length", desc := "(Z)I" } : Jvm.MethodName)) ∈ lw_all := lw_g (lw_at lw_m0 170 rfl) rfl
theorem q187 : (Jvm.Cond.methodLink "WildcardMatcherLaw" (40 : Nat) ({ cls := "WildcardMatcherModel", name := "matches", desc := "(I)Z" } : Jvm.MethodName)) ∈ lw_all := lw_g (lw_at lw_m0 174 rfl) rfl
theorem q199 : (Jvm.Cond.methodLink "WildcardMatcherLaw" (45 : Nat) ({ cls := "WildcardMatcherModel", name := "matchCount", desc := "()I" } : Jvm.MethodName)) ∈ lw_all := lw_g (lw_at lw_m0 186 rfl) rfl
theorem q204 : (Jvm.Cond.methodLink "WildcardMatcherLaw" (50 : Nat) ({ cls := "WildcardMatcherModel", name := "nextMatch", desc := "(I)I" } : Jvm.MethodName)) ∈ lw_all := lw_g (lw_at lw_m0 191 rfl) rfl
theorem q208 : (Jvm.Cond.methodLink "WildcardMatcherLaw" (54 : Nat) ({ cls := "WildcardMatcherModel", name := "mismatches", desc := "(I)I" } : Jvm.MethodName)) ∈ lw_all := lw_g (lw_at lw_m0 195 rfl) rfl
theorem q212 : (Jvm.Cond.methodLink "WildcardMatcherLaw" (58 : Nat) ({ cls := "WildcardMatcherModel", name := "bestShift", desc := "()I" } : Jvm.MethodName)) ∈ lw_all := lw_g (lw_at lw_m0 199 rfl) rfl
theorem q216 : (Jvm.Cond.methodLink "WildcardMatcherLaw" (62 : Nat) ({ cls := "WildcardMatcherModel", name := "within", desc := "(I)I" } : Jvm.MethodName)) ∈ lw_all := lw_g (lw_at lw_m0 203 rfl) rfl
theorem q220 : (Jvm.Cond.methodLink "WildcardMatcherLaw" (66 : Nat) ({ cls := "WildcardMatcherModel", name := "turnedMismatches", desc := "(I)I" } : Jvm.MethodName)) ∈ lw_all := lw_g (lw_at lw_m0 207 rfl) rfl
end
section
/-! rows of this claim: numbers as Nat, arrays of Nat values, a call with a part of the world -/
def wm_un (f : Nat → Nat) (k x : Nat) : Nat → Nat := fun j => if j = k then x else f j
theorem wm_un_s {f : Nat → Nat} {k x : Nat} : wm_un f k x k = x := if_pos rfl
theorem wm_un_n {f : Nat → Nat} {k x j : Nat} (h : j ≠ k) : wm_un f k x j = f j := if_neg h
/-- an array of Nat values -/
abbrev wm_a (f : Nat → Nat) : Nat → Int32 := fun j => nI (f j)
theorem wm_upd (f : Nat → Nat) (k x : Nat) : upd (wm_a f) k (nI x) = wm_a (wm_un f k x) := by
  funext j
  by_cases h : j = k
  · subst h
    simp [upd, wm_un, wm_a]
  · simp [upd, wm_un, wm_a, h]
theorem wm_inc (a : Nat) : nI a + Int32.ofInt 1 = nI (a + 1) := nI_1 a
theorem wm_inc4 (a : Nat) : nI a + Int32.ofInt 4 = nI (a + 4) := nI_add a 4
section WMR
variable {p : Program} {l : Launch} {e : Env} {R : Room} {s : State} {m : MethodId} {args : Array Value} {below : List Frame} {meth : Method} {c : Code} {H : Heap} {locs : List Loc} {cells slots : Nat} {Q : State → Prop}
variable {cc : ByteArray} {pc : Nat} {ls : Array Slot} {rest : List Value}
theorem wm_top {x y : Int32} (h : x = y) (k : W p l e R s m args below meth c H locs cells slots Q (F0 m pc ls (.int y :: rest))) : W p l e R s m args below meth c H locs cells slots Q (F0 m pc ls (.int x :: rest)) := by
  rw [h]
  exact k
theorem wm_iadd (hexec : p.tables.exec = Jvm.exec) (hb : c.code = cc) {x y : Nat} (hdg : decode cc pc = .ok (.iadd, 1)) (k : W p l e R s m args below meth c H locs cells slots Q (F0 m (pc + 1) ls (.int (nI (x + y)) :: rest))) : W p l e R s m args below meth c H locs cells slots Q (F0 m pc ls (.int (nI y) :: .int (nI x) :: rest)) :=
  lv_iadd hexec hb hdg (wm_top (nI_add x y) k)
theorem wm_isub (hexec : p.tables.exec = Jvm.exec) (hb : c.code = cc) {x y : Nat} (hdg : decode cc pc = .ok (.isub, 1)) (h : y ≤ x) (k : W p l e R s m args below meth c H locs cells slots Q (F0 m (pc + 1) ls (.int (nI (x - y)) :: rest))) : W p l e R s m args below meth c H locs cells slots Q (F0 m pc ls (.int (nI y) :: .int (nI x) :: rest)) :=
  lv_isub hexec hb hdg (wm_top (pk_sub h) k)
theorem wm_imul (hexec : p.tables.exec = Jvm.exec) (hb : c.code = cc) {x y : Nat} (hdg : decode cc pc = .ok (.imul, 1)) (k : W p l e R s m args below meth c H locs cells slots Q (F0 m (pc + 1) ls (.int (nI (x * y)) :: rest))) : W p l e R s m args below meth c H locs cells slots Q (F0 m pc ls (.int (nI y) :: .int (nI x) :: rest)) :=
  lv_imul hexec hb hdg (wm_top (pk_mul x y) k)
theorem wm_idiv (hexec : p.tables.exec = Jvm.exec) (hb : c.code = cc) {x y : Nat} (hdg : decode cc pc = .ok (.idiv, 1)) (hx : x < 2 ^ 31) (h0 : 0 < y) (hy : y < 2 ^ 31) (k : W p l e R s m args below meth c H locs cells slots Q (F0 m (pc + 1) ls (.int (nI (x / y)) :: rest))) : W p l e R s m args below meth c H locs cells slots Q (F0 m pc ls (.int (nI y) :: .int (nI x) :: rest)) :=
  lv_idiv hexec hb hdg (nI_ne0 h0 hy) (wm_top (pk_div hx h0 hy) k)
theorem wm_irem (hexec : p.tables.exec = Jvm.exec) (hb : c.code = cc) {x y : Nat} (hdg : decode cc pc = .ok (.irem, 1)) (hx : x < 2 ^ 31) (h0 : 0 < y) (hy : y < 2 ^ 31) (k : W p l e R s m args below meth c H locs cells slots Q (F0 m (pc + 1) ls (.int (nI (x % y)) :: rest))) : W p l e R s m args below meth c H locs cells slots Q (F0 m pc ls (.int (nI y) :: .int (nI x) :: rest)) :=
  lv_irem hexec hb hdg (nI_ne0 h0 hy) (wm_top (pk_rem hx h0 hy) k)
theorem wm_cge (hexec : p.tables.exec = Jvm.exec) (hb : c.code = cc) {x y : Nat} {off : Int} {tgt : Nat} (hdg : decode cc pc = .ok (.if_icmp .ge off, 3)) (ht : (pc : Int) + off = (tgt : Int)) (hx : x < 2 ^ 31) (hy : y < 2 ^ 31)
    (kt : y ≤ x → W p l e R s m args below meth c H locs cells slots Q (F0 m tgt ls rest)) (kf : x < y → W p l e R s m args below meth c H locs cells slots Q (F0 m (pc + 3) ls rest)) : W p l e R s m args below meth c H locs cells slots Q (F0 m pc ls (.int (nI y) :: .int (nI x) :: rest)) :=
  lv_icmp_ge hexec hb hdg ht (fun q => kt ((nI_leI hy hx).mp q)) (fun q => kf (Nat.not_le.mp (fun z => q ((nI_leI hy hx).mpr z))))
theorem wm_cgt (hexec : p.tables.exec = Jvm.exec) (hb : c.code = cc) {x y : Nat} {off : Int} {tgt : Nat} (hdg : decode cc pc = .ok (.if_icmp .gt off, 3)) (ht : (pc : Int) + off = (tgt : Int)) (hx : x < 2 ^ 31) (hy : y < 2 ^ 31)
    (kt : y < x → W p l e R s m args below meth c H locs cells slots Q (F0 m tgt ls rest)) (kf : x ≤ y → W p l e R s m args below meth c H locs cells slots Q (F0 m (pc + 3) ls rest)) : W p l e R s m args below meth c H locs cells slots Q (F0 m pc ls (.int (nI y) :: .int (nI x) :: rest)) :=
  lv_icmp_gt hexec hb hdg ht (fun q => kt ((nI_ltI hy hx).mp q)) (fun q => kf (Nat.not_lt.mp (fun z => q ((nI_ltI hy hx).mpr z))))
theorem wm_cle (hexec : p.tables.exec = Jvm.exec) (hb : c.code = cc) {x y : Nat} {off : Int} {tgt : Nat} (hdg : decode cc pc = .ok (.if_icmp .le off, 3)) (ht : (pc : Int) + off = (tgt : Int)) (hx : x < 2 ^ 31) (hy : y < 2 ^ 31)
    (kt : x ≤ y → W p l e R s m args below meth c H locs cells slots Q (F0 m tgt ls rest)) (kf : y < x → W p l e R s m args below meth c H locs cells slots Q (F0 m (pc + 3) ls rest)) : W p l e R s m args below meth c H locs cells slots Q (F0 m pc ls (.int (nI y) :: .int (nI x) :: rest)) :=
  lv_icmp_le hexec hb hdg ht (fun q => kt ((nI_leI hx hy).mp q)) (fun q => kf (Nat.not_le.mp (fun z => q ((nI_leI hx hy).mpr z))))
theorem wm_clt (hexec : p.tables.exec = Jvm.exec) (hb : c.code = cc) {x y : Nat} {off : Int} {tgt : Nat} (hdg : decode cc pc = .ok (.if_icmp .lt off, 3)) (ht : (pc : Int) + off = (tgt : Int)) (hx : x < 2 ^ 31) (hy : y < 2 ^ 31)
    (kt : x < y → W p l e R s m args below meth c H locs cells slots Q (F0 m tgt ls rest)) (kf : y ≤ x → W p l e R s m args below meth c H locs cells slots Q (F0 m (pc + 3) ls rest)) : W p l e R s m args below meth c H locs cells slots Q (F0 m pc ls (.int (nI y) :: .int (nI x) :: rest)) :=
  lv_icmp_lt hexec hb hdg ht (fun q => kt ((nI_ltI hx hy).mp q)) (fun q => kf (Nat.not_lt.mp (fun z => q ((nI_ltI hx hy).mpr z))))
theorem wm_ceq (hexec : p.tables.exec = Jvm.exec) (hb : c.code = cc) {x y : Nat} {off : Int} {tgt : Nat} (hdg : decode cc pc = .ok (.if_icmp .eq off, 3)) (ht : (pc : Int) + off = (tgt : Int)) (hx : x < 2 ^ 31) (hy : y < 2 ^ 31)
    (kt : x = y → W p l e R s m args below meth c H locs cells slots Q (F0 m tgt ls rest)) (kf : x ≠ y → W p l e R s m args below meth c H locs cells slots Q (F0 m (pc + 3) ls rest)) : W p l e R s m args below meth c H locs cells slots Q (F0 m pc ls (.int (nI y) :: .int (nI x) :: rest)) :=
  lv_icmp_eq hexec hb hdg ht (fun q => kt ((nI_eq hx hy).mp q)) (fun q => kf (fun z => q ((nI_eq hx hy).mpr z)))
theorem wm_cne (hexec : p.tables.exec = Jvm.exec) (hb : c.code = cc) {x y : Nat} {off : Int} {tgt : Nat} (hdg : decode cc pc = .ok (.if_icmp .ne off, 3)) (ht : (pc : Int) + off = (tgt : Int)) (hx : x < 2 ^ 31) (hy : y < 2 ^ 31)
    (kt : x ≠ y → W p l e R s m args below meth c H locs cells slots Q (F0 m tgt ls rest)) (kf : x = y → W p l e R s m args below meth c H locs cells slots Q (F0 m (pc + 3) ls rest)) : W p l e R s m args below meth c H locs cells slots Q (F0 m pc ls (.int (nI y) :: .int (nI x) :: rest)) :=
  lv_icmp_ne hexec hb hdg ht (fun q => kt (fun z => q ((nI_eq hx hy).mpr z))) (fun q => kf ((nI_eq hx hy).mp q))
theorem wm_zeq (hexec : p.tables.exec = Jvm.exec) (hb : c.code = cc) {x : Nat} {off : Int} {tgt : Nat} (hdg : decode cc pc = .ok (.ifCond .eq off, 3)) (ht : (pc : Int) + off = (tgt : Int)) (hx : x < 2 ^ 31)
    (kt : x = 0 → W p l e R s m args below meth c H locs cells slots Q (F0 m tgt ls rest)) (kf : x ≠ 0 → W p l e R s m args below meth c H locs cells slots Q (F0 m (pc + 3) ls rest)) : W p l e R s m args below meth c H locs cells slots Q (F0 m pc ls (.int (nI x) :: rest)) :=
  lv_if_eq hexec hb hdg ht (fun q => kt ((nI_eq hx (by decide)).mp (q.trans nI_0.symm))) (fun q => kf (fun z => q (by rw [z]; exact nI_0)))
theorem wm_zne (hexec : p.tables.exec = Jvm.exec) (hb : c.code = cc) {x : Nat} {off : Int} {tgt : Nat} (hdg : decode cc pc = .ok (.ifCond .ne off, 3)) (ht : (pc : Int) + off = (tgt : Int)) (hx : x < 2 ^ 31)
    (kt : x ≠ 0 → W p l e R s m args below meth c H locs cells slots Q (F0 m tgt ls rest)) (kf : x = 0 → W p l e R s m args below meth c H locs cells slots Q (F0 m (pc + 3) ls rest)) : W p l e R s m args below meth c H locs cells slots Q (F0 m pc ls (.int (nI x) :: rest)) :=
  lv_if_ne hexec hb hdg ht (fun q => kt (fun z => q (by rw [z]; exact nI_0))) (fun q => kf ((nI_eq hx (by decide)).mp (q.trans nI_0.symm)))
theorem wm_zle (hexec : p.tables.exec = Jvm.exec) (hb : c.code = cc) {x : Nat} {off : Int} {tgt : Nat} (hdg : decode cc pc = .ok (.ifCond .le off, 3)) (ht : (pc : Int) + off = (tgt : Int)) (hx : x < 2 ^ 31)
    (kt : x = 0 → W p l e R s m args below meth c H locs cells slots Q (F0 m tgt ls rest)) (kf : 0 < x → W p l e R s m args below meth c H locs cells slots Q (F0 m (pc + 3) ls rest)) : W p l e R s m args below meth c H locs cells slots Q (F0 m pc ls (.int (nI x) :: rest)) :=
  lv_if_le hexec hb hdg ht (fun q => kt (Nat.eq_zero_of_not_pos (fun z => nI_nle z hx q))) (fun q => kf (Nat.pos_of_ne_zero (fun z => q (by rw [z]; decide))))
variable {D : va_G} {cl : List vw_C} {A : Nat → Prop} {a : Nat} {tys : List (ClassId × FieldType)} {ws : va_W} {H0 : Heap}
theorem wm_iald (hexec : p.tables.exec = Jvm.exec) (hb : c.code = cc) (hK : va_K D cl tys s) (hP : va_P D cl ws H) (q0 t0 : Nat) {cA : ClassId} {n : Nat} {f : Nat → Nat} (ha : ws[q0]? = some (a, .inl (cA, n, .inl (wm_a f)))) (ht : tys[t0]? = some (cA, .int)) {i : Nat} (hn : n < 2 ^ 31) (hi : i < n) (hdg : decode cc pc = .ok (.iaload, 1))
    (kk : W p l e R s m args below meth c H locs cells slots Q (F0 m (pc + 1) ls (.int (nI (f i)) :: rest))) : W p l e R s m args below meth c H locs cells slots Q (F0 m pc ls (.int (nI i) :: .ref a :: rest)) :=
  va_iald hexec hb hK hP q0 t0 ha ht (vp_in_nI hi hn) hdg (wm_top (by rw [nI_clamp (Nat.lt_trans hi hn)]) kk)
theorem wm_bald (hexec : p.tables.exec = Jvm.exec) (hb : c.code = cc) (hK : va_K D cl tys s) (hP : va_P D cl ws H) (q0 t0 : Nat) {cA : ClassId} {n : Nat} {f : Nat → Nat} (ha : ws[q0]? = some (a, .inl (cA, n, .inl (wm_a f)))) (ht : tys[t0]? = some (cA, .byte)) {i : Nat} (hn : n < 2 ^ 31) (hi : i < n) (hdg : decode cc pc = .ok (.baload, 1))
    (kk : W p l e R s m args below meth c H locs cells slots Q (F0 m (pc + 1) ls (.int (nI (f i)) :: rest))) : W p l e R s m args below meth c H locs cells slots Q (F0 m pc ls (.int (nI i) :: .ref a :: rest)) :=
  va_bald hexec hb hK hP q0 t0 ha ht (vp_in_nI hi hn) hdg (wm_top (by rw [nI_clamp (Nat.lt_trans hi hn)]) kk)
theorem wm_iast (hexec : p.tables.exec = Jvm.exec) (hb : c.code = cc) (hK : va_K D cl tys s) (hP : va_P D cl ws H) (hD : va_D A ws) (hS : va_S A H0 H locs) (q0 t0 : Nat) {cA : ClassId} {n : Nat} {f : Nat → Nat} (ha : ws[q0]? = some (a, .inl (cA, n, .inl (wm_a f)))) (ht : tys[t0]? = some (cA, .int)) {i x : Nat} (hn : n < 2 ^ 31) (hi : i < n) (hdg : decode cc pc = .ok (.iastore, 1))
    (kk : ∀ (H1 : Heap) (locs1 : List Loc), va_P D cl (ws.set q0 (a, .inl (cA, n, .inl (wm_a (wm_un f i x))))) H1 → va_D A (ws.set q0 (a, .inl (cA, n, .inl (wm_a (wm_un f i x))))) → va_S A H0 H1 locs1 → W p l e R s m args below meth c H1 locs1 cells slots Q (F0 m (pc + 1) ls rest)) : W p l e R s m args below meth c H locs cells slots Q (F0 m pc ls (.int (nI x) :: .int (nI i) :: .ref a :: rest)) := by
  refine va_iast hexec hb hK hP hD hS q0 t0 ha ht (vp_in_nI hi hn) hdg (fun H1 locs1 h1 h2 h3 => ?_)
  rw [nI_clamp (Nat.lt_trans hi hn), wm_upd] at h1 h2
  exact kk H1 locs1 h1 h2 h3
theorem wm_narb : ∀ x : Nat, x < 5 → vp_nar .byte (nI x) = nI x := by decide +kernel
theorem wm_i2b : ∀ x : Nat, x < 5 → (nI x).toInt8.toInt32 = nI x := by decide +kernel
theorem wm_bast (hexec : p.tables.exec = Jvm.exec) (hb : c.code = cc) (hK : va_K D cl tys s) (hP : va_P D cl ws H) (hD : va_D A ws) (hS : va_S A H0 H locs) (q0 t0 : Nat) {cA : ClassId} {n : Nat} {f : Nat → Nat} (ha : ws[q0]? = some (a, .inl (cA, n, .inl (wm_a f)))) (ht : tys[t0]? = some (cA, .byte)) {i x : Nat} (hn : n < 2 ^ 31) (hi : i < n) (hx : x < 5) (hdg : decode cc pc = .ok (.bastore, 1))
    (kk : ∀ (H1 : Heap) (locs1 : List Loc), va_P D cl (ws.set q0 (a, .inl (cA, n, .inl (wm_a (wm_un f i x))))) H1 → va_D A (ws.set q0 (a, .inl (cA, n, .inl (wm_a (wm_un f i x))))) → va_S A H0 H1 locs1 → W p l e R s m args below meth c H1 locs1 cells slots Q (F0 m (pc + 1) ls rest)) : W p l e R s m args below meth c H locs cells slots Q (F0 m pc ls (.int (nI x) :: .int (nI i) :: .ref a :: rest)) := by
  refine va_bast hexec hb hK hP hD hS q0 t0 ha ht (vp_in_nI hi hn) hdg (fun H1 locs1 h1 h2 h3 => ?_)
  rw [nI_clamp (Nat.lt_trans hi hn), wm_narb x hx, wm_upd] at h1 h2
  exact kk H1 locs1 h1 h2 h3
end WMR
/-- a method's world at its start, and at its end -/
def wm_pre (D : va_G) (cl : List vw_C) (tys : List (ClassId × FieldType)) (ws : va_W) (sz : Nat) (U : State) : Prop := U.heap.size = sz ∧ va_P D cl ws U.heap ∧ va_K D cl tys U ∧ va_D (fun _ => True) ws
def wm_is (D : va_G) (cl : List vw_C) (tys : List (ClassId × FieldType)) (A : Nat → Prop) (ws : va_W) (t : State) : Prop := va_P D cl ws t.heap ∧ va_K D cl tys t ∧ va_D A ws
theorem wm_preV {s : State} {H : Heap} {C : String} {b : Nat} {D : va_G} {cl : List vw_C} {tys tysC : List (ClassId × FieldType)} {ws wc : va_W} {A : Nat → Prop} {As : List Value} (hr : ∃ cell : Cell, H[b]? = some cell ∧ cell.vm.isStatics = false ∧ s.vm.findClass C = some cell.cls) (hK : va_K D cl tys s) (hP : va_P D cl ws H) (hD : va_D A ws) (isC isT : List Nat) (hC : isC.map (fun i => ws[i]?) = wc.map some) (hC2 : isC.filterMap (fun i => ws[i]?) = wc) (hn : va_nd isC = true) (hT : isT.filterMap (fun i => tys[i]?) = tysC) :
    PreV s H C b (va_Pc (.ref b :: As) (wm_pre D cl tysC wc H.size)) As :=
  ⟨fun a U g mk q => by
    obtain ⟨q0, q1, qP, qK, qD⟩ := q
    exact ⟨q0, q1, qP, va_K.moved (u := U) (U := U.calling g mk a) (Vm.Alike.refl U.vm) qK, qD⟩, hr, fun U hU hW => ⟨rfl, by rw [hU], by rw [hU]; exact hP.sub isC hC2, va_K.moved hW.alike (hK.sub isT hT), (hD.sub isC hn hC).weaken (fun _ _ _ _ => trivial)⟩⟩
section WMC
variable {p : Program} {l : Launch} {e : Env} {R : Room} {s : State} {m : MethodId} {args : Array Value} {below : List Frame} {meth : Method} {c : Code} {H : Heap} {locs : List Loc} {cells slots : Nat} {Q : State → Prop}
variable {cc : ByteArray} {pc nL : Nat} {ls : Array Slot} {rest st0 : List Value} {own C : String} {b : Nat} {y : MethodName} {bytes : ByteArray} {maxL index n : Nat} {ret : Option FieldType} {wsq : List Cond} {rm : Room} {As : List Value}
variable {D : va_G} {cl : List vw_C} {A : Nat → Prop} {tys tysC : List (ClassId × FieldType)} {ws wc wr : va_W}
/-- a call with a part of the world: an int comes back -/
theorem wm_calli {S : Type} {post : Int32 → S → Prop} {wn : S → va_W} (F : CallFix p m c cc nL s args lw_all own) (hM : Met l y wsq rm (va_Pc (.ref b :: As) (wm_pre D cl tysC wc H.size)) (va_Qi post (fun u => wm_is D cl tysC (va_A wc H.size) (wn u)) (va_A wc H.size)) 0 0 (va_A wc H.size))
    (cw : CallW R s args own C index y bytes maxL ret wsq rm 0 0 n) (hr : ∃ cell : Cell, H[b]? = some cell ∧ cell.vm.isStatics = false ∧ s.vm.findClass C = some cell.cls) (hK : va_K D cl tys s) (hP : va_P D cl ws H) (hD : va_D A ws) (hS : va_S A s.heap H locs) (hA : ∀ q, s.heap.size ≤ q → A q)
    (isC isR isT : List Nat) (hC : isC.map (fun i => ws[i]?) = wc.map some) (hC2 : isC.filterMap (fun i => ws[i]?) = wc) (hR : isR.map (fun i => ws[i]?) = wr.map some) (hn : va_nd isC = true) (hn2 : va_nd isR = true) (hdis : ∀ i ∈ isR, i ∉ isC) (hT : isT.filterMap (fun i => tys[i]?) = tysC)
    (hlen : As.length = n) (hsize : ls.size = nL) (hst : st0 = As.reverse ++ .ref b :: rest) (hW : (rest.map fun v => v.category).sum ≤ 8) (hdg : decode cc pc = .ok (.invokevirtual index, 3)) (hf : cells ≤ R.cells ∧ slots ≤ R.slots)
    (kk : ∀ (r : Int32) (u : S) (H1 : Heap) (locs1 : List Loc), post r u → va_P D cl (wr ++ wn u) H1 → va_D A (wr ++ wn u) → va_S A s.heap H1 locs1 → W p l e R s m args below meth c H1 locs1 cells slots Q (F0 m (pc + 3) ls (.int r :: rest))) : W p l e R s m args below meth c H locs cells slots Q (F0 m pc ls st0) := by
  have hFc := va_free (wc := wc) hD hS hA isC hC
  refine va_calli (va_runV (As := As) (rest := rest) F hM cw (wm_preV hr hK hP hD isC isT hC hC2 hn hT) rfl hlen hsize hst (lv_room hW) hdg hf) hS (fun q _ h => hFc q h) hFc (fun r u t H1 locs1 ht hvm hp hB hz1 hk1 hS1 => ?_)
  obtain ⟨hP1, hK1, hD1⟩ := hB
  rw [ht] at hP1
  obtain ⟨hP2, hD2⟩ := va_join (wr := wr) (w1 := wn u) hP hD isC isR hC hR hn2 hdis hk1 hFc hP1 hD1
  exact kk r u H1 locs1 hp hP2 hD2 hS1
/-- a call with a part of the world: nothing comes back -/
theorem wm_callv {S : Type} {post : S → Prop} {wn : S → va_W} (F : CallFix p m c cc nL s args lw_all own) (hM : Met l y wsq rm (va_Pc (.ref b :: As) (wm_pre D cl tysC wc H.size)) (va_Qv post (fun u => wm_is D cl tysC (va_A wc H.size) (wn u)) (va_A wc H.size)) 0 0 (va_A wc H.size))
    (cw : CallW R s args own C index y bytes maxL ret wsq rm 0 0 n) (hr : ∃ cell : Cell, H[b]? = some cell ∧ cell.vm.isStatics = false ∧ s.vm.findClass C = some cell.cls) (hK : va_K D cl tys s) (hP : va_P D cl ws H) (hD : va_D A ws) (hS : va_S A s.heap H locs) (hA : ∀ q, s.heap.size ≤ q → A q)
    (isC isR isT : List Nat) (hC : isC.map (fun i => ws[i]?) = wc.map some) (hC2 : isC.filterMap (fun i => ws[i]?) = wc) (hR : isR.map (fun i => ws[i]?) = wr.map some) (hn : va_nd isC = true) (hn2 : va_nd isR = true) (hdis : ∀ i ∈ isR, i ∉ isC) (hT : isT.filterMap (fun i => tys[i]?) = tysC)
    (hlen : As.length = n) (hsize : ls.size = nL) (hst : st0 = As.reverse ++ .ref b :: rest) (hW : (rest.map fun v => v.category).sum ≤ 8) (hdg : decode cc pc = .ok (.invokevirtual index, 3)) (hf : cells ≤ R.cells ∧ slots ≤ R.slots)
    (kk : ∀ (u : S) (H1 : Heap) (locs1 : List Loc), post u → va_P D cl (wr ++ wn u) H1 → va_D A (wr ++ wn u) → va_S A s.heap H1 locs1 → W p l e R s m args below meth c H1 locs1 cells slots Q (F0 m (pc + 3) ls rest)) : W p l e R s m args below meth c H locs cells slots Q (F0 m pc ls st0) := by
  have hFc := va_free (wc := wc) hD hS hA isC hC
  refine va_callv (va_runV (As := As) (rest := rest) F hM cw (wm_preV hr hK hP hD isC isT hC hC2 hn hT) rfl hlen hsize hst (lv_room hW) hdg hf) hS (fun q _ h => hFc q h) hFc (fun u t H1 locs1 ht hvm hp hB hz1 hk1 hS1 => ?_)
  obtain ⟨hP1, hK1, hD1⟩ := hB
  rw [ht] at hP1
  obtain ⟨hP2, hD2⟩ := va_join (wr := wr) (w1 := wn u) hP hD isC isR hC hR hn2 hdis hk1 hFc hP1 hD1
  exact kk u H1 locs1 hp hP2 hD2 hS1
end WMC
end
section
/-! pure words: what the two sides compute, in Nat -/
/-- K steps of a loop over an array -/
def wm_it (f : Nat → (Nat → Nat) → (Nat → Nat)) : Nat → (Nat → Nat) → (Nat → Nat)
  | 0, w => w
  | k + 1, w => f k (wm_it f k w)
/-- the powers of the root of order 64 -/
def wm_rt (j : Nat) : Nat := if j < 64 then 5413 ^ j % 7681 else 0
theorem wm_rt_lt (j : Nat) : wm_rt j < 7681 := by
  unfold wm_rt
  split
  · exact Nat.mod_lt _ (by decide)
  · decide
def wm_rtK (k j : Nat) : Nat := if j < k then 5413 ^ j % 7681 else 0
theorem wm_rtK64 : wm_rtK 64 = wm_rt := rfl
theorem wm_rtK_s (k : Nat) : wm_un (wm_rtK k) k (5413 ^ k % 7681) = wm_rtK (k + 1) := by
  funext j
  unfold wm_un wm_rtK
  by_cases h : j = k
  · subst h
    simp
  · by_cases h2 : j < k
    · simp [h, h2, Nat.lt_succ_of_lt h2]
    · simp [h, h2, show ¬ j < k + 1 by omega]
theorem wm_rtK_1 : wm_un (fun _ => 0) 0 1 = wm_rtK 1 := by
  funext j
  unfold wm_un wm_rtK
  by_cases h : j = 0
  · subst h
    decide
  · simp [h, show ¬ j < 1 by omega]
/-- six bits turned -/
def wm_rev (k : Nat) : Nat := k % 2 * 32 + k / 2 % 2 * 16 + k / 4 % 2 * 8 + k / 8 % 2 * 4 + k / 16 % 2 * 2 + k / 32 % 2
def wm_tb (k : Int32) : Nat → Int32
  | 0 => nI 0
  | b + 1 => wm_tb k b ||| (((k >>> (nI b &&& 31)) &&& nI 1) <<< ((nI 5 - nI b) &&& 31))
theorem wm_tb6 : ∀ k, k < 64 → wm_tb (nI k) 6 = nI (wm_rev k) := by decide +kernel
theorem wm_rev_lt (k : Nat) : wm_rev k < 64 := by unfold wm_rev; omega
theorem wm_rev_rev : ∀ k, k < 64 → wm_rev (wm_rev k) = k := by decide +kernel
/-- one butterfly -/
def wm_bf (w : Nat → Nat) (lo hi r : Nat) : Nat → Nat := wm_un (wm_un w lo ((w lo + w hi * r % 7681) % 7681)) hi ((w lo + 7681 - w hi * r % 7681) % 7681)
def wm_l0 (h k : Nat) : Nat := k / h * 2 * h + k % h
def wm_pw (b : Bool) (h k : Nat) : Nat := if b = true ∧ 0 < k % h * (32 / h) then 64 - k % h * (32 / h) else k % h * (32 / h)
def wm_st (at_ : Nat) (b : Bool) (h : Nat) : Nat → (Nat → Nat) → (Nat → Nat) := fun k w => wm_bf w (at_ + wm_l0 h k) (at_ + wm_l0 h k + h) (wm_rt (wm_pw b h k))
def wm_sg (at_ : Nat) (b : Bool) : Nat → (Nat → Nat) → (Nat → Nat) := fun s w => wm_it (wm_st at_ b (2 ^ s)) 32 w
def wm_sw (at_ : Nat) : Nat → (Nat → Nat) → (Nat → Nat) := fun k w => if k < wm_rev k then wm_un (wm_un w (at_ + k) (w (at_ + wm_rev k))) (at_ + wm_rev k) (w (at_ + k)) else w
def wm_dv (at_ : Nat) : Nat → (Nat → Nat) → (Nat → Nat) := fun k w => wm_un w (at_ + k) (w (at_ + k) * 7561 % 7681)
/-- the transform in place -/
def wm_tr (at_ : Nat) (b : Bool) (w : Nat → Nat) : Nat → Nat := if b = true then wm_it (wm_dv at_) 64 (wm_it (wm_sg at_ b) 6 (wm_it (wm_sw at_) 64 w)) else wm_it (wm_sg at_ b) 6 (wm_it (wm_sw at_) 64 w)
/-- what a letter counts -/
def wm_ms (h : Int32) (x : Nat) : Nat := if h < 0 then (if nI x = -h then 1 else 0) else if x = 0 then 0 else x ^ h.toNatClampNeg
def wm_cs : Nat → (Nat → Nat) → (Nat → Nat) := fun k w => wm_un w (128 + k) 0
def wm_c2 : Nat → (Nat → Nat) → (Nat → Nat) := fun k w => wm_un (wm_un w (64 + k) 0) (0 + k) 0
def wm_lp (m : Nat) (p : Nat → Nat) (h : Int32) : Nat → (Nat → Nat) → (Nat → Nat) := fun j w => wm_un w (64 + m - 1 - j) (wm_ms h (p j))
def wm_lt (n : Nat) (t : Nat → Nat) (h : Int32) : Nat → (Nat → Nat) → (Nat → Nat) := fun i w => wm_un w (0 + i) (wm_ms h (t (i % n)))
def wm_ac (f : Nat) : Nat → (Nat → Nat) → (Nat → Nat) := fun k w => wm_un w (128 + k) ((w (128 + k) + w (64 + k) * w (0 + k) % 7681 * f % 7681) % 7681)
/-- one product added -/
def wm_ap (n m : Nat) (t p : Nat → Nat) (hp ht : Int32) (f : Nat) (w : Nat → Nat) : Nat → Nat := wm_it (wm_ac f) 64 (wm_tr 0 false (wm_tr 64 false (wm_it (wm_lt n t ht) (n + m - 1) (wm_it (wm_lp m p hp) m (wm_it wm_c2 64 w)))))
def wm_cp (m : Nat) (w : Nat → Nat) : Nat → (Nat → Nat) → (Nat → Nat) := fun i d => wm_un d i (w (128 + i + m - 1))
def wm_al (n m : Nat) (t p : Nat → Nat) : Nat → (Nat → Nat) → (Nat → Nat) := fun q w => wm_ap n m t p (-nI (q + 1)) (-nI (q + 1)) 7680 w
def wm_w5 (n m : Nat) (t p w : Nat → Nat) : Nat → Nat := wm_tr 128 true (wm_ap n m t p (nI 1) (nI 3) 1 (wm_ap n m t p (nI 2) (nI 2) 7679 (wm_ap n m t p (nI 3) (nI 1) 1 (wm_it wm_cs 64 w))))
def wm_w9 (n m : Nat) (t p w : Nat → Nat) : Nat → Nat := wm_tr 128 true (wm_it (wm_al n m t p) 4 (wm_ap n m t p (nI 0) (nI 0) 1 (wm_it wm_cs 64 w)))
/-- does place j of the pattern, at shift i, not agree with the text -/
def wm_ee (a b : Nat) : Nat := if a ≠ b ∧ a ≠ 0 ∧ b ≠ 0 then 1 else 0
def wm_mi (n : Nat) (t p : Nat → Nat) (i : Nat) : Nat → Nat
  | 0 => 0
  | j + 1 => wm_mi n t p i j + wm_ee (t ((i + j) % n)) (p j)
theorem wm_mi_le (n : Nat) (t p : Nat → Nat) (i : Nat) : ∀ j, wm_mi n t p i j ≤ j
  | 0 => Nat.le_refl 0
  | j + 1 => by
    have h := wm_mi_le n t p i j
    unfold wm_mi wm_ee
    split <;> omega
/-- what stands in the two result arrays when they are ready -/
def wm_ok (n m : Nat) (t p d g : Nat → Nat) : Prop := 0 < m → m ≤ n → ∀ i, i < n → (d i = 0 ↔ wm_mi n t p i m = 0) ∧ g i = wm_mi n t p i m
/-- the letters and lengths of both sides -/
def wm_ab (n m : Nat) (t p : Nat → Nat) : Prop := n ≤ 40 ∧ m ≤ 12 ∧ (∀ j, t j < 5) ∧ ∀ j, p j < 5
/-- the state of the class under the law -/
def wm_xi (n m rd : Nat) (t p w d g : Nat → Nat) : Prop := wm_ab n m t p ∧ rd < 2 ∧ (∀ x, w x < 7681) ∧ (∀ x, d x < 7681) ∧ (∀ x, g x < 7681) ∧ (rd = 1 → wm_ok n m t p d g)
/-- the class under the law -/
abbrev wm_cl : List vw_C := [(RX0, TX0, 9), (RX1, TX1, 4)]
abbrev wm_x (a : Nat → Nat) (k : Nat → ClassId) (n m rd : Nat) (t p w d g : Nat → Nat) : va_W :=
  [(a 0, .inr (0, [.int (nI n), .int (nI m), .ref (a 1), .ref (a 2), .ref (a 3), .ref (a 4), .int (nI rd), .ref (a 5), .ref (a 6)])), (a 1, .inl (k 1, 40, .inl (wm_a t))), (a 2, .inl (k 2, 12, .inl (wm_a p))), (a 3, .inl (k 3, 64, .inl (wm_a wm_rt))), (a 4, .inl (k 4, 192, .inl (wm_a w))), (a 5, .inl (k 5, 40, .inl (wm_a d))), (a 6, .inl (k 6, 40, .inl (wm_a g)))]
abbrev wm_xt (k : Nat → ClassId) : List (ClassId × FieldType) := [(k 1, .byte), (k 2, .byte), (k 3, .int), (k 4, .int), (k 5, .int), (k 6, .int)]
/-- the reference -/
abbrev wm_y (a : Nat → Nat) (k : Nat → ClassId) (n m : Nat) (t p : Nat → Nat) : va_W :=
  [(a 0, .inr (1, [.int (nI n), .int (nI m), .ref (a 1), .ref (a 2)])), (a 1, .inl (k 1, 40, .inl (wm_a t))), (a 2, .inl (k 2, 12, .inl (wm_a p)))]
abbrev wm_yt (k : Nat → ClassId) : List (ClassId × FieldType) := [(k 1, .int), (k 2, .int)]
/-! the answers -/
def wm_len (z : Int32) (n m : Nat) : Nat := if z = 0 then n else m
abbrev wm_S : Type := Nat × Nat × (Nat → Nat) × (Nat → Nat)
abbrev wm_V : Type := Nat × (Nat → Nat) × (Nat → Nat) × (Nat → Nat)
/-- type: answer and state -/
def wm_ty (z c : Int32) (n m : Nat) (t p : Nat → Nat) : Int32 × wm_S :=
  if (if z = 0 then 40 ≤ n else 12 ≤ m) then (-1, n, m, t, p)
  else if c < 0 ∨ ¬ c ≤ 4 then (-2, n, m, t, p)
  else if z = 0 then (nI (n + 1), n + 1, m, wm_un t n c.toNatClampNeg, p)
  else (nI (m + 1), n, m + 1, t, wm_un p m c.toNatClampNeg)
/-- replace -/
def wm_rp (z i c : Int32) (n m : Nat) (t p : Nat → Nat) : Int32 × wm_S :=
  if (i < 0 ∨ nI (wm_len z n m) ≤ i) ∨ c < 0 ∨ ¬ c ≤ 4 then (0, n, m, t, p)
  else if z = 0 then (1, n, m, wm_un t i.toNatClampNeg c.toNatClampNeg, p)
  else (1, n, m, t, wm_un p i.toNatClampNeg c.toNatClampNeg)
def wm_sf : Nat → (Nat → Nat) → (Nat → Nat) := fun i t => wm_un t i (t (i + 1))
/-- shorten -/
def wm_so (z : Int32) (n m : Nat) (t p : Nat → Nat) : Int32 × wm_S :=
  if wm_len z n m = 0 then (-2, n, m, t, p)
  else if z = 0 then (nI (n - 1), n - 1, m, wm_it wm_sf (n - 1) t, p)
  else (nI (m - 1), n, m - 1, t, wm_it wm_sf (m - 1) p)
/-- letter -/
def wm_le (z i : Int32) (n m : Nat) (t p : Nat → Nat) : Int32 :=
  if i < 0 ∨ nI (wm_len z n m) ≤ i then -2
  else if z = 0 then nI (t i.toNatClampNeg) else nI (p i.toNatClampNeg)
/-- matches, mismatches, turnedMismatches -/
def wm_mt (n m : Nat) (t p : Nat → Nat) (i : Int32) : Int32 := if i < 0 ∨ nI n - nI m < i then 0 else if wm_mi n t p i.toNatClampNeg m = 0 then 1 else 0
def wm_mm (n m : Nat) (t p : Nat → Nat) (i : Int32) : Int32 := if i < 0 ∨ nI n - nI m < i then -2 else nI (wm_mi n t p i.toNatClampNeg m)
def wm_tm (n m : Nat) (t p : Nat → Nat) (i : Int32) : Int32 := if i < 0 ∨ nI n ≤ i ∨ n < m then -2 else nI (wm_mi n t p i.toNatClampNeg m)
/-- matchCount, within: a count; nextMatch: the first; bestShift: the first of the least -/
def wm_ct (P : Nat → Bool) : Nat → Nat
  | 0 => 0
  | i + 1 => wm_ct P i + (if P i = true then 1 else 0)
def wm_fd (P : Nat → Bool) : Nat → Nat → Int32
  | 0, _ => -3
  | r + 1, i => if P i = true then nI i else wm_fd P r (i + 1)
def wm_bs (f : Nat → Nat) : Nat → Nat → Int32 → Nat → Int32
  | 0, _, b, _ => b
  | r + 1, i, b, q => if f i < q then wm_bs f r (i + 1) (nI i) (f i) else wm_bs f r (i + 1) b q
def wm_mc (n m : Nat) (t p : Nat → Nat) : Int32 := nI (wm_ct (fun i => decide (wm_mi n t p i m = 0)) (n + 1 - m))
def wm_wi (n m : Nat) (t p : Nat → Nat) (k : Int32) : Int32 := nI (wm_ct (fun i => !decide (k < nI (wm_mi n t p i m))) (n + 1 - m))
def wm_nx (n m : Nat) (t p : Nat → Nat) (f : Int32) : Int32 := wm_fd (fun i => !decide (nI i < f) && decide (wm_mi n t p i m = 0)) (n + 1 - m) 0
def wm_be (n m : Nat) (t p : Nat → Nat) : Int32 := wm_bs (fun i => wm_mi n t p i m) (n + 1 - m) 0 (-3) 100
theorem wm_be13 (n m : Nat) (t p : Nat → Nat) (hm : m ≤ 12) : wm_bs (fun i => wm_mi n t p i m) (n + 1 - m) 0 (-3) 13 = wm_be n m t p := by
  unfold wm_be
  cases n + 1 - m with
  | zero => rfl
  | succ r =>
    have h := wm_mi_le n t p 0 m
    unfold wm_bs
    rw [if_pos (show wm_mi n t p 0 m < 13 by omega), if_pos (show wm_mi n t p 0 m < 100 by omega)]
theorem wm_ct_le (P : Nat → Bool) : ∀ i, wm_ct P i ≤ i
  | 0 => Nat.le_refl 0
  | i + 1 => by
    have h := wm_ct_le P i
    unfold wm_ct
    split <;> omega
theorem wm_shift {n m : Nat} {i : Int32} (hn : n ≤ 40) (hm : m ≤ 12) (h0 : ¬ i < 0) (h1 : ¬ nI n - nI m < i) : ∃ j, i = nI j ∧ j + m ≤ n := by
  obtain ⟨j, hj, rfl⟩ := nI_of h0
  refine ⟨j, rfl, ?_⟩
  rw [Int32.lt_iff_toInt_lt, pk_sub_toInt (by omega) (by omega), nI_toInt hj] at h1
  omega
theorem wm_shiftI {n m i : Nat} (hn : n ≤ 40) (hm : m ≤ 12) (hi : i < 2 ^ 30) : nI n - nI m < nI i ↔ n < i + m := by
  rw [Int32.lt_iff_toInt_lt, pk_sub_toInt (by omega) (by omega), nI_toInt (by omega)]
  omega
theorem wm_letter {c : Int32} (h0 : ¬ c < 0) (h1 : c ≤ 4) : ∃ x : Nat, x < 5 ∧ c = nI x := by
  obtain ⟨j, hj, e⟩ := nI_of2 (M := 4) (n := 4) (by decide) h0 h1
  exact ⟨j, by omega, e⟩
theorem wm_index {i : Int32} {n : Nat} (hn : n < 2 ^ 31) (h0 : ¬ i < 0) (h1 : ¬ nI n ≤ i) : ∃ j : Nat, j < n ∧ i = nI j := by
  rcases pk_ix i hn with h | h | h
  · exact absurd h h0
  · exact absurd h h1
  · exact h
theorem wm_cl_n {x : Nat} (h : x < 2 ^ 31) : (nI x).toNatClampNeg = x := nI_clamp h
end
section
/-! all that stands in the work array is below the modulus -/
theorem wm_un_lt {v : Nat → Nat} {k z : Nat} (hv : ∀ x, v x < 7681) (hz : z < 7681) : ∀ x, wm_un v k z x < 7681 := by
  intro x
  unfold wm_un
  split
  · exact hz
  · exact hv x
theorem wm_it_lt {f : Nat → (Nat → Nat) → (Nat → Nat)} {w : Nat → Nat} (hf : ∀ k v, (∀ x, v x < 7681) → ∀ x, f k v x < 7681) (hw : ∀ x, w x < 7681) : ∀ K x, wm_it f K w x < 7681
  | 0, x => hw x
  | K + 1, x => hf K _ (wm_it_lt hf hw K) x
theorem wm_md (x : Nat) : x % 7681 < 7681 := Nat.mod_lt _ (by decide)
theorem wm_mb {x y : Nat} (hx : x < 7681) (hy : y < 7681) : x * y < 2 ^ 31 := by
  have h : x * y ≤ 7680 * 7680 := Nat.mul_le_mul (by omega) (by omega)
  omega
theorem wm_bf_lt {w : Nat → Nat} (lo hi r : Nat) (hw : ∀ x, w x < 7681) : ∀ x, wm_bf w lo hi r x < 7681 := wm_un_lt (wm_un_lt hw (wm_md _)) (wm_md _)
theorem wm_cs_lt {w : Nat → Nat} (hw : ∀ x, w x < 7681) : ∀ K x, wm_it wm_cs K w x < 7681 := wm_it_lt (fun _ _ hv => wm_un_lt hv (by decide)) hw
theorem wm_c2_lt {w : Nat → Nat} (hw : ∀ x, w x < 7681) : ∀ K x, wm_it wm_c2 K w x < 7681 := wm_it_lt (fun _ _ hv => wm_un_lt (wm_un_lt hv (by decide)) (by decide)) hw
theorem wm_dv_lt (at_ : Nat) {w : Nat → Nat} (hw : ∀ x, w x < 7681) : ∀ K x, wm_it (wm_dv at_) K w x < 7681 := wm_it_lt (fun _ _ hv => wm_un_lt hv (wm_md _)) hw
theorem wm_sw_lt (at_ : Nat) {w : Nat → Nat} (hw : ∀ x, w x < 7681) : ∀ K x, wm_it (wm_sw at_) K w x < 7681 := by
  refine wm_it_lt (fun k v hv => ?_) hw
  intro x
  unfold wm_sw
  split
  · exact wm_un_lt (wm_un_lt hv (hv _)) (hv _) x
  · exact hv x
theorem wm_st_lt (at_ : Nat) (b : Bool) (h : Nat) {w : Nat → Nat} (hw : ∀ x, w x < 7681) : ∀ K x, wm_it (wm_st at_ b h) K w x < 7681 := wm_it_lt (fun _ _ hv => wm_bf_lt _ _ _ hv) hw
theorem wm_sg_lt (at_ : Nat) (b : Bool) {w : Nat → Nat} (hw : ∀ x, w x < 7681) : ∀ K x, wm_it (wm_sg at_ b) K w x < 7681 := wm_it_lt (fun k _ hv => wm_st_lt at_ b (2 ^ k) hv 32) hw
theorem wm_tr_lt (at_ : Nat) (b : Bool) {w : Nat → Nat} (hw : ∀ x, w x < 7681) : ∀ x, wm_tr at_ b w x < 7681 := by
  intro x
  unfold wm_tr
  split
  · exact wm_dv_lt at_ (wm_sg_lt at_ b (wm_sw_lt at_ hw 64) 6) 64 x
  · exact wm_sg_lt at_ b (wm_sw_lt at_ hw 64) 6 x
theorem wm_pow_lt : ∀ x, x < 5 → ∀ q, q < 4 → x ^ q < 7681 := by decide +kernel
theorem wm_ms_lt {h : Int32} {x : Nat} (hx : x < 5) (hh : h ≤ 3) : wm_ms h x < 7681 := by
  unfold wm_ms
  split
  · split <;> decide
  · rename_i h0
    split
    · decide
    · obtain ⟨q, hq, rfl⟩ := nI_of2 (M := 3) (n := 3) (by decide) h0 hh
      rw [nI_clamp (by omega)]
      exact wm_pow_lt x hx q (by omega)
theorem wm_lp_lt {n m : Nat} {t p : Nat → Nat} (hab : wm_ab n m t p) {h : Int32} (hh : h ≤ 3) {w : Nat → Nat} (hw : ∀ x, w x < 7681) : ∀ K x, wm_it (wm_lp m p h) K w x < 7681 := wm_it_lt (fun k _ hv => wm_un_lt hv (wm_ms_lt (hab.2.2.2 k) hh)) hw
theorem wm_lt_lt {n m : Nat} {t p : Nat → Nat} (hab : wm_ab n m t p) {h : Int32} (hh : h ≤ 3) {w : Nat → Nat} (hw : ∀ x, w x < 7681) : ∀ K x, wm_it (wm_lt n t h) K w x < 7681 := wm_it_lt (fun k _ hv => wm_un_lt hv (wm_ms_lt (hab.2.2.1 (k % n)) hh)) hw
theorem wm_ac_lt (f : Nat) {w : Nat → Nat} (hw : ∀ x, w x < 7681) : ∀ K x, wm_it (wm_ac f) K w x < 7681 := wm_it_lt (fun _ _ hv => wm_un_lt hv (wm_md _)) hw
theorem wm_ap_lt {n m : Nat} {t p : Nat → Nat} (hab : wm_ab n m t p) {hp ht : Int32} (h1 : hp ≤ 3) (h2 : ht ≤ 3) (f : Nat) {w : Nat → Nat} (hw : ∀ x, w x < 7681) : ∀ x, wm_ap n m t p hp ht f w x < 7681 := wm_ac_lt f (wm_tr_lt 0 false (wm_tr_lt 64 false (wm_lt_lt hab h2 (wm_lp_lt hab h1 (wm_c2_lt hw 64) m) (n + m - 1)))) 64
theorem wm_neg3 : ∀ q, q < 4 → -nI (q + 1) ≤ 3 := by decide +kernel
theorem wm_al_lt {n m : Nat} {t p : Nat → Nat} (hab : wm_ab n m t p) {w : Nat → Nat} (hw : ∀ x, w x < 7681) : ∀ K, K ≤ 4 → ∀ x, wm_it (wm_al n m t p) K w x < 7681
  | 0, _, x => hw x
  | K + 1, hK, x => wm_ap_lt hab (wm_neg3 K (by omega)) (wm_neg3 K (by omega)) 7680 (wm_al_lt hab hw K (by omega)) x
theorem wm_w5_lt {n m : Nat} {t p : Nat → Nat} (hab : wm_ab n m t p) {w : Nat → Nat} (hw : ∀ x, w x < 7681) : ∀ x, wm_w5 n m t p w x < 7681 := wm_tr_lt 128 true (wm_ap_lt hab (by decide) (by decide) 1 (wm_ap_lt hab (by decide) (by decide) 7679 (wm_ap_lt hab (by decide) (by decide) 1 (wm_cs_lt hw 64))))
theorem wm_w9_lt {n m : Nat} {t p : Nat → Nat} (hab : wm_ab n m t p) {w : Nat → Nat} (hw : ∀ x, w x < 7681) : ∀ x, wm_w9 n m t p w x < 7681 := wm_tr_lt 128 true (wm_al_lt hab (wm_ap_lt hab (by decide) (by decide) 1 (wm_cs_lt hw 64)) 4 (by decide))
theorem wm_cp_lt (m : Nat) {w d : Nat → Nat} (hw : ∀ x, w x < 7681) (hd : ∀ x, d x < 7681) : ∀ K x, wm_it (wm_cp m w) K d x < 7681 := wm_it_lt (fun _ _ hv => wm_un_lt hv (hw _)) hd
theorem wm_p2 : ∀ s, s < 6 → 2 ^ s ≤ 32 ∧ 0 < 2 ^ s := by decide +kernel
theorem wm_l0_lt : ∀ s, s < 6 → ∀ k, k < 32 → wm_l0 (2 ^ s) k + 2 ^ s < 64 := by decide +kernel
theorem wm_pw_lt : ∀ s, s < 6 → ∀ k, k < 32 → wm_pw true (2 ^ s) k < 64 ∧ wm_pw false (2 ^ s) k < 64 := by decide +kernel
theorem wm_pw_ltb (b : Bool) {s k : Nat} (hs : s < 6) (hk : k < 32) : wm_pw b (2 ^ s) k < 64 := by
  cases b
  · exact (wm_pw_lt s hs k hk).2
  · exact (wm_pw_lt s hs k hk).1
theorem wm_pwr : ∀ s, s < 6 → ∀ k, k < 32 → k % 2 ^ s * (32 / 2 ^ s) < 64 := by decide +kernel
end
section
theorem wm_it_s (f : Nat → (Nat → Nat) → (Nat → Nat)) (k : Nat) (w : Nat → Nat) : wm_it f (k + 1) w = f k (wm_it f k w) := rfl
theorem wm_it_0 (f : Nat → (Nat → Nat) → (Nat → Nat)) (w : Nat → Nat) : wm_it f 0 w = w := rfl
theorem wm_sg_e (at_ : Nat) (b : Bool) (s : Nat) (w : Nat → Nat) : wm_sg at_ b s w = wm_it (wm_st at_ b (2 ^ s)) 32 w := by rw [wm_sg]
theorem wm_st_e (at_ : Nat) (b : Bool) (h k : Nat) (w : Nat → Nat) : wm_st at_ b h k w = wm_bf w (at_ + wm_l0 h k) (at_ + wm_l0 h k + h) (wm_rt (wm_pw b h k)) := by rw [wm_st]
theorem wm_sf_lt {t : Nat → Nat} (ht : ∀ j, t j < 5) : ∀ K j, wm_it wm_sf K t j < 5
  | 0, j => ht j
  | K + 1, j => by
    have ih := wm_sf_lt ht K
    show wm_un (wm_it wm_sf K t) K (wm_it wm_sf K t (K + 1)) j < 5
    unfold wm_un
    split
    · exact ih _
    · exact ih _
theorem wm_un5 {t : Nat → Nat} {k x : Nat} (ht : ∀ j, t j < 5) (hx : x < 5) : ∀ j, wm_un t k x j < 5 := by
  intro j
  unfold wm_un
  split
  · exact hx
  · exact ht j
end
section
/-! numbers modulo 7681, and sums of them -/
def wm_f (x : Nat) : Fin 7681 := Fin.ofNat 7681 x
theorem wm_f_mod (x : Nat) : wm_f (x % 7681) = wm_f x := Fin.ext (Nat.mod_mod x 7681)
theorem wm_f_add (x y : Nat) : wm_f (x + y) = wm_f x + wm_f y := Fin.ext (Nat.add_mod x y 7681)
theorem wm_f_mul (x y : Nat) : wm_f (x * y) = wm_f x * wm_f y := Fin.ext (Nat.mul_mod x y 7681)
theorem wm_f_inj {x y : Nat} (hx : x < 7681) (hy : y < 7681) (h : wm_f x = wm_f y) : x = y := by
  have e : x % 7681 = y % 7681 := congrArg Fin.val h
  rwa [Nat.mod_eq_of_lt hx, Nat.mod_eq_of_lt hy] at e
theorem wm_f_0 : wm_f 0 = 0 := by decide +kernel
theorem wm_f_1 : wm_f 1 = 1 := by decide +kernel
theorem wm_r_ac (a b c d : Fin 7681) : (a + b) + (c + d) = (a + c) + (b + d) := by grind
theorem wm_r_dist (a b c : Fin 7681) : (a + b) * c = a * c + b * c := by grind
theorem wm_r_z (a : Fin 7681) : 0 * a = 0 := by grind
theorem wm_r_z2 (a : Fin 7681) : a * 0 = 0 := by grind
theorem wm_r_0 (a : Fin 7681) : a + 0 = a := by grind
theorem wm_r_00 (a : Fin 7681) : 0 + a = a := by grind
theorem wm_r_as (a b c : Fin 7681) : a * b * c = a * (b * c) := by grind
theorem wm_r_cm (a b : Fin 7681) : a * b = b * a := by grind
theorem wm_f_sub {x y : Nat} (hy : y ≤ 7681) : wm_f (x + 7681 - y) = wm_f x - wm_f y := by
  have h : wm_f (x + 7681 - y) + wm_f y = wm_f x := by
    rw [← wm_f_add, show x + 7681 - y + y = x + 7681 by omega, wm_f_add, show wm_f 7681 = 0 by decide +kernel, wm_r_0]
  grind
/-- the sum of the first n -/
def wm_sm (f : Nat → Fin 7681) : Nat → Fin 7681
  | 0 => 0
  | n + 1 => wm_sm f n + f n
theorem wm_sm_s (f : Nat → Fin 7681) (n : Nat) : wm_sm f (n + 1) = wm_sm f n + f n := rfl
theorem wm_sm_congr {f g : Nat → Fin 7681} : ∀ {n : Nat}, (∀ k, k < n → f k = g k) → wm_sm f n = wm_sm g n
  | 0, _ => rfl
  | n + 1, h => by
    rw [wm_sm_s, wm_sm_s, wm_sm_congr (n := n) (fun k hk => h k (by omega)), h n (by omega)]
theorem wm_sm_add (f g : Nat → Fin 7681) : ∀ n, wm_sm (fun k => f k + g k) n = wm_sm f n + wm_sm g n
  | 0 => (wm_r_0 0).symm
  | n + 1 => by
    rw [wm_sm_s, wm_sm_s, wm_sm_s, wm_sm_add f g n, wm_r_ac]
theorem wm_sm_mul (f : Nat → Fin 7681) (c : Fin 7681) : ∀ n, wm_sm (fun k => f k * c) n = wm_sm f n * c
  | 0 => (wm_r_z c).symm
  | n + 1 => by
    rw [wm_sm_s, wm_sm_s, wm_sm_mul f c n, wm_r_dist]
theorem wm_sm_zero {f : Nat → Fin 7681} : ∀ {n : Nat}, (∀ k, k < n → f k = 0) → wm_sm f n = 0
  | 0, _ => rfl
  | n + 1, h => by
    rw [wm_sm_s, wm_sm_zero (n := n) (fun k hk => h k (by omega)), h n (by omega), wm_r_0]
theorem wm_sm_swap (f : Nat → Nat → Fin 7681) (b : Nat) : ∀ a, wm_sm (fun i => wm_sm (fun j => f i j) b) a = wm_sm (fun j => wm_sm (fun i => f i j) a) b
  | 0 => (wm_sm_zero (fun _ _ => rfl)).symm
  | a + 1 => by
    rw [wm_sm_s, wm_sm_swap f b a, ← wm_sm_add]
    rfl
theorem wm_sm_one {f : Nat → Fin 7681} (a : Nat) : ∀ {n : Nat}, a < n → (∀ k, k < n → k ≠ a → f k = 0) → wm_sm f n = f a
  | 0, h, _ => absurd h (by omega)
  | n + 1, h, hz => by
    rw [wm_sm_s]
    by_cases e : a = n
    · subst e
      rw [wm_sm_zero (fun k hk => hz k (by omega) (by omega)), wm_r_00]
    · rw [wm_sm_one a (n := n) (by omega) (fun k hk => hz k (by omega)), hz n (by omega) (fun q => e q.symm), wm_r_0]
/-- only the first m count -/
theorem wm_sm_cut {f : Nat → Fin 7681} (m : Nat) : ∀ d, (∀ k, m ≤ k → k < m + d → f k = 0) → wm_sm f (m + d) = wm_sm f m
  | 0, _ => rfl
  | d + 1, h => by
    rw [show m + (d + 1) = (m + d) + 1 from rfl, wm_sm_s, wm_sm_cut m d (fun k h1 h2 => h k h1 (by omega)), h (m + d) (by omega) (by omega), wm_r_0]
/-- the sum the other way round -/
theorem wm_sm_hd (f : Nat → Fin 7681) : ∀ n, wm_sm f (n + 1) = f 0 + wm_sm (fun k => f (k + 1)) n
  | 0 => by rw [wm_sm_s]; show (0 : Fin 7681) + f 0 = f 0 + 0; rw [wm_r_0, wm_r_00]
  | n + 1 => by
    rw [wm_sm_s, wm_sm_hd f n, wm_sm_s]
    grind
theorem wm_sm_rev (f : Nat → Fin 7681) : ∀ n, wm_sm (fun k => f (n - 1 - k)) n = wm_sm f n
  | 0 => rfl
  | n + 1 => by
    rw [wm_sm_hd, wm_sm_s, ← wm_sm_rev f n]
    have e : wm_sm (fun k => f (n + 1 - 1 - (k + 1))) n = wm_sm (fun k => f (n - 1 - k)) n := wm_sm_congr (fun k hk => by rw [show n + 1 - 1 - (k + 1) = n - 1 - k by omega])
    rw [e]
    show f n + _ = _ + f n
    grind
end
section
/-! what the loops over the work array leave there -/
theorem wm_it_out {f : Nat → (Nat → Nat) → (Nat → Nat)} {x : Nat} {w : Nat → Nat} : ∀ K, (∀ k, k < K → ∀ v : Nat → Nat, f k v x = v x) → wm_it f K w x = w x
  | 0, _ => rfl
  | K + 1, h => by
    rw [wm_it_s, h K (by omega), wm_it_out K (fun k hk => h k (by omega))]
/-- a loop that writes one place a step -/
theorem wm_it_map (ix : Nat → Nat) (g : Nat → (Nat → Nat) → Nat) (w : Nat → Nat) : ∀ K, (∀ i j, i < K → j < K → ix i = ix j → i = j) → (∀ k, k < K → ∀ v : Nat → Nat, (∀ x, (∀ i, i < k → x ≠ ix i) → v x = w x) → g k v = g k w) →
    (∀ i, i < K → wm_it (fun k v => wm_un v (ix k) (g k v)) K w (ix i) = g i w) ∧ ∀ x, (∀ i, i < K → x ≠ ix i) → wm_it (fun k v => wm_un v (ix k) (g k v)) K w x = w x
  | 0, _, _ => ⟨fun i hi => absurd hi (by omega), fun _ _ => rfl⟩
  | K + 1, hi, hg => by
    obtain ⟨hA, hB⟩ := wm_it_map ix g w K (fun i j h1 h2 => hi i j (by omega) (by omega)) (fun k hk => hg k (by omega))
    rw [wm_it_s]
    generalize wm_it (fun k v => wm_un v (ix k) (g k v)) K w = v at hA hB ⊢
    refine ⟨fun i h => ?_, fun x h => ?_⟩
    · by_cases e : i = K
      · rw [e]
        show wm_un v (ix K) (g K v) (ix K) = g K w
        rw [wm_un_s]
        exact hg K (by omega) v hB
      · show wm_un v (ix K) (g K v) (ix i) = g i w
        rw [wm_un_n (fun q => e (hi i K (by omega) (by omega) q))]
        exact hA i (by omega)
    · show wm_un v (ix K) (g K v) x = w x
      rw [wm_un_n (h K (by omega))]
      exact hB x (fun i hi2 => h i (by omega))
/-- the places turned -/
theorem wm_sw_at (at_ : Nat) (w : Nat → Nat) : ∀ K, K ≤ 64 → ∀ i, i < 64 → wm_it (wm_sw at_) K w (at_ + i) = if i < K ∨ wm_rev i < K then w (at_ + wm_rev i) else w (at_ + i)
  | 0, _, i, _ => by rw [wm_it_0, if_neg (by omega)]
  | K + 1, hK, i, hi => by
    have ih := wm_sw_at at_ w K (by omega)
    have hrK := wm_rev_lt K
    have hri := wm_rev_lt i
    have rrK := wm_rev_rev K (by omega)
    have rri := wm_rev_rev i hi
    rw [wm_it_s]
    generalize wm_it (wm_sw at_) K w = v at ih ⊢
    rw [wm_sw]
    by_cases hk : K < wm_rev K
    · rw [if_pos hk]
      by_cases h1 : i = wm_rev K
      · rw [h1, wm_un_s, ih K (by omega), if_neg (by omega), if_pos (by rw [rrK]; omega), rrK]
      · rw [wm_un_n (by omega)]
        by_cases h2 : i = K
        · rw [h2, wm_un_s, ih (wm_rev K) hrK, if_neg (by rw [rrK]; omega), if_pos (by omega)]
        · have h3 : wm_rev i ≠ K := fun h => h1 (by rw [← h, rri])
          rw [wm_un_n (by omega), ih i hi]
          by_cases h4 : i < K ∨ wm_rev i < K
          · rw [if_pos h4, if_pos (by omega)]
          · rw [if_neg h4, if_neg (by omega)]
    · rw [if_neg hk, ih i hi]
      by_cases h4 : i < K ∨ wm_rev i < K
      · rw [if_pos h4, if_pos (by omega)]
      · rw [if_neg h4]
        by_cases h5 : i < K + 1 ∨ wm_rev i < K + 1
        · rw [if_pos h5]
          have e : wm_rev i = i := by
            by_cases h6 : i = K
            · rw [h6] at h4 ⊢
              omega
            · have h7 : wm_rev i = K := by omega
              rw [h7] at rri
              omega
          rw [e]
        · rw [if_neg h5]
theorem wm_sw_all (at_ : Nat) (w : Nat → Nat) {i : Nat} (hi : i < 64) : wm_it (wm_sw at_) 64 w (at_ + i) = w (at_ + wm_rev i) := by
  rw [wm_sw_at at_ w 64 (by omega) i hi, if_pos (Or.inl hi)]
theorem wm_sw_out (at_ : Nat) (w : Nat → Nat) {x : Nat} (hx : x < at_ ∨ at_ + 64 ≤ x) : wm_it (wm_sw at_) 64 w x = w x := by
  refine wm_it_out 64 (fun k hk v => ?_)
  have hr := wm_rev_lt k
  rw [wm_sw]
  split
  · rw [wm_un_n (by omega), wm_un_n (by omega)]
  · rfl
theorem wm_l0_ap : ∀ s, s < 6 → ∀ k, k < 32 → ∀ j, j < 32 → wm_l0 (2 ^ s) k ≠ wm_l0 (2 ^ s) j + 2 ^ s ∧ (wm_l0 (2 ^ s) k = wm_l0 (2 ^ s) j → k = j) := by decide +kernel
theorem wm_l0_all : ∀ s, s < 6 → ∀ i, i < 64 → ∃ k, k < 32 ∧ (i = wm_l0 (2 ^ s) k ∨ i = wm_l0 (2 ^ s) k + 2 ^ s) := by decide +kernel
/-- one stage: the pairs -/
theorem wm_st_at (at_ : Nat) (b : Bool) {s : Nat} (hs : s < 6) (w : Nat → Nat) : ∀ K, K ≤ 32 →
    (∀ k, k < K → wm_it (wm_st at_ b (2 ^ s)) K w (at_ + wm_l0 (2 ^ s) k) = (w (at_ + wm_l0 (2 ^ s) k) + w (at_ + wm_l0 (2 ^ s) k + 2 ^ s) * wm_rt (wm_pw b (2 ^ s) k) % 7681) % 7681 ∧ wm_it (wm_st at_ b (2 ^ s)) K w (at_ + wm_l0 (2 ^ s) k + 2 ^ s) = (w (at_ + wm_l0 (2 ^ s) k) + 7681 - w (at_ + wm_l0 (2 ^ s) k + 2 ^ s) * wm_rt (wm_pw b (2 ^ s) k) % 7681) % 7681)
    ∧ ∀ x, (∀ k, k < K → x ≠ at_ + wm_l0 (2 ^ s) k ∧ x ≠ at_ + wm_l0 (2 ^ s) k + 2 ^ s) → wm_it (wm_st at_ b (2 ^ s)) K w x = w x
  | 0, _ => ⟨fun k hk => absurd hk (by omega), fun _ _ => rfl⟩
  | K + 1, hK => by
    obtain ⟨hA, hB⟩ := wm_st_at at_ b hs w K (by omega)
    rw [wm_it_s, wm_st_e]
    generalize wm_it (wm_st at_ b (2 ^ s)) K w = v at hA hB ⊢
    have hp := (wm_p2 s hs).2
    have e1 : v (at_ + wm_l0 (2 ^ s) K) = w (at_ + wm_l0 (2 ^ s) K) := hB _ (fun k hk => by
      have h1 := wm_l0_ap s hs K (by omega) k (by omega)
      have h2 : wm_l0 (2 ^ s) K ≠ wm_l0 (2 ^ s) k := fun q => absurd (h1.2 q) (by omega)
      omega)
    have e2 : v (at_ + wm_l0 (2 ^ s) K + 2 ^ s) = w (at_ + wm_l0 (2 ^ s) K + 2 ^ s) := hB _ (fun k hk => by
      have h1 := wm_l0_ap s hs k (by omega) K (by omega)
      have h2 : wm_l0 (2 ^ s) k ≠ wm_l0 (2 ^ s) K := fun q => absurd (h1.2 q) (by omega)
      omega)
    rw [wm_bf, e1, e2]
    refine ⟨fun k hk => ?_, fun x hx => ?_⟩
    · by_cases e : k = K
      · rw [e]
        refine ⟨?_, wm_un_s⟩
        rw [wm_un_n (by omega), wm_un_s]
      · have h1 := wm_l0_ap s hs k (by omega) K (by omega)
        have h2 : wm_l0 (2 ^ s) k ≠ wm_l0 (2 ^ s) K := fun q => absurd (h1.2 q) e
        have h3 := wm_l0_ap s hs K (by omega) k (by omega)
        rw [wm_un_n (by omega), wm_un_n (by omega), wm_un_n (by omega), wm_un_n (by omega)]
        exact hA k (by omega)
    · have h := hx K (by omega)
      rw [wm_un_n h.2, wm_un_n h.1]
      exact hB x (fun k hk => hx k (by omega))
theorem wm_st_out (at_ : Nat) (b : Bool) {s : Nat} (hs : s < 6) (w : Nat → Nat) {x : Nat} (hx : x < at_ ∨ at_ + 64 ≤ x) : wm_it (wm_st at_ b (2 ^ s)) 32 w x = w x :=
  (wm_st_at at_ b hs w 32 (by omega)).2 x (fun k hk => by
    have h := wm_l0_lt s hs k hk
    have hp := (wm_p2 s hs).2
    omega)
theorem wm_sg_out (at_ : Nat) (b : Bool) (w : Nat → Nat) {x : Nat} (hx : x < at_ ∨ at_ + 64 ≤ x) : wm_it (wm_sg at_ b) 6 w x = w x :=
  wm_it_out 6 (fun k hk v => by rw [wm_sg_e]; exact wm_st_out at_ b hk v hx)
theorem wm_dv_all (at_ : Nat) (w : Nat → Nat) : (∀ i, i < 64 → wm_it (wm_dv at_) 64 w (at_ + i) = w (at_ + i) * 7561 % 7681) ∧ ∀ x, (∀ i, i < 64 → x ≠ at_ + i) → wm_it (wm_dv at_) 64 w x = w x :=
  wm_it_map (fun k => at_ + k) (fun k v => v (at_ + k) * 7561 % 7681) w 64 (fun i j _ _ h => by have h : at_ + i = at_ + j := h; omega) (fun k _ v hv => by
    show v (at_ + k) * 7561 % 7681 = w (at_ + k) * 7561 % 7681
    rw [hv (at_ + k) (fun i hi => by show at_ + k ≠ at_ + i; omega)])
theorem wm_tr_out (at_ : Nat) (b : Bool) (w : Nat → Nat) {x : Nat} (hx : x < at_ ∨ at_ + 64 ≤ x) : wm_tr at_ b w x = w x := by
  unfold wm_tr
  split
  · rw [(wm_dv_all at_ _).2 x (fun i hi => by omega), wm_sg_out at_ b _ hx, wm_sw_out at_ w hx]
  · rw [wm_sg_out at_ b _ hx, wm_sw_out at_ w hx]
end
section
/-! the transform is a sum with powers of the root -/
def wm_ce (b : Bool) (e : Nat) : Nat := if b = true then (64 - e % 64) % 64 else e % 64
def wm_C (b : Bool) (s i j : Nat) : Nat := if wm_rev j / 2 ^ s = i / 2 ^ s then wm_rt (wm_ce b (j / (64 / 2 ^ s) * (64 / 2 ^ s) * (i % 2 ^ s))) else 0
theorem wm_C0t : ∀ i, i < 64 → ∀ j, j < 64 → wm_C true 0 i j = if j = wm_rev i then 1 else 0 := by decide +kernel
theorem wm_C0f : ∀ i, i < 64 → ∀ j, j < 64 → wm_C false 0 i j = if j = wm_rev i then 1 else 0 := by decide +kernel
theorem wm_C0 (b : Bool) {i j : Nat} (hi : i < 64) (hj : j < 64) : wm_C b 0 i j = if j = wm_rev i then 1 else 0 := by
  cases b
  · exact wm_C0f i hi j hj
  · exact wm_C0t i hi j hj
theorem wm_C6t : ∀ i, i < 64 → ∀ j, j < 64 → wm_C true 6 i j = wm_rt (wm_ce true (i * j)) := by decide +kernel
theorem wm_C6f : ∀ i, i < 64 → ∀ j, j < 64 → wm_C false 6 i j = wm_rt (wm_ce false (i * j)) := by decide +kernel
theorem wm_C6 (b : Bool) {i j : Nat} (hi : i < 64) (hj : j < 64) : wm_C b 6 i j = wm_rt (wm_ce b (i * j)) := by
  cases b
  · exact wm_C6f i hi j hj
  · exact wm_C6t i hi j hj
def wm_Ck (b : Bool) (s k j : Nat) : Bool := decide (wm_C b (s + 1) (wm_l0 (2 ^ s) k) j = (wm_C b s (wm_l0 (2 ^ s) k) j + wm_C b s (wm_l0 (2 ^ s) k + 2 ^ s) j * wm_rt (wm_pw b (2 ^ s) k) % 7681) % 7681) && decide (wm_C b (s + 1) (wm_l0 (2 ^ s) k + 2 ^ s) j = (wm_C b s (wm_l0 (2 ^ s) k) j + 7681 - wm_C b s (wm_l0 (2 ^ s) k + 2 ^ s) j * wm_rt (wm_pw b (2 ^ s) k) % 7681) % 7681)
theorem wm_Ckt : ∀ s, s < 6 → ∀ k, k < 32 → ∀ j, j < 64 → wm_Ck true s k j = true := by decide +kernel
theorem wm_Ckf : ∀ s, s < 6 → ∀ k, k < 32 → ∀ j, j < 64 → wm_Ck false s k j = true := by decide +kernel
theorem wm_Cs (b : Bool) {s k j : Nat} (hs : s < 6) (hk : k < 32) (hj : j < 64) : wm_C b (s + 1) (wm_l0 (2 ^ s) k) j = (wm_C b s (wm_l0 (2 ^ s) k) j + wm_C b s (wm_l0 (2 ^ s) k + 2 ^ s) j * wm_rt (wm_pw b (2 ^ s) k) % 7681) % 7681 ∧ wm_C b (s + 1) (wm_l0 (2 ^ s) k + 2 ^ s) j = (wm_C b s (wm_l0 (2 ^ s) k) j + 7681 - wm_C b s (wm_l0 (2 ^ s) k + 2 ^ s) j * wm_rt (wm_pw b (2 ^ s) k) % 7681) % 7681 := by
  have h : wm_Ck b s k j = true := by
    cases b
    · exact wm_Ckf s hs k hk j hj
    · exact wm_Ckt s hs k hk j hj
  unfold wm_Ck at h
  rw [Bool.and_eq_true, decide_eq_true_eq, decide_eq_true_eq] at h
  exact h
/-- the array is, place by place, a sum over x -/
def wm_Rp (b : Bool) (s at_ : Nat) (x : Nat → Fin 7681) (w : Nat → Nat) : Prop := ∀ i, i < 64 → wm_f (w (at_ + i)) = wm_sm (fun j => wm_f (wm_C b s i j) * x j) 64
theorem wm_Rp0 (b : Bool) (at_ : Nat) (w : Nat → Nat) : wm_Rp b 0 at_ (fun j => wm_f (w (at_ + j))) (wm_it (wm_sw at_) 64 w) := by
  intro i hi
  rw [wm_sw_all at_ w hi, wm_sm_one (wm_rev i) (wm_rev_lt i) (fun k hk hne => by rw [wm_C0 b hi hk, if_neg hne, wm_f_0, wm_r_z]), wm_C0 b hi (wm_rev_lt i), if_pos rfl, wm_f_1]
  grind
theorem wm_f_lo (x y r : Nat) : wm_f ((x + y * r % 7681) % 7681) = wm_f x + wm_f y * wm_f r := by rw [wm_f_mod, wm_f_add, wm_f_mod, wm_f_mul]
theorem wm_f_hi (x y r : Nat) : wm_f ((x + 7681 - y * r % 7681) % 7681) = wm_f x + wm_f y * -(wm_f r) := by
  have h := wm_md (y * r)
  rw [wm_f_mod, wm_f_sub (by omega), wm_f_mod, wm_f_mul]
  grind
theorem wm_RpS (b : Bool) {s : Nat} (hs : s < 6) (at_ : Nat) (x : Nat → Fin 7681) (w : Nat → Nat) (h : wm_Rp b s at_ x w) : wm_Rp b (s + 1) at_ x (wm_it (wm_st at_ b (2 ^ s)) 32 w) := by
  intro i hi
  obtain ⟨k, hk, e⟩ := wm_l0_all s hs i hi
  have hl := wm_l0_lt s hs k hk
  have hp := (wm_p2 s hs).2
  have hA := (wm_st_at at_ b hs w 32 (by omega)).1 k hk
  have h1 := h (wm_l0 (2 ^ s) k) (by omega)
  have h2 := h (wm_l0 (2 ^ s) k + 2 ^ s) (by omega)
  rw [← Nat.add_assoc] at h2
  rcases e with e | e
  · rw [e, hA.1, wm_f_lo, h1, h2, ← wm_sm_mul, ← wm_sm_add]
    refine wm_sm_congr (fun j hj => ?_)
    rw [(wm_Cs b hs hk hj).1, wm_f_lo]
    grind
  · rw [e, ← Nat.add_assoc, hA.2, wm_f_hi, h1, h2, ← wm_sm_mul, ← wm_sm_add]
    refine wm_sm_congr (fun j hj => ?_)
    rw [(wm_Cs b hs hk hj).2, wm_f_hi]
    grind
theorem wm_RpK (b : Bool) (at_ : Nat) (x : Nat → Fin 7681) (w : Nat → Nat) (h : wm_Rp b 0 at_ x w) : ∀ K, K ≤ 6 → wm_Rp b K at_ x (wm_it (wm_sg at_ b) K w)
  | 0, _ => h
  | K + 1, hK => by
    rw [wm_it_s, wm_sg_e]
    exact wm_RpS b (by omega) at_ x _ (wm_RpK b at_ x w h K (by omega))
/-- the power e of the root, forth or back -/
def wm_om (b : Bool) (e : Nat) : Fin 7681 := wm_f (wm_rt (wm_ce b e))
theorem wm_sg_sum (b : Bool) (at_ : Nat) (w : Nat → Nat) {i : Nat} (hi : i < 64) : wm_f (wm_it (wm_sg at_ b) 6 (wm_it (wm_sw at_) 64 w) (at_ + i)) = wm_sm (fun j => wm_om b (i * j) * wm_f (w (at_ + j))) 64 := by
  rw [wm_RpK b at_ _ _ (wm_Rp0 b at_ w) 6 (by omega) i hi]
  refine wm_sm_congr (fun j hj => ?_)
  rw [wm_C6 b hi hj]
  rfl
theorem wm_tr_f (at_ : Nat) (w : Nat → Nat) {i : Nat} (hi : i < 64) : wm_f (wm_tr at_ false w (at_ + i)) = wm_sm (fun j => wm_om false (i * j) * wm_f (w (at_ + j))) 64 := by
  rw [wm_tr, if_neg (by decide), wm_sg_sum false at_ w hi]
theorem wm_tr_b (at_ : Nat) (w : Nat → Nat) {i : Nat} (hi : i < 64) : wm_f (wm_tr at_ true w (at_ + i)) = wm_sm (fun j => wm_om true (i * j) * wm_f (w (at_ + j))) 64 * wm_f 7561 := by
  rw [wm_tr, if_pos rfl, (wm_dv_all at_ _).1 i hi, wm_f_mod, wm_f_mul, wm_sg_sum true at_ w hi]
end
section
/-! products of transforms -/
theorem wm_rt_mul : ∀ a, a < 64 → ∀ b, b < 64 → wm_rt a * wm_rt b % 7681 = wm_rt ((a + b) % 64) := by decide +kernel
theorem wm_om_f (e : Nat) : wm_om false e = wm_f (wm_rt (e % 64)) := by
  rw [wm_om, wm_ce, if_neg (by decide)]
theorem wm_om_t (e : Nat) : wm_om true e = wm_om false (64 - e % 64) := by
  rw [wm_om_f, wm_om, wm_ce, if_pos rfl]
theorem wm_om_mul (a b : Nat) : wm_om false a * wm_om false b = wm_om false (a + b) := by
  rw [wm_om_f, wm_om_f, wm_om_f, ← wm_f_mul, ← wm_f_mod, wm_rt_mul _ (Nat.mod_lt _ (by decide)) _ (Nat.mod_lt _ (by decide)), ← Nat.add_mod]
theorem wm_om_sum : ∀ e, e < 64 → wm_sm (fun k => wm_om false (k * e)) 64 = if e = 0 then wm_f 64 else 0 := by decide +kernel
theorem wm_om_3 (N k q r : Nat) (hN : N < 64) : wm_om true (N * k) * (wm_om false (k * q) * wm_om false (k * r)) = wm_om false (k * ((64 - N + q + r) % 64)) := by
  rw [wm_om_t, wm_om_mul, wm_om_mul, wm_om_f, wm_om_f, Nat.mul_mod k ((64 - N + q + r) % 64), Nat.mod_mod, ← Nat.mul_mod]
  have e : k * (64 - N + q + r) + N * k = 64 * k + (k * q + k * r) := by
    rw [Nat.mul_comm N k, ← Nat.mul_add, show 64 - N + q + r + N = 64 + (q + r) by omega, Nat.mul_add, Nat.mul_add, Nat.mul_comm k 64]
  generalize k * (64 - N + q + r) = y at e ⊢
  generalize N * k = u at e ⊢
  generalize k * q = v at e ⊢
  generalize k * r = x at e ⊢
  rw [show (64 - u % 64 + (v + x)) % 64 = y % 64 by omega]
theorem wm_orth (N q r : Nat) (hN : N < 64) (hq : q < 64) (hr : r < 64) : wm_sm (fun k => wm_om true (N * k) * (wm_om false (k * q) * wm_om false (k * r))) 64 = if r = (N + 64 - q) % 64 then wm_f 64 else 0 := by
  rw [wm_sm_congr (fun k _ => wm_om_3 N k q r hN), wm_om_sum _ (Nat.mod_lt _ (by decide))]
  by_cases h : (64 - N + q + r) % 64 = 0
  · rw [if_pos h, if_pos (by omega)]
  · rw [if_neg h, if_neg (by omega)]
/-- the transform of A at k -/
def wm_F (A : Nat → Fin 7681) (k : Nat) : Fin 7681 := wm_sm (fun q => wm_om false (k * q) * A q) 64
theorem wm_sm_mull (f : Nat → Fin 7681) (c : Fin 7681) (n : Nat) : c * wm_sm f n = wm_sm (fun k => c * f k) n := by
  rw [wm_r_cm, ← wm_sm_mul]
  exact wm_sm_congr (fun k _ => wm_r_cm _ _)
theorem wm_conv (A B : Nat → Fin 7681) {N : Nat} (hN : N < 64) : wm_sm (fun k => wm_om true (N * k) * (wm_F A k * wm_F B k)) 64 = wm_f 64 * wm_sm (fun q => A q * B ((N + 64 - q) % 64)) 64 := by
  have h1 : ∀ k, k < 64 → wm_om true (N * k) * (wm_F A k * wm_F B k) = wm_sm (fun q => wm_sm (fun r => (wm_om true (N * k) * (wm_om false (k * q) * wm_om false (k * r))) * (A q * B r)) 64) 64 := by
    intro k _
    rw [wm_F, wm_F, ← wm_sm_mul, wm_sm_mull]
    refine wm_sm_congr (fun q _ => ?_)
    rw [wm_sm_mull, wm_sm_mull]
    refine wm_sm_congr (fun r _ => ?_)
    grind
  rw [wm_sm_congr h1, wm_sm_swap, wm_sm_mull]
  refine wm_sm_congr (fun q hq => ?_)
  rw [wm_sm_swap]
  have h2 : ∀ r, r < 64 → wm_sm (fun k => (wm_om true (N * k) * (wm_om false (k * q) * wm_om false (k * r))) * (A q * B r)) 64 = (if r = (N + 64 - q) % 64 then wm_f 64 else 0) * (A q * B r) := by
    intro r hr
    rw [wm_sm_mul, wm_orth N q r hN hq hr]
  rw [wm_sm_congr h2, wm_sm_one ((N + 64 - q) % 64) (Nat.mod_lt _ (by decide)) (fun r _ hne => by rw [if_neg hne, wm_r_z]), if_pos rfl]
/-- the transform back -/
def wm_L (X : Nat → Fin 7681) (N : Nat) : Fin 7681 := wm_sm (fun k => wm_om true (N * k) * X k) 64 * wm_f 7561
theorem wm_L_add (X Y : Nat → Fin 7681) (N : Nat) : wm_L (fun k => X k + Y k) N = wm_L X N + wm_L Y N := by
  unfold wm_L
  rw [← wm_r_dist, ← wm_sm_add]
  rw [wm_sm_congr (g := fun k => wm_om true (N * k) * X k + wm_om true (N * k) * Y k) (fun k _ => by grind)]
theorem wm_L_0 (N : Nat) : wm_L (fun _ => 0) N = 0 := by
  unfold wm_L
  rw [wm_sm_zero (fun k _ => wm_r_z2 _), wm_r_z]
theorem wm_64 : wm_f 64 * wm_f 7561 = 1 := by decide +kernel
theorem wm_L_F (A B : Nat → Fin 7681) (f : Fin 7681) {N : Nat} (hN : N < 64) : wm_L (fun k => wm_F A k * wm_F B k * f) N = wm_sm (fun q => A q * B ((N + 64 - q) % 64)) 64 * f := by
  unfold wm_L
  have h : wm_sm (fun k => wm_om true (N * k) * (wm_F A k * wm_F B k * f)) 64 = wm_f 64 * wm_sm (fun q => A q * B ((N + 64 - q) % 64)) 64 * f := by
    rw [← wm_conv A B hN, ← wm_sm_mul]
    exact wm_sm_congr (fun k _ => by grind)
  have e := wm_64
  rw [h]
  generalize wm_sm (fun q => A q * B ((N + 64 - q) % 64)) 64 = z
  generalize wm_f 64 = u at e ⊢
  generalize wm_f 7561 = v at e ⊢
  have e2 : u * z * f * v = (u * v) * (z * f) := by grind
  rw [e2, e]
  grind
end
section
/-! one product added, in the work array -/
theorem wm_c2_at (w : Nat → Nat) : ∀ K, K ≤ 64 → ∀ x, wm_it wm_c2 K w x = if x < K ∨ (64 ≤ x ∧ x < 64 + K) then 0 else w x
  | 0, _, x => by rw [wm_it_0, if_neg (by omega)]
  | K + 1, hK, x => by
    have ih := wm_c2_at w K (by omega) x
    rw [wm_it_s]
    generalize wm_it wm_c2 K w = v at ih ⊢
    show wm_un (wm_un v (64 + K) 0) (0 + K) 0 x = _
    by_cases h1 : x = 0 + K
    · rw [h1, wm_un_s, if_pos (by omega)]
    · rw [wm_un_n h1]
      by_cases h2 : x = 64 + K
      · rw [h2, wm_un_s, if_pos (by omega)]
      · rw [wm_un_n h2, ih]
        by_cases h3 : x < K ∨ (64 ≤ x ∧ x < 64 + K)
        · rw [if_pos h3, if_pos (by omega)]
        · rw [if_neg h3, if_neg (by omega)]
/-- the reversed pattern and the text that goes round, measured -/
def wm_pA (m : Nat) (p : Nat → Nat) (h : Int32) (q : Nat) : Nat := if q < m then wm_ms h (p (m - 1 - q)) else 0
def wm_pB (n m : Nat) (t : Nat → Nat) (h : Int32) (q : Nat) : Nat := if q < n + m - 1 then wm_ms h (t (q % n)) else 0
theorem wm_lp_at {m : Nat} (p : Nat → Nat) (h : Int32) (w : Nat → Nat) (hm : m ≤ 12) : (∀ q, q < m → wm_it (wm_lp m p h) m w (64 + q) = wm_ms h (p (m - 1 - q))) ∧ ∀ x, x < 64 ∨ 64 + m ≤ x → wm_it (wm_lp m p h) m w x = w x := by
  obtain ⟨hA, hB⟩ := wm_it_map (fun j => 64 + m - 1 - j) (fun j _ => wm_ms h (p j)) w m (fun i j h1 h2 e => by have e : 64 + m - 1 - i = 64 + m - 1 - j := e; omega) (fun _ _ _ _ => rfl)
  refine ⟨fun q hq => ?_, fun x hx => ?_⟩
  · have e := hA (m - 1 - q) (by omega)
    rw [show 64 + m - 1 - (m - 1 - q) = 64 + q by omega] at e
    exact e
  · exact hB x (fun i hi => by show x ≠ 64 + m - 1 - i; omega)
theorem wm_lt_at (K n : Nat) (t : Nat → Nat) (h : Int32) (w : Nat → Nat) : (∀ q, q < K → wm_it (wm_lt n t h) K w (0 + q) = wm_ms h (t (q % n))) ∧ ∀ x, K ≤ x → wm_it (wm_lt n t h) K w x = w x := by
  obtain ⟨hA, hB⟩ := wm_it_map (fun j => 0 + j) (fun j _ => wm_ms h (t (j % n))) w K (fun i j h1 h2 e => by have e : 0 + i = 0 + j := e; omega) (fun _ _ _ _ => rfl)
  exact ⟨hA, fun x hx => hB x (fun i hi => by show x ≠ 0 + i; omega)⟩
theorem wm_ac_at (f : Nat) (w : Nat → Nat) {k : Nat} (hk : k < 64) : wm_it (wm_ac f) 64 w (128 + k) = (w (128 + k) + w (64 + k) * w (0 + k) % 7681 * f % 7681) % 7681 :=
  (wm_it_map (fun k => 128 + k) (fun k v => (v (128 + k) + v (64 + k) * v (0 + k) % 7681 * f % 7681) % 7681) w 64 (fun i j _ _ e => by have e : 128 + i = 128 + j := e; omega) (fun k hk v hv => by
    show (v (128 + k) + v (64 + k) * v (0 + k) % 7681 * f % 7681) % 7681 = (w (128 + k) + w (64 + k) * w (0 + k) % 7681 * f % 7681) % 7681
    rw [hv (128 + k) (fun i hi => by show 128 + k ≠ 128 + i; omega), hv (64 + k) (fun i hi => by show 64 + k ≠ 128 + i; omega), hv (0 + k) (fun i hi => by show 0 + k ≠ 128 + i; omega)])).1 k hk
theorem wm_ap_at {n m : Nat} (t p : Nat → Nat) (hp ht : Int32) (f : Nat) (w : Nat → Nat) (hn : n ≤ 40) (hm : m ≤ 12) (hm0 : 0 < m) {k : Nat} (hk : k < 64) :
    wm_f (wm_ap n m t p hp ht f w (128 + k)) = wm_f (w (128 + k)) + wm_F (fun q => wm_f (wm_pA m p hp q)) k * wm_F (fun q => wm_f (wm_pB n m t ht q)) k * wm_f f := by
  unfold wm_ap
  obtain ⟨wa, ea⟩ : ∃ z, z = wm_it wm_c2 64 w := ⟨_, rfl⟩
  rw [← ea]
  have ha : ∀ x, wa x = if x < 128 then 0 else w x := by
    intro x
    rw [ea, wm_c2_at w 64 (by omega) x]
    by_cases h : x < 128
    · rw [if_pos h, if_pos (by omega)]
    · rw [if_neg h, if_neg (by omega)]
  obtain ⟨wb, eb⟩ : ∃ z, z = wm_it (wm_lp m p hp) m wa := ⟨_, rfl⟩
  rw [← eb]
  obtain ⟨hb1, hb2⟩ := wm_lp_at p hp wa hm
  rw [← eb] at hb1 hb2
  obtain ⟨wc, ec⟩ : ∃ z, z = wm_it (wm_lt n t ht) (n + m - 1) wb := ⟨_, rfl⟩
  rw [← ec]
  obtain ⟨hc1, hc2⟩ := wm_lt_at (n + m - 1) n t ht wb
  rw [← ec] at hc1 hc2
  have hA : ∀ q, q < 64 → wc (64 + q) = wm_pA m p hp q := by
    intro q hq
    rw [hc2 (64 + q) (by omega), wm_pA]
    by_cases h : q < m
    · rw [if_pos h, hb1 q h]
    · rw [if_neg h, hb2 (64 + q) (by omega), ha, if_pos (by omega)]
  have hB : ∀ q, q < 64 → wc (0 + q) = wm_pB n m t ht q := by
    intro q hq
    rw [wm_pB]
    by_cases h : q < n + m - 1
    · rw [if_pos h, hc1 q h]
    · rw [if_neg h, hc2 (0 + q) (by omega), hb2 (0 + q) (by omega), ha, if_pos (by omega)]
  have hC : wc (128 + k) = w (128 + k) := by
    rw [hc2 (128 + k) (by omega), hb2 (128 + k) (by omega), ha, if_neg (by omega)]
  rw [wm_ac_at f _ hk, wm_f_mod, wm_f_add, wm_f_mod, wm_f_mul, wm_f_mod, wm_f_mul]
  rw [wm_tr_out 0 false _ (x := 128 + k) (by omega), wm_tr_out 64 false wc (x := 128 + k) (by omega), hC]
  rw [wm_tr_out 0 false _ (x := 64 + k) (by omega), wm_tr_f 64 wc hk, wm_tr_f 0 _ hk]
  have e1 : wm_sm (fun j => wm_om false (k * j) * wm_f (wc (64 + j))) 64 = wm_F (fun q => wm_f (wm_pA m p hp q)) k := wm_sm_congr (fun j hj => by rw [hA j hj])
  have e2 : wm_sm (fun j => wm_om false (k * j) * wm_f (wm_tr 64 false wc (0 + j))) 64 = wm_F (fun q => wm_f (wm_pB n m t ht q)) k := wm_sm_congr (fun j hj => by rw [wm_tr_out 64 false wc (x := 0 + j) (by omega), hB j hj])
  rw [e1, e2]
/-- the sum over the pattern at shift i -/
def wm_cv (n m : Nat) (t p : Nat → Nat) (hp ht : Int32) (i : Nat) : Fin 7681 := wm_sm (fun j => wm_f (wm_ms hp (p j)) * wm_f (wm_ms ht (t ((i + j) % n)))) m
theorem wm_cv_eq {n m : Nat} (t p : Nat → Nat) (hp ht : Int32) (hn : n ≤ 40) (hm : m ≤ 12) (hm0 : 0 < m) {i : Nat} (hi : i < n) :
    wm_sm (fun q => wm_f (wm_pA m p hp q) * wm_f (wm_pB n m t ht ((i + m - 1 + 64 - q) % 64))) 64 = wm_cv n m t p hp ht i := by
  rw [show (64 : Nat) = m + (64 - m) by omega, wm_sm_cut m (64 - m) (fun q h1 h2 => by rw [wm_pA, if_neg (by omega), wm_f_0, wm_r_z])]
  rw [← wm_sm_rev]
  refine wm_sm_congr (fun j hj => ?_)
  have e : (i + m - 1 + (m + (64 - m)) - (m - 1 - j)) % (m + (64 - m)) = i + j := by
    rw [show m + (64 - m) = 64 by omega, show i + m - 1 + 64 - (m - 1 - j) = i + j + 64 by omega]
    omega
  rw [e, wm_pA, if_pos (by omega), wm_pB, if_pos (by omega), show m - 1 - (m - 1 - j) = j by omega]
end
section
/-! what the result arrays hold -/
/-- the third part of the work array, as a sum of products of transforms -/
def wm_Sp (w : Nat → Nat) (X : Nat → Fin 7681) : Prop := ∀ k, k < 64 → wm_f (w (128 + k)) = X k
theorem wm_Sp0 (w : Nat → Nat) : wm_Sp (wm_it wm_cs 64 w) (fun _ => 0) := by
  intro k hk
  have h := (wm_it_map (fun k => 128 + k) (fun _ _ => 0) w 64 (fun i j _ _ e => by have e : 128 + i = 128 + j := e; omega) (fun _ _ _ _ => rfl)).1 k hk
  have h : wm_it wm_cs 64 w (128 + k) = 0 := h
  rw [h, wm_f_0]
theorem wm_SpA {n m : Nat} {t p : Nat → Nat} (hp ht : Int32) (f : Nat) {w : Nat → Nat} {X : Nat → Fin 7681} (hn : n ≤ 40) (hm : m ≤ 12) (hm0 : 0 < m) (h : wm_Sp w X) : wm_Sp (wm_ap n m t p hp ht f w) (fun k => X k + wm_F (fun q => wm_f (wm_pA m p hp q)) k * wm_F (fun q => wm_f (wm_pB n m t ht q)) k * wm_f f) := by
  intro k hk
  rw [wm_ap_at t p hp ht f w hn hm hm0 hk, h k hk]
theorem wm_SpL {w : Nat → Nat} {X : Nat → Fin 7681} (h : wm_Sp w X) {N : Nat} (hN : N < 64) : wm_f (wm_tr 128 true w (128 + N)) = wm_L X N := by
  rw [wm_tr_b 128 w hN, wm_L, wm_sm_congr (fun j hj => by rw [h j hj])]
theorem wm_LA {n m : Nat} {t p : Nat → Nat} (hp ht : Int32) (f : Nat) (X : Nat → Fin 7681) (hn : n ≤ 40) (hm : m ≤ 12) (hm0 : 0 < m) {i : Nat} (hi : i < n) : wm_L (fun k => X k + wm_F (fun q => wm_f (wm_pA m p hp q)) k * wm_F (fun q => wm_f (wm_pB n m t ht q)) k * wm_f f) (i + m - 1) = wm_L X (i + m - 1) + wm_cv n m t p hp ht i * wm_f f := by
  rw [wm_L_add, wm_L_F _ _ _ (by omega), wm_cv_eq t p hp ht hn hm hm0 hi]
/-- sums of small numbers over the pattern -/
def wm_su (g : Nat → Nat → Nat) (n : Nat) (t p : Nat → Nat) (i : Nat) : Nat → Nat
  | 0 => 0
  | j + 1 => wm_su g n t p i j + g (t ((i + j) % n)) (p j)
theorem wm_su_f (g : Nat → Nat → Nat) (n : Nat) (t p : Nat → Nat) (i : Nat) : ∀ m, wm_f (wm_su g n t p i m) = wm_sm (fun j => wm_f (g (t ((i + j) % n)) (p j))) m
  | 0 => wm_f_0
  | m + 1 => by rw [wm_su, wm_f_add, wm_su_f g n t p i m, wm_sm_s]
theorem wm_su_le {g : Nat → Nat → Nat} {c n : Nat} {t p : Nat → Nat} {i : Nat} (hg : ∀ j, g (t ((i + j) % n)) (p j) ≤ c) : ∀ m, wm_su g n t p i m ≤ c * m
  | 0 => Nat.le_refl 0
  | m + 1 => by
    have h := wm_su_le hg m
    have h2 := hg m
    rw [wm_su, Nat.mul_succ]
    omega
theorem wm_su_mi (n : Nat) (t p : Nat → Nat) (i : Nat) : ∀ m, wm_su wm_ee n t p i m = wm_mi n t p i m
  | 0 => rfl
  | m + 1 => by rw [wm_su, wm_mi, wm_su_mi n t p i m]
def wm_dd (b a : Nat) : Nat := a * b * (if a ≤ b then (b - a) * (b - a) else (a - b) * (a - b))
theorem wm_dd_ok : ∀ a, a < 5 → ∀ b, b < 5 → wm_dd b a ≤ 36 ∧ (wm_dd b a = 0 ↔ wm_ee b a = 0) := by decide +kernel
theorem wm_su_dd {n : Nat} {t p : Nat → Nat} {i : Nat} (ht : ∀ j, t j < 5) (hp : ∀ j, p j < 5) : ∀ m, wm_su wm_dd n t p i m = 0 ↔ wm_mi n t p i m = 0
  | 0 => Iff.rfl
  | m + 1 => by
    have h := wm_su_dd (n := n) (i := i) ht hp m
    have h2 := (wm_dd_ok (p m) (hp m) (t ((i + m) % n)) (ht _)).2
    rw [wm_su, wm_mi]
    omega
theorem wm_k5 : ∀ a, a < 5 → ∀ b, b < 5 → (wm_ms (nI 3) a * wm_ms (nI 1) b * 1 + wm_ms (nI 2) a * wm_ms (nI 2) b * 7679 + wm_ms (nI 1) a * wm_ms (nI 3) b * 1) % 7681 = wm_dd b a := by decide +kernel
theorem wm_k9 : ∀ a, a < 5 → ∀ b, b < 5 → (wm_ms (nI 0) a * wm_ms (nI 0) b * 1 + wm_ms (-nI 1) a * wm_ms (-nI 1) b * 7680 + wm_ms (-nI 2) a * wm_ms (-nI 2) b * 7680 + wm_ms (-nI 3) a * wm_ms (-nI 3) b * 7680 + wm_ms (-nI 4) a * wm_ms (-nI 4) b * 7680) % 7681 = wm_ee b a := by decide +kernel
theorem wm_r5 {n m : Nat} {t p : Nat → Nat} (hab : wm_ab n m t p) (hm0 : 0 < m) (w : Nat → Nat) (hw : ∀ x, w x < 7681) {i : Nat} (hi : i < n) : wm_w5 n m t p w (128 + i + m - 1) = wm_su wm_dd n t p i m := by
  obtain ⟨hn, hm, ht, hp⟩ := id hab
  refine wm_f_inj (wm_w5_lt hab hw _) ?_ ?_
  · have h := wm_su_le (g := wm_dd) (c := 36) (n := n) (t := t) (p := p) (i := i) (fun j => (wm_dd_ok (p j) (hp j) (t ((i + j) % n)) (ht _)).1) m
    omega
  · rw [show 128 + i + m - 1 = 128 + (i + m - 1) by omega, wm_w5]
    rw [wm_SpL (wm_SpA (nI 1) (nI 3) 1 hn hm hm0 (wm_SpA (nI 2) (nI 2) 7679 hn hm hm0 (wm_SpA (nI 3) (nI 1) 1 hn hm hm0 (wm_Sp0 w)))) (by omega)]
    rw [wm_LA _ _ _ _ hn hm hm0 hi, wm_LA _ _ _ _ hn hm hm0 hi, wm_LA _ _ _ _ hn hm hm0 hi, wm_L_0, wm_r_00, wm_su_f]
    rw [wm_cv, wm_cv, wm_cv, ← wm_sm_mul, ← wm_sm_mul, ← wm_sm_mul, ← wm_sm_add, ← wm_sm_add]
    refine wm_sm_congr (fun j hj => ?_)
    rw [← wm_k5 (p j) (hp j) (t ((i + j) % n)) (ht _), wm_f_mod, wm_f_add, wm_f_add, wm_f_mul, wm_f_mul, wm_f_mul, wm_f_mul, wm_f_mul, wm_f_mul]
theorem wm_al4 (n m : Nat) (t p w : Nat → Nat) : wm_it (wm_al n m t p) 4 w = wm_ap n m t p (-nI 4) (-nI 4) 7680 (wm_ap n m t p (-nI 3) (-nI 3) 7680 (wm_ap n m t p (-nI 2) (-nI 2) 7680 (wm_ap n m t p (-nI 1) (-nI 1) 7680 w))) := by
  rw [wm_it_s _ 3, wm_it_s _ 2, wm_it_s _ 1, wm_it_s _ 0, wm_it_0, wm_al, wm_al, wm_al, wm_al]
theorem wm_r9 {n m : Nat} {t p : Nat → Nat} (hab : wm_ab n m t p) (hm0 : 0 < m) (w : Nat → Nat) (hw : ∀ x, w x < 7681) {i : Nat} (hi : i < n) : wm_w9 n m t p w (128 + i + m - 1) = wm_mi n t p i m := by
  obtain ⟨hn, hm, ht, hp⟩ := id hab
  refine wm_f_inj (wm_w9_lt hab hw _) ?_ ?_
  · have h := wm_mi_le n t p i m
    omega
  · rw [show 128 + i + m - 1 = 128 + (i + m - 1) by omega, wm_w9, wm_al4]
    rw [wm_SpL (wm_SpA (-nI 4) (-nI 4) 7680 hn hm hm0 (wm_SpA (-nI 3) (-nI 3) 7680 hn hm hm0 (wm_SpA (-nI 2) (-nI 2) 7680 hn hm hm0 (wm_SpA (-nI 1) (-nI 1) 7680 hn hm hm0 (wm_SpA (nI 0) (nI 0) 1 hn hm hm0 (wm_Sp0 w)))))) (by omega)]
    rw [wm_LA _ _ _ _ hn hm hm0 hi, wm_LA _ _ _ _ hn hm hm0 hi, wm_LA _ _ _ _ hn hm hm0 hi, wm_LA _ _ _ _ hn hm hm0 hi, wm_LA _ _ _ _ hn hm hm0 hi, wm_L_0, wm_r_00, ← wm_su_mi, wm_su_f]
    rw [wm_cv, wm_cv, wm_cv, wm_cv, wm_cv, ← wm_sm_mul, ← wm_sm_mul, ← wm_sm_mul, ← wm_sm_mul, ← wm_sm_mul, ← wm_sm_add, ← wm_sm_add, ← wm_sm_add, ← wm_sm_add]
    refine wm_sm_congr (fun j hj => ?_)
    rw [← wm_k9 (p j) (hp j) (t ((i + j) % n)) (ht _), wm_f_mod, wm_f_add, wm_f_add, wm_f_add, wm_f_add, wm_f_mul, wm_f_mul, wm_f_mul, wm_f_mul, wm_f_mul, wm_f_mul, wm_f_mul, wm_f_mul, wm_f_mul, wm_f_mul]
theorem wm_cp_at (m : Nat) (w d : Nat → Nat) (n : Nat) {i : Nat} (hi : i < n) : wm_it (wm_cp m w) n d i = w (128 + i + m - 1) :=
  (wm_it_map (fun i => i) (fun i _ => w (128 + i + m - 1)) d n (fun i j _ _ e => e) (fun _ _ _ _ => rfl)).1 i hi
/-- the results are the answers that are wanted -/
theorem wm_main {n m : Nat} {t p : Nat → Nat} (hab : wm_ab n m t p) (hm : 0 < m) (hmn : m ≤ n) (w : Nat → Nat) (hw : ∀ x, w x < 7681) (d g : Nat → Nat) : wm_ok n m t p (wm_it (wm_cp m (wm_w5 n m t p w)) n d) (wm_it (wm_cp m (wm_w9 n m t p (wm_w5 n m t p w))) n g) := by
  intro _ _ i hi
  rw [wm_cp_at m _ d n hi, wm_cp_at m _ g n hi, wm_r5 hab hm w hw hi, wm_r9 hab hm _ (wm_w5_lt hab hw) hi]
  exact ⟨wm_su_dd hab.2.2.1 hab.2.2.2 m, rfl⟩
end
section
set_option maxHeartbeats 4000000 in
set_option maxRecDepth 100000 in
/-- clearSum: the third part of the work array becomes 0 -/
theorem mx_clearSum (l : Launch) (D : va_G) (a : Nat → Nat) (k : Nat → ClassId) (sz n m rd : Nat) (t p w d g : Nat → Nat)   : Met l yX0_clearSum (ws_ yX0_clearSum cX0_clearSum 2 none) ({ frames := 0, cells := 0, slots := 0, locals := 0 } : Room) (va_Pc [.ref (a 0)] (wm_pre D wm_cl (wm_xt k) (wm_x a k n m rd t p w d g) sz)) (va_Qv (fun u : Unit => True) (fun u => wm_is D wm_cl (wm_xt k) (va_A (wm_x a k n m rd t p w d g) sz) (wm_x a k n m rd t p (wm_it wm_cs 64 w) d g)) (va_A (wm_x a k n m rd t p w d g) sz)) 0 0 (va_A (wm_x a k n m rd t p w d g) sz) := by
  refine Met.ofW (cc := cX0_clearSum) (maxL := 2) (ret := none) (by decide) rfl ?_
  intro P0 e0 s M0 av bl mt cd s1 B hml hv
  obtain ⟨rfl, hsz, hP, hK, hD0⟩ := hv
  have hx := B.exec
  have hb := B.bytes
  have hr := B.returns
  have hts := atoms_spec (ws := (ws_ yX0_clearSum cX0_clearSum 2 none)) B.pre
  have hts : ∀ w ∈ lw_all, w.before _ s = true := fun w h => hts w (List.mem_cons_of_mem _ h)
  have hown : s.vm.findClass RX0 = some M0.cls := findClass_of_methodNamed B.named
  have hlocks := B.notSynchronized
  subst hsz
  have hD := hD0.self (sz := s.heap.size)
  generalize hAe : va_A (wm_x a k n m rd t p w d g) s.heap.size = A at hD ⊢
  have hA : ∀ q : Nat, s.heap.size ≤ q → A q := fun q h => by rw [← hAe]; exact Or.inr h
  have hS : va_S A s.heap s.heap [] := va_S.rf
  have hP : va_P D wm_cl (wm_x a k n m rd t p w d g) s.heap := hP
  have hl := lv_entry ([.ref (a 0)]) (n := 2) (Nat.le_of_ble_eq_true rfl)
  rw [lg_entry_eq]
  generalize (lg_sl ([.ref (a 0)]) ++ List.replicate (2 - (lg_sl ([.ref (a 0)])).length) Slot.unset).toArray = ls at hl ⊢
  have hl : lv_has ls 2 [(0, .ref (a 0))] := hl
  refine lv_iconst (v := nI 0) hx hb dX0_clearSum_0 (by decide +kernel) ?_
  refine lv_istore_n (lv' := [(1, .int (nI 0)), (0, .ref (a 0))]) hx hb dX0_clearSum_1 rfl hl (by decide) rfl (fun ls hl => ?_)
  have loop : ∀ (r i : Nat), i + r = 64 → ∀ (H : Heap) (locs : List Loc) (ls : Array Slot), va_P D wm_cl (wm_x a k n m rd t p (wm_it wm_cs i w) d g) H → va_D A (wm_x a k n m rd t p (wm_it wm_cs i w) d g) → va_S A s.heap H locs → lv_has ls 2 [(0, .ref (a 0)), (1, .int (nI i))] → W P0 l e0 (headSpec (ws_ yX0_clearSum cX0_clearSum 2 none) ({ frames := 0, cells := 0, slots := 0, locals := 0 } : Room)).room s M0 ([.ref (a 0)] : List Value).toArray bl mt cd H locs 0 0 (MQ bl (va_Qv (fun u : Unit => True) (fun u => wm_is D wm_cl (wm_xt k) A (wm_x a k n m rd t p (wm_it wm_cs 64 w) d g)) A) ([.ref (a 0)] : List Value).toArray s 0 0 A) (F0 M0 2 ls []) := by
    intro r
    induction r with
    | zero =>
      intro i hi
      intro H locs ls hP hD hS hl
      refine lv_iload_n hx hb dX0_clearSum_2 rfl (lv_at hl 1 rfl) ?_
      refine lv_bipush (v := nI 64) hx hb dX0_clearSum_3 (by decide +kernel) ?_
      refine wm_cge (tgt := 25) hx hb dX0_clearSum_5 (by decide) (by omega) (by omega) (fun hc => ?_) (fun hc => ?_)
      · skip
        obtain rfl : i = 64 := by omega
        exact W.vret hx hb hr (fun T0 hT0 hW0 => ⟨⟨(), rfl, trivial, by rw [hT0]; exact hP, va_K.moved hW0.alike hK, hD⟩, hS.F hT0⟩) hS.2.2 dX0_clearSum_25
      · omega
    | succ r ih =>
      intro i hi
      intro H locs ls hP hD hS hl
      refine lv_iload_n hx hb dX0_clearSum_2 rfl (lv_at hl 1 rfl) ?_
      refine lv_bipush (v := nI 64) hx hb dX0_clearSum_3 (by decide +kernel) ?_
      refine wm_cge (tgt := 25) hx hb dX0_clearSum_5 (by decide) (by omega) (by omega) (fun hc => ?_) (fun hc => ?_)
      · omega
      · skip
        refine lv_aload_n hx hb dX0_clearSum_8 rfl (lv_at hl 0 rfl) ?_
        refine va_get (D := D) (ci := 0) (v := .ref (a 4)) (C := RX0) (T := TX0) (N := 9) hx hb hts in_X0 hown hK hP 0 rfl rfl 5 (by decide) (hts _ q29) (fun _ h9 => h9) rfl dX0_clearSum_9 ?_
        refine lv_sipush (v := nI 128) hx hb dX0_clearSum_12 (by decide +kernel) ?_
        refine lv_iload_n hx hb dX0_clearSum_15 rfl (lv_at hl 1 rfl) ?_
        refine wm_iadd hx hb dX0_clearSum_16 ?_
        refine lv_iconst (v := nI 0) hx hb dX0_clearSum_17 (by decide +kernel) ?_
        refine wm_iast hx hb hK hP hD hS 4 3 rfl rfl (by decide) (by omega) dX0_clearSum_18 (fun H locs hP hD hS => ?_)
        have hP : va_P D wm_cl (wm_x a k n m rd t p (wm_un (wm_it wm_cs i w) (128 + i) 0) d g) H := hP
        have hD : va_D A (wm_x a k n m rd t p (wm_un (wm_it wm_cs i w) (128 + i) 0) d g) := hD
        refine lv_iinc (v := nI (i + 1)) (lv' := [(1, .int (nI (i + 1))), (0, .ref (a 0))]) hx hb dX0_clearSum_19 hl (k := 1) rfl (wm_inc i) (by decide) rfl (fun ls hl => ?_)
        refine lv_goto (tgt := 2) hx hb dX0_clearSum_22 (by decide) ?_
        exact ih (i + 1) (by omega) _ _ _ hP hD hS (lv_sub hl [1, 0] rfl)
  exact loop 64 0 rfl _ _ _ hP hD hS (lv_sub hl [1, 0] rfl)
set_option maxHeartbeats 4000000 in
set_option maxRecDepth 100000 in
/-- divideBySize -/
theorem mx_divideBySize (l : Launch) (D : va_G) (a : Nat → Nat) (k : Nat → ClassId) (sz n m rd : Nat) (t p w d g : Nat → Nat) (at_ : Nat) (hat : at_ + 64 ≤ 192) (hw : ∀ x, w x < 7681) : Met l yX0_divideBySize (ws_ yX0_divideBySize cX0_divideBySize 3 none) ({ frames := 0, cells := 0, slots := 0, locals := 0 } : Room) (va_Pc [.ref (a 0), .int (nI at_)] (wm_pre D wm_cl (wm_xt k) (wm_x a k n m rd t p w d g) sz)) (va_Qv (fun u : Unit => True) (fun u => wm_is D wm_cl (wm_xt k) (va_A (wm_x a k n m rd t p w d g) sz) (wm_x a k n m rd t p (wm_it (wm_dv at_) 64 w) d g)) (va_A (wm_x a k n m rd t p w d g) sz)) 0 0 (va_A (wm_x a k n m rd t p w d g) sz) := by
  refine Met.ofW (cc := cX0_divideBySize) (maxL := 3) (ret := none) (by decide) rfl ?_
  intro P0 e0 s M0 av bl mt cd s1 B hml hv
  obtain ⟨rfl, hsz, hP, hK, hD0⟩ := hv
  have hx := B.exec
  have hb := B.bytes
  have hr := B.returns
  have hts := atoms_spec (ws := (ws_ yX0_divideBySize cX0_divideBySize 3 none)) B.pre
  have hts : ∀ w ∈ lw_all, w.before _ s = true := fun w h => hts w (List.mem_cons_of_mem _ h)
  have hown : s.vm.findClass RX0 = some M0.cls := findClass_of_methodNamed B.named
  have hlocks := B.notSynchronized
  subst hsz
  have hD := hD0.self (sz := s.heap.size)
  generalize hAe : va_A (wm_x a k n m rd t p w d g) s.heap.size = A at hD ⊢
  have hA : ∀ q : Nat, s.heap.size ≤ q → A q := fun q h => by rw [← hAe]; exact Or.inr h
  have hS : va_S A s.heap s.heap [] := va_S.rf
  have hP : va_P D wm_cl (wm_x a k n m rd t p w d g) s.heap := hP
  have hl := lv_entry ([.ref (a 0), .int (nI at_)]) (n := 3) (Nat.le_of_ble_eq_true rfl)
  rw [lg_entry_eq]
  generalize (lg_sl ([.ref (a 0), .int (nI at_)]) ++ List.replicate (3 - (lg_sl ([.ref (a 0), .int (nI at_)])).length) Slot.unset).toArray = ls at hl ⊢
  have hl : lv_has ls 3 [(0, .ref (a 0)), (1, .int (nI at_))] := hl
  refine lv_iconst (v := nI 0) hx hb dX0_divideBySize_0 (by decide +kernel) ?_
  refine lv_istore_n (lv' := [(2, .int (nI 0)), (0, .ref (a 0)), (1, .int (nI at_))]) hx hb dX0_divideBySize_1 rfl hl (by decide) rfl (fun ls hl => ?_)
  have loop : ∀ (r i : Nat), i + r = 64 → ∀ (H : Heap) (locs : List Loc) (ls : Array Slot), va_P D wm_cl (wm_x a k n m rd t p (wm_it (wm_dv at_) i w) d g) H → va_D A (wm_x a k n m rd t p (wm_it (wm_dv at_) i w) d g) → va_S A s.heap H locs → lv_has ls 3 [(0, .ref (a 0)), (1, .int (nI at_)), (2, .int (nI i))] → W P0 l e0 (headSpec (ws_ yX0_divideBySize cX0_divideBySize 3 none) ({ frames := 0, cells := 0, slots := 0, locals := 0 } : Room)).room s M0 ([.ref (a 0), .int (nI at_)] : List Value).toArray bl mt cd H locs 0 0 (MQ bl (va_Qv (fun u : Unit => True) (fun u => wm_is D wm_cl (wm_xt k) A (wm_x a k n m rd t p (wm_it (wm_dv at_) 64 w) d g)) A) ([.ref (a 0), .int (nI at_)] : List Value).toArray s 0 0 A) (F0 M0 2 ls []) := by
    intro r
    induction r with
    | zero =>
      intro i hi
      intro H locs ls hP hD hS hl
      refine lv_iload_n hx hb dX0_divideBySize_2 rfl (lv_at hl 2 rfl) ?_
      refine lv_bipush (v := nI 64) hx hb dX0_divideBySize_3 (by decide +kernel) ?_
      refine wm_cge (tgt := 38) hx hb dX0_divideBySize_5 (by decide) (by omega) (by omega) (fun hc => ?_) (fun hc => ?_)
      · skip
        obtain rfl : i = 64 := by omega
        exact W.vret hx hb hr (fun T0 hT0 hW0 => ⟨⟨(), rfl, trivial, by rw [hT0]; exact hP, va_K.moved hW0.alike hK, hD⟩, hS.F hT0⟩) hS.2.2 dX0_divideBySize_38
      · omega
    | succ r ih =>
      intro i hi
      intro H locs ls hP hD hS hl
      refine lv_iload_n hx hb dX0_divideBySize_2 rfl (lv_at hl 2 rfl) ?_
      refine lv_bipush (v := nI 64) hx hb dX0_divideBySize_3 (by decide +kernel) ?_
      refine wm_cge (tgt := 38) hx hb dX0_divideBySize_5 (by decide) (by omega) (by omega) (fun hc => ?_) (fun hc => ?_)
      · omega
      · skip
        refine lv_aload_n hx hb dX0_divideBySize_8 rfl (lv_at hl 0 rfl) ?_
        refine va_get (D := D) (ci := 0) (v := .ref (a 4)) (C := RX0) (T := TX0) (N := 9) hx hb hts in_X0 hown hK hP 0 rfl rfl 5 (by decide) (hts _ q29) (fun _ h9 => h9) rfl dX0_divideBySize_9 ?_
        refine lv_iload_n hx hb dX0_divideBySize_12 rfl (lv_at hl 1 rfl) ?_
        refine lv_iload_n hx hb dX0_divideBySize_13 rfl (lv_at hl 2 rfl) ?_
        refine wm_iadd hx hb dX0_divideBySize_14 ?_
        refine lv_aload_n hx hb dX0_divideBySize_15 rfl (lv_at hl 0 rfl) ?_
        refine va_get (D := D) (ci := 0) (v := .ref (a 4)) (C := RX0) (T := TX0) (N := 9) hx hb hts in_X0 hown hK hP 0 rfl rfl 5 (by decide) (hts _ q29) (fun _ h9 => h9) rfl dX0_divideBySize_16 ?_
        refine lv_iload_n hx hb dX0_divideBySize_19 rfl (lv_at hl 1 rfl) ?_
        refine lv_iload_n hx hb dX0_divideBySize_20 rfl (lv_at hl 2 rfl) ?_
        refine wm_iadd hx hb dX0_divideBySize_21 ?_
        refine wm_iald hx hb hK hP 4 3 rfl rfl (by decide) (by omega) dX0_divideBySize_22 ?_
        refine lv_sipush (v := nI 7561) hx hb dX0_divideBySize_23 (by decide +kernel) ?_
        refine wm_imul hx hb dX0_divideBySize_26 ?_
        refine lv_sipush (v := nI 7681) hx hb dX0_divideBySize_27 (by decide +kernel) ?_
        refine wm_irem hx hb dX0_divideBySize_30 (wm_mb (wm_dv_lt at_ hw i _) (by decide)) (by decide) (by decide) ?_
        refine wm_iast hx hb hK hP hD hS 4 3 rfl rfl (by decide) (by omega) dX0_divideBySize_31 (fun H locs hP hD hS => ?_)
        have hP : va_P D wm_cl (wm_x a k n m rd t p (wm_un (wm_it (wm_dv at_) i w) (at_ + i) ((((wm_it (wm_dv at_) i w) (at_ + i)) * 7561) % 7681)) d g) H := hP
        have hD : va_D A (wm_x a k n m rd t p (wm_un (wm_it (wm_dv at_) i w) (at_ + i) ((((wm_it (wm_dv at_) i w) (at_ + i)) * 7561) % 7681)) d g) := hD
        refine lv_iinc (v := nI (i + 1)) (lv' := [(2, .int (nI (i + 1))), (0, .ref (a 0)), (1, .int (nI at_))]) hx hb dX0_divideBySize_32 hl (k := 2) rfl (wm_inc i) (by decide) rfl (fun ls hl => ?_)
        refine lv_goto (tgt := 2) hx hb dX0_divideBySize_35 (by decide) ?_
        exact ih (i + 1) (by omega) _ _ _ hP hD hS (lv_sub hl [1, 2, 0] rfl)
  exact loop 64 0 rfl _ _ _ hP hD hS (lv_sub hl [1, 2, 0] rfl)
set_option maxHeartbeats 4000000 in
set_option maxRecDepth 100000 in
/-- butterfly -/
theorem mx_butterfly (l : Launch) (D : va_G) (a : Nat → Nat) (k : Nat → ClassId) (sz n m rd : Nat) (t p w d g : Nat → Nat) (lo hi pw : Nat) (hlo : lo < 192) (hhi : hi < 192) (hpw : pw < 64) (hw : ∀ x, w x < 7681) : Met l yX0_butterfly (ws_ yX0_butterfly cX0_butterfly 6 none) ({ frames := 0, cells := 0, slots := 0, locals := 0 } : Room) (va_Pc [.ref (a 0), .int (nI lo), .int (nI hi), .int (nI pw)] (wm_pre D wm_cl (wm_xt k) (wm_x a k n m rd t p w d g) sz)) (va_Qv (fun u : Unit => True) (fun u => wm_is D wm_cl (wm_xt k) (va_A (wm_x a k n m rd t p w d g) sz) (wm_x a k n m rd t p (wm_bf w lo hi (wm_rt pw)) d g)) (va_A (wm_x a k n m rd t p w d g) sz)) 0 0 (va_A (wm_x a k n m rd t p w d g) sz) := by
  refine Met.ofW (cc := cX0_butterfly) (maxL := 6) (ret := none) (by decide) rfl ?_
  intro P0 e0 s M0 av bl mt cd s1 B hml hv
  obtain ⟨rfl, hsz, hP, hK, hD0⟩ := hv
  have hx := B.exec
  have hb := B.bytes
  have hr := B.returns
  have hts := atoms_spec (ws := (ws_ yX0_butterfly cX0_butterfly 6 none)) B.pre
  have hts : ∀ w ∈ lw_all, w.before _ s = true := fun w h => hts w (List.mem_cons_of_mem _ h)
  have hown : s.vm.findClass RX0 = some M0.cls := findClass_of_methodNamed B.named
  have hlocks := B.notSynchronized
  subst hsz
  have hD := hD0.self (sz := s.heap.size)
  generalize hAe : va_A (wm_x a k n m rd t p w d g) s.heap.size = A at hD ⊢
  have hA : ∀ q : Nat, s.heap.size ≤ q → A q := fun q h => by rw [← hAe]; exact Or.inr h
  have hS : va_S A s.heap s.heap [] := va_S.rf
  have hP : va_P D wm_cl (wm_x a k n m rd t p w d g) s.heap := hP
  have hl := lv_entry ([.ref (a 0), .int (nI lo), .int (nI hi), .int (nI pw)]) (n := 6) (Nat.le_of_ble_eq_true rfl)
  rw [lg_entry_eq]
  generalize (lg_sl ([.ref (a 0), .int (nI lo), .int (nI hi), .int (nI pw)]) ++ List.replicate (6 - (lg_sl ([.ref (a 0), .int (nI lo), .int (nI hi), .int (nI pw)])).length) Slot.unset).toArray = ls at hl ⊢
  have hl : lv_has ls 6 [(0, .ref (a 0)), (1, .int (nI lo)), (2, .int (nI hi)), (3, .int (nI pw))] := hl
  have hm1 := wm_md (w hi * wm_rt pw)
  have hw1 := hw lo
  refine lv_aload_n hx hb dX0_butterfly_0 rfl (lv_at hl 0 rfl) ?_
  refine va_get (D := D) (ci := 0) (v := .ref (a 4)) (C := RX0) (T := TX0) (N := 9) hx hb hts in_X0 hown hK hP 0 rfl rfl 5 (by decide) (hts _ q29) (fun _ h9 => h9) rfl dX0_butterfly_1 ?_
  refine lv_iload_n hx hb dX0_butterfly_4 rfl (lv_at hl 1 rfl) ?_
  refine wm_iald hx hb hK hP 4 3 rfl rfl (by decide) (by omega) dX0_butterfly_5 ?_
  refine lv_istore (lv' := [(4, .int (nI (w lo))), (0, .ref (a 0)), (1, .int (nI lo)), (2, .int (nI hi)), (3, .int (nI pw))]) hx hb dX0_butterfly_6 hl (by decide) rfl (fun ls hl => ?_)
  refine lv_aload_n hx hb dX0_butterfly_8 rfl (lv_at hl 1 rfl) ?_
  refine va_get (D := D) (ci := 0) (v := .ref (a 4)) (C := RX0) (T := TX0) (N := 9) hx hb hts in_X0 hown hK hP 0 rfl rfl 5 (by decide) (hts _ q29) (fun _ h9 => h9) rfl dX0_butterfly_9 ?_
  refine lv_iload_n hx hb dX0_butterfly_12 rfl (lv_at hl 3 rfl) ?_
  refine wm_iald hx hb hK hP 4 3 rfl rfl (by decide) (by omega) dX0_butterfly_13 ?_
  refine lv_aload_n hx hb dX0_butterfly_14 rfl (lv_at hl 1 rfl) ?_
  refine va_get (D := D) (ci := 0) (v := .ref (a 3)) (C := RX0) (T := TX0) (N := 9) hx hb hts in_X0 hown hK hP 0 rfl rfl 4 (by decide) (hts _ q28) (fun _ h9 => h9) rfl dX0_butterfly_15 ?_
  refine lv_iload_n hx hb dX0_butterfly_18 rfl (lv_at hl 4 rfl) ?_
  refine wm_iald hx hb hK hP 3 2 rfl rfl (by decide) (by omega) dX0_butterfly_19 ?_
  refine wm_imul hx hb dX0_butterfly_20 ?_
  refine lv_sipush (v := nI 7681) hx hb dX0_butterfly_21 (by decide +kernel) ?_
  refine wm_irem hx hb dX0_butterfly_24 (wm_mb (hw hi) (wm_rt_lt pw)) (by decide) (by decide) ?_
  refine lv_istore (lv' := [(5, .int (nI (((w hi) * (wm_rt pw)) % 7681))), (4, .int (nI (w lo))), (0, .ref (a 0)), (1, .int (nI lo)), (2, .int (nI hi)), (3, .int (nI pw))]) hx hb dX0_butterfly_25 hl (by decide) rfl (fun ls hl => ?_)
  refine lv_aload_n hx hb dX0_butterfly_27 rfl (lv_at hl 2 rfl) ?_
  refine va_get (D := D) (ci := 0) (v := .ref (a 4)) (C := RX0) (T := TX0) (N := 9) hx hb hts in_X0 hown hK hP 0 rfl rfl 5 (by decide) (hts _ q29) (fun _ h9 => h9) rfl dX0_butterfly_28 ?_
  refine lv_iload_n hx hb dX0_butterfly_31 rfl (lv_at hl 3 rfl) ?_
  refine lv_iload hx hb dX0_butterfly_32 (lv_at hl 1 rfl) ?_
  refine lv_iload hx hb dX0_butterfly_34 (lv_at hl 0 rfl) ?_
  refine wm_iadd hx hb dX0_butterfly_36 ?_
  refine lv_sipush (v := nI 7681) hx hb dX0_butterfly_37 (by decide +kernel) ?_
  refine wm_irem hx hb dX0_butterfly_40 (by omega) (by omega) (by omega) ?_
  refine wm_iast hx hb hK hP hD hS 4 3 rfl rfl (by decide) (by omega) dX0_butterfly_41 (fun H locs hP hD hS => ?_)
  have hP : va_P D wm_cl (wm_x a k n m rd t p (wm_un w lo (((w lo) + (((w hi) * (wm_rt pw)) % 7681)) % 7681)) d g) H := hP
  have hD : va_D A (wm_x a k n m rd t p (wm_un w lo (((w lo) + (((w hi) * (wm_rt pw)) % 7681)) % 7681)) d g) := hD
  refine lv_aload_n hx hb dX0_butterfly_42 rfl (lv_at hl 2 rfl) ?_
  refine va_get (D := D) (ci := 0) (v := .ref (a 4)) (C := RX0) (T := TX0) (N := 9) hx hb hts in_X0 hown hK hP 0 rfl rfl 5 (by decide) (hts _ q29) (fun _ h9 => h9) rfl dX0_butterfly_43 ?_
  refine lv_iload_n hx hb dX0_butterfly_46 rfl (lv_at hl 4 rfl) ?_
  refine lv_iload hx hb dX0_butterfly_47 (lv_at hl 1 rfl) ?_
  refine lv_sipush (v := nI 7681) hx hb dX0_butterfly_49 (by decide +kernel) ?_
  refine wm_iadd hx hb dX0_butterfly_52 ?_
  refine lv_iload hx hb dX0_butterfly_53 (lv_at hl 0 rfl) ?_
  refine wm_isub hx hb dX0_butterfly_55 (by omega) ?_
  refine lv_sipush (v := nI 7681) hx hb dX0_butterfly_56 (by decide +kernel) ?_
  refine wm_irem hx hb dX0_butterfly_59 (by omega) (by omega) (by omega) ?_
  refine wm_iast hx hb hK hP hD hS 4 3 rfl rfl (by decide) (by omega) dX0_butterfly_60 (fun H locs hP hD hS => ?_)
  have hP : va_P D wm_cl (wm_x a k n m rd t p (wm_un (wm_un w lo (((w lo) + (((w hi) * (wm_rt pw)) % 7681)) % 7681)) hi ((((w lo) + 7681) - (((w hi) * (wm_rt pw)) % 7681)) % 7681)) d g) H := hP
  have hD : va_D A (wm_x a k n m rd t p (wm_un (wm_un w lo (((w lo) + (((w hi) * (wm_rt pw)) % 7681)) % 7681)) hi ((((w lo) + 7681) - (((w hi) * (wm_rt pw)) % 7681)) % 7681)) d g) := hD
  exact W.vret hx hb hr (fun T0 hT0 hW0 => ⟨⟨(), rfl, trivial, by rw [hT0]; exact hP, va_K.moved hW0.alike hK, hD⟩, hS.F hT0⟩) hS.2.2 dX0_butterfly_61
set_option maxHeartbeats 4000000 in
set_option maxRecDepth 100000 in
/-- turnedBits -/
theorem mx_turnedBits (l : Launch) (D : va_G) (a : Nat → Nat) (k : Nat → ClassId) (sz n m rd : Nat) (t p w d g : Nat → Nat) (q : Nat) (hq : q < 64) : Met l yX0_turnedBits (ws_ yX0_turnedBits cX0_turnedBits 4 (some .int)) ({ frames := 0, cells := 0, slots := 0, locals := 0 } : Room) (va_Pc [.ref (a 0), .int (nI q)] (wm_pre D wm_cl (wm_xt k) (wm_x a k n m rd t p w d g) sz)) (va_Qi (fun (r : Int32) (u : Unit) => r = nI (wm_rev q)) (fun u => wm_is D wm_cl (wm_xt k) (va_A (wm_x a k n m rd t p w d g) sz) (wm_x a k n m rd t p w d g)) (va_A (wm_x a k n m rd t p w d g) sz)) 0 0 (va_A (wm_x a k n m rd t p w d g) sz) := by
  refine Met.ofW (cc := cX0_turnedBits) (maxL := 4) (ret := some .int) (by decide) rfl ?_
  intro P0 e0 s M0 av bl mt cd s1 B hml hv
  obtain ⟨rfl, hsz, hP, hK, hD0⟩ := hv
  have hx := B.exec
  have hb := B.bytes
  have hr := B.returns
  have hts := atoms_spec (ws := (ws_ yX0_turnedBits cX0_turnedBits 4 (some .int))) B.pre
  have hts : ∀ w ∈ lw_all, w.before _ s = true := fun w h => hts w (List.mem_cons_of_mem _ h)
  have hown : s.vm.findClass RX0 = some M0.cls := findClass_of_methodNamed B.named
  have hlocks := B.notSynchronized
  subst hsz
  have hD := hD0.self (sz := s.heap.size)
  generalize hAe : va_A (wm_x a k n m rd t p w d g) s.heap.size = A at hD ⊢
  have hA : ∀ q : Nat, s.heap.size ≤ q → A q := fun q h => by rw [← hAe]; exact Or.inr h
  have hS : va_S A s.heap s.heap [] := va_S.rf
  have hP : va_P D wm_cl (wm_x a k n m rd t p w d g) s.heap := hP
  have hl := lv_entry ([.ref (a 0), .int (nI q)]) (n := 4) (Nat.le_of_ble_eq_true rfl)
  rw [lg_entry_eq]
  generalize (lg_sl ([.ref (a 0), .int (nI q)]) ++ List.replicate (4 - (lg_sl ([.ref (a 0), .int (nI q)])).length) Slot.unset).toArray = ls at hl ⊢
  have hl : lv_has ls 4 [(0, .ref (a 0)), (1, .int (nI q))] := hl
  refine lv_iconst (v := nI 0) hx hb dX0_turnedBits_0 (by decide +kernel) ?_
  refine lv_istore_n (lv' := [(2, .int (nI 0)), (0, .ref (a 0)), (1, .int (nI q))]) hx hb dX0_turnedBits_1 rfl hl (by decide) rfl (fun ls hl => ?_)
  refine lv_iconst (v := nI 0) hx hb dX0_turnedBits_2 (by decide +kernel) ?_
  refine lv_istore_n (lv' := [(3, .int (nI 0)), (2, .int (nI 0)), (0, .ref (a 0)), (1, .int (nI q))]) hx hb dX0_turnedBits_3 rfl hl (by decide) rfl (fun ls hl => ?_)
  have loop : ∀ (r i : Nat), i + r = 6 → ∀ (H : Heap) (locs : List Loc) (ls : Array Slot), va_P D wm_cl (wm_x a k n m rd t p w d g) H → va_D A (wm_x a k n m rd t p w d g) → va_S A s.heap H locs → lv_has ls 4 [(0, .ref (a 0)), (1, .int (nI q)), (2, .int (wm_tb (nI q) i)), (3, .int (nI i))] → W P0 l e0 (headSpec (ws_ yX0_turnedBits cX0_turnedBits 4 (some .int)) ({ frames := 0, cells := 0, slots := 0, locals := 0 } : Room)).room s M0 ([.ref (a 0), .int (nI q)] : List Value).toArray bl mt cd H locs 0 0 (MQ bl (va_Qi (fun (r : Int32) (u : Unit) => r = nI (wm_rev q)) (fun u => wm_is D wm_cl (wm_xt k) A (wm_x a k n m rd t p w d g)) A) ([.ref (a 0), .int (nI q)] : List Value).toArray s 0 0 A) (F0 M0 4 ls []) := by
    intro r
    induction r with
    | zero =>
      intro i hi
      intro H locs ls hP hD hS hl
      refine lv_iload_n hx hb dX0_turnedBits_4 rfl (lv_at hl 3 rfl) ?_
      refine lv_bipush (v := nI 6) hx hb dX0_turnedBits_5 (by decide +kernel) ?_
      refine wm_cge (tgt := 28) hx hb dX0_turnedBits_7 (by decide) (by omega) (by omega) (fun hc => ?_) (fun hc => ?_)
      · skip
        obtain rfl : i = 6 := by omega
        refine lv_iload_n hx hb dX0_turnedBits_28 rfl (lv_at hl 2 rfl) ?_
        refine wm_top (y := nI (wm_rev q)) (wm_tb6 q hq) ?_
        exact W.iret (v := nI (wm_rev q)) hx hb hr (fun T0 hT0 hW0 => ⟨⟨nI (wm_rev q), (), rfl, rfl, by rw [hT0]; exact hP, va_K.moved hW0.alike hK, hD⟩, hS.F hT0⟩) hS.2.2 dX0_turnedBits_29
      · omega
    | succ r ih =>
      intro i hi
      intro H locs ls hP hD hS hl
      refine lv_iload_n hx hb dX0_turnedBits_4 rfl (lv_at hl 3 rfl) ?_
      refine lv_bipush (v := nI 6) hx hb dX0_turnedBits_5 (by decide +kernel) ?_
      refine wm_cge (tgt := 28) hx hb dX0_turnedBits_7 (by decide) (by omega) (by omega) (fun hc => ?_) (fun hc => ?_)
      · omega
      · skip
        refine lv_iload_n hx hb dX0_turnedBits_10 rfl (lv_at hl 2 rfl) ?_
        refine lv_iload_n hx hb dX0_turnedBits_11 rfl (lv_at hl 1 rfl) ?_
        refine lv_iload_n hx hb dX0_turnedBits_12 rfl (lv_at hl 3 rfl) ?_
        refine lv_ishr hx hb dX0_turnedBits_13 ?_
        refine lv_iconst (v := nI 1) hx hb dX0_turnedBits_14 (by decide +kernel) ?_
        refine lv_iand hx hb dX0_turnedBits_15 ?_
        refine lv_iconst (v := nI 5) hx hb dX0_turnedBits_16 (by decide +kernel) ?_
        refine lv_iload_n hx hb dX0_turnedBits_17 rfl (lv_at hl 3 rfl) ?_
        refine lv_isub hx hb dX0_turnedBits_18 ?_
        refine lv_ishl hx hb dX0_turnedBits_19 ?_
        refine lv_ior hx hb dX0_turnedBits_20 ?_
        refine lv_istore_n (lv' := [(2, .int ((wm_tb (nI q) i) ||| ((((nI q) >>> ((nI i) &&& 31)) &&& (nI 1)) <<< ((nI 5 - nI i) &&& 31)))), (0, .ref (a 0)), (1, .int (nI q)), (3, .int (nI i))]) hx hb dX0_turnedBits_21 rfl hl (by decide) rfl (fun ls hl => ?_)
        refine lv_iinc (v := nI (i + 1)) (lv' := [(3, .int (nI (i + 1))), (2, .int ((wm_tb (nI q) i) ||| ((((nI q) >>> ((nI i) &&& 31)) &&& (nI 1)) <<< ((nI 5 - nI i) &&& 31)))), (0, .ref (a 0)), (1, .int (nI q))]) hx hb dX0_turnedBits_22 hl (k := 3) rfl (wm_inc i) (by decide) rfl (fun ls hl => ?_)
        refine lv_goto (tgt := 4) hx hb dX0_turnedBits_25 (by decide) ?_
        exact ih (i + 1) (by omega) _ _ _ hP hD hS (lv_sub hl [2, 3, 1, 0] rfl)
  exact loop 6 0 rfl _ _ _ hP hD hS (lv_sub hl [2, 3, 1, 0] rfl)
set_option maxHeartbeats 4000000 in
set_option maxRecDepth 100000 in
/-- measure -/
theorem mx_measure (l : Launch) (D : va_G) (a : Nat → Nat) (k : Nat → ClassId) (sz n m rd : Nat) (t p w d g : Nat → Nat) (x : Nat) (h : Int32) (hx5 : x < 5) (hh : h ≤ 3) : Met l yX0_measure (ws_ yX0_measure cX0_measure 5 (some .int)) ({ frames := 0, cells := 0, slots := 0, locals := 0 } : Room) (va_Pc [.ref (a 0), .int (nI x), .int h] (wm_pre D wm_cl (wm_xt k) (wm_x a k n m rd t p w d g) sz)) (va_Qi (fun (r : Int32) (u : Unit) => r = nI (wm_ms h x)) (fun u => wm_is D wm_cl (wm_xt k) (va_A (wm_x a k n m rd t p w d g) sz) (wm_x a k n m rd t p w d g)) (va_A (wm_x a k n m rd t p w d g) sz)) 0 0 (va_A (wm_x a k n m rd t p w d g) sz) := by
  refine Met.ofW (cc := cX0_measure) (maxL := 5) (ret := some .int) (by decide) rfl ?_
  intro P0 e0 s M0 av bl mt cd s1 B hml hv
  obtain ⟨rfl, hsz, hP, hK, hD0⟩ := hv
  have hx := B.exec
  have hb := B.bytes
  have hr := B.returns
  have hts := atoms_spec (ws := (ws_ yX0_measure cX0_measure 5 (some .int))) B.pre
  have hts : ∀ w ∈ lw_all, w.before _ s = true := fun w h => hts w (List.mem_cons_of_mem _ h)
  have hown : s.vm.findClass RX0 = some M0.cls := findClass_of_methodNamed B.named
  have hlocks := B.notSynchronized
  subst hsz
  have hD := hD0.self (sz := s.heap.size)
  generalize hAe : va_A (wm_x a k n m rd t p w d g) s.heap.size = A at hD ⊢
  have hA : ∀ q : Nat, s.heap.size ≤ q → A q := fun q h => by rw [← hAe]; exact Or.inr h
  have hS : va_S A s.heap s.heap [] := va_S.rf
  have hP : va_P D wm_cl (wm_x a k n m rd t p w d g) s.heap := hP
  have hl := lv_entry ([.ref (a 0), .int (nI x), .int h]) (n := 5) (Nat.le_of_ble_eq_true rfl)
  rw [lg_entry_eq]
  generalize (lg_sl ([.ref (a 0), .int (nI x), .int h]) ++ List.replicate (5 - (lg_sl ([.ref (a 0), .int (nI x), .int h])).length) Slot.unset).toArray = ls at hl ⊢
  have hl : lv_has ls 5 [(0, .ref (a 0)), (1, .int (nI x)), (2, .int h)] := hl
  refine lv_iload_n hx hb dX0_measure_0 rfl (lv_at hl 2 rfl) ?_
  refine lv_if_ge (tgt := 16) hx hb dX0_measure_1 (by decide) (fun hc => ?_) (fun hc => ?_)
  · skip
    have h0 : ¬ h < 0 := Int32.not_lt.mpr hc
    refine lv_iload_n hx hb dX0_measure_16 rfl (lv_at hl 1 rfl) ?_
    refine wm_zne (tgt := 22) hx hb dX0_measure_17 (by decide) (by omega) (fun hd => ?_) (fun hd => ?_)
    · skip
      obtain ⟨q, hq, rfl⟩ := nI_of2 (M := 3) (n := 3) (by decide) h0 hh
      refine lv_iconst (v := nI 1) hx hb dX0_measure_22 (by decide +kernel) ?_
      refine lv_istore_n (lv' := [(3, .int (nI 1)), (0, .ref (a 0)), (1, .int (nI x)), (2, .int (nI q))]) hx hb dX0_measure_23 rfl hl (by decide) rfl (fun ls hl => ?_)
      refine lv_iconst (v := nI 0) hx hb dX0_measure_24 (by decide +kernel) ?_
      refine lv_istore (lv' := [(4, .int (nI 0)), (3, .int (nI 1)), (0, .ref (a 0)), (1, .int (nI x)), (2, .int (nI q))]) hx hb dX0_measure_25 hl (by decide) rfl (fun ls hl => ?_)
      have loop : ∀ (r i : Nat), i + r = q → ∀ (H : Heap) (locs : List Loc) (ls : Array Slot), va_P D wm_cl (wm_x a k n m rd t p w d g) H → va_D A (wm_x a k n m rd t p w d g) → va_S A s.heap H locs → lv_has ls 5 [(0, .ref (a 0)), (1, .int (nI x)), (2, .int (nI q)), (3, .int (nI (x ^ i))), (4, .int (nI i))] → W P0 l e0 (headSpec (ws_ yX0_measure cX0_measure 5 (some .int)) ({ frames := 0, cells := 0, slots := 0, locals := 0 } : Room)).room s M0 ([.ref (a 0), .int (nI x), .int (nI q)] : List Value).toArray bl mt cd H locs 0 0 (MQ bl (va_Qi (fun (r : Int32) (u : Unit) => r = nI (wm_ms (nI q) x)) (fun u => wm_is D wm_cl (wm_xt k) A (wm_x a k n m rd t p w d g)) A) ([.ref (a 0), .int (nI x), .int (nI q)] : List Value).toArray s 0 0 A) (F0 M0 27 ls []) := by
        intro r
        induction r with
        | zero =>
          intro i hi
          intro H locs ls hP hD hS hl
          refine lv_iload hx hb dX0_measure_27 (lv_at hl 4 rfl) ?_
          refine lv_iload_n hx hb dX0_measure_29 rfl (lv_at hl 2 rfl) ?_
          refine wm_cge (tgt := 43) hx hb dX0_measure_30 (by decide) (by omega) (by omega) (fun hc => ?_) (fun hc => ?_)
          · skip
            have hiq : i = q := by omega
            rw [hiq] at hl
            refine lv_iload_n hx hb dX0_measure_43 rfl (lv_at hl 3 rfl) ?_
            exact W.iret (v := nI (x ^ q)) hx hb hr (fun T0 hT0 hW0 => ⟨⟨nI (x ^ q), (), rfl, (by rw [wm_ms, if_neg h0, if_neg hd, nI_clamp (by omega)]), by rw [hT0]; exact hP, va_K.moved hW0.alike hK, hD⟩, hS.F hT0⟩) hS.2.2 dX0_measure_44
          · omega
        | succ r ih =>
          intro i hi
          intro H locs ls hP hD hS hl
          refine lv_iload hx hb dX0_measure_27 (lv_at hl 4 rfl) ?_
          refine lv_iload_n hx hb dX0_measure_29 rfl (lv_at hl 2 rfl) ?_
          refine wm_cge (tgt := 43) hx hb dX0_measure_30 (by decide) (by omega) (by omega) (fun hc => ?_) (fun hc => ?_)
          · omega
          · skip
            refine lv_iload_n hx hb dX0_measure_33 rfl (lv_at hl 3 rfl) ?_
            refine lv_iload_n hx hb dX0_measure_34 rfl (lv_at hl 1 rfl) ?_
            refine wm_imul hx hb dX0_measure_35 ?_
            refine lv_istore_n (lv' := [(3, .int (nI ((x ^ i) * x))), (0, .ref (a 0)), (1, .int (nI x)), (2, .int (nI q)), (4, .int (nI i))]) hx hb dX0_measure_36 rfl hl (by decide) rfl (fun ls hl => ?_)
            refine lv_iinc (v := nI (i + 1)) (lv' := [(4, .int (nI (i + 1))), (3, .int (nI ((x ^ i) * x))), (0, .ref (a 0)), (1, .int (nI x)), (2, .int (nI q))]) hx hb dX0_measure_37 hl (k := 4) rfl (wm_inc i) (by decide) rfl (fun ls hl => ?_)
            refine lv_goto (tgt := 27) hx hb dX0_measure_40 (by decide) ?_
            exact ih (i + 1) (by omega) _ _ _ hP hD hS (lv_sub hl [2, 3, 4, 1, 0] rfl)
      exact loop q 0 (by omega) _ _ _ hP hD hS (lv_sub hl [2, 3, 4, 1, 0] rfl)
    · skip
      refine lv_iconst (v := nI 0) hx hb dX0_measure_20 (by decide +kernel) ?_
      exact W.iret (v := nI 0) hx hb hr (fun T0 hT0 hW0 => ⟨⟨nI 0, (), rfl, (by rw [wm_ms, if_neg h0, if_pos hd]), by rw [hT0]; exact hP, va_K.moved hW0.alike hK, hD⟩, hS.F hT0⟩) hS.2.2 dX0_measure_21
  · skip
    have h0 : h < 0 := Int32.not_le.mp hc
    refine lv_iload_n hx hb dX0_measure_4 rfl (lv_at hl 1 rfl) ?_
    refine lv_iload_n hx hb dX0_measure_5 rfl (lv_at hl 2 rfl) ?_
    refine lv_ineg hx hb dX0_measure_6 ?_
    refine lv_icmp_ne (tgt := 14) hx hb dX0_measure_7 (by decide) (fun hd => ?_) (fun hd => ?_)
    · skip
      refine lv_iconst (v := nI 0) hx hb dX0_measure_14 (by decide +kernel) ?_
      exact W.iret (v := nI 0) hx hb hr (fun T0 hT0 hW0 => ⟨⟨nI 0, (), rfl, (by rw [wm_ms, if_pos h0, if_neg hd]), by rw [hT0]; exact hP, va_K.moved hW0.alike hK, hD⟩, hS.F hT0⟩) hS.2.2 dX0_measure_15
    · skip
      refine lv_iconst (v := nI 1) hx hb dX0_measure_10 (by decide +kernel) ?_
      refine lv_goto (tgt := 15) hx hb dX0_measure_11 (by decide) ?_
      exact W.iret (v := nI 1) hx hb hr (fun T0 hT0 hW0 => ⟨⟨nI 1, (), rfl, (by rw [wm_ms, if_pos h0, if_pos hd]), by rw [hT0]; exact hP, va_K.moved hW0.alike hK, hD⟩, hS.F hT0⟩) hS.2.2 dX0_measure_15
end
section
set_option maxHeartbeats 4000000 in
set_option maxRecDepth 100000 in
/-- transform -/
theorem mx_transform (l : Launch) (D : va_G) (a : Nat → Nat) (k : Nat → ClassId) (sz n m rd : Nat) (t p w d g : Nat → Nat) (at_ : Nat) (z : Int32) (b : Bool) (hz : z = 0 ↔ b = false) (hat : at_ + 64 ≤ 192) (hw : ∀ x, w x < 7681) : Met l yX0_transform (ws_ yX0_transform cX0_transform 8 none) ({ frames := 1, cells := 0, slots := 0, locals := 25 } : Room) (va_Pc [.ref (a 0), .int (nI at_), .int z] (wm_pre D wm_cl (wm_xt k) (wm_x a k n m rd t p w d g) sz)) (va_Qv (fun u : Unit => True) (fun u => wm_is D wm_cl (wm_xt k) (va_A (wm_x a k n m rd t p w d g) sz) (wm_x a k n m rd t p (wm_tr at_ b w) d g)) (va_A (wm_x a k n m rd t p w d g) sz)) 0 0 (va_A (wm_x a k n m rd t p w d g) sz) := by
  refine Met.ofW (cc := cX0_transform) (maxL := 8) (ret := none) (by decide) rfl ?_
  intro P0 e0 s M0 av bl mt cd s1 B hml hv
  obtain ⟨rfl, hsz, hP, hK, hD0⟩ := hv
  have hx := B.exec
  have hb := B.bytes
  have hr := B.returns
  have hts := atoms_spec (ws := (ws_ yX0_transform cX0_transform 8 none)) B.pre
  have hts : ∀ w ∈ lw_all, w.before _ s = true := fun w h => hts w (List.mem_cons_of_mem _ h)
  have hown : s.vm.findClass RX0 = some M0.cls := findClass_of_methodNamed B.named
  have hlocks := B.notSynchronized
  subst hsz
  have hD := hD0.self (sz := s.heap.size)
  generalize hAe : va_A (wm_x a k n m rd t p w d g) s.heap.size = A at hD ⊢
  have hA : ∀ q : Nat, s.heap.size ≤ q → A q := fun q h => by rw [← hAe]; exact Or.inr h
  have hS : va_S A s.heap s.heap [] := va_S.rf
  have hP : va_P D wm_cl (wm_x a k n m rd t p w d g) s.heap := hP
  have hl := lv_entry ([.ref (a 0), .int (nI at_), .int z]) (n := 8) (Nat.le_of_ble_eq_true rfl)
  rw [lg_entry_eq]
  generalize (lg_sl ([.ref (a 0), .int (nI at_), .int z]) ++ List.replicate (8 - (lg_sl ([.ref (a 0), .int (nI at_), .int z])).length) Slot.unset).toArray = ls at hl ⊢
  have hl : lv_has ls 8 [(0, .ref (a 0)), (1, .int (nI at_)), (2, .int z)] := hl
  refine lv_iconst (v := nI 0) hx hb dX0_transform_0 (by decide +kernel) ?_
  refine lv_istore_n (lv' := [(3, .int (nI 0)), (0, .ref (a 0)), (1, .int (nI at_)), (2, .int z)]) hx hb dX0_transform_1 rfl hl (by decide) rfl (fun ls hl => ?_)
  have loop : ∀ (r i : Nat), i + r = 64 → ∀ (H : Heap) (locs : List Loc) (ls : Array Slot), va_P D wm_cl (wm_x a k n m rd t p (wm_it (wm_sw at_) i w) d g) H → va_D A (wm_x a k n m rd t p (wm_it (wm_sw at_) i w) d g) → va_S A s.heap H locs → lv_has ls 8 [(0, .ref (a 0)), (1, .int (nI at_)), (2, .int z), (3, .int (nI i))] → W P0 l e0 (headSpec (ws_ yX0_transform cX0_transform 8 none) ({ frames := 1, cells := 0, slots := 0, locals := 25 } : Room)).room s M0 ([.ref (a 0), .int (nI at_), .int z] : List Value).toArray bl mt cd H locs 0 0 (MQ bl (va_Qv (fun u : Unit => True) (fun u => wm_is D wm_cl (wm_xt k) A (wm_x a k n m rd t p (wm_tr at_ b w) d g)) A) ([.ref (a 0), .int (nI at_), .int z] : List Value).toArray s 0 0 A) (F0 M0 2 ls []) := by
    intro r
    induction r with
    | zero =>
      intro i hi
      intro H locs ls hP hD hS hl
      refine lv_iload_n hx hb dX0_transform_2 rfl (lv_at hl 3 rfl) ?_
      refine lv_bipush (v := nI 64) hx hb dX0_transform_3 (by decide +kernel) ?_
      refine wm_cge (tgt := 68) hx hb dX0_transform_5 (by decide) (by omega) (by omega) (fun hc => ?_) (fun hc => ?_)
      · skip
        obtain rfl : i = 64 := by omega
        refine lv_iconst (v := nI 1) hx hb dX0_transform_68 (by decide +kernel) ?_
        refine lv_istore_n (lv' := [(3, .int (nI 1)), (0, .ref (a 0)), (1, .int (nI at_)), (2, .int z)]) hx hb dX0_transform_69 rfl hl (by decide) rfl (fun ls hl => ?_)
        obtain ⟨w1, e_w1⟩ : ∃ z_, z_ = wm_it (wm_sw at_) 64 w := ⟨_, rfl⟩
        rw [← e_w1] at hP hD
        have h_w1 : ∀ x, w1 x < 7681 := by rw [e_w1]; exact wm_sw_lt at_ hw 64
        have loopS : ∀ (r s_ : Nat), s_ + r = 6 → ∀ (H : Heap) (locs : List Loc) (ls : Array Slot), va_P D wm_cl (wm_x a k n m rd t p (wm_it (wm_sg at_ b) s_ w1) d g) H → va_D A (wm_x a k n m rd t p (wm_it (wm_sg at_ b) s_ w1) d g) → va_S A s.heap H locs → lv_has ls 8 [(0, .ref (a 0)), (1, .int (nI at_)), (2, .int z), (3, .int (nI (2 ^ s_)))] → W P0 l e0 (headSpec (ws_ yX0_transform cX0_transform 8 none) ({ frames := 1, cells := 0, slots := 0, locals := 25 } : Room)).room s M0 ([.ref (a 0), .int (nI at_), .int z] : List Value).toArray bl mt cd H locs 0 0 (MQ bl (va_Qv (fun u : Unit => True) (fun u => wm_is D wm_cl (wm_xt k) A (wm_x a k n m rd t p (wm_tr at_ b w) d g)) A) ([.ref (a 0), .int (nI at_), .int z] : List Value).toArray s 0 0 A) (F0 M0 70 ls []) := by
          intro r
          induction r with
          | zero =>
            intro s_ hi
            intro H locs ls hP hD hS hl
            obtain rfl : s_ = 6 := by omega
            refine lv_iload_n hx hb dX0_transform_70 rfl (lv_at hl 3 rfl) ?_
            refine lv_bipush (v := nI 64) hx hb dX0_transform_71 (by decide +kernel) ?_
            refine wm_cge (tgt := 158) hx hb dX0_transform_73 (by decide) (by decide) (by decide) (fun hc => ?_) (fun hc => ?_)
            · skip
              refine lv_iload_n hx hb dX0_transform_158 rfl (lv_at hl 2 rfl) ?_
              refine lv_if_eq (tgt := 167) hx hb dX0_transform_159 (by decide) (fun hd => ?_) (fun hd => ?_)
              · skip
                have e : wm_tr at_ b w = wm_it (wm_sg at_ b) 6 w1 := by rw [e_w1, wm_tr, if_neg (by rw [hz.mp hd]; decide)]
                rw [← e] at hP hD
                exact W.vret hx hb hr (fun T0 hT0 hW0 => ⟨⟨(), rfl, trivial, by rw [hT0]; exact hP, va_K.moved hW0.alike hK, hD⟩, hS.F hT0⟩) hS.2.2 dX0_transform_167
              · skip
                have hb1 : b = true := by cases b with | true => rfl | false => exact absurd (hz.mpr rfl) hd
                refine lv_aload_n hx hb dX0_transform_162 rfl (lv_at hl 0 rfl) ?_
                refine lv_iload_n hx hb dX0_transform_163 rfl (lv_at hl 1 rfl) ?_
                obtain ⟨w6, e_w6⟩ : ∃ z_, z_ = wm_it (wm_sg at_ b) 6 w1 := ⟨_, rfl⟩
                rw [← e_w6] at hP hD
                have h_w6 : ∀ x, w6 x < 7681 := by rw [e_w6]; exact wm_sg_lt at_ b h_w1 6
                refine wm_callv (wr := []) (As := [.int (nI at_)]) (rest := []) ⟨hx, hb, hml, hown, hts⟩ (mx_divideBySize l D a k H.size n m rd t p w6 d g at_ hat h_w6) (cwV 1 hts (lw_V q111 q113 qs8 q14 q114) rfl rfl rfl (by decide +kernel) ⟨Nat.le_of_ble_eq_true rfl, Nat.le_of_ble_eq_true rfl⟩) (va_recv hK hP (ci := 0) (q0 := 0) rfl rfl) hK hP hD hS hA [0, 1, 2, 3, 4, 5, 6] [] [0, 1, 2, 3, 4, 5] rfl rfl rfl (by decide) (by decide) (by decide) rfl rfl hl.1 rfl (Nat.le_of_ble_eq_true rfl) dX0_transform_164 ⟨Nat.zero_le _, Nat.zero_le _⟩ (fun u H locs hq hP hD hS => ?_)
                have hP : va_P D wm_cl (wm_x a k n m rd t p (wm_it (wm_dv at_) 64 w6) d g) H := hP
                have hD : va_D A (wm_x a k n m rd t p (wm_it (wm_dv at_) 64 w6) d g) := hD
                have e : wm_tr at_ b w = wm_it (wm_dv at_) 64 w6 := by rw [e_w6, e_w1, wm_tr, if_pos hb1]
                rw [← e] at hP hD
                exact W.vret hx hb hr (fun T0 hT0 hW0 => ⟨⟨(), rfl, trivial, by rw [hT0]; exact hP, va_K.moved hW0.alike hK, hD⟩, hS.F hT0⟩) hS.2.2 dX0_transform_167
            · exact absurd hc (by decide)
          | succ r ih =>
            intro s_ hi
            intro H locs ls hP hD hS hl
            have hs6 : s_ < 6 := by omega
            obtain ⟨hp1, hp2⟩ := wm_p2 s_ hs6
            refine lv_iload_n hx hb dX0_transform_70 rfl (lv_at hl 3 rfl) ?_
            refine lv_bipush (v := nI 64) hx hb dX0_transform_71 (by decide +kernel) ?_
            refine wm_cge (tgt := 158) hx hb dX0_transform_73 (by decide) (by omega) (by omega) (fun hc => ?_) (fun hc => ?_)
            · omega
            · skip
              refine lv_iconst (v := nI 0) hx hb dX0_transform_76 (by decide +kernel) ?_
              refine lv_istore (lv' := [(4, .int (nI 0)), (0, .ref (a 0)), (1, .int (nI at_)), (2, .int z), (3, .int (nI (2 ^ s_)))]) hx hb dX0_transform_77 hl (by decide) rfl (fun ls hl => ?_)
              obtain ⟨w2, e_w2⟩ : ∃ z_, z_ = wm_it (wm_sg at_ b) s_ w1 := ⟨_, rfl⟩
              rw [← e_w2] at hP hD
              have h_w2 : ∀ x, w2 x < 7681 := by rw [e_w2]; exact wm_sg_lt at_ b h_w1 s_
              have loop2 : ∀ (r2 i : Nat), i + r2 = 32 → ∀ (H : Heap) (locs : List Loc) (ls : Array Slot), va_P D wm_cl (wm_x a k n m rd t p (wm_it (wm_st at_ b (2 ^ s_)) i w2) d g) H → va_D A (wm_x a k n m rd t p (wm_it (wm_st at_ b (2 ^ s_)) i w2) d g) → va_S A s.heap H locs → lv_has ls 8 [(0, .ref (a 0)), (1, .int (nI at_)), (2, .int z), (3, .int (nI (2 ^ s_))), (4, .int (nI i))] → W P0 l e0 (headSpec (ws_ yX0_transform cX0_transform 8 none) ({ frames := 1, cells := 0, slots := 0, locals := 25 } : Room)).room s M0 ([.ref (a 0), .int (nI at_), .int z] : List Value).toArray bl mt cd H locs 0 0 (MQ bl (va_Qv (fun u : Unit => True) (fun u => wm_is D wm_cl (wm_xt k) A (wm_x a k n m rd t p (wm_tr at_ b w) d g)) A) ([.ref (a 0), .int (nI at_), .int z] : List Value).toArray s 0 0 A) (F0 M0 79 ls []) := by
                intro r2
                induction r2 with
                | zero =>
                  intro i hi
                  intro H locs ls hP hD hS hl
                  refine lv_iload hx hb dX0_transform_79 (lv_at hl 4 rfl) ?_
                  refine lv_bipush (v := nI 32) hx hb dX0_transform_81 (by decide +kernel) ?_
                  refine wm_cge (tgt := 151) hx hb dX0_transform_83 (by decide) (by omega) (by omega) (fun hc2 => ?_) (fun hc2 => ?_)
                  · skip
                    obtain rfl : i = 32 := by omega
                    have e : wm_it (wm_sg at_ b) (s_ + 1) w1 = wm_it (wm_st at_ b (2 ^ s_)) 32 w2 := by rw [wm_it_s, wm_sg_e, ← e_w2]
                    rw [← e] at hP hD
                    have hl := lv_sub (l' := [(0, .ref (a 0)), (1, .int (nI at_)), (2, .int z), (3, .int (nI (2 ^ s_)))]) hl [0, 1, 2, 3] rfl
                    refine lv_iload_n hx hb dX0_transform_151 rfl (lv_at hl 3 rfl) ?_
                    refine lv_iconst (v := nI 2) hx hb dX0_transform_152 (by decide +kernel) ?_
                    refine wm_imul hx hb dX0_transform_153 ?_
                    refine lv_istore_n (lv' := [(3, .int (nI ((2 ^ s_) * 2))), (0, .ref (a 0)), (1, .int (nI at_)), (2, .int z)]) hx hb dX0_transform_154 rfl hl (by decide) rfl (fun ls hl => ?_)
                    refine lv_goto (tgt := 70) hx hb dX0_transform_155 (by decide) ?_
                    exact ih (s_ + 1) (by omega) _ _ _ hP hD hS (lv_sub hl [1, 2, 3, 0] rfl)
                  · omega
                | succ r2 ih2 =>
                  intro i hi
                  intro H locs ls hP hD hS hl
                  have hk : i < 32 := by omega
                  have hl0 := wm_l0_lt s_ hs6 i hk
                  have hpr := wm_pwr s_ hs6 i hk
                  refine lv_iload hx hb dX0_transform_79 (lv_at hl 4 rfl) ?_
                  refine lv_bipush (v := nI 32) hx hb dX0_transform_81 (by decide +kernel) ?_
                  refine wm_cge (tgt := 151) hx hb dX0_transform_83 (by decide) (by omega) (by omega) (fun hc2 => ?_) (fun hc2 => ?_)
                  · omega
                  · skip
                    refine lv_iload hx hb dX0_transform_86 (lv_at hl 4 rfl) ?_
                    refine lv_iload_n hx hb dX0_transform_88 rfl (lv_at hl 3 rfl) ?_
                    refine wm_irem hx hb dX0_transform_89 (by omega) (by omega) (by omega) ?_
                    refine lv_istore (lv' := [(5, .int (nI (i % (2 ^ s_)))), (0, .ref (a 0)), (1, .int (nI at_)), (2, .int z), (3, .int (nI (2 ^ s_))), (4, .int (nI i))]) hx hb dX0_transform_90 hl (by decide) rfl (fun ls hl => ?_)
                    refine lv_iload_n hx hb dX0_transform_92 rfl (lv_at hl 2 rfl) ?_
                    refine lv_iload hx hb dX0_transform_93 (lv_at hl 5 rfl) ?_
                    refine lv_iload_n hx hb dX0_transform_95 rfl (lv_at hl 4 rfl) ?_
                    refine wm_idiv hx hb dX0_transform_96 (by omega) (by omega) (by omega) ?_
                    refine lv_iconst (v := nI 2) hx hb dX0_transform_97 (by decide +kernel) ?_
                    refine wm_imul hx hb dX0_transform_98 ?_
                    refine lv_iload_n hx hb dX0_transform_99 rfl (lv_at hl 4 rfl) ?_
                    refine wm_imul hx hb dX0_transform_100 ?_
                    refine wm_iadd hx hb dX0_transform_101 ?_
                    refine lv_iload hx hb dX0_transform_102 (lv_at hl 0 rfl) ?_
                    refine wm_iadd hx hb dX0_transform_104 ?_
                    refine wm_top (y := nI (at_ + wm_l0 (2 ^ s_) i)) (congrArg nI (Nat.add_assoc at_ _ _)) ?_
                    refine lv_istore (lv' := [(6, .int (nI (at_ + wm_l0 (2 ^ s_) i))), (5, .int (nI (i % (2 ^ s_)))), (0, .ref (a 0)), (1, .int (nI at_)), (2, .int z), (3, .int (nI (2 ^ s_))), (4, .int (nI i))]) hx hb dX0_transform_105 hl (by decide) rfl (fun ls hl => ?_)
                    refine lv_iload hx hb dX0_transform_107 (lv_at hl 1 rfl) ?_
                    refine lv_bipush (v := nI 32) hx hb dX0_transform_109 (by decide +kernel) ?_
                    refine lv_iload_n hx hb dX0_transform_111 rfl (lv_at hl 5 rfl) ?_
                    refine wm_idiv hx hb dX0_transform_112 (by omega) (by omega) (by omega) ?_
                    refine wm_imul hx hb dX0_transform_113 ?_
                    refine lv_istore (lv' := [(7, .int (nI ((i % (2 ^ s_)) * (32 / (2 ^ s_))))), (6, .int (nI (at_ + wm_l0 (2 ^ s_) i))), (5, .int (nI (i % (2 ^ s_)))), (0, .ref (a 0)), (1, .int (nI at_)), (2, .int z), (3, .int (nI (2 ^ s_))), (4, .int (nI i))]) hx hb dX0_transform_114 hl (by decide) rfl (fun ls hl => ?_)
                    refine lv_aload_n hx hb dX0_transform_116 rfl (lv_at hl 3 rfl) ?_
                    refine lv_iload hx hb dX0_transform_117 (lv_at hl 1 rfl) ?_
                    refine lv_iload hx hb dX0_transform_119 (lv_at hl 1 rfl) ?_
                    refine lv_iload_n hx hb dX0_transform_121 rfl (lv_at hl 6 rfl) ?_
                    refine wm_iadd hx hb dX0_transform_122 ?_
                    refine lv_iload_n hx hb dX0_transform_123 rfl (lv_at hl 5 rfl) ?_
                    obtain ⟨w3, e_w3⟩ : ∃ z_, z_ = wm_it (wm_st at_ b (2 ^ s_)) i w2 := ⟨_, rfl⟩
                    rw [← e_w3] at hP hD
                    have h_w3 : ∀ x, w3 x < 7681 := by rw [e_w3]; exact wm_st_lt at_ b (2 ^ s_) h_w2 i
                    refine lv_if_eq (tgt := 140) hx hb dX0_transform_124 (by decide) (fun hz0 => ?_) (fun hz0 => ?_)
                    · skip
                      refine lv_iload hx hb dX0_transform_140 (lv_at hl 0 rfl) ?_
                      refine wm_top (y := nI (wm_pw b (2 ^ s_) i)) (by rw [wm_pw, if_neg (by rw [hz.mp hz0]; rintro ⟨h, -⟩; cases h)]) ?_
                      refine wm_callv (wr := []) (As := [.int (nI (at_ + wm_l0 (2 ^ s_) i)), .int (nI ((at_ + wm_l0 (2 ^ s_) i) + (2 ^ s_))), .int (nI (wm_pw b (2 ^ s_) i))]) (rest := []) ⟨hx, hb, hml, hown, hts⟩ (mx_butterfly l D a k H.size n m rd t p w3 d g (at_ + wm_l0 (2 ^ s_) i) (at_ + wm_l0 (2 ^ s_) i + 2 ^ s_) (wm_pw b (2 ^ s_) i) (by omega) (by omega) (wm_pw_ltb b hs6 hk) h_w3) (cwV 3 hts (lw_V q107 q109 qs7 q14 q110) rfl rfl rfl (by decide +kernel) ⟨Nat.le_of_ble_eq_true rfl, Nat.le_of_ble_eq_true rfl⟩) (va_recv hK hP (ci := 0) (q0 := 0) rfl rfl) hK hP hD hS hA [0, 1, 2, 3, 4, 5, 6] [] [0, 1, 2, 3, 4, 5] rfl rfl rfl (by decide) (by decide) (by decide) rfl rfl hl.1 rfl (Nat.le_of_ble_eq_true rfl) dX0_transform_142 ⟨Nat.zero_le _, Nat.zero_le _⟩ (fun u H locs hq hP hD hS => ?_)
                      have hP : va_P D wm_cl (wm_x a k n m rd t p (wm_bf w3 (at_ + wm_l0 (2 ^ s_) i) (at_ + wm_l0 (2 ^ s_) i + 2 ^ s_) (wm_rt (wm_pw b (2 ^ s_) i))) d g) H := hP
                      have hD : va_D A (wm_x a k n m rd t p (wm_bf w3 (at_ + wm_l0 (2 ^ s_) i) (at_ + wm_l0 (2 ^ s_) i + 2 ^ s_) (wm_rt (wm_pw b (2 ^ s_) i))) d g) := hD
                      have e : wm_it (wm_st at_ b (2 ^ s_)) (i + 1) w2 = wm_bf w3 (at_ + wm_l0 (2 ^ s_) i) (at_ + wm_l0 (2 ^ s_) i + 2 ^ s_) (wm_rt (wm_pw b (2 ^ s_) i)) := by rw [wm_it_s, wm_st_e, ← e_w3]
                      rw [← e] at hP hD
                      refine lv_iinc (v := nI (i + 1)) (lv' := [(4, .int (nI (i + 1))), (7, .int (nI ((i % (2 ^ s_)) * (32 / (2 ^ s_))))), (6, .int (nI (at_ + wm_l0 (2 ^ s_) i))), (5, .int (nI (i % (2 ^ s_)))), (0, .ref (a 0)), (1, .int (nI at_)), (2, .int z), (3, .int (nI (2 ^ s_)))]) hx hb dX0_transform_145 hl (k := 7) rfl (wm_inc i) (by decide) rfl (fun ls hl => ?_)
                      refine lv_goto (tgt := 79) hx hb dX0_transform_148 (by decide) ?_
                      exact ih2 (i + 1) (by omega) _ _ _ hP hD hS (lv_sub hl [4, 5, 6, 7, 0] rfl)
                    · skip
                      have hb1 : b = true := by cases b with | true => rfl | false => exact absurd (hz.mpr rfl) hz0
                      refine lv_iload hx hb dX0_transform_127 (lv_at hl 0 rfl) ?_
                      refine wm_zle (tgt := 140) hx hb dX0_transform_129 (by decide) (by omega) (fun hp0 => ?_) (fun hp0 => ?_)
                      · skip
                        refine lv_iload hx hb dX0_transform_140 (lv_at hl 0 rfl) ?_
                        refine wm_top (y := nI (wm_pw b (2 ^ s_) i)) (by rw [wm_pw, if_neg (by rintro ⟨-, h⟩; omega)]) ?_
                        refine wm_callv (wr := []) (As := [.int (nI (at_ + wm_l0 (2 ^ s_) i)), .int (nI ((at_ + wm_l0 (2 ^ s_) i) + (2 ^ s_))), .int (nI (wm_pw b (2 ^ s_) i))]) (rest := []) ⟨hx, hb, hml, hown, hts⟩ (mx_butterfly l D a k H.size n m rd t p w3 d g (at_ + wm_l0 (2 ^ s_) i) (at_ + wm_l0 (2 ^ s_) i + 2 ^ s_) (wm_pw b (2 ^ s_) i) (by omega) (by omega) (wm_pw_ltb b hs6 hk) h_w3) (cwV 3 hts (lw_V q107 q109 qs7 q14 q110) rfl rfl rfl (by decide +kernel) ⟨Nat.le_of_ble_eq_true rfl, Nat.le_of_ble_eq_true rfl⟩) (va_recv hK hP (ci := 0) (q0 := 0) rfl rfl) hK hP hD hS hA [0, 1, 2, 3, 4, 5, 6] [] [0, 1, 2, 3, 4, 5] rfl rfl rfl (by decide) (by decide) (by decide) rfl rfl hl.1 rfl (Nat.le_of_ble_eq_true rfl) dX0_transform_142 ⟨Nat.zero_le _, Nat.zero_le _⟩ (fun u H locs hq hP hD hS => ?_)
                        have hP : va_P D wm_cl (wm_x a k n m rd t p (wm_bf w3 (at_ + wm_l0 (2 ^ s_) i) (at_ + wm_l0 (2 ^ s_) i + 2 ^ s_) (wm_rt (wm_pw b (2 ^ s_) i))) d g) H := hP
                        have hD : va_D A (wm_x a k n m rd t p (wm_bf w3 (at_ + wm_l0 (2 ^ s_) i) (at_ + wm_l0 (2 ^ s_) i + 2 ^ s_) (wm_rt (wm_pw b (2 ^ s_) i))) d g) := hD
                        have e : wm_it (wm_st at_ b (2 ^ s_)) (i + 1) w2 = wm_bf w3 (at_ + wm_l0 (2 ^ s_) i) (at_ + wm_l0 (2 ^ s_) i + 2 ^ s_) (wm_rt (wm_pw b (2 ^ s_) i)) := by rw [wm_it_s, wm_st_e, ← e_w3]
                        rw [← e] at hP hD
                        refine lv_iinc (v := nI (i + 1)) (lv' := [(4, .int (nI (i + 1))), (7, .int (nI ((i % (2 ^ s_)) * (32 / (2 ^ s_))))), (6, .int (nI (at_ + wm_l0 (2 ^ s_) i))), (5, .int (nI (i % (2 ^ s_)))), (0, .ref (a 0)), (1, .int (nI at_)), (2, .int z), (3, .int (nI (2 ^ s_)))]) hx hb dX0_transform_145 hl (k := 7) rfl (wm_inc i) (by decide) rfl (fun ls hl => ?_)
                        refine lv_goto (tgt := 79) hx hb dX0_transform_148 (by decide) ?_
                        exact ih2 (i + 1) (by omega) _ _ _ hP hD hS (lv_sub hl [4, 5, 6, 7, 0] rfl)
                      · skip
                        refine lv_bipush (v := nI 64) hx hb dX0_transform_132 (by decide +kernel) ?_
                        refine lv_iload hx hb dX0_transform_134 (lv_at hl 0 rfl) ?_
                        refine wm_isub hx hb dX0_transform_136 (by omega) ?_
                        refine lv_goto (tgt := 142) hx hb dX0_transform_137 (by decide) ?_
                        refine wm_top (y := nI (wm_pw b (2 ^ s_) i)) (by rw [wm_pw, if_pos ⟨hb1, hp0⟩]) ?_
                        refine wm_callv (wr := []) (As := [.int (nI (at_ + wm_l0 (2 ^ s_) i)), .int (nI ((at_ + wm_l0 (2 ^ s_) i) + (2 ^ s_))), .int (nI (wm_pw b (2 ^ s_) i))]) (rest := []) ⟨hx, hb, hml, hown, hts⟩ (mx_butterfly l D a k H.size n m rd t p w3 d g (at_ + wm_l0 (2 ^ s_) i) (at_ + wm_l0 (2 ^ s_) i + 2 ^ s_) (wm_pw b (2 ^ s_) i) (by omega) (by omega) (wm_pw_ltb b hs6 hk) h_w3) (cwV 3 hts (lw_V q107 q109 qs7 q14 q110) rfl rfl rfl (by decide +kernel) ⟨Nat.le_of_ble_eq_true rfl, Nat.le_of_ble_eq_true rfl⟩) (va_recv hK hP (ci := 0) (q0 := 0) rfl rfl) hK hP hD hS hA [0, 1, 2, 3, 4, 5, 6] [] [0, 1, 2, 3, 4, 5] rfl rfl rfl (by decide) (by decide) (by decide) rfl rfl hl.1 rfl (Nat.le_of_ble_eq_true rfl) dX0_transform_142 ⟨Nat.zero_le _, Nat.zero_le _⟩ (fun u H locs hq hP hD hS => ?_)
                        have hP : va_P D wm_cl (wm_x a k n m rd t p (wm_bf w3 (at_ + wm_l0 (2 ^ s_) i) (at_ + wm_l0 (2 ^ s_) i + 2 ^ s_) (wm_rt (wm_pw b (2 ^ s_) i))) d g) H := hP
                        have hD : va_D A (wm_x a k n m rd t p (wm_bf w3 (at_ + wm_l0 (2 ^ s_) i) (at_ + wm_l0 (2 ^ s_) i + 2 ^ s_) (wm_rt (wm_pw b (2 ^ s_) i))) d g) := hD
                        have e : wm_it (wm_st at_ b (2 ^ s_)) (i + 1) w2 = wm_bf w3 (at_ + wm_l0 (2 ^ s_) i) (at_ + wm_l0 (2 ^ s_) i + 2 ^ s_) (wm_rt (wm_pw b (2 ^ s_) i)) := by rw [wm_it_s, wm_st_e, ← e_w3]
                        rw [← e] at hP hD
                        refine lv_iinc (v := nI (i + 1)) (lv' := [(4, .int (nI (i + 1))), (7, .int (nI ((i % (2 ^ s_)) * (32 / (2 ^ s_))))), (6, .int (nI (at_ + wm_l0 (2 ^ s_) i))), (5, .int (nI (i % (2 ^ s_)))), (0, .ref (a 0)), (1, .int (nI at_)), (2, .int z), (3, .int (nI (2 ^ s_)))]) hx hb dX0_transform_145 hl (k := 7) rfl (wm_inc i) (by decide) rfl (fun ls hl => ?_)
                        refine lv_goto (tgt := 79) hx hb dX0_transform_148 (by decide) ?_
                        exact ih2 (i + 1) (by omega) _ _ _ hP hD hS (lv_sub hl [4, 5, 6, 7, 0] rfl)
              exact loop2 32 0 rfl _ _ _ hP hD hS (lv_sub hl [1, 2, 3, 4, 0] rfl)
        exact loopS 6 0 rfl _ _ _ hP hD hS (lv_sub hl [1, 2, 3, 0] rfl)
      · omega
    | succ r ih =>
      intro i hi
      intro H locs ls hP hD hS hl
      have hrv := wm_rev_lt i
      refine lv_iload_n hx hb dX0_transform_2 rfl (lv_at hl 3 rfl) ?_
      refine lv_bipush (v := nI 64) hx hb dX0_transform_3 (by decide +kernel) ?_
      refine wm_cge (tgt := 68) hx hb dX0_transform_5 (by decide) (by omega) (by omega) (fun hc => ?_) (fun hc => ?_)
      · omega
      · skip
        refine lv_aload_n hx hb dX0_transform_8 rfl (lv_at hl 0 rfl) ?_
        refine lv_iload_n hx hb dX0_transform_9 rfl (lv_at hl 3 rfl) ?_
        obtain ⟨w0, e_w0⟩ : ∃ z_, z_ = wm_it (wm_sw at_) i w := ⟨_, rfl⟩
        rw [← e_w0] at hP hD
        have h_w0 : ∀ x, w0 x < 7681 := by rw [e_w0]; exact wm_sw_lt at_ hw i
        refine wm_calli (wr := []) (As := [.int (nI i)]) (rest := []) ⟨hx, hb, hml, hown, hts⟩ (mx_turnedBits l D a k H.size n m rd t p w0 d g i (by omega)) (cwV 1 hts (lw_V q103 q105 qs6 q14 q106) rfl rfl rfl (by decide +kernel) ⟨Nat.le_of_ble_eq_true rfl, Nat.le_of_ble_eq_true rfl⟩) (va_recv hK hP (ci := 0) (q0 := 0) rfl rfl) hK hP hD hS hA [0, 1, 2, 3, 4, 5, 6] [] [0, 1, 2, 3, 4, 5] rfl rfl rfl (by decide) (by decide) (by decide) rfl rfl hl.1 rfl (Nat.le_of_ble_eq_true rfl) dX0_transform_10 ⟨Nat.zero_le _, Nat.zero_le _⟩ (fun r_ u H locs hq hP hD hS => ?_)
        subst hq
        have hP : va_P D wm_cl (wm_x a k n m rd t p w0 d g) H := hP
        have hD : va_D A (wm_x a k n m rd t p w0 d g) := hD
        refine lv_istore (lv' := [(4, .int (nI (wm_rev i))), (0, .ref (a 0)), (1, .int (nI at_)), (2, .int z), (3, .int (nI i))]) hx hb dX0_transform_13 hl (by decide) rfl (fun ls hl => ?_)
        refine lv_iload hx hb dX0_transform_15 (lv_at hl 0 rfl) ?_
        refine lv_iload_n hx hb dX0_transform_17 rfl (lv_at hl 4 rfl) ?_
        refine wm_cgt (tgt := 24) hx hb dX0_transform_18 (by decide) (by omega) (by omega) (fun hd => ?_) (fun hd => ?_)
        · skip
          refine lv_aload_n hx hb dX0_transform_24 rfl (lv_at hl 1 rfl) ?_
          refine va_get (D := D) (ci := 0) (v := .ref (a 4)) (C := RX0) (T := TX0) (N := 9) hx hb hts in_X0 hown hK hP 0 rfl rfl 5 (by decide) (hts _ q29) (fun _ h9 => h9) rfl dX0_transform_25 ?_
          refine lv_iload_n hx hb dX0_transform_28 rfl (lv_at hl 2 rfl) ?_
          refine lv_iload_n hx hb dX0_transform_29 rfl (lv_at hl 4 rfl) ?_
          refine wm_iadd hx hb dX0_transform_30 ?_
          refine wm_iald hx hb hK hP 4 3 rfl rfl (by decide) (by omega) dX0_transform_31 ?_
          refine lv_istore (lv' := [(5, .int (nI (w0 (at_ + i)))), (4, .int (nI (wm_rev i))), (0, .ref (a 0)), (1, .int (nI at_)), (2, .int z), (3, .int (nI i))]) hx hb dX0_transform_32 hl (by decide) rfl (fun ls hl => ?_)
          refine lv_aload_n hx hb dX0_transform_34 rfl (lv_at hl 2 rfl) ?_
          refine va_get (D := D) (ci := 0) (v := .ref (a 4)) (C := RX0) (T := TX0) (N := 9) hx hb hts in_X0 hown hK hP 0 rfl rfl 5 (by decide) (hts _ q29) (fun _ h9 => h9) rfl dX0_transform_35 ?_
          refine lv_iload_n hx hb dX0_transform_38 rfl (lv_at hl 3 rfl) ?_
          refine lv_iload_n hx hb dX0_transform_39 rfl (lv_at hl 5 rfl) ?_
          refine wm_iadd hx hb dX0_transform_40 ?_
          refine lv_aload_n hx hb dX0_transform_41 rfl (lv_at hl 2 rfl) ?_
          refine va_get (D := D) (ci := 0) (v := .ref (a 4)) (C := RX0) (T := TX0) (N := 9) hx hb hts in_X0 hown hK hP 0 rfl rfl 5 (by decide) (hts _ q29) (fun _ h9 => h9) rfl dX0_transform_42 ?_
          refine lv_iload_n hx hb dX0_transform_45 rfl (lv_at hl 3 rfl) ?_
          refine lv_iload hx hb dX0_transform_46 (lv_at hl 1 rfl) ?_
          refine wm_iadd hx hb dX0_transform_48 ?_
          refine wm_iald hx hb hK hP 4 3 rfl rfl (by decide) (by omega) dX0_transform_49 ?_
          refine wm_iast hx hb hK hP hD hS 4 3 rfl rfl (by decide) (by omega) dX0_transform_50 (fun H locs hP hD hS => ?_)
          have hP : va_P D wm_cl (wm_x a k n m rd t p (wm_un w0 (at_ + i) (w0 (at_ + (wm_rev i)))) d g) H := hP
          have hD : va_D A (wm_x a k n m rd t p (wm_un w0 (at_ + i) (w0 (at_ + (wm_rev i)))) d g) := hD
          refine lv_aload_n hx hb dX0_transform_51 rfl (lv_at hl 2 rfl) ?_
          refine va_get (D := D) (ci := 0) (v := .ref (a 4)) (C := RX0) (T := TX0) (N := 9) hx hb hts in_X0 hown hK hP 0 rfl rfl 5 (by decide) (hts _ q29) (fun _ h9 => h9) rfl dX0_transform_52 ?_
          refine lv_iload_n hx hb dX0_transform_55 rfl (lv_at hl 3 rfl) ?_
          refine lv_iload hx hb dX0_transform_56 (lv_at hl 1 rfl) ?_
          refine wm_iadd hx hb dX0_transform_58 ?_
          refine lv_iload hx hb dX0_transform_59 (lv_at hl 0 rfl) ?_
          refine wm_iast hx hb hK hP hD hS 4 3 rfl rfl (by decide) (by omega) dX0_transform_61 (fun H locs hP hD hS => ?_)
          have hP : va_P D wm_cl (wm_x a k n m rd t p (wm_un (wm_un w0 (at_ + i) (w0 (at_ + (wm_rev i)))) (at_ + (wm_rev i)) (w0 (at_ + i))) d g) H := hP
          have hD : va_D A (wm_x a k n m rd t p (wm_un (wm_un w0 (at_ + i) (w0 (at_ + (wm_rev i)))) (at_ + (wm_rev i)) (w0 (at_ + i))) d g) := hD
          have e : wm_it (wm_sw at_) (i + 1) w = wm_un (wm_un w0 (at_ + i) (w0 (at_ + (wm_rev i)))) (at_ + (wm_rev i)) (w0 (at_ + i)) := by rw [wm_it_s, ← e_w0, wm_sw, if_pos hd]
          rw [← e] at hP hD
          refine lv_iinc (v := nI (i + 1)) (lv' := [(3, .int (nI (i + 1))), (5, .int (nI (w0 (at_ + i)))), (4, .int (nI (wm_rev i))), (0, .ref (a 0)), (1, .int (nI at_)), (2, .int z)]) hx hb dX0_transform_62 hl (k := 5) rfl (wm_inc i) (by decide) rfl (fun ls hl => ?_)
          refine lv_goto (tgt := 2) hx hb dX0_transform_65 (by decide) ?_
          exact ih (i + 1) (by omega) _ _ _ hP hD hS (lv_sub hl [3, 4, 5, 0] rfl)
        · skip
          have e : wm_it (wm_sw at_) (i + 1) w = w0 := by rw [wm_it_s, ← e_w0, wm_sw, if_neg (Nat.not_lt.mpr hd)]
          rw [← e] at hP hD
          refine lv_goto (tgt := 62) hx hb dX0_transform_21 (by decide) ?_
          refine lv_iinc (v := nI (i + 1)) (lv' := [(3, .int (nI (i + 1))), (4, .int (nI (wm_rev i))), (0, .ref (a 0)), (1, .int (nI at_)), (2, .int z)]) hx hb dX0_transform_62 hl (k := 4) rfl (wm_inc i) (by decide) rfl (fun ls hl => ?_)
          refine lv_goto (tgt := 2) hx hb dX0_transform_65 (by decide) ?_
          exact ih (i + 1) (by omega) _ _ _ hP hD hS (lv_sub hl [2, 3, 4, 0] rfl)
  exact loop 64 0 rfl _ _ _ hP hD hS (lv_sub hl [1, 2, 3, 0] rfl)
end
section
set_option maxHeartbeats 4000000 in
set_option maxRecDepth 100000 in
/-- addProduct -/
theorem mx_addProduct (l : Launch) (D : va_G) (a : Nat → Nat) (k : Nat → ClassId) (sz n m rd : Nat) (t p w d g : Nat → Nat) (ph th : Int32) (f : Nat) (hab : wm_ab n m t p) (hm0 : 0 < m) (hmn : m ≤ n) (hph : ph ≤ 3) (hth : th ≤ 3) (hf : f < 7681) (hw : ∀ x, w x < 7681) : Met l yX0_addProduct (ws_ yX0_addProduct cX0_addProduct 6 none) ({ frames := 2, cells := 0, slots := 0, locals := 52 } : Room) (va_Pc [.ref (a 0), .int ph, .int th, .int (nI f)] (wm_pre D wm_cl (wm_xt k) (wm_x a k n m rd t p w d g) sz)) (va_Qv (fun u : Unit => True) (fun u => wm_is D wm_cl (wm_xt k) (va_A (wm_x a k n m rd t p w d g) sz) (wm_x a k n m rd t p (wm_ap n m t p ph th f w) d g)) (va_A (wm_x a k n m rd t p w d g) sz)) 0 0 (va_A (wm_x a k n m rd t p w d g) sz) := by
  refine Met.ofW (cc := cX0_addProduct) (maxL := 6) (ret := none) (by decide) rfl ?_
  intro P0 e0 s M0 av bl mt cd s1 B hml hv
  obtain ⟨rfl, hsz, hP, hK, hD0⟩ := hv
  have hx := B.exec
  have hb := B.bytes
  have hr := B.returns
  have hts := atoms_spec (ws := (ws_ yX0_addProduct cX0_addProduct 6 none)) B.pre
  have hts : ∀ w ∈ lw_all, w.before _ s = true := fun w h => hts w (List.mem_cons_of_mem _ h)
  have hown : s.vm.findClass RX0 = some M0.cls := findClass_of_methodNamed B.named
  have hlocks := B.notSynchronized
  subst hsz
  have hD := hD0.self (sz := s.heap.size)
  generalize hAe : va_A (wm_x a k n m rd t p w d g) s.heap.size = A at hD ⊢
  have hA : ∀ q : Nat, s.heap.size ≤ q → A q := fun q h => by rw [← hAe]; exact Or.inr h
  have hS : va_S A s.heap s.heap [] := va_S.rf
  have hP : va_P D wm_cl (wm_x a k n m rd t p w d g) s.heap := hP
  have hl := lv_entry ([.ref (a 0), .int ph, .int th, .int (nI f)]) (n := 6) (Nat.le_of_ble_eq_true rfl)
  rw [lg_entry_eq]
  generalize (lg_sl ([.ref (a 0), .int ph, .int th, .int (nI f)]) ++ List.replicate (6 - (lg_sl ([.ref (a 0), .int ph, .int th, .int (nI f)])).length) Slot.unset).toArray = ls at hl ⊢
  have hl : lv_has ls 6 [(0, .ref (a 0)), (1, .int ph), (2, .int th), (3, .int (nI f))] := hl
  obtain ⟨hn40, hm12, ht5, hp5⟩ := hab
  have hab : wm_ab n m t p := ⟨hn40, hm12, ht5, hp5⟩
  refine lv_iconst (v := nI 0) hx hb dX0_addProduct_0 (by decide +kernel) ?_
  refine lv_istore (lv' := [(4, .int (nI 0)), (0, .ref (a 0)), (1, .int ph), (2, .int th), (3, .int (nI f))]) hx hb dX0_addProduct_1 hl (by decide) rfl (fun ls hl => ?_)
  have loop1 : ∀ (r i : Nat), i + r = 64 → ∀ (H : Heap) (locs : List Loc) (ls : Array Slot), va_P D wm_cl (wm_x a k n m rd t p (wm_it wm_c2 i w) d g) H → va_D A (wm_x a k n m rd t p (wm_it wm_c2 i w) d g) → va_S A s.heap H locs → lv_has ls 6 [(0, .ref (a 0)), (1, .int ph), (2, .int th), (3, .int (nI f)), (4, .int (nI i))] → W P0 l e0 (headSpec (ws_ yX0_addProduct cX0_addProduct 6 none) ({ frames := 2, cells := 0, slots := 0, locals := 52 } : Room)).room s M0 ([.ref (a 0), .int ph, .int th, .int (nI f)] : List Value).toArray bl mt cd H locs 0 0 (MQ bl (va_Qv (fun u : Unit => True) (fun u => wm_is D wm_cl (wm_xt k) A (wm_x a k n m rd t p (wm_ap n m t p ph th f w) d g)) A) ([.ref (a 0), .int ph, .int th, .int (nI f)] : List Value).toArray s 0 0 A) (F0 M0 3 ls []) := by
    intro r
    induction r with
    | zero =>
      intro i hi
      intro H locs ls hP hD hS hl
      refine lv_iload hx hb dX0_addProduct_3 (lv_at hl 4 rfl) ?_
      refine lv_bipush (v := nI 64) hx hb dX0_addProduct_5 (by decide +kernel) ?_
      refine wm_cge (tgt := 37) hx hb dX0_addProduct_7 (by decide) (by omega) (by omega) (fun hc => ?_) (fun hc => ?_)
      · skip
        obtain rfl : i = 64 := by omega
        have hl := lv_sub (l' := [(0, .ref (a 0)), (1, .int ph), (2, .int th), (3, .int (nI f))]) hl [0, 1, 2, 3] rfl
        obtain ⟨wa, e_wa⟩ : ∃ z_, z_ = wm_it wm_c2 64 w := ⟨_, rfl⟩
        rw [← e_wa] at hP hD
        have h_wa : ∀ x, wa x < 7681 := by rw [e_wa]; exact wm_c2_lt hw 64
        refine lv_iconst (v := nI 0) hx hb dX0_addProduct_37 (by decide +kernel) ?_
        refine lv_istore (lv' := [(4, .int (nI 0)), (0, .ref (a 0)), (1, .int ph), (2, .int th), (3, .int (nI f))]) hx hb dX0_addProduct_38 hl (by decide) rfl (fun ls hl => ?_)
        have loop2 : ∀ (r i : Nat), i + r = m → ∀ (H : Heap) (locs : List Loc) (ls : Array Slot), va_P D wm_cl (wm_x a k n m rd t p (wm_it (wm_lp m p ph) i wa) d g) H → va_D A (wm_x a k n m rd t p (wm_it (wm_lp m p ph) i wa) d g) → va_S A s.heap H locs → lv_has ls 6 [(0, .ref (a 0)), (1, .int ph), (2, .int th), (3, .int (nI f)), (4, .int (nI i))] → W P0 l e0 (headSpec (ws_ yX0_addProduct cX0_addProduct 6 none) ({ frames := 2, cells := 0, slots := 0, locals := 52 } : Room)).room s M0 ([.ref (a 0), .int ph, .int th, .int (nI f)] : List Value).toArray bl mt cd H locs 0 0 (MQ bl (va_Qv (fun u : Unit => True) (fun u => wm_is D wm_cl (wm_xt k) A (wm_x a k n m rd t p (wm_ap n m t p ph th f w) d g)) A) ([.ref (a 0), .int ph, .int th, .int (nI f)] : List Value).toArray s 0 0 A) (F0 M0 40 ls []) := by
          intro r
          induction r with
          | zero =>
            intro i hi
            intro H locs ls hP hD hS hl
            refine lv_iload hx hb dX0_addProduct_40 (lv_at hl 4 rfl) ?_
            refine lv_aload_n hx hb dX0_addProduct_42 rfl (lv_at hl 0 rfl) ?_
            refine va_get (D := D) (ci := 0) (v := .int (nI m)) (C := RX0) (T := TX0) (N := 9) hx hb hts in_X0 hown hK hP 0 rfl rfl 1 (by decide) (hts _ q25) (fun _ h9 => h9) rfl dX0_addProduct_43 ?_
            refine wm_cge (tgt := 84) hx hb dX0_addProduct_46 (by decide) (by omega) (by omega) (fun hc => ?_) (fun hc => ?_)
            · skip
              have him : i = m := by omega
              rw [him] at hP hD
              have hP : va_P D wm_cl (wm_x a k n m rd t p (wm_it (wm_lp m p ph) m wa) d g) H := hP
              have hD : va_D A (wm_x a k n m rd t p (wm_it (wm_lp m p ph) m wa) d g) := hD
              have hl := lv_sub (l' := [(0, .ref (a 0)), (1, .int ph), (2, .int th), (3, .int (nI f))]) hl [0, 1, 2, 3] rfl
              refine lv_iconst (v := nI 0) hx hb dX0_addProduct_84 (by decide +kernel) ?_
              refine lv_istore (lv' := [(4, .int (nI 0)), (0, .ref (a 0)), (1, .int ph), (2, .int th), (3, .int (nI f))]) hx hb dX0_addProduct_85 hl (by decide) rfl (fun ls hl => ?_)
              obtain ⟨wb, e_wb⟩ : ∃ z_, z_ = wm_it (wm_lp m p ph) m wa := ⟨_, rfl⟩
              rw [← e_wb] at hP hD
              have h_wb : ∀ x, wb x < 7681 := by rw [e_wb]; exact wm_lp_lt hab hph h_wa m
              have loop3 : ∀ (r i : Nat), i + r = n + m - 1 → ∀ (H : Heap) (locs : List Loc) (ls : Array Slot), va_P D wm_cl (wm_x a k n m rd t p (wm_it (wm_lt n t th) i wb) d g) H → va_D A (wm_x a k n m rd t p (wm_it (wm_lt n t th) i wb) d g) → va_S A s.heap H locs → lv_has ls 6 [(0, .ref (a 0)), (1, .int ph), (2, .int th), (3, .int (nI f)), (4, .int (nI i))] → W P0 l e0 (headSpec (ws_ yX0_addProduct cX0_addProduct 6 none) ({ frames := 2, cells := 0, slots := 0, locals := 52 } : Room)).room s M0 ([.ref (a 0), .int ph, .int th, .int (nI f)] : List Value).toArray bl mt cd H locs 0 0 (MQ bl (va_Qv (fun u : Unit => True) (fun u => wm_is D wm_cl (wm_xt k) A (wm_x a k n m rd t p (wm_ap n m t p ph th f w) d g)) A) ([.ref (a 0), .int ph, .int th, .int (nI f)] : List Value).toArray s 0 0 A) (F0 M0 87 ls []) := by
                intro r
                induction r with
                | zero =>
                  intro i hi
                  intro H locs ls hP hD hS hl
                  refine lv_iload hx hb dX0_addProduct_87 (lv_at hl 4 rfl) ?_
                  refine lv_aload_n hx hb dX0_addProduct_89 rfl (lv_at hl 0 rfl) ?_
                  refine va_get (D := D) (ci := 0) (v := .int (nI n)) (C := RX0) (T := TX0) (N := 9) hx hb hts in_X0 hown hK hP 0 rfl rfl 0 (by decide) (hts _ q24) (fun _ h9 => h9) rfl dX0_addProduct_90 ?_
                  refine lv_aload_n hx hb dX0_addProduct_93 rfl (lv_at hl 0 rfl) ?_
                  refine va_get (D := D) (ci := 0) (v := .int (nI m)) (C := RX0) (T := TX0) (N := 9) hx hb hts in_X0 hown hK hP 0 rfl rfl 1 (by decide) (hts _ q25) (fun _ h9 => h9) rfl dX0_addProduct_94 ?_
                  refine wm_iadd hx hb dX0_addProduct_97 ?_
                  refine lv_iconst (v := nI 1) hx hb dX0_addProduct_98 (by decide +kernel) ?_
                  refine wm_isub hx hb dX0_addProduct_99 (by omega) ?_
                  refine wm_cge (tgt := 135) hx hb dX0_addProduct_100 (by decide) (by omega) (by omega) (fun hc => ?_) (fun hc => ?_)
                  · skip
                    obtain rfl : i = n + m - 1 := by omega
                    obtain ⟨wc, e_wc⟩ : ∃ z_, z_ = wm_it (wm_lt n t th) (n + m - 1) wb := ⟨_, rfl⟩
                    rw [← e_wc] at hP hD
                    have h_wc : ∀ x, wc x < 7681 := by rw [e_wc]; exact wm_lt_lt hab hth h_wb (n + m - 1)
                    have hl := lv_sub (l' := [(0, .ref (a 0)), (1, .int ph), (2, .int th), (3, .int (nI f))]) hl [0, 1, 2, 3] rfl
                    refine lv_aload_n hx hb dX0_addProduct_135 rfl (lv_at hl 0 rfl) ?_
                    refine lv_bipush (v := nI 64) hx hb dX0_addProduct_136 (by decide +kernel) ?_
                    refine lv_iconst (v := nI 0) hx hb dX0_addProduct_138 (by decide +kernel) ?_
                    refine wm_callv (wr := []) (As := [.int (nI 64), .int (nI 0)]) (rest := []) ⟨hx, hb, hml, hown, hts⟩ (mx_transform l D a k H.size n m rd t p wc d g 64 (nI 0) false (by decide) (by decide) h_wc) (cwV 2 hts (lw_V q99 q101 qs5 q14 q102) rfl rfl rfl (by decide +kernel) ⟨Nat.le_of_ble_eq_true rfl, Nat.le_of_ble_eq_true rfl⟩) (va_recv hK hP (ci := 0) (q0 := 0) rfl rfl) hK hP hD hS hA [0, 1, 2, 3, 4, 5, 6] [] [0, 1, 2, 3, 4, 5] rfl rfl rfl (by decide) (by decide) (by decide) rfl rfl hl.1 rfl (Nat.le_of_ble_eq_true rfl) dX0_addProduct_139 ⟨Nat.zero_le _, Nat.zero_le _⟩ (fun u H locs hq hP hD hS => ?_)
                    have hP : va_P D wm_cl (wm_x a k n m rd t p (wm_tr 64 false wc) d g) H := hP
                    have hD : va_D A (wm_x a k n m rd t p (wm_tr 64 false wc) d g) := hD
                    obtain ⟨wd, e_wd⟩ : ∃ z_, z_ = wm_tr 64 false wc := ⟨_, rfl⟩
                    rw [← e_wd] at hP hD
                    have h_wd : ∀ x, wd x < 7681 := by rw [e_wd]; exact wm_tr_lt 64 false h_wc
                    refine lv_aload_n hx hb dX0_addProduct_142 rfl (lv_at hl 0 rfl) ?_
                    refine lv_iconst (v := nI 0) hx hb dX0_addProduct_143 (by decide +kernel) ?_
                    refine lv_iconst (v := nI 0) hx hb dX0_addProduct_144 (by decide +kernel) ?_
                    refine wm_callv (wr := []) (As := [.int (nI 0), .int (nI 0)]) (rest := []) ⟨hx, hb, hml, hown, hts⟩ (mx_transform l D a k H.size n m rd t p wd d g 0 (nI 0) false (by decide) (by decide) h_wd) (cwV 2 hts (lw_V q99 q101 qs5 q14 q102) rfl rfl rfl (by decide +kernel) ⟨Nat.le_of_ble_eq_true rfl, Nat.le_of_ble_eq_true rfl⟩) (va_recv hK hP (ci := 0) (q0 := 0) rfl rfl) hK hP hD hS hA [0, 1, 2, 3, 4, 5, 6] [] [0, 1, 2, 3, 4, 5] rfl rfl rfl (by decide) (by decide) (by decide) rfl rfl hl.1 rfl (Nat.le_of_ble_eq_true rfl) dX0_addProduct_145 ⟨Nat.zero_le _, Nat.zero_le _⟩ (fun u H locs hq hP hD hS => ?_)
                    have hP : va_P D wm_cl (wm_x a k n m rd t p (wm_tr 0 false wd) d g) H := hP
                    have hD : va_D A (wm_x a k n m rd t p (wm_tr 0 false wd) d g) := hD
                    obtain ⟨we, e_we⟩ : ∃ z_, z_ = wm_tr 0 false wd := ⟨_, rfl⟩
                    rw [← e_we] at hP hD
                    have h_we : ∀ x, we x < 7681 := by rw [e_we]; exact wm_tr_lt 0 false h_wd
                    refine lv_iconst (v := nI 0) hx hb dX0_addProduct_148 (by decide +kernel) ?_
                    refine lv_istore (lv' := [(4, .int (nI 0)), (0, .ref (a 0)), (1, .int ph), (2, .int th), (3, .int (nI f))]) hx hb dX0_addProduct_149 hl (by decide) rfl (fun ls hl => ?_)
                    have loop4 : ∀ (r i : Nat), i + r = 64 → ∀ (H : Heap) (locs : List Loc) (ls : Array Slot), va_P D wm_cl (wm_x a k n m rd t p (wm_it (wm_ac f) i we) d g) H → va_D A (wm_x a k n m rd t p (wm_it (wm_ac f) i we) d g) → va_S A s.heap H locs → lv_has ls 6 [(0, .ref (a 0)), (1, .int ph), (2, .int th), (3, .int (nI f)), (4, .int (nI i))] → W P0 l e0 (headSpec (ws_ yX0_addProduct cX0_addProduct 6 none) ({ frames := 2, cells := 0, slots := 0, locals := 52 } : Room)).room s M0 ([.ref (a 0), .int ph, .int th, .int (nI f)] : List Value).toArray bl mt cd H locs 0 0 (MQ bl (va_Qv (fun u : Unit => True) (fun u => wm_is D wm_cl (wm_xt k) A (wm_x a k n m rd t p (wm_ap n m t p ph th f w) d g)) A) ([.ref (a 0), .int ph, .int th, .int (nI f)] : List Value).toArray s 0 0 A) (F0 M0 151 ls []) := by
                      intro r
                      induction r with
                      | zero =>
                        intro i hi
                        intro H locs ls hP hD hS hl
                        refine lv_iload hx hb dX0_addProduct_151 (lv_at hl 4 rfl) ?_
                        refine lv_bipush (v := nI 64) hx hb dX0_addProduct_153 (by decide +kernel) ?_
                        refine wm_cge (tgt := 225) hx hb dX0_addProduct_155 (by decide) (by omega) (by omega) (fun hc => ?_) (fun hc => ?_)
                        · skip
                          obtain rfl : i = 64 := by omega
                          have e : wm_ap n m t p ph th f w = wm_it (wm_ac f) 64 we := by rw [e_we, e_wd, e_wc, e_wb, e_wa, wm_ap]
                          rw [← e] at hP hD
                          exact W.vret hx hb hr (fun T0 hT0 hW0 => ⟨⟨(), rfl, trivial, by rw [hT0]; exact hP, va_K.moved hW0.alike hK, hD⟩, hS.F hT0⟩) hS.2.2 dX0_addProduct_225
                        · omega
                      | succ r ih =>
                        intro i hi
                        intro H locs ls hP hD hS hl
                        refine lv_iload hx hb dX0_addProduct_151 (lv_at hl 4 rfl) ?_
                        refine lv_bipush (v := nI 64) hx hb dX0_addProduct_153 (by decide +kernel) ?_
                        refine wm_cge (tgt := 225) hx hb dX0_addProduct_155 (by decide) (by omega) (by omega) (fun hc => ?_) (fun hc => ?_)
                        · omega
                        · skip
                          obtain ⟨wi, e_wi⟩ : ∃ z_, z_ = wm_it (wm_ac f) i we := ⟨_, rfl⟩
                          rw [← e_wi] at hP hD
                          have h_wi : ∀ x, wi x < 7681 := by rw [e_wi]; exact wm_ac_lt f h_we i
                          refine lv_aload_n hx hb dX0_addProduct_158 rfl (lv_at hl 0 rfl) ?_
                          refine va_get (D := D) (ci := 0) (v := .ref (a 4)) (C := RX0) (T := TX0) (N := 9) hx hb hts in_X0 hown hK hP 0 rfl rfl 5 (by decide) (hts _ q29) (fun _ h9 => h9) rfl dX0_addProduct_159 ?_
                          refine lv_bipush (v := nI 64) hx hb dX0_addProduct_162 (by decide +kernel) ?_
                          refine lv_iload hx hb dX0_addProduct_164 (lv_at hl 4 rfl) ?_
                          refine wm_iadd hx hb dX0_addProduct_166 ?_
                          refine wm_iald hx hb hK hP 4 3 rfl rfl (by decide) (by omega) dX0_addProduct_167 ?_
                          refine lv_aload_n hx hb dX0_addProduct_168 rfl (lv_at hl 0 rfl) ?_
                          refine va_get (D := D) (ci := 0) (v := .ref (a 4)) (C := RX0) (T := TX0) (N := 9) hx hb hts in_X0 hown hK hP 0 rfl rfl 5 (by decide) (hts _ q29) (fun _ h9 => h9) rfl dX0_addProduct_169 ?_
                          refine lv_iconst (v := nI 0) hx hb dX0_addProduct_172 (by decide +kernel) ?_
                          refine lv_iload hx hb dX0_addProduct_173 (lv_at hl 4 rfl) ?_
                          refine wm_iadd hx hb dX0_addProduct_175 ?_
                          refine wm_iald hx hb hK hP 4 3 rfl rfl (by decide) (by omega) dX0_addProduct_176 ?_
                          refine wm_imul hx hb dX0_addProduct_177 ?_
                          refine lv_sipush (v := nI 7681) hx hb dX0_addProduct_178 (by decide +kernel) ?_
                          refine wm_irem hx hb dX0_addProduct_181 (wm_mb (h_wi _) (h_wi _)) (by decide) (by decide) ?_
                          refine lv_iload_n hx hb dX0_addProduct_182 rfl (lv_at hl 3 rfl) ?_
                          refine wm_imul hx hb dX0_addProduct_183 ?_
                          refine lv_sipush (v := nI 7681) hx hb dX0_addProduct_184 (by decide +kernel) ?_
                          refine wm_irem hx hb dX0_addProduct_187 (wm_mb (wm_md _) hf) (by decide) (by decide) ?_
                          refine lv_istore (lv' := [(5, .int (nI (((((wi (64 + i)) * (wi (0 + i))) % 7681) * f) % 7681))), (0, .ref (a 0)), (1, .int ph), (2, .int th), (3, .int (nI f)), (4, .int (nI i))]) hx hb dX0_addProduct_188 hl (by decide) rfl (fun ls hl => ?_)
                          refine lv_aload_n hx hb dX0_addProduct_190 rfl (lv_at hl 1 rfl) ?_
                          refine va_get (D := D) (ci := 0) (v := .ref (a 4)) (C := RX0) (T := TX0) (N := 9) hx hb hts in_X0 hown hK hP 0 rfl rfl 5 (by decide) (hts _ q29) (fun _ h9 => h9) rfl dX0_addProduct_191 ?_
                          refine lv_sipush (v := nI 128) hx hb dX0_addProduct_194 (by decide +kernel) ?_
                          refine lv_iload hx hb dX0_addProduct_197 (lv_at hl 5 rfl) ?_
                          refine wm_iadd hx hb dX0_addProduct_199 ?_
                          refine lv_aload_n hx hb dX0_addProduct_200 rfl (lv_at hl 1 rfl) ?_
                          refine va_get (D := D) (ci := 0) (v := .ref (a 4)) (C := RX0) (T := TX0) (N := 9) hx hb hts in_X0 hown hK hP 0 rfl rfl 5 (by decide) (hts _ q29) (fun _ h9 => h9) rfl dX0_addProduct_201 ?_
                          refine lv_sipush (v := nI 128) hx hb dX0_addProduct_204 (by decide +kernel) ?_
                          refine lv_iload hx hb dX0_addProduct_207 (lv_at hl 5 rfl) ?_
                          refine wm_iadd hx hb dX0_addProduct_209 ?_
                          refine wm_iald hx hb hK hP 4 3 rfl rfl (by decide) (by omega) dX0_addProduct_210 ?_
                          refine lv_iload hx hb dX0_addProduct_211 (lv_at hl 0 rfl) ?_
                          refine wm_iadd hx hb dX0_addProduct_213 ?_
                          refine lv_sipush (v := nI 7681) hx hb dX0_addProduct_214 (by decide +kernel) ?_
                          refine wm_irem hx hb dX0_addProduct_217 (by have h1 := h_wi (128 + i); have h2 := wm_md (wi (64 + i) * wi (0 + i) % 7681 * f); omega) (by decide) (by decide) ?_
                          refine wm_iast hx hb hK hP hD hS 4 3 rfl rfl (by decide) (by omega) dX0_addProduct_218 (fun H locs hP hD hS => ?_)
                          have hP : va_P D wm_cl (wm_x a k n m rd t p (wm_un wi (128 + i) (((wi (128 + i)) + (((((wi (64 + i)) * (wi (0 + i))) % 7681) * f) % 7681)) % 7681)) d g) H := hP
                          have hD : va_D A (wm_x a k n m rd t p (wm_un wi (128 + i) (((wi (128 + i)) + (((((wi (64 + i)) * (wi (0 + i))) % 7681) * f) % 7681)) % 7681)) d g) := hD
                          have e : wm_it (wm_ac f) (i + 1) we = wm_un wi (128 + i) (((wi (128 + i)) + (((((wi (64 + i)) * (wi (0 + i))) % 7681) * f) % 7681)) % 7681) := by rw [wm_it_s, ← e_wi, wm_ac]
                          rw [← e] at hP hD
                          have hl := lv_sub (l' := [(0, .ref (a 0)), (1, .int ph), (2, .int th), (3, .int (nI f)), (4, .int (nI i))]) hl [1, 2, 3, 4, 5] rfl
                          refine lv_iinc (v := nI (i + 1)) (lv' := [(4, .int (nI (i + 1))), (0, .ref (a 0)), (1, .int ph), (2, .int th), (3, .int (nI f))]) hx hb dX0_addProduct_219 hl (k := 4) rfl (wm_inc i) (by decide) rfl (fun ls hl => ?_)
                          refine lv_goto (tgt := 151) hx hb dX0_addProduct_222 (by decide) ?_
                          exact ih (i + 1) (by omega) _ _ _ hP hD hS (lv_sub hl [1, 2, 3, 4, 0] rfl)
                    exact loop4 64 0 rfl _ _ _ hP hD hS (lv_sub hl [1, 2, 3, 4, 0] rfl)
                  · omega
                | succ r ih =>
                  intro i hi
                  intro H locs ls hP hD hS hl
                  have hin : i % n < n := Nat.mod_lt _ (by omega)
                  refine lv_iload hx hb dX0_addProduct_87 (lv_at hl 4 rfl) ?_
                  refine lv_aload_n hx hb dX0_addProduct_89 rfl (lv_at hl 0 rfl) ?_
                  refine va_get (D := D) (ci := 0) (v := .int (nI n)) (C := RX0) (T := TX0) (N := 9) hx hb hts in_X0 hown hK hP 0 rfl rfl 0 (by decide) (hts _ q24) (fun _ h9 => h9) rfl dX0_addProduct_90 ?_
                  refine lv_aload_n hx hb dX0_addProduct_93 rfl (lv_at hl 0 rfl) ?_
                  refine va_get (D := D) (ci := 0) (v := .int (nI m)) (C := RX0) (T := TX0) (N := 9) hx hb hts in_X0 hown hK hP 0 rfl rfl 1 (by decide) (hts _ q25) (fun _ h9 => h9) rfl dX0_addProduct_94 ?_
                  refine wm_iadd hx hb dX0_addProduct_97 ?_
                  refine lv_iconst (v := nI 1) hx hb dX0_addProduct_98 (by decide +kernel) ?_
                  refine wm_isub hx hb dX0_addProduct_99 (by omega) ?_
                  refine wm_cge (tgt := 135) hx hb dX0_addProduct_100 (by decide) (by omega) (by omega) (fun hc => ?_) (fun hc => ?_)
                  · omega
                  · skip
                    refine lv_aload_n hx hb dX0_addProduct_103 rfl (lv_at hl 0 rfl) ?_
                    refine va_get (D := D) (ci := 0) (v := .ref (a 4)) (C := RX0) (T := TX0) (N := 9) hx hb hts in_X0 hown hK hP 0 rfl rfl 5 (by decide) (hts _ q29) (fun _ h9 => h9) rfl dX0_addProduct_104 ?_
                    refine lv_iconst (v := nI 0) hx hb dX0_addProduct_107 (by decide +kernel) ?_
                    refine lv_iload hx hb dX0_addProduct_108 (lv_at hl 4 rfl) ?_
                    refine wm_iadd hx hb dX0_addProduct_110 ?_
                    refine lv_aload_n hx hb dX0_addProduct_111 rfl (lv_at hl 0 rfl) ?_
                    refine lv_aload_n hx hb dX0_addProduct_112 rfl (lv_at hl 0 rfl) ?_
                    refine va_get (D := D) (ci := 0) (v := .ref (a 1)) (C := RX0) (T := TX0) (N := 9) hx hb hts in_X0 hown hK hP 0 rfl rfl 2 (by decide) (hts _ q26) (fun _ h9 => h9) rfl dX0_addProduct_113 ?_
                    refine lv_iload hx hb dX0_addProduct_116 (lv_at hl 4 rfl) ?_
                    refine lv_aload_n hx hb dX0_addProduct_118 rfl (lv_at hl 0 rfl) ?_
                    refine va_get (D := D) (ci := 0) (v := .int (nI n)) (C := RX0) (T := TX0) (N := 9) hx hb hts in_X0 hown hK hP 0 rfl rfl 0 (by decide) (hts _ q24) (fun _ h9 => h9) rfl dX0_addProduct_119 ?_
                    refine wm_irem hx hb dX0_addProduct_122 (by omega) (by omega) (by omega) ?_
                    refine wm_bald hx hb hK hP 1 0 rfl rfl (by decide) (by omega) dX0_addProduct_123 ?_
                    refine lv_iload_n hx hb dX0_addProduct_124 rfl (lv_at hl 2 rfl) ?_
                    obtain ⟨wi, e_wi⟩ : ∃ z_, z_ = wm_it (wm_lt n t th) i wb := ⟨_, rfl⟩
                    rw [← e_wi] at hP hD
                    refine wm_calli (wr := []) (As := [.int (nI (t (i % n))), .int th]) (rest := [.int (nI (0 + i)), .ref (a 4)]) ⟨hx, hb, hml, hown, hts⟩ (mx_measure l D a k H.size n m rd t p wi d g (t (i % n)) th (ht5 _) hth) (cwV 2 hts (lw_V q95 q97 qs4 q14 q98) rfl rfl rfl (by decide +kernel) ⟨Nat.le_of_ble_eq_true rfl, Nat.le_of_ble_eq_true rfl⟩) (va_recv hK hP (ci := 0) (q0 := 0) rfl rfl) hK hP hD hS hA [0, 1, 2, 3, 4, 5, 6] [] [0, 1, 2, 3, 4, 5] rfl rfl rfl (by decide) (by decide) (by decide) rfl rfl hl.1 rfl (Nat.le_of_ble_eq_true rfl) dX0_addProduct_125 ⟨Nat.zero_le _, Nat.zero_le _⟩ (fun r_ u H locs hq hP hD hS => ?_)
                    subst hq
                    have hP : va_P D wm_cl (wm_x a k n m rd t p wi d g) H := hP
                    have hD : va_D A (wm_x a k n m rd t p wi d g) := hD
                    refine wm_iast hx hb hK hP hD hS 4 3 rfl rfl (by decide) (by omega) dX0_addProduct_128 (fun H locs hP hD hS => ?_)
                    have hP : va_P D wm_cl (wm_x a k n m rd t p (wm_un wi (0 + i) (wm_ms th (t (i % n)))) d g) H := hP
                    have hD : va_D A (wm_x a k n m rd t p (wm_un wi (0 + i) (wm_ms th (t (i % n)))) d g) := hD
                    have e : wm_it (wm_lt n t th) (i + 1) wb = wm_un wi (0 + i) (wm_ms th (t (i % n))) := by rw [wm_it_s, ← e_wi, wm_lt]
                    rw [← e] at hP hD
                    refine lv_iinc (v := nI (i + 1)) (lv' := [(4, .int (nI (i + 1))), (0, .ref (a 0)), (1, .int ph), (2, .int th), (3, .int (nI f))]) hx hb dX0_addProduct_129 hl (k := 4) rfl (wm_inc i) (by decide) rfl (fun ls hl => ?_)
                    refine lv_goto (tgt := 87) hx hb dX0_addProduct_132 (by decide) ?_
                    exact ih (i + 1) (by omega) _ _ _ hP hD hS (lv_sub hl [1, 2, 3, 4, 0] rfl)
              exact loop3 (n + m - 1) 0 (by omega) _ _ _ hP hD hS (lv_sub hl [1, 2, 3, 4, 0] rfl)
            · omega
          | succ r ih =>
            intro i hi
            intro H locs ls hP hD hS hl
            refine lv_iload hx hb dX0_addProduct_40 (lv_at hl 4 rfl) ?_
            refine lv_aload_n hx hb dX0_addProduct_42 rfl (lv_at hl 0 rfl) ?_
            refine va_get (D := D) (ci := 0) (v := .int (nI m)) (C := RX0) (T := TX0) (N := 9) hx hb hts in_X0 hown hK hP 0 rfl rfl 1 (by decide) (hts _ q25) (fun _ h9 => h9) rfl dX0_addProduct_43 ?_
            refine wm_cge (tgt := 84) hx hb dX0_addProduct_46 (by decide) (by omega) (by omega) (fun hc => ?_) (fun hc => ?_)
            · omega
            · skip
              refine lv_aload_n hx hb dX0_addProduct_49 rfl (lv_at hl 0 rfl) ?_
              refine va_get (D := D) (ci := 0) (v := .ref (a 4)) (C := RX0) (T := TX0) (N := 9) hx hb hts in_X0 hown hK hP 0 rfl rfl 5 (by decide) (hts _ q29) (fun _ h9 => h9) rfl dX0_addProduct_50 ?_
              refine lv_bipush (v := nI 64) hx hb dX0_addProduct_53 (by decide +kernel) ?_
              refine lv_aload_n hx hb dX0_addProduct_55 rfl (lv_at hl 0 rfl) ?_
              refine va_get (D := D) (ci := 0) (v := .int (nI m)) (C := RX0) (T := TX0) (N := 9) hx hb hts in_X0 hown hK hP 0 rfl rfl 1 (by decide) (hts _ q25) (fun _ h9 => h9) rfl dX0_addProduct_56 ?_
              refine wm_iadd hx hb dX0_addProduct_59 ?_
              refine lv_iconst (v := nI 1) hx hb dX0_addProduct_60 (by decide +kernel) ?_
              refine wm_isub hx hb dX0_addProduct_61 (by omega) ?_
              refine lv_iload hx hb dX0_addProduct_62 (lv_at hl 4 rfl) ?_
              refine wm_isub hx hb dX0_addProduct_64 (by omega) ?_
              refine lv_aload_n hx hb dX0_addProduct_65 rfl (lv_at hl 0 rfl) ?_
              refine lv_aload_n hx hb dX0_addProduct_66 rfl (lv_at hl 0 rfl) ?_
              refine va_get (D := D) (ci := 0) (v := .ref (a 2)) (C := RX0) (T := TX0) (N := 9) hx hb hts in_X0 hown hK hP 0 rfl rfl 3 (by decide) (hts _ q27) (fun _ h9 => h9) rfl dX0_addProduct_67 ?_
              refine lv_iload hx hb dX0_addProduct_70 (lv_at hl 4 rfl) ?_
              refine wm_bald hx hb hK hP 2 1 rfl rfl (by decide) (by omega) dX0_addProduct_72 ?_
              refine lv_iload_n hx hb dX0_addProduct_73 rfl (lv_at hl 1 rfl) ?_
              obtain ⟨wi, e_wi⟩ : ∃ z_, z_ = wm_it (wm_lp m p ph) i wa := ⟨_, rfl⟩
              rw [← e_wi] at hP hD
              refine wm_calli (wr := []) (As := [.int (nI (p i)), .int ph]) (rest := [.int (nI (((64 + m) - 1) - i)), .ref (a 4)]) ⟨hx, hb, hml, hown, hts⟩ (mx_measure l D a k H.size n m rd t p wi d g (p i) ph (hp5 _) hph) (cwV 2 hts (lw_V q95 q97 qs4 q14 q98) rfl rfl rfl (by decide +kernel) ⟨Nat.le_of_ble_eq_true rfl, Nat.le_of_ble_eq_true rfl⟩) (va_recv hK hP (ci := 0) (q0 := 0) rfl rfl) hK hP hD hS hA [0, 1, 2, 3, 4, 5, 6] [] [0, 1, 2, 3, 4, 5] rfl rfl rfl (by decide) (by decide) (by decide) rfl rfl hl.1 rfl (Nat.le_of_ble_eq_true rfl) dX0_addProduct_74 ⟨Nat.zero_le _, Nat.zero_le _⟩ (fun r_ u H locs hq hP hD hS => ?_)
              subst hq
              have hP : va_P D wm_cl (wm_x a k n m rd t p wi d g) H := hP
              have hD : va_D A (wm_x a k n m rd t p wi d g) := hD
              refine wm_iast hx hb hK hP hD hS 4 3 rfl rfl (by decide) (by omega) dX0_addProduct_77 (fun H locs hP hD hS => ?_)
              have hP : va_P D wm_cl (wm_x a k n m rd t p (wm_un wi (((64 + m) - 1) - i) (wm_ms ph (p i))) d g) H := hP
              have hD : va_D A (wm_x a k n m rd t p (wm_un wi (((64 + m) - 1) - i) (wm_ms ph (p i))) d g) := hD
              have e : wm_it (wm_lp m p ph) (i + 1) wa = wm_un wi (((64 + m) - 1) - i) (wm_ms ph (p i)) := by rw [wm_it_s, ← e_wi, wm_lp]
              rw [← e] at hP hD
              refine lv_iinc (v := nI (i + 1)) (lv' := [(4, .int (nI (i + 1))), (0, .ref (a 0)), (1, .int ph), (2, .int th), (3, .int (nI f))]) hx hb dX0_addProduct_78 hl (k := 4) rfl (wm_inc i) (by decide) rfl (fun ls hl => ?_)
              refine lv_goto (tgt := 40) hx hb dX0_addProduct_81 (by decide) ?_
              exact ih (i + 1) (by omega) _ _ _ hP hD hS (lv_sub hl [1, 2, 3, 4, 0] rfl)
        exact loop2 m 0 (by omega) _ _ _ hP hD hS (lv_sub hl [1, 2, 3, 4, 0] rfl)
      · omega
    | succ r ih =>
      intro i hi
      intro H locs ls hP hD hS hl
      refine lv_iload hx hb dX0_addProduct_3 (lv_at hl 4 rfl) ?_
      refine lv_bipush (v := nI 64) hx hb dX0_addProduct_5 (by decide +kernel) ?_
      refine wm_cge (tgt := 37) hx hb dX0_addProduct_7 (by decide) (by omega) (by omega) (fun hc => ?_) (fun hc => ?_)
      · omega
      · skip
        refine lv_aload_n hx hb dX0_addProduct_10 rfl (lv_at hl 0 rfl) ?_
        refine va_get (D := D) (ci := 0) (v := .ref (a 4)) (C := RX0) (T := TX0) (N := 9) hx hb hts in_X0 hown hK hP 0 rfl rfl 5 (by decide) (hts _ q29) (fun _ h9 => h9) rfl dX0_addProduct_11 ?_
        refine lv_bipush (v := nI 64) hx hb dX0_addProduct_14 (by decide +kernel) ?_
        refine lv_iload hx hb dX0_addProduct_16 (lv_at hl 4 rfl) ?_
        refine wm_iadd hx hb dX0_addProduct_18 ?_
        refine lv_iconst (v := nI 0) hx hb dX0_addProduct_19 (by decide +kernel) ?_
        refine wm_iast hx hb hK hP hD hS 4 3 rfl rfl (by decide) (by omega) dX0_addProduct_20 (fun H locs hP hD hS => ?_)
        have hP : va_P D wm_cl (wm_x a k n m rd t p (wm_un (wm_it wm_c2 i w) (64 + i) 0) d g) H := hP
        have hD : va_D A (wm_x a k n m rd t p (wm_un (wm_it wm_c2 i w) (64 + i) 0) d g) := hD
        refine lv_aload_n hx hb dX0_addProduct_21 rfl (lv_at hl 0 rfl) ?_
        refine va_get (D := D) (ci := 0) (v := .ref (a 4)) (C := RX0) (T := TX0) (N := 9) hx hb hts in_X0 hown hK hP 0 rfl rfl 5 (by decide) (hts _ q29) (fun _ h9 => h9) rfl dX0_addProduct_22 ?_
        refine lv_iconst (v := nI 0) hx hb dX0_addProduct_25 (by decide +kernel) ?_
        refine lv_iload hx hb dX0_addProduct_26 (lv_at hl 4 rfl) ?_
        refine wm_iadd hx hb dX0_addProduct_28 ?_
        refine lv_iconst (v := nI 0) hx hb dX0_addProduct_29 (by decide +kernel) ?_
        refine wm_iast hx hb hK hP hD hS 4 3 rfl rfl (by decide) (by omega) dX0_addProduct_30 (fun H locs hP hD hS => ?_)
        have hP : va_P D wm_cl (wm_x a k n m rd t p (wm_un (wm_un (wm_it wm_c2 i w) (64 + i) 0) (0 + i) 0) d g) H := hP
        have hD : va_D A (wm_x a k n m rd t p (wm_un (wm_un (wm_it wm_c2 i w) (64 + i) 0) (0 + i) 0) d g) := hD
        refine lv_iinc (v := nI (i + 1)) (lv' := [(4, .int (nI (i + 1))), (0, .ref (a 0)), (1, .int ph), (2, .int th), (3, .int (nI f))]) hx hb dX0_addProduct_31 hl (k := 4) rfl (wm_inc i) (by decide) rfl (fun ls hl => ?_)
        refine lv_goto (tgt := 3) hx hb dX0_addProduct_34 (by decide) ?_
        exact ih (i + 1) (by omega) _ _ _ hP hD hS (lv_sub hl [1, 2, 3, 4, 0] rfl)
  exact loop1 64 0 rfl _ _ _ hP hD hS (lv_sub hl [1, 2, 3, 4, 0] rfl)
end
section
set_option maxHeartbeats 4000000 in
set_option maxRecDepth 100000 in
/-- prepare: the results are ready -/
theorem mx_prepare (l : Launch) (D : va_G) (a : Nat → Nat) (k : Nat → ClassId) (sz n m rd : Nat) (t p w d g : Nat → Nat)  (hI : wm_xi n m rd t p w d g) : Met l yX0_prepare (ws_ yX0_prepare cX0_prepare 2 none) ({ frames := 3, cells := 0, slots := 0, locals := 77 } : Room) (va_Pc [.ref (a 0)] (wm_pre D wm_cl (wm_xt k) (wm_x a k n m rd t p w d g) sz)) (va_Qv (fun u : wm_V => u.1 = 1 ∧ wm_xi n m u.1 t p u.2.1 u.2.2.1 u.2.2.2) (fun u => wm_is D wm_cl (wm_xt k) (va_A (wm_x a k n m rd t p w d g) sz) (wm_x a k n m u.1 t p u.2.1 u.2.2.1 u.2.2.2)) (va_A (wm_x a k n m rd t p w d g) sz)) 0 0 (va_A (wm_x a k n m rd t p w d g) sz) := by
  refine Met.ofW (cc := cX0_prepare) (maxL := 2) (ret := none) (by decide) rfl ?_
  intro P0 e0 s M0 av bl mt cd s1 B hml hv
  obtain ⟨rfl, hsz, hP, hK, hD0⟩ := hv
  have hx := B.exec
  have hb := B.bytes
  have hr := B.returns
  have hts := atoms_spec (ws := (ws_ yX0_prepare cX0_prepare 2 none)) B.pre
  have hts : ∀ w ∈ lw_all, w.before _ s = true := fun w h => hts w (List.mem_cons_of_mem _ h)
  have hown : s.vm.findClass RX0 = some M0.cls := findClass_of_methodNamed B.named
  have hlocks := B.notSynchronized
  subst hsz
  have hD := hD0.self (sz := s.heap.size)
  generalize hAe : va_A (wm_x a k n m rd t p w d g) s.heap.size = A at hD ⊢
  have hA : ∀ q : Nat, s.heap.size ≤ q → A q := fun q h => by rw [← hAe]; exact Or.inr h
  have hS : va_S A s.heap s.heap [] := va_S.rf
  have hP : va_P D wm_cl (wm_x a k n m rd t p w d g) s.heap := hP
  have hl := lv_entry ([.ref (a 0)]) (n := 2) (Nat.le_of_ble_eq_true rfl)
  rw [lg_entry_eq]
  generalize (lg_sl ([.ref (a 0)]) ++ List.replicate (2 - (lg_sl ([.ref (a 0)])).length) Slot.unset).toArray = ls at hl ⊢
  have hl : lv_has ls 2 [(0, .ref (a 0))] := hl
  obtain ⟨hab, hrd, hw, hd, hg, hok⟩ := hI
  have hab0 := hab
  obtain ⟨hn40, hm12, ht5, hp5⟩ := hab0
  refine lv_aload_n hx hb dX0_prepare_0 rfl (lv_at hl 0 rfl) ?_
  refine va_get (D := D) (ci := 0) (v := .int (nI rd)) (C := RX0) (T := TX0) (N := 9) hx hb hts in_X0 hown hK hP 0 rfl rfl 6 (by decide) (hts _ q30) (fun _ h9 => h9) rfl dX0_prepare_1 ?_
  refine wm_zeq (tgt := 8) hx hb dX0_prepare_4 (by decide) (by omega) (fun hc => ?_) (fun hc => ?_)
  · skip
    refine lv_aload_n hx hb dX0_prepare_8 rfl (lv_at hl 0 rfl) ?_
    refine lv_iconst (v := nI 1) hx hb dX0_prepare_9 (by decide +kernel) ?_
    refine va_put (D := D) (ci := 0) (v := .int (nI 1)) (ty := .boolean) (C := RX0) (T := TX0) (N := 9) hx hb hts in_X0 tyX0 tyX0_ok nmX0 hown hK hP hD hS 0 rfl rfl 6 (by decide) (hts _ q30) (fun _ h9 => h9) rfl (by decide +kernel) (by first | rfl | decide +kernel) (by first | rfl | decide +kernel) (Nat.le_of_ble_eq_true rfl) dX0_prepare_10 (fun H locs hP hD hS => ?_)
    have hP : va_P D wm_cl (wm_x a k n m 1 t p w d g) H := hP
    have hD : va_D A (wm_x a k n m 1 t p w d g) := hD
    refine lv_aload_n hx hb dX0_prepare_13 rfl (lv_at hl 0 rfl) ?_
    refine va_get (D := D) (ci := 0) (v := .int (nI m)) (C := RX0) (T := TX0) (N := 9) hx hb hts in_X0 hown hK hP 0 rfl rfl 1 (by decide) (hts _ q25) (fun _ h9 => h9) rfl dX0_prepare_14 ?_
    refine wm_zeq (tgt := 31) hx hb dX0_prepare_17 (by decide) (by omega) (fun hm0 => ?_) (fun hm0 => ?_)
    · skip
      exact W.vret hx hb hr (fun T0 hT0 hW0 => ⟨⟨(1, w, d, g), rfl, ⟨rfl, hab, Nat.le_refl 2, hw, hd, hg, fun _ h => absurd h (by omega)⟩, by rw [hT0]; exact hP, va_K.moved hW0.alike hK, hD⟩, hS.F hT0⟩) hS.2.2 dX0_prepare_31
    · skip
      refine lv_aload_n hx hb dX0_prepare_20 rfl (lv_at hl 0 rfl) ?_
      refine va_get (D := D) (ci := 0) (v := .int (nI m)) (C := RX0) (T := TX0) (N := 9) hx hb hts in_X0 hown hK hP 0 rfl rfl 1 (by decide) (hts _ q25) (fun _ h9 => h9) rfl dX0_prepare_21 ?_
      refine lv_aload_n hx hb dX0_prepare_24 rfl (lv_at hl 0 rfl) ?_
      refine va_get (D := D) (ci := 0) (v := .int (nI n)) (C := RX0) (T := TX0) (N := 9) hx hb hts in_X0 hown hK hP 0 rfl rfl 0 (by decide) (hts _ q24) (fun _ h9 => h9) rfl dX0_prepare_25 ?_
      refine wm_cle (tgt := 32) hx hb dX0_prepare_28 (by decide) (by omega) (by omega) (fun hmn => ?_) (fun hmn => ?_)
      · skip
        have hm1 : 0 < m := by omega
        have hmain := wm_main hab hm1 hmn w hw
        refine lv_aload_n hx hb dX0_prepare_32 rfl (lv_at hl 0 rfl) ?_
        refine wm_callv (wr := []) (As := []) (rest := []) ⟨hx, hb, hml, hown, hts⟩ (mx_clearSum l D a k H.size n m 1 t p w d g ) (cwV 0 hts (lw_V q87 q89 qs2 q14 q90) rfl rfl rfl (by decide +kernel) ⟨Nat.le_of_ble_eq_true rfl, Nat.le_of_ble_eq_true rfl⟩) (va_recv hK hP (ci := 0) (q0 := 0) rfl rfl) hK hP hD hS hA [0, 1, 2, 3, 4, 5, 6] [] [0, 1, 2, 3, 4, 5] rfl rfl rfl (by decide) (by decide) (by decide) rfl rfl hl.1 rfl (Nat.le_of_ble_eq_true rfl) dX0_prepare_33 ⟨Nat.zero_le _, Nat.zero_le _⟩ (fun u H locs hq hP hD hS => ?_)
        have hP : va_P D wm_cl (wm_x a k n m 1 t p (wm_it wm_cs 64 w) d g) H := hP
        have hD : va_D A (wm_x a k n m 1 t p (wm_it wm_cs 64 w) d g) := hD
        obtain ⟨w1, e_w1⟩ : ∃ z_, z_ = wm_it wm_cs 64 w := ⟨_, rfl⟩
        rw [← e_w1] at hP hD
        have h_w1 : ∀ x, w1 x < 7681 := by rw [e_w1]; exact wm_cs_lt hw 64
        refine lv_aload_n hx hb dX0_prepare_36 rfl (lv_at hl 0 rfl) ?_
        refine lv_iconst (v := nI 3) hx hb dX0_prepare_37 (by decide +kernel) ?_
        refine lv_iconst (v := nI 1) hx hb dX0_prepare_38 (by decide +kernel) ?_
        refine lv_iconst (v := nI 1) hx hb dX0_prepare_39 (by decide +kernel) ?_
        refine wm_callv (wr := []) (As := [.int (nI 3), .int (nI 1), .int (nI 1)]) (rest := []) ⟨hx, hb, hml, hown, hts⟩ (mx_addProduct l D a k H.size n m 1 t p w1 d g (nI 3) (nI 1) 1 hab hm1 hmn (by decide) (by decide) (by decide) h_w1) (cwV 3 hts (lw_V q91 q93 qs3 q14 q94) rfl rfl rfl (by decide +kernel) ⟨Nat.le_of_ble_eq_true rfl, Nat.le_of_ble_eq_true rfl⟩) (va_recv hK hP (ci := 0) (q0 := 0) rfl rfl) hK hP hD hS hA [0, 1, 2, 3, 4, 5, 6] [] [0, 1, 2, 3, 4, 5] rfl rfl rfl (by decide) (by decide) (by decide) rfl rfl hl.1 rfl (Nat.le_of_ble_eq_true rfl) dX0_prepare_40 ⟨Nat.zero_le _, Nat.zero_le _⟩ (fun u H locs hq hP hD hS => ?_)
        have hP : va_P D wm_cl (wm_x a k n m 1 t p (wm_ap n m t p (nI 3) (nI 1) 1 w1) d g) H := hP
        have hD : va_D A (wm_x a k n m 1 t p (wm_ap n m t p (nI 3) (nI 1) 1 w1) d g) := hD
        obtain ⟨w2, e_w2⟩ : ∃ z_, z_ = wm_ap n m t p (nI 3) (nI 1) 1 w1 := ⟨_, rfl⟩
        rw [← e_w2] at hP hD
        have h_w2 : ∀ x, w2 x < 7681 := by rw [e_w2]; exact wm_ap_lt hab (hp := nI 3) (ht := nI 1) (by decide) (by decide) 1 h_w1
        refine lv_aload_n hx hb dX0_prepare_43 rfl (lv_at hl 0 rfl) ?_
        refine lv_iconst (v := nI 2) hx hb dX0_prepare_44 (by decide +kernel) ?_
        refine lv_iconst (v := nI 2) hx hb dX0_prepare_45 (by decide +kernel) ?_
        refine lv_sipush (v := nI 7679) hx hb dX0_prepare_46 (by decide +kernel) ?_
        refine wm_callv (wr := []) (As := [.int (nI 2), .int (nI 2), .int (nI 7679)]) (rest := []) ⟨hx, hb, hml, hown, hts⟩ (mx_addProduct l D a k H.size n m 1 t p w2 d g (nI 2) (nI 2) 7679 hab hm1 hmn (by decide) (by decide) (by decide) h_w2) (cwV 3 hts (lw_V q91 q93 qs3 q14 q94) rfl rfl rfl (by decide +kernel) ⟨Nat.le_of_ble_eq_true rfl, Nat.le_of_ble_eq_true rfl⟩) (va_recv hK hP (ci := 0) (q0 := 0) rfl rfl) hK hP hD hS hA [0, 1, 2, 3, 4, 5, 6] [] [0, 1, 2, 3, 4, 5] rfl rfl rfl (by decide) (by decide) (by decide) rfl rfl hl.1 rfl (Nat.le_of_ble_eq_true rfl) dX0_prepare_49 ⟨Nat.zero_le _, Nat.zero_le _⟩ (fun u H locs hq hP hD hS => ?_)
        have hP : va_P D wm_cl (wm_x a k n m 1 t p (wm_ap n m t p (nI 2) (nI 2) 7679 w2) d g) H := hP
        have hD : va_D A (wm_x a k n m 1 t p (wm_ap n m t p (nI 2) (nI 2) 7679 w2) d g) := hD
        obtain ⟨w3, e_w3⟩ : ∃ z_, z_ = wm_ap n m t p (nI 2) (nI 2) 7679 w2 := ⟨_, rfl⟩
        rw [← e_w3] at hP hD
        have h_w3 : ∀ x, w3 x < 7681 := by rw [e_w3]; exact wm_ap_lt hab (hp := nI 2) (ht := nI 2) (by decide) (by decide) 7679 h_w2
        refine lv_aload_n hx hb dX0_prepare_52 rfl (lv_at hl 0 rfl) ?_
        refine lv_iconst (v := nI 1) hx hb dX0_prepare_53 (by decide +kernel) ?_
        refine lv_iconst (v := nI 3) hx hb dX0_prepare_54 (by decide +kernel) ?_
        refine lv_iconst (v := nI 1) hx hb dX0_prepare_55 (by decide +kernel) ?_
        refine wm_callv (wr := []) (As := [.int (nI 1), .int (nI 3), .int (nI 1)]) (rest := []) ⟨hx, hb, hml, hown, hts⟩ (mx_addProduct l D a k H.size n m 1 t p w3 d g (nI 1) (nI 3) 1 hab hm1 hmn (by decide) (by decide) (by decide) h_w3) (cwV 3 hts (lw_V q91 q93 qs3 q14 q94) rfl rfl rfl (by decide +kernel) ⟨Nat.le_of_ble_eq_true rfl, Nat.le_of_ble_eq_true rfl⟩) (va_recv hK hP (ci := 0) (q0 := 0) rfl rfl) hK hP hD hS hA [0, 1, 2, 3, 4, 5, 6] [] [0, 1, 2, 3, 4, 5] rfl rfl rfl (by decide) (by decide) (by decide) rfl rfl hl.1 rfl (Nat.le_of_ble_eq_true rfl) dX0_prepare_56 ⟨Nat.zero_le _, Nat.zero_le _⟩ (fun u H locs hq hP hD hS => ?_)
        have hP : va_P D wm_cl (wm_x a k n m 1 t p (wm_ap n m t p (nI 1) (nI 3) 1 w3) d g) H := hP
        have hD : va_D A (wm_x a k n m 1 t p (wm_ap n m t p (nI 1) (nI 3) 1 w3) d g) := hD
        obtain ⟨w4, e_w4⟩ : ∃ z_, z_ = wm_ap n m t p (nI 1) (nI 3) 1 w3 := ⟨_, rfl⟩
        rw [← e_w4] at hP hD
        have h_w4 : ∀ x, w4 x < 7681 := by rw [e_w4]; exact wm_ap_lt hab (hp := nI 1) (ht := nI 3) (by decide) (by decide) 1 h_w3
        refine lv_aload_n hx hb dX0_prepare_59 rfl (lv_at hl 0 rfl) ?_
        refine lv_sipush (v := nI 128) hx hb dX0_prepare_60 (by decide +kernel) ?_
        refine lv_iconst (v := nI 1) hx hb dX0_prepare_63 (by decide +kernel) ?_
        refine wm_callv (wr := []) (As := [.int (nI 128), .int (nI 1)]) (rest := []) ⟨hx, hb, hml, hown, hts⟩ (mx_transform l D a k H.size n m 1 t p w4 d g 128 (nI 1) true (by decide) (by decide) h_w4) (cwV 2 hts (lw_V q99 q101 qs5 q14 q102) rfl rfl rfl (by decide +kernel) ⟨Nat.le_of_ble_eq_true rfl, Nat.le_of_ble_eq_true rfl⟩) (va_recv hK hP (ci := 0) (q0 := 0) rfl rfl) hK hP hD hS hA [0, 1, 2, 3, 4, 5, 6] [] [0, 1, 2, 3, 4, 5] rfl rfl rfl (by decide) (by decide) (by decide) rfl rfl hl.1 rfl (Nat.le_of_ble_eq_true rfl) dX0_prepare_64 ⟨Nat.zero_le _, Nat.zero_le _⟩ (fun u H locs hq hP hD hS => ?_)
        have hP : va_P D wm_cl (wm_x a k n m 1 t p (wm_tr 128 true w4) d g) H := hP
        have hD : va_D A (wm_x a k n m 1 t p (wm_tr 128 true w4) d g) := hD
        obtain ⟨w5, e_w5⟩ : ∃ z_, z_ = wm_tr 128 true w4 := ⟨_, rfl⟩
        rw [← e_w5] at hP hD
        have h_w5 : ∀ x, w5 x < 7681 := by rw [e_w5]; exact wm_tr_lt 128 true h_w4
        have e5 : wm_w5 n m t p w = w5 := by rw [e_w5, e_w4, e_w3, e_w2, e_w1, wm_w5]
        rw [e5] at hmain
        refine lv_iconst (v := nI 0) hx hb dX0_prepare_67 (by decide +kernel) ?_
        refine lv_istore_n (lv' := [(1, .int (nI 0)), (0, .ref (a 0))]) hx hb dX0_prepare_68 rfl hl (by decide) rfl (fun ls hl => ?_)
        have loopD : ∀ (r i : Nat), i + r = n → ∀ (H : Heap) (locs : List Loc) (ls : Array Slot), va_P D wm_cl (wm_x a k n m 1 t p w5 (wm_it (wm_cp m w5) i d) g) H → va_D A (wm_x a k n m 1 t p w5 (wm_it (wm_cp m w5) i d) g) → va_S A s.heap H locs → lv_has ls 2 [(0, .ref (a 0)), (1, .int (nI i))] → W P0 l e0 (headSpec (ws_ yX0_prepare cX0_prepare 2 none) ({ frames := 3, cells := 0, slots := 0, locals := 77 } : Room)).room s M0 ([.ref (a 0)] : List Value).toArray bl mt cd H locs 0 0 (MQ bl (va_Qv (fun u : wm_V => u.1 = 1 ∧ wm_xi n m u.1 t p u.2.1 u.2.2.1 u.2.2.2) (fun u => wm_is D wm_cl (wm_xt k) A (wm_x a k n m u.1 t p u.2.1 u.2.2.1 u.2.2.2)) A) ([.ref (a 0)] : List Value).toArray s 0 0 A) (F0 M0 69 ls []) := by
          intro r
          induction r with
          | zero =>
            intro i hi
            intro H locs ls hP hD hS hl
            refine lv_iload_n hx hb dX0_prepare_69 rfl (lv_at hl 1 rfl) ?_
            refine lv_aload_n hx hb dX0_prepare_70 rfl (lv_at hl 0 rfl) ?_
            refine va_get (D := D) (ci := 0) (v := .int (nI n)) (C := RX0) (T := TX0) (N := 9) hx hb hts in_X0 hown hK hP 0 rfl rfl 0 (by decide) (hts _ q24) (fun _ h9 => h9) rfl dX0_prepare_71 ?_
            refine wm_cge (tgt := 106) hx hb dX0_prepare_74 (by decide) (by omega) (by omega) (fun hc => ?_) (fun hc => ?_)
            · skip
              have hin : i = n := by omega
              rw [hin] at hP hD
              have hP : va_P D wm_cl (wm_x a k n m 1 t p w5 (wm_it (wm_cp m w5) n d) g) H := hP
              have hD : va_D A (wm_x a k n m 1 t p w5 (wm_it (wm_cp m w5) n d) g) := hD
              have hl := lv_sub (l' := [(0, .ref (a 0))]) hl [0] rfl
              obtain ⟨dn, e_dn⟩ : ∃ z_, z_ = wm_it (wm_cp m w5) n d := ⟨_, rfl⟩
              rw [← e_dn] at hP hD
              have h_dn : ∀ x, dn x < 7681 := by rw [e_dn]; exact wm_cp_lt m h_w5 hd n
              refine lv_aload_n hx hb dX0_prepare_106 rfl (lv_at hl 0 rfl) ?_
              refine wm_callv (wr := []) (As := []) (rest := []) ⟨hx, hb, hml, hown, hts⟩ (mx_clearSum l D a k H.size n m 1 t p w5 dn g ) (cwV 0 hts (lw_V q87 q89 qs2 q14 q90) rfl rfl rfl (by decide +kernel) ⟨Nat.le_of_ble_eq_true rfl, Nat.le_of_ble_eq_true rfl⟩) (va_recv hK hP (ci := 0) (q0 := 0) rfl rfl) hK hP hD hS hA [0, 1, 2, 3, 4, 5, 6] [] [0, 1, 2, 3, 4, 5] rfl rfl rfl (by decide) (by decide) (by decide) rfl rfl hl.1 rfl (Nat.le_of_ble_eq_true rfl) dX0_prepare_107 ⟨Nat.zero_le _, Nat.zero_le _⟩ (fun u H locs hq hP hD hS => ?_)
              have hP : va_P D wm_cl (wm_x a k n m 1 t p (wm_it wm_cs 64 w5) dn g) H := hP
              have hD : va_D A (wm_x a k n m 1 t p (wm_it wm_cs 64 w5) dn g) := hD
              obtain ⟨w6, e_w6⟩ : ∃ z_, z_ = wm_it wm_cs 64 w5 := ⟨_, rfl⟩
              rw [← e_w6] at hP hD
              have h_w6 : ∀ x, w6 x < 7681 := by rw [e_w6]; exact wm_cs_lt h_w5 64
              refine lv_aload_n hx hb dX0_prepare_110 rfl (lv_at hl 0 rfl) ?_
              refine lv_iconst (v := nI 0) hx hb dX0_prepare_111 (by decide +kernel) ?_
              refine lv_iconst (v := nI 0) hx hb dX0_prepare_112 (by decide +kernel) ?_
              refine lv_iconst (v := nI 1) hx hb dX0_prepare_113 (by decide +kernel) ?_
              refine wm_callv (wr := []) (As := [.int (nI 0), .int (nI 0), .int (nI 1)]) (rest := []) ⟨hx, hb, hml, hown, hts⟩ (mx_addProduct l D a k H.size n m 1 t p w6 dn g (nI 0) (nI 0) 1 hab hm1 hmn (by decide) (by decide) (by decide) h_w6) (cwV 3 hts (lw_V q91 q93 qs3 q14 q94) rfl rfl rfl (by decide +kernel) ⟨Nat.le_of_ble_eq_true rfl, Nat.le_of_ble_eq_true rfl⟩) (va_recv hK hP (ci := 0) (q0 := 0) rfl rfl) hK hP hD hS hA [0, 1, 2, 3, 4, 5, 6] [] [0, 1, 2, 3, 4, 5] rfl rfl rfl (by decide) (by decide) (by decide) rfl rfl hl.1 rfl (Nat.le_of_ble_eq_true rfl) dX0_prepare_114 ⟨Nat.zero_le _, Nat.zero_le _⟩ (fun u H locs hq hP hD hS => ?_)
              have hP : va_P D wm_cl (wm_x a k n m 1 t p (wm_ap n m t p (nI 0) (nI 0) 1 w6) dn g) H := hP
              have hD : va_D A (wm_x a k n m 1 t p (wm_ap n m t p (nI 0) (nI 0) 1 w6) dn g) := hD
              obtain ⟨w7, e_w7⟩ : ∃ z_, z_ = wm_ap n m t p (nI 0) (nI 0) 1 w6 := ⟨_, rfl⟩
              rw [← e_w7] at hP hD
              have h_w7 : ∀ x, w7 x < 7681 := by rw [e_w7]; exact wm_ap_lt hab (hp := nI 0) (ht := nI 0) (by decide) (by decide) 1 h_w6
              refine lv_iconst (v := nI 1) hx hb dX0_prepare_117 (by decide +kernel) ?_
              refine lv_istore_n (lv' := [(1, .int (nI 1)), (0, .ref (a 0))]) hx hb dX0_prepare_118 rfl hl (by decide) rfl (fun ls hl => ?_)
              have loopL : ∀ (r i : Nat), i + r = 4 → ∀ (H : Heap) (locs : List Loc) (ls : Array Slot), va_P D wm_cl (wm_x a k n m 1 t p (wm_it (wm_al n m t p) i w7) dn g) H → va_D A (wm_x a k n m 1 t p (wm_it (wm_al n m t p) i w7) dn g) → va_S A s.heap H locs → lv_has ls 2 [(0, .ref (a 0)), (1, .int (nI (i + 1)))] → W P0 l e0 (headSpec (ws_ yX0_prepare cX0_prepare 2 none) ({ frames := 3, cells := 0, slots := 0, locals := 77 } : Room)).room s M0 ([.ref (a 0)] : List Value).toArray bl mt cd H locs 0 0 (MQ bl (va_Qv (fun u : wm_V => u.1 = 1 ∧ wm_xi n m u.1 t p u.2.1 u.2.2.1 u.2.2.2) (fun u => wm_is D wm_cl (wm_xt k) A (wm_x a k n m u.1 t p u.2.1 u.2.2.1 u.2.2.2)) A) ([.ref (a 0)] : List Value).toArray s 0 0 A) (F0 M0 119 ls []) := by
                intro r
                induction r with
                | zero =>
                  intro i hi
                  intro H locs ls hP hD hS hl
                  refine lv_iload_n hx hb dX0_prepare_119 rfl (lv_at hl 1 rfl) ?_
                  refine lv_iconst (v := nI 4) hx hb dX0_prepare_120 (by decide +kernel) ?_
                  refine wm_cgt (tgt := 141) hx hb dX0_prepare_121 (by decide) (by omega) (by omega) (fun hc => ?_) (fun hc => ?_)
                  · skip
                    obtain rfl : i = 4 := by omega
                    obtain ⟨w8, e_w8⟩ : ∃ z_, z_ = wm_it (wm_al n m t p) 4 w7 := ⟨_, rfl⟩
                    rw [← e_w8] at hP hD
                    have h_w8 : ∀ x, w8 x < 7681 := by rw [e_w8]; exact wm_al_lt hab h_w7 4 (by decide)
                    have hl := lv_sub (l' := [(0, .ref (a 0))]) hl [0] rfl
                    refine lv_aload_n hx hb dX0_prepare_141 rfl (lv_at hl 0 rfl) ?_
                    refine lv_sipush (v := nI 128) hx hb dX0_prepare_142 (by decide +kernel) ?_
                    refine lv_iconst (v := nI 1) hx hb dX0_prepare_145 (by decide +kernel) ?_
                    refine wm_callv (wr := []) (As := [.int (nI 128), .int (nI 1)]) (rest := []) ⟨hx, hb, hml, hown, hts⟩ (mx_transform l D a k H.size n m 1 t p w8 dn g 128 (nI 1) true (by decide) (by decide) h_w8) (cwV 2 hts (lw_V q99 q101 qs5 q14 q102) rfl rfl rfl (by decide +kernel) ⟨Nat.le_of_ble_eq_true rfl, Nat.le_of_ble_eq_true rfl⟩) (va_recv hK hP (ci := 0) (q0 := 0) rfl rfl) hK hP hD hS hA [0, 1, 2, 3, 4, 5, 6] [] [0, 1, 2, 3, 4, 5] rfl rfl rfl (by decide) (by decide) (by decide) rfl rfl hl.1 rfl (Nat.le_of_ble_eq_true rfl) dX0_prepare_146 ⟨Nat.zero_le _, Nat.zero_le _⟩ (fun u H locs hq hP hD hS => ?_)
                    have hP : va_P D wm_cl (wm_x a k n m 1 t p (wm_tr 128 true w8) dn g) H := hP
                    have hD : va_D A (wm_x a k n m 1 t p (wm_tr 128 true w8) dn g) := hD
                    obtain ⟨w9, e_w9⟩ : ∃ z_, z_ = wm_tr 128 true w8 := ⟨_, rfl⟩
                    rw [← e_w9] at hP hD
                    have h_w9 : ∀ x, w9 x < 7681 := by rw [e_w9]; exact wm_tr_lt 128 true h_w8
                    have e9 : wm_w9 n m t p w5 = w9 := by rw [e_w9, e_w8, e_w7, e_w6, wm_w9]
                    rw [e9] at hmain
                    refine lv_iconst (v := nI 0) hx hb dX0_prepare_149 (by decide +kernel) ?_
                    refine lv_istore_n (lv' := [(1, .int (nI 0)), (0, .ref (a 0))]) hx hb dX0_prepare_150 rfl hl (by decide) rfl (fun ls hl => ?_)
                    have loopG : ∀ (r2 j : Nat), j + r2 = n → ∀ (H : Heap) (locs : List Loc) (ls : Array Slot), va_P D wm_cl (wm_x a k n m 1 t p w9 dn (wm_it (wm_cp m w9) j g)) H → va_D A (wm_x a k n m 1 t p w9 dn (wm_it (wm_cp m w9) j g)) → va_S A s.heap H locs → lv_has ls 2 [(0, .ref (a 0)), (1, .int (nI j))] → W P0 l e0 (headSpec (ws_ yX0_prepare cX0_prepare 2 none) ({ frames := 3, cells := 0, slots := 0, locals := 77 } : Room)).room s M0 ([.ref (a 0)] : List Value).toArray bl mt cd H locs 0 0 (MQ bl (va_Qv (fun u : wm_V => u.1 = 1 ∧ wm_xi n m u.1 t p u.2.1 u.2.2.1 u.2.2.2) (fun u => wm_is D wm_cl (wm_xt k) A (wm_x a k n m u.1 t p u.2.1 u.2.2.1 u.2.2.2)) A) ([.ref (a 0)] : List Value).toArray s 0 0 A) (F0 M0 151 ls []) := by
                      intro r2
                      induction r2 with
                      | zero =>
                        intro j hi
                        intro H locs ls hP hD hS hl
                        refine lv_iload_n hx hb dX0_prepare_151 rfl (lv_at hl 1 rfl) ?_
                        refine lv_aload_n hx hb dX0_prepare_152 rfl (lv_at hl 0 rfl) ?_
                        refine va_get (D := D) (ci := 0) (v := .int (nI n)) (C := RX0) (T := TX0) (N := 9) hx hb hts in_X0 hown hK hP 0 rfl rfl 0 (by decide) (hts _ q24) (fun _ h9 => h9) rfl dX0_prepare_153 ?_
                        refine wm_cge (tgt := 188) hx hb dX0_prepare_156 (by decide) (by omega) (by omega) (fun hc3 => ?_) (fun hc3 => ?_)
                        · skip
                          have hjn : j = n := by omega
                          rw [hjn] at hP hD
                          have hP : va_P D wm_cl (wm_x a k n m 1 t p w9 dn (wm_it (wm_cp m w9) n g)) H := hP
                          have hD : va_D A (wm_x a k n m 1 t p w9 dn (wm_it (wm_cp m w9) n g)) := hD
                          exact W.vret hx hb hr (fun T0 hT0 hW0 => ⟨⟨(1, w9, dn, wm_it (wm_cp m w9) n g), rfl, ⟨rfl, hab, Nat.le_refl 2, h_w9, h_dn, wm_cp_lt m h_w9 hg n, fun _ => by rw [e_dn]; exact hmain d g⟩, by rw [hT0]; exact hP, va_K.moved hW0.alike hK, hD⟩, hS.F hT0⟩) hS.2.2 dX0_prepare_188
                        · omega
                      | succ r2 ih2 =>
                        intro j hi
                        intro H locs ls hP hD hS hl
                        refine lv_iload_n hx hb dX0_prepare_151 rfl (lv_at hl 1 rfl) ?_
                        refine lv_aload_n hx hb dX0_prepare_152 rfl (lv_at hl 0 rfl) ?_
                        refine va_get (D := D) (ci := 0) (v := .int (nI n)) (C := RX0) (T := TX0) (N := 9) hx hb hts in_X0 hown hK hP 0 rfl rfl 0 (by decide) (hts _ q24) (fun _ h9 => h9) rfl dX0_prepare_153 ?_
                        refine wm_cge (tgt := 188) hx hb dX0_prepare_156 (by decide) (by omega) (by omega) (fun hc3 => ?_) (fun hc3 => ?_)
                        · omega
                        · skip
                          refine lv_aload_n hx hb dX0_prepare_159 rfl (lv_at hl 0 rfl) ?_
                          refine va_get (D := D) (ci := 0) (v := .ref (a 6)) (C := RX0) (T := TX0) (N := 9) hx hb hts in_X0 hown hK hP 0 rfl rfl 8 (by decide) (hts _ q32) (fun _ h9 => h9) rfl dX0_prepare_160 ?_
                          refine lv_iload_n hx hb dX0_prepare_163 rfl (lv_at hl 1 rfl) ?_
                          refine lv_aload_n hx hb dX0_prepare_164 rfl (lv_at hl 0 rfl) ?_
                          refine va_get (D := D) (ci := 0) (v := .ref (a 4)) (C := RX0) (T := TX0) (N := 9) hx hb hts in_X0 hown hK hP 0 rfl rfl 5 (by decide) (hts _ q29) (fun _ h9 => h9) rfl dX0_prepare_165 ?_
                          refine lv_sipush (v := nI 128) hx hb dX0_prepare_168 (by decide +kernel) ?_
                          refine lv_iload_n hx hb dX0_prepare_171 rfl (lv_at hl 1 rfl) ?_
                          refine wm_iadd hx hb dX0_prepare_172 ?_
                          refine lv_aload_n hx hb dX0_prepare_173 rfl (lv_at hl 0 rfl) ?_
                          refine va_get (D := D) (ci := 0) (v := .int (nI m)) (C := RX0) (T := TX0) (N := 9) hx hb hts in_X0 hown hK hP 0 rfl rfl 1 (by decide) (hts _ q25) (fun _ h9 => h9) rfl dX0_prepare_174 ?_
                          refine wm_iadd hx hb dX0_prepare_177 ?_
                          refine lv_iconst (v := nI 1) hx hb dX0_prepare_178 (by decide +kernel) ?_
                          refine wm_isub hx hb dX0_prepare_179 (by omega) ?_
                          refine wm_iald hx hb hK hP 4 3 rfl rfl (by decide) (by omega) dX0_prepare_180 ?_
                          refine wm_iast hx hb hK hP hD hS 6 5 rfl rfl (by decide) (by omega) dX0_prepare_181 (fun H locs hP hD hS => ?_)
                          have hP : va_P D wm_cl (wm_x a k n m 1 t p w9 dn (wm_un (wm_it (wm_cp m w9) j g) j (w9 (((128 + j) + m) - 1)))) H := hP
                          have hD : va_D A (wm_x a k n m 1 t p w9 dn (wm_un (wm_it (wm_cp m w9) j g) j (w9 (((128 + j) + m) - 1)))) := hD
                          refine lv_iinc (v := nI (j + 1)) (lv' := [(1, .int (nI (j + 1))), (0, .ref (a 0))]) hx hb dX0_prepare_182 hl (k := 1) rfl (wm_inc j) (by decide) rfl (fun ls hl => ?_)
                          refine lv_goto (tgt := 151) hx hb dX0_prepare_185 (by decide) ?_
                          exact ih2 (j + 1) (by omega) _ _ _ hP hD hS (lv_sub hl [1, 0] rfl)
                    exact loopG n 0 (by omega) _ _ _ hP hD hS (lv_sub hl [1, 0] rfl)
                  · omega
                | succ r ih =>
                  intro i hi
                  intro H locs ls hP hD hS hl
                  refine lv_iload_n hx hb dX0_prepare_119 rfl (lv_at hl 1 rfl) ?_
                  refine lv_iconst (v := nI 4) hx hb dX0_prepare_120 (by decide +kernel) ?_
                  refine wm_cgt (tgt := 141) hx hb dX0_prepare_121 (by decide) (by omega) (by omega) (fun hc => ?_) (fun hc => ?_)
                  · omega
                  · skip
                    refine lv_aload_n hx hb dX0_prepare_124 rfl (lv_at hl 0 rfl) ?_
                    refine lv_iload_n hx hb dX0_prepare_125 rfl (lv_at hl 1 rfl) ?_
                    refine lv_ineg hx hb dX0_prepare_126 ?_
                    refine lv_iload_n hx hb dX0_prepare_127 rfl (lv_at hl 1 rfl) ?_
                    refine lv_ineg hx hb dX0_prepare_128 ?_
                    refine lv_sipush (v := nI 7680) hx hb dX0_prepare_129 (by decide +kernel) ?_
                    obtain ⟨wi, e_wi⟩ : ∃ z_, z_ = wm_it (wm_al n m t p) i w7 := ⟨_, rfl⟩
                    rw [← e_wi] at hP hD
                    have h_wi : ∀ x, wi x < 7681 := by rw [e_wi]; exact wm_al_lt hab h_w7 i (by omega)
                    refine wm_callv (wr := []) (As := [.int (-nI (i + 1)), .int (-nI (i + 1)), .int (nI 7680)]) (rest := []) ⟨hx, hb, hml, hown, hts⟩ (mx_addProduct l D a k H.size n m 1 t p wi dn g (-nI (i + 1)) (-nI (i + 1)) 7680 hab hm1 hmn (wm_neg3 i (by omega)) (wm_neg3 i (by omega)) (by decide) h_wi) (cwV 3 hts (lw_V q91 q93 qs3 q14 q94) rfl rfl rfl (by decide +kernel) ⟨Nat.le_of_ble_eq_true rfl, Nat.le_of_ble_eq_true rfl⟩) (va_recv hK hP (ci := 0) (q0 := 0) rfl rfl) hK hP hD hS hA [0, 1, 2, 3, 4, 5, 6] [] [0, 1, 2, 3, 4, 5] rfl rfl rfl (by decide) (by decide) (by decide) rfl rfl hl.1 rfl (Nat.le_of_ble_eq_true rfl) dX0_prepare_132 ⟨Nat.zero_le _, Nat.zero_le _⟩ (fun u H locs hq hP hD hS => ?_)
                    have hP : va_P D wm_cl (wm_x a k n m 1 t p (wm_ap n m t p (-nI (i + 1)) (-nI (i + 1)) 7680 wi) dn g) H := hP
                    have hD : va_D A (wm_x a k n m 1 t p (wm_ap n m t p (-nI (i + 1)) (-nI (i + 1)) 7680 wi) dn g) := hD
                    have e : wm_it (wm_al n m t p) (i + 1) w7 = wm_ap n m t p (-nI (i + 1)) (-nI (i + 1)) 7680 wi := by rw [wm_it_s, ← e_wi, wm_al]
                    rw [← e] at hP hD
                    refine lv_iinc (v := nI ((i + 1) + 1)) (lv' := [(1, .int (nI ((i + 1) + 1))), (0, .ref (a 0))]) hx hb dX0_prepare_135 hl (k := 1) rfl (wm_inc (i + 1)) (by decide) rfl (fun ls hl => ?_)
                    refine lv_goto (tgt := 119) hx hb dX0_prepare_138 (by decide) ?_
                    exact ih (i + 1) (by omega) _ _ _ hP hD hS (lv_sub hl [1, 0] rfl)
              exact loopL 4 0 rfl _ _ _ hP hD hS (lv_sub hl [1, 0] rfl)
            · omega
          | succ r ih =>
            intro i hi
            intro H locs ls hP hD hS hl
            refine lv_iload_n hx hb dX0_prepare_69 rfl (lv_at hl 1 rfl) ?_
            refine lv_aload_n hx hb dX0_prepare_70 rfl (lv_at hl 0 rfl) ?_
            refine va_get (D := D) (ci := 0) (v := .int (nI n)) (C := RX0) (T := TX0) (N := 9) hx hb hts in_X0 hown hK hP 0 rfl rfl 0 (by decide) (hts _ q24) (fun _ h9 => h9) rfl dX0_prepare_71 ?_
            refine wm_cge (tgt := 106) hx hb dX0_prepare_74 (by decide) (by omega) (by omega) (fun hc => ?_) (fun hc => ?_)
            · omega
            · skip
              refine lv_aload_n hx hb dX0_prepare_77 rfl (lv_at hl 0 rfl) ?_
              refine va_get (D := D) (ci := 0) (v := .ref (a 5)) (C := RX0) (T := TX0) (N := 9) hx hb hts in_X0 hown hK hP 0 rfl rfl 7 (by decide) (hts _ q31) (fun _ h9 => h9) rfl dX0_prepare_78 ?_
              refine lv_iload_n hx hb dX0_prepare_81 rfl (lv_at hl 1 rfl) ?_
              refine lv_aload_n hx hb dX0_prepare_82 rfl (lv_at hl 0 rfl) ?_
              refine va_get (D := D) (ci := 0) (v := .ref (a 4)) (C := RX0) (T := TX0) (N := 9) hx hb hts in_X0 hown hK hP 0 rfl rfl 5 (by decide) (hts _ q29) (fun _ h9 => h9) rfl dX0_prepare_83 ?_
              refine lv_sipush (v := nI 128) hx hb dX0_prepare_86 (by decide +kernel) ?_
              refine lv_iload_n hx hb dX0_prepare_89 rfl (lv_at hl 1 rfl) ?_
              refine wm_iadd hx hb dX0_prepare_90 ?_
              refine lv_aload_n hx hb dX0_prepare_91 rfl (lv_at hl 0 rfl) ?_
              refine va_get (D := D) (ci := 0) (v := .int (nI m)) (C := RX0) (T := TX0) (N := 9) hx hb hts in_X0 hown hK hP 0 rfl rfl 1 (by decide) (hts _ q25) (fun _ h9 => h9) rfl dX0_prepare_92 ?_
              refine wm_iadd hx hb dX0_prepare_95 ?_
              refine lv_iconst (v := nI 1) hx hb dX0_prepare_96 (by decide +kernel) ?_
              refine wm_isub hx hb dX0_prepare_97 (by omega) ?_
              refine wm_iald hx hb hK hP 4 3 rfl rfl (by decide) (by omega) dX0_prepare_98 ?_
              refine wm_iast hx hb hK hP hD hS 5 4 rfl rfl (by decide) (by omega) dX0_prepare_99 (fun H locs hP hD hS => ?_)
              have hP : va_P D wm_cl (wm_x a k n m 1 t p w5 (wm_un (wm_it (wm_cp m w5) i d) i (w5 (((128 + i) + m) - 1))) g) H := hP
              have hD : va_D A (wm_x a k n m 1 t p w5 (wm_un (wm_it (wm_cp m w5) i d) i (w5 (((128 + i) + m) - 1))) g) := hD
              refine lv_iinc (v := nI (i + 1)) (lv' := [(1, .int (nI (i + 1))), (0, .ref (a 0))]) hx hb dX0_prepare_100 hl (k := 1) rfl (wm_inc i) (by decide) rfl (fun ls hl => ?_)
              refine lv_goto (tgt := 69) hx hb dX0_prepare_103 (by decide) ?_
              exact ih (i + 1) (by omega) _ _ _ hP hD hS (lv_sub hl [1, 0] rfl)
        exact loopD n 0 (by omega) _ _ _ hP hD hS (lv_sub hl [1, 0] rfl)
      · skip
        exact W.vret hx hb hr (fun T0 hT0 hW0 => ⟨⟨(1, w, d, g), rfl, ⟨rfl, hab, Nat.le_refl 2, hw, hd, hg, fun _ _ h => absurd h (by omega)⟩, by rw [hT0]; exact hP, va_K.moved hW0.alike hK, hD⟩, hS.F hT0⟩) hS.2.2 dX0_prepare_31
  · skip
    obtain rfl : rd = 1 := by omega
    exact W.vret hx hb hr (fun T0 hT0 hW0 => ⟨⟨(1, w, d, g), rfl, ⟨rfl, hab, hrd, hw, hd, hg, hok⟩, by rw [hT0]; exact hP, va_K.moved hW0.alike hK, hD⟩, hS.F hT0⟩) hS.2.2 dX0_prepare_7
end
section
set_option maxHeartbeats 4000000 in
set_option maxRecDepth 100000 in
/-- isShift -/
theorem mx_isShift (l : Launch) (D : va_G) (a : Nat → Nat) (k : Nat → ClassId) (sz n m rd : Nat) (t p w d g : Nat → Nat) (i : Int32)  : Met l yX0_isShift (ws_ yX0_isShift cX0_isShift 2 (some .boolean)) ({ frames := 0, cells := 0, slots := 0, locals := 0 } : Room) (va_Pc [.ref (a 0), .int i] (wm_pre D wm_cl (wm_xt k) (wm_x a k n m rd t p w d g) sz)) (va_Qi (fun (r : Int32) (u : Unit) => r = if i < 0 ∨ nI n - nI m < i then 0 else 1) (fun u => wm_is D wm_cl (wm_xt k) (va_A (wm_x a k n m rd t p w d g) sz) (wm_x a k n m rd t p w d g)) (va_A (wm_x a k n m rd t p w d g) sz)) 0 0 (va_A (wm_x a k n m rd t p w d g) sz) := by
  refine Met.ofW (cc := cX0_isShift) (maxL := 2) (ret := some .boolean) (by decide) rfl ?_
  intro P0 e0 s M0 av bl mt cd s1 B hml hv
  obtain ⟨rfl, hsz, hP, hK, hD0⟩ := hv
  have hx := B.exec
  have hb := B.bytes
  have hr := B.returns
  have hts := atoms_spec (ws := (ws_ yX0_isShift cX0_isShift 2 (some .boolean))) B.pre
  have hts : ∀ w ∈ lw_all, w.before _ s = true := fun w h => hts w (List.mem_cons_of_mem _ h)
  have hown : s.vm.findClass RX0 = some M0.cls := findClass_of_methodNamed B.named
  have hlocks := B.notSynchronized
  subst hsz
  have hD := hD0.self (sz := s.heap.size)
  generalize hAe : va_A (wm_x a k n m rd t p w d g) s.heap.size = A at hD ⊢
  have hA : ∀ q : Nat, s.heap.size ≤ q → A q := fun q h => by rw [← hAe]; exact Or.inr h
  have hS : va_S A s.heap s.heap [] := va_S.rf
  have hP : va_P D wm_cl (wm_x a k n m rd t p w d g) s.heap := hP
  have hl := lv_entry ([.ref (a 0), .int i]) (n := 2) (Nat.le_of_ble_eq_true rfl)
  rw [lg_entry_eq]
  generalize (lg_sl ([.ref (a 0), .int i]) ++ List.replicate (2 - (lg_sl ([.ref (a 0), .int i])).length) Slot.unset).toArray = ls at hl ⊢
  have hl : lv_has ls 2 [(0, .ref (a 0)), (1, .int i)] := hl
  refine lv_iload_n hx hb dX0_isShift_0 rfl (lv_at hl 1 rfl) ?_
  refine lv_if_lt (tgt := 21) hx hb dX0_isShift_1 (by decide) (fun hc => ?_) (fun hc => ?_)
  · skip
    refine lv_iconst (v := nI 0) hx hb dX0_isShift_21 (by decide +kernel) ?_
    exact W.zret (v := nI 0) hx hb hr (by first | rfl | decide +kernel) (fun T0 hT0 hW0 => ⟨⟨nI 0, (), rfl, (by rw [if_pos (Or.inl hc)]; rfl), by rw [hT0]; exact hP, va_K.moved hW0.alike hK, hD⟩, hS.F hT0⟩) hS.2.2 dX0_isShift_22
  · skip
    refine lv_iload_n hx hb dX0_isShift_4 rfl (lv_at hl 1 rfl) ?_
    refine lv_aload_n hx hb dX0_isShift_5 rfl (lv_at hl 0 rfl) ?_
    refine va_get (D := D) (ci := 0) (v := .int (nI n)) (C := RX0) (T := TX0) (N := 9) hx hb hts in_X0 hown hK hP 0 rfl rfl 0 (by decide) (hts _ q24) (fun _ h9 => h9) rfl dX0_isShift_6 ?_
    refine lv_aload_n hx hb dX0_isShift_9 rfl (lv_at hl 0 rfl) ?_
    refine va_get (D := D) (ci := 0) (v := .int (nI m)) (C := RX0) (T := TX0) (N := 9) hx hb hts in_X0 hown hK hP 0 rfl rfl 1 (by decide) (hts _ q25) (fun _ h9 => h9) rfl dX0_isShift_10 ?_
    refine lv_isub hx hb dX0_isShift_13 ?_
    refine lv_icmp_gt (tgt := 21) hx hb dX0_isShift_14 (by decide) (fun hd => ?_) (fun hd => ?_)
    · skip
      refine lv_iconst (v := nI 0) hx hb dX0_isShift_21 (by decide +kernel) ?_
      exact W.zret (v := nI 0) hx hb hr (by first | rfl | decide +kernel) (fun T0 hT0 hW0 => ⟨⟨nI 0, (), rfl, (by rw [if_pos (Or.inr hd)]; rfl), by rw [hT0]; exact hP, va_K.moved hW0.alike hK, hD⟩, hS.F hT0⟩) hS.2.2 dX0_isShift_22
    · skip
      refine lv_iconst (v := nI 1) hx hb dX0_isShift_17 (by decide +kernel) ?_
      refine lv_goto (tgt := 22) hx hb dX0_isShift_18 (by decide) ?_
      exact W.zret (v := nI 1) hx hb hr (by first | rfl | decide +kernel) (fun T0 hT0 hW0 => ⟨⟨nI 1, (), rfl, (by rw [if_neg (fun h => h.elim hc hd)]; rfl), by rw [hT0]; exact hP, va_K.moved hW0.alike hK, hD⟩, hS.F hT0⟩) hS.2.2 dX0_isShift_22
set_option maxHeartbeats 4000000 in
set_option maxRecDepth 100000 in
/-- wrongAt -/
theorem mx_wrongAt (l : Launch) (D : va_G) (a : Nat → Nat) (k : Nat → ClassId) (sz n m rd : Nat) (t p w d g : Nat → Nat) (j : Nat) (hI : wm_xi n m rd t p w d g) (hj : m = 0 ∨ (j < n ∧ m ≤ n)) : Met l yX0_wrongAt (ws_ yX0_wrongAt cX0_wrongAt 2 (some .int)) ({ frames := 4, cells := 0, slots := 0, locals := 98 } : Room) (va_Pc [.ref (a 0), .int (nI j)] (wm_pre D wm_cl (wm_xt k) (wm_x a k n m rd t p w d g) sz)) (va_Qi (fun (r : Int32) (u : wm_V) => r = nI (wm_mi n t p j m) ∧ wm_xi n m u.1 t p u.2.1 u.2.2.1 u.2.2.2) (fun u => wm_is D wm_cl (wm_xt k) (va_A (wm_x a k n m rd t p w d g) sz) (wm_x a k n m u.1 t p u.2.1 u.2.2.1 u.2.2.2)) (va_A (wm_x a k n m rd t p w d g) sz)) 0 0 (va_A (wm_x a k n m rd t p w d g) sz) := by
  refine Met.ofW (cc := cX0_wrongAt) (maxL := 2) (ret := some .int) (by decide) rfl ?_
  intro P0 e0 s M0 av bl mt cd s1 B hml hv
  obtain ⟨rfl, hsz, hP, hK, hD0⟩ := hv
  have hx := B.exec
  have hb := B.bytes
  have hr := B.returns
  have hts := atoms_spec (ws := (ws_ yX0_wrongAt cX0_wrongAt 2 (some .int))) B.pre
  have hts : ∀ w ∈ lw_all, w.before _ s = true := fun w h => hts w (List.mem_cons_of_mem _ h)
  have hown : s.vm.findClass RX0 = some M0.cls := findClass_of_methodNamed B.named
  have hlocks := B.notSynchronized
  subst hsz
  have hD := hD0.self (sz := s.heap.size)
  generalize hAe : va_A (wm_x a k n m rd t p w d g) s.heap.size = A at hD ⊢
  have hA : ∀ q : Nat, s.heap.size ≤ q → A q := fun q h => by rw [← hAe]; exact Or.inr h
  have hS : va_S A s.heap s.heap [] := va_S.rf
  have hP : va_P D wm_cl (wm_x a k n m rd t p w d g) s.heap := hP
  have hl := lv_entry ([.ref (a 0), .int (nI j)]) (n := 2) (Nat.le_of_ble_eq_true rfl)
  rw [lg_entry_eq]
  generalize (lg_sl ([.ref (a 0), .int (nI j)]) ++ List.replicate (2 - (lg_sl ([.ref (a 0), .int (nI j)])).length) Slot.unset).toArray = ls at hl ⊢
  have hl : lv_has ls 2 [(0, .ref (a 0)), (1, .int (nI j))] := hl
  have hab := hI.1
  obtain ⟨hn40, hm12, ht5, hp5⟩ := hab
  refine lv_aload_n hx hb dX0_wrongAt_0 rfl (lv_at hl 0 rfl) ?_
  refine wm_callv (wr := []) (As := []) (rest := []) ⟨hx, hb, hml, hown, hts⟩ (mx_prepare l D a k _ n m rd t p w d g hI) (cwV 0 hts (lw_V q83 q85 qs1 q14 q86) rfl rfl rfl (by decide +kernel) ⟨Nat.le_of_ble_eq_true rfl, Nat.le_of_ble_eq_true rfl⟩) (va_recv hK hP (ci := 0) (q0 := 0) rfl rfl) hK hP hD hS hA [0, 1, 2, 3, 4, 5, 6] [] [0, 1, 2, 3, 4, 5] rfl rfl rfl (by decide) (by decide) (by decide) rfl rfl hl.1 rfl (Nat.le_of_ble_eq_true rfl) dX0_wrongAt_1 ⟨Nat.zero_le _, Nat.zero_le _⟩ (fun u H locs hq hP hD hS => ?_)
  obtain ⟨rd1, w1, d1, g1⟩ := u
  have hP : va_P D wm_cl (wm_x a k n m rd1 t p w1 d1 g1) H := hP
  have hD : va_D A (wm_x a k n m rd1 t p w1 d1 g1) := hD
  obtain ⟨hq1, hI1⟩ := hq
  have hq1 : rd1 = 1 := hq1
  have hI1 : wm_xi n m rd1 t p w1 d1 g1 := hI1
  refine lv_aload_n hx hb dX0_wrongAt_4 rfl (lv_at hl 0 rfl) ?_
  refine va_get (D := D) (ci := 0) (v := .int (nI m)) (C := RX0) (T := TX0) (N := 9) hx hb hts in_X0 hown hK hP 0 rfl rfl 1 (by decide) (hts _ q25) (fun _ h9 => h9) rfl dX0_wrongAt_5 ?_
  refine wm_zne (tgt := 15) hx hb dX0_wrongAt_8 (by decide) (by omega) (fun hc => ?_) (fun hc => ?_)
  · skip
    have hjn : j < n ∧ m ≤ n := hj.resolve_left hc
    have hok := hI1.2.2.2.2.2 hq1 (by omega) hjn.2 j hjn.1
    refine lv_aload_n hx hb dX0_wrongAt_15 rfl (lv_at hl 0 rfl) ?_
    refine va_get (D := D) (ci := 0) (v := .ref (a 6)) (C := RX0) (T := TX0) (N := 9) hx hb hts in_X0 hown hK hP 0 rfl rfl 8 (by decide) (hts _ q32) (fun _ h9 => h9) rfl dX0_wrongAt_16 ?_
    refine lv_iload_n hx hb dX0_wrongAt_19 rfl (lv_at hl 1 rfl) ?_
    refine wm_iald hx hb hK hP 6 5 rfl rfl (by decide) (by omega) dX0_wrongAt_20 ?_
    exact W.iret (v := nI (g1 j)) hx hb hr (fun T0 hT0 hW0 => ⟨⟨nI (g1 j), (rd1, w1, d1, g1), rfl, ⟨congrArg nI hok.2, hI1⟩, by rw [hT0]; exact hP, va_K.moved hW0.alike hK, hD⟩, hS.F hT0⟩) hS.2.2 dX0_wrongAt_21
  · skip
    refine lv_iconst (v := nI 0) hx hb dX0_wrongAt_11 (by decide +kernel) ?_
    refine lv_goto (tgt := 21) hx hb dX0_wrongAt_12 (by decide) ?_
    exact W.iret (v := nI 0) hx hb hr (fun T0 hT0 hW0 => ⟨⟨nI 0, (rd1, w1, d1, g1), rfl, ⟨by rw [hc]; rfl, hI1⟩, by rw [hT0]; exact hP, va_K.moved hW0.alike hK, hD⟩, hS.F hT0⟩) hS.2.2 dX0_wrongAt_21
set_option maxHeartbeats 4000000 in
set_option maxRecDepth 100000 in
/-- matches -/
theorem mx_matches (l : Launch) (D : va_G) (a : Nat → Nat) (k : Nat → ClassId) (sz n m rd : Nat) (t p w d g : Nat → Nat) (i : Int32) (hI : wm_xi n m rd t p w d g) : Met l yX0_matches (ws_ yX0_matches cX0_matches 2 (some .boolean)) ({ frames := 4, cells := 0, slots := 0, locals := 98 } : Room) (va_Pc [.ref (a 0), .int i] (wm_pre D wm_cl (wm_xt k) (wm_x a k n m rd t p w d g) sz)) (va_Qi (fun (r : Int32) (u : wm_V) => r = wm_mt n m t p i ∧ wm_xi n m u.1 t p u.2.1 u.2.2.1 u.2.2.2) (fun u => wm_is D wm_cl (wm_xt k) (va_A (wm_x a k n m rd t p w d g) sz) (wm_x a k n m u.1 t p u.2.1 u.2.2.1 u.2.2.2)) (va_A (wm_x a k n m rd t p w d g) sz)) 0 0 (va_A (wm_x a k n m rd t p w d g) sz) := by
  refine Met.ofW (cc := cX0_matches) (maxL := 2) (ret := some .boolean) (by decide) rfl ?_
  intro P0 e0 s M0 av bl mt cd s1 B hml hv
  obtain ⟨rfl, hsz, hP, hK, hD0⟩ := hv
  have hx := B.exec
  have hb := B.bytes
  have hr := B.returns
  have hts := atoms_spec (ws := (ws_ yX0_matches cX0_matches 2 (some .boolean))) B.pre
  have hts : ∀ w ∈ lw_all, w.before _ s = true := fun w h => hts w (List.mem_cons_of_mem _ h)
  have hown : s.vm.findClass RX0 = some M0.cls := findClass_of_methodNamed B.named
  have hlocks := B.notSynchronized
  subst hsz
  have hD := hD0.self (sz := s.heap.size)
  generalize hAe : va_A (wm_x a k n m rd t p w d g) s.heap.size = A at hD ⊢
  have hA : ∀ q : Nat, s.heap.size ≤ q → A q := fun q h => by rw [← hAe]; exact Or.inr h
  have hS : va_S A s.heap s.heap [] := va_S.rf
  have hP : va_P D wm_cl (wm_x a k n m rd t p w d g) s.heap := hP
  have hl := lv_entry ([.ref (a 0), .int i]) (n := 2) (Nat.le_of_ble_eq_true rfl)
  rw [lg_entry_eq]
  generalize (lg_sl ([.ref (a 0), .int i]) ++ List.replicate (2 - (lg_sl ([.ref (a 0), .int i])).length) Slot.unset).toArray = ls at hl ⊢
  have hl : lv_has ls 2 [(0, .ref (a 0)), (1, .int i)] := hl
  have hab := hI.1
  obtain ⟨hn40, hm12, ht5, hp5⟩ := hab
  refine lv_aload_n hx hb dX0_matches_0 rfl (lv_at hl 0 rfl) ?_
  refine lv_iload_n hx hb dX0_matches_1 rfl (lv_at hl 1 rfl) ?_
  refine wm_calli (wr := []) (As := [.int i]) (rest := []) ⟨hx, hb, hml, hown, hts⟩ (mx_isShift l D a k _ n m rd t p w d g i) (cwV 1 hts (lw_V q79 q81 qs0 q14 q82) rfl rfl rfl (by decide +kernel) ⟨Nat.le_of_ble_eq_true rfl, Nat.le_of_ble_eq_true rfl⟩) (va_recv hK hP (ci := 0) (q0 := 0) rfl rfl) hK hP hD hS hA [0, 1, 2, 3, 4, 5, 6] [] [0, 1, 2, 3, 4, 5] rfl rfl rfl (by decide) (by decide) (by decide) rfl rfl hl.1 rfl (Nat.le_of_ble_eq_true rfl) dX0_matches_2 ⟨Nat.zero_le _, Nat.zero_le _⟩ (fun r_ u H locs hq hP hD hS => ?_)
  have hP : va_P D wm_cl (wm_x a k n m rd t p w d g) H := hP
  have hD : va_D A (wm_x a k n m rd t p w d g) := hD
  refine lv_if_ne (tgt := 10) hx hb dX0_matches_5 (by decide) (fun hc => ?_) (fun hc => ?_)
  · skip
    have hs : ¬ (i < 0 ∨ nI n - nI m < i) := fun h => hc (by rw [hq, if_pos h])
    obtain ⟨j, rfl, hjm⟩ := wm_shift hn40 hm12 (fun h => hs (Or.inl h)) (fun h => hs (Or.inr h))
    have hmt : wm_mt n m t p (nI j) = if wm_mi n t p j m = 0 then 1 else 0 := by rw [wm_mt, if_neg hs, nI_clamp (by omega)]
    refine lv_aload_n hx hb dX0_matches_10 rfl (lv_at hl 0 rfl) ?_
    refine wm_callv (wr := []) (As := []) (rest := []) ⟨hx, hb, hml, hown, hts⟩ (mx_prepare l D a k _ n m rd t p w d g hI) (cwV 0 hts (lw_V q83 q85 qs1 q14 q86) rfl rfl rfl (by decide +kernel) ⟨Nat.le_of_ble_eq_true rfl, Nat.le_of_ble_eq_true rfl⟩) (va_recv hK hP (ci := 0) (q0 := 0) rfl rfl) hK hP hD hS hA [0, 1, 2, 3, 4, 5, 6] [] [0, 1, 2, 3, 4, 5] rfl rfl rfl (by decide) (by decide) (by decide) rfl rfl hl.1 rfl (Nat.le_of_ble_eq_true rfl) dX0_matches_11 ⟨Nat.zero_le _, Nat.zero_le _⟩ (fun u H locs hq2 hP hD hS => ?_)
    obtain ⟨rd1, w1, d1, g1⟩ := u
    have hP : va_P D wm_cl (wm_x a k n m rd1 t p w1 d1 g1) H := hP
    have hD : va_D A (wm_x a k n m rd1 t p w1 d1 g1) := hD
    obtain ⟨hq1, hI1⟩ := hq2
    have hq1 : rd1 = 1 := hq1
    have hI1 : wm_xi n m rd1 t p w1 d1 g1 := hI1
    refine lv_aload_n hx hb dX0_matches_14 rfl (lv_at hl 0 rfl) ?_
    refine va_get (D := D) (ci := 0) (v := .int (nI m)) (C := RX0) (T := TX0) (N := 9) hx hb hts in_X0 hown hK hP 0 rfl rfl 1 (by decide) (hts _ q25) (fun _ h9 => h9) rfl dX0_matches_15 ?_
    refine wm_zeq (tgt := 30) hx hb dX0_matches_18 (by decide) (by omega) (fun hm0 => ?_) (fun hm0 => ?_)
    · skip
      refine lv_iconst (v := nI 1) hx hb dX0_matches_30 (by decide +kernel) ?_
      refine lv_goto (tgt := 35) hx hb dX0_matches_31 (by decide) ?_
      exact W.zret (v := nI 1) hx hb hr (by first | rfl | decide +kernel) (fun T0 hT0 hW0 => ⟨⟨nI 1, (rd1, w1, d1, g1), rfl, ⟨by rw [hmt, hm0]; rfl, hI1⟩, by rw [hT0]; exact hP, va_K.moved hW0.alike hK, hD⟩, hS.F hT0⟩) hS.2.2 dX0_matches_35
    · skip
      have hok := hI1.2.2.2.2.2 hq1 (by omega) (by omega) j (by omega)
      have hdj : d1 j < 7681 := hI1.2.2.2.1 j
      refine lv_aload_n hx hb dX0_matches_21 rfl (lv_at hl 0 rfl) ?_
      refine va_get (D := D) (ci := 0) (v := .ref (a 5)) (C := RX0) (T := TX0) (N := 9) hx hb hts in_X0 hown hK hP 0 rfl rfl 7 (by decide) (hts _ q31) (fun _ h9 => h9) rfl dX0_matches_22 ?_
      refine lv_iload_n hx hb dX0_matches_25 rfl (lv_at hl 1 rfl) ?_
      refine wm_iald hx hb hK hP 5 4 rfl rfl (by decide) (by omega) dX0_matches_26 ?_
      refine wm_zne (tgt := 34) hx hb dX0_matches_27 (by decide) (by omega) (fun hd => ?_) (fun hd => ?_)
      · skip
        refine lv_iconst (v := nI 0) hx hb dX0_matches_34 (by decide +kernel) ?_
        exact W.zret (v := nI 0) hx hb hr (by first | rfl | decide +kernel) (fun T0 hT0 hW0 => ⟨⟨nI 0, (rd1, w1, d1, g1), rfl, ⟨by rw [hmt, if_neg (fun h => hd (hok.1.mpr h))]; rfl, hI1⟩, by rw [hT0]; exact hP, va_K.moved hW0.alike hK, hD⟩, hS.F hT0⟩) hS.2.2 dX0_matches_35
      · skip
        refine lv_iconst (v := nI 1) hx hb dX0_matches_30 (by decide +kernel) ?_
        refine lv_goto (tgt := 35) hx hb dX0_matches_31 (by decide) ?_
        exact W.zret (v := nI 1) hx hb hr (by first | rfl | decide +kernel) (fun T0 hT0 hW0 => ⟨⟨nI 1, (rd1, w1, d1, g1), rfl, ⟨by rw [hmt, if_pos (hok.1.mp hd)]; rfl, hI1⟩, by rw [hT0]; exact hP, va_K.moved hW0.alike hK, hD⟩, hS.F hT0⟩) hS.2.2 dX0_matches_35
  · skip
    refine lv_iconst (v := nI 0) hx hb dX0_matches_8 (by decide +kernel) ?_
    have hs : i < 0 ∨ nI n - nI m < i := by
      by_cases h : i < 0 ∨ nI n - nI m < i
      · exact h
      · rw [if_neg h] at hq
        rw [hq] at hc
        exact absurd hc (by decide)
    exact W.zret (v := nI 0) hx hb hr (by first | rfl | decide +kernel) (fun T0 hT0 hW0 => ⟨⟨nI 0, (rd, w, d, g), rfl, ⟨by rw [wm_mt, if_pos hs]; rfl, hI⟩, by rw [hT0]; exact hP, va_K.moved hW0.alike hK, hD⟩, hS.F hT0⟩) hS.2.2 dX0_matches_9
end
section
set_option maxHeartbeats 4000000 in
set_option maxRecDepth 100000 in
/-- matchCount -/
theorem mx_matchCount (l : Launch) (D : va_G) (a : Nat → Nat) (k : Nat → ClassId) (sz n m rd : Nat) (t p w d g : Nat → Nat)  (hI : wm_xi n m rd t p w d g) : Met l yX0_matchCount (ws_ yX0_matchCount cX0_matchCount 3 (some .int)) ({ frames := 5, cells := 0, slots := 0, locals := 119 } : Room) (va_Pc [.ref (a 0)] (wm_pre D wm_cl (wm_xt k) (wm_x a k n m rd t p w d g) sz)) (va_Qi (fun (r : Int32) (u : wm_V) => r = wm_mc n m t p ∧ wm_xi n m u.1 t p u.2.1 u.2.2.1 u.2.2.2) (fun u => wm_is D wm_cl (wm_xt k) (va_A (wm_x a k n m rd t p w d g) sz) (wm_x a k n m u.1 t p u.2.1 u.2.2.1 u.2.2.2)) (va_A (wm_x a k n m rd t p w d g) sz)) 0 0 (va_A (wm_x a k n m rd t p w d g) sz) := by
  refine Met.ofW (cc := cX0_matchCount) (maxL := 3) (ret := some .int) (by decide) rfl ?_
  intro P0 e0 s M0 av bl mt cd s1 B hml hv
  obtain ⟨rfl, hsz, hP, hK, hD0⟩ := hv
  have hx := B.exec
  have hb := B.bytes
  have hr := B.returns
  have hts := atoms_spec (ws := (ws_ yX0_matchCount cX0_matchCount 3 (some .int))) B.pre
  have hts : ∀ w ∈ lw_all, w.before _ s = true := fun w h => hts w (List.mem_cons_of_mem _ h)
  have hown : s.vm.findClass RX0 = some M0.cls := findClass_of_methodNamed B.named
  have hlocks := B.notSynchronized
  subst hsz
  have hD := hD0.self (sz := s.heap.size)
  generalize hAe : va_A (wm_x a k n m rd t p w d g) s.heap.size = A at hD ⊢
  have hA : ∀ q : Nat, s.heap.size ≤ q → A q := fun q h => by rw [← hAe]; exact Or.inr h
  have hS : va_S A s.heap s.heap [] := va_S.rf
  have hP : va_P D wm_cl (wm_x a k n m rd t p w d g) s.heap := hP
  have hl := lv_entry ([.ref (a 0)]) (n := 3) (Nat.le_of_ble_eq_true rfl)
  rw [lg_entry_eq]
  generalize (lg_sl ([.ref (a 0)]) ++ List.replicate (3 - (lg_sl ([.ref (a 0)])).length) Slot.unset).toArray = ls at hl ⊢
  have hl : lv_has ls 3 [(0, .ref (a 0))] := hl
  have hab := hI.1
  obtain ⟨hn40, hm12, ht5, hp5⟩ := id hab
  refine lv_iconst (v := nI 0) hx hb dX0_matchCount_0 (by decide +kernel) ?_
  refine lv_istore_n (lv' := [(1, .int (nI 0)), (0, .ref (a 0))]) hx hb dX0_matchCount_1 rfl hl (by decide) rfl (fun ls hl => ?_)
  refine lv_iconst (v := nI 0) hx hb dX0_matchCount_2 (by decide +kernel) ?_
  refine lv_istore_n (lv' := [(2, .int (nI 0)), (1, .int (nI 0)), (0, .ref (a 0))]) hx hb dX0_matchCount_3 rfl hl (by decide) rfl (fun ls hl => ?_)
  have loop : ∀ (r i : Nat) (rd1 : Nat) (w1 d1 g1 : Nat → Nat), i + r = n + 1 - m → wm_xi n m rd1 t p w1 d1 g1 → ∀ (H : Heap) (locs : List Loc) (ls : Array Slot), va_P D wm_cl (wm_x a k n m rd1 t p w1 d1 g1) H → va_D A (wm_x a k n m rd1 t p w1 d1 g1) → va_S A s.heap H locs → lv_has ls 3 [(0, .ref (a 0)), (1, .int (nI (wm_ct (fun i => decide (wm_mi n t p i m = 0)) i))), (2, .int (nI i))] → W P0 l e0 (headSpec (ws_ yX0_matchCount cX0_matchCount 3 (some .int)) ({ frames := 5, cells := 0, slots := 0, locals := 119 } : Room)).room s M0 ([.ref (a 0)] : List Value).toArray bl mt cd H locs 0 0 (MQ bl (va_Qi (fun (r : Int32) (u : wm_V) => r = wm_mc n m t p ∧ wm_xi n m u.1 t p u.2.1 u.2.2.1 u.2.2.2) (fun u => wm_is D wm_cl (wm_xt k) A (wm_x a k n m u.1 t p u.2.1 u.2.2.1 u.2.2.2)) A) ([.ref (a 0)] : List Value).toArray s 0 0 A) (F0 M0 4 ls []) := by
    intro r
    induction r with
    | zero =>
      intro i rd1 w1 d1 g1 hi hI 
      intro H locs ls hP hD hS hl
      refine lv_iload_n hx hb dX0_matchCount_4 rfl (lv_at hl 2 rfl) ?_
      refine lv_aload_n hx hb dX0_matchCount_5 rfl (lv_at hl 0 rfl) ?_
      refine va_get (D := D) (ci := 0) (v := .int (nI n)) (C := RX0) (T := TX0) (N := 9) hx hb hts in_X0 hown hK hP 0 rfl rfl 0 (by decide) (hts _ q24) (fun _ h9 => h9) rfl dX0_matchCount_6 ?_
      refine lv_aload_n hx hb dX0_matchCount_9 rfl (lv_at hl 0 rfl) ?_
      refine va_get (D := D) (ci := 0) (v := .int (nI m)) (C := RX0) (T := TX0) (N := 9) hx hb hts in_X0 hown hK hP 0 rfl rfl 1 (by decide) (hts _ q25) (fun _ h9 => h9) rfl dX0_matchCount_10 ?_
      refine lv_isub hx hb dX0_matchCount_13 ?_
      refine lv_icmp_gt (tgt := 34) hx hb dX0_matchCount_14 (by decide) (fun hc => ?_) (fun hc => ?_)
      · skip
        have hin : i = n + 1 - m := by omega
        refine lv_iload_n hx hb dX0_matchCount_34 rfl (lv_at hl 1 rfl) ?_
        exact W.iret (v := nI (wm_ct (fun i => decide (wm_mi n t p i m = 0)) i)) hx hb hr (fun T0 hT0 hW0 => ⟨⟨nI (wm_ct (fun i => decide (wm_mi n t p i m = 0)) i), (rd1, w1, d1, g1), rfl, ⟨(by rw [wm_mc, hin]), hI⟩, by rw [hT0]; exact hP, va_K.moved hW0.alike hK, hD⟩, hS.F hT0⟩) hS.2.2 dX0_matchCount_35
      · exact absurd ((wm_shiftI hn40 hm12 (by omega)).mpr (by omega)) hc
    | succ r ih =>
      intro i rd1 w1 d1 g1 hi hI 
      intro H locs ls hP hD hS hl
      have hci := wm_ct_le (fun i => decide (wm_mi n t p i m = 0)) i
      refine lv_iload_n hx hb dX0_matchCount_4 rfl (lv_at hl 2 rfl) ?_
      refine lv_aload_n hx hb dX0_matchCount_5 rfl (lv_at hl 0 rfl) ?_
      refine va_get (D := D) (ci := 0) (v := .int (nI n)) (C := RX0) (T := TX0) (N := 9) hx hb hts in_X0 hown hK hP 0 rfl rfl 0 (by decide) (hts _ q24) (fun _ h9 => h9) rfl dX0_matchCount_6 ?_
      refine lv_aload_n hx hb dX0_matchCount_9 rfl (lv_at hl 0 rfl) ?_
      refine va_get (D := D) (ci := 0) (v := .int (nI m)) (C := RX0) (T := TX0) (N := 9) hx hb hts in_X0 hown hK hP 0 rfl rfl 1 (by decide) (hts _ q25) (fun _ h9 => h9) rfl dX0_matchCount_10 ?_
      refine lv_isub hx hb dX0_matchCount_13 ?_
      refine lv_icmp_gt (tgt := 34) hx hb dX0_matchCount_14 (by decide) (fun hc => ?_) (fun hc => ?_)
      · exact absurd ((wm_shiftI hn40 hm12 (by omega)).mp hc) (by omega)
      · skip
        have hmt : wm_mt n m t p (nI i) = if wm_mi n t p i m = 0 then 1 else 0 := by rw [wm_mt, if_neg (fun h => h.elim (nI_pos (by omega)) hc), nI_clamp (by omega)]
        refine lv_aload_n hx hb dX0_matchCount_17 rfl (lv_at hl 0 rfl) ?_
        refine lv_iload_n hx hb dX0_matchCount_18 rfl (lv_at hl 2 rfl) ?_
        refine wm_calli (wr := []) (As := [.int (nI i)]) (rest := []) ⟨hx, hb, hml, hown, hts⟩ (mx_matches l D a k _ n m rd1 t p w1 d1 g1 (nI i) hI) (cwV 1 hts (lw_V q119 q76 q77 q14 q78) rfl rfl rfl (by decide +kernel) ⟨Nat.le_of_ble_eq_true rfl, Nat.le_of_ble_eq_true rfl⟩) (va_recv hK hP (ci := 0) (q0 := 0) rfl rfl) hK hP hD hS hA [0, 1, 2, 3, 4, 5, 6] [] [0, 1, 2, 3, 4, 5] rfl rfl rfl (by decide) (by decide) (by decide) rfl rfl hl.1 rfl (Nat.le_of_ble_eq_true rfl) dX0_matchCount_19 ⟨Nat.zero_le _, Nat.zero_le _⟩ (fun r_ u H locs hq hP hD hS => ?_)
        obtain ⟨rd2, w2, d2, g2⟩ := u
        have hP : va_P D wm_cl (wm_x a k n m rd2 t p w2 d2 g2) H := hP
        have hD : va_D A (wm_x a k n m rd2 t p w2 d2 g2) := hD
        obtain ⟨hq, hI⟩ := hq
        have hI : wm_xi n m rd2 t p w2 d2 g2 := hI
        have hq : r_ = wm_mt n m t p (nI i) := hq
        subst hq
        refine lv_if_eq (tgt := 28) hx hb dX0_matchCount_22 (by decide) (fun hd => ?_) (fun hd => ?_)
        · skip
          have hz : ¬ wm_mi n t p i m = 0 := fun h => by rw [hmt, if_pos h] at hd; exact absurd hd (by decide)
          have e : wm_ct (fun i => decide (wm_mi n t p i m = 0)) (i + 1) = wm_ct (fun i => decide (wm_mi n t p i m = 0)) i := by rw [wm_ct, if_neg (by simp [hz])]; rfl
          refine lv_iinc (v := nI (i + 1)) (lv' := [(2, .int (nI (i + 1))), (0, .ref (a 0)), (1, .int (nI (wm_ct (fun i => decide (wm_mi n t p i m = 0)) i)))]) hx hb dX0_matchCount_28 hl (k := 2) rfl (wm_inc i) (by decide) rfl (fun ls hl => ?_)
          refine lv_goto (tgt := 4) hx hb dX0_matchCount_31 (by decide) ?_
          exact ih (i + 1) rd2 w2 d2 g2 (by omega) hI _ _ _ hP hD hS (by rw [e]; exact lv_sub hl [1, 2, 0] rfl)
        · skip
          have hz : wm_mi n t p i m = 0 := by
            by_cases h : wm_mi n t p i m = 0
            · exact h
            · rw [hmt, if_neg h] at hd
              exact absurd rfl hd
          have e : wm_ct (fun i => decide (wm_mi n t p i m = 0)) (i + 1) = wm_ct (fun i => decide (wm_mi n t p i m = 0)) i + 1 := by rw [wm_ct, if_pos (by simp [hz])]
          refine lv_iinc (v := nI ((wm_ct (fun i => decide (wm_mi n t p i m = 0)) i) + 1)) (lv' := [(1, .int (nI ((wm_ct (fun i => decide (wm_mi n t p i m = 0)) i) + 1))), (0, .ref (a 0)), (2, .int (nI i))]) hx hb dX0_matchCount_25 hl (k := 1) rfl (wm_inc (wm_ct (fun i => decide (wm_mi n t p i m = 0)) i)) (by decide) rfl (fun ls hl => ?_)
          refine lv_iinc (v := nI (i + 1)) (lv' := [(2, .int (nI (i + 1))), (1, .int (nI ((wm_ct (fun i => decide (wm_mi n t p i m = 0)) i) + 1))), (0, .ref (a 0))]) hx hb dX0_matchCount_28 hl (k := 2) rfl (wm_inc i) (by decide) rfl (fun ls hl => ?_)
          refine lv_goto (tgt := 4) hx hb dX0_matchCount_31 (by decide) ?_
          exact ih (i + 1) rd2 w2 d2 g2 (by omega) hI _ _ _ hP hD hS (by rw [e]; exact lv_sub hl [2, 1, 0] rfl)
  exact loop (n + 1 - m) 0 rd w d g (by omega) hI _ _ _ hP hD hS (lv_sub hl [2, 1, 0] rfl)
set_option maxHeartbeats 4000000 in
set_option maxRecDepth 100000 in
/-- nextMatch -/
theorem mx_nextMatch (l : Launch) (D : va_G) (a : Nat → Nat) (k : Nat → ClassId) (sz n m rd : Nat) (t p w d g : Nat → Nat) (f : Int32) (hI : wm_xi n m rd t p w d g) : Met l yX0_nextMatch (ws_ yX0_nextMatch cX0_nextMatch 3 (some .int)) ({ frames := 5, cells := 0, slots := 0, locals := 119 } : Room) (va_Pc [.ref (a 0), .int f] (wm_pre D wm_cl (wm_xt k) (wm_x a k n m rd t p w d g) sz)) (va_Qi (fun (r : Int32) (u : wm_V) => r = wm_nx n m t p f ∧ wm_xi n m u.1 t p u.2.1 u.2.2.1 u.2.2.2) (fun u => wm_is D wm_cl (wm_xt k) (va_A (wm_x a k n m rd t p w d g) sz) (wm_x a k n m u.1 t p u.2.1 u.2.2.1 u.2.2.2)) (va_A (wm_x a k n m rd t p w d g) sz)) 0 0 (va_A (wm_x a k n m rd t p w d g) sz) := by
  refine Met.ofW (cc := cX0_nextMatch) (maxL := 3) (ret := some .int) (by decide) rfl ?_
  intro P0 e0 s M0 av bl mt cd s1 B hml hv
  obtain ⟨rfl, hsz, hP, hK, hD0⟩ := hv
  have hx := B.exec
  have hb := B.bytes
  have hr := B.returns
  have hts := atoms_spec (ws := (ws_ yX0_nextMatch cX0_nextMatch 3 (some .int))) B.pre
  have hts : ∀ w ∈ lw_all, w.before _ s = true := fun w h => hts w (List.mem_cons_of_mem _ h)
  have hown : s.vm.findClass RX0 = some M0.cls := findClass_of_methodNamed B.named
  have hlocks := B.notSynchronized
  subst hsz
  have hD := hD0.self (sz := s.heap.size)
  generalize hAe : va_A (wm_x a k n m rd t p w d g) s.heap.size = A at hD ⊢
  have hA : ∀ q : Nat, s.heap.size ≤ q → A q := fun q h => by rw [← hAe]; exact Or.inr h
  have hS : va_S A s.heap s.heap [] := va_S.rf
  have hP : va_P D wm_cl (wm_x a k n m rd t p w d g) s.heap := hP
  have hl := lv_entry ([.ref (a 0), .int f]) (n := 3) (Nat.le_of_ble_eq_true rfl)
  rw [lg_entry_eq]
  generalize (lg_sl ([.ref (a 0), .int f]) ++ List.replicate (3 - (lg_sl ([.ref (a 0), .int f])).length) Slot.unset).toArray = ls at hl ⊢
  have hl : lv_has ls 3 [(0, .ref (a 0)), (1, .int f)] := hl
  have hab := hI.1
  obtain ⟨hn40, hm12, ht5, hp5⟩ := id hab
  refine lv_iconst (v := nI 0) hx hb dX0_nextMatch_0 (by decide +kernel) ?_
  refine lv_istore_n (lv' := [(2, .int (nI 0)), (0, .ref (a 0)), (1, .int f)]) hx hb dX0_nextMatch_1 rfl hl (by decide) rfl (fun ls hl => ?_)
  have loop : ∀ (r i : Nat) (rd1 : Nat) (w1 d1 g1 : Nat → Nat), i + r = n + 1 - m → wm_xi n m rd1 t p w1 d1 g1 → wm_nx n m t p f = wm_fd (fun i => !decide (nI i < f) && decide (wm_mi n t p i m = 0)) r i → ∀ (H : Heap) (locs : List Loc) (ls : Array Slot), va_P D wm_cl (wm_x a k n m rd1 t p w1 d1 g1) H → va_D A (wm_x a k n m rd1 t p w1 d1 g1) → va_S A s.heap H locs → lv_has ls 3 [(0, .ref (a 0)), (1, .int f), (2, .int (nI i))] → W P0 l e0 (headSpec (ws_ yX0_nextMatch cX0_nextMatch 3 (some .int)) ({ frames := 5, cells := 0, slots := 0, locals := 119 } : Room)).room s M0 ([.ref (a 0), .int f] : List Value).toArray bl mt cd H locs 0 0 (MQ bl (va_Qi (fun (r : Int32) (u : wm_V) => r = wm_nx n m t p f ∧ wm_xi n m u.1 t p u.2.1 u.2.2.1 u.2.2.2) (fun u => wm_is D wm_cl (wm_xt k) A (wm_x a k n m u.1 t p u.2.1 u.2.2.1 u.2.2.2)) A) ([.ref (a 0), .int f] : List Value).toArray s 0 0 A) (F0 M0 2 ls []) := by
    intro r
    induction r with
    | zero =>
      intro i rd1 w1 d1 g1 hi hI he
      intro H locs ls hP hD hS hl
      refine lv_iload_n hx hb dX0_nextMatch_2 rfl (lv_at hl 2 rfl) ?_
      refine lv_aload_n hx hb dX0_nextMatch_3 rfl (lv_at hl 0 rfl) ?_
      refine va_get (D := D) (ci := 0) (v := .int (nI n)) (C := RX0) (T := TX0) (N := 9) hx hb hts in_X0 hown hK hP 0 rfl rfl 0 (by decide) (hts _ q24) (fun _ h9 => h9) rfl dX0_nextMatch_4 ?_
      refine lv_aload_n hx hb dX0_nextMatch_7 rfl (lv_at hl 0 rfl) ?_
      refine va_get (D := D) (ci := 0) (v := .int (nI m)) (C := RX0) (T := TX0) (N := 9) hx hb hts in_X0 hown hK hP 0 rfl rfl 1 (by decide) (hts _ q25) (fun _ h9 => h9) rfl dX0_nextMatch_8 ?_
      refine lv_isub hx hb dX0_nextMatch_11 ?_
      refine lv_icmp_gt (tgt := 36) hx hb dX0_nextMatch_12 (by decide) (fun hc => ?_) (fun hc => ?_)
      · skip
        refine lv_bipush (v := (-3)) hx hb dX0_nextMatch_36 (by decide +kernel) ?_
        exact W.iret (v := (-3)) hx hb hr (fun T0 hT0 hW0 => ⟨⟨(-3), (rd1, w1, d1, g1), rfl, ⟨(by rw [he]; rfl), hI⟩, by rw [hT0]; exact hP, va_K.moved hW0.alike hK, hD⟩, hS.F hT0⟩) hS.2.2 dX0_nextMatch_38
      · exact absurd ((wm_shiftI hn40 hm12 (by omega)).mpr (by omega)) hc
    | succ r ih =>
      intro i rd1 w1 d1 g1 hi hI he
      intro H locs ls hP hD hS hl
      refine lv_iload_n hx hb dX0_nextMatch_2 rfl (lv_at hl 2 rfl) ?_
      refine lv_aload_n hx hb dX0_nextMatch_3 rfl (lv_at hl 0 rfl) ?_
      refine va_get (D := D) (ci := 0) (v := .int (nI n)) (C := RX0) (T := TX0) (N := 9) hx hb hts in_X0 hown hK hP 0 rfl rfl 0 (by decide) (hts _ q24) (fun _ h9 => h9) rfl dX0_nextMatch_4 ?_
      refine lv_aload_n hx hb dX0_nextMatch_7 rfl (lv_at hl 0 rfl) ?_
      refine va_get (D := D) (ci := 0) (v := .int (nI m)) (C := RX0) (T := TX0) (N := 9) hx hb hts in_X0 hown hK hP 0 rfl rfl 1 (by decide) (hts _ q25) (fun _ h9 => h9) rfl dX0_nextMatch_8 ?_
      refine lv_isub hx hb dX0_nextMatch_11 ?_
      refine lv_icmp_gt (tgt := 36) hx hb dX0_nextMatch_12 (by decide) (fun hc => ?_) (fun hc => ?_)
      · exact absurd ((wm_shiftI hn40 hm12 (by omega)).mp hc) (by omega)
      · skip
        have hmt : wm_mt n m t p (nI i) = if wm_mi n t p i m = 0 then 1 else 0 := by rw [wm_mt, if_neg (fun h => h.elim (nI_pos (by omega)) hc), nI_clamp (by omega)]
        refine lv_iload_n hx hb dX0_nextMatch_15 rfl (lv_at hl 2 rfl) ?_
        refine lv_iload_n hx hb dX0_nextMatch_16 rfl (lv_at hl 1 rfl) ?_
        refine lv_icmp_lt (tgt := 30) hx hb dX0_nextMatch_17 (by decide) (fun hd => ?_) (fun hd => ?_)
        · skip
          refine lv_iinc (v := nI (i + 1)) (lv' := [(2, .int (nI (i + 1))), (0, .ref (a 0)), (1, .int f)]) hx hb dX0_nextMatch_30 hl (k := 2) rfl (wm_inc i) (by decide) rfl (fun ls hl => ?_)
          refine lv_goto (tgt := 2) hx hb dX0_nextMatch_33 (by decide) ?_
          exact ih (i + 1) rd1 w1 d1 g1 (by omega) hI (by rw [he, wm_fd, if_neg (by simp [hd])]) _ _ _ hP hD hS (lv_sub hl [1, 2, 0] rfl)
        · skip
          refine lv_aload_n hx hb dX0_nextMatch_20 rfl (lv_at hl 0 rfl) ?_
          refine lv_iload_n hx hb dX0_nextMatch_21 rfl (lv_at hl 2 rfl) ?_
          refine wm_calli (wr := []) (As := [.int (nI i)]) (rest := []) ⟨hx, hb, hml, hown, hts⟩ (mx_matches l D a k _ n m rd1 t p w1 d1 g1 (nI i) hI) (cwV 1 hts (lw_V q119 q76 q77 q14 q78) rfl rfl rfl (by decide +kernel) ⟨Nat.le_of_ble_eq_true rfl, Nat.le_of_ble_eq_true rfl⟩) (va_recv hK hP (ci := 0) (q0 := 0) rfl rfl) hK hP hD hS hA [0, 1, 2, 3, 4, 5, 6] [] [0, 1, 2, 3, 4, 5] rfl rfl rfl (by decide) (by decide) (by decide) rfl rfl hl.1 rfl (Nat.le_of_ble_eq_true rfl) dX0_nextMatch_22 ⟨Nat.zero_le _, Nat.zero_le _⟩ (fun r_ u H locs hq hP hD hS => ?_)
          obtain ⟨rd2, w2, d2, g2⟩ := u
          have hP : va_P D wm_cl (wm_x a k n m rd2 t p w2 d2 g2) H := hP
          have hD : va_D A (wm_x a k n m rd2 t p w2 d2 g2) := hD
          obtain ⟨hq, hI⟩ := hq
          have hI : wm_xi n m rd2 t p w2 d2 g2 := hI
          have hq : r_ = wm_mt n m t p (nI i) := hq
          subst hq
          refine lv_if_eq (tgt := 30) hx hb dX0_nextMatch_25 (by decide) (fun hd3 => ?_) (fun hd3 => ?_)
          · skip
            have hz : ¬ wm_mi n t p i m = 0 := fun h => by rw [hmt, if_pos h] at hd3; exact absurd hd3 (by decide)
            refine lv_iinc (v := nI (i + 1)) (lv' := [(2, .int (nI (i + 1))), (0, .ref (a 0)), (1, .int f)]) hx hb dX0_nextMatch_30 hl (k := 2) rfl (wm_inc i) (by decide) rfl (fun ls hl => ?_)
            refine lv_goto (tgt := 2) hx hb dX0_nextMatch_33 (by decide) ?_
            exact ih (i + 1) rd2 w2 d2 g2 (by omega) hI (by rw [he, wm_fd, if_neg (by simp [hz])]) _ _ _ hP hD hS (lv_sub hl [1, 2, 0] rfl)
          · skip
            have hz : wm_mi n t p i m = 0 := by
              by_cases h : wm_mi n t p i m = 0
              · exact h
              · rw [hmt, if_neg h] at hd3
                exact absurd rfl hd3
            refine lv_iload_n hx hb dX0_nextMatch_28 rfl (lv_at hl 2 rfl) ?_
            exact W.iret (v := nI i) hx hb hr (fun T0 hT0 hW0 => ⟨⟨nI i, (rd2, w2, d2, g2), rfl, ⟨(by rw [he, wm_fd, if_pos (by simp only [hz, decide_true, Bool.and_true, Bool.not_eq_true', decide_eq_false_iff_not]; exact hd)]), hI⟩, by rw [hT0]; exact hP, va_K.moved hW0.alike hK, hD⟩, hS.F hT0⟩) hS.2.2 dX0_nextMatch_29
  exact loop (n + 1 - m) 0 rd w d g (by omega) hI rfl _ _ _ hP hD hS (lv_sub hl [1, 2, 0] rfl)
set_option maxHeartbeats 4000000 in
set_option maxRecDepth 100000 in
/-- mismatches -/
theorem mx_mismatches (l : Launch) (D : va_G) (a : Nat → Nat) (k : Nat → ClassId) (sz n m rd : Nat) (t p w d g : Nat → Nat) (i : Int32) (hI : wm_xi n m rd t p w d g) : Met l yX0_mismatches (ws_ yX0_mismatches cX0_mismatches 2 (some .int)) ({ frames := 5, cells := 0, slots := 0, locals := 119 } : Room) (va_Pc [.ref (a 0), .int i] (wm_pre D wm_cl (wm_xt k) (wm_x a k n m rd t p w d g) sz)) (va_Qi (fun (r : Int32) (u : wm_V) => r = wm_mm n m t p i ∧ wm_xi n m u.1 t p u.2.1 u.2.2.1 u.2.2.2) (fun u => wm_is D wm_cl (wm_xt k) (va_A (wm_x a k n m rd t p w d g) sz) (wm_x a k n m u.1 t p u.2.1 u.2.2.1 u.2.2.2)) (va_A (wm_x a k n m rd t p w d g) sz)) 0 0 (va_A (wm_x a k n m rd t p w d g) sz) := by
  refine Met.ofW (cc := cX0_mismatches) (maxL := 2) (ret := some .int) (by decide) rfl ?_
  intro P0 e0 s M0 av bl mt cd s1 B hml hv
  obtain ⟨rfl, hsz, hP, hK, hD0⟩ := hv
  have hx := B.exec
  have hb := B.bytes
  have hr := B.returns
  have hts := atoms_spec (ws := (ws_ yX0_mismatches cX0_mismatches 2 (some .int))) B.pre
  have hts : ∀ w ∈ lw_all, w.before _ s = true := fun w h => hts w (List.mem_cons_of_mem _ h)
  have hown : s.vm.findClass RX0 = some M0.cls := findClass_of_methodNamed B.named
  have hlocks := B.notSynchronized
  subst hsz
  have hD := hD0.self (sz := s.heap.size)
  generalize hAe : va_A (wm_x a k n m rd t p w d g) s.heap.size = A at hD ⊢
  have hA : ∀ q : Nat, s.heap.size ≤ q → A q := fun q h => by rw [← hAe]; exact Or.inr h
  have hS : va_S A s.heap s.heap [] := va_S.rf
  have hP : va_P D wm_cl (wm_x a k n m rd t p w d g) s.heap := hP
  have hl := lv_entry ([.ref (a 0), .int i]) (n := 2) (Nat.le_of_ble_eq_true rfl)
  rw [lg_entry_eq]
  generalize (lg_sl ([.ref (a 0), .int i]) ++ List.replicate (2 - (lg_sl ([.ref (a 0), .int i])).length) Slot.unset).toArray = ls at hl ⊢
  have hl : lv_has ls 2 [(0, .ref (a 0)), (1, .int i)] := hl
  have hab := hI.1
  obtain ⟨hn40, hm12, ht5, hp5⟩ := id hab
  refine lv_aload_n hx hb dX0_mismatches_0 rfl (lv_at hl 0 rfl) ?_
  refine lv_iload_n hx hb dX0_mismatches_1 rfl (lv_at hl 1 rfl) ?_
  refine wm_calli (wr := []) (As := [.int i]) (rest := []) ⟨hx, hb, hml, hown, hts⟩ (mx_isShift l D a k _ n m rd t p w d g i) (cwV 1 hts (lw_V q79 q81 qs0 q14 q82) rfl rfl rfl (by decide +kernel) ⟨Nat.le_of_ble_eq_true rfl, Nat.le_of_ble_eq_true rfl⟩) (va_recv hK hP (ci := 0) (q0 := 0) rfl rfl) hK hP hD hS hA [0, 1, 2, 3, 4, 5, 6] [] [0, 1, 2, 3, 4, 5] rfl rfl rfl (by decide) (by decide) (by decide) rfl rfl hl.1 rfl (Nat.le_of_ble_eq_true rfl) dX0_mismatches_2 ⟨Nat.zero_le _, Nat.zero_le _⟩ (fun r_ u H locs hq hP hD hS => ?_)
  have hP : va_P D wm_cl (wm_x a k n m rd t p w d g) H := hP
  have hD : va_D A (wm_x a k n m rd t p w d g) := hD
  refine lv_if_eq (tgt := 16) hx hb dX0_mismatches_5 (by decide) (fun hc => ?_) (fun hc => ?_)
  · skip
    have hs : i < 0 ∨ nI n - nI m < i := by
      by_cases h : i < 0 ∨ nI n - nI m < i
      · exact h
      · rw [if_neg h] at hq
        rw [hq] at hc
        exact absurd hc (by decide)
    refine lv_bipush (v := (-2)) hx hb dX0_mismatches_16 (by decide +kernel) ?_
    exact W.iret (v := (-2)) hx hb hr (fun T0 hT0 hW0 => ⟨⟨(-2), (rd, w, d, g), rfl, ⟨(by rw [wm_mm, if_pos hs]), hI⟩, by rw [hT0]; exact hP, va_K.moved hW0.alike hK, hD⟩, hS.F hT0⟩) hS.2.2 dX0_mismatches_18
  · skip
    have hs : ¬ (i < 0 ∨ nI n - nI m < i) := fun h => hc (by rw [hq, if_pos h])
    obtain ⟨j, rfl, hjm⟩ := wm_shift hn40 hm12 (fun h => hs (Or.inl h)) (fun h => hs (Or.inr h))
    refine lv_aload_n hx hb dX0_mismatches_8 rfl (lv_at hl 0 rfl) ?_
    refine lv_iload_n hx hb dX0_mismatches_9 rfl (lv_at hl 1 rfl) ?_
    refine wm_calli (wr := []) (As := [.int (nI j)]) (rest := []) ⟨hx, hb, hml, hown, hts⟩ (mx_wrongAt l D a k _ n m rd t p w d g j hI (by omega)) (cwV 1 hts (lw_V q128 q130 qs9 q14 q131) rfl rfl rfl (by decide +kernel) ⟨Nat.le_of_ble_eq_true rfl, Nat.le_of_ble_eq_true rfl⟩) (va_recv hK hP (ci := 0) (q0 := 0) rfl rfl) hK hP hD hS hA [0, 1, 2, 3, 4, 5, 6] [] [0, 1, 2, 3, 4, 5] rfl rfl rfl (by decide) (by decide) (by decide) rfl rfl hl.1 rfl (Nat.le_of_ble_eq_true rfl) dX0_mismatches_10 ⟨Nat.zero_le _, Nat.zero_le _⟩ (fun r_ u H locs hq hP hD hS => ?_)
    obtain ⟨rd2, w2, d2, g2⟩ := u
    have hP : va_P D wm_cl (wm_x a k n m rd2 t p w2 d2 g2) H := hP
    have hD : va_D A (wm_x a k n m rd2 t p w2 d2 g2) := hD
    obtain ⟨hq, hI⟩ := hq
    have hI : wm_xi n m rd2 t p w2 d2 g2 := hI
    have hq : r_ = nI (wm_mi n t p j m) := hq
    subst hq
    refine lv_goto (tgt := 18) hx hb dX0_mismatches_13 (by decide) ?_
    exact W.iret (v := nI (wm_mi n t p j m)) hx hb hr (fun T0 hT0 hW0 => ⟨⟨nI (wm_mi n t p j m), (rd2, w2, d2, g2), rfl, ⟨(by rw [wm_mm, if_neg hs, nI_clamp (by omega)]), hI⟩, by rw [hT0]; exact hP, va_K.moved hW0.alike hK, hD⟩, hS.F hT0⟩) hS.2.2 dX0_mismatches_18
end
section
set_option maxHeartbeats 4000000 in
set_option maxRecDepth 100000 in
/-- bestShift -/
theorem mx_bestShift (l : Launch) (D : va_G) (a : Nat → Nat) (k : Nat → ClassId) (sz n m rd : Nat) (t p w d g : Nat → Nat)  (hI : wm_xi n m rd t p w d g) : Met l yX0_bestShift (ws_ yX0_bestShift cX0_bestShift 5 (some .int)) ({ frames := 5, cells := 0, slots := 0, locals := 119 } : Room) (va_Pc [.ref (a 0)] (wm_pre D wm_cl (wm_xt k) (wm_x a k n m rd t p w d g) sz)) (va_Qi (fun (r : Int32) (u : wm_V) => r = wm_be n m t p ∧ wm_xi n m u.1 t p u.2.1 u.2.2.1 u.2.2.2) (fun u => wm_is D wm_cl (wm_xt k) (va_A (wm_x a k n m rd t p w d g) sz) (wm_x a k n m u.1 t p u.2.1 u.2.2.1 u.2.2.2)) (va_A (wm_x a k n m rd t p w d g) sz)) 0 0 (va_A (wm_x a k n m rd t p w d g) sz) := by
  refine Met.ofW (cc := cX0_bestShift) (maxL := 5) (ret := some .int) (by decide) rfl ?_
  intro P0 e0 s M0 av bl mt cd s1 B hml hv
  obtain ⟨rfl, hsz, hP, hK, hD0⟩ := hv
  have hx := B.exec
  have hb := B.bytes
  have hr := B.returns
  have hts := atoms_spec (ws := (ws_ yX0_bestShift cX0_bestShift 5 (some .int))) B.pre
  have hts : ∀ w ∈ lw_all, w.before _ s = true := fun w h => hts w (List.mem_cons_of_mem _ h)
  have hown : s.vm.findClass RX0 = some M0.cls := findClass_of_methodNamed B.named
  have hlocks := B.notSynchronized
  subst hsz
  have hD := hD0.self (sz := s.heap.size)
  generalize hAe : va_A (wm_x a k n m rd t p w d g) s.heap.size = A at hD ⊢
  have hA : ∀ q : Nat, s.heap.size ≤ q → A q := fun q h => by rw [← hAe]; exact Or.inr h
  have hS : va_S A s.heap s.heap [] := va_S.rf
  have hP : va_P D wm_cl (wm_x a k n m rd t p w d g) s.heap := hP
  have hl := lv_entry ([.ref (a 0)]) (n := 5) (Nat.le_of_ble_eq_true rfl)
  rw [lg_entry_eq]
  generalize (lg_sl ([.ref (a 0)]) ++ List.replicate (5 - (lg_sl ([.ref (a 0)])).length) Slot.unset).toArray = ls at hl ⊢
  have hl : lv_has ls 5 [(0, .ref (a 0))] := hl
  have hab := hI.1
  obtain ⟨hn40, hm12, ht5, hp5⟩ := id hab
  refine lv_bipush (v := (-3)) hx hb dX0_bestShift_0 (by decide +kernel) ?_
  refine lv_istore_n (lv' := [(1, .int (-3)), (0, .ref (a 0))]) hx hb dX0_bestShift_2 rfl hl (by decide) rfl (fun ls hl => ?_)
  refine lv_bipush (v := nI 13) hx hb dX0_bestShift_3 (by decide +kernel) ?_
  refine lv_istore_n (lv' := [(2, .int (nI 13)), (1, .int (-3)), (0, .ref (a 0))]) hx hb dX0_bestShift_5 rfl hl (by decide) rfl (fun ls hl => ?_)
  refine lv_iconst (v := nI 0) hx hb dX0_bestShift_6 (by decide +kernel) ?_
  refine lv_istore_n (lv' := [(3, .int (nI 0)), (2, .int (nI 13)), (1, .int (-3)), (0, .ref (a 0))]) hx hb dX0_bestShift_7 rfl hl (by decide) rfl (fun ls hl => ?_)
  have loop : ∀ (r i : Nat) (rd1 : Nat) (w1 d1 g1 : Nat → Nat) (b : Int32) (q : Nat), i + r = n + 1 - m → wm_xi n m rd1 t p w1 d1 g1 → q ≤ 100 → wm_be n m t p = wm_bs (fun i => wm_mi n t p i m) r i b q → ∀ (H : Heap) (locs : List Loc) (ls : Array Slot), va_P D wm_cl (wm_x a k n m rd1 t p w1 d1 g1) H → va_D A (wm_x a k n m rd1 t p w1 d1 g1) → va_S A s.heap H locs → lv_has ls 5 [(0, .ref (a 0)), (1, .int b), (2, .int (nI q)), (3, .int (nI i))] → W P0 l e0 (headSpec (ws_ yX0_bestShift cX0_bestShift 5 (some .int)) ({ frames := 5, cells := 0, slots := 0, locals := 119 } : Room)).room s M0 ([.ref (a 0)] : List Value).toArray bl mt cd H locs 0 0 (MQ bl (va_Qi (fun (r : Int32) (u : wm_V) => r = wm_be n m t p ∧ wm_xi n m u.1 t p u.2.1 u.2.2.1 u.2.2.2) (fun u => wm_is D wm_cl (wm_xt k) A (wm_x a k n m u.1 t p u.2.1 u.2.2.1 u.2.2.2)) A) ([.ref (a 0)] : List Value).toArray s 0 0 A) (F0 M0 8 ls []) := by
    intro r
    induction r with
    | zero =>
      intro i rd1 w1 d1 g1 b q hi hI hqb he
      intro H locs ls hP hD hS hl
      refine lv_iload_n hx hb dX0_bestShift_8 rfl (lv_at hl 3 rfl) ?_
      refine lv_aload_n hx hb dX0_bestShift_9 rfl (lv_at hl 0 rfl) ?_
      refine va_get (D := D) (ci := 0) (v := .int (nI n)) (C := RX0) (T := TX0) (N := 9) hx hb hts in_X0 hown hK hP 0 rfl rfl 0 (by decide) (hts _ q24) (fun _ h9 => h9) rfl dX0_bestShift_10 ?_
      refine lv_aload_n hx hb dX0_bestShift_13 rfl (lv_at hl 0 rfl) ?_
      refine va_get (D := D) (ci := 0) (v := .int (nI m)) (C := RX0) (T := TX0) (N := 9) hx hb hts in_X0 hown hK hP 0 rfl rfl 1 (by decide) (hts _ q25) (fun _ h9 => h9) rfl dX0_bestShift_14 ?_
      refine lv_isub hx hb dX0_bestShift_17 ?_
      refine lv_icmp_gt (tgt := 48) hx hb dX0_bestShift_18 (by decide) (fun hc => ?_) (fun hc => ?_)
      · skip
        refine lv_iload_n hx hb dX0_bestShift_48 rfl (lv_at hl 1 rfl) ?_
        exact W.iret (v := b) hx hb hr (fun T0 hT0 hW0 => ⟨⟨b, (rd1, w1, d1, g1), rfl, ⟨(by rw [he]; rfl), hI⟩, by rw [hT0]; exact hP, va_K.moved hW0.alike hK, hD⟩, hS.F hT0⟩) hS.2.2 dX0_bestShift_49
      · exact absurd ((wm_shiftI hn40 hm12 (by omega)).mpr (by omega)) hc
    | succ r ih =>
      intro i rd1 w1 d1 g1 b q hi hI hqb he
      intro H locs ls hP hD hS hl
      have hmi := wm_mi_le n t p i m
      refine lv_iload_n hx hb dX0_bestShift_8 rfl (lv_at hl 3 rfl) ?_
      refine lv_aload_n hx hb dX0_bestShift_9 rfl (lv_at hl 0 rfl) ?_
      refine va_get (D := D) (ci := 0) (v := .int (nI n)) (C := RX0) (T := TX0) (N := 9) hx hb hts in_X0 hown hK hP 0 rfl rfl 0 (by decide) (hts _ q24) (fun _ h9 => h9) rfl dX0_bestShift_10 ?_
      refine lv_aload_n hx hb dX0_bestShift_13 rfl (lv_at hl 0 rfl) ?_
      refine va_get (D := D) (ci := 0) (v := .int (nI m)) (C := RX0) (T := TX0) (N := 9) hx hb hts in_X0 hown hK hP 0 rfl rfl 1 (by decide) (hts _ q25) (fun _ h9 => h9) rfl dX0_bestShift_14 ?_
      refine lv_isub hx hb dX0_bestShift_17 ?_
      refine lv_icmp_gt (tgt := 48) hx hb dX0_bestShift_18 (by decide) (fun hc => ?_) (fun hc => ?_)
      · exact absurd ((wm_shiftI hn40 hm12 (by omega)).mp hc) (by omega)
      · skip
        have hc := fun h => hc ((wm_shiftI hn40 hm12 (by omega)).mpr h)
        refine lv_aload_n hx hb dX0_bestShift_21 rfl (lv_at hl 0 rfl) ?_
        refine lv_iload_n hx hb dX0_bestShift_22 rfl (lv_at hl 3 rfl) ?_
        refine wm_calli (wr := []) (As := [.int (nI i)]) (rest := []) ⟨hx, hb, hml, hown, hts⟩ (mx_wrongAt l D a k _ n m rd1 t p w1 d1 g1 i hI (by omega)) (cwV 1 hts (lw_V q128 q130 qs9 q14 q131) rfl rfl rfl (by decide +kernel) ⟨Nat.le_of_ble_eq_true rfl, Nat.le_of_ble_eq_true rfl⟩) (va_recv hK hP (ci := 0) (q0 := 0) rfl rfl) hK hP hD hS hA [0, 1, 2, 3, 4, 5, 6] [] [0, 1, 2, 3, 4, 5] rfl rfl rfl (by decide) (by decide) (by decide) rfl rfl hl.1 rfl (Nat.le_of_ble_eq_true rfl) dX0_bestShift_23 ⟨Nat.zero_le _, Nat.zero_le _⟩ (fun r_ u H locs hq hP hD hS => ?_)
        obtain ⟨rd2, w2, d2, g2⟩ := u
        have hP : va_P D wm_cl (wm_x a k n m rd2 t p w2 d2 g2) H := hP
        have hD : va_D A (wm_x a k n m rd2 t p w2 d2 g2) := hD
        obtain ⟨hq, hI⟩ := hq
        have hI : wm_xi n m rd2 t p w2 d2 g2 := hI
        have hq : r_ = nI (wm_mi n t p i m) := hq
        subst hq
        refine lv_istore (lv' := [(4, .int (nI (wm_mi n t p i m))), (0, .ref (a 0)), (1, .int b), (2, .int (nI q)), (3, .int (nI i))]) hx hb dX0_bestShift_26 hl (by decide) rfl (fun ls hl => ?_)
        refine lv_iload hx hb dX0_bestShift_28 (lv_at hl 0 rfl) ?_
        refine lv_iload_n hx hb dX0_bestShift_30 rfl (lv_at hl 3 rfl) ?_
        refine wm_clt (tgt := 37) hx hb dX0_bestShift_31 (by decide) (by omega) (by omega) (fun hd => ?_) (fun hd => ?_)
        · skip
          refine lv_iload hx hb dX0_bestShift_37 (lv_at hl 0 rfl) ?_
          refine lv_istore_n (lv' := [(2, .int (nI (wm_mi n t p i m))), (4, .int (nI (wm_mi n t p i m))), (0, .ref (a 0)), (1, .int b), (3, .int (nI i))]) hx hb dX0_bestShift_39 rfl hl (by decide) rfl (fun ls hl => ?_)
          refine lv_iload_n hx hb dX0_bestShift_40 rfl (lv_at hl 4 rfl) ?_
          refine lv_istore_n (lv' := [(1, .int (nI i)), (2, .int (nI (wm_mi n t p i m))), (4, .int (nI (wm_mi n t p i m))), (0, .ref (a 0)), (3, .int (nI i))]) hx hb dX0_bestShift_41 rfl hl (by decide) rfl (fun ls hl => ?_)
          have hl := lv_sub (l' := [(0, .ref (a 0)), (1, .int (nI i)), (2, .int (nI (wm_mi n t p i m))), (3, .int (nI i))]) hl [3, 0, 1, 4] rfl
          refine lv_iinc (v := nI (i + 1)) (lv' := [(3, .int (nI (i + 1))), (0, .ref (a 0)), (1, .int (nI i)), (2, .int (nI (wm_mi n t p i m)))]) hx hb dX0_bestShift_42 hl (k := 3) rfl (wm_inc i) (by decide) rfl (fun ls hl => ?_)
          refine lv_goto (tgt := 8) hx hb dX0_bestShift_45 (by decide) ?_
          exact ih (i + 1) rd2 w2 d2 g2 (nI i) (wm_mi n t p i m) (by omega) hI (by omega) (by rw [he, wm_bs, if_pos hd]) _ _ _ hP hD hS (lv_sub hl [1, 2, 3, 0] rfl)
        · skip
          refine lv_goto (tgt := 42) hx hb dX0_bestShift_34 (by decide) ?_
          have hl := lv_sub (l' := [(0, .ref (a 0)), (1, .int b), (2, .int (nI q)), (3, .int (nI i))]) hl [1, 2, 3, 4] rfl
          refine lv_iinc (v := nI (i + 1)) (lv' := [(3, .int (nI (i + 1))), (0, .ref (a 0)), (1, .int b), (2, .int (nI q))]) hx hb dX0_bestShift_42 hl (k := 3) rfl (wm_inc i) (by decide) rfl (fun ls hl => ?_)
          refine lv_goto (tgt := 8) hx hb dX0_bestShift_45 (by decide) ?_
          exact ih (i + 1) rd2 w2 d2 g2 b q (by omega) hI hqb (by rw [he, wm_bs, if_neg (Nat.not_lt.mpr hd)]) _ _ _ hP hD hS (lv_sub hl [1, 2, 3, 0] rfl)
  exact loop (n + 1 - m) 0 rd w d g (-3) 13 (by omega) hI (by decide) (wm_be13 n m t p hm12).symm _ _ _ hP hD hS (lv_sub hl [3, 2, 1, 0] rfl)
set_option maxHeartbeats 4000000 in
set_option maxRecDepth 100000 in
/-- within -/
theorem mx_within (l : Launch) (D : va_G) (a : Nat → Nat) (k : Nat → ClassId) (sz n m rd : Nat) (t p w d g : Nat → Nat) (f : Int32) (hI : wm_xi n m rd t p w d g) : Met l yX0_within (ws_ yX0_within cX0_within 5 (some .int)) ({ frames := 5, cells := 0, slots := 0, locals := 119 } : Room) (va_Pc [.ref (a 0), .int f] (wm_pre D wm_cl (wm_xt k) (wm_x a k n m rd t p w d g) sz)) (va_Qi (fun (r : Int32) (u : wm_V) => r = wm_wi n m t p f ∧ wm_xi n m u.1 t p u.2.1 u.2.2.1 u.2.2.2) (fun u => wm_is D wm_cl (wm_xt k) (va_A (wm_x a k n m rd t p w d g) sz) (wm_x a k n m u.1 t p u.2.1 u.2.2.1 u.2.2.2)) (va_A (wm_x a k n m rd t p w d g) sz)) 0 0 (va_A (wm_x a k n m rd t p w d g) sz) := by
  refine Met.ofW (cc := cX0_within) (maxL := 5) (ret := some .int) (by decide) rfl ?_
  intro P0 e0 s M0 av bl mt cd s1 B hml hv
  obtain ⟨rfl, hsz, hP, hK, hD0⟩ := hv
  have hx := B.exec
  have hb := B.bytes
  have hr := B.returns
  have hts := atoms_spec (ws := (ws_ yX0_within cX0_within 5 (some .int))) B.pre
  have hts : ∀ w ∈ lw_all, w.before _ s = true := fun w h => hts w (List.mem_cons_of_mem _ h)
  have hown : s.vm.findClass RX0 = some M0.cls := findClass_of_methodNamed B.named
  have hlocks := B.notSynchronized
  subst hsz
  have hD := hD0.self (sz := s.heap.size)
  generalize hAe : va_A (wm_x a k n m rd t p w d g) s.heap.size = A at hD ⊢
  have hA : ∀ q : Nat, s.heap.size ≤ q → A q := fun q h => by rw [← hAe]; exact Or.inr h
  have hS : va_S A s.heap s.heap [] := va_S.rf
  have hP : va_P D wm_cl (wm_x a k n m rd t p w d g) s.heap := hP
  have hl := lv_entry ([.ref (a 0), .int f]) (n := 5) (Nat.le_of_ble_eq_true rfl)
  rw [lg_entry_eq]
  generalize (lg_sl ([.ref (a 0), .int f]) ++ List.replicate (5 - (lg_sl ([.ref (a 0), .int f])).length) Slot.unset).toArray = ls at hl ⊢
  have hl : lv_has ls 5 [(0, .ref (a 0)), (1, .int f)] := hl
  have hab := hI.1
  obtain ⟨hn40, hm12, ht5, hp5⟩ := id hab
  refine lv_iconst (v := nI 0) hx hb dX0_within_0 (by decide +kernel) ?_
  refine lv_istore_n (lv' := [(2, .int (nI 0)), (0, .ref (a 0)), (1, .int f)]) hx hb dX0_within_1 rfl hl (by decide) rfl (fun ls hl => ?_)
  refine lv_iconst (v := nI 0) hx hb dX0_within_2 (by decide +kernel) ?_
  refine lv_istore_n (lv' := [(3, .int (nI 0)), (2, .int (nI 0)), (0, .ref (a 0)), (1, .int f)]) hx hb dX0_within_3 rfl hl (by decide) rfl (fun ls hl => ?_)
  have loop : ∀ (r i : Nat) (rd1 : Nat) (w1 d1 g1 : Nat → Nat), i + r = n + 1 - m → wm_xi n m rd1 t p w1 d1 g1 → ∀ (H : Heap) (locs : List Loc) (ls : Array Slot), va_P D wm_cl (wm_x a k n m rd1 t p w1 d1 g1) H → va_D A (wm_x a k n m rd1 t p w1 d1 g1) → va_S A s.heap H locs → lv_has ls 5 [(0, .ref (a 0)), (1, .int f), (2, .int (nI (wm_ct (fun i => !decide (f < nI (wm_mi n t p i m))) i))), (3, .int (nI i))] → W P0 l e0 (headSpec (ws_ yX0_within cX0_within 5 (some .int)) ({ frames := 5, cells := 0, slots := 0, locals := 119 } : Room)).room s M0 ([.ref (a 0), .int f] : List Value).toArray bl mt cd H locs 0 0 (MQ bl (va_Qi (fun (r : Int32) (u : wm_V) => r = wm_wi n m t p f ∧ wm_xi n m u.1 t p u.2.1 u.2.2.1 u.2.2.2) (fun u => wm_is D wm_cl (wm_xt k) A (wm_x a k n m u.1 t p u.2.1 u.2.2.1 u.2.2.2)) A) ([.ref (a 0), .int f] : List Value).toArray s 0 0 A) (F0 M0 4 ls []) := by
    intro r
    induction r with
    | zero =>
      intro i rd1 w1 d1 g1 hi hI 
      intro H locs ls hP hD hS hl
      refine lv_iload_n hx hb dX0_within_4 rfl (lv_at hl 3 rfl) ?_
      refine lv_aload_n hx hb dX0_within_5 rfl (lv_at hl 0 rfl) ?_
      refine va_get (D := D) (ci := 0) (v := .int (nI n)) (C := RX0) (T := TX0) (N := 9) hx hb hts in_X0 hown hK hP 0 rfl rfl 0 (by decide) (hts _ q24) (fun _ h9 => h9) rfl dX0_within_6 ?_
      refine lv_aload_n hx hb dX0_within_9 rfl (lv_at hl 0 rfl) ?_
      refine va_get (D := D) (ci := 0) (v := .int (nI m)) (C := RX0) (T := TX0) (N := 9) hx hb hts in_X0 hown hK hP 0 rfl rfl 1 (by decide) (hts _ q25) (fun _ h9 => h9) rfl dX0_within_10 ?_
      refine lv_isub hx hb dX0_within_13 ?_
      refine lv_icmp_gt (tgt := 39) hx hb dX0_within_14 (by decide) (fun hc => ?_) (fun hc => ?_)
      · skip
        have hin : i = n + 1 - m := by omega
        refine lv_iload_n hx hb dX0_within_39 rfl (lv_at hl 2 rfl) ?_
        exact W.iret (v := nI (wm_ct (fun i => !decide (f < nI (wm_mi n t p i m))) i)) hx hb hr (fun T0 hT0 hW0 => ⟨⟨nI (wm_ct (fun i => !decide (f < nI (wm_mi n t p i m))) i), (rd1, w1, d1, g1), rfl, ⟨(by rw [wm_wi, hin]), hI⟩, by rw [hT0]; exact hP, va_K.moved hW0.alike hK, hD⟩, hS.F hT0⟩) hS.2.2 dX0_within_40
      · exact absurd ((wm_shiftI hn40 hm12 (by omega)).mpr (by omega)) hc
    | succ r ih =>
      intro i rd1 w1 d1 g1 hi hI 
      intro H locs ls hP hD hS hl
      have hmi := wm_mi_le n t p i m
      have hci := wm_ct_le (fun i => !decide (f < nI (wm_mi n t p i m))) i
      refine lv_iload_n hx hb dX0_within_4 rfl (lv_at hl 3 rfl) ?_
      refine lv_aload_n hx hb dX0_within_5 rfl (lv_at hl 0 rfl) ?_
      refine va_get (D := D) (ci := 0) (v := .int (nI n)) (C := RX0) (T := TX0) (N := 9) hx hb hts in_X0 hown hK hP 0 rfl rfl 0 (by decide) (hts _ q24) (fun _ h9 => h9) rfl dX0_within_6 ?_
      refine lv_aload_n hx hb dX0_within_9 rfl (lv_at hl 0 rfl) ?_
      refine va_get (D := D) (ci := 0) (v := .int (nI m)) (C := RX0) (T := TX0) (N := 9) hx hb hts in_X0 hown hK hP 0 rfl rfl 1 (by decide) (hts _ q25) (fun _ h9 => h9) rfl dX0_within_10 ?_
      refine lv_isub hx hb dX0_within_13 ?_
      refine lv_icmp_gt (tgt := 39) hx hb dX0_within_14 (by decide) (fun hc => ?_) (fun hc => ?_)
      · exact absurd ((wm_shiftI hn40 hm12 (by omega)).mp hc) (by omega)
      · skip
        have hc := fun h => hc ((wm_shiftI hn40 hm12 (by omega)).mpr h)
        refine lv_aload_n hx hb dX0_within_17 rfl (lv_at hl 0 rfl) ?_
        refine lv_iload_n hx hb dX0_within_18 rfl (lv_at hl 3 rfl) ?_
        refine wm_calli (wr := []) (As := [.int (nI i)]) (rest := []) ⟨hx, hb, hml, hown, hts⟩ (mx_wrongAt l D a k _ n m rd1 t p w1 d1 g1 i hI (by omega)) (cwV 1 hts (lw_V q128 q130 qs9 q14 q131) rfl rfl rfl (by decide +kernel) ⟨Nat.le_of_ble_eq_true rfl, Nat.le_of_ble_eq_true rfl⟩) (va_recv hK hP (ci := 0) (q0 := 0) rfl rfl) hK hP hD hS hA [0, 1, 2, 3, 4, 5, 6] [] [0, 1, 2, 3, 4, 5] rfl rfl rfl (by decide) (by decide) (by decide) rfl rfl hl.1 rfl (Nat.le_of_ble_eq_true rfl) dX0_within_19 ⟨Nat.zero_le _, Nat.zero_le _⟩ (fun r_ u H locs hq hP hD hS => ?_)
        obtain ⟨rd2, w2, d2, g2⟩ := u
        have hP : va_P D wm_cl (wm_x a k n m rd2 t p w2 d2 g2) H := hP
        have hD : va_D A (wm_x a k n m rd2 t p w2 d2 g2) := hD
        obtain ⟨hq, hI⟩ := hq
        have hI : wm_xi n m rd2 t p w2 d2 g2 := hI
        have hq : r_ = nI (wm_mi n t p i m) := hq
        subst hq
        refine lv_istore (lv' := [(4, .int (nI (wm_mi n t p i m))), (0, .ref (a 0)), (1, .int f), (2, .int (nI (wm_ct (fun i => !decide (f < nI (wm_mi n t p i m))) i))), (3, .int (nI i))]) hx hb dX0_within_22 hl (by decide) rfl (fun ls hl => ?_)
        refine lv_iload hx hb dX0_within_24 (lv_at hl 0 rfl) ?_
        refine lv_iload_n hx hb dX0_within_26 rfl (lv_at hl 2 rfl) ?_
        refine lv_icmp_gt (tgt := 33) hx hb dX0_within_27 (by decide) (fun hd => ?_) (fun hd => ?_)
        · skip
          have e : wm_ct (fun i => !decide (f < nI (wm_mi n t p i m))) (i + 1) = wm_ct (fun i => !decide (f < nI (wm_mi n t p i m))) i := by rw [wm_ct, if_neg (by simp [hd])]; rfl
          have hl := lv_sub (l' := [(0, .ref (a 0)), (1, .int f), (2, .int (nI (wm_ct (fun i => !decide (f < nI (wm_mi n t p i m))) i))), (3, .int (nI i))]) hl [1, 2, 3, 4] rfl
          refine lv_iinc (v := nI (i + 1)) (lv' := [(3, .int (nI (i + 1))), (0, .ref (a 0)), (1, .int f), (2, .int (nI (wm_ct (fun i => !decide (f < nI (wm_mi n t p i m))) i)))]) hx hb dX0_within_33 hl (k := 3) rfl (wm_inc i) (by decide) rfl (fun ls hl => ?_)
          refine lv_goto (tgt := 4) hx hb dX0_within_36 (by decide) ?_
          exact ih (i + 1) rd2 w2 d2 g2 (by omega) hI _ _ _ hP hD hS (by rw [e]; exact lv_sub hl [1, 2, 3, 0] rfl)
        · skip
          have e : wm_ct (fun i => !decide (f < nI (wm_mi n t p i m))) (i + 1) = wm_ct (fun i => !decide (f < nI (wm_mi n t p i m))) i + 1 := by rw [wm_ct, if_pos (by simp only [Bool.not_eq_true', decide_eq_false_iff_not]; exact hd)]
          have hl := lv_sub (l' := [(0, .ref (a 0)), (1, .int f), (2, .int (nI (wm_ct (fun i => !decide (f < nI (wm_mi n t p i m))) i))), (3, .int (nI i))]) hl [1, 2, 3, 4] rfl
          refine lv_iinc (v := nI ((wm_ct (fun i => !decide (f < nI (wm_mi n t p i m))) i) + 1)) (lv' := [(2, .int (nI ((wm_ct (fun i => !decide (f < nI (wm_mi n t p i m))) i) + 1))), (0, .ref (a 0)), (1, .int f), (3, .int (nI i))]) hx hb dX0_within_30 hl (k := 2) rfl (wm_inc (wm_ct (fun i => !decide (f < nI (wm_mi n t p i m))) i)) (by decide) rfl (fun ls hl => ?_)
          refine lv_iinc (v := nI (i + 1)) (lv' := [(3, .int (nI (i + 1))), (2, .int (nI ((wm_ct (fun i => !decide (f < nI (wm_mi n t p i m))) i) + 1))), (0, .ref (a 0)), (1, .int f)]) hx hb dX0_within_33 hl (k := 3) rfl (wm_inc i) (by decide) rfl (fun ls hl => ?_)
          refine lv_goto (tgt := 4) hx hb dX0_within_36 (by decide) ?_
          exact ih (i + 1) rd2 w2 d2 g2 (by omega) hI _ _ _ hP hD hS (by rw [e]; exact lv_sub hl [2, 3, 1, 0] rfl)
  exact loop (n + 1 - m) 0 rd w d g (by omega) hI _ _ _ hP hD hS (lv_sub hl [2, 3, 1, 0] rfl)
set_option maxHeartbeats 4000000 in
set_option maxRecDepth 100000 in
/-- turnedMismatches -/
theorem mx_turnedMismatches (l : Launch) (D : va_G) (a : Nat → Nat) (k : Nat → ClassId) (sz n m rd : Nat) (t p w d g : Nat → Nat) (i : Int32) (hI : wm_xi n m rd t p w d g) : Met l yX0_turnedMismatches (ws_ yX0_turnedMismatches cX0_turnedMismatches 2 (some .int)) ({ frames := 5, cells := 0, slots := 0, locals := 119 } : Room) (va_Pc [.ref (a 0), .int i] (wm_pre D wm_cl (wm_xt k) (wm_x a k n m rd t p w d g) sz)) (va_Qi (fun (r : Int32) (u : wm_V) => r = wm_tm n m t p i ∧ wm_xi n m u.1 t p u.2.1 u.2.2.1 u.2.2.2) (fun u => wm_is D wm_cl (wm_xt k) (va_A (wm_x a k n m rd t p w d g) sz) (wm_x a k n m u.1 t p u.2.1 u.2.2.1 u.2.2.2)) (va_A (wm_x a k n m rd t p w d g) sz)) 0 0 (va_A (wm_x a k n m rd t p w d g) sz) := by
  refine Met.ofW (cc := cX0_turnedMismatches) (maxL := 2) (ret := some .int) (by decide) rfl ?_
  intro P0 e0 s M0 av bl mt cd s1 B hml hv
  obtain ⟨rfl, hsz, hP, hK, hD0⟩ := hv
  have hx := B.exec
  have hb := B.bytes
  have hr := B.returns
  have hts := atoms_spec (ws := (ws_ yX0_turnedMismatches cX0_turnedMismatches 2 (some .int))) B.pre
  have hts : ∀ w ∈ lw_all, w.before _ s = true := fun w h => hts w (List.mem_cons_of_mem _ h)
  have hown : s.vm.findClass RX0 = some M0.cls := findClass_of_methodNamed B.named
  have hlocks := B.notSynchronized
  subst hsz
  have hD := hD0.self (sz := s.heap.size)
  generalize hAe : va_A (wm_x a k n m rd t p w d g) s.heap.size = A at hD ⊢
  have hA : ∀ q : Nat, s.heap.size ≤ q → A q := fun q h => by rw [← hAe]; exact Or.inr h
  have hS : va_S A s.heap s.heap [] := va_S.rf
  have hP : va_P D wm_cl (wm_x a k n m rd t p w d g) s.heap := hP
  have hl := lv_entry ([.ref (a 0), .int i]) (n := 2) (Nat.le_of_ble_eq_true rfl)
  rw [lg_entry_eq]
  generalize (lg_sl ([.ref (a 0), .int i]) ++ List.replicate (2 - (lg_sl ([.ref (a 0), .int i])).length) Slot.unset).toArray = ls at hl ⊢
  have hl : lv_has ls 2 [(0, .ref (a 0)), (1, .int i)] := hl
  have hab := hI.1
  obtain ⟨hn40, hm12, ht5, hp5⟩ := id hab
  refine lv_iload_n hx hb dX0_turnedMismatches_0 rfl (lv_at hl 1 rfl) ?_
  refine lv_if_lt (tgt := 23) hx hb dX0_turnedMismatches_1 (by decide) (fun h1 => ?_) (fun h1 => ?_)
  · skip
    refine lv_bipush (v := (-2)) hx hb dX0_turnedMismatches_23 (by decide +kernel) ?_
    exact W.iret (v := (-2)) hx hb hr (fun T0 hT0 hW0 => ⟨⟨(-2), (rd, w, d, g), rfl, ⟨(by rw [wm_tm, if_pos (Or.inl h1)]), hI⟩, by rw [hT0]; exact hP, va_K.moved hW0.alike hK, hD⟩, hS.F hT0⟩) hS.2.2 dX0_turnedMismatches_25
  · skip
    refine lv_iload_n hx hb dX0_turnedMismatches_4 rfl (lv_at hl 1 rfl) ?_
    refine lv_aload_n hx hb dX0_turnedMismatches_5 rfl (lv_at hl 0 rfl) ?_
    refine va_get (D := D) (ci := 0) (v := .int (nI n)) (C := RX0) (T := TX0) (N := 9) hx hb hts in_X0 hown hK hP 0 rfl rfl 0 (by decide) (hts _ q24) (fun _ h9 => h9) rfl dX0_turnedMismatches_6 ?_
    refine lv_icmp_ge (tgt := 23) hx hb dX0_turnedMismatches_9 (by decide) (fun h2 => ?_) (fun h2 => ?_)
    · skip
      refine lv_bipush (v := (-2)) hx hb dX0_turnedMismatches_23 (by decide +kernel) ?_
      exact W.iret (v := (-2)) hx hb hr (fun T0 hT0 hW0 => ⟨⟨(-2), (rd, w, d, g), rfl, ⟨(by rw [wm_tm, if_pos (Or.inr (Or.inl h2))]), hI⟩, by rw [hT0]; exact hP, va_K.moved hW0.alike hK, hD⟩, hS.F hT0⟩) hS.2.2 dX0_turnedMismatches_25
    · skip
      refine lv_aload_n hx hb dX0_turnedMismatches_12 rfl (lv_at hl 0 rfl) ?_
      refine va_get (D := D) (ci := 0) (v := .int (nI m)) (C := RX0) (T := TX0) (N := 9) hx hb hts in_X0 hown hK hP 0 rfl rfl 1 (by decide) (hts _ q25) (fun _ h9 => h9) rfl dX0_turnedMismatches_13 ?_
      refine lv_aload_n hx hb dX0_turnedMismatches_16 rfl (lv_at hl 0 rfl) ?_
      refine va_get (D := D) (ci := 0) (v := .int (nI n)) (C := RX0) (T := TX0) (N := 9) hx hb hts in_X0 hown hK hP 0 rfl rfl 0 (by decide) (hts _ q24) (fun _ h9 => h9) rfl dX0_turnedMismatches_17 ?_
      refine wm_cle (tgt := 26) hx hb dX0_turnedMismatches_20 (by decide) (by omega) (by omega) (fun h3 => ?_) (fun h3 => ?_)
      · skip
        have hs : ¬ (i < 0 ∨ nI n ≤ i ∨ n < m) := fun h => h.elim h1 (fun h => h.elim h2 (fun h => absurd h (by omega)))
        obtain ⟨j, hjn, rfl⟩ := wm_index (by omega) h1 h2
        refine lv_aload_n hx hb dX0_turnedMismatches_26 rfl (lv_at hl 0 rfl) ?_
        refine lv_iload_n hx hb dX0_turnedMismatches_27 rfl (lv_at hl 1 rfl) ?_
        refine wm_calli (wr := []) (As := [.int (nI j)]) (rest := []) ⟨hx, hb, hml, hown, hts⟩ (mx_wrongAt l D a k _ n m rd t p w d g j hI (by omega)) (cwV 1 hts (lw_V q128 q130 qs9 q14 q131) rfl rfl rfl (by decide +kernel) ⟨Nat.le_of_ble_eq_true rfl, Nat.le_of_ble_eq_true rfl⟩) (va_recv hK hP (ci := 0) (q0 := 0) rfl rfl) hK hP hD hS hA [0, 1, 2, 3, 4, 5, 6] [] [0, 1, 2, 3, 4, 5] rfl rfl rfl (by decide) (by decide) (by decide) rfl rfl hl.1 rfl (Nat.le_of_ble_eq_true rfl) dX0_turnedMismatches_28 ⟨Nat.zero_le _, Nat.zero_le _⟩ (fun r_ u H locs hq hP hD hS => ?_)
        obtain ⟨rd2, w2, d2, g2⟩ := u
        have hP : va_P D wm_cl (wm_x a k n m rd2 t p w2 d2 g2) H := hP
        have hD : va_D A (wm_x a k n m rd2 t p w2 d2 g2) := hD
        obtain ⟨hq, hI⟩ := hq
        have hI : wm_xi n m rd2 t p w2 d2 g2 := hI
        have hq : r_ = nI (wm_mi n t p j m) := hq
        subst hq
        exact W.iret (v := nI (wm_mi n t p j m)) hx hb hr (fun T0 hT0 hW0 => ⟨⟨nI (wm_mi n t p j m), (rd2, w2, d2, g2), rfl, ⟨(by rw [wm_tm, if_neg hs, nI_clamp (by omega)]), hI⟩, by rw [hT0]; exact hP, va_K.moved hW0.alike hK, hD⟩, hS.F hT0⟩) hS.2.2 dX0_turnedMismatches_31
      · skip
        refine lv_bipush (v := (-2)) hx hb dX0_turnedMismatches_23 (by decide +kernel) ?_
        exact W.iret (v := (-2)) hx hb hr (fun T0 hT0 hW0 => ⟨⟨(-2), (rd, w, d, g), rfl, ⟨(by rw [wm_tm, if_pos (Or.inr (Or.inr h3))]), hI⟩, by rw [hT0]; exact hP, va_K.moved hW0.alike hK, hD⟩, hS.F hT0⟩) hS.2.2 dX0_turnedMismatches_25
end
section
set_option maxHeartbeats 4000000 in
set_option maxRecDepth 100000 in
/-- length -/
theorem mx_length (l : Launch) (D : va_G) (a : Nat → Nat) (k : Nat → ClassId) (sz n m rd : Nat) (t p w d g : Nat → Nat) (z : Int32)  : Met l yX0_length (ws_ yX0_length cX0_length 2 (some .int)) ({ frames := 0, cells := 0, slots := 0, locals := 0 } : Room) (va_Pc [.ref (a 0), .int z] (wm_pre D wm_cl (wm_xt k) (wm_x a k n m rd t p w d g) sz)) (va_Qi (fun (r : Int32) (u : Unit) => r = nI (wm_len z n m)) (fun u => wm_is D wm_cl (wm_xt k) (va_A (wm_x a k n m rd t p w d g) sz) (wm_x a k n m rd t p w d g)) (va_A (wm_x a k n m rd t p w d g) sz)) 0 0 (va_A (wm_x a k n m rd t p w d g) sz) := by
  refine Met.ofW (cc := cX0_length) (maxL := 2) (ret := some .int) (by decide) rfl ?_
  intro P0 e0 s M0 av bl mt cd s1 B hml hv
  obtain ⟨rfl, hsz, hP, hK, hD0⟩ := hv
  have hx := B.exec
  have hb := B.bytes
  have hr := B.returns
  have hts := atoms_spec (ws := (ws_ yX0_length cX0_length 2 (some .int))) B.pre
  have hts : ∀ w ∈ lw_all, w.before _ s = true := fun w h => hts w (List.mem_cons_of_mem _ h)
  have hown : s.vm.findClass RX0 = some M0.cls := findClass_of_methodNamed B.named
  have hlocks := B.notSynchronized
  subst hsz
  have hD := hD0.self (sz := s.heap.size)
  generalize hAe : va_A (wm_x a k n m rd t p w d g) s.heap.size = A at hD ⊢
  have hA : ∀ q : Nat, s.heap.size ≤ q → A q := fun q h => by rw [← hAe]; exact Or.inr h
  have hS : va_S A s.heap s.heap [] := va_S.rf
  have hP : va_P D wm_cl (wm_x a k n m rd t p w d g) s.heap := hP
  have hl := lv_entry ([.ref (a 0), .int z]) (n := 2) (Nat.le_of_ble_eq_true rfl)
  rw [lg_entry_eq]
  generalize (lg_sl ([.ref (a 0), .int z]) ++ List.replicate (2 - (lg_sl ([.ref (a 0), .int z])).length) Slot.unset).toArray = ls at hl ⊢
  have hl : lv_has ls 2 [(0, .ref (a 0)), (1, .int z)] := hl
  refine lv_iload_n hx hb dX0_length_0 rfl (lv_at hl 1 rfl) ?_
  refine lv_if_eq (tgt := 11) hx hb dX0_length_1 (by decide) (fun hc => ?_) (fun hc => ?_)
  · skip
    refine lv_aload_n hx hb dX0_length_11 rfl (lv_at hl 0 rfl) ?_
    refine va_get (D := D) (ci := 0) (v := .int (nI n)) (C := RX0) (T := TX0) (N := 9) hx hb hts in_X0 hown hK hP 0 rfl rfl 0 (by decide) (hts _ q24) (fun _ h9 => h9) rfl dX0_length_12 ?_
    exact W.iret (v := nI n) hx hb hr (fun T0 hT0 hW0 => ⟨⟨nI n, (), rfl, (by rw [wm_len, if_pos hc]), by rw [hT0]; exact hP, va_K.moved hW0.alike hK, hD⟩, hS.F hT0⟩) hS.2.2 dX0_length_15
  · skip
    refine lv_aload_n hx hb dX0_length_4 rfl (lv_at hl 0 rfl) ?_
    refine va_get (D := D) (ci := 0) (v := .int (nI m)) (C := RX0) (T := TX0) (N := 9) hx hb hts in_X0 hown hK hP 0 rfl rfl 1 (by decide) (hts _ q25) (fun _ h9 => h9) rfl dX0_length_5 ?_
    refine lv_goto (tgt := 15) hx hb dX0_length_8 (by decide) ?_
    exact W.iret (v := nI m) hx hb hr (fun T0 hT0 hW0 => ⟨⟨nI m, (), rfl, (by rw [wm_len, if_neg hc]), by rw [hT0]; exact hP, va_K.moved hW0.alike hK, hD⟩, hS.F hT0⟩) hS.2.2 dX0_length_15
set_option maxHeartbeats 4000000 in
set_option maxRecDepth 100000 in
/-- letter -/
theorem mx_letter (l : Launch) (D : va_G) (a : Nat → Nat) (k : Nat → ClassId) (sz n m rd : Nat) (t p w d g : Nat → Nat) (z i : Int32) (hab : wm_ab n m t p) : Met l yX0_letter (ws_ yX0_letter cX0_letter 3 (some .int)) ({ frames := 1, cells := 0, slots := 0, locals := 21 } : Room) (va_Pc [.ref (a 0), .int z, .int i] (wm_pre D wm_cl (wm_xt k) (wm_x a k n m rd t p w d g) sz)) (va_Qi (fun (r : Int32) (u : Unit) => r = wm_le z i n m t p) (fun u => wm_is D wm_cl (wm_xt k) (va_A (wm_x a k n m rd t p w d g) sz) (wm_x a k n m rd t p w d g)) (va_A (wm_x a k n m rd t p w d g) sz)) 0 0 (va_A (wm_x a k n m rd t p w d g) sz) := by
  refine Met.ofW (cc := cX0_letter) (maxL := 3) (ret := some .int) (by decide) rfl ?_
  intro P0 e0 s M0 av bl mt cd s1 B hml hv
  obtain ⟨rfl, hsz, hP, hK, hD0⟩ := hv
  have hx := B.exec
  have hb := B.bytes
  have hr := B.returns
  have hts := atoms_spec (ws := (ws_ yX0_letter cX0_letter 3 (some .int))) B.pre
  have hts : ∀ w ∈ lw_all, w.before _ s = true := fun w h => hts w (List.mem_cons_of_mem _ h)
  have hown : s.vm.findClass RX0 = some M0.cls := findClass_of_methodNamed B.named
  have hlocks := B.notSynchronized
  subst hsz
  have hD := hD0.self (sz := s.heap.size)
  generalize hAe : va_A (wm_x a k n m rd t p w d g) s.heap.size = A at hD ⊢
  have hA : ∀ q : Nat, s.heap.size ≤ q → A q := fun q h => by rw [← hAe]; exact Or.inr h
  have hS : va_S A s.heap s.heap [] := va_S.rf
  have hP : va_P D wm_cl (wm_x a k n m rd t p w d g) s.heap := hP
  have hl := lv_entry ([.ref (a 0), .int z, .int i]) (n := 3) (Nat.le_of_ble_eq_true rfl)
  rw [lg_entry_eq]
  generalize (lg_sl ([.ref (a 0), .int z, .int i]) ++ List.replicate (3 - (lg_sl ([.ref (a 0), .int z, .int i])).length) Slot.unset).toArray = ls at hl ⊢
  have hl : lv_has ls 3 [(0, .ref (a 0)), (1, .int z), (2, .int i)] := hl
  obtain ⟨hn40, hm12, ht5, hp5⟩ := hab
  have hlen : wm_len z n m < 2 ^ 31 := by unfold wm_len; split <;> omega
  refine lv_iload_n hx hb dX0_letter_0 rfl (lv_at hl 2 rfl) ?_
  refine lv_if_lt (tgt := 13) hx hb dX0_letter_1 (by decide) (fun h1 => ?_) (fun h1 => ?_)
  · skip
    refine lv_bipush (v := (-2)) hx hb dX0_letter_13 (by decide +kernel) ?_
    exact W.iret (v := (-2)) hx hb hr (fun T0 hT0 hW0 => ⟨⟨(-2), (), rfl, (by rw [wm_le, if_pos (Or.inl h1)]), by rw [hT0]; exact hP, va_K.moved hW0.alike hK, hD⟩, hS.F hT0⟩) hS.2.2 dX0_letter_15
  · skip
    refine lv_iload_n hx hb dX0_letter_4 rfl (lv_at hl 2 rfl) ?_
    refine lv_aload_n hx hb dX0_letter_5 rfl (lv_at hl 0 rfl) ?_
    refine lv_iload_n hx hb dX0_letter_6 rfl (lv_at hl 1 rfl) ?_
    refine wm_calli (wr := []) (As := [.int z]) (rest := [.int i]) ⟨hx, hb, hml, hown, hts⟩ (mx_length l D a k _ n m rd t p w d g z) (cwV 1 hts (lw_V q62 q63 q64 q14 q65) rfl rfl rfl (by decide +kernel) ⟨Nat.le_of_ble_eq_true rfl, Nat.le_of_ble_eq_true rfl⟩) (va_recv hK hP (ci := 0) (q0 := 0) rfl rfl) hK hP hD hS hA [0, 1, 2, 3, 4, 5, 6] [] [0, 1, 2, 3, 4, 5] rfl rfl rfl (by decide) (by decide) (by decide) rfl rfl hl.1 rfl (Nat.le_of_ble_eq_true rfl) dX0_letter_7 ⟨Nat.zero_le _, Nat.zero_le _⟩ (fun r_ u H locs hq hP hD hS => ?_)
    have hP : va_P D wm_cl (wm_x a k n m rd t p w d g) H := hP
    have hD : va_D A (wm_x a k n m rd t p w d g) := hD
    have hq : r_ = nI (wm_len z n m) := hq
    subst hq
    refine lv_icmp_lt (tgt := 16) hx hb dX0_letter_10 (by decide) (fun h2 => ?_) (fun h2 => ?_)
    · skip
      have h2 : ¬ nI (wm_len z n m) ≤ i := Int32.not_le.mpr h2
      have hs : ¬ (i < 0 ∨ nI (wm_len z n m) ≤ i) := fun h => h.elim h1 h2
      obtain ⟨j, hj, rfl⟩ := wm_index hlen h1 h2
      refine lv_iload_n hx hb dX0_letter_16 rfl (lv_at hl 1 rfl) ?_
      refine lv_if_eq (tgt := 29) hx hb dX0_letter_17 (by decide) (fun hz => ?_) (fun hz => ?_)
      · skip
        rw [wm_len, if_pos hz] at hj
        refine lv_aload_n hx hb dX0_letter_29 rfl (lv_at hl 0 rfl) ?_
        refine va_get (D := D) (ci := 0) (v := .ref (a 1)) (C := RX0) (T := TX0) (N := 9) hx hb hts in_X0 hown hK hP 0 rfl rfl 2 (by decide) (hts _ q26) (fun _ h9 => h9) rfl dX0_letter_30 ?_
        refine lv_iload_n hx hb dX0_letter_33 rfl (lv_at hl 2 rfl) ?_
        refine wm_bald hx hb hK hP 1 0 rfl rfl (by decide) (by omega) dX0_letter_34 ?_
        exact W.iret (v := nI (t j)) hx hb hr (fun T0 hT0 hW0 => ⟨⟨nI (t j), (), rfl, (by rw [wm_le, if_neg hs, if_pos hz, nI_clamp (by omega)]), by rw [hT0]; exact hP, va_K.moved hW0.alike hK, hD⟩, hS.F hT0⟩) hS.2.2 dX0_letter_35
      · skip
        rw [wm_len, if_neg hz] at hj
        refine lv_aload_n hx hb dX0_letter_20 rfl (lv_at hl 0 rfl) ?_
        refine va_get (D := D) (ci := 0) (v := .ref (a 2)) (C := RX0) (T := TX0) (N := 9) hx hb hts in_X0 hown hK hP 0 rfl rfl 3 (by decide) (hts _ q27) (fun _ h9 => h9) rfl dX0_letter_21 ?_
        refine lv_iload_n hx hb dX0_letter_24 rfl (lv_at hl 2 rfl) ?_
        refine wm_bald hx hb hK hP 2 1 rfl rfl (by decide) (by omega) dX0_letter_25 ?_
        refine lv_goto (tgt := 35) hx hb dX0_letter_26 (by decide) ?_
        exact W.iret (v := nI (p j)) hx hb hr (fun T0 hT0 hW0 => ⟨⟨nI (p j), (), rfl, (by rw [wm_le, if_neg hs, if_neg hz, nI_clamp (by omega)]), by rw [hT0]; exact hP, va_K.moved hW0.alike hK, hD⟩, hS.F hT0⟩) hS.2.2 dX0_letter_35
    · skip
      have h2 := Int32.not_lt.mp h2
      refine lv_bipush (v := (-2)) hx hb dX0_letter_13 (by decide +kernel) ?_
      exact W.iret (v := (-2)) hx hb hr (fun T0 hT0 hW0 => ⟨⟨(-2), (), rfl, (by rw [wm_le, if_pos (Or.inr h2)]), by rw [hT0]; exact hP, va_K.moved hW0.alike hK, hD⟩, hS.F hT0⟩) hS.2.2 dX0_letter_15
set_option maxHeartbeats 4000000 in
set_option maxRecDepth 100000 in
/-- type -/
theorem mx_type (l : Launch) (D : va_G) (a : Nat → Nat) (k : Nat → ClassId) (sz n m rd : Nat) (t p w d g : Nat → Nat) (z c : Int32) (hI : wm_xi n m rd t p w d g) : Met l yX0_type (ws_ yX0_type cX0_type 3 (some .int)) ({ frames := 0, cells := 0, slots := 0, locals := 0 } : Room) (va_Pc [.ref (a 0), .int z, .int c] (wm_pre D wm_cl (wm_xt k) (wm_x a k n m rd t p w d g) sz)) (va_Qi (fun (r : Int32) (u : wm_S × wm_V) => (r, u.1) = wm_ty z c n m t p ∧ wm_xi u.1.1 u.1.2.1 u.2.1 u.1.2.2.1 u.1.2.2.2 u.2.2.1 u.2.2.2.1 u.2.2.2.2) (fun u => wm_is D wm_cl (wm_xt k) (va_A (wm_x a k n m rd t p w d g) sz) (wm_x a k u.1.1 u.1.2.1 u.2.1 u.1.2.2.1 u.1.2.2.2 u.2.2.1 u.2.2.2.1 u.2.2.2.2)) (va_A (wm_x a k n m rd t p w d g) sz)) 0 0 (va_A (wm_x a k n m rd t p w d g) sz) := by
  refine Met.ofW (cc := cX0_type) (maxL := 3) (ret := some .int) (by decide) rfl ?_
  intro P0 e0 s M0 av bl mt cd s1 B hml hv
  obtain ⟨rfl, hsz, hP, hK, hD0⟩ := hv
  have hx := B.exec
  have hb := B.bytes
  have hr := B.returns
  have hts := atoms_spec (ws := (ws_ yX0_type cX0_type 3 (some .int))) B.pre
  have hts : ∀ w ∈ lw_all, w.before _ s = true := fun w h => hts w (List.mem_cons_of_mem _ h)
  have hown : s.vm.findClass RX0 = some M0.cls := findClass_of_methodNamed B.named
  have hlocks := B.notSynchronized
  subst hsz
  have hD := hD0.self (sz := s.heap.size)
  generalize hAe : va_A (wm_x a k n m rd t p w d g) s.heap.size = A at hD ⊢
  have hA : ∀ q : Nat, s.heap.size ≤ q → A q := fun q h => by rw [← hAe]; exact Or.inr h
  have hS : va_S A s.heap s.heap [] := va_S.rf
  have hP : va_P D wm_cl (wm_x a k n m rd t p w d g) s.heap := hP
  have hl := lv_entry ([.ref (a 0), .int z, .int c]) (n := 3) (Nat.le_of_ble_eq_true rfl)
  rw [lg_entry_eq]
  generalize (lg_sl ([.ref (a 0), .int z, .int c]) ++ List.replicate (3 - (lg_sl ([.ref (a 0), .int z, .int c])).length) Slot.unset).toArray = ls at hl ⊢
  have hl : lv_has ls 3 [(0, .ref (a 0)), (1, .int z), (2, .int c)] := hl
  have hab := hI.1
  obtain ⟨-, hrd, hw, hd, hg, hok⟩ := id hI
  obtain ⟨hn40, hm12, ht5, hp5⟩ := id hab
  refine lv_iload_n hx hb dX0_type_0 rfl (lv_at hl 1 rfl) ?_
  refine lv_if_eq (tgt := 16) hx hb dX0_type_1 (by decide) (fun hz => ?_) (fun hz => ?_)
  · skip
    refine lv_aload_n hx hb dX0_type_16 rfl (lv_at hl 0 rfl) ?_
    refine va_get (D := D) (ci := 0) (v := .int (nI n)) (C := RX0) (T := TX0) (N := 9) hx hb hts in_X0 hown hK hP 0 rfl rfl 0 (by decide) (hts _ q24) (fun _ h9 => h9) rfl dX0_type_17 ?_
    refine lv_bipush (v := nI 40) hx hb dX0_type_20 (by decide +kernel) ?_
    refine wm_clt (tgt := 27) hx hb dX0_type_22 (by decide) (by omega) (by omega) (fun hfu => ?_) (fun hfu => ?_)
    · skip
      refine lv_iload_n hx hb dX0_type_27 rfl (lv_at hl 2 rfl) ?_
      refine lv_if_lt (tgt := 36) hx hb dX0_type_28 (by decide) (fun h1 => ?_) (fun h1 => ?_)
      · skip
        refine lv_bipush (v := (-2)) hx hb dX0_type_36 (by decide +kernel) ?_
        exact W.iret (v := (-2)) hx hb hr (fun T0 hT0 hW0 => ⟨⟨(-2), ((n, m, t, p), (rd, w, d, g)), rfl, ⟨(by rw [wm_ty, if_neg (show ¬ (if z = 0 then 40 ≤ n else 12 ≤ m) by rw [if_pos hz]; omega), if_pos (Or.inl h1)]), hI⟩, by rw [hT0]; exact hP, va_K.moved hW0.alike hK, hD⟩, hS.F hT0⟩) hS.2.2 dX0_type_38
      · skip
        refine lv_iload_n hx hb dX0_type_31 rfl (lv_at hl 2 rfl) ?_
        refine lv_iconst (v := 4) hx hb dX0_type_32 (by decide +kernel) ?_
        refine lv_icmp_le (tgt := 39) hx hb dX0_type_33 (by decide) (fun h2 => ?_) (fun h2 => ?_)
        · skip
          have hs : ¬ (c < 0 ∨ ¬ c ≤ 4) := fun h => h.elim h1 (fun h => h h2)
          obtain ⟨x, hx5, rfl⟩ := wm_letter h1 h2
          refine lv_aload_n hx hb dX0_type_39 rfl (lv_at hl 0 rfl) ?_
          refine lv_iconst (v := nI 0) hx hb dX0_type_40 (by decide +kernel) ?_
          refine va_put (D := D) (ci := 0) (v := .int (nI 0)) (ty := .boolean) (C := RX0) (T := TX0) (N := 9) hx hb hts in_X0 tyX0 tyX0_ok nmX0 hown hK hP hD hS 0 rfl rfl 6 (by decide) (hts _ q30) (fun _ h9 => h9) rfl (by decide +kernel) (by first | rfl | decide +kernel) (by first | rfl | decide +kernel) (Nat.le_of_ble_eq_true rfl) dX0_type_41 (fun H locs hP hD hS => ?_)
          have hP : va_P D wm_cl (wm_x a k n m 0 t p w d g) H := hP
          have hD : va_D A (wm_x a k n m 0 t p w d g) := hD
          refine lv_iload_n hx hb dX0_type_44 rfl (lv_at hl 1 rfl) ?_
          refine lv_if_eq (tgt := 74) hx hb dX0_type_45 (by decide) (fun hz4 => ?_) (fun hz4 => ?_)
          · skip
            refine lv_aload_n hx hb dX0_type_74 rfl (lv_at hl 0 rfl) ?_
            refine va_get (D := D) (ci := 0) (v := .ref (a 1)) (C := RX0) (T := TX0) (N := 9) hx hb hts in_X0 hown hK hP 0 rfl rfl 2 (by decide) (hts _ q26) (fun _ h9 => h9) rfl dX0_type_75 ?_
            refine lv_aload_n hx hb dX0_type_78 rfl (lv_at hl 0 rfl) ?_
            refine va_get (D := D) (ci := 0) (v := .int (nI n)) (C := RX0) (T := TX0) (N := 9) hx hb hts in_X0 hown hK hP 0 rfl rfl 0 (by decide) (hts _ q24) (fun _ h9 => h9) rfl dX0_type_79 ?_
            refine lv_iload_n hx hb dX0_type_82 rfl (lv_at hl 2 rfl) ?_
            refine lv_i2b (v := nI x) hx hb dX0_type_83 (wm_i2b x hx5) ?_
            refine wm_bast hx hb hK hP hD hS 1 0 rfl rfl (by decide) (by omega) hx5 dX0_type_84 (fun H locs hP hD hS => ?_)
            have hP : va_P D wm_cl (wm_x a k n m 0 (wm_un t n x) p w d g) H := hP
            have hD : va_D A (wm_x a k n m 0 (wm_un t n x) p w d g) := hD
            refine lv_aload_n hx hb dX0_type_85 rfl (lv_at hl 0 rfl) ?_
            refine lv_dup hx hb dX0_type_86 rfl ?_
            refine va_get (D := D) (ci := 0) (v := .int (nI n)) (C := RX0) (T := TX0) (N := 9) hx hb hts in_X0 hown hK hP 0 rfl rfl 0 (by decide) (hts _ q24) (fun _ h9 => h9) rfl dX0_type_87 ?_
            refine lv_iconst (v := nI 1) hx hb dX0_type_90 (by decide +kernel) ?_
            refine wm_iadd hx hb dX0_type_91 ?_
            refine va_put (D := D) (ci := 0) (v := .int (nI (n + 1))) (ty := .int) (C := RX0) (T := TX0) (N := 9) hx hb hts in_X0 tyX0 tyX0_ok nmX0 hown hK hP hD hS 0 rfl rfl 0 (by decide) (hts _ q24) (fun _ h9 => h9) rfl (by decide +kernel) rfl rfl (Nat.le_of_ble_eq_true rfl) dX0_type_92 (fun H locs hP hD hS => ?_)
            have hP : va_P D wm_cl (wm_x a k (n + 1) m 0 (wm_un t n x) p w d g) H := hP
            have hD : va_D A (wm_x a k (n + 1) m 0 (wm_un t n x) p w d g) := hD
            refine lv_aload_n hx hb dX0_type_95 rfl (lv_at hl 0 rfl) ?_
            refine va_get (D := D) (ci := 0) (v := .int (nI (n + 1))) (C := RX0) (T := TX0) (N := 9) hx hb hts in_X0 hown hK hP 0 rfl rfl 0 (by decide) (hts _ q24) (fun _ h9 => h9) rfl dX0_type_96 ?_
            exact W.iret (v := nI (n + 1)) hx hb hr (fun T0 hT0 hW0 => ⟨⟨nI (n + 1), ((n + 1, m, wm_un t n x, p), (0, w, d, g)), rfl, ⟨(by rw [wm_ty, if_neg (show ¬ (if z = 0 then 40 ≤ n else 12 ≤ m) by rw [if_pos hz]; omega), if_neg hs, if_pos hz, nI_clamp (by omega)]), ⟨⟨show n + 1 ≤ 40 by omega, hm12, wm_un5 ht5 hx5, hp5⟩, Nat.le_of_ble_eq_true rfl, hw, hd, hg, fun h => absurd (show (0 : Nat) = 1 from h) (by decide)⟩⟩, by rw [hT0]; exact hP, va_K.moved hW0.alike hK, hD⟩, hS.F hT0⟩) hS.2.2 dX0_type_99
          · exact absurd hz hz4
        · skip
          refine lv_bipush (v := (-2)) hx hb dX0_type_36 (by decide +kernel) ?_
          exact W.iret (v := (-2)) hx hb hr (fun T0 hT0 hW0 => ⟨⟨(-2), ((n, m, t, p), (rd, w, d, g)), rfl, ⟨(by rw [wm_ty, if_neg (show ¬ (if z = 0 then 40 ≤ n else 12 ≤ m) by rw [if_pos hz]; omega), if_pos (Or.inr h2)]), hI⟩, by rw [hT0]; exact hP, va_K.moved hW0.alike hK, hD⟩, hS.F hT0⟩) hS.2.2 dX0_type_38
    · skip
      refine lv_iconst (v := (-1)) hx hb dX0_type_25 (by decide +kernel) ?_
      exact W.iret (v := (-1)) hx hb hr (fun T0 hT0 hW0 => ⟨⟨(-1), ((n, m, t, p), (rd, w, d, g)), rfl, ⟨(by rw [wm_ty, if_pos (show (if z = 0 then 40 ≤ n else 12 ≤ m) by rw [if_pos hz]; omega)]), hI⟩, by rw [hT0]; exact hP, va_K.moved hW0.alike hK, hD⟩, hS.F hT0⟩) hS.2.2 dX0_type_26
  · skip
    refine lv_aload_n hx hb dX0_type_4 rfl (lv_at hl 0 rfl) ?_
    refine va_get (D := D) (ci := 0) (v := .int (nI m)) (C := RX0) (T := TX0) (N := 9) hx hb hts in_X0 hown hK hP 0 rfl rfl 1 (by decide) (hts _ q25) (fun _ h9 => h9) rfl dX0_type_5 ?_
    refine lv_bipush (v := nI 12) hx hb dX0_type_8 (by decide +kernel) ?_
    refine wm_clt (tgt := 27) hx hb dX0_type_10 (by decide) (by omega) (by omega) (fun hfu => ?_) (fun hfu => ?_)
    · skip
      refine lv_iload_n hx hb dX0_type_27 rfl (lv_at hl 2 rfl) ?_
      refine lv_if_lt (tgt := 36) hx hb dX0_type_28 (by decide) (fun h1 => ?_) (fun h1 => ?_)
      · skip
        refine lv_bipush (v := (-2)) hx hb dX0_type_36 (by decide +kernel) ?_
        exact W.iret (v := (-2)) hx hb hr (fun T0 hT0 hW0 => ⟨⟨(-2), ((n, m, t, p), (rd, w, d, g)), rfl, ⟨(by rw [wm_ty, if_neg (show ¬ (if z = 0 then 40 ≤ n else 12 ≤ m) by rw [if_neg hz]; omega), if_pos (Or.inl h1)]), hI⟩, by rw [hT0]; exact hP, va_K.moved hW0.alike hK, hD⟩, hS.F hT0⟩) hS.2.2 dX0_type_38
      · skip
        refine lv_iload_n hx hb dX0_type_31 rfl (lv_at hl 2 rfl) ?_
        refine lv_iconst (v := 4) hx hb dX0_type_32 (by decide +kernel) ?_
        refine lv_icmp_le (tgt := 39) hx hb dX0_type_33 (by decide) (fun h2 => ?_) (fun h2 => ?_)
        · skip
          have hs : ¬ (c < 0 ∨ ¬ c ≤ 4) := fun h => h.elim h1 (fun h => h h2)
          obtain ⟨x, hx5, rfl⟩ := wm_letter h1 h2
          refine lv_aload_n hx hb dX0_type_39 rfl (lv_at hl 0 rfl) ?_
          refine lv_iconst (v := nI 0) hx hb dX0_type_40 (by decide +kernel) ?_
          refine va_put (D := D) (ci := 0) (v := .int (nI 0)) (ty := .boolean) (C := RX0) (T := TX0) (N := 9) hx hb hts in_X0 tyX0 tyX0_ok nmX0 hown hK hP hD hS 0 rfl rfl 6 (by decide) (hts _ q30) (fun _ h9 => h9) rfl (by decide +kernel) (by first | rfl | decide +kernel) (by first | rfl | decide +kernel) (Nat.le_of_ble_eq_true rfl) dX0_type_41 (fun H locs hP hD hS => ?_)
          have hP : va_P D wm_cl (wm_x a k n m 0 t p w d g) H := hP
          have hD : va_D A (wm_x a k n m 0 t p w d g) := hD
          refine lv_iload_n hx hb dX0_type_44 rfl (lv_at hl 1 rfl) ?_
          refine lv_if_eq (tgt := 74) hx hb dX0_type_45 (by decide) (fun hz4 => ?_) (fun hz4 => ?_)
          · exact absurd hz4 hz
          · skip
            refine lv_aload_n hx hb dX0_type_48 rfl (lv_at hl 0 rfl) ?_
            refine va_get (D := D) (ci := 0) (v := .ref (a 2)) (C := RX0) (T := TX0) (N := 9) hx hb hts in_X0 hown hK hP 0 rfl rfl 3 (by decide) (hts _ q27) (fun _ h9 => h9) rfl dX0_type_49 ?_
            refine lv_aload_n hx hb dX0_type_52 rfl (lv_at hl 0 rfl) ?_
            refine va_get (D := D) (ci := 0) (v := .int (nI m)) (C := RX0) (T := TX0) (N := 9) hx hb hts in_X0 hown hK hP 0 rfl rfl 1 (by decide) (hts _ q25) (fun _ h9 => h9) rfl dX0_type_53 ?_
            refine lv_iload_n hx hb dX0_type_56 rfl (lv_at hl 2 rfl) ?_
            refine lv_i2b (v := nI x) hx hb dX0_type_57 (wm_i2b x hx5) ?_
            refine wm_bast hx hb hK hP hD hS 2 1 rfl rfl (by decide) (by omega) hx5 dX0_type_58 (fun H locs hP hD hS => ?_)
            have hP : va_P D wm_cl (wm_x a k n m 0 t (wm_un p m x) w d g) H := hP
            have hD : va_D A (wm_x a k n m 0 t (wm_un p m x) w d g) := hD
            refine lv_aload_n hx hb dX0_type_59 rfl (lv_at hl 0 rfl) ?_
            refine lv_dup hx hb dX0_type_60 rfl ?_
            refine va_get (D := D) (ci := 0) (v := .int (nI m)) (C := RX0) (T := TX0) (N := 9) hx hb hts in_X0 hown hK hP 0 rfl rfl 1 (by decide) (hts _ q25) (fun _ h9 => h9) rfl dX0_type_61 ?_
            refine lv_iconst (v := nI 1) hx hb dX0_type_64 (by decide +kernel) ?_
            refine wm_iadd hx hb dX0_type_65 ?_
            refine va_put (D := D) (ci := 0) (v := .int (nI (m + 1))) (ty := .int) (C := RX0) (T := TX0) (N := 9) hx hb hts in_X0 tyX0 tyX0_ok nmX0 hown hK hP hD hS 0 rfl rfl 1 (by decide) (hts _ q25) (fun _ h9 => h9) rfl (by decide +kernel) rfl rfl (Nat.le_of_ble_eq_true rfl) dX0_type_66 (fun H locs hP hD hS => ?_)
            have hP : va_P D wm_cl (wm_x a k n (m + 1) 0 t (wm_un p m x) w d g) H := hP
            have hD : va_D A (wm_x a k n (m + 1) 0 t (wm_un p m x) w d g) := hD
            refine lv_aload_n hx hb dX0_type_69 rfl (lv_at hl 0 rfl) ?_
            refine va_get (D := D) (ci := 0) (v := .int (nI (m + 1))) (C := RX0) (T := TX0) (N := 9) hx hb hts in_X0 hown hK hP 0 rfl rfl 1 (by decide) (hts _ q25) (fun _ h9 => h9) rfl dX0_type_70 ?_
            exact W.iret (v := nI (m + 1)) hx hb hr (fun T0 hT0 hW0 => ⟨⟨nI (m + 1), ((n, m + 1, t, wm_un p m x), (0, w, d, g)), rfl, ⟨(by rw [wm_ty, if_neg (show ¬ (if z = 0 then 40 ≤ n else 12 ≤ m) by rw [if_neg hz]; omega), if_neg hs, if_neg hz, nI_clamp (by omega)]), ⟨⟨hn40, show m + 1 ≤ 12 by omega, ht5, wm_un5 hp5 hx5⟩, Nat.le_of_ble_eq_true rfl, hw, hd, hg, fun h => absurd (show (0 : Nat) = 1 from h) (by decide)⟩⟩, by rw [hT0]; exact hP, va_K.moved hW0.alike hK, hD⟩, hS.F hT0⟩) hS.2.2 dX0_type_73
        · skip
          refine lv_bipush (v := (-2)) hx hb dX0_type_36 (by decide +kernel) ?_
          exact W.iret (v := (-2)) hx hb hr (fun T0 hT0 hW0 => ⟨⟨(-2), ((n, m, t, p), (rd, w, d, g)), rfl, ⟨(by rw [wm_ty, if_neg (show ¬ (if z = 0 then 40 ≤ n else 12 ≤ m) by rw [if_neg hz]; omega), if_pos (Or.inr h2)]), hI⟩, by rw [hT0]; exact hP, va_K.moved hW0.alike hK, hD⟩, hS.F hT0⟩) hS.2.2 dX0_type_38
    · skip
      refine lv_goto (tgt := 25) hx hb dX0_type_13 (by decide) ?_
      refine lv_iconst (v := (-1)) hx hb dX0_type_25 (by decide +kernel) ?_
      exact W.iret (v := (-1)) hx hb hr (fun T0 hT0 hW0 => ⟨⟨(-1), ((n, m, t, p), (rd, w, d, g)), rfl, ⟨(by rw [wm_ty, if_pos (show (if z = 0 then 40 ≤ n else 12 ≤ m) by rw [if_neg hz]; omega)]), hI⟩, by rw [hT0]; exact hP, va_K.moved hW0.alike hK, hD⟩, hS.F hT0⟩) hS.2.2 dX0_type_26
set_option maxHeartbeats 4000000 in
set_option maxRecDepth 100000 in
/-- replace -/
theorem mx_replace (l : Launch) (D : va_G) (a : Nat → Nat) (k : Nat → ClassId) (sz n m rd : Nat) (t p w d g : Nat → Nat) (z i c : Int32) (hI : wm_xi n m rd t p w d g) : Met l yX0_replace (ws_ yX0_replace cX0_replace 4 (some .boolean)) ({ frames := 1, cells := 0, slots := 0, locals := 21 } : Room) (va_Pc [.ref (a 0), .int z, .int i, .int c] (wm_pre D wm_cl (wm_xt k) (wm_x a k n m rd t p w d g) sz)) (va_Qi (fun (r : Int32) (u : wm_S × wm_V) => (r, u.1) = wm_rp z i c n m t p ∧ wm_xi u.1.1 u.1.2.1 u.2.1 u.1.2.2.1 u.1.2.2.2 u.2.2.1 u.2.2.2.1 u.2.2.2.2) (fun u => wm_is D wm_cl (wm_xt k) (va_A (wm_x a k n m rd t p w d g) sz) (wm_x a k u.1.1 u.1.2.1 u.2.1 u.1.2.2.1 u.1.2.2.2 u.2.2.1 u.2.2.2.1 u.2.2.2.2)) (va_A (wm_x a k n m rd t p w d g) sz)) 0 0 (va_A (wm_x a k n m rd t p w d g) sz) := by
  refine Met.ofW (cc := cX0_replace) (maxL := 4) (ret := some .boolean) (by decide) rfl ?_
  intro P0 e0 s M0 av bl mt cd s1 B hml hv
  obtain ⟨rfl, hsz, hP, hK, hD0⟩ := hv
  have hx := B.exec
  have hb := B.bytes
  have hr := B.returns
  have hts := atoms_spec (ws := (ws_ yX0_replace cX0_replace 4 (some .boolean))) B.pre
  have hts : ∀ w ∈ lw_all, w.before _ s = true := fun w h => hts w (List.mem_cons_of_mem _ h)
  have hown : s.vm.findClass RX0 = some M0.cls := findClass_of_methodNamed B.named
  have hlocks := B.notSynchronized
  subst hsz
  have hD := hD0.self (sz := s.heap.size)
  generalize hAe : va_A (wm_x a k n m rd t p w d g) s.heap.size = A at hD ⊢
  have hA : ∀ q : Nat, s.heap.size ≤ q → A q := fun q h => by rw [← hAe]; exact Or.inr h
  have hS : va_S A s.heap s.heap [] := va_S.rf
  have hP : va_P D wm_cl (wm_x a k n m rd t p w d g) s.heap := hP
  have hl := lv_entry ([.ref (a 0), .int z, .int i, .int c]) (n := 4) (Nat.le_of_ble_eq_true rfl)
  rw [lg_entry_eq]
  generalize (lg_sl ([.ref (a 0), .int z, .int i, .int c]) ++ List.replicate (4 - (lg_sl ([.ref (a 0), .int z, .int i, .int c])).length) Slot.unset).toArray = ls at hl ⊢
  have hl : lv_has ls 4 [(0, .ref (a 0)), (1, .int z), (2, .int i), (3, .int c)] := hl
  have hab := hI.1
  obtain ⟨-, hrd, hw, hd, hg, hok⟩ := id hI
  obtain ⟨hn40, hm12, ht5, hp5⟩ := id hab
  have hlen : wm_len z n m < 2 ^ 31 := by unfold wm_len; split <;> omega
  refine lv_iload_n hx hb dX0_replace_0 rfl (lv_at hl 2 rfl) ?_
  refine lv_if_lt (tgt := 22) hx hb dX0_replace_1 (by decide) (fun hi1 => ?_) (fun hi1 => ?_)
  · skip
    refine lv_iconst (v := nI 0) hx hb dX0_replace_22 (by decide +kernel) ?_
    exact W.zret (v := nI 0) hx hb hr (by first | rfl | decide +kernel) (fun T0 hT0 hW0 => ⟨⟨nI 0, ((n, m, t, p), (rd, w, d, g)), rfl, ⟨(by rw [wm_rp, if_pos (Or.inl (Or.inl hi1))]; rfl), hI⟩, by rw [hT0]; exact hP, va_K.moved hW0.alike hK, hD⟩, hS.F hT0⟩) hS.2.2 dX0_replace_23
  · skip
    refine lv_iload_n hx hb dX0_replace_4 rfl (lv_at hl 2 rfl) ?_
    refine lv_aload_n hx hb dX0_replace_5 rfl (lv_at hl 0 rfl) ?_
    refine lv_iload_n hx hb dX0_replace_6 rfl (lv_at hl 1 rfl) ?_
    refine wm_calli (wr := []) (As := [.int z]) (rest := [.int i]) ⟨hx, hb, hml, hown, hts⟩ (mx_length l D a k _ n m rd t p w d g z) (cwV 1 hts (lw_V q62 q63 q64 q14 q65) rfl rfl rfl (by decide +kernel) ⟨Nat.le_of_ble_eq_true rfl, Nat.le_of_ble_eq_true rfl⟩) (va_recv hK hP (ci := 0) (q0 := 0) rfl rfl) hK hP hD hS hA [0, 1, 2, 3, 4, 5, 6] [] [0, 1, 2, 3, 4, 5] rfl rfl rfl (by decide) (by decide) (by decide) rfl rfl hl.1 rfl (Nat.le_of_ble_eq_true rfl) dX0_replace_7 ⟨Nat.zero_le _, Nat.zero_le _⟩ (fun r_ u H locs hq hP hD hS => ?_)
    have hP : va_P D wm_cl (wm_x a k n m rd t p w d g) H := hP
    have hD : va_D A (wm_x a k n m rd t p w d g) := hD
    have hq : r_ = nI (wm_len z n m) := hq
    subst hq
    refine lv_icmp_ge (tgt := 22) hx hb dX0_replace_10 (by decide) (fun hi2 => ?_) (fun hi2 => ?_)
    · skip
      refine lv_iconst (v := nI 0) hx hb dX0_replace_22 (by decide +kernel) ?_
      exact W.zret (v := nI 0) hx hb hr (by first | rfl | decide +kernel) (fun T0 hT0 hW0 => ⟨⟨nI 0, ((n, m, t, p), (rd, w, d, g)), rfl, ⟨(by rw [wm_rp, if_pos (Or.inl (Or.inr hi2))]; rfl), hI⟩, by rw [hT0]; exact hP, va_K.moved hW0.alike hK, hD⟩, hS.F hT0⟩) hS.2.2 dX0_replace_23
    · skip
      refine lv_iload_n hx hb dX0_replace_13 rfl (lv_at hl 3 rfl) ?_
      refine lv_if_lt (tgt := 22) hx hb dX0_replace_14 (by decide) (fun h1 => ?_) (fun h1 => ?_)
      · skip
        refine lv_iconst (v := nI 0) hx hb dX0_replace_22 (by decide +kernel) ?_
        exact W.zret (v := nI 0) hx hb hr (by first | rfl | decide +kernel) (fun T0 hT0 hW0 => ⟨⟨nI 0, ((n, m, t, p), (rd, w, d, g)), rfl, ⟨(by rw [wm_rp, if_pos (Or.inr (Or.inl h1))]; rfl), hI⟩, by rw [hT0]; exact hP, va_K.moved hW0.alike hK, hD⟩, hS.F hT0⟩) hS.2.2 dX0_replace_23
      · skip
        refine lv_iload_n hx hb dX0_replace_17 rfl (lv_at hl 3 rfl) ?_
        refine lv_iconst (v := 4) hx hb dX0_replace_18 (by decide +kernel) ?_
        refine lv_icmp_le (tgt := 24) hx hb dX0_replace_19 (by decide) (fun h2 => ?_) (fun h2 => ?_)
        · skip
          have hs : ¬ ((i < 0 ∨ nI (wm_len z n m) ≤ i) ∨ c < 0 ∨ ¬ c ≤ 4) := fun h => h.elim (fun h => h.elim hi1 hi2) (fun h => h.elim h1 (fun h => h h2))
          obtain ⟨x, hx5, rfl⟩ := wm_letter h1 h2
          obtain ⟨j, hj, rfl⟩ := wm_index hlen hi1 hi2
          refine lv_aload_n hx hb dX0_replace_24 rfl (lv_at hl 0 rfl) ?_
          refine lv_iconst (v := nI 0) hx hb dX0_replace_25 (by decide +kernel) ?_
          refine va_put (D := D) (ci := 0) (v := .int (nI 0)) (ty := .boolean) (C := RX0) (T := TX0) (N := 9) hx hb hts in_X0 tyX0 tyX0_ok nmX0 hown hK hP hD hS 0 rfl rfl 6 (by decide) (hts _ q30) (fun _ h9 => h9) rfl (by decide +kernel) (by first | rfl | decide +kernel) (by first | rfl | decide +kernel) (Nat.le_of_ble_eq_true rfl) dX0_replace_26 (fun H locs hP hD hS => ?_)
          have hP : va_P D wm_cl (wm_x a k n m 0 t p w d g) H := hP
          have hD : va_D A (wm_x a k n m 0 t p w d g) := hD
          refine lv_iload_n hx hb dX0_replace_29 rfl (lv_at hl 1 rfl) ?_
          refine lv_if_eq (tgt := 44) hx hb dX0_replace_30 (by decide) (fun hz => ?_) (fun hz => ?_)
          · skip
            rw [wm_len, if_pos hz] at hj
            refine lv_aload_n hx hb dX0_replace_44 rfl (lv_at hl 0 rfl) ?_
            refine va_get (D := D) (ci := 0) (v := .ref (a 1)) (C := RX0) (T := TX0) (N := 9) hx hb hts in_X0 hown hK hP 0 rfl rfl 2 (by decide) (hts _ q26) (fun _ h9 => h9) rfl dX0_replace_45 ?_
            refine lv_iload_n hx hb dX0_replace_48 rfl (lv_at hl 2 rfl) ?_
            refine lv_iload_n hx hb dX0_replace_49 rfl (lv_at hl 3 rfl) ?_
            refine lv_i2b (v := nI x) hx hb dX0_replace_50 (wm_i2b x hx5) ?_
            refine wm_bast hx hb hK hP hD hS 1 0 rfl rfl (by decide) (by omega) hx5 dX0_replace_51 (fun H locs hP hD hS => ?_)
            have hP : va_P D wm_cl (wm_x a k n m 0 (wm_un t j x) p w d g) H := hP
            have hD : va_D A (wm_x a k n m 0 (wm_un t j x) p w d g) := hD
            refine lv_iconst (v := nI 1) hx hb dX0_replace_52 (by decide +kernel) ?_
            exact W.zret (v := nI 1) hx hb hr (by first | rfl | decide +kernel) (fun T0 hT0 hW0 => ⟨⟨nI 1, ((n, m, wm_un t j x, p), (0, w, d, g)), rfl, ⟨(by rw [wm_rp, if_neg hs, if_pos hz, nI_clamp (by omega), nI_clamp (by omega)]; rfl), ⟨⟨hn40, hm12, wm_un5 ht5 hx5, hp5⟩, Nat.le_of_ble_eq_true rfl, hw, hd, hg, fun h => absurd (show (0 : Nat) = 1 from h) (by decide)⟩⟩, by rw [hT0]; exact hP, va_K.moved hW0.alike hK, hD⟩, hS.F hT0⟩) hS.2.2 dX0_replace_53
          · skip
            rw [wm_len, if_neg hz] at hj
            refine lv_aload_n hx hb dX0_replace_33 rfl (lv_at hl 0 rfl) ?_
            refine va_get (D := D) (ci := 0) (v := .ref (a 2)) (C := RX0) (T := TX0) (N := 9) hx hb hts in_X0 hown hK hP 0 rfl rfl 3 (by decide) (hts _ q27) (fun _ h9 => h9) rfl dX0_replace_34 ?_
            refine lv_iload_n hx hb dX0_replace_37 rfl (lv_at hl 2 rfl) ?_
            refine lv_iload_n hx hb dX0_replace_38 rfl (lv_at hl 3 rfl) ?_
            refine lv_i2b (v := nI x) hx hb dX0_replace_39 (wm_i2b x hx5) ?_
            refine wm_bast hx hb hK hP hD hS 2 1 rfl rfl (by decide) (by omega) hx5 dX0_replace_40 (fun H locs hP hD hS => ?_)
            have hP : va_P D wm_cl (wm_x a k n m 0 t (wm_un p j x) w d g) H := hP
            have hD : va_D A (wm_x a k n m 0 t (wm_un p j x) w d g) := hD
            refine lv_goto (tgt := 52) hx hb dX0_replace_41 (by decide) ?_
            refine lv_iconst (v := nI 1) hx hb dX0_replace_52 (by decide +kernel) ?_
            exact W.zret (v := nI 1) hx hb hr (by first | rfl | decide +kernel) (fun T0 hT0 hW0 => ⟨⟨nI 1, ((n, m, t, wm_un p j x), (0, w, d, g)), rfl, ⟨(by rw [wm_rp, if_neg hs, if_neg hz, nI_clamp (by omega), nI_clamp (by omega)]; rfl), ⟨⟨hn40, hm12, ht5, wm_un5 hp5 hx5⟩, Nat.le_of_ble_eq_true rfl, hw, hd, hg, fun h => absurd (show (0 : Nat) = 1 from h) (by decide)⟩⟩, by rw [hT0]; exact hP, va_K.moved hW0.alike hK, hD⟩, hS.F hT0⟩) hS.2.2 dX0_replace_53
        · skip
          refine lv_iconst (v := nI 0) hx hb dX0_replace_22 (by decide +kernel) ?_
          exact W.zret (v := nI 0) hx hb hr (by first | rfl | decide +kernel) (fun T0 hT0 hW0 => ⟨⟨nI 0, ((n, m, t, p), (rd, w, d, g)), rfl, ⟨(by rw [wm_rp, if_pos (Or.inr (Or.inr h2))]; rfl), hI⟩, by rw [hT0]; exact hP, va_K.moved hW0.alike hK, hD⟩, hS.F hT0⟩) hS.2.2 dX0_replace_23
set_option maxHeartbeats 4000000 in
set_option maxRecDepth 100000 in
/-- shorten -/
theorem mx_shorten (l : Launch) (D : va_G) (a : Nat → Nat) (k : Nat → ClassId) (sz n m rd : Nat) (t p w d g : Nat → Nat) (z : Int32) (hI : wm_xi n m rd t p w d g) : Met l yX0_shorten (ws_ yX0_shorten cX0_shorten 4 (some .int)) ({ frames := 1, cells := 0, slots := 0, locals := 21 } : Room) (va_Pc [.ref (a 0), .int z] (wm_pre D wm_cl (wm_xt k) (wm_x a k n m rd t p w d g) sz)) (va_Qi (fun (r : Int32) (u : wm_S × wm_V) => (r, u.1) = wm_so z n m t p ∧ wm_xi u.1.1 u.1.2.1 u.2.1 u.1.2.2.1 u.1.2.2.2 u.2.2.1 u.2.2.2.1 u.2.2.2.2) (fun u => wm_is D wm_cl (wm_xt k) (va_A (wm_x a k n m rd t p w d g) sz) (wm_x a k u.1.1 u.1.2.1 u.2.1 u.1.2.2.1 u.1.2.2.2 u.2.2.1 u.2.2.2.1 u.2.2.2.2)) (va_A (wm_x a k n m rd t p w d g) sz)) 0 0 (va_A (wm_x a k n m rd t p w d g) sz) := by
  refine Met.ofW (cc := cX0_shorten) (maxL := 4) (ret := some .int) (by decide) rfl ?_
  intro P0 e0 s M0 av bl mt cd s1 B hml hv
  obtain ⟨rfl, hsz, hP, hK, hD0⟩ := hv
  have hx := B.exec
  have hb := B.bytes
  have hr := B.returns
  have hts := atoms_spec (ws := (ws_ yX0_shorten cX0_shorten 4 (some .int))) B.pre
  have hts : ∀ w ∈ lw_all, w.before _ s = true := fun w h => hts w (List.mem_cons_of_mem _ h)
  have hown : s.vm.findClass RX0 = some M0.cls := findClass_of_methodNamed B.named
  have hlocks := B.notSynchronized
  subst hsz
  have hD := hD0.self (sz := s.heap.size)
  generalize hAe : va_A (wm_x a k n m rd t p w d g) s.heap.size = A at hD ⊢
  have hA : ∀ q : Nat, s.heap.size ≤ q → A q := fun q h => by rw [← hAe]; exact Or.inr h
  have hS : va_S A s.heap s.heap [] := va_S.rf
  have hP : va_P D wm_cl (wm_x a k n m rd t p w d g) s.heap := hP
  have hl := lv_entry ([.ref (a 0), .int z]) (n := 4) (Nat.le_of_ble_eq_true rfl)
  rw [lg_entry_eq]
  generalize (lg_sl ([.ref (a 0), .int z]) ++ List.replicate (4 - (lg_sl ([.ref (a 0), .int z])).length) Slot.unset).toArray = ls at hl ⊢
  have hl : lv_has ls 4 [(0, .ref (a 0)), (1, .int z)] := hl
  have hab := hI.1
  obtain ⟨-, hrd, hw, hd, hg, hok⟩ := id hI
  obtain ⟨hn40, hm12, ht5, hp5⟩ := id hab
  have hlen : wm_len z n m ≤ 40 := by unfold wm_len; split <;> omega
  refine lv_aload_n hx hb dX0_shorten_0 rfl (lv_at hl 0 rfl) ?_
  refine lv_iload_n hx hb dX0_shorten_1 rfl (lv_at hl 1 rfl) ?_
  refine wm_calli (wr := []) (As := [.int z]) (rest := []) ⟨hx, hb, hml, hown, hts⟩ (mx_length l D a k _ n m rd t p w d g z) (cwV 1 hts (lw_V q62 q63 q64 q14 q65) rfl rfl rfl (by decide +kernel) ⟨Nat.le_of_ble_eq_true rfl, Nat.le_of_ble_eq_true rfl⟩) (va_recv hK hP (ci := 0) (q0 := 0) rfl rfl) hK hP hD hS hA [0, 1, 2, 3, 4, 5, 6] [] [0, 1, 2, 3, 4, 5] rfl rfl rfl (by decide) (by decide) (by decide) rfl rfl hl.1 rfl (Nat.le_of_ble_eq_true rfl) dX0_shorten_2 ⟨Nat.zero_le _, Nat.zero_le _⟩ (fun r_ u H locs hq hP hD hS => ?_)
  have hP : va_P D wm_cl (wm_x a k n m rd t p w d g) H := hP
  have hD : va_D A (wm_x a k n m rd t p w d g) := hD
  have hq : r_ = nI (wm_len z n m) := hq
  subst hq
  refine lv_iconst (v := nI 1) hx hb dX0_shorten_5 (by decide +kernel) ?_
  by_cases h0 : wm_len z n m = 0
  · skip
    refine lv_isub hx hb dX0_shorten_6 ?_
    refine wm_top (y := (-1)) (by rw [h0]; decide) ?_
    refine lv_istore_n (lv' := [(2, .int (-1)), (0, .ref (a 0)), (1, .int z)]) hx hb dX0_shorten_7 rfl hl (by decide) rfl (fun ls hl => ?_)
    refine lv_iload_n hx hb dX0_shorten_8 rfl (lv_at hl 0 rfl) ?_
    refine lv_if_ge (tgt := 15) hx hb dX0_shorten_9 (by decide) (fun hc => ?_) (fun hc => ?_)
    · exact absurd hc (by decide)
    · skip
      refine lv_bipush (v := (-2)) hx hb dX0_shorten_12 (by decide +kernel) ?_
      exact W.iret (v := (-2)) hx hb hr (fun T0 hT0 hW0 => ⟨⟨(-2), ((n, m, t, p), (rd, w, d, g)), rfl, ⟨(by rw [wm_so, if_pos h0]), hI⟩, by rw [hT0]; exact hP, va_K.moved hW0.alike hK, hD⟩, hS.F hT0⟩) hS.2.2 dX0_shorten_14
  · skip
    refine wm_isub hx hb dX0_shorten_6 (by omega) ?_
    refine lv_istore_n (lv' := [(2, .int (nI ((wm_len z n m) - 1))), (0, .ref (a 0)), (1, .int z)]) hx hb dX0_shorten_7 rfl hl (by decide) rfl (fun ls hl => ?_)
    refine lv_iload_n hx hb dX0_shorten_8 rfl (lv_at hl 0 rfl) ?_
    refine lv_if_ge (tgt := 15) hx hb dX0_shorten_9 (by decide) (fun hc => ?_) (fun hc => ?_)
    · skip
      refine lv_aload_n hx hb dX0_shorten_15 rfl (lv_at hl 1 rfl) ?_
      refine lv_iconst (v := nI 0) hx hb dX0_shorten_16 (by decide +kernel) ?_
      refine va_put (D := D) (ci := 0) (v := .int (nI 0)) (ty := .boolean) (C := RX0) (T := TX0) (N := 9) hx hb hts in_X0 tyX0 tyX0_ok nmX0 hown hK hP hD hS 0 rfl rfl 6 (by decide) (hts _ q30) (fun _ h9 => h9) rfl (by decide +kernel) (by first | rfl | decide +kernel) (by first | rfl | decide +kernel) (Nat.le_of_ble_eq_true rfl) dX0_shorten_17 (fun H locs hP hD hS => ?_)
      have hP : va_P D wm_cl (wm_x a k n m 0 t p w d g) H := hP
      have hD : va_D A (wm_x a k n m 0 t p w d g) := hD
      refine lv_iconst (v := nI 0) hx hb dX0_shorten_20 (by decide +kernel) ?_
      refine lv_istore_n (lv' := [(3, .int (nI 0)), (2, .int (nI ((wm_len z n m) - 1))), (0, .ref (a 0)), (1, .int z)]) hx hb dX0_shorten_21 rfl hl (by decide) rfl (fun ls hl => ?_)
      by_cases hz : z = 0
      · skip
        have el : wm_len z n m = n := if_pos hz
        rw [el] at h0 hl
        have hl : lv_has ls 4 [(3, .int (nI 0)), (2, .int (nI (n - 1))), (0, .ref (a 0)), (1, .int z)] := hl
        have loop : ∀ (r i : Nat), i + r = n - 1 → ∀ (H : Heap) (locs : List Loc) (ls : Array Slot), va_P D wm_cl (wm_x a k n m 0 (wm_it wm_sf i t) p w d g) H → va_D A (wm_x a k n m 0 (wm_it wm_sf i t) p w d g) → va_S A s.heap H locs → lv_has ls 4 [(0, .ref (a 0)), (1, .int z), (2, .int (nI (n - 1))), (3, .int (nI i))] → W P0 l e0 (headSpec (ws_ yX0_shorten cX0_shorten 4 (some .int)) ({ frames := 1, cells := 0, slots := 0, locals := 21 } : Room)).room s M0 ([.ref (a 0), .int z] : List Value).toArray bl mt cd H locs 0 0 (MQ bl (va_Qi (fun (r : Int32) (u : wm_S × wm_V) => (r, u.1) = wm_so z n m t p ∧ wm_xi u.1.1 u.1.2.1 u.2.1 u.1.2.2.1 u.1.2.2.2 u.2.2.1 u.2.2.2.1 u.2.2.2.2) (fun u => wm_is D wm_cl (wm_xt k) A (wm_x a k u.1.1 u.1.2.1 u.2.1 u.1.2.2.1 u.1.2.2.2 u.2.2.1 u.2.2.2.1 u.2.2.2.2)) A) ([.ref (a 0), .int z] : List Value).toArray s 0 0 A) (F0 M0 22 ls []) := by
          intro r
          induction r with
          | zero =>
            intro i hi
            intro H locs ls hP hD hS hl
            refine lv_iload_n hx hb dX0_shorten_22 rfl (lv_at hl 3 rfl) ?_
            refine lv_iload_n hx hb dX0_shorten_23 rfl (lv_at hl 2 rfl) ?_
            refine wm_cge (tgt := 68) hx hb dX0_shorten_24 (by decide) (by omega) (by omega) (fun hdd => ?_) (fun hdd => ?_)
            · skip
              have hie : i = n - 1 := by omega
              rw [hie] at hP hD
              have hP : va_P D wm_cl (wm_x a k n m 0 (wm_it wm_sf (n - 1) t) p w d g) H := hP
              have hD : va_D A (wm_x a k n m 0 (wm_it wm_sf (n - 1) t) p w d g) := hD
              refine lv_iload_n hx hb dX0_shorten_68 rfl (lv_at hl 1 rfl) ?_
              refine lv_if_eq (tgt := 80) hx hb dX0_shorten_69 (by decide) (fun hz2 => ?_) (fun hz2 => ?_)
              · skip
                refine lv_aload_n hx hb dX0_shorten_80 rfl (lv_at hl 0 rfl) ?_
                refine lv_iload_n hx hb dX0_shorten_81 rfl (lv_at hl 2 rfl) ?_
                refine va_put (D := D) (ci := 0) (v := .int (nI (n - 1))) (ty := .int) (C := RX0) (T := TX0) (N := 9) hx hb hts in_X0 tyX0 tyX0_ok nmX0 hown hK hP hD hS 0 rfl rfl 0 (by decide) (hts _ q24) (fun _ h9 => h9) rfl (by decide +kernel) rfl rfl (Nat.le_of_ble_eq_true rfl) dX0_shorten_82 (fun H locs hP hD hS => ?_)
                have hP : va_P D wm_cl (wm_x a k (n - 1) m 0 (wm_it wm_sf (n - 1) t) p w d g) H := hP
                have hD : va_D A (wm_x a k (n - 1) m 0 (wm_it wm_sf (n - 1) t) p w d g) := hD
                refine lv_iload_n hx hb dX0_shorten_85 rfl (lv_at hl 2 rfl) ?_
                exact W.iret (v := nI (n - 1)) hx hb hr (fun T0 hT0 hW0 => ⟨⟨nI (n - 1), ((n - 1, m, wm_it wm_sf (n - 1) t, p), (0, w, d, g)), rfl, ⟨(by rw [wm_so, el, if_neg h0, if_pos hz]), ⟨⟨show n - 1 ≤ 40 by omega, hm12, fun j => wm_sf_lt ht5 _ j, hp5⟩, Nat.le_of_ble_eq_true rfl, hw, hd, hg, fun h => absurd (show (0 : Nat) = 1 from h) (by decide)⟩⟩, by rw [hT0]; exact hP, va_K.moved hW0.alike hK, hD⟩, hS.F hT0⟩) hS.2.2 dX0_shorten_86
              · exact absurd hz hz2
            · omega
          | succ r ih =>
            intro i hi
            intro H locs ls hP hD hS hl
            have hsi := wm_sf_lt ht5 i (i + 1)
            refine lv_iload_n hx hb dX0_shorten_22 rfl (lv_at hl 3 rfl) ?_
            refine lv_iload_n hx hb dX0_shorten_23 rfl (lv_at hl 2 rfl) ?_
            refine wm_cge (tgt := 68) hx hb dX0_shorten_24 (by decide) (by omega) (by omega) (fun hdd => ?_) (fun hdd => ?_)
            · omega
            · skip
              refine lv_iload_n hx hb dX0_shorten_27 rfl (lv_at hl 1 rfl) ?_
              refine lv_if_eq (tgt := 48) hx hb dX0_shorten_28 (by decide) (fun hz2 => ?_) (fun hz2 => ?_)
              · skip
                refine lv_aload_n hx hb dX0_shorten_48 rfl (lv_at hl 0 rfl) ?_
                refine va_get (D := D) (ci := 0) (v := .ref (a 1)) (C := RX0) (T := TX0) (N := 9) hx hb hts in_X0 hown hK hP 0 rfl rfl 2 (by decide) (hts _ q26) (fun _ h9 => h9) rfl dX0_shorten_49 ?_
                refine lv_iload_n hx hb dX0_shorten_52 rfl (lv_at hl 3 rfl) ?_
                refine lv_aload_n hx hb dX0_shorten_53 rfl (lv_at hl 0 rfl) ?_
                refine va_get (D := D) (ci := 0) (v := .ref (a 1)) (C := RX0) (T := TX0) (N := 9) hx hb hts in_X0 hown hK hP 0 rfl rfl 2 (by decide) (hts _ q26) (fun _ h9 => h9) rfl dX0_shorten_54 ?_
                refine lv_iload_n hx hb dX0_shorten_57 rfl (lv_at hl 3 rfl) ?_
                refine lv_iconst (v := nI 1) hx hb dX0_shorten_58 (by decide +kernel) ?_
                refine wm_iadd hx hb dX0_shorten_59 ?_
                refine wm_bald hx hb hK hP 1 0 rfl rfl (by decide) (by omega) dX0_shorten_60 ?_
                refine wm_bast hx hb hK hP hD hS 1 0 rfl rfl (by decide) (by omega) hsi dX0_shorten_61 (fun H locs hP hD hS => ?_)
                have hP : va_P D wm_cl (wm_x a k n m 0 (wm_un (wm_it wm_sf i t) i ((wm_it wm_sf i t) (i + 1))) p w d g) H := hP
                have hD : va_D A (wm_x a k n m 0 (wm_un (wm_it wm_sf i t) i ((wm_it wm_sf i t) (i + 1))) p w d g) := hD
                refine lv_iinc (v := nI (i + 1)) (lv' := [(3, .int (nI (i + 1))), (0, .ref (a 0)), (1, .int z), (2, .int (nI (n - 1)))]) hx hb dX0_shorten_62 hl (k := 3) rfl (wm_inc i) (by decide) rfl (fun ls hl => ?_)
                refine lv_goto (tgt := 22) hx hb dX0_shorten_65 (by decide) ?_
                exact ih (i + 1) (by omega) _ _ _ hP hD hS (lv_sub hl [1, 2, 3, 0] rfl)
              · exact absurd hz hz2
        exact loop (n - 1) 0 (by omega) _ _ _ hP hD hS (lv_sub hl [2, 3, 1, 0] rfl)
      · skip
        have el : wm_len z n m = m := if_neg hz
        rw [el] at h0 hl
        have hl : lv_has ls 4 [(3, .int (nI 0)), (2, .int (nI (m - 1))), (0, .ref (a 0)), (1, .int z)] := hl
        have loop : ∀ (r i : Nat), i + r = m - 1 → ∀ (H : Heap) (locs : List Loc) (ls : Array Slot), va_P D wm_cl (wm_x a k n m 0 t (wm_it wm_sf i p) w d g) H → va_D A (wm_x a k n m 0 t (wm_it wm_sf i p) w d g) → va_S A s.heap H locs → lv_has ls 4 [(0, .ref (a 0)), (1, .int z), (2, .int (nI (m - 1))), (3, .int (nI i))] → W P0 l e0 (headSpec (ws_ yX0_shorten cX0_shorten 4 (some .int)) ({ frames := 1, cells := 0, slots := 0, locals := 21 } : Room)).room s M0 ([.ref (a 0), .int z] : List Value).toArray bl mt cd H locs 0 0 (MQ bl (va_Qi (fun (r : Int32) (u : wm_S × wm_V) => (r, u.1) = wm_so z n m t p ∧ wm_xi u.1.1 u.1.2.1 u.2.1 u.1.2.2.1 u.1.2.2.2 u.2.2.1 u.2.2.2.1 u.2.2.2.2) (fun u => wm_is D wm_cl (wm_xt k) A (wm_x a k u.1.1 u.1.2.1 u.2.1 u.1.2.2.1 u.1.2.2.2 u.2.2.1 u.2.2.2.1 u.2.2.2.2)) A) ([.ref (a 0), .int z] : List Value).toArray s 0 0 A) (F0 M0 22 ls []) := by
          intro r
          induction r with
          | zero =>
            intro i hi
            intro H locs ls hP hD hS hl
            refine lv_iload_n hx hb dX0_shorten_22 rfl (lv_at hl 3 rfl) ?_
            refine lv_iload_n hx hb dX0_shorten_23 rfl (lv_at hl 2 rfl) ?_
            refine wm_cge (tgt := 68) hx hb dX0_shorten_24 (by decide) (by omega) (by omega) (fun hdd => ?_) (fun hdd => ?_)
            · skip
              have hie : i = m - 1 := by omega
              rw [hie] at hP hD
              have hP : va_P D wm_cl (wm_x a k n m 0 t (wm_it wm_sf (m - 1) p) w d g) H := hP
              have hD : va_D A (wm_x a k n m 0 t (wm_it wm_sf (m - 1) p) w d g) := hD
              refine lv_iload_n hx hb dX0_shorten_68 rfl (lv_at hl 1 rfl) ?_
              refine lv_if_eq (tgt := 80) hx hb dX0_shorten_69 (by decide) (fun hz2 => ?_) (fun hz2 => ?_)
              · exact absurd hz2 hz
              · skip
                refine lv_aload_n hx hb dX0_shorten_72 rfl (lv_at hl 0 rfl) ?_
                refine lv_iload_n hx hb dX0_shorten_73 rfl (lv_at hl 2 rfl) ?_
                refine va_put (D := D) (ci := 0) (v := .int (nI (m - 1))) (ty := .int) (C := RX0) (T := TX0) (N := 9) hx hb hts in_X0 tyX0 tyX0_ok nmX0 hown hK hP hD hS 0 rfl rfl 1 (by decide) (hts _ q25) (fun _ h9 => h9) rfl (by decide +kernel) rfl rfl (Nat.le_of_ble_eq_true rfl) dX0_shorten_74 (fun H locs hP hD hS => ?_)
                have hP : va_P D wm_cl (wm_x a k n (m - 1) 0 t (wm_it wm_sf (m - 1) p) w d g) H := hP
                have hD : va_D A (wm_x a k n (m - 1) 0 t (wm_it wm_sf (m - 1) p) w d g) := hD
                refine lv_goto (tgt := 85) hx hb dX0_shorten_77 (by decide) ?_
                refine lv_iload_n hx hb dX0_shorten_85 rfl (lv_at hl 2 rfl) ?_
                exact W.iret (v := nI (m - 1)) hx hb hr (fun T0 hT0 hW0 => ⟨⟨nI (m - 1), ((n, m - 1, t, wm_it wm_sf (m - 1) p), (0, w, d, g)), rfl, ⟨(by rw [wm_so, el, if_neg h0, if_neg hz]), ⟨⟨hn40, show m - 1 ≤ 12 by omega, ht5, fun j => wm_sf_lt hp5 _ j⟩, Nat.le_of_ble_eq_true rfl, hw, hd, hg, fun h => absurd (show (0 : Nat) = 1 from h) (by decide)⟩⟩, by rw [hT0]; exact hP, va_K.moved hW0.alike hK, hD⟩, hS.F hT0⟩) hS.2.2 dX0_shorten_86
            · omega
          | succ r ih =>
            intro i hi
            intro H locs ls hP hD hS hl
            have hsi := wm_sf_lt hp5 i (i + 1)
            refine lv_iload_n hx hb dX0_shorten_22 rfl (lv_at hl 3 rfl) ?_
            refine lv_iload_n hx hb dX0_shorten_23 rfl (lv_at hl 2 rfl) ?_
            refine wm_cge (tgt := 68) hx hb dX0_shorten_24 (by decide) (by omega) (by omega) (fun hdd => ?_) (fun hdd => ?_)
            · omega
            · skip
              refine lv_iload_n hx hb dX0_shorten_27 rfl (lv_at hl 1 rfl) ?_
              refine lv_if_eq (tgt := 48) hx hb dX0_shorten_28 (by decide) (fun hz2 => ?_) (fun hz2 => ?_)
              · exact absurd hz2 hz
              · skip
                refine lv_aload_n hx hb dX0_shorten_31 rfl (lv_at hl 0 rfl) ?_
                refine va_get (D := D) (ci := 0) (v := .ref (a 2)) (C := RX0) (T := TX0) (N := 9) hx hb hts in_X0 hown hK hP 0 rfl rfl 3 (by decide) (hts _ q27) (fun _ h9 => h9) rfl dX0_shorten_32 ?_
                refine lv_iload_n hx hb dX0_shorten_35 rfl (lv_at hl 3 rfl) ?_
                refine lv_aload_n hx hb dX0_shorten_36 rfl (lv_at hl 0 rfl) ?_
                refine va_get (D := D) (ci := 0) (v := .ref (a 2)) (C := RX0) (T := TX0) (N := 9) hx hb hts in_X0 hown hK hP 0 rfl rfl 3 (by decide) (hts _ q27) (fun _ h9 => h9) rfl dX0_shorten_37 ?_
                refine lv_iload_n hx hb dX0_shorten_40 rfl (lv_at hl 3 rfl) ?_
                refine lv_iconst (v := nI 1) hx hb dX0_shorten_41 (by decide +kernel) ?_
                refine wm_iadd hx hb dX0_shorten_42 ?_
                refine wm_bald hx hb hK hP 2 1 rfl rfl (by decide) (by omega) dX0_shorten_43 ?_
                refine wm_bast hx hb hK hP hD hS 2 1 rfl rfl (by decide) (by omega) hsi dX0_shorten_44 (fun H locs hP hD hS => ?_)
                have hP : va_P D wm_cl (wm_x a k n m 0 t (wm_un (wm_it wm_sf i p) i ((wm_it wm_sf i p) (i + 1))) w d g) H := hP
                have hD : va_D A (wm_x a k n m 0 t (wm_un (wm_it wm_sf i p) i ((wm_it wm_sf i p) (i + 1))) w d g) := hD
                refine lv_goto (tgt := 62) hx hb dX0_shorten_45 (by decide) ?_
                refine lv_iinc (v := nI (i + 1)) (lv' := [(3, .int (nI (i + 1))), (0, .ref (a 0)), (1, .int z), (2, .int (nI (m - 1)))]) hx hb dX0_shorten_62 hl (k := 3) rfl (wm_inc i) (by decide) rfl (fun ls hl => ?_)
                refine lv_goto (tgt := 22) hx hb dX0_shorten_65 (by decide) ?_
                exact ih (i + 1) (by omega) _ _ _ hP hD hS (lv_sub hl [1, 2, 3, 0] rfl)
        exact loop (m - 1) 0 (by omega) _ _ _ hP hD hS (lv_sub hl [2, 3, 1, 0] rfl)
    · exact absurd (nI_pos' (by omega)) hc
end
section
abbrev wm_xr (a : Nat → Nat) (k : Nat → ClassId) (ro : Nat → Nat) (n m rd : Nat) (t p w d g : Nat → Nat) : va_W :=
  [(a 0, .inr (0, [.int (nI n), .int (nI m), .ref (a 1), .ref (a 2), .ref (a 3), .ref (a 4), .int (nI rd), .ref (a 5), .ref (a 6)])), (a 1, .inl (k 1, 40, .inl (wm_a t))), (a 2, .inl (k 2, 12, .inl (wm_a p))), (a 3, .inl (k 3, 64, .inl (wm_a ro))), (a 4, .inl (k 4, 192, .inl (wm_a w))), (a 5, .inl (k 5, 40, .inl (wm_a d))), (a 6, .inl (k 6, 40, .inl (wm_a g)))]
theorem wm_17 : 17 ^ 120 % 7681 = 5413 := by decide +kernel
theorem wm_rtK_r {q : Nat} : wm_rtK (q + 1) q * 5413 % 7681 = 5413 ^ (q + 1) % 7681 := by
  rw [wm_rtK, if_pos (Nat.lt_succ_self q), Nat.pow_succ, Nat.mod_mul_mod]
theorem wm_rtK_lt (k j : Nat) : wm_rtK k j < 7681 := by
  unfold wm_rtK
  split
  · exact Nat.mod_lt _ (by decide)
  · decide
set_option maxHeartbeats 4000000 in
set_option maxRecDepth 100000 in
/-- the constructor: six arrays, the powers of the root -/
theorem mx_init (l : Launch) (D : va_G) (b sz : Nat) : Met l yX0_init (ws_ yX0_init cX0_init 3 none) ({ frames := 1, cells := 6, slots := 388, locals := 12 } : Room) (va_Pc [.ref b] (wm_pre D wm_cl [] [(b, .inr (0, [.int (nI 0), .int (nI 0), .null, .null, .null, .null, .int (nI 0), .null, .null]))] sz)) (va_Qv (fun u : (Nat → Nat) × (Nat → ClassId) => u.1 0 = b) (fun u => wm_is D wm_cl (wm_xt u.2) (va_A [(b, .inr (0, [.int (nI 0), .int (nI 0), .null, .null, .null, .null, .int (nI 0), .null, .null]))] sz) (wm_x u.1 u.2 0 0 0 (fun _ => 0) (fun _ => 0) (fun _ => 0) (fun _ => 0) (fun _ => 0))) (va_A [(b, .inr (0, [.int (nI 0), .int (nI 0), .null, .null, .null, .null, .int (nI 0), .null, .null]))] sz)) 6 388 (va_A [(b, .inr (0, [.int (nI 0), .int (nI 0), .null, .null, .null, .null, .int (nI 0), .null, .null]))] sz) := by
  refine Met.ofW (cc := cX0_init) (maxL := 3) (ret := none) (by decide) rfl ?_
  intro P0 e0 s M0 av bl mt cd s1 B hml hv
  obtain ⟨rfl, hsz, hP, hK, hD0⟩ := hv
  have hx := B.exec
  have hb := B.bytes
  have hr := B.returns
  have hts := atoms_spec (ws := (ws_ yX0_init cX0_init 3 none)) B.pre
  have hts : ∀ w ∈ lw_all, w.before _ s = true := fun w h => hts w (List.mem_cons_of_mem _ h)
  have hown : s.vm.findClass RX0 = some M0.cls := findClass_of_methodNamed B.named
  have hlocks := B.notSynchronized
  have hin : mt.name = "<init>" := (name_of_methodNamed B.named B.method).1
  subst hsz
  have hD := hD0.self (sz := s.heap.size)
  generalize hAe : va_A [(b, .inr (0, [.int (nI 0), .int (nI 0), .null, .null, .null, .null, .int (nI 0), .null, .null]))] s.heap.size = A at hD ⊢
  have hA : ∀ q : Nat, s.heap.size ≤ q → A q := fun q h => by rw [← hAe]; exact Or.inr h
  have hS : va_S A s.heap s.heap [] := va_S.rf
  have hP : va_P D wm_cl [(b, .inr (0, [.int (nI 0), .int (nI 0), .null, .null, .null, .null, .int (nI 0), .null, .null]))] s.heap := hP
  have hl := lv_entry ([.ref b]) (n := 3) (Nat.le_of_ble_eq_true rfl)
  rw [lg_entry_eq]
  generalize (lg_sl ([.ref b]) ++ List.replicate (3 - (lg_sl ([.ref b])).length) Slot.unset).toArray = ls at hl ⊢
  have hl : lv_has ls 3 [(0, .ref b)] := hl
  refine lv_aload_n hx hb dX0_init_0 rfl (lv_at hl 0 rfl) ?_
  refine W.objInit hx hb hown (hts _ q21) (hts _ q22) (hts _ q23) rfl (by rw [hml]; exact hl.1) rfl dX0_init_1 (Nat.le_of_ble_eq_true rfl) (Nat.le_of_ble_eq_true rfl) ?_
  refine W.eq (g2 := F0 M0 4 ls []) rfl ?_
  refine lv_aload_n hx hb dX0_init_4 rfl (lv_at hl 0 rfl) ?_
  refine lv_bipush (v := nI 40) hx hb dX0_init_5 (by decide +kernel) ?_
  refine va_newa (atype := .byte) (ty := .byte) (N' := 40) (a0 := (40, .inl (wm_a (fun _ => 0)))) hx hb (hts _ q52) rfl hK hP hD hS hA (fun cA => rfl) (by decide +kernel) (by decide +kernel) (by decide +kernel) (Nat.le_of_ble_eq_true rfl) (Nat.le_of_ble_eq_true rfl) dX0_init_7 (fun q1 c1 H hK hP hD hS => ?_)
  refine W.widen (k := 1) (n := 40) (Nat.le_refl _) (Nat.le_refl _) ?_
  have hP : va_P D wm_cl [(b, .inr (0, [.int (nI 0), .int (nI 0), .null, .null, .null, .null, .int (nI 0), .null, .null])), (q1, .inl (c1, 40, .inl (wm_a (fun _ => 0))))] H := hP
  have hD : va_D A [(b, .inr (0, [.int (nI 0), .int (nI 0), .null, .null, .null, .null, .int (nI 0), .null, .null])), (q1, .inl (c1, 40, .inl (wm_a (fun _ => 0))))] := hD
  have hK : va_K D wm_cl [(c1, .byte)] s := hK
  refine va_putF (D := D) (ci := 0) (v := .ref q1) (ty := .array .byte) (C := RX0) (T := TX0) (N := 9) hx hb hts in_X0 tyX0 tyX0_ok nmX0 hown hK hP hD hS 0 rfl rfl 2 (by decide) (hts _ q26) (fun _ h9 => h9) rfl hin rfl (by decide +kernel) rfl rfl (Nat.le_of_ble_eq_true rfl) dX0_init_9 (fun H locs hP hD hS => ?_)
  have hP : va_P D wm_cl [(b, .inr (0, [.int (nI 0), .int (nI 0), .ref q1, .null, .null, .null, .int (nI 0), .null, .null])), (q1, .inl (c1, 40, .inl (wm_a (fun _ => 0))))] H := hP
  have hD : va_D A [(b, .inr (0, [.int (nI 0), .int (nI 0), .ref q1, .null, .null, .null, .int (nI 0), .null, .null])), (q1, .inl (c1, 40, .inl (wm_a (fun _ => 0))))] := hD
  refine lv_aload_n hx hb dX0_init_12 rfl (lv_at hl 0 rfl) ?_
  refine lv_bipush (v := nI 12) hx hb dX0_init_13 (by decide +kernel) ?_
  refine va_newa (atype := .byte) (ty := .byte) (N' := 12) (a0 := (12, .inl (wm_a (fun _ => 0)))) hx hb (hts _ q52) rfl hK hP hD hS hA (fun cA => rfl) (by decide +kernel) (by decide +kernel) (by decide +kernel) (Nat.le_of_ble_eq_true rfl) (Nat.le_of_ble_eq_true rfl) dX0_init_15 (fun q2 c2 H hK hP hD hS => ?_)
  refine W.widen (k := 2) (n := 52) (Nat.le_refl _) (Nat.le_refl _) ?_
  have hP : va_P D wm_cl [(b, .inr (0, [.int (nI 0), .int (nI 0), .ref q1, .null, .null, .null, .int (nI 0), .null, .null])), (q1, .inl (c1, 40, .inl (wm_a (fun _ => 0)))), (q2, .inl (c2, 12, .inl (wm_a (fun _ => 0))))] H := hP
  have hD : va_D A [(b, .inr (0, [.int (nI 0), .int (nI 0), .ref q1, .null, .null, .null, .int (nI 0), .null, .null])), (q1, .inl (c1, 40, .inl (wm_a (fun _ => 0)))), (q2, .inl (c2, 12, .inl (wm_a (fun _ => 0))))] := hD
  have hK : va_K D wm_cl [(c1, .byte), (c2, .byte)] s := hK
  refine va_putF (D := D) (ci := 0) (v := .ref q2) (ty := .array .byte) (C := RX0) (T := TX0) (N := 9) hx hb hts in_X0 tyX0 tyX0_ok nmX0 hown hK hP hD hS 0 rfl rfl 3 (by decide) (hts _ q27) (fun _ h9 => h9) rfl hin rfl (by decide +kernel) rfl rfl (Nat.le_of_ble_eq_true rfl) dX0_init_17 (fun H locs hP hD hS => ?_)
  have hP : va_P D wm_cl [(b, .inr (0, [.int (nI 0), .int (nI 0), .ref q1, .ref q2, .null, .null, .int (nI 0), .null, .null])), (q1, .inl (c1, 40, .inl (wm_a (fun _ => 0)))), (q2, .inl (c2, 12, .inl (wm_a (fun _ => 0))))] H := hP
  have hD : va_D A [(b, .inr (0, [.int (nI 0), .int (nI 0), .ref q1, .ref q2, .null, .null, .int (nI 0), .null, .null])), (q1, .inl (c1, 40, .inl (wm_a (fun _ => 0)))), (q2, .inl (c2, 12, .inl (wm_a (fun _ => 0))))] := hD
  refine lv_aload_n hx hb dX0_init_20 rfl (lv_at hl 0 rfl) ?_
  refine lv_bipush (v := nI 64) hx hb dX0_init_21 (by decide +kernel) ?_
  refine va_newa (atype := .int) (ty := .int) (N' := 64) (a0 := (64, .inl (wm_a (fun _ => 0)))) hx hb (hts _ q53) rfl hK hP hD hS hA (fun cA => rfl) (by decide +kernel) (by decide +kernel) (by decide +kernel) (Nat.le_of_ble_eq_true rfl) (Nat.le_of_ble_eq_true rfl) dX0_init_23 (fun q3 c3 H hK hP hD hS => ?_)
  refine W.widen (k := 3) (n := 116) (Nat.le_refl _) (Nat.le_refl _) ?_
  have hP : va_P D wm_cl [(b, .inr (0, [.int (nI 0), .int (nI 0), .ref q1, .ref q2, .null, .null, .int (nI 0), .null, .null])), (q1, .inl (c1, 40, .inl (wm_a (fun _ => 0)))), (q2, .inl (c2, 12, .inl (wm_a (fun _ => 0)))), (q3, .inl (c3, 64, .inl (wm_a (fun _ => 0))))] H := hP
  have hD : va_D A [(b, .inr (0, [.int (nI 0), .int (nI 0), .ref q1, .ref q2, .null, .null, .int (nI 0), .null, .null])), (q1, .inl (c1, 40, .inl (wm_a (fun _ => 0)))), (q2, .inl (c2, 12, .inl (wm_a (fun _ => 0)))), (q3, .inl (c3, 64, .inl (wm_a (fun _ => 0))))] := hD
  have hK : va_K D wm_cl [(c1, .byte), (c2, .byte), (c3, .int)] s := hK
  refine va_putF (D := D) (ci := 0) (v := .ref q3) (ty := .array .int) (C := RX0) (T := TX0) (N := 9) hx hb hts in_X0 tyX0 tyX0_ok nmX0 hown hK hP hD hS 0 rfl rfl 4 (by decide) (hts _ q28) (fun _ h9 => h9) rfl hin rfl (by decide +kernel) rfl rfl (Nat.le_of_ble_eq_true rfl) dX0_init_25 (fun H locs hP hD hS => ?_)
  have hP : va_P D wm_cl [(b, .inr (0, [.int (nI 0), .int (nI 0), .ref q1, .ref q2, .ref q3, .null, .int (nI 0), .null, .null])), (q1, .inl (c1, 40, .inl (wm_a (fun _ => 0)))), (q2, .inl (c2, 12, .inl (wm_a (fun _ => 0)))), (q3, .inl (c3, 64, .inl (wm_a (fun _ => 0))))] H := hP
  have hD : va_D A [(b, .inr (0, [.int (nI 0), .int (nI 0), .ref q1, .ref q2, .ref q3, .null, .int (nI 0), .null, .null])), (q1, .inl (c1, 40, .inl (wm_a (fun _ => 0)))), (q2, .inl (c2, 12, .inl (wm_a (fun _ => 0)))), (q3, .inl (c3, 64, .inl (wm_a (fun _ => 0))))] := hD
  refine lv_aload_n hx hb dX0_init_28 rfl (lv_at hl 0 rfl) ?_
  refine lv_sipush (v := nI 192) hx hb dX0_init_29 (by decide +kernel) ?_
  refine va_newa (atype := .int) (ty := .int) (N' := 192) (a0 := (192, .inl (wm_a (fun _ => 0)))) hx hb (hts _ q53) rfl hK hP hD hS hA (fun cA => rfl) (by decide +kernel) (by decide +kernel) (by decide +kernel) (Nat.le_of_ble_eq_true rfl) (Nat.le_of_ble_eq_true rfl) dX0_init_32 (fun q4 c4 H hK hP hD hS => ?_)
  refine W.widen (k := 4) (n := 308) (Nat.le_refl _) (Nat.le_refl _) ?_
  have hP : va_P D wm_cl [(b, .inr (0, [.int (nI 0), .int (nI 0), .ref q1, .ref q2, .ref q3, .null, .int (nI 0), .null, .null])), (q1, .inl (c1, 40, .inl (wm_a (fun _ => 0)))), (q2, .inl (c2, 12, .inl (wm_a (fun _ => 0)))), (q3, .inl (c3, 64, .inl (wm_a (fun _ => 0)))), (q4, .inl (c4, 192, .inl (wm_a (fun _ => 0))))] H := hP
  have hD : va_D A [(b, .inr (0, [.int (nI 0), .int (nI 0), .ref q1, .ref q2, .ref q3, .null, .int (nI 0), .null, .null])), (q1, .inl (c1, 40, .inl (wm_a (fun _ => 0)))), (q2, .inl (c2, 12, .inl (wm_a (fun _ => 0)))), (q3, .inl (c3, 64, .inl (wm_a (fun _ => 0)))), (q4, .inl (c4, 192, .inl (wm_a (fun _ => 0))))] := hD
  have hK : va_K D wm_cl [(c1, .byte), (c2, .byte), (c3, .int), (c4, .int)] s := hK
  refine va_putF (D := D) (ci := 0) (v := .ref q4) (ty := .array .int) (C := RX0) (T := TX0) (N := 9) hx hb hts in_X0 tyX0 tyX0_ok nmX0 hown hK hP hD hS 0 rfl rfl 5 (by decide) (hts _ q29) (fun _ h9 => h9) rfl hin rfl (by decide +kernel) rfl rfl (Nat.le_of_ble_eq_true rfl) dX0_init_34 (fun H locs hP hD hS => ?_)
  have hP : va_P D wm_cl [(b, .inr (0, [.int (nI 0), .int (nI 0), .ref q1, .ref q2, .ref q3, .ref q4, .int (nI 0), .null, .null])), (q1, .inl (c1, 40, .inl (wm_a (fun _ => 0)))), (q2, .inl (c2, 12, .inl (wm_a (fun _ => 0)))), (q3, .inl (c3, 64, .inl (wm_a (fun _ => 0)))), (q4, .inl (c4, 192, .inl (wm_a (fun _ => 0))))] H := hP
  have hD : va_D A [(b, .inr (0, [.int (nI 0), .int (nI 0), .ref q1, .ref q2, .ref q3, .ref q4, .int (nI 0), .null, .null])), (q1, .inl (c1, 40, .inl (wm_a (fun _ => 0)))), (q2, .inl (c2, 12, .inl (wm_a (fun _ => 0)))), (q3, .inl (c3, 64, .inl (wm_a (fun _ => 0)))), (q4, .inl (c4, 192, .inl (wm_a (fun _ => 0))))] := hD
  refine lv_aload_n hx hb dX0_init_37 rfl (lv_at hl 0 rfl) ?_
  refine lv_bipush (v := nI 40) hx hb dX0_init_38 (by decide +kernel) ?_
  refine va_newa (atype := .int) (ty := .int) (N' := 40) (a0 := (40, .inl (wm_a (fun _ => 0)))) hx hb (hts _ q53) rfl hK hP hD hS hA (fun cA => rfl) (by decide +kernel) (by decide +kernel) (by decide +kernel) (Nat.le_of_ble_eq_true rfl) (Nat.le_of_ble_eq_true rfl) dX0_init_40 (fun q5 c5 H hK hP hD hS => ?_)
  refine W.widen (k := 5) (n := 348) (Nat.le_refl _) (Nat.le_refl _) ?_
  have hP : va_P D wm_cl [(b, .inr (0, [.int (nI 0), .int (nI 0), .ref q1, .ref q2, .ref q3, .ref q4, .int (nI 0), .null, .null])), (q1, .inl (c1, 40, .inl (wm_a (fun _ => 0)))), (q2, .inl (c2, 12, .inl (wm_a (fun _ => 0)))), (q3, .inl (c3, 64, .inl (wm_a (fun _ => 0)))), (q4, .inl (c4, 192, .inl (wm_a (fun _ => 0)))), (q5, .inl (c5, 40, .inl (wm_a (fun _ => 0))))] H := hP
  have hD : va_D A [(b, .inr (0, [.int (nI 0), .int (nI 0), .ref q1, .ref q2, .ref q3, .ref q4, .int (nI 0), .null, .null])), (q1, .inl (c1, 40, .inl (wm_a (fun _ => 0)))), (q2, .inl (c2, 12, .inl (wm_a (fun _ => 0)))), (q3, .inl (c3, 64, .inl (wm_a (fun _ => 0)))), (q4, .inl (c4, 192, .inl (wm_a (fun _ => 0)))), (q5, .inl (c5, 40, .inl (wm_a (fun _ => 0))))] := hD
  have hK : va_K D wm_cl [(c1, .byte), (c2, .byte), (c3, .int), (c4, .int), (c5, .int)] s := hK
  refine va_putF (D := D) (ci := 0) (v := .ref q5) (ty := .array .int) (C := RX0) (T := TX0) (N := 9) hx hb hts in_X0 tyX0 tyX0_ok nmX0 hown hK hP hD hS 0 rfl rfl 7 (by decide) (hts _ q31) (fun _ h9 => h9) rfl hin rfl (by decide +kernel) rfl rfl (Nat.le_of_ble_eq_true rfl) dX0_init_42 (fun H locs hP hD hS => ?_)
  have hP : va_P D wm_cl [(b, .inr (0, [.int (nI 0), .int (nI 0), .ref q1, .ref q2, .ref q3, .ref q4, .int (nI 0), .ref q5, .null])), (q1, .inl (c1, 40, .inl (wm_a (fun _ => 0)))), (q2, .inl (c2, 12, .inl (wm_a (fun _ => 0)))), (q3, .inl (c3, 64, .inl (wm_a (fun _ => 0)))), (q4, .inl (c4, 192, .inl (wm_a (fun _ => 0)))), (q5, .inl (c5, 40, .inl (wm_a (fun _ => 0))))] H := hP
  have hD : va_D A [(b, .inr (0, [.int (nI 0), .int (nI 0), .ref q1, .ref q2, .ref q3, .ref q4, .int (nI 0), .ref q5, .null])), (q1, .inl (c1, 40, .inl (wm_a (fun _ => 0)))), (q2, .inl (c2, 12, .inl (wm_a (fun _ => 0)))), (q3, .inl (c3, 64, .inl (wm_a (fun _ => 0)))), (q4, .inl (c4, 192, .inl (wm_a (fun _ => 0)))), (q5, .inl (c5, 40, .inl (wm_a (fun _ => 0))))] := hD
  refine lv_aload_n hx hb dX0_init_45 rfl (lv_at hl 0 rfl) ?_
  refine lv_bipush (v := nI 40) hx hb dX0_init_46 (by decide +kernel) ?_
  refine va_newa (atype := .int) (ty := .int) (N' := 40) (a0 := (40, .inl (wm_a (fun _ => 0)))) hx hb (hts _ q53) rfl hK hP hD hS hA (fun cA => rfl) (by decide +kernel) (by decide +kernel) (by decide +kernel) (Nat.le_of_ble_eq_true rfl) (Nat.le_of_ble_eq_true rfl) dX0_init_48 (fun q6 c6 H hK hP hD hS => ?_)
  refine W.widen (k := 6) (n := 388) (Nat.le_refl _) (Nat.le_refl _) ?_
  have hP : va_P D wm_cl [(b, .inr (0, [.int (nI 0), .int (nI 0), .ref q1, .ref q2, .ref q3, .ref q4, .int (nI 0), .ref q5, .null])), (q1, .inl (c1, 40, .inl (wm_a (fun _ => 0)))), (q2, .inl (c2, 12, .inl (wm_a (fun _ => 0)))), (q3, .inl (c3, 64, .inl (wm_a (fun _ => 0)))), (q4, .inl (c4, 192, .inl (wm_a (fun _ => 0)))), (q5, .inl (c5, 40, .inl (wm_a (fun _ => 0)))), (q6, .inl (c6, 40, .inl (wm_a (fun _ => 0))))] H := hP
  have hD : va_D A [(b, .inr (0, [.int (nI 0), .int (nI 0), .ref q1, .ref q2, .ref q3, .ref q4, .int (nI 0), .ref q5, .null])), (q1, .inl (c1, 40, .inl (wm_a (fun _ => 0)))), (q2, .inl (c2, 12, .inl (wm_a (fun _ => 0)))), (q3, .inl (c3, 64, .inl (wm_a (fun _ => 0)))), (q4, .inl (c4, 192, .inl (wm_a (fun _ => 0)))), (q5, .inl (c5, 40, .inl (wm_a (fun _ => 0)))), (q6, .inl (c6, 40, .inl (wm_a (fun _ => 0))))] := hD
  have hK : va_K D wm_cl [(c1, .byte), (c2, .byte), (c3, .int), (c4, .int), (c5, .int), (c6, .int)] s := hK
  refine va_putF (D := D) (ci := 0) (v := .ref q6) (ty := .array .int) (C := RX0) (T := TX0) (N := 9) hx hb hts in_X0 tyX0 tyX0_ok nmX0 hown hK hP hD hS 0 rfl rfl 8 (by decide) (hts _ q32) (fun _ h9 => h9) rfl hin rfl (by decide +kernel) rfl rfl (Nat.le_of_ble_eq_true rfl) dX0_init_50 (fun H locs hP hD hS => ?_)
  have hP : va_P D wm_cl [(b, .inr (0, [.int (nI 0), .int (nI 0), .ref q1, .ref q2, .ref q3, .ref q4, .int (nI 0), .ref q5, .ref q6])), (q1, .inl (c1, 40, .inl (wm_a (fun _ => 0)))), (q2, .inl (c2, 12, .inl (wm_a (fun _ => 0)))), (q3, .inl (c3, 64, .inl (wm_a (fun _ => 0)))), (q4, .inl (c4, 192, .inl (wm_a (fun _ => 0)))), (q5, .inl (c5, 40, .inl (wm_a (fun _ => 0)))), (q6, .inl (c6, 40, .inl (wm_a (fun _ => 0))))] H := hP
  have hD : va_D A [(b, .inr (0, [.int (nI 0), .int (nI 0), .ref q1, .ref q2, .ref q3, .ref q4, .int (nI 0), .ref q5, .ref q6])), (q1, .inl (c1, 40, .inl (wm_a (fun _ => 0)))), (q2, .inl (c2, 12, .inl (wm_a (fun _ => 0)))), (q3, .inl (c3, 64, .inl (wm_a (fun _ => 0)))), (q4, .inl (c4, 192, .inl (wm_a (fun _ => 0)))), (q5, .inl (c5, 40, .inl (wm_a (fun _ => 0)))), (q6, .inl (c6, 40, .inl (wm_a (fun _ => 0))))] := hD
  obtain ⟨a, ea⟩ : ∃ a : Nat → Nat, a = fun i => [b, q1, q2, q3, q4, q5, q6].getD i 0 := ⟨_, rfl⟩
  obtain ⟨k, ek⟩ : ∃ k : Nat → ClassId, k = fun i => [c1, c1, c2, c3, c4, c5, c6].getD i c1 := ⟨_, rfl⟩
  have ea0 : a 0 = b := by rw [ea]; rfl
  have ea1 : a 1 = q1 := by rw [ea]; rfl
  have ea2 : a 2 = q2 := by rw [ea]; rfl
  have ea3 : a 3 = q3 := by rw [ea]; rfl
  have ea4 : a 4 = q4 := by rw [ea]; rfl
  have ea5 : a 5 = q5 := by rw [ea]; rfl
  have ea6 : a 6 = q6 := by rw [ea]; rfl
  have ek1 : k 1 = c1 := by rw [ek]; rfl
  have ek2 : k 2 = c2 := by rw [ek]; rfl
  have ek3 : k 3 = c3 := by rw [ek]; rfl
  have ek4 : k 4 = c4 := by rw [ek]; rfl
  have ek5 : k 5 = c5 := by rw [ek]; rfl
  have ek6 : k 6 = c6 := by rw [ek]; rfl
  have hP : va_P D wm_cl (wm_xr a k (fun _ => 0) 0 0 0 (fun _ => 0) (fun _ => 0) (fun _ => 0) (fun _ => 0) (fun _ => 0)) H := by rw [wm_xr, ea0, ea1, ea2, ea3, ea4, ea5, ea6, ek1, ek2, ek3, ek4, ek5, ek6]; exact hP
  have hD : va_D A (wm_xr a k (fun _ => 0) 0 0 0 (fun _ => 0) (fun _ => 0) (fun _ => 0) (fun _ => 0) (fun _ => 0)) := by rw [wm_xr, ea0, ea1, ea2, ea3, ea4, ea5, ea6, ek1, ek2, ek3, ek4, ek5, ek6]; exact hD
  have hK : va_K D wm_cl (wm_xt k) s := by rw [wm_xt, ek1, ek2, ek3, ek4, ek5, ek6]; exact hK
  have hl : lv_has ls 3 [(0, .ref (a 0))] := by rw [ea0]; exact hl
  refine lv_iconst (v := nI 1) hx hb dX0_init_53 (by decide +kernel) ?_
  refine lv_istore_n (lv' := [(1, .int (nI 1)), (0, .ref (a 0))]) hx hb dX0_init_54 rfl hl (by decide) rfl (fun ls hl => ?_)
  refine lv_iconst (v := nI 0) hx hb dX0_init_55 (by decide +kernel) ?_
  refine lv_istore_n (lv' := [(2, .int (nI 0)), (1, .int (nI 1)), (0, .ref (a 0))]) hx hb dX0_init_56 rfl hl (by decide) rfl (fun ls hl => ?_)
  have loopB : ∀ (r i : Nat), i + r = 120 → ∀ (H : Heap) (locs : List Loc) (ls : Array Slot), va_P D wm_cl (wm_xr a k (fun _ => 0) 0 0 0 (fun _ => 0) (fun _ => 0) (fun _ => 0) (fun _ => 0) (fun _ => 0)) H → va_D A (wm_xr a k (fun _ => 0) 0 0 0 (fun _ => 0) (fun _ => 0) (fun _ => 0) (fun _ => 0) (fun _ => 0)) → va_S A s.heap H locs → lv_has ls 3 [(0, .ref (a 0)), (1, .int (nI (17 ^ i % 7681))), (2, .int (nI i))] → W P0 l e0 (headSpec (ws_ yX0_init cX0_init 3 none) ({ frames := 1, cells := 6, slots := 388, locals := 12 } : Room)).room s M0 ([.ref b] : List Value).toArray bl mt cd H locs 6 388 (MQ bl (va_Qv (fun u : (Nat → Nat) × (Nat → ClassId) => u.1 0 = b) (fun u => wm_is D wm_cl (wm_xt u.2) A (wm_x u.1 u.2 0 0 0 (fun _ => 0) (fun _ => 0) (fun _ => 0) (fun _ => 0) (fun _ => 0))) A) ([.ref b] : List Value).toArray s 6 388 A) (F0 M0 57 ls []) := by
    intro r
    induction r with
    | zero =>
      intro i hi
      intro H locs ls hP hD hS hl
      refine lv_iload_n hx hb dX0_init_57 rfl (lv_at hl 2 rfl) ?_
      refine lv_bipush (v := nI 120) hx hb dX0_init_58 (by decide +kernel) ?_
      refine wm_cge (tgt := 78) hx hb dX0_init_60 (by decide) (by omega) (by omega) (fun hc => ?_) (fun hc => ?_)
      · skip
        obtain rfl : i = 120 := by omega
        rw [wm_17] at hl
        have hl := lv_sub (l' := [(0, .ref (a 0)), (1, .int (nI 5413))]) hl [0, 1] rfl
        refine lv_aload_n hx hb dX0_init_78 rfl (lv_at hl 0 rfl) ?_
        refine va_get (D := D) (ci := 0) (v := .ref (a 3)) (C := RX0) (T := TX0) (N := 9) hx hb hts in_X0 hown hK hP 0 rfl rfl 4 (by decide) (hts _ q28) (fun _ h9 => h9) rfl dX0_init_79 ?_
        refine lv_iconst (v := nI 0) hx hb dX0_init_82 (by decide +kernel) ?_
        refine lv_iconst (v := nI 1) hx hb dX0_init_83 (by decide +kernel) ?_
        refine wm_iast hx hb hK hP hD hS 3 2 rfl rfl (by decide) (by omega) dX0_init_84 (fun H locs hP hD hS => ?_)
        have hP : va_P D wm_cl (wm_xr a k (wm_un (fun _ => 0) 0 1) 0 0 0 (fun _ => 0) (fun _ => 0) (fun _ => 0) (fun _ => 0) (fun _ => 0)) H := hP
        have hD : va_D A (wm_xr a k (wm_un (fun _ => 0) 0 1) 0 0 0 (fun _ => 0) (fun _ => 0) (fun _ => 0) (fun _ => 0) (fun _ => 0)) := hD
        rw [wm_rtK_1] at hP hD
        refine lv_iconst (v := nI 1) hx hb dX0_init_85 (by decide +kernel) ?_
        refine lv_istore_n (lv' := [(2, .int (nI 1)), (0, .ref (a 0)), (1, .int (nI 5413))]) hx hb dX0_init_86 rfl hl (by decide) rfl (fun ls hl => ?_)
        have loopR : ∀ (r2 q : Nat), q + r2 = 63 → ∀ (H : Heap) (locs : List Loc) (ls : Array Slot), va_P D wm_cl (wm_xr a k (wm_rtK (q + 1)) 0 0 0 (fun _ => 0) (fun _ => 0) (fun _ => 0) (fun _ => 0) (fun _ => 0)) H → va_D A (wm_xr a k (wm_rtK (q + 1)) 0 0 0 (fun _ => 0) (fun _ => 0) (fun _ => 0) (fun _ => 0) (fun _ => 0)) → va_S A s.heap H locs → lv_has ls 3 [(0, .ref (a 0)), (1, .int (nI 5413)), (2, .int (nI (q + 1)))] → W P0 l e0 (headSpec (ws_ yX0_init cX0_init 3 none) ({ frames := 1, cells := 6, slots := 388, locals := 12 } : Room)).room s M0 ([.ref b] : List Value).toArray bl mt cd H locs 6 388 (MQ bl (va_Qv (fun u : (Nat → Nat) × (Nat → ClassId) => u.1 0 = b) (fun u => wm_is D wm_cl (wm_xt u.2) A (wm_x u.1 u.2 0 0 0 (fun _ => 0) (fun _ => 0) (fun _ => 0) (fun _ => 0) (fun _ => 0))) A) ([.ref b] : List Value).toArray s 6 388 A) (F0 M0 87 ls []) := by
          intro r2
          induction r2 with
          | zero =>
            intro q hi
            intro H locs ls hP hD hS hl
            refine lv_iload_n hx hb dX0_init_87 rfl (lv_at hl 2 rfl) ?_
            refine lv_bipush (v := nI 64) hx hb dX0_init_88 (by decide +kernel) ?_
            refine wm_cge (tgt := 119) hx hb dX0_init_90 (by decide) (by omega) (by omega) (fun hc2 => ?_) (fun hc2 => ?_)
            · skip
              obtain rfl : q = 63 := by omega
              exact W.vret hx hb hr (fun T0 hT0 hW0 => ⟨⟨(a, k), rfl, ea0, by rw [hT0]; exact hP, va_K.moved hW0.alike hK, hD⟩, hS.F hT0⟩) hS.2.2 dX0_init_119
            · omega
          | succ r2 ih2 =>
            intro q hi
            intro H locs ls hP hD hS hl
            refine lv_iload_n hx hb dX0_init_87 rfl (lv_at hl 2 rfl) ?_
            refine lv_bipush (v := nI 64) hx hb dX0_init_88 (by decide +kernel) ?_
            refine wm_cge (tgt := 119) hx hb dX0_init_90 (by decide) (by omega) (by omega) (fun hc2 => ?_) (fun hc2 => ?_)
            · omega
            · skip
              refine lv_aload_n hx hb dX0_init_93 rfl (lv_at hl 0 rfl) ?_
              refine va_get (D := D) (ci := 0) (v := .ref (a 3)) (C := RX0) (T := TX0) (N := 9) hx hb hts in_X0 hown hK hP 0 rfl rfl 4 (by decide) (hts _ q28) (fun _ h9 => h9) rfl dX0_init_94 ?_
              refine lv_iload_n hx hb dX0_init_97 rfl (lv_at hl 2 rfl) ?_
              refine lv_aload_n hx hb dX0_init_98 rfl (lv_at hl 0 rfl) ?_
              refine va_get (D := D) (ci := 0) (v := .ref (a 3)) (C := RX0) (T := TX0) (N := 9) hx hb hts in_X0 hown hK hP 0 rfl rfl 4 (by decide) (hts _ q28) (fun _ h9 => h9) rfl dX0_init_99 ?_
              refine lv_iload_n hx hb dX0_init_102 rfl (lv_at hl 2 rfl) ?_
              refine lv_iconst (v := nI 1) hx hb dX0_init_103 (by decide +kernel) ?_
              refine wm_isub hx hb dX0_init_104 (by omega) ?_
              refine wm_top (y := nI q) (congrArg nI (Nat.add_sub_cancel q 1)) ?_
              refine wm_iald hx hb hK hP 3 2 rfl rfl (by decide) (by omega) dX0_init_105 ?_
              refine lv_iload_n hx hb dX0_init_106 rfl (lv_at hl 1 rfl) ?_
              refine wm_imul hx hb dX0_init_107 ?_
              refine lv_sipush (v := nI 7681) hx hb dX0_init_108 (by decide +kernel) ?_
              refine wm_irem hx hb dX0_init_111 (wm_mb (wm_rtK_lt _ _) (by decide)) (by decide) (by decide) ?_
              refine wm_top (y := nI (5413 ^ (q + 1) % 7681)) (congrArg nI wm_rtK_r) ?_
              refine wm_iast hx hb hK hP hD hS 3 2 rfl rfl (by decide) (by omega) dX0_init_112 (fun H locs hP hD hS => ?_)
              have hP : va_P D wm_cl (wm_xr a k (wm_un (wm_rtK (q + 1)) (q + 1) (5413 ^ (q + 1) % 7681)) 0 0 0 (fun _ => 0) (fun _ => 0) (fun _ => 0) (fun _ => 0) (fun _ => 0)) H := hP
              have hD : va_D A (wm_xr a k (wm_un (wm_rtK (q + 1)) (q + 1) (5413 ^ (q + 1) % 7681)) 0 0 0 (fun _ => 0) (fun _ => 0) (fun _ => 0) (fun _ => 0) (fun _ => 0)) := hD
              rw [wm_rtK_s] at hP hD
              refine lv_iinc (v := nI ((q + 1) + 1)) (lv' := [(2, .int (nI ((q + 1) + 1))), (0, .ref (a 0)), (1, .int (nI 5413))]) hx hb dX0_init_113 hl (k := 2) rfl (wm_inc (q + 1)) (by decide) rfl (fun ls hl => ?_)
              refine lv_goto (tgt := 87) hx hb dX0_init_116 (by decide) ?_
              exact ih2 (q + 1) (by omega) _ _ _ hP hD hS (lv_sub hl [1, 2, 0] rfl)
        exact loopR 63 0 rfl _ _ _ hP hD hS (lv_sub hl [1, 2, 0] rfl)
      · omega
    | succ r ih =>
      intro i hi
      intro H locs ls hP hD hS hl
      refine lv_iload_n hx hb dX0_init_57 rfl (lv_at hl 2 rfl) ?_
      refine lv_bipush (v := nI 120) hx hb dX0_init_58 (by decide +kernel) ?_
      refine wm_cge (tgt := 78) hx hb dX0_init_60 (by decide) (by omega) (by omega) (fun hc => ?_) (fun hc => ?_)
      · omega
      · skip
        refine lv_iload_n hx hb dX0_init_63 rfl (lv_at hl 1 rfl) ?_
        refine lv_bipush (v := nI 17) hx hb dX0_init_64 (by decide +kernel) ?_
        refine wm_imul hx hb dX0_init_66 ?_
        refine lv_sipush (v := nI 7681) hx hb dX0_init_67 (by decide +kernel) ?_
        refine wm_irem hx hb dX0_init_70 (wm_mb (wm_md _) (by decide)) (by decide) (by decide) ?_
        refine wm_top (y := nI (17 ^ (i + 1) % 7681)) (congrArg nI (by rw [Nat.pow_succ, Nat.mod_mul_mod])) ?_
        refine lv_istore_n (lv' := [(1, .int (nI (17 ^ (i + 1) % 7681))), (0, .ref (a 0)), (2, .int (nI i))]) hx hb dX0_init_71 rfl hl (by decide) rfl (fun ls hl => ?_)
        refine lv_iinc (v := nI (i + 1)) (lv' := [(2, .int (nI (i + 1))), (1, .int (nI (17 ^ (i + 1) % 7681))), (0, .ref (a 0))]) hx hb dX0_init_72 hl (k := 2) rfl (wm_inc i) (by decide) rfl (fun ls hl => ?_)
        refine lv_goto (tgt := 57) hx hb dX0_init_75 (by decide) ?_
        exact ih (i + 1) (by omega) _ _ _ hP hD hS (lv_sub hl [2, 1, 0] rfl)
  exact loopB 120 0 rfl _ _ _ hP hD hS (lv_sub hl [2, 1, 0] rfl)
end
section
set_option maxHeartbeats 4000000 in
set_option maxRecDepth 100000 in
/-- isLetter -/
theorem my_isLetter (l : Launch) (D : va_G) (a : Nat → Nat) (k : Nat → ClassId) (sz n m : Nat) (t p : Nat → Nat) (z i : Int32)  : Met l yX1_isLetter (ws_ yX1_isLetter cX1_isLetter 3 (some .boolean)) ({ frames := 0, cells := 0, slots := 0, locals := 0 } : Room) (va_Pc [.ref (a 0), .int z, .int i] (wm_pre D wm_cl (wm_yt k) (wm_y a k n m t p) sz)) (va_Qi (fun (r : Int32) (u : Unit) => r = if i < 0 ∨ nI (wm_len z n m) ≤ i then 0 else 1) (fun u => wm_is D wm_cl (wm_yt k) (va_A (wm_y a k n m t p) sz) (wm_y a k n m t p)) (va_A (wm_y a k n m t p) sz)) 0 0 (va_A (wm_y a k n m t p) sz) := by
  refine Met.ofW (cc := cX1_isLetter) (maxL := 3) (ret := some .boolean) (by decide) rfl ?_
  intro P0 e0 s M0 av bl mt cd s1 B hml hv
  obtain ⟨rfl, hsz, hP, hK, hD0⟩ := hv
  have hx := B.exec
  have hb := B.bytes
  have hr := B.returns
  have hts := atoms_spec (ws := (ws_ yX1_isLetter cX1_isLetter 3 (some .boolean))) B.pre
  have hts : ∀ w ∈ lw_all, w.before _ s = true := fun w h => hts w (List.mem_cons_of_mem _ h)
  have hown : s.vm.findClass RX1 = some M0.cls := findClass_of_methodNamed B.named
  have hlocks := B.notSynchronized
  subst hsz
  have hD := hD0.self (sz := s.heap.size)
  generalize hAe : va_A (wm_y a k n m t p) s.heap.size = A at hD ⊢
  have hA : ∀ q : Nat, s.heap.size ≤ q → A q := fun q h => by rw [← hAe]; exact Or.inr h
  have hS : va_S A s.heap s.heap [] := va_S.rf
  have hP : va_P D wm_cl (wm_y a k n m t p) s.heap := hP
  have hl := lv_entry ([.ref (a 0), .int z, .int i]) (n := 3) (Nat.le_of_ble_eq_true rfl)
  rw [lg_entry_eq]
  generalize (lg_sl ([.ref (a 0), .int z, .int i]) ++ List.replicate (3 - (lg_sl ([.ref (a 0), .int z, .int i])).length) Slot.unset).toArray = ls at hl ⊢
  have hl : lv_has ls 3 [(0, .ref (a 0)), (1, .int z), (2, .int i)] := hl
  refine lv_iload_n hx hb dX1_isLetter_0 rfl (lv_at hl 2 rfl) ?_
  refine lv_if_lt (tgt := 27) hx hb dX1_isLetter_1 (by decide) (fun h1 => ?_) (fun h1 => ?_)
  · skip
    refine lv_iconst (v := nI 0) hx hb dX1_isLetter_27 (by decide +kernel) ?_
    exact W.zret (v := nI 0) hx hb hr (by first | rfl | decide +kernel) (fun T0 hT0 hW0 => ⟨⟨nI 0, (), rfl, (by rw [if_pos (Or.inl h1)]; rfl), by rw [hT0]; exact hP, va_K.moved hW0.alike hK, hD⟩, hS.F hT0⟩) hS.2.2 dX1_isLetter_28
  · skip
    refine lv_iload_n hx hb dX1_isLetter_4 rfl (lv_at hl 2 rfl) ?_
    refine lv_iload_n hx hb dX1_isLetter_5 rfl (lv_at hl 1 rfl) ?_
    refine lv_if_eq (tgt := 16) hx hb dX1_isLetter_6 (by decide) (fun hz => ?_) (fun hz => ?_)
    · skip
      have el : wm_len z n m = n := if_pos hz
      refine lv_aload_n hx hb dX1_isLetter_16 rfl (lv_at hl 0 rfl) ?_
      refine va_get (D := D) (ci := 1) (v := .int (nI n)) (C := RX1) (T := TX1) (N := 4) hx hb hts in_X1 hown hK hP 0 rfl rfl 0 (by decide) (hts _ q150) (fun _ h9 => h9) rfl dX1_isLetter_17 ?_
      refine lv_icmp_ge (tgt := 27) hx hb dX1_isLetter_20 (by decide) (fun h2 => ?_) (fun h2 => ?_)
      · skip
        refine lv_iconst (v := nI 0) hx hb dX1_isLetter_27 (by decide +kernel) ?_
        exact W.zret (v := nI 0) hx hb hr (by first | rfl | decide +kernel) (fun T0 hT0 hW0 => ⟨⟨nI 0, (), rfl, (by rw [el, if_pos (Or.inr h2)]; rfl), by rw [hT0]; exact hP, va_K.moved hW0.alike hK, hD⟩, hS.F hT0⟩) hS.2.2 dX1_isLetter_28
      · skip
        refine lv_iconst (v := nI 1) hx hb dX1_isLetter_23 (by decide +kernel) ?_
        refine lv_goto (tgt := 28) hx hb dX1_isLetter_24 (by decide) ?_
        exact W.zret (v := nI 1) hx hb hr (by first | rfl | decide +kernel) (fun T0 hT0 hW0 => ⟨⟨nI 1, (), rfl, (by rw [el, if_neg (fun h => h.elim h1 h2)]; rfl), by rw [hT0]; exact hP, va_K.moved hW0.alike hK, hD⟩, hS.F hT0⟩) hS.2.2 dX1_isLetter_28
    · skip
      have el : wm_len z n m = m := if_neg hz
      refine lv_aload_n hx hb dX1_isLetter_9 rfl (lv_at hl 0 rfl) ?_
      refine va_get (D := D) (ci := 1) (v := .int (nI m)) (C := RX1) (T := TX1) (N := 4) hx hb hts in_X1 hown hK hP 0 rfl rfl 1 (by decide) (hts _ q151) (fun _ h9 => h9) rfl dX1_isLetter_10 ?_
      refine lv_goto (tgt := 20) hx hb dX1_isLetter_13 (by decide) ?_
      refine lv_icmp_ge (tgt := 27) hx hb dX1_isLetter_20 (by decide) (fun h2 => ?_) (fun h2 => ?_)
      · skip
        refine lv_iconst (v := nI 0) hx hb dX1_isLetter_27 (by decide +kernel) ?_
        exact W.zret (v := nI 0) hx hb hr (by first | rfl | decide +kernel) (fun T0 hT0 hW0 => ⟨⟨nI 0, (), rfl, (by rw [el, if_pos (Or.inr h2)]; rfl), by rw [hT0]; exact hP, va_K.moved hW0.alike hK, hD⟩, hS.F hT0⟩) hS.2.2 dX1_isLetter_28
      · skip
        refine lv_iconst (v := nI 1) hx hb dX1_isLetter_23 (by decide +kernel) ?_
        refine lv_goto (tgt := 28) hx hb dX1_isLetter_24 (by decide) ?_
        exact W.zret (v := nI 1) hx hb hr (by first | rfl | decide +kernel) (fun T0 hT0 hW0 => ⟨⟨nI 1, (), rfl, (by rw [el, if_neg (fun h => h.elim h1 h2)]; rfl), by rw [hT0]; exact hP, va_K.moved hW0.alike hK, hD⟩, hS.F hT0⟩) hS.2.2 dX1_isLetter_28
set_option maxHeartbeats 4000000 in
set_option maxRecDepth 100000 in
/-- isShift -/
theorem my_isShift (l : Launch) (D : va_G) (a : Nat → Nat) (k : Nat → ClassId) (sz n m : Nat) (t p : Nat → Nat) (i : Int32)  : Met l yX1_isShift (ws_ yX1_isShift cX1_isShift 2 (some .boolean)) ({ frames := 0, cells := 0, slots := 0, locals := 0 } : Room) (va_Pc [.ref (a 0), .int i] (wm_pre D wm_cl (wm_yt k) (wm_y a k n m t p) sz)) (va_Qi (fun (r : Int32) (u : Unit) => r = if i < 0 ∨ nI n - nI m < i then 0 else 1) (fun u => wm_is D wm_cl (wm_yt k) (va_A (wm_y a k n m t p) sz) (wm_y a k n m t p)) (va_A (wm_y a k n m t p) sz)) 0 0 (va_A (wm_y a k n m t p) sz) := by
  refine Met.ofW (cc := cX1_isShift) (maxL := 2) (ret := some .boolean) (by decide) rfl ?_
  intro P0 e0 s M0 av bl mt cd s1 B hml hv
  obtain ⟨rfl, hsz, hP, hK, hD0⟩ := hv
  have hx := B.exec
  have hb := B.bytes
  have hr := B.returns
  have hts := atoms_spec (ws := (ws_ yX1_isShift cX1_isShift 2 (some .boolean))) B.pre
  have hts : ∀ w ∈ lw_all, w.before _ s = true := fun w h => hts w (List.mem_cons_of_mem _ h)
  have hown : s.vm.findClass RX1 = some M0.cls := findClass_of_methodNamed B.named
  have hlocks := B.notSynchronized
  subst hsz
  have hD := hD0.self (sz := s.heap.size)
  generalize hAe : va_A (wm_y a k n m t p) s.heap.size = A at hD ⊢
  have hA : ∀ q : Nat, s.heap.size ≤ q → A q := fun q h => by rw [← hAe]; exact Or.inr h
  have hS : va_S A s.heap s.heap [] := va_S.rf
  have hP : va_P D wm_cl (wm_y a k n m t p) s.heap := hP
  have hl := lv_entry ([.ref (a 0), .int i]) (n := 2) (Nat.le_of_ble_eq_true rfl)
  rw [lg_entry_eq]
  generalize (lg_sl ([.ref (a 0), .int i]) ++ List.replicate (2 - (lg_sl ([.ref (a 0), .int i])).length) Slot.unset).toArray = ls at hl ⊢
  have hl : lv_has ls 2 [(0, .ref (a 0)), (1, .int i)] := hl
  refine lv_iload_n hx hb dX1_isShift_0 rfl (lv_at hl 1 rfl) ?_
  refine lv_if_lt (tgt := 21) hx hb dX1_isShift_1 (by decide) (fun hc => ?_) (fun hc => ?_)
  · skip
    refine lv_iconst (v := nI 0) hx hb dX1_isShift_21 (by decide +kernel) ?_
    exact W.zret (v := nI 0) hx hb hr (by first | rfl | decide +kernel) (fun T0 hT0 hW0 => ⟨⟨nI 0, (), rfl, (by rw [if_pos (Or.inl hc)]; rfl), by rw [hT0]; exact hP, va_K.moved hW0.alike hK, hD⟩, hS.F hT0⟩) hS.2.2 dX1_isShift_22
  · skip
    refine lv_iload_n hx hb dX1_isShift_4 rfl (lv_at hl 1 rfl) ?_
    refine lv_aload_n hx hb dX1_isShift_5 rfl (lv_at hl 0 rfl) ?_
    refine va_get (D := D) (ci := 1) (v := .int (nI n)) (C := RX1) (T := TX1) (N := 4) hx hb hts in_X1 hown hK hP 0 rfl rfl 0 (by decide) (hts _ q150) (fun _ h9 => h9) rfl dX1_isShift_6 ?_
    refine lv_aload_n hx hb dX1_isShift_9 rfl (lv_at hl 0 rfl) ?_
    refine va_get (D := D) (ci := 1) (v := .int (nI m)) (C := RX1) (T := TX1) (N := 4) hx hb hts in_X1 hown hK hP 0 rfl rfl 1 (by decide) (hts _ q151) (fun _ h9 => h9) rfl dX1_isShift_10 ?_
    refine lv_isub hx hb dX1_isShift_13 ?_
    refine lv_icmp_gt (tgt := 21) hx hb dX1_isShift_14 (by decide) (fun hd => ?_) (fun hd => ?_)
    · skip
      refine lv_iconst (v := nI 0) hx hb dX1_isShift_21 (by decide +kernel) ?_
      exact W.zret (v := nI 0) hx hb hr (by first | rfl | decide +kernel) (fun T0 hT0 hW0 => ⟨⟨nI 0, (), rfl, (by rw [if_pos (Or.inr hd)]; rfl), by rw [hT0]; exact hP, va_K.moved hW0.alike hK, hD⟩, hS.F hT0⟩) hS.2.2 dX1_isShift_22
    · skip
      refine lv_iconst (v := nI 1) hx hb dX1_isShift_17 (by decide +kernel) ?_
      refine lv_goto (tgt := 22) hx hb dX1_isShift_18 (by decide) ?_
      exact W.zret (v := nI 1) hx hb hr (by first | rfl | decide +kernel) (fun T0 hT0 hW0 => ⟨⟨nI 1, (), rfl, (by rw [if_neg (fun h => h.elim hc hd)]; rfl), by rw [hT0]; exact hP, va_K.moved hW0.alike hK, hD⟩, hS.F hT0⟩) hS.2.2 dX1_isShift_22
set_option maxHeartbeats 4000000 in
set_option maxRecDepth 100000 in
/-- differing -/
theorem my_differing (l : Launch) (D : va_G) (a : Nat → Nat) (k : Nat → ClassId) (sz n m : Nat) (t p : Nat → Nat) (q : Nat) (hab : wm_ab n m t p) (hq40 : q ≤ 40) (hmn : 0 < m → 0 < n) : Met l yX1_differing (ws_ yX1_differing cX1_differing 6 (some .int)) ({ frames := 0, cells := 0, slots := 0, locals := 0 } : Room) (va_Pc [.ref (a 0), .int (nI q)] (wm_pre D wm_cl (wm_yt k) (wm_y a k n m t p) sz)) (va_Qi (fun (r : Int32) (u : Unit) => r = nI (wm_mi n t p q m)) (fun u => wm_is D wm_cl (wm_yt k) (va_A (wm_y a k n m t p) sz) (wm_y a k n m t p)) (va_A (wm_y a k n m t p) sz)) 0 0 (va_A (wm_y a k n m t p) sz) := by
  refine Met.ofW (cc := cX1_differing) (maxL := 6) (ret := some .int) (by decide) rfl ?_
  intro P0 e0 s M0 av bl mt cd s1 B hml hv
  obtain ⟨rfl, hsz, hP, hK, hD0⟩ := hv
  have hx := B.exec
  have hb := B.bytes
  have hr := B.returns
  have hts := atoms_spec (ws := (ws_ yX1_differing cX1_differing 6 (some .int))) B.pre
  have hts : ∀ w ∈ lw_all, w.before _ s = true := fun w h => hts w (List.mem_cons_of_mem _ h)
  have hown : s.vm.findClass RX1 = some M0.cls := findClass_of_methodNamed B.named
  have hlocks := B.notSynchronized
  subst hsz
  have hD := hD0.self (sz := s.heap.size)
  generalize hAe : va_A (wm_y a k n m t p) s.heap.size = A at hD ⊢
  have hA : ∀ q : Nat, s.heap.size ≤ q → A q := fun q h => by rw [← hAe]; exact Or.inr h
  have hS : va_S A s.heap s.heap [] := va_S.rf
  have hP : va_P D wm_cl (wm_y a k n m t p) s.heap := hP
  have hl := lv_entry ([.ref (a 0), .int (nI q)]) (n := 6) (Nat.le_of_ble_eq_true rfl)
  rw [lg_entry_eq]
  generalize (lg_sl ([.ref (a 0), .int (nI q)]) ++ List.replicate (6 - (lg_sl ([.ref (a 0), .int (nI q)])).length) Slot.unset).toArray = ls at hl ⊢
  have hl : lv_has ls 6 [(0, .ref (a 0)), (1, .int (nI q))] := hl
  obtain ⟨hn40, hm12, ht5, hp5⟩ := id hab
  refine lv_iconst (v := nI 0) hx hb dX1_differing_0 (by decide +kernel) ?_
  refine lv_istore_n (lv' := [(2, .int (nI 0)), (0, .ref (a 0)), (1, .int (nI q))]) hx hb dX1_differing_1 rfl hl (by decide) rfl (fun ls hl => ?_)
  refine lv_iconst (v := nI 0) hx hb dX1_differing_2 (by decide +kernel) ?_
  refine lv_istore_n (lv' := [(3, .int (nI 0)), (2, .int (nI 0)), (0, .ref (a 0)), (1, .int (nI q))]) hx hb dX1_differing_3 rfl hl (by decide) rfl (fun ls hl => ?_)
  have loop : ∀ (r i : Nat), i + r = m → ∀ (H : Heap) (locs : List Loc) (ls : Array Slot), va_P D wm_cl (wm_y a k n m t p) H → va_D A (wm_y a k n m t p) → va_S A s.heap H locs → lv_has ls 6 [(0, .ref (a 0)), (1, .int (nI q)), (2, .int (nI (wm_mi n t p q i))), (3, .int (nI i))] → W P0 l e0 (headSpec (ws_ yX1_differing cX1_differing 6 (some .int)) ({ frames := 0, cells := 0, slots := 0, locals := 0 } : Room)).room s M0 ([.ref (a 0), .int (nI q)] : List Value).toArray bl mt cd H locs 0 0 (MQ bl (va_Qi (fun (r : Int32) (u : Unit) => r = nI (wm_mi n t p q m)) (fun u => wm_is D wm_cl (wm_yt k) A (wm_y a k n m t p)) A) ([.ref (a 0), .int (nI q)] : List Value).toArray s 0 0 A) (F0 M0 4 ls []) := by
    intro r
    induction r with
    | zero =>
      intro i hi
      intro H locs ls hP hD hS hl
      refine lv_iload_n hx hb dX1_differing_4 rfl (lv_at hl 3 rfl) ?_
      refine lv_aload_n hx hb dX1_differing_5 rfl (lv_at hl 0 rfl) ?_
      refine va_get (D := D) (ci := 1) (v := .int (nI m)) (C := RX1) (T := TX1) (N := 4) hx hb hts in_X1 hown hK hP 0 rfl rfl 1 (by decide) (hts _ q151) (fun _ h9 => h9) rfl dX1_differing_6 ?_
      refine wm_cge (tgt := 73) hx hb dX1_differing_9 (by decide) (by omega) (by omega) (fun hc => ?_) (fun hc => ?_)
      · skip
        have him : i = m := by omega
        refine lv_iload_n hx hb dX1_differing_73 rfl (lv_at hl 2 rfl) ?_
        exact W.iret (v := nI (wm_mi n t p q i)) hx hb hr (fun T0 hT0 hW0 => ⟨⟨nI (wm_mi n t p q i), (), rfl, (by rw [him]), by rw [hT0]; exact hP, va_K.moved hW0.alike hK, hD⟩, hS.F hT0⟩) hS.2.2 dX1_differing_74
      · omega
    | succ r ih =>
      intro i hi
      intro H locs ls hP hD hS hl
      have hmi := wm_mi_le n t p q i
      refine lv_iload_n hx hb dX1_differing_4 rfl (lv_at hl 3 rfl) ?_
      refine lv_aload_n hx hb dX1_differing_5 rfl (lv_at hl 0 rfl) ?_
      refine va_get (D := D) (ci := 1) (v := .int (nI m)) (C := RX1) (T := TX1) (N := 4) hx hb hts in_X1 hown hK hP 0 rfl rfl 1 (by decide) (hts _ q151) (fun _ h9 => h9) rfl dX1_differing_6 ?_
      refine wm_cge (tgt := 73) hx hb dX1_differing_9 (by decide) (by omega) (by omega) (fun hc => ?_) (fun hc => ?_)
      · omega
      · skip
        have hn0 : 0 < n := hmn (by omega)
        have hqn : (q + i) % n < n := Nat.mod_lt _ hn0
        have hta := ht5 ((q + i) % n)
        have hpb := hp5 i
        refine lv_aload_n hx hb dX1_differing_12 rfl (lv_at hl 0 rfl) ?_
        refine va_get (D := D) (ci := 1) (v := .ref (a 1)) (C := RX1) (T := TX1) (N := 4) hx hb hts in_X1 hown hK hP 0 rfl rfl 2 (by decide) (hts _ q152) (fun _ h9 => h9) rfl dX1_differing_13 ?_
        refine lv_aload_n hx hb dX1_differing_16 rfl (lv_at hl 0 rfl) ?_
        refine va_get (D := D) (ci := 1) (v := .int (nI n)) (C := RX1) (T := TX1) (N := 4) hx hb hts in_X1 hown hK hP 0 rfl rfl 0 (by decide) (hts _ q150) (fun _ h9 => h9) rfl dX1_differing_17 ?_
        refine lv_iconst (v := nI 1) hx hb dX1_differing_20 (by decide +kernel) ?_
        refine wm_cge (tgt := 28) hx hb dX1_differing_21 (by decide) (by omega) (by omega) (fun h1 => ?_) (fun h1 => ?_)
        · skip
          refine lv_iload_n hx hb dX1_differing_28 rfl (lv_at hl 1 rfl) ?_
          refine lv_iload_n hx hb dX1_differing_29 rfl (lv_at hl 3 rfl) ?_
          refine wm_iadd hx hb dX1_differing_30 ?_
          refine lv_aload_n hx hb dX1_differing_31 rfl (lv_at hl 0 rfl) ?_
          refine va_get (D := D) (ci := 1) (v := .int (nI n)) (C := RX1) (T := TX1) (N := 4) hx hb hts in_X1 hown hK hP 0 rfl rfl 0 (by decide) (hts _ q150) (fun _ h9 => h9) rfl dX1_differing_32 ?_
          refine wm_irem hx hb dX1_differing_35 (by omega) (by omega) (by omega) ?_
          refine wm_iald hx hb hK hP 1 0 rfl rfl (by decide) (by omega) dX1_differing_36 ?_
          refine lv_istore (lv' := [(4, .int (nI (t ((q + i) % n)))), (0, .ref (a 0)), (1, .int (nI q)), (2, .int (nI (wm_mi n t p q i))), (3, .int (nI i))]) hx hb dX1_differing_37 hl (by decide) rfl (fun ls hl => ?_)
          refine lv_aload_n hx hb dX1_differing_39 rfl (lv_at hl 1 rfl) ?_
          refine va_get (D := D) (ci := 1) (v := .ref (a 2)) (C := RX1) (T := TX1) (N := 4) hx hb hts in_X1 hown hK hP 0 rfl rfl 3 (by decide) (hts _ q153) (fun _ h9 => h9) rfl dX1_differing_40 ?_
          refine lv_iload_n hx hb dX1_differing_43 rfl (lv_at hl 4 rfl) ?_
          refine wm_iald hx hb hK hP 2 1 rfl rfl (by decide) (by omega) dX1_differing_44 ?_
          refine lv_istore (lv' := [(5, .int (nI (p i))), (4, .int (nI (t ((q + i) % n)))), (0, .ref (a 0)), (1, .int (nI q)), (2, .int (nI (wm_mi n t p q i))), (3, .int (nI i))]) hx hb dX1_differing_45 hl (by decide) rfl (fun ls hl => ?_)
          refine lv_iload hx hb dX1_differing_47 (lv_at hl 1 rfl) ?_
          refine lv_iload hx hb dX1_differing_49 (lv_at hl 0 rfl) ?_
          refine wm_ceq (tgt := 67) hx hb dX1_differing_51 (by decide) (by omega) (by omega) (fun h2 => ?_) (fun h2 => ?_)
          · skip
            have e : wm_mi n t p q (i + 1) = wm_mi n t p q i := by rw [wm_mi, wm_ee, if_neg (fun h => h.1 h2), Nat.add_zero]
            have hl := lv_sub (l' := [(0, .ref (a 0)), (1, .int (nI q)), (2, .int (nI (wm_mi n t p q i))), (3, .int (nI i))]) hl [2, 3, 4, 5] rfl
            refine lv_iinc (v := nI (i + 1)) (lv' := [(3, .int (nI (i + 1))), (0, .ref (a 0)), (1, .int (nI q)), (2, .int (nI (wm_mi n t p q i)))]) hx hb dX1_differing_67 hl (k := 3) rfl (wm_inc i) (by decide) rfl (fun ls hl => ?_)
            refine lv_goto (tgt := 4) hx hb dX1_differing_70 (by decide) ?_
            exact ih (i + 1) (by omega) _ _ _ hP hD hS (by rw [e]; exact lv_sub hl [1, 2, 3, 0] rfl)
          · skip
            refine lv_iload hx hb dX1_differing_54 (lv_at hl 1 rfl) ?_
            refine wm_zeq (tgt := 67) hx hb dX1_differing_56 (by decide) (by omega) (fun h3 => ?_) (fun h3 => ?_)
            · skip
              have e : wm_mi n t p q (i + 1) = wm_mi n t p q i := by rw [wm_mi, wm_ee, if_neg (fun h => h.2.1 h3), Nat.add_zero]
              have hl := lv_sub (l' := [(0, .ref (a 0)), (1, .int (nI q)), (2, .int (nI (wm_mi n t p q i))), (3, .int (nI i))]) hl [2, 3, 4, 5] rfl
              refine lv_iinc (v := nI (i + 1)) (lv' := [(3, .int (nI (i + 1))), (0, .ref (a 0)), (1, .int (nI q)), (2, .int (nI (wm_mi n t p q i)))]) hx hb dX1_differing_67 hl (k := 3) rfl (wm_inc i) (by decide) rfl (fun ls hl => ?_)
              refine lv_goto (tgt := 4) hx hb dX1_differing_70 (by decide) ?_
              exact ih (i + 1) (by omega) _ _ _ hP hD hS (by rw [e]; exact lv_sub hl [1, 2, 3, 0] rfl)
            · skip
              refine lv_iload hx hb dX1_differing_59 (lv_at hl 0 rfl) ?_
              refine wm_zeq (tgt := 67) hx hb dX1_differing_61 (by decide) (by omega) (fun h4 => ?_) (fun h4 => ?_)
              · skip
                have e : wm_mi n t p q (i + 1) = wm_mi n t p q i := by rw [wm_mi, wm_ee, if_neg (fun h => h.2.2 h4), Nat.add_zero]
                have hl := lv_sub (l' := [(0, .ref (a 0)), (1, .int (nI q)), (2, .int (nI (wm_mi n t p q i))), (3, .int (nI i))]) hl [2, 3, 4, 5] rfl
                refine lv_iinc (v := nI (i + 1)) (lv' := [(3, .int (nI (i + 1))), (0, .ref (a 0)), (1, .int (nI q)), (2, .int (nI (wm_mi n t p q i)))]) hx hb dX1_differing_67 hl (k := 3) rfl (wm_inc i) (by decide) rfl (fun ls hl => ?_)
                refine lv_goto (tgt := 4) hx hb dX1_differing_70 (by decide) ?_
                exact ih (i + 1) (by omega) _ _ _ hP hD hS (by rw [e]; exact lv_sub hl [1, 2, 3, 0] rfl)
              · skip
                refine lv_iinc (v := nI ((wm_mi n t p q i) + 1)) (lv' := [(2, .int (nI ((wm_mi n t p q i) + 1))), (5, .int (nI (p i))), (4, .int (nI (t ((q + i) % n)))), (0, .ref (a 0)), (1, .int (nI q)), (3, .int (nI i))]) hx hb dX1_differing_64 hl (k := 4) rfl (wm_inc (wm_mi n t p q i)) (by decide) rfl (fun ls hl => ?_)
                have e : wm_mi n t p q (i + 1) = (wm_mi n t p q i) + 1 := by rw [wm_mi, wm_ee, if_pos ⟨h2, h3, h4⟩]
                have hl := lv_sub (l' := [(0, .ref (a 0)), (1, .int (nI q)), (2, .int (nI ((wm_mi n t p q i) + 1))), (3, .int (nI i))]) hl [3, 4, 0, 5] rfl
                refine lv_iinc (v := nI (i + 1)) (lv' := [(3, .int (nI (i + 1))), (0, .ref (a 0)), (1, .int (nI q)), (2, .int (nI ((wm_mi n t p q i) + 1)))]) hx hb dX1_differing_67 hl (k := 3) rfl (wm_inc i) (by decide) rfl (fun ls hl => ?_)
                refine lv_goto (tgt := 4) hx hb dX1_differing_70 (by decide) ?_
                exact ih (i + 1) (by omega) _ _ _ hP hD hS (by rw [e]; exact lv_sub hl [1, 2, 3, 0] rfl)
        · omega
  exact loop m 0 (by omega) _ _ _ hP hD hS (lv_sub hl [2, 3, 1, 0] rfl)
set_option maxHeartbeats 4000000 in
set_option maxRecDepth 100000 in
/-- matches -/
theorem my_matches (l : Launch) (D : va_G) (a : Nat → Nat) (k : Nat → ClassId) (sz n m : Nat) (t p : Nat → Nat) (i : Int32) (hab : wm_ab n m t p) : Met l yX1_matches (ws_ yX1_matches cX1_matches 2 (some .boolean)) ({ frames := 1, cells := 0, slots := 0, locals := 25 } : Room) (va_Pc [.ref (a 0), .int i] (wm_pre D wm_cl (wm_yt k) (wm_y a k n m t p) sz)) (va_Qi (fun (r : Int32) (u : Unit) => r = wm_mt n m t p i) (fun u => wm_is D wm_cl (wm_yt k) (va_A (wm_y a k n m t p) sz) (wm_y a k n m t p)) (va_A (wm_y a k n m t p) sz)) 0 0 (va_A (wm_y a k n m t p) sz) := by
  refine Met.ofW (cc := cX1_matches) (maxL := 2) (ret := some .boolean) (by decide) rfl ?_
  intro P0 e0 s M0 av bl mt cd s1 B hml hv
  obtain ⟨rfl, hsz, hP, hK, hD0⟩ := hv
  have hx := B.exec
  have hb := B.bytes
  have hr := B.returns
  have hts := atoms_spec (ws := (ws_ yX1_matches cX1_matches 2 (some .boolean))) B.pre
  have hts : ∀ w ∈ lw_all, w.before _ s = true := fun w h => hts w (List.mem_cons_of_mem _ h)
  have hown : s.vm.findClass RX1 = some M0.cls := findClass_of_methodNamed B.named
  have hlocks := B.notSynchronized
  subst hsz
  have hD := hD0.self (sz := s.heap.size)
  generalize hAe : va_A (wm_y a k n m t p) s.heap.size = A at hD ⊢
  have hA : ∀ q : Nat, s.heap.size ≤ q → A q := fun q h => by rw [← hAe]; exact Or.inr h
  have hS : va_S A s.heap s.heap [] := va_S.rf
  have hP : va_P D wm_cl (wm_y a k n m t p) s.heap := hP
  have hl := lv_entry ([.ref (a 0), .int i]) (n := 2) (Nat.le_of_ble_eq_true rfl)
  rw [lg_entry_eq]
  generalize (lg_sl ([.ref (a 0), .int i]) ++ List.replicate (2 - (lg_sl ([.ref (a 0), .int i])).length) Slot.unset).toArray = ls at hl ⊢
  have hl : lv_has ls 2 [(0, .ref (a 0)), (1, .int i)] := hl
  obtain ⟨hn40, hm12, ht5, hp5⟩ := id hab
  refine lv_aload_n hx hb dX1_matches_0 rfl (lv_at hl 0 rfl) ?_
  refine lv_iload_n hx hb dX1_matches_1 rfl (lv_at hl 1 rfl) ?_
  refine wm_calli (wr := []) (As := [.int i]) (rest := []) ⟨hx, hb, hml, hown, hts⟩ (my_isShift l D a k _ n m t p i) (cwV 1 hts (lw_V q191 q193 qs11 q15 q194) rfl rfl rfl (by decide +kernel) ⟨Nat.le_of_ble_eq_true rfl, Nat.le_of_ble_eq_true rfl⟩) (va_recv hK hP (ci := 1) (q0 := 0) rfl rfl) hK hP hD hS hA [0, 1, 2] [] [0, 1] rfl rfl rfl (by decide) (by decide) (by decide) rfl rfl hl.1 rfl (Nat.le_of_ble_eq_true rfl) dX1_matches_2 ⟨Nat.zero_le _, Nat.zero_le _⟩ (fun r_ u H locs hq hP hD hS => ?_)
  have hP : va_P D wm_cl (wm_y a k n m t p) H := hP
  have hD : va_D A (wm_y a k n m t p) := hD
  refine lv_if_eq (tgt := 20) hx hb dX1_matches_5 (by decide) (fun hc => ?_) (fun hc => ?_)
  · skip
    have hs : i < 0 ∨ nI n - nI m < i := by
      by_cases h : i < 0 ∨ nI n - nI m < i
      · exact h
      · rw [if_neg h] at hq
        rw [hq] at hc
        exact absurd hc (by decide)
    refine lv_iconst (v := nI 0) hx hb dX1_matches_20 (by decide +kernel) ?_
    exact W.zret (v := nI 0) hx hb hr (by first | rfl | decide +kernel) (fun T0 hT0 hW0 => ⟨⟨nI 0, (), rfl, (by rw [wm_mt, if_pos hs]; rfl), by rw [hT0]; exact hP, va_K.moved hW0.alike hK, hD⟩, hS.F hT0⟩) hS.2.2 dX1_matches_21
  · skip
    have hs : ¬ (i < 0 ∨ nI n - nI m < i) := fun h => hc (by rw [hq, if_pos h])
    obtain ⟨j, rfl, hjm⟩ := wm_shift hn40 hm12 (fun h => hs (Or.inl h)) (fun h => hs (Or.inr h))
    have hmi := wm_mi_le n t p j m
    have hmt : wm_mt n m t p (nI j) = if wm_mi n t p j m = 0 then 1 else 0 := by rw [wm_mt, if_neg hs, nI_clamp (by omega)]
    refine lv_aload_n hx hb dX1_matches_8 rfl (lv_at hl 0 rfl) ?_
    refine lv_iload_n hx hb dX1_matches_9 rfl (lv_at hl 1 rfl) ?_
    refine wm_calli (wr := []) (As := [.int (nI j)]) (rest := []) ⟨hx, hb, hml, hown, hts⟩ (my_differing l D a k _ n m t p j hab (by omega) (by omega)) (cwV 1 hts (lw_V q195 q197 qs12 q15 q198) rfl rfl rfl (by decide +kernel) ⟨Nat.le_of_ble_eq_true rfl, Nat.le_of_ble_eq_true rfl⟩) (va_recv hK hP (ci := 1) (q0 := 0) rfl rfl) hK hP hD hS hA [0, 1, 2] [] [0, 1] rfl rfl rfl (by decide) (by decide) (by decide) rfl rfl hl.1 rfl (Nat.le_of_ble_eq_true rfl) dX1_matches_10 ⟨Nat.zero_le _, Nat.zero_le _⟩ (fun r_ u H locs hq2 hP hD hS => ?_)
    have hP : va_P D wm_cl (wm_y a k n m t p) H := hP
    have hD : va_D A (wm_y a k n m t p) := hD
    have hq2 : r_ = nI (wm_mi n t p j m) := hq2
    subst hq2
    refine wm_zne (tgt := 20) hx hb dX1_matches_13 (by decide) (by omega) (fun hd => ?_) (fun hd => ?_)
    · skip
      refine lv_iconst (v := nI 0) hx hb dX1_matches_20 (by decide +kernel) ?_
      exact W.zret (v := nI 0) hx hb hr (by first | rfl | decide +kernel) (fun T0 hT0 hW0 => ⟨⟨nI 0, (), rfl, (by rw [hmt, if_neg hd]; rfl), by rw [hT0]; exact hP, va_K.moved hW0.alike hK, hD⟩, hS.F hT0⟩) hS.2.2 dX1_matches_21
    · skip
      refine lv_iconst (v := nI 1) hx hb dX1_matches_16 (by decide +kernel) ?_
      refine lv_goto (tgt := 21) hx hb dX1_matches_17 (by decide) ?_
      exact W.zret (v := nI 1) hx hb hr (by first | rfl | decide +kernel) (fun T0 hT0 hW0 => ⟨⟨nI 1, (), rfl, (by rw [hmt, if_pos hd]; rfl), by rw [hT0]; exact hP, va_K.moved hW0.alike hK, hD⟩, hS.F hT0⟩) hS.2.2 dX1_matches_21
set_option maxHeartbeats 4000000 in
set_option maxRecDepth 100000 in
/-- length -/
theorem my_length (l : Launch) (D : va_G) (a : Nat → Nat) (k : Nat → ClassId) (sz n m : Nat) (t p : Nat → Nat) (z : Int32)  : Met l yX1_length (ws_ yX1_length cX1_length 2 (some .int)) ({ frames := 0, cells := 0, slots := 0, locals := 0 } : Room) (va_Pc [.ref (a 0), .int z] (wm_pre D wm_cl (wm_yt k) (wm_y a k n m t p) sz)) (va_Qi (fun (r : Int32) (u : Unit) => r = nI (wm_len z n m)) (fun u => wm_is D wm_cl (wm_yt k) (va_A (wm_y a k n m t p) sz) (wm_y a k n m t p)) (va_A (wm_y a k n m t p) sz)) 0 0 (va_A (wm_y a k n m t p) sz) := by
  refine Met.ofW (cc := cX1_length) (maxL := 2) (ret := some .int) (by decide) rfl ?_
  intro P0 e0 s M0 av bl mt cd s1 B hml hv
  obtain ⟨rfl, hsz, hP, hK, hD0⟩ := hv
  have hx := B.exec
  have hb := B.bytes
  have hr := B.returns
  have hts := atoms_spec (ws := (ws_ yX1_length cX1_length 2 (some .int))) B.pre
  have hts : ∀ w ∈ lw_all, w.before _ s = true := fun w h => hts w (List.mem_cons_of_mem _ h)
  have hown : s.vm.findClass RX1 = some M0.cls := findClass_of_methodNamed B.named
  have hlocks := B.notSynchronized
  subst hsz
  have hD := hD0.self (sz := s.heap.size)
  generalize hAe : va_A (wm_y a k n m t p) s.heap.size = A at hD ⊢
  have hA : ∀ q : Nat, s.heap.size ≤ q → A q := fun q h => by rw [← hAe]; exact Or.inr h
  have hS : va_S A s.heap s.heap [] := va_S.rf
  have hP : va_P D wm_cl (wm_y a k n m t p) s.heap := hP
  have hl := lv_entry ([.ref (a 0), .int z]) (n := 2) (Nat.le_of_ble_eq_true rfl)
  rw [lg_entry_eq]
  generalize (lg_sl ([.ref (a 0), .int z]) ++ List.replicate (2 - (lg_sl ([.ref (a 0), .int z])).length) Slot.unset).toArray = ls at hl ⊢
  have hl : lv_has ls 2 [(0, .ref (a 0)), (1, .int z)] := hl
  refine lv_iload_n hx hb dX1_length_0 rfl (lv_at hl 1 rfl) ?_
  refine lv_if_eq (tgt := 11) hx hb dX1_length_1 (by decide) (fun hc => ?_) (fun hc => ?_)
  · skip
    refine lv_aload_n hx hb dX1_length_11 rfl (lv_at hl 0 rfl) ?_
    refine va_get (D := D) (ci := 1) (v := .int (nI n)) (C := RX1) (T := TX1) (N := 4) hx hb hts in_X1 hown hK hP 0 rfl rfl 0 (by decide) (hts _ q150) (fun _ h9 => h9) rfl dX1_length_12 ?_
    exact W.iret (v := nI n) hx hb hr (fun T0 hT0 hW0 => ⟨⟨nI n, (), rfl, (by rw [wm_len, if_pos hc]), by rw [hT0]; exact hP, va_K.moved hW0.alike hK, hD⟩, hS.F hT0⟩) hS.2.2 dX1_length_15
  · skip
    refine lv_aload_n hx hb dX1_length_4 rfl (lv_at hl 0 rfl) ?_
    refine va_get (D := D) (ci := 1) (v := .int (nI m)) (C := RX1) (T := TX1) (N := 4) hx hb hts in_X1 hown hK hP 0 rfl rfl 1 (by decide) (hts _ q151) (fun _ h9 => h9) rfl dX1_length_5 ?_
    refine lv_goto (tgt := 15) hx hb dX1_length_8 (by decide) ?_
    exact W.iret (v := nI m) hx hb hr (fun T0 hT0 hW0 => ⟨⟨nI m, (), rfl, (by rw [wm_len, if_neg hc]), by rw [hT0]; exact hP, va_K.moved hW0.alike hK, hD⟩, hS.F hT0⟩) hS.2.2 dX1_length_15
set_option maxHeartbeats 4000000 in
set_option maxRecDepth 100000 in
/-- letter -/
theorem my_letter (l : Launch) (D : va_G) (a : Nat → Nat) (k : Nat → ClassId) (sz n m : Nat) (t p : Nat → Nat) (z i : Int32) (hab : wm_ab n m t p) : Met l yX1_letter (ws_ yX1_letter cX1_letter 3 (some .int)) ({ frames := 1, cells := 0, slots := 0, locals := 22 } : Room) (va_Pc [.ref (a 0), .int z, .int i] (wm_pre D wm_cl (wm_yt k) (wm_y a k n m t p) sz)) (va_Qi (fun (r : Int32) (u : Unit) => r = wm_le z i n m t p) (fun u => wm_is D wm_cl (wm_yt k) (va_A (wm_y a k n m t p) sz) (wm_y a k n m t p)) (va_A (wm_y a k n m t p) sz)) 0 0 (va_A (wm_y a k n m t p) sz) := by
  refine Met.ofW (cc := cX1_letter) (maxL := 3) (ret := some .int) (by decide) rfl ?_
  intro P0 e0 s M0 av bl mt cd s1 B hml hv
  obtain ⟨rfl, hsz, hP, hK, hD0⟩ := hv
  have hx := B.exec
  have hb := B.bytes
  have hr := B.returns
  have hts := atoms_spec (ws := (ws_ yX1_letter cX1_letter 3 (some .int))) B.pre
  have hts : ∀ w ∈ lw_all, w.before _ s = true := fun w h => hts w (List.mem_cons_of_mem _ h)
  have hown : s.vm.findClass RX1 = some M0.cls := findClass_of_methodNamed B.named
  have hlocks := B.notSynchronized
  subst hsz
  have hD := hD0.self (sz := s.heap.size)
  generalize hAe : va_A (wm_y a k n m t p) s.heap.size = A at hD ⊢
  have hA : ∀ q : Nat, s.heap.size ≤ q → A q := fun q h => by rw [← hAe]; exact Or.inr h
  have hS : va_S A s.heap s.heap [] := va_S.rf
  have hP : va_P D wm_cl (wm_y a k n m t p) s.heap := hP
  have hl := lv_entry ([.ref (a 0), .int z, .int i]) (n := 3) (Nat.le_of_ble_eq_true rfl)
  rw [lg_entry_eq]
  generalize (lg_sl ([.ref (a 0), .int z, .int i]) ++ List.replicate (3 - (lg_sl ([.ref (a 0), .int z, .int i])).length) Slot.unset).toArray = ls at hl ⊢
  have hl : lv_has ls 3 [(0, .ref (a 0)), (1, .int z), (2, .int i)] := hl
  obtain ⟨hn40, hm12, ht5, hp5⟩ := hab
  have hlen : wm_len z n m < 2 ^ 31 := by unfold wm_len; split <;> omega
  refine lv_aload_n hx hb dX1_letter_0 rfl (lv_at hl 0 rfl) ?_
  refine lv_iload_n hx hb dX1_letter_1 rfl (lv_at hl 1 rfl) ?_
  refine lv_iload_n hx hb dX1_letter_2 rfl (lv_at hl 2 rfl) ?_
  refine wm_calli (wr := []) (As := [.int z, .int i]) (rest := []) ⟨hx, hb, hml, hown, hts⟩ (my_isLetter l D a k _ n m t p z i) (cwV 2 hts (lw_V q171 q173 qs10 q15 q174) rfl rfl rfl (by decide +kernel) ⟨Nat.le_of_ble_eq_true rfl, Nat.le_of_ble_eq_true rfl⟩) (va_recv hK hP (ci := 1) (q0 := 0) rfl rfl) hK hP hD hS hA [0, 1, 2] [] [0, 1] rfl rfl rfl (by decide) (by decide) (by decide) rfl rfl hl.1 rfl (Nat.le_of_ble_eq_true rfl) dX1_letter_3 ⟨Nat.zero_le _, Nat.zero_le _⟩ (fun r_ u H locs hq hP hD hS => ?_)
  have hP : va_P D wm_cl (wm_y a k n m t p) H := hP
  have hD : va_D A (wm_y a k n m t p) := hD
  refine lv_if_ne (tgt := 12) hx hb dX1_letter_6 (by decide) (fun hc => ?_) (fun hc => ?_)
  · skip
    have hs0 : ¬ (i < 0 ∨ nI (wm_len z n m) ≤ i) := fun h => hc (by rw [hq, if_pos h])
    have h1 : ¬ i < 0 := fun h => hs0 (Or.inl h)
    have h2 : ¬ nI (wm_len z n m) ≤ i := fun h => hs0 (Or.inr h)
    have hs : ¬ (i < 0 ∨ nI (wm_len z n m) ≤ i) := fun h => h.elim h1 h2
    obtain ⟨j, hj, rfl⟩ := wm_index hlen h1 h2
    refine lv_iload_n hx hb dX1_letter_12 rfl (lv_at hl 1 rfl) ?_
    refine lv_if_eq (tgt := 25) hx hb dX1_letter_13 (by decide) (fun hz => ?_) (fun hz => ?_)
    · skip
      rw [wm_len, if_pos hz] at hj
      refine lv_aload_n hx hb dX1_letter_25 rfl (lv_at hl 0 rfl) ?_
      refine va_get (D := D) (ci := 1) (v := .ref (a 1)) (C := RX1) (T := TX1) (N := 4) hx hb hts in_X1 hown hK hP 0 rfl rfl 2 (by decide) (hts _ q152) (fun _ h9 => h9) rfl dX1_letter_26 ?_
      refine lv_iload_n hx hb dX1_letter_29 rfl (lv_at hl 2 rfl) ?_
      refine wm_iald hx hb hK hP 1 0 rfl rfl (by decide) (by omega) dX1_letter_30 ?_
      exact W.iret (v := nI (t j)) hx hb hr (fun T0 hT0 hW0 => ⟨⟨nI (t j), (), rfl, (by rw [wm_le, if_neg hs, if_pos hz, nI_clamp (by omega)]), by rw [hT0]; exact hP, va_K.moved hW0.alike hK, hD⟩, hS.F hT0⟩) hS.2.2 dX1_letter_31
    · skip
      rw [wm_len, if_neg hz] at hj
      refine lv_aload_n hx hb dX1_letter_16 rfl (lv_at hl 0 rfl) ?_
      refine va_get (D := D) (ci := 1) (v := .ref (a 2)) (C := RX1) (T := TX1) (N := 4) hx hb hts in_X1 hown hK hP 0 rfl rfl 3 (by decide) (hts _ q153) (fun _ h9 => h9) rfl dX1_letter_17 ?_
      refine lv_iload_n hx hb dX1_letter_20 rfl (lv_at hl 2 rfl) ?_
      refine wm_iald hx hb hK hP 2 1 rfl rfl (by decide) (by omega) dX1_letter_21 ?_
      refine lv_goto (tgt := 31) hx hb dX1_letter_22 (by decide) ?_
      exact W.iret (v := nI (p j)) hx hb hr (fun T0 hT0 hW0 => ⟨⟨nI (p j), (), rfl, (by rw [wm_le, if_neg hs, if_neg hz, nI_clamp (by omega)]), by rw [hT0]; exact hP, va_K.moved hW0.alike hK, hD⟩, hS.F hT0⟩) hS.2.2 dX1_letter_31
  · skip
    have hs : i < 0 ∨ nI (wm_len z n m) ≤ i := by
      by_cases h : i < 0 ∨ nI (wm_len z n m) ≤ i
      · exact h
      · rw [if_neg h] at hq
        rw [hq] at hc
        exact absurd hc (by decide)
    refine lv_bipush (v := (-2)) hx hb dX1_letter_9 (by decide +kernel) ?_
    exact W.iret (v := (-2)) hx hb hr (fun T0 hT0 hW0 => ⟨⟨(-2), (), rfl, (by rw [wm_le, if_pos hs]), by rw [hT0]; exact hP, va_K.moved hW0.alike hK, hD⟩, hS.F hT0⟩) hS.2.2 dX1_letter_11
end
section
set_option maxHeartbeats 4000000 in
set_option maxRecDepth 100000 in
/-- matchCount -/
theorem my_matchCount (l : Launch) (D : va_G) (a : Nat → Nat) (k : Nat → ClassId) (sz n m : Nat) (t p : Nat → Nat)  (hab : wm_ab n m t p) : Met l yX1_matchCount (ws_ yX1_matchCount cX1_matchCount 3 (some .int)) ({ frames := 2, cells := 0, slots := 0, locals := 46 } : Room) (va_Pc [.ref (a 0)] (wm_pre D wm_cl (wm_yt k) (wm_y a k n m t p) sz)) (va_Qi (fun (r : Int32) (u : Unit) => r = wm_mc n m t p) (fun u => wm_is D wm_cl (wm_yt k) (va_A (wm_y a k n m t p) sz) (wm_y a k n m t p)) (va_A (wm_y a k n m t p) sz)) 0 0 (va_A (wm_y a k n m t p) sz) := by
  refine Met.ofW (cc := cX1_matchCount) (maxL := 3) (ret := some .int) (by decide) rfl ?_
  intro P0 e0 s M0 av bl mt cd s1 B hml hv
  obtain ⟨rfl, hsz, hP, hK, hD0⟩ := hv
  have hx := B.exec
  have hb := B.bytes
  have hr := B.returns
  have hts := atoms_spec (ws := (ws_ yX1_matchCount cX1_matchCount 3 (some .int))) B.pre
  have hts : ∀ w ∈ lw_all, w.before _ s = true := fun w h => hts w (List.mem_cons_of_mem _ h)
  have hown : s.vm.findClass RX1 = some M0.cls := findClass_of_methodNamed B.named
  have hlocks := B.notSynchronized
  subst hsz
  have hD := hD0.self (sz := s.heap.size)
  generalize hAe : va_A (wm_y a k n m t p) s.heap.size = A at hD ⊢
  have hA : ∀ q : Nat, s.heap.size ≤ q → A q := fun q h => by rw [← hAe]; exact Or.inr h
  have hS : va_S A s.heap s.heap [] := va_S.rf
  have hP : va_P D wm_cl (wm_y a k n m t p) s.heap := hP
  have hl := lv_entry ([.ref (a 0)]) (n := 3) (Nat.le_of_ble_eq_true rfl)
  rw [lg_entry_eq]
  generalize (lg_sl ([.ref (a 0)]) ++ List.replicate (3 - (lg_sl ([.ref (a 0)])).length) Slot.unset).toArray = ls at hl ⊢
  have hl : lv_has ls 3 [(0, .ref (a 0))] := hl
  obtain ⟨hn40, hm12, ht5, hp5⟩ := id hab
  refine lv_iconst (v := nI 0) hx hb dX1_matchCount_0 (by decide +kernel) ?_
  refine lv_istore_n (lv' := [(1, .int (nI 0)), (0, .ref (a 0))]) hx hb dX1_matchCount_1 rfl hl (by decide) rfl (fun ls hl => ?_)
  refine lv_iconst (v := nI 0) hx hb dX1_matchCount_2 (by decide +kernel) ?_
  refine lv_istore_n (lv' := [(2, .int (nI 0)), (1, .int (nI 0)), (0, .ref (a 0))]) hx hb dX1_matchCount_3 rfl hl (by decide) rfl (fun ls hl => ?_)
  have loop : ∀ (r i : Nat), i + r = n + 1 - m → ∀ (H : Heap) (locs : List Loc) (ls : Array Slot), va_P D wm_cl (wm_y a k n m t p) H → va_D A (wm_y a k n m t p) → va_S A s.heap H locs → lv_has ls 3 [(0, .ref (a 0)), (1, .int (nI (wm_ct (fun i => decide (wm_mi n t p i m = 0)) i))), (2, .int (nI i))] → W P0 l e0 (headSpec (ws_ yX1_matchCount cX1_matchCount 3 (some .int)) ({ frames := 2, cells := 0, slots := 0, locals := 46 } : Room)).room s M0 ([.ref (a 0)] : List Value).toArray bl mt cd H locs 0 0 (MQ bl (va_Qi (fun (r : Int32) (u : Unit) => r = wm_mc n m t p) (fun u => wm_is D wm_cl (wm_yt k) A (wm_y a k n m t p)) A) ([.ref (a 0)] : List Value).toArray s 0 0 A) (F0 M0 4 ls []) := by
    intro r
    induction r with
    | zero =>
      intro i hi 
      intro H locs ls hP hD hS hl
      refine lv_iload_n hx hb dX1_matchCount_4 rfl (lv_at hl 2 rfl) ?_
      refine lv_aload_n hx hb dX1_matchCount_5 rfl (lv_at hl 0 rfl) ?_
      refine va_get (D := D) (ci := 1) (v := .int (nI n)) (C := RX1) (T := TX1) (N := 4) hx hb hts in_X1 hown hK hP 0 rfl rfl 0 (by decide) (hts _ q150) (fun _ h9 => h9) rfl dX1_matchCount_6 ?_
      refine lv_aload_n hx hb dX1_matchCount_9 rfl (lv_at hl 0 rfl) ?_
      refine va_get (D := D) (ci := 1) (v := .int (nI m)) (C := RX1) (T := TX1) (N := 4) hx hb hts in_X1 hown hK hP 0 rfl rfl 1 (by decide) (hts _ q151) (fun _ h9 => h9) rfl dX1_matchCount_10 ?_
      refine lv_isub hx hb dX1_matchCount_13 ?_
      refine lv_icmp_gt (tgt := 34) hx hb dX1_matchCount_14 (by decide) (fun hc => ?_) (fun hc => ?_)
      · skip
        have hin : i = n + 1 - m := by omega
        refine lv_iload_n hx hb dX1_matchCount_34 rfl (lv_at hl 1 rfl) ?_
        exact W.iret (v := nI (wm_ct (fun i => decide (wm_mi n t p i m = 0)) i)) hx hb hr (fun T0 hT0 hW0 => ⟨⟨nI (wm_ct (fun i => decide (wm_mi n t p i m = 0)) i), (), rfl, (by rw [wm_mc, hin]), by rw [hT0]; exact hP, va_K.moved hW0.alike hK, hD⟩, hS.F hT0⟩) hS.2.2 dX1_matchCount_35
      · exact absurd ((wm_shiftI hn40 hm12 (by omega)).mpr (by omega)) hc
    | succ r ih =>
      intro i hi 
      intro H locs ls hP hD hS hl
      have hci := wm_ct_le (fun i => decide (wm_mi n t p i m = 0)) i
      refine lv_iload_n hx hb dX1_matchCount_4 rfl (lv_at hl 2 rfl) ?_
      refine lv_aload_n hx hb dX1_matchCount_5 rfl (lv_at hl 0 rfl) ?_
      refine va_get (D := D) (ci := 1) (v := .int (nI n)) (C := RX1) (T := TX1) (N := 4) hx hb hts in_X1 hown hK hP 0 rfl rfl 0 (by decide) (hts _ q150) (fun _ h9 => h9) rfl dX1_matchCount_6 ?_
      refine lv_aload_n hx hb dX1_matchCount_9 rfl (lv_at hl 0 rfl) ?_
      refine va_get (D := D) (ci := 1) (v := .int (nI m)) (C := RX1) (T := TX1) (N := 4) hx hb hts in_X1 hown hK hP 0 rfl rfl 1 (by decide) (hts _ q151) (fun _ h9 => h9) rfl dX1_matchCount_10 ?_
      refine lv_isub hx hb dX1_matchCount_13 ?_
      refine lv_icmp_gt (tgt := 34) hx hb dX1_matchCount_14 (by decide) (fun hc => ?_) (fun hc => ?_)
      · exact absurd ((wm_shiftI hn40 hm12 (by omega)).mp hc) (by omega)
      · skip
        have hmt : wm_mt n m t p (nI i) = if wm_mi n t p i m = 0 then 1 else 0 := by rw [wm_mt, if_neg (fun h => h.elim (nI_pos (by omega)) hc), nI_clamp (by omega)]
        refine lv_aload_n hx hb dX1_matchCount_17 rfl (lv_at hl 0 rfl) ?_
        refine lv_iload_n hx hb dX1_matchCount_18 rfl (lv_at hl 2 rfl) ?_
        refine wm_calli (wr := []) (As := [.int (nI i)]) (rest := []) ⟨hx, hb, hml, hown, hts⟩ (my_matches l D a k _ n m t p (nI i) hab) (cwV 1 hts (lw_V q203 q188 q189 q15 q190) rfl rfl rfl (by decide +kernel) ⟨Nat.le_of_ble_eq_true rfl, Nat.le_of_ble_eq_true rfl⟩) (va_recv hK hP (ci := 1) (q0 := 0) rfl rfl) hK hP hD hS hA [0, 1, 2] [] [0, 1] rfl rfl rfl (by decide) (by decide) (by decide) rfl rfl hl.1 rfl (Nat.le_of_ble_eq_true rfl) dX1_matchCount_19 ⟨Nat.zero_le _, Nat.zero_le _⟩ (fun r_ u H locs hq hP hD hS => ?_)
        have hP : va_P D wm_cl (wm_y a k n m t p) H := hP
        have hD : va_D A (wm_y a k n m t p) := hD
        have hq : r_ = wm_mt n m t p (nI i) := hq
        subst hq
        refine lv_if_eq (tgt := 28) hx hb dX1_matchCount_22 (by decide) (fun hd => ?_) (fun hd => ?_)
        · skip
          have hz : ¬ wm_mi n t p i m = 0 := fun h => by rw [hmt, if_pos h] at hd; exact absurd hd (by decide)
          have e : wm_ct (fun i => decide (wm_mi n t p i m = 0)) (i + 1) = wm_ct (fun i => decide (wm_mi n t p i m = 0)) i := by rw [wm_ct, if_neg (by simp [hz])]; rfl
          refine lv_iinc (v := nI (i + 1)) (lv' := [(2, .int (nI (i + 1))), (0, .ref (a 0)), (1, .int (nI (wm_ct (fun i => decide (wm_mi n t p i m = 0)) i)))]) hx hb dX1_matchCount_28 hl (k := 2) rfl (wm_inc i) (by decide) rfl (fun ls hl => ?_)
          refine lv_goto (tgt := 4) hx hb dX1_matchCount_31 (by decide) ?_
          exact ih (i + 1) (by omega) _ _ _ hP hD hS (by rw [e]; exact lv_sub hl [1, 2, 0] rfl)
        · skip
          have hz : wm_mi n t p i m = 0 := by
            by_cases h : wm_mi n t p i m = 0
            · exact h
            · rw [hmt, if_neg h] at hd
              exact absurd rfl hd
          have e : wm_ct (fun i => decide (wm_mi n t p i m = 0)) (i + 1) = wm_ct (fun i => decide (wm_mi n t p i m = 0)) i + 1 := by rw [wm_ct, if_pos (by simp [hz])]
          refine lv_iinc (v := nI ((wm_ct (fun i => decide (wm_mi n t p i m = 0)) i) + 1)) (lv' := [(1, .int (nI ((wm_ct (fun i => decide (wm_mi n t p i m = 0)) i) + 1))), (0, .ref (a 0)), (2, .int (nI i))]) hx hb dX1_matchCount_25 hl (k := 1) rfl (wm_inc (wm_ct (fun i => decide (wm_mi n t p i m = 0)) i)) (by decide) rfl (fun ls hl => ?_)
          refine lv_iinc (v := nI (i + 1)) (lv' := [(2, .int (nI (i + 1))), (1, .int (nI ((wm_ct (fun i => decide (wm_mi n t p i m = 0)) i) + 1))), (0, .ref (a 0))]) hx hb dX1_matchCount_28 hl (k := 2) rfl (wm_inc i) (by decide) rfl (fun ls hl => ?_)
          refine lv_goto (tgt := 4) hx hb dX1_matchCount_31 (by decide) ?_
          exact ih (i + 1) (by omega) _ _ _ hP hD hS (by rw [e]; exact lv_sub hl [2, 1, 0] rfl)
  exact loop (n + 1 - m) 0 (by omega) _ _ _ hP hD hS (lv_sub hl [2, 1, 0] rfl)
set_option maxHeartbeats 4000000 in
set_option maxRecDepth 100000 in
/-- nextMatch -/
theorem my_nextMatch (l : Launch) (D : va_G) (a : Nat → Nat) (k : Nat → ClassId) (sz n m : Nat) (t p : Nat → Nat) (f : Int32) (hab : wm_ab n m t p) : Met l yX1_nextMatch (ws_ yX1_nextMatch cX1_nextMatch 3 (some .int)) ({ frames := 2, cells := 0, slots := 0, locals := 46 } : Room) (va_Pc [.ref (a 0), .int f] (wm_pre D wm_cl (wm_yt k) (wm_y a k n m t p) sz)) (va_Qi (fun (r : Int32) (u : Unit) => r = wm_nx n m t p f) (fun u => wm_is D wm_cl (wm_yt k) (va_A (wm_y a k n m t p) sz) (wm_y a k n m t p)) (va_A (wm_y a k n m t p) sz)) 0 0 (va_A (wm_y a k n m t p) sz) := by
  refine Met.ofW (cc := cX1_nextMatch) (maxL := 3) (ret := some .int) (by decide) rfl ?_
  intro P0 e0 s M0 av bl mt cd s1 B hml hv
  obtain ⟨rfl, hsz, hP, hK, hD0⟩ := hv
  have hx := B.exec
  have hb := B.bytes
  have hr := B.returns
  have hts := atoms_spec (ws := (ws_ yX1_nextMatch cX1_nextMatch 3 (some .int))) B.pre
  have hts : ∀ w ∈ lw_all, w.before _ s = true := fun w h => hts w (List.mem_cons_of_mem _ h)
  have hown : s.vm.findClass RX1 = some M0.cls := findClass_of_methodNamed B.named
  have hlocks := B.notSynchronized
  subst hsz
  have hD := hD0.self (sz := s.heap.size)
  generalize hAe : va_A (wm_y a k n m t p) s.heap.size = A at hD ⊢
  have hA : ∀ q : Nat, s.heap.size ≤ q → A q := fun q h => by rw [← hAe]; exact Or.inr h
  have hS : va_S A s.heap s.heap [] := va_S.rf
  have hP : va_P D wm_cl (wm_y a k n m t p) s.heap := hP
  have hl := lv_entry ([.ref (a 0), .int f]) (n := 3) (Nat.le_of_ble_eq_true rfl)
  rw [lg_entry_eq]
  generalize (lg_sl ([.ref (a 0), .int f]) ++ List.replicate (3 - (lg_sl ([.ref (a 0), .int f])).length) Slot.unset).toArray = ls at hl ⊢
  have hl : lv_has ls 3 [(0, .ref (a 0)), (1, .int f)] := hl
  obtain ⟨hn40, hm12, ht5, hp5⟩ := id hab
  refine lv_iconst (v := nI 0) hx hb dX1_nextMatch_0 (by decide +kernel) ?_
  refine lv_istore_n (lv' := [(2, .int (nI 0)), (0, .ref (a 0)), (1, .int f)]) hx hb dX1_nextMatch_1 rfl hl (by decide) rfl (fun ls hl => ?_)
  have loop : ∀ (r i : Nat), i + r = n + 1 - m → wm_nx n m t p f = wm_fd (fun i => !decide (nI i < f) && decide (wm_mi n t p i m = 0)) r i → ∀ (H : Heap) (locs : List Loc) (ls : Array Slot), va_P D wm_cl (wm_y a k n m t p) H → va_D A (wm_y a k n m t p) → va_S A s.heap H locs → lv_has ls 3 [(0, .ref (a 0)), (1, .int f), (2, .int (nI i))] → W P0 l e0 (headSpec (ws_ yX1_nextMatch cX1_nextMatch 3 (some .int)) ({ frames := 2, cells := 0, slots := 0, locals := 46 } : Room)).room s M0 ([.ref (a 0), .int f] : List Value).toArray bl mt cd H locs 0 0 (MQ bl (va_Qi (fun (r : Int32) (u : Unit) => r = wm_nx n m t p f) (fun u => wm_is D wm_cl (wm_yt k) A (wm_y a k n m t p)) A) ([.ref (a 0), .int f] : List Value).toArray s 0 0 A) (F0 M0 2 ls []) := by
    intro r
    induction r with
    | zero =>
      intro i hi he
      intro H locs ls hP hD hS hl
      refine lv_iload_n hx hb dX1_nextMatch_2 rfl (lv_at hl 2 rfl) ?_
      refine lv_aload_n hx hb dX1_nextMatch_3 rfl (lv_at hl 0 rfl) ?_
      refine va_get (D := D) (ci := 1) (v := .int (nI n)) (C := RX1) (T := TX1) (N := 4) hx hb hts in_X1 hown hK hP 0 rfl rfl 0 (by decide) (hts _ q150) (fun _ h9 => h9) rfl dX1_nextMatch_4 ?_
      refine lv_aload_n hx hb dX1_nextMatch_7 rfl (lv_at hl 0 rfl) ?_
      refine va_get (D := D) (ci := 1) (v := .int (nI m)) (C := RX1) (T := TX1) (N := 4) hx hb hts in_X1 hown hK hP 0 rfl rfl 1 (by decide) (hts _ q151) (fun _ h9 => h9) rfl dX1_nextMatch_8 ?_
      refine lv_isub hx hb dX1_nextMatch_11 ?_
      refine lv_icmp_gt (tgt := 36) hx hb dX1_nextMatch_12 (by decide) (fun hc => ?_) (fun hc => ?_)
      · skip
        refine lv_bipush (v := (-3)) hx hb dX1_nextMatch_36 (by decide +kernel) ?_
        exact W.iret (v := (-3)) hx hb hr (fun T0 hT0 hW0 => ⟨⟨(-3), (), rfl, (by rw [he]; rfl), by rw [hT0]; exact hP, va_K.moved hW0.alike hK, hD⟩, hS.F hT0⟩) hS.2.2 dX1_nextMatch_38
      · exact absurd ((wm_shiftI hn40 hm12 (by omega)).mpr (by omega)) hc
    | succ r ih =>
      intro i hi he
      intro H locs ls hP hD hS hl
      refine lv_iload_n hx hb dX1_nextMatch_2 rfl (lv_at hl 2 rfl) ?_
      refine lv_aload_n hx hb dX1_nextMatch_3 rfl (lv_at hl 0 rfl) ?_
      refine va_get (D := D) (ci := 1) (v := .int (nI n)) (C := RX1) (T := TX1) (N := 4) hx hb hts in_X1 hown hK hP 0 rfl rfl 0 (by decide) (hts _ q150) (fun _ h9 => h9) rfl dX1_nextMatch_4 ?_
      refine lv_aload_n hx hb dX1_nextMatch_7 rfl (lv_at hl 0 rfl) ?_
      refine va_get (D := D) (ci := 1) (v := .int (nI m)) (C := RX1) (T := TX1) (N := 4) hx hb hts in_X1 hown hK hP 0 rfl rfl 1 (by decide) (hts _ q151) (fun _ h9 => h9) rfl dX1_nextMatch_8 ?_
      refine lv_isub hx hb dX1_nextMatch_11 ?_
      refine lv_icmp_gt (tgt := 36) hx hb dX1_nextMatch_12 (by decide) (fun hc => ?_) (fun hc => ?_)
      · exact absurd ((wm_shiftI hn40 hm12 (by omega)).mp hc) (by omega)
      · skip
        have hmt : wm_mt n m t p (nI i) = if wm_mi n t p i m = 0 then 1 else 0 := by rw [wm_mt, if_neg (fun h => h.elim (nI_pos (by omega)) hc), nI_clamp (by omega)]
        refine lv_iload_n hx hb dX1_nextMatch_15 rfl (lv_at hl 2 rfl) ?_
        refine lv_iload_n hx hb dX1_nextMatch_16 rfl (lv_at hl 1 rfl) ?_
        refine lv_icmp_lt (tgt := 30) hx hb dX1_nextMatch_17 (by decide) (fun hd => ?_) (fun hd => ?_)
        · skip
          refine lv_iinc (v := nI (i + 1)) (lv' := [(2, .int (nI (i + 1))), (0, .ref (a 0)), (1, .int f)]) hx hb dX1_nextMatch_30 hl (k := 2) rfl (wm_inc i) (by decide) rfl (fun ls hl => ?_)
          refine lv_goto (tgt := 2) hx hb dX1_nextMatch_33 (by decide) ?_
          exact ih (i + 1) (by omega) (by rw [he, wm_fd, if_neg (by simp [hd])]) _ _ _ hP hD hS (lv_sub hl [1, 2, 0] rfl)
        · skip
          refine lv_aload_n hx hb dX1_nextMatch_20 rfl (lv_at hl 0 rfl) ?_
          refine lv_iload_n hx hb dX1_nextMatch_21 rfl (lv_at hl 2 rfl) ?_
          refine wm_calli (wr := []) (As := [.int (nI i)]) (rest := []) ⟨hx, hb, hml, hown, hts⟩ (my_matches l D a k _ n m t p (nI i) hab) (cwV 1 hts (lw_V q203 q188 q189 q15 q190) rfl rfl rfl (by decide +kernel) ⟨Nat.le_of_ble_eq_true rfl, Nat.le_of_ble_eq_true rfl⟩) (va_recv hK hP (ci := 1) (q0 := 0) rfl rfl) hK hP hD hS hA [0, 1, 2] [] [0, 1] rfl rfl rfl (by decide) (by decide) (by decide) rfl rfl hl.1 rfl (Nat.le_of_ble_eq_true rfl) dX1_nextMatch_22 ⟨Nat.zero_le _, Nat.zero_le _⟩ (fun r_ u H locs hq hP hD hS => ?_)
          have hP : va_P D wm_cl (wm_y a k n m t p) H := hP
          have hD : va_D A (wm_y a k n m t p) := hD
          have hq : r_ = wm_mt n m t p (nI i) := hq
          subst hq
          refine lv_if_eq (tgt := 30) hx hb dX1_nextMatch_25 (by decide) (fun hd3 => ?_) (fun hd3 => ?_)
          · skip
            have hz : ¬ wm_mi n t p i m = 0 := fun h => by rw [hmt, if_pos h] at hd3; exact absurd hd3 (by decide)
            refine lv_iinc (v := nI (i + 1)) (lv' := [(2, .int (nI (i + 1))), (0, .ref (a 0)), (1, .int f)]) hx hb dX1_nextMatch_30 hl (k := 2) rfl (wm_inc i) (by decide) rfl (fun ls hl => ?_)
            refine lv_goto (tgt := 2) hx hb dX1_nextMatch_33 (by decide) ?_
            exact ih (i + 1) (by omega) (by rw [he, wm_fd, if_neg (by simp [hz])]) _ _ _ hP hD hS (lv_sub hl [1, 2, 0] rfl)
          · skip
            have hz : wm_mi n t p i m = 0 := by
              by_cases h : wm_mi n t p i m = 0
              · exact h
              · rw [hmt, if_neg h] at hd3
                exact absurd rfl hd3
            refine lv_iload_n hx hb dX1_nextMatch_28 rfl (lv_at hl 2 rfl) ?_
            exact W.iret (v := nI i) hx hb hr (fun T0 hT0 hW0 => ⟨⟨nI i, (), rfl, (by rw [he, wm_fd, if_pos (by simp only [hz, decide_true, Bool.and_true, Bool.not_eq_true', decide_eq_false_iff_not]; exact hd)]), by rw [hT0]; exact hP, va_K.moved hW0.alike hK, hD⟩, hS.F hT0⟩) hS.2.2 dX1_nextMatch_29
  exact loop (n + 1 - m) 0 (by omega) rfl _ _ _ hP hD hS (lv_sub hl [1, 2, 0] rfl)
set_option maxHeartbeats 4000000 in
set_option maxRecDepth 100000 in
/-- mismatches -/
theorem my_mismatches (l : Launch) (D : va_G) (a : Nat → Nat) (k : Nat → ClassId) (sz n m : Nat) (t p : Nat → Nat) (i : Int32) (hab : wm_ab n m t p) : Met l yX1_mismatches (ws_ yX1_mismatches cX1_mismatches 2 (some .int)) ({ frames := 1, cells := 0, slots := 0, locals := 25 } : Room) (va_Pc [.ref (a 0), .int i] (wm_pre D wm_cl (wm_yt k) (wm_y a k n m t p) sz)) (va_Qi (fun (r : Int32) (u : Unit) => r = wm_mm n m t p i) (fun u => wm_is D wm_cl (wm_yt k) (va_A (wm_y a k n m t p) sz) (wm_y a k n m t p)) (va_A (wm_y a k n m t p) sz)) 0 0 (va_A (wm_y a k n m t p) sz) := by
  refine Met.ofW (cc := cX1_mismatches) (maxL := 2) (ret := some .int) (by decide) rfl ?_
  intro P0 e0 s M0 av bl mt cd s1 B hml hv
  obtain ⟨rfl, hsz, hP, hK, hD0⟩ := hv
  have hx := B.exec
  have hb := B.bytes
  have hr := B.returns
  have hts := atoms_spec (ws := (ws_ yX1_mismatches cX1_mismatches 2 (some .int))) B.pre
  have hts : ∀ w ∈ lw_all, w.before _ s = true := fun w h => hts w (List.mem_cons_of_mem _ h)
  have hown : s.vm.findClass RX1 = some M0.cls := findClass_of_methodNamed B.named
  have hlocks := B.notSynchronized
  subst hsz
  have hD := hD0.self (sz := s.heap.size)
  generalize hAe : va_A (wm_y a k n m t p) s.heap.size = A at hD ⊢
  have hA : ∀ q : Nat, s.heap.size ≤ q → A q := fun q h => by rw [← hAe]; exact Or.inr h
  have hS : va_S A s.heap s.heap [] := va_S.rf
  have hP : va_P D wm_cl (wm_y a k n m t p) s.heap := hP
  have hl := lv_entry ([.ref (a 0), .int i]) (n := 2) (Nat.le_of_ble_eq_true rfl)
  rw [lg_entry_eq]
  generalize (lg_sl ([.ref (a 0), .int i]) ++ List.replicate (2 - (lg_sl ([.ref (a 0), .int i])).length) Slot.unset).toArray = ls at hl ⊢
  have hl : lv_has ls 2 [(0, .ref (a 0)), (1, .int i)] := hl
  obtain ⟨hn40, hm12, ht5, hp5⟩ := id hab
  refine lv_aload_n hx hb dX1_mismatches_0 rfl (lv_at hl 0 rfl) ?_
  refine lv_iload_n hx hb dX1_mismatches_1 rfl (lv_at hl 1 rfl) ?_
  refine wm_calli (wr := []) (As := [.int i]) (rest := []) ⟨hx, hb, hml, hown, hts⟩ (my_isShift l D a k _ n m t p i) (cwV 1 hts (lw_V q191 q193 qs11 q15 q194) rfl rfl rfl (by decide +kernel) ⟨Nat.le_of_ble_eq_true rfl, Nat.le_of_ble_eq_true rfl⟩) (va_recv hK hP (ci := 1) (q0 := 0) rfl rfl) hK hP hD hS hA [0, 1, 2] [] [0, 1] rfl rfl rfl (by decide) (by decide) (by decide) rfl rfl hl.1 rfl (Nat.le_of_ble_eq_true rfl) dX1_mismatches_2 ⟨Nat.zero_le _, Nat.zero_le _⟩ (fun r_ u H locs hq hP hD hS => ?_)
  have hP : va_P D wm_cl (wm_y a k n m t p) H := hP
  have hD : va_D A (wm_y a k n m t p) := hD
  refine lv_if_eq (tgt := 16) hx hb dX1_mismatches_5 (by decide) (fun hc => ?_) (fun hc => ?_)
  · skip
    have hs : i < 0 ∨ nI n - nI m < i := by
      by_cases h : i < 0 ∨ nI n - nI m < i
      · exact h
      · rw [if_neg h] at hq
        rw [hq] at hc
        exact absurd hc (by decide)
    refine lv_bipush (v := (-2)) hx hb dX1_mismatches_16 (by decide +kernel) ?_
    exact W.iret (v := (-2)) hx hb hr (fun T0 hT0 hW0 => ⟨⟨(-2), (), rfl, (by rw [wm_mm, if_pos hs]), by rw [hT0]; exact hP, va_K.moved hW0.alike hK, hD⟩, hS.F hT0⟩) hS.2.2 dX1_mismatches_18
  · skip
    have hs : ¬ (i < 0 ∨ nI n - nI m < i) := fun h => hc (by rw [hq, if_pos h])
    obtain ⟨j, rfl, hjm⟩ := wm_shift hn40 hm12 (fun h => hs (Or.inl h)) (fun h => hs (Or.inr h))
    refine lv_aload_n hx hb dX1_mismatches_8 rfl (lv_at hl 0 rfl) ?_
    refine lv_iload_n hx hb dX1_mismatches_9 rfl (lv_at hl 1 rfl) ?_
    refine wm_calli (wr := []) (As := [.int (nI j)]) (rest := []) ⟨hx, hb, hml, hown, hts⟩ (my_differing l D a k _ n m t p j hab (by omega) (by omega)) (cwV 1 hts (lw_V q195 q197 qs12 q15 q198) rfl rfl rfl (by decide +kernel) ⟨Nat.le_of_ble_eq_true rfl, Nat.le_of_ble_eq_true rfl⟩) (va_recv hK hP (ci := 1) (q0 := 0) rfl rfl) hK hP hD hS hA [0, 1, 2] [] [0, 1] rfl rfl rfl (by decide) (by decide) (by decide) rfl rfl hl.1 rfl (Nat.le_of_ble_eq_true rfl) dX1_mismatches_10 ⟨Nat.zero_le _, Nat.zero_le _⟩ (fun r_ u H locs hq hP hD hS => ?_)
    have hP : va_P D wm_cl (wm_y a k n m t p) H := hP
    have hD : va_D A (wm_y a k n m t p) := hD
    have hq : r_ = nI (wm_mi n t p j m) := hq
    subst hq
    refine lv_goto (tgt := 18) hx hb dX1_mismatches_13 (by decide) ?_
    exact W.iret (v := nI (wm_mi n t p j m)) hx hb hr (fun T0 hT0 hW0 => ⟨⟨nI (wm_mi n t p j m), (), rfl, (by rw [wm_mm, if_neg hs, nI_clamp (by omega)]), by rw [hT0]; exact hP, va_K.moved hW0.alike hK, hD⟩, hS.F hT0⟩) hS.2.2 dX1_mismatches_18
set_option maxHeartbeats 4000000 in
set_option maxRecDepth 100000 in
/-- bestShift -/
theorem my_bestShift (l : Launch) (D : va_G) (a : Nat → Nat) (k : Nat → ClassId) (sz n m : Nat) (t p : Nat → Nat)  (hab : wm_ab n m t p) : Met l yX1_bestShift (ws_ yX1_bestShift cX1_bestShift 5 (some .int)) ({ frames := 1, cells := 0, slots := 0, locals := 25 } : Room) (va_Pc [.ref (a 0)] (wm_pre D wm_cl (wm_yt k) (wm_y a k n m t p) sz)) (va_Qi (fun (r : Int32) (u : Unit) => r = wm_be n m t p) (fun u => wm_is D wm_cl (wm_yt k) (va_A (wm_y a k n m t p) sz) (wm_y a k n m t p)) (va_A (wm_y a k n m t p) sz)) 0 0 (va_A (wm_y a k n m t p) sz) := by
  refine Met.ofW (cc := cX1_bestShift) (maxL := 5) (ret := some .int) (by decide) rfl ?_
  intro P0 e0 s M0 av bl mt cd s1 B hml hv
  obtain ⟨rfl, hsz, hP, hK, hD0⟩ := hv
  have hx := B.exec
  have hb := B.bytes
  have hr := B.returns
  have hts := atoms_spec (ws := (ws_ yX1_bestShift cX1_bestShift 5 (some .int))) B.pre
  have hts : ∀ w ∈ lw_all, w.before _ s = true := fun w h => hts w (List.mem_cons_of_mem _ h)
  have hown : s.vm.findClass RX1 = some M0.cls := findClass_of_methodNamed B.named
  have hlocks := B.notSynchronized
  subst hsz
  have hD := hD0.self (sz := s.heap.size)
  generalize hAe : va_A (wm_y a k n m t p) s.heap.size = A at hD ⊢
  have hA : ∀ q : Nat, s.heap.size ≤ q → A q := fun q h => by rw [← hAe]; exact Or.inr h
  have hS : va_S A s.heap s.heap [] := va_S.rf
  have hP : va_P D wm_cl (wm_y a k n m t p) s.heap := hP
  have hl := lv_entry ([.ref (a 0)]) (n := 5) (Nat.le_of_ble_eq_true rfl)
  rw [lg_entry_eq]
  generalize (lg_sl ([.ref (a 0)]) ++ List.replicate (5 - (lg_sl ([.ref (a 0)])).length) Slot.unset).toArray = ls at hl ⊢
  have hl : lv_has ls 5 [(0, .ref (a 0))] := hl
  obtain ⟨hn40, hm12, ht5, hp5⟩ := id hab
  refine lv_bipush (v := (-3)) hx hb dX1_bestShift_0 (by decide +kernel) ?_
  refine lv_istore_n (lv' := [(1, .int (-3)), (0, .ref (a 0))]) hx hb dX1_bestShift_2 rfl hl (by decide) rfl (fun ls hl => ?_)
  refine lv_bipush (v := nI 100) hx hb dX1_bestShift_3 (by decide +kernel) ?_
  refine lv_istore_n (lv' := [(2, .int (nI 100)), (1, .int (-3)), (0, .ref (a 0))]) hx hb dX1_bestShift_5 rfl hl (by decide) rfl (fun ls hl => ?_)
  refine lv_iconst (v := nI 0) hx hb dX1_bestShift_6 (by decide +kernel) ?_
  refine lv_istore_n (lv' := [(3, .int (nI 0)), (2, .int (nI 100)), (1, .int (-3)), (0, .ref (a 0))]) hx hb dX1_bestShift_7 rfl hl (by decide) rfl (fun ls hl => ?_)
  have loop : ∀ (r i : Nat) (b : Int32) (q : Nat), i + r = n + 1 - m → q ≤ 100 → wm_be n m t p = wm_bs (fun i => wm_mi n t p i m) r i b q → ∀ (H : Heap) (locs : List Loc) (ls : Array Slot), va_P D wm_cl (wm_y a k n m t p) H → va_D A (wm_y a k n m t p) → va_S A s.heap H locs → lv_has ls 5 [(0, .ref (a 0)), (1, .int b), (2, .int (nI q)), (3, .int (nI i))] → W P0 l e0 (headSpec (ws_ yX1_bestShift cX1_bestShift 5 (some .int)) ({ frames := 1, cells := 0, slots := 0, locals := 25 } : Room)).room s M0 ([.ref (a 0)] : List Value).toArray bl mt cd H locs 0 0 (MQ bl (va_Qi (fun (r : Int32) (u : Unit) => r = wm_be n m t p) (fun u => wm_is D wm_cl (wm_yt k) A (wm_y a k n m t p)) A) ([.ref (a 0)] : List Value).toArray s 0 0 A) (F0 M0 8 ls []) := by
    intro r
    induction r with
    | zero =>
      intro i b q hi hqb he
      intro H locs ls hP hD hS hl
      refine lv_iload_n hx hb dX1_bestShift_8 rfl (lv_at hl 3 rfl) ?_
      refine lv_aload_n hx hb dX1_bestShift_9 rfl (lv_at hl 0 rfl) ?_
      refine va_get (D := D) (ci := 1) (v := .int (nI n)) (C := RX1) (T := TX1) (N := 4) hx hb hts in_X1 hown hK hP 0 rfl rfl 0 (by decide) (hts _ q150) (fun _ h9 => h9) rfl dX1_bestShift_10 ?_
      refine lv_aload_n hx hb dX1_bestShift_13 rfl (lv_at hl 0 rfl) ?_
      refine va_get (D := D) (ci := 1) (v := .int (nI m)) (C := RX1) (T := TX1) (N := 4) hx hb hts in_X1 hown hK hP 0 rfl rfl 1 (by decide) (hts _ q151) (fun _ h9 => h9) rfl dX1_bestShift_14 ?_
      refine lv_isub hx hb dX1_bestShift_17 ?_
      refine lv_icmp_gt (tgt := 45) hx hb dX1_bestShift_18 (by decide) (fun hc => ?_) (fun hc => ?_)
      · skip
        refine lv_iload_n hx hb dX1_bestShift_45 rfl (lv_at hl 1 rfl) ?_
        exact W.iret (v := b) hx hb hr (fun T0 hT0 hW0 => ⟨⟨b, (), rfl, (by rw [he]; rfl), by rw [hT0]; exact hP, va_K.moved hW0.alike hK, hD⟩, hS.F hT0⟩) hS.2.2 dX1_bestShift_46
      · exact absurd ((wm_shiftI hn40 hm12 (by omega)).mpr (by omega)) hc
    | succ r ih =>
      intro i b q hi hqb he
      intro H locs ls hP hD hS hl
      have hmi := wm_mi_le n t p i m
      refine lv_iload_n hx hb dX1_bestShift_8 rfl (lv_at hl 3 rfl) ?_
      refine lv_aload_n hx hb dX1_bestShift_9 rfl (lv_at hl 0 rfl) ?_
      refine va_get (D := D) (ci := 1) (v := .int (nI n)) (C := RX1) (T := TX1) (N := 4) hx hb hts in_X1 hown hK hP 0 rfl rfl 0 (by decide) (hts _ q150) (fun _ h9 => h9) rfl dX1_bestShift_10 ?_
      refine lv_aload_n hx hb dX1_bestShift_13 rfl (lv_at hl 0 rfl) ?_
      refine va_get (D := D) (ci := 1) (v := .int (nI m)) (C := RX1) (T := TX1) (N := 4) hx hb hts in_X1 hown hK hP 0 rfl rfl 1 (by decide) (hts _ q151) (fun _ h9 => h9) rfl dX1_bestShift_14 ?_
      refine lv_isub hx hb dX1_bestShift_17 ?_
      refine lv_icmp_gt (tgt := 45) hx hb dX1_bestShift_18 (by decide) (fun hc => ?_) (fun hc => ?_)
      · exact absurd ((wm_shiftI hn40 hm12 (by omega)).mp hc) (by omega)
      · skip
        have hc := fun h => hc ((wm_shiftI hn40 hm12 (by omega)).mpr h)
        refine lv_aload_n hx hb dX1_bestShift_21 rfl (lv_at hl 0 rfl) ?_
        refine lv_iload_n hx hb dX1_bestShift_22 rfl (lv_at hl 3 rfl) ?_
        refine wm_calli (wr := []) (As := [.int (nI i)]) (rest := []) ⟨hx, hb, hml, hown, hts⟩ (my_differing l D a k _ n m t p i hab (by omega) (by omega)) (cwV 1 hts (lw_V q195 q197 qs12 q15 q198) rfl rfl rfl (by decide +kernel) ⟨Nat.le_of_ble_eq_true rfl, Nat.le_of_ble_eq_true rfl⟩) (va_recv hK hP (ci := 1) (q0 := 0) rfl rfl) hK hP hD hS hA [0, 1, 2] [] [0, 1] rfl rfl rfl (by decide) (by decide) (by decide) rfl rfl hl.1 rfl (Nat.le_of_ble_eq_true rfl) dX1_bestShift_23 ⟨Nat.zero_le _, Nat.zero_le _⟩ (fun r_ u H locs hq hP hD hS => ?_)
        have hP : va_P D wm_cl (wm_y a k n m t p) H := hP
        have hD : va_D A (wm_y a k n m t p) := hD
        have hq : r_ = nI (wm_mi n t p i m) := hq
        subst hq
        refine lv_istore (lv' := [(4, .int (nI (wm_mi n t p i m))), (0, .ref (a 0)), (1, .int b), (2, .int (nI q)), (3, .int (nI i))]) hx hb dX1_bestShift_26 hl (by decide) rfl (fun ls hl => ?_)
        refine lv_iload hx hb dX1_bestShift_28 (lv_at hl 0 rfl) ?_
        refine lv_iload_n hx hb dX1_bestShift_30 rfl (lv_at hl 3 rfl) ?_
        refine wm_cge (tgt := 39) hx hb dX1_bestShift_31 (by decide) (by omega) (by omega) (fun hd => ?_) (fun hd => ?_)
        · skip
          have hl := lv_sub (l' := [(0, .ref (a 0)), (1, .int b), (2, .int (nI q)), (3, .int (nI i))]) hl [1, 2, 3, 4] rfl
          refine lv_iinc (v := nI (i + 1)) (lv' := [(3, .int (nI (i + 1))), (0, .ref (a 0)), (1, .int b), (2, .int (nI q))]) hx hb dX1_bestShift_39 hl (k := 3) rfl (wm_inc i) (by decide) rfl (fun ls hl => ?_)
          refine lv_goto (tgt := 8) hx hb dX1_bestShift_42 (by decide) ?_
          exact ih (i + 1) b q (by omega) hqb (by rw [he, wm_bs, if_neg (Nat.not_lt.mpr hd)]) _ _ _ hP hD hS (lv_sub hl [1, 2, 3, 0] rfl)
        · skip
          refine lv_iload hx hb dX1_bestShift_34 (lv_at hl 0 rfl) ?_
          refine lv_istore_n (lv' := [(2, .int (nI (wm_mi n t p i m))), (4, .int (nI (wm_mi n t p i m))), (0, .ref (a 0)), (1, .int b), (3, .int (nI i))]) hx hb dX1_bestShift_36 rfl hl (by decide) rfl (fun ls hl => ?_)
          refine lv_iload_n hx hb dX1_bestShift_37 rfl (lv_at hl 4 rfl) ?_
          refine lv_istore_n (lv' := [(1, .int (nI i)), (2, .int (nI (wm_mi n t p i m))), (4, .int (nI (wm_mi n t p i m))), (0, .ref (a 0)), (3, .int (nI i))]) hx hb dX1_bestShift_38 rfl hl (by decide) rfl (fun ls hl => ?_)
          have hl := lv_sub (l' := [(0, .ref (a 0)), (1, .int (nI i)), (2, .int (nI (wm_mi n t p i m))), (3, .int (nI i))]) hl [3, 0, 1, 4] rfl
          refine lv_iinc (v := nI (i + 1)) (lv' := [(3, .int (nI (i + 1))), (0, .ref (a 0)), (1, .int (nI i)), (2, .int (nI (wm_mi n t p i m)))]) hx hb dX1_bestShift_39 hl (k := 3) rfl (wm_inc i) (by decide) rfl (fun ls hl => ?_)
          refine lv_goto (tgt := 8) hx hb dX1_bestShift_42 (by decide) ?_
          exact ih (i + 1) (nI i) (wm_mi n t p i m) (by omega) (by omega) (by rw [he, wm_bs, if_pos hd]) _ _ _ hP hD hS (lv_sub hl [1, 2, 3, 0] rfl)
  exact loop (n + 1 - m) 0 (-3) 100 (by omega) (by decide) rfl _ _ _ hP hD hS (lv_sub hl [3, 2, 1, 0] rfl)
set_option maxHeartbeats 4000000 in
set_option maxRecDepth 100000 in
/-- within -/
theorem my_within (l : Launch) (D : va_G) (a : Nat → Nat) (k : Nat → ClassId) (sz n m : Nat) (t p : Nat → Nat) (f : Int32) (hab : wm_ab n m t p) : Met l yX1_within (ws_ yX1_within cX1_within 4 (some .int)) ({ frames := 1, cells := 0, slots := 0, locals := 25 } : Room) (va_Pc [.ref (a 0), .int f] (wm_pre D wm_cl (wm_yt k) (wm_y a k n m t p) sz)) (va_Qi (fun (r : Int32) (u : Unit) => r = wm_wi n m t p f) (fun u => wm_is D wm_cl (wm_yt k) (va_A (wm_y a k n m t p) sz) (wm_y a k n m t p)) (va_A (wm_y a k n m t p) sz)) 0 0 (va_A (wm_y a k n m t p) sz) := by
  refine Met.ofW (cc := cX1_within) (maxL := 4) (ret := some .int) (by decide) rfl ?_
  intro P0 e0 s M0 av bl mt cd s1 B hml hv
  obtain ⟨rfl, hsz, hP, hK, hD0⟩ := hv
  have hx := B.exec
  have hb := B.bytes
  have hr := B.returns
  have hts := atoms_spec (ws := (ws_ yX1_within cX1_within 4 (some .int))) B.pre
  have hts : ∀ w ∈ lw_all, w.before _ s = true := fun w h => hts w (List.mem_cons_of_mem _ h)
  have hown : s.vm.findClass RX1 = some M0.cls := findClass_of_methodNamed B.named
  have hlocks := B.notSynchronized
  subst hsz
  have hD := hD0.self (sz := s.heap.size)
  generalize hAe : va_A (wm_y a k n m t p) s.heap.size = A at hD ⊢
  have hA : ∀ q : Nat, s.heap.size ≤ q → A q := fun q h => by rw [← hAe]; exact Or.inr h
  have hS : va_S A s.heap s.heap [] := va_S.rf
  have hP : va_P D wm_cl (wm_y a k n m t p) s.heap := hP
  have hl := lv_entry ([.ref (a 0), .int f]) (n := 4) (Nat.le_of_ble_eq_true rfl)
  rw [lg_entry_eq]
  generalize (lg_sl ([.ref (a 0), .int f]) ++ List.replicate (4 - (lg_sl ([.ref (a 0), .int f])).length) Slot.unset).toArray = ls at hl ⊢
  have hl : lv_has ls 4 [(0, .ref (a 0)), (1, .int f)] := hl
  obtain ⟨hn40, hm12, ht5, hp5⟩ := id hab
  refine lv_iconst (v := nI 0) hx hb dX1_within_0 (by decide +kernel) ?_
  refine lv_istore_n (lv' := [(2, .int (nI 0)), (0, .ref (a 0)), (1, .int f)]) hx hb dX1_within_1 rfl hl (by decide) rfl (fun ls hl => ?_)
  refine lv_iconst (v := nI 0) hx hb dX1_within_2 (by decide +kernel) ?_
  refine lv_istore_n (lv' := [(3, .int (nI 0)), (2, .int (nI 0)), (0, .ref (a 0)), (1, .int f)]) hx hb dX1_within_3 rfl hl (by decide) rfl (fun ls hl => ?_)
  have loop : ∀ (r i : Nat), i + r = n + 1 - m → ∀ (H : Heap) (locs : List Loc) (ls : Array Slot), va_P D wm_cl (wm_y a k n m t p) H → va_D A (wm_y a k n m t p) → va_S A s.heap H locs → lv_has ls 4 [(0, .ref (a 0)), (1, .int f), (2, .int (nI (wm_ct (fun i => !decide (f < nI (wm_mi n t p i m))) i))), (3, .int (nI i))] → W P0 l e0 (headSpec (ws_ yX1_within cX1_within 4 (some .int)) ({ frames := 1, cells := 0, slots := 0, locals := 25 } : Room)).room s M0 ([.ref (a 0), .int f] : List Value).toArray bl mt cd H locs 0 0 (MQ bl (va_Qi (fun (r : Int32) (u : Unit) => r = wm_wi n m t p f) (fun u => wm_is D wm_cl (wm_yt k) A (wm_y a k n m t p)) A) ([.ref (a 0), .int f] : List Value).toArray s 0 0 A) (F0 M0 4 ls []) := by
    intro r
    induction r with
    | zero =>
      intro i hi 
      intro H locs ls hP hD hS hl
      refine lv_iload_n hx hb dX1_within_4 rfl (lv_at hl 3 rfl) ?_
      refine lv_aload_n hx hb dX1_within_5 rfl (lv_at hl 0 rfl) ?_
      refine va_get (D := D) (ci := 1) (v := .int (nI n)) (C := RX1) (T := TX1) (N := 4) hx hb hts in_X1 hown hK hP 0 rfl rfl 0 (by decide) (hts _ q150) (fun _ h9 => h9) rfl dX1_within_6 ?_
      refine lv_aload_n hx hb dX1_within_9 rfl (lv_at hl 0 rfl) ?_
      refine va_get (D := D) (ci := 1) (v := .int (nI m)) (C := RX1) (T := TX1) (N := 4) hx hb hts in_X1 hown hK hP 0 rfl rfl 1 (by decide) (hts _ q151) (fun _ h9 => h9) rfl dX1_within_10 ?_
      refine lv_isub hx hb dX1_within_13 ?_
      refine lv_icmp_gt (tgt := 35) hx hb dX1_within_14 (by decide) (fun hc => ?_) (fun hc => ?_)
      · skip
        have hin : i = n + 1 - m := by omega
        refine lv_iload_n hx hb dX1_within_35 rfl (lv_at hl 2 rfl) ?_
        exact W.iret (v := nI (wm_ct (fun i => !decide (f < nI (wm_mi n t p i m))) i)) hx hb hr (fun T0 hT0 hW0 => ⟨⟨nI (wm_ct (fun i => !decide (f < nI (wm_mi n t p i m))) i), (), rfl, (by rw [wm_wi, hin]), by rw [hT0]; exact hP, va_K.moved hW0.alike hK, hD⟩, hS.F hT0⟩) hS.2.2 dX1_within_36
      · exact absurd ((wm_shiftI hn40 hm12 (by omega)).mpr (by omega)) hc
    | succ r ih =>
      intro i hi 
      intro H locs ls hP hD hS hl
      have hmi := wm_mi_le n t p i m
      have hci := wm_ct_le (fun i => !decide (f < nI (wm_mi n t p i m))) i
      refine lv_iload_n hx hb dX1_within_4 rfl (lv_at hl 3 rfl) ?_
      refine lv_aload_n hx hb dX1_within_5 rfl (lv_at hl 0 rfl) ?_
      refine va_get (D := D) (ci := 1) (v := .int (nI n)) (C := RX1) (T := TX1) (N := 4) hx hb hts in_X1 hown hK hP 0 rfl rfl 0 (by decide) (hts _ q150) (fun _ h9 => h9) rfl dX1_within_6 ?_
      refine lv_aload_n hx hb dX1_within_9 rfl (lv_at hl 0 rfl) ?_
      refine va_get (D := D) (ci := 1) (v := .int (nI m)) (C := RX1) (T := TX1) (N := 4) hx hb hts in_X1 hown hK hP 0 rfl rfl 1 (by decide) (hts _ q151) (fun _ h9 => h9) rfl dX1_within_10 ?_
      refine lv_isub hx hb dX1_within_13 ?_
      refine lv_icmp_gt (tgt := 35) hx hb dX1_within_14 (by decide) (fun hc => ?_) (fun hc => ?_)
      · exact absurd ((wm_shiftI hn40 hm12 (by omega)).mp hc) (by omega)
      · skip
        have hc := fun h => hc ((wm_shiftI hn40 hm12 (by omega)).mpr h)
        refine lv_aload_n hx hb dX1_within_17 rfl (lv_at hl 0 rfl) ?_
        refine lv_iload_n hx hb dX1_within_18 rfl (lv_at hl 3 rfl) ?_
        refine wm_calli (wr := []) (As := [.int (nI i)]) (rest := []) ⟨hx, hb, hml, hown, hts⟩ (my_differing l D a k _ n m t p i hab (by omega) (by omega)) (cwV 1 hts (lw_V q195 q197 qs12 q15 q198) rfl rfl rfl (by decide +kernel) ⟨Nat.le_of_ble_eq_true rfl, Nat.le_of_ble_eq_true rfl⟩) (va_recv hK hP (ci := 1) (q0 := 0) rfl rfl) hK hP hD hS hA [0, 1, 2] [] [0, 1] rfl rfl rfl (by decide) (by decide) (by decide) rfl rfl hl.1 rfl (Nat.le_of_ble_eq_true rfl) dX1_within_19 ⟨Nat.zero_le _, Nat.zero_le _⟩ (fun r_ u H locs hq hP hD hS => ?_)
        have hP : va_P D wm_cl (wm_y a k n m t p) H := hP
        have hD : va_D A (wm_y a k n m t p) := hD
        have hq : r_ = nI (wm_mi n t p i m) := hq
        subst hq
        refine lv_iload_n hx hb dX1_within_22 rfl (lv_at hl 1 rfl) ?_
        refine lv_icmp_gt (tgt := 29) hx hb dX1_within_23 (by decide) (fun hd => ?_) (fun hd => ?_)
        · skip
          have e : wm_ct (fun i => !decide (f < nI (wm_mi n t p i m))) (i + 1) = wm_ct (fun i => !decide (f < nI (wm_mi n t p i m))) i := by rw [wm_ct, if_neg (by simp [hd])]; rfl
          have hl := lv_sub (l' := [(0, .ref (a 0)), (1, .int f), (2, .int (nI (wm_ct (fun i => !decide (f < nI (wm_mi n t p i m))) i))), (3, .int (nI i))]) hl [0, 1, 2, 3] rfl
          refine lv_iinc (v := nI (i + 1)) (lv' := [(3, .int (nI (i + 1))), (0, .ref (a 0)), (1, .int f), (2, .int (nI (wm_ct (fun i => !decide (f < nI (wm_mi n t p i m))) i)))]) hx hb dX1_within_29 hl (k := 3) rfl (wm_inc i) (by decide) rfl (fun ls hl => ?_)
          refine lv_goto (tgt := 4) hx hb dX1_within_32 (by decide) ?_
          exact ih (i + 1) (by omega) _ _ _ hP hD hS (by rw [e]; exact lv_sub hl [1, 2, 3, 0] rfl)
        · skip
          have e : wm_ct (fun i => !decide (f < nI (wm_mi n t p i m))) (i + 1) = wm_ct (fun i => !decide (f < nI (wm_mi n t p i m))) i + 1 := by rw [wm_ct, if_pos (by simp only [Bool.not_eq_true', decide_eq_false_iff_not]; exact hd)]
          have hl := lv_sub (l' := [(0, .ref (a 0)), (1, .int f), (2, .int (nI (wm_ct (fun i => !decide (f < nI (wm_mi n t p i m))) i))), (3, .int (nI i))]) hl [0, 1, 2, 3] rfl
          refine lv_iinc (v := nI ((wm_ct (fun i => !decide (f < nI (wm_mi n t p i m))) i) + 1)) (lv' := [(2, .int (nI ((wm_ct (fun i => !decide (f < nI (wm_mi n t p i m))) i) + 1))), (0, .ref (a 0)), (1, .int f), (3, .int (nI i))]) hx hb dX1_within_26 hl (k := 2) rfl (wm_inc (wm_ct (fun i => !decide (f < nI (wm_mi n t p i m))) i)) (by decide) rfl (fun ls hl => ?_)
          refine lv_iinc (v := nI (i + 1)) (lv' := [(3, .int (nI (i + 1))), (2, .int (nI ((wm_ct (fun i => !decide (f < nI (wm_mi n t p i m))) i) + 1))), (0, .ref (a 0)), (1, .int f)]) hx hb dX1_within_29 hl (k := 3) rfl (wm_inc i) (by decide) rfl (fun ls hl => ?_)
          refine lv_goto (tgt := 4) hx hb dX1_within_32 (by decide) ?_
          exact ih (i + 1) (by omega) _ _ _ hP hD hS (by rw [e]; exact lv_sub hl [2, 3, 1, 0] rfl)
  exact loop (n + 1 - m) 0 (by omega) _ _ _ hP hD hS (lv_sub hl [2, 3, 1, 0] rfl)
set_option maxHeartbeats 4000000 in
set_option maxRecDepth 100000 in
/-- turnedMismatches -/
theorem my_turnedMismatches (l : Launch) (D : va_G) (a : Nat → Nat) (k : Nat → ClassId) (sz n m : Nat) (t p : Nat → Nat) (i : Int32) (hab : wm_ab n m t p) : Met l yX1_turnedMismatches (ws_ yX1_turnedMismatches cX1_turnedMismatches 2 (some .int)) ({ frames := 1, cells := 0, slots := 0, locals := 25 } : Room) (va_Pc [.ref (a 0), .int i] (wm_pre D wm_cl (wm_yt k) (wm_y a k n m t p) sz)) (va_Qi (fun (r : Int32) (u : Unit) => r = wm_tm n m t p i) (fun u => wm_is D wm_cl (wm_yt k) (va_A (wm_y a k n m t p) sz) (wm_y a k n m t p)) (va_A (wm_y a k n m t p) sz)) 0 0 (va_A (wm_y a k n m t p) sz) := by
  refine Met.ofW (cc := cX1_turnedMismatches) (maxL := 2) (ret := some .int) (by decide) rfl ?_
  intro P0 e0 s M0 av bl mt cd s1 B hml hv
  obtain ⟨rfl, hsz, hP, hK, hD0⟩ := hv
  have hx := B.exec
  have hb := B.bytes
  have hr := B.returns
  have hts := atoms_spec (ws := (ws_ yX1_turnedMismatches cX1_turnedMismatches 2 (some .int))) B.pre
  have hts : ∀ w ∈ lw_all, w.before _ s = true := fun w h => hts w (List.mem_cons_of_mem _ h)
  have hown : s.vm.findClass RX1 = some M0.cls := findClass_of_methodNamed B.named
  have hlocks := B.notSynchronized
  subst hsz
  have hD := hD0.self (sz := s.heap.size)
  generalize hAe : va_A (wm_y a k n m t p) s.heap.size = A at hD ⊢
  have hA : ∀ q : Nat, s.heap.size ≤ q → A q := fun q h => by rw [← hAe]; exact Or.inr h
  have hS : va_S A s.heap s.heap [] := va_S.rf
  have hP : va_P D wm_cl (wm_y a k n m t p) s.heap := hP
  have hl := lv_entry ([.ref (a 0), .int i]) (n := 2) (Nat.le_of_ble_eq_true rfl)
  rw [lg_entry_eq]
  generalize (lg_sl ([.ref (a 0), .int i]) ++ List.replicate (2 - (lg_sl ([.ref (a 0), .int i])).length) Slot.unset).toArray = ls at hl ⊢
  have hl : lv_has ls 2 [(0, .ref (a 0)), (1, .int i)] := hl
  obtain ⟨hn40, hm12, ht5, hp5⟩ := id hab
  refine lv_iload_n hx hb dX1_turnedMismatches_0 rfl (lv_at hl 1 rfl) ?_
  refine lv_if_lt (tgt := 31) hx hb dX1_turnedMismatches_1 (by decide) (fun h1 => ?_) (fun h1 => ?_)
  · skip
    refine lv_bipush (v := (-2)) hx hb dX1_turnedMismatches_31 (by decide +kernel) ?_
    exact W.iret (v := (-2)) hx hb hr (fun T0 hT0 hW0 => ⟨⟨(-2), (), rfl, (by rw [wm_tm, if_pos (Or.inl h1)]), by rw [hT0]; exact hP, va_K.moved hW0.alike hK, hD⟩, hS.F hT0⟩) hS.2.2 dX1_turnedMismatches_33
  · skip
    refine lv_iload_n hx hb dX1_turnedMismatches_4 rfl (lv_at hl 1 rfl) ?_
    refine lv_aload_n hx hb dX1_turnedMismatches_5 rfl (lv_at hl 0 rfl) ?_
    refine va_get (D := D) (ci := 1) (v := .int (nI n)) (C := RX1) (T := TX1) (N := 4) hx hb hts in_X1 hown hK hP 0 rfl rfl 0 (by decide) (hts _ q150) (fun _ h9 => h9) rfl dX1_turnedMismatches_6 ?_
    refine lv_icmp_ge (tgt := 31) hx hb dX1_turnedMismatches_9 (by decide) (fun h2 => ?_) (fun h2 => ?_)
    · skip
      refine lv_bipush (v := (-2)) hx hb dX1_turnedMismatches_31 (by decide +kernel) ?_
      exact W.iret (v := (-2)) hx hb hr (fun T0 hT0 hW0 => ⟨⟨(-2), (), rfl, (by rw [wm_tm, if_pos (Or.inr (Or.inl h2))]), by rw [hT0]; exact hP, va_K.moved hW0.alike hK, hD⟩, hS.F hT0⟩) hS.2.2 dX1_turnedMismatches_33
    · skip
      refine lv_aload_n hx hb dX1_turnedMismatches_12 rfl (lv_at hl 0 rfl) ?_
      refine va_get (D := D) (ci := 1) (v := .int (nI m)) (C := RX1) (T := TX1) (N := 4) hx hb hts in_X1 hown hK hP 0 rfl rfl 1 (by decide) (hts _ q151) (fun _ h9 => h9) rfl dX1_turnedMismatches_13 ?_
      refine lv_aload_n hx hb dX1_turnedMismatches_16 rfl (lv_at hl 0 rfl) ?_
      refine va_get (D := D) (ci := 1) (v := .int (nI n)) (C := RX1) (T := TX1) (N := 4) hx hb hts in_X1 hown hK hP 0 rfl rfl 0 (by decide) (hts _ q150) (fun _ h9 => h9) rfl dX1_turnedMismatches_17 ?_
      refine wm_cgt (tgt := 31) hx hb dX1_turnedMismatches_20 (by decide) (by omega) (by omega) (fun h3 => ?_) (fun h3 => ?_)
      · skip
        refine lv_bipush (v := (-2)) hx hb dX1_turnedMismatches_31 (by decide +kernel) ?_
        exact W.iret (v := (-2)) hx hb hr (fun T0 hT0 hW0 => ⟨⟨(-2), (), rfl, (by rw [wm_tm, if_pos (Or.inr (Or.inr h3))]), by rw [hT0]; exact hP, va_K.moved hW0.alike hK, hD⟩, hS.F hT0⟩) hS.2.2 dX1_turnedMismatches_33
      · skip
        have hs : ¬ (i < 0 ∨ nI n ≤ i ∨ n < m) := fun h => h.elim h1 (fun h => h.elim h2 (fun h => absurd h (by omega)))
        obtain ⟨j, hjn, rfl⟩ := wm_index (by omega) h1 h2
        refine lv_aload_n hx hb dX1_turnedMismatches_23 rfl (lv_at hl 0 rfl) ?_
        refine lv_iload_n hx hb dX1_turnedMismatches_24 rfl (lv_at hl 1 rfl) ?_
        refine wm_calli (wr := []) (As := [.int (nI j)]) (rest := []) ⟨hx, hb, hml, hown, hts⟩ (my_differing l D a k _ n m t p j hab (by omega) (by omega)) (cwV 1 hts (lw_V q195 q197 qs12 q15 q198) rfl rfl rfl (by decide +kernel) ⟨Nat.le_of_ble_eq_true rfl, Nat.le_of_ble_eq_true rfl⟩) (va_recv hK hP (ci := 1) (q0 := 0) rfl rfl) hK hP hD hS hA [0, 1, 2] [] [0, 1] rfl rfl rfl (by decide) (by decide) (by decide) rfl rfl hl.1 rfl (Nat.le_of_ble_eq_true rfl) dX1_turnedMismatches_25 ⟨Nat.zero_le _, Nat.zero_le _⟩ (fun r_ u H locs hq hP hD hS => ?_)
        have hP : va_P D wm_cl (wm_y a k n m t p) H := hP
        have hD : va_D A (wm_y a k n m t p) := hD
        have hq : r_ = nI (wm_mi n t p j m) := hq
        subst hq
        refine lv_goto (tgt := 33) hx hb dX1_turnedMismatches_28 (by decide) ?_
        exact W.iret (v := nI (wm_mi n t p j m)) hx hb hr (fun T0 hT0 hW0 => ⟨⟨nI (wm_mi n t p j m), (), rfl, (by rw [wm_tm, if_neg hs, nI_clamp (by omega)]), by rw [hT0]; exact hP, va_K.moved hW0.alike hK, hD⟩, hS.F hT0⟩) hS.2.2 dX1_turnedMismatches_33
end
section
set_option maxHeartbeats 4000000 in
set_option maxRecDepth 100000 in
/-- type -/
theorem my_type (l : Launch) (D : va_G) (a : Nat → Nat) (k : Nat → ClassId) (sz n m : Nat) (t p : Nat → Nat) (z c : Int32) (hab : wm_ab n m t p) : Met l yX1_type (ws_ yX1_type cX1_type 3 (some .int)) ({ frames := 0, cells := 0, slots := 0, locals := 0 } : Room) (va_Pc [.ref (a 0), .int z, .int c] (wm_pre D wm_cl (wm_yt k) (wm_y a k n m t p) sz)) (va_Qi (fun (r : Int32) (u : wm_S) => (r, u) = wm_ty z c n m t p) (fun u => wm_is D wm_cl (wm_yt k) (va_A (wm_y a k n m t p) sz) (wm_y a k u.1 u.2.1 u.2.2.1 u.2.2.2)) (va_A (wm_y a k n m t p) sz)) 0 0 (va_A (wm_y a k n m t p) sz) := by
  refine Met.ofW (cc := cX1_type) (maxL := 3) (ret := some .int) (by decide) rfl ?_
  intro P0 e0 s M0 av bl mt cd s1 B hml hv
  obtain ⟨rfl, hsz, hP, hK, hD0⟩ := hv
  have hx := B.exec
  have hb := B.bytes
  have hr := B.returns
  have hts := atoms_spec (ws := (ws_ yX1_type cX1_type 3 (some .int))) B.pre
  have hts : ∀ w ∈ lw_all, w.before _ s = true := fun w h => hts w (List.mem_cons_of_mem _ h)
  have hown : s.vm.findClass RX1 = some M0.cls := findClass_of_methodNamed B.named
  have hlocks := B.notSynchronized
  subst hsz
  have hD := hD0.self (sz := s.heap.size)
  generalize hAe : va_A (wm_y a k n m t p) s.heap.size = A at hD ⊢
  have hA : ∀ q : Nat, s.heap.size ≤ q → A q := fun q h => by rw [← hAe]; exact Or.inr h
  have hS : va_S A s.heap s.heap [] := va_S.rf
  have hP : va_P D wm_cl (wm_y a k n m t p) s.heap := hP
  have hl := lv_entry ([.ref (a 0), .int z, .int c]) (n := 3) (Nat.le_of_ble_eq_true rfl)
  rw [lg_entry_eq]
  generalize (lg_sl ([.ref (a 0), .int z, .int c]) ++ List.replicate (3 - (lg_sl ([.ref (a 0), .int z, .int c])).length) Slot.unset).toArray = ls at hl ⊢
  have hl : lv_has ls 3 [(0, .ref (a 0)), (1, .int z), (2, .int c)] := hl
  obtain ⟨hn40, hm12, ht5, hp5⟩ := id hab
  refine lv_iload_n hx hb dX1_type_0 rfl (lv_at hl 1 rfl) ?_
  refine lv_if_eq (tgt := 16) hx hb dX1_type_1 (by decide) (fun hz => ?_) (fun hz => ?_)
  · skip
    refine lv_aload_n hx hb dX1_type_16 rfl (lv_at hl 0 rfl) ?_
    refine va_get (D := D) (ci := 1) (v := .int (nI n)) (C := RX1) (T := TX1) (N := 4) hx hb hts in_X1 hown hK hP 0 rfl rfl 0 (by decide) (hts _ q150) (fun _ h9 => h9) rfl dX1_type_17 ?_
    refine lv_bipush (v := nI 40) hx hb dX1_type_20 (by decide +kernel) ?_
    refine wm_cne (tgt := 27) hx hb dX1_type_22 (by decide) (by omega) (by omega) (fun hfu => ?_) (fun hfu => ?_)
    · skip
      refine lv_iload_n hx hb dX1_type_27 rfl (lv_at hl 2 rfl) ?_
      refine lv_if_lt (tgt := 36) hx hb dX1_type_28 (by decide) (fun h1 => ?_) (fun h1 => ?_)
      · skip
        refine lv_bipush (v := (-2)) hx hb dX1_type_36 (by decide +kernel) ?_
        exact W.iret (v := (-2)) hx hb hr (fun T0 hT0 hW0 => ⟨⟨(-2), (n, m, t, p), rfl, (by rw [wm_ty, if_neg (show ¬ (if z = 0 then 40 ≤ n else 12 ≤ m) by rw [if_pos hz]; omega), if_pos (Or.inl h1)]), by rw [hT0]; exact hP, va_K.moved hW0.alike hK, hD⟩, hS.F hT0⟩) hS.2.2 dX1_type_38
      · skip
        refine lv_iload_n hx hb dX1_type_31 rfl (lv_at hl 2 rfl) ?_
        refine lv_iconst (v := 4) hx hb dX1_type_32 (by decide +kernel) ?_
        refine lv_icmp_le (tgt := 39) hx hb dX1_type_33 (by decide) (fun h2 => ?_) (fun h2 => ?_)
        · skip
          have hs : ¬ (c < 0 ∨ ¬ c ≤ 4) := fun h => h.elim h1 (fun h => h h2)
          obtain ⟨x, hx5, rfl⟩ := wm_letter h1 h2
          refine lv_iload_n hx hb dX1_type_39 rfl (lv_at hl 1 rfl) ?_
          refine lv_if_eq (tgt := 68) hx hb dX1_type_40 (by decide) (fun hz4 => ?_) (fun hz4 => ?_)
          · skip
            refine lv_aload_n hx hb dX1_type_68 rfl (lv_at hl 0 rfl) ?_
            refine va_get (D := D) (ci := 1) (v := .ref (a 1)) (C := RX1) (T := TX1) (N := 4) hx hb hts in_X1 hown hK hP 0 rfl rfl 2 (by decide) (hts _ q152) (fun _ h9 => h9) rfl dX1_type_69 ?_
            refine lv_aload_n hx hb dX1_type_72 rfl (lv_at hl 0 rfl) ?_
            refine va_get (D := D) (ci := 1) (v := .int (nI n)) (C := RX1) (T := TX1) (N := 4) hx hb hts in_X1 hown hK hP 0 rfl rfl 0 (by decide) (hts _ q150) (fun _ h9 => h9) rfl dX1_type_73 ?_
            refine lv_iload_n hx hb dX1_type_76 rfl (lv_at hl 2 rfl) ?_
            refine wm_iast hx hb hK hP hD hS 1 0 rfl rfl (by decide) (by omega) dX1_type_77 (fun H locs hP hD hS => ?_)
            have hP : va_P D wm_cl (wm_y a k n m (wm_un t n x) p) H := hP
            have hD : va_D A (wm_y a k n m (wm_un t n x) p) := hD
            refine lv_aload_n hx hb dX1_type_78 rfl (lv_at hl 0 rfl) ?_
            refine lv_dup hx hb dX1_type_79 rfl ?_
            refine va_get (D := D) (ci := 1) (v := .int (nI n)) (C := RX1) (T := TX1) (N := 4) hx hb hts in_X1 hown hK hP 0 rfl rfl 0 (by decide) (hts _ q150) (fun _ h9 => h9) rfl dX1_type_80 ?_
            refine lv_iconst (v := nI 1) hx hb dX1_type_83 (by decide +kernel) ?_
            refine wm_iadd hx hb dX1_type_84 ?_
            refine va_put (D := D) (ci := 1) (v := .int (nI (n + 1))) (ty := .int) (C := RX1) (T := TX1) (N := 4) hx hb hts in_X1 tyX1 tyX1_ok nmX1 hown hK hP hD hS 0 rfl rfl 0 (by decide) (hts _ q150) (fun _ h9 => h9) rfl (by decide +kernel) rfl rfl (Nat.le_of_ble_eq_true rfl) dX1_type_85 (fun H locs hP hD hS => ?_)
            have hP : va_P D wm_cl (wm_y a k (n + 1) m (wm_un t n x) p) H := hP
            have hD : va_D A (wm_y a k (n + 1) m (wm_un t n x) p) := hD
            refine lv_aload_n hx hb dX1_type_88 rfl (lv_at hl 0 rfl) ?_
            refine va_get (D := D) (ci := 1) (v := .int (nI (n + 1))) (C := RX1) (T := TX1) (N := 4) hx hb hts in_X1 hown hK hP 0 rfl rfl 0 (by decide) (hts _ q150) (fun _ h9 => h9) rfl dX1_type_89 ?_
            exact W.iret (v := nI (n + 1)) hx hb hr (fun T0 hT0 hW0 => ⟨⟨nI (n + 1), (n + 1, m, wm_un t n x, p), rfl, (by rw [wm_ty, if_neg (show ¬ (if z = 0 then 40 ≤ n else 12 ≤ m) by rw [if_pos hz]; omega), if_neg hs, if_pos hz, nI_clamp (by omega)]), by rw [hT0]; exact hP, va_K.moved hW0.alike hK, hD⟩, hS.F hT0⟩) hS.2.2 dX1_type_92
          · exact absurd hz hz4
        · skip
          refine lv_bipush (v := (-2)) hx hb dX1_type_36 (by decide +kernel) ?_
          exact W.iret (v := (-2)) hx hb hr (fun T0 hT0 hW0 => ⟨⟨(-2), (n, m, t, p), rfl, (by rw [wm_ty, if_neg (show ¬ (if z = 0 then 40 ≤ n else 12 ≤ m) by rw [if_pos hz]; omega), if_pos (Or.inr h2)]), by rw [hT0]; exact hP, va_K.moved hW0.alike hK, hD⟩, hS.F hT0⟩) hS.2.2 dX1_type_38
    · skip
      refine lv_iconst (v := (-1)) hx hb dX1_type_25 (by decide +kernel) ?_
      exact W.iret (v := (-1)) hx hb hr (fun T0 hT0 hW0 => ⟨⟨(-1), (n, m, t, p), rfl, (by rw [wm_ty, if_pos (show (if z = 0 then 40 ≤ n else 12 ≤ m) by rw [if_pos hz]; omega)]), by rw [hT0]; exact hP, va_K.moved hW0.alike hK, hD⟩, hS.F hT0⟩) hS.2.2 dX1_type_26
  · skip
    refine lv_aload_n hx hb dX1_type_4 rfl (lv_at hl 0 rfl) ?_
    refine va_get (D := D) (ci := 1) (v := .int (nI m)) (C := RX1) (T := TX1) (N := 4) hx hb hts in_X1 hown hK hP 0 rfl rfl 1 (by decide) (hts _ q151) (fun _ h9 => h9) rfl dX1_type_5 ?_
    refine lv_bipush (v := nI 12) hx hb dX1_type_8 (by decide +kernel) ?_
    refine wm_cne (tgt := 27) hx hb dX1_type_10 (by decide) (by omega) (by omega) (fun hfu => ?_) (fun hfu => ?_)
    · skip
      refine lv_iload_n hx hb dX1_type_27 rfl (lv_at hl 2 rfl) ?_
      refine lv_if_lt (tgt := 36) hx hb dX1_type_28 (by decide) (fun h1 => ?_) (fun h1 => ?_)
      · skip
        refine lv_bipush (v := (-2)) hx hb dX1_type_36 (by decide +kernel) ?_
        exact W.iret (v := (-2)) hx hb hr (fun T0 hT0 hW0 => ⟨⟨(-2), (n, m, t, p), rfl, (by rw [wm_ty, if_neg (show ¬ (if z = 0 then 40 ≤ n else 12 ≤ m) by rw [if_neg hz]; omega), if_pos (Or.inl h1)]), by rw [hT0]; exact hP, va_K.moved hW0.alike hK, hD⟩, hS.F hT0⟩) hS.2.2 dX1_type_38
      · skip
        refine lv_iload_n hx hb dX1_type_31 rfl (lv_at hl 2 rfl) ?_
        refine lv_iconst (v := 4) hx hb dX1_type_32 (by decide +kernel) ?_
        refine lv_icmp_le (tgt := 39) hx hb dX1_type_33 (by decide) (fun h2 => ?_) (fun h2 => ?_)
        · skip
          have hs : ¬ (c < 0 ∨ ¬ c ≤ 4) := fun h => h.elim h1 (fun h => h h2)
          obtain ⟨x, hx5, rfl⟩ := wm_letter h1 h2
          refine lv_iload_n hx hb dX1_type_39 rfl (lv_at hl 1 rfl) ?_
          refine lv_if_eq (tgt := 68) hx hb dX1_type_40 (by decide) (fun hz4 => ?_) (fun hz4 => ?_)
          · exact absurd hz4 hz
          · skip
            refine lv_aload_n hx hb dX1_type_43 rfl (lv_at hl 0 rfl) ?_
            refine va_get (D := D) (ci := 1) (v := .ref (a 2)) (C := RX1) (T := TX1) (N := 4) hx hb hts in_X1 hown hK hP 0 rfl rfl 3 (by decide) (hts _ q153) (fun _ h9 => h9) rfl dX1_type_44 ?_
            refine lv_aload_n hx hb dX1_type_47 rfl (lv_at hl 0 rfl) ?_
            refine va_get (D := D) (ci := 1) (v := .int (nI m)) (C := RX1) (T := TX1) (N := 4) hx hb hts in_X1 hown hK hP 0 rfl rfl 1 (by decide) (hts _ q151) (fun _ h9 => h9) rfl dX1_type_48 ?_
            refine lv_iload_n hx hb dX1_type_51 rfl (lv_at hl 2 rfl) ?_
            refine wm_iast hx hb hK hP hD hS 2 1 rfl rfl (by decide) (by omega) dX1_type_52 (fun H locs hP hD hS => ?_)
            have hP : va_P D wm_cl (wm_y a k n m t (wm_un p m x)) H := hP
            have hD : va_D A (wm_y a k n m t (wm_un p m x)) := hD
            refine lv_aload_n hx hb dX1_type_53 rfl (lv_at hl 0 rfl) ?_
            refine lv_dup hx hb dX1_type_54 rfl ?_
            refine va_get (D := D) (ci := 1) (v := .int (nI m)) (C := RX1) (T := TX1) (N := 4) hx hb hts in_X1 hown hK hP 0 rfl rfl 1 (by decide) (hts _ q151) (fun _ h9 => h9) rfl dX1_type_55 ?_
            refine lv_iconst (v := nI 1) hx hb dX1_type_58 (by decide +kernel) ?_
            refine wm_iadd hx hb dX1_type_59 ?_
            refine va_put (D := D) (ci := 1) (v := .int (nI (m + 1))) (ty := .int) (C := RX1) (T := TX1) (N := 4) hx hb hts in_X1 tyX1 tyX1_ok nmX1 hown hK hP hD hS 0 rfl rfl 1 (by decide) (hts _ q151) (fun _ h9 => h9) rfl (by decide +kernel) rfl rfl (Nat.le_of_ble_eq_true rfl) dX1_type_60 (fun H locs hP hD hS => ?_)
            have hP : va_P D wm_cl (wm_y a k n (m + 1) t (wm_un p m x)) H := hP
            have hD : va_D A (wm_y a k n (m + 1) t (wm_un p m x)) := hD
            refine lv_aload_n hx hb dX1_type_63 rfl (lv_at hl 0 rfl) ?_
            refine va_get (D := D) (ci := 1) (v := .int (nI (m + 1))) (C := RX1) (T := TX1) (N := 4) hx hb hts in_X1 hown hK hP 0 rfl rfl 1 (by decide) (hts _ q151) (fun _ h9 => h9) rfl dX1_type_64 ?_
            exact W.iret (v := nI (m + 1)) hx hb hr (fun T0 hT0 hW0 => ⟨⟨nI (m + 1), (n, m + 1, t, wm_un p m x), rfl, (by rw [wm_ty, if_neg (show ¬ (if z = 0 then 40 ≤ n else 12 ≤ m) by rw [if_neg hz]; omega), if_neg hs, if_neg hz, nI_clamp (by omega)]), by rw [hT0]; exact hP, va_K.moved hW0.alike hK, hD⟩, hS.F hT0⟩) hS.2.2 dX1_type_67
        · skip
          refine lv_bipush (v := (-2)) hx hb dX1_type_36 (by decide +kernel) ?_
          exact W.iret (v := (-2)) hx hb hr (fun T0 hT0 hW0 => ⟨⟨(-2), (n, m, t, p), rfl, (by rw [wm_ty, if_neg (show ¬ (if z = 0 then 40 ≤ n else 12 ≤ m) by rw [if_neg hz]; omega), if_pos (Or.inr h2)]), by rw [hT0]; exact hP, va_K.moved hW0.alike hK, hD⟩, hS.F hT0⟩) hS.2.2 dX1_type_38
    · skip
      refine lv_goto (tgt := 25) hx hb dX1_type_13 (by decide) ?_
      refine lv_iconst (v := (-1)) hx hb dX1_type_25 (by decide +kernel) ?_
      exact W.iret (v := (-1)) hx hb hr (fun T0 hT0 hW0 => ⟨⟨(-1), (n, m, t, p), rfl, (by rw [wm_ty, if_pos (show (if z = 0 then 40 ≤ n else 12 ≤ m) by rw [if_neg hz]; omega)]), by rw [hT0]; exact hP, va_K.moved hW0.alike hK, hD⟩, hS.F hT0⟩) hS.2.2 dX1_type_26
set_option maxHeartbeats 4000000 in
set_option maxRecDepth 100000 in
/-- replace -/
theorem my_replace (l : Launch) (D : va_G) (a : Nat → Nat) (k : Nat → ClassId) (sz n m : Nat) (t p : Nat → Nat) (z i c : Int32) (hab : wm_ab n m t p) : Met l yX1_replace (ws_ yX1_replace cX1_replace 4 (some .boolean)) ({ frames := 1, cells := 0, slots := 0, locals := 22 } : Room) (va_Pc [.ref (a 0), .int z, .int i, .int c] (wm_pre D wm_cl (wm_yt k) (wm_y a k n m t p) sz)) (va_Qi (fun (r : Int32) (u : wm_S) => (r, u) = wm_rp z i c n m t p) (fun u => wm_is D wm_cl (wm_yt k) (va_A (wm_y a k n m t p) sz) (wm_y a k u.1 u.2.1 u.2.2.1 u.2.2.2)) (va_A (wm_y a k n m t p) sz)) 0 0 (va_A (wm_y a k n m t p) sz) := by
  refine Met.ofW (cc := cX1_replace) (maxL := 4) (ret := some .boolean) (by decide) rfl ?_
  intro P0 e0 s M0 av bl mt cd s1 B hml hv
  obtain ⟨rfl, hsz, hP, hK, hD0⟩ := hv
  have hx := B.exec
  have hb := B.bytes
  have hr := B.returns
  have hts := atoms_spec (ws := (ws_ yX1_replace cX1_replace 4 (some .boolean))) B.pre
  have hts : ∀ w ∈ lw_all, w.before _ s = true := fun w h => hts w (List.mem_cons_of_mem _ h)
  have hown : s.vm.findClass RX1 = some M0.cls := findClass_of_methodNamed B.named
  have hlocks := B.notSynchronized
  subst hsz
  have hD := hD0.self (sz := s.heap.size)
  generalize hAe : va_A (wm_y a k n m t p) s.heap.size = A at hD ⊢
  have hA : ∀ q : Nat, s.heap.size ≤ q → A q := fun q h => by rw [← hAe]; exact Or.inr h
  have hS : va_S A s.heap s.heap [] := va_S.rf
  have hP : va_P D wm_cl (wm_y a k n m t p) s.heap := hP
  have hl := lv_entry ([.ref (a 0), .int z, .int i, .int c]) (n := 4) (Nat.le_of_ble_eq_true rfl)
  rw [lg_entry_eq]
  generalize (lg_sl ([.ref (a 0), .int z, .int i, .int c]) ++ List.replicate (4 - (lg_sl ([.ref (a 0), .int z, .int i, .int c])).length) Slot.unset).toArray = ls at hl ⊢
  have hl : lv_has ls 4 [(0, .ref (a 0)), (1, .int z), (2, .int i), (3, .int c)] := hl
  obtain ⟨hn40, hm12, ht5, hp5⟩ := id hab
  have hlen : wm_len z n m < 2 ^ 31 := by unfold wm_len; split <;> omega
  refine lv_aload_n hx hb dX1_replace_0 rfl (lv_at hl 0 rfl) ?_
  refine lv_iload_n hx hb dX1_replace_1 rfl (lv_at hl 1 rfl) ?_
  refine lv_iload_n hx hb dX1_replace_2 rfl (lv_at hl 2 rfl) ?_
  refine wm_calli (wr := []) (As := [.int z, .int i]) (rest := []) ⟨hx, hb, hml, hown, hts⟩ (my_isLetter l D a k _ n m t p z i) (cwV 2 hts (lw_V q171 q173 qs10 q15 q174) rfl rfl rfl (by decide +kernel) ⟨Nat.le_of_ble_eq_true rfl, Nat.le_of_ble_eq_true rfl⟩) (va_recv hK hP (ci := 1) (q0 := 0) rfl rfl) hK hP hD hS hA [0, 1, 2] [] [0, 1] rfl rfl rfl (by decide) (by decide) (by decide) rfl rfl hl.1 rfl (Nat.le_of_ble_eq_true rfl) dX1_replace_3 ⟨Nat.zero_le _, Nat.zero_le _⟩ (fun r_ u H locs hq hP hD hS => ?_)
  have hP : va_P D wm_cl (wm_y a k n m t p) H := hP
  have hD : va_D A (wm_y a k n m t p) := hD
  refine lv_if_eq (tgt := 18) hx hb dX1_replace_6 (by decide) (fun hc => ?_) (fun hc => ?_)
  · skip
    have hs : i < 0 ∨ nI (wm_len z n m) ≤ i := by
      by_cases h : i < 0 ∨ nI (wm_len z n m) ≤ i
      · exact h
      · rw [if_neg h] at hq
        rw [hq] at hc
        exact absurd hc (by decide)
    refine lv_iconst (v := nI 0) hx hb dX1_replace_18 (by decide +kernel) ?_
    exact W.zret (v := nI 0) hx hb hr (by first | rfl | decide +kernel) (fun T0 hT0 hW0 => ⟨⟨nI 0, (n, m, t, p), rfl, (by rw [wm_rp, if_pos (Or.inl hs)]; rfl), by rw [hT0]; exact hP, va_K.moved hW0.alike hK, hD⟩, hS.F hT0⟩) hS.2.2 dX1_replace_19
  · skip
    have hs0 : ¬ (i < 0 ∨ nI (wm_len z n m) ≤ i) := fun h => hc (by rw [hq, if_pos h])
    have hi1 : ¬ i < 0 := fun h => hs0 (Or.inl h)
    have hi2 : ¬ nI (wm_len z n m) ≤ i := fun h => hs0 (Or.inr h)
    refine lv_iload_n hx hb dX1_replace_9 rfl (lv_at hl 3 rfl) ?_
    refine lv_if_lt (tgt := 18) hx hb dX1_replace_10 (by decide) (fun h1 => ?_) (fun h1 => ?_)
    · skip
      refine lv_iconst (v := nI 0) hx hb dX1_replace_18 (by decide +kernel) ?_
      exact W.zret (v := nI 0) hx hb hr (by first | rfl | decide +kernel) (fun T0 hT0 hW0 => ⟨⟨nI 0, (n, m, t, p), rfl, (by rw [wm_rp, if_pos (Or.inr (Or.inl h1))]; rfl), by rw [hT0]; exact hP, va_K.moved hW0.alike hK, hD⟩, hS.F hT0⟩) hS.2.2 dX1_replace_19
    · skip
      refine lv_iload_n hx hb dX1_replace_13 rfl (lv_at hl 3 rfl) ?_
      refine lv_iconst (v := 4) hx hb dX1_replace_14 (by decide +kernel) ?_
      refine lv_icmp_le (tgt := 20) hx hb dX1_replace_15 (by decide) (fun h2 => ?_) (fun h2 => ?_)
      · skip
        have hs : ¬ ((i < 0 ∨ nI (wm_len z n m) ≤ i) ∨ c < 0 ∨ ¬ c ≤ 4) := fun h => h.elim (fun h => h.elim hi1 hi2) (fun h => h.elim h1 (fun h => h h2))
        obtain ⟨x, hx5, rfl⟩ := wm_letter h1 h2
        obtain ⟨j, hj, rfl⟩ := wm_index hlen hi1 hi2
        refine lv_iload_n hx hb dX1_replace_20 rfl (lv_at hl 1 rfl) ?_
        refine lv_if_eq (tgt := 34) hx hb dX1_replace_21 (by decide) (fun hz => ?_) (fun hz => ?_)
        · skip
          rw [wm_len, if_pos hz] at hj
          refine lv_aload_n hx hb dX1_replace_34 rfl (lv_at hl 0 rfl) ?_
          refine va_get (D := D) (ci := 1) (v := .ref (a 1)) (C := RX1) (T := TX1) (N := 4) hx hb hts in_X1 hown hK hP 0 rfl rfl 2 (by decide) (hts _ q152) (fun _ h9 => h9) rfl dX1_replace_35 ?_
          refine lv_iload_n hx hb dX1_replace_38 rfl (lv_at hl 2 rfl) ?_
          refine lv_iload_n hx hb dX1_replace_39 rfl (lv_at hl 3 rfl) ?_
          refine wm_iast hx hb hK hP hD hS 1 0 rfl rfl (by decide) (by omega) dX1_replace_40 (fun H locs hP hD hS => ?_)
          have hP : va_P D wm_cl (wm_y a k n m (wm_un t j x) p) H := hP
          have hD : va_D A (wm_y a k n m (wm_un t j x) p) := hD
          refine lv_iconst (v := nI 1) hx hb dX1_replace_41 (by decide +kernel) ?_
          exact W.zret (v := nI 1) hx hb hr (by first | rfl | decide +kernel) (fun T0 hT0 hW0 => ⟨⟨nI 1, (n, m, wm_un t j x, p), rfl, (by rw [wm_rp, if_neg hs, if_pos hz, nI_clamp (by omega), nI_clamp (by omega)]; rfl), by rw [hT0]; exact hP, va_K.moved hW0.alike hK, hD⟩, hS.F hT0⟩) hS.2.2 dX1_replace_42
        · skip
          rw [wm_len, if_neg hz] at hj
          refine lv_aload_n hx hb dX1_replace_24 rfl (lv_at hl 0 rfl) ?_
          refine va_get (D := D) (ci := 1) (v := .ref (a 2)) (C := RX1) (T := TX1) (N := 4) hx hb hts in_X1 hown hK hP 0 rfl rfl 3 (by decide) (hts _ q153) (fun _ h9 => h9) rfl dX1_replace_25 ?_
          refine lv_iload_n hx hb dX1_replace_28 rfl (lv_at hl 2 rfl) ?_
          refine lv_iload_n hx hb dX1_replace_29 rfl (lv_at hl 3 rfl) ?_
          refine wm_iast hx hb hK hP hD hS 2 1 rfl rfl (by decide) (by omega) dX1_replace_30 (fun H locs hP hD hS => ?_)
          have hP : va_P D wm_cl (wm_y a k n m t (wm_un p j x)) H := hP
          have hD : va_D A (wm_y a k n m t (wm_un p j x)) := hD
          refine lv_goto (tgt := 41) hx hb dX1_replace_31 (by decide) ?_
          refine lv_iconst (v := nI 1) hx hb dX1_replace_41 (by decide +kernel) ?_
          exact W.zret (v := nI 1) hx hb hr (by first | rfl | decide +kernel) (fun T0 hT0 hW0 => ⟨⟨nI 1, (n, m, t, wm_un p j x), rfl, (by rw [wm_rp, if_neg hs, if_neg hz, nI_clamp (by omega), nI_clamp (by omega)]; rfl), by rw [hT0]; exact hP, va_K.moved hW0.alike hK, hD⟩, hS.F hT0⟩) hS.2.2 dX1_replace_42
      · skip
        refine lv_iconst (v := nI 0) hx hb dX1_replace_18 (by decide +kernel) ?_
        exact W.zret (v := nI 0) hx hb hr (by first | rfl | decide +kernel) (fun T0 hT0 hW0 => ⟨⟨nI 0, (n, m, t, p), rfl, (by rw [wm_rp, if_pos (Or.inr (Or.inr h2))]; rfl), by rw [hT0]; exact hP, va_K.moved hW0.alike hK, hD⟩, hS.F hT0⟩) hS.2.2 dX1_replace_19
set_option maxHeartbeats 4000000 in
set_option maxRecDepth 100000 in
/-- shorten -/
theorem my_shorten (l : Launch) (D : va_G) (a : Nat → Nat) (k : Nat → ClassId) (sz n m : Nat) (t p : Nat → Nat) (z : Int32) (hab : wm_ab n m t p) : Met l yX1_shorten (ws_ yX1_shorten cX1_shorten 3 (some .int)) ({ frames := 1, cells := 0, slots := 0, locals := 22 } : Room) (va_Pc [.ref (a 0), .int z] (wm_pre D wm_cl (wm_yt k) (wm_y a k n m t p) sz)) (va_Qi (fun (r : Int32) (u : wm_S) => (r, u) = wm_so z n m t p) (fun u => wm_is D wm_cl (wm_yt k) (va_A (wm_y a k n m t p) sz) (wm_y a k u.1 u.2.1 u.2.2.1 u.2.2.2)) (va_A (wm_y a k n m t p) sz)) 0 0 (va_A (wm_y a k n m t p) sz) := by
  refine Met.ofW (cc := cX1_shorten) (maxL := 3) (ret := some .int) (by decide) rfl ?_
  intro P0 e0 s M0 av bl mt cd s1 B hml hv
  obtain ⟨rfl, hsz, hP, hK, hD0⟩ := hv
  have hx := B.exec
  have hb := B.bytes
  have hr := B.returns
  have hts := atoms_spec (ws := (ws_ yX1_shorten cX1_shorten 3 (some .int))) B.pre
  have hts : ∀ w ∈ lw_all, w.before _ s = true := fun w h => hts w (List.mem_cons_of_mem _ h)
  have hown : s.vm.findClass RX1 = some M0.cls := findClass_of_methodNamed B.named
  have hlocks := B.notSynchronized
  subst hsz
  have hD := hD0.self (sz := s.heap.size)
  generalize hAe : va_A (wm_y a k n m t p) s.heap.size = A at hD ⊢
  have hA : ∀ q : Nat, s.heap.size ≤ q → A q := fun q h => by rw [← hAe]; exact Or.inr h
  have hS : va_S A s.heap s.heap [] := va_S.rf
  have hP : va_P D wm_cl (wm_y a k n m t p) s.heap := hP
  have hl := lv_entry ([.ref (a 0), .int z]) (n := 3) (Nat.le_of_ble_eq_true rfl)
  rw [lg_entry_eq]
  generalize (lg_sl ([.ref (a 0), .int z]) ++ List.replicate (3 - (lg_sl ([.ref (a 0), .int z])).length) Slot.unset).toArray = ls at hl ⊢
  have hl : lv_has ls 3 [(0, .ref (a 0)), (1, .int z)] := hl
  obtain ⟨hn40, hm12, ht5, hp5⟩ := id hab
  refine lv_aload_n hx hb dX1_shorten_0 rfl (lv_at hl 0 rfl) ?_
  refine lv_iload_n hx hb dX1_shorten_1 rfl (lv_at hl 1 rfl) ?_
  refine lv_iconst (v := 0) hx hb dX1_shorten_2 (by decide +kernel) ?_
  refine wm_calli (wr := []) (As := [.int z, .int 0]) (rest := []) ⟨hx, hb, hml, hown, hts⟩ (my_isLetter l D a k _ n m t p z 0) (cwV 2 hts (lw_V q171 q173 qs10 q15 q174) rfl rfl rfl (by decide +kernel) ⟨Nat.le_of_ble_eq_true rfl, Nat.le_of_ble_eq_true rfl⟩) (va_recv hK hP (ci := 1) (q0 := 0) rfl rfl) hK hP hD hS hA [0, 1, 2] [] [0, 1] rfl rfl rfl (by decide) (by decide) (by decide) rfl rfl hl.1 rfl (Nat.le_of_ble_eq_true rfl) dX1_shorten_3 ⟨Nat.zero_le _, Nat.zero_le _⟩ (fun r_ u H locs hq hP hD hS => ?_)
  have hP : va_P D wm_cl (wm_y a k n m t p) H := hP
  have hD : va_D A (wm_y a k n m t p) := hD
  refine lv_if_ne (tgt := 12) hx hb dX1_shorten_6 (by decide) (fun hc => ?_) (fun hc => ?_)
  · skip
    have h0 : ¬ wm_len z n m = 0 := fun h => hc (by rw [hq, if_pos (Or.inr (by rw [h]; decide))])
    refine lv_iload_n hx hb dX1_shorten_12 rfl (lv_at hl 1 rfl) ?_
    refine lv_if_eq (tgt := 61) hx hb dX1_shorten_13 (by decide) (fun hz => ?_) (fun hz => ?_)
    · skip
      have el : wm_len z n m = n := if_pos hz
      rw [el] at h0
      refine lv_iconst (v := nI 1) hx hb dX1_shorten_61 (by decide +kernel) ?_
      refine lv_istore_n (lv' := [(2, .int (nI 1)), (0, .ref (a 0)), (1, .int z)]) hx hb dX1_shorten_62 rfl hl (by decide) rfl (fun ls hl => ?_)
      have loop : ∀ (r i : Nat), i + r = n - 1 → ∀ (H : Heap) (locs : List Loc) (ls : Array Slot), va_P D wm_cl (wm_y a k n m (wm_it wm_sf i t) p) H → va_D A (wm_y a k n m (wm_it wm_sf i t) p) → va_S A s.heap H locs → lv_has ls 3 [(0, .ref (a 0)), (1, .int z), (2, .int (nI (i + 1)))] → W P0 l e0 (headSpec (ws_ yX1_shorten cX1_shorten 3 (some .int)) ({ frames := 1, cells := 0, slots := 0, locals := 22 } : Room)).room s M0 ([.ref (a 0), .int z] : List Value).toArray bl mt cd H locs 0 0 (MQ bl (va_Qi (fun (r : Int32) (u : wm_S) => (r, u) = wm_so z n m t p) (fun u => wm_is D wm_cl (wm_yt k) A (wm_y a k u.1 u.2.1 u.2.2.1 u.2.2.2)) A) ([.ref (a 0), .int z] : List Value).toArray s 0 0 A) (F0 M0 63 ls []) := by
        intro r
        induction r with
        | zero =>
          intro i hi
          intro H locs ls hP hD hS hl
          refine lv_iload_n hx hb dX1_shorten_63 rfl (lv_at hl 2 rfl) ?_
          refine lv_aload_n hx hb dX1_shorten_64 rfl (lv_at hl 0 rfl) ?_
          refine va_get (D := D) (ci := 1) (v := .int (nI n)) (C := RX1) (T := TX1) (N := 4) hx hb hts in_X1 hown hK hP 0 rfl rfl 0 (by decide) (hts _ q150) (fun _ h9 => h9) rfl dX1_shorten_65 ?_
          refine wm_cge (tgt := 91) hx hb dX1_shorten_68 (by decide) (by omega) (by omega) (fun hd => ?_) (fun hd => ?_)
          · skip
            have hie : i = n - 1 := by omega
            rw [hie] at hP hD
            have hP : va_P D wm_cl (wm_y a k n m (wm_it wm_sf (n - 1) t) p) H := hP
            have hD : va_D A (wm_y a k n m (wm_it wm_sf (n - 1) t) p) := hD
            refine lv_aload_n hx hb dX1_shorten_91 rfl (lv_at hl 0 rfl) ?_
            refine lv_dup hx hb dX1_shorten_92 rfl ?_
            refine va_get (D := D) (ci := 1) (v := .int (nI n)) (C := RX1) (T := TX1) (N := 4) hx hb hts in_X1 hown hK hP 0 rfl rfl 0 (by decide) (hts _ q150) (fun _ h9 => h9) rfl dX1_shorten_93 ?_
            refine lv_iconst (v := nI 1) hx hb dX1_shorten_96 (by decide +kernel) ?_
            refine wm_isub hx hb dX1_shorten_97 (by omega) ?_
            refine va_put (D := D) (ci := 1) (v := .int (nI (n - 1))) (ty := .int) (C := RX1) (T := TX1) (N := 4) hx hb hts in_X1 tyX1 tyX1_ok nmX1 hown hK hP hD hS 0 rfl rfl 0 (by decide) (hts _ q150) (fun _ h9 => h9) rfl (by decide +kernel) rfl rfl (Nat.le_of_ble_eq_true rfl) dX1_shorten_98 (fun H locs hP hD hS => ?_)
            have hP : va_P D wm_cl (wm_y a k (n - 1) m (wm_it wm_sf (n - 1) t) p) H := hP
            have hD : va_D A (wm_y a k (n - 1) m (wm_it wm_sf (n - 1) t) p) := hD
            refine lv_aload_n hx hb dX1_shorten_101 rfl (lv_at hl 0 rfl) ?_
            refine va_get (D := D) (ci := 1) (v := .int (nI (n - 1))) (C := RX1) (T := TX1) (N := 4) hx hb hts in_X1 hown hK hP 0 rfl rfl 0 (by decide) (hts _ q150) (fun _ h9 => h9) rfl dX1_shorten_102 ?_
            exact W.iret (v := nI (n - 1)) hx hb hr (fun T0 hT0 hW0 => ⟨⟨nI (n - 1), (n - 1, m, wm_it wm_sf (n - 1) t, p), rfl, (by rw [wm_so, el, if_neg h0, if_pos hz]), by rw [hT0]; exact hP, va_K.moved hW0.alike hK, hD⟩, hS.F hT0⟩) hS.2.2 dX1_shorten_105
          · omega
        | succ r ih =>
          intro i hi
          intro H locs ls hP hD hS hl
          refine lv_iload_n hx hb dX1_shorten_63 rfl (lv_at hl 2 rfl) ?_
          refine lv_aload_n hx hb dX1_shorten_64 rfl (lv_at hl 0 rfl) ?_
          refine va_get (D := D) (ci := 1) (v := .int (nI n)) (C := RX1) (T := TX1) (N := 4) hx hb hts in_X1 hown hK hP 0 rfl rfl 0 (by decide) (hts _ q150) (fun _ h9 => h9) rfl dX1_shorten_65 ?_
          refine wm_cge (tgt := 91) hx hb dX1_shorten_68 (by decide) (by omega) (by omega) (fun hd => ?_) (fun hd => ?_)
          · omega
          · skip
            refine lv_aload_n hx hb dX1_shorten_71 rfl (lv_at hl 0 rfl) ?_
            refine va_get (D := D) (ci := 1) (v := .ref (a 1)) (C := RX1) (T := TX1) (N := 4) hx hb hts in_X1 hown hK hP 0 rfl rfl 2 (by decide) (hts _ q152) (fun _ h9 => h9) rfl dX1_shorten_72 ?_
            refine lv_iload_n hx hb dX1_shorten_75 rfl (lv_at hl 2 rfl) ?_
            refine lv_iconst (v := nI 1) hx hb dX1_shorten_76 (by decide +kernel) ?_
            refine wm_isub hx hb dX1_shorten_77 (by omega) ?_
            refine wm_top (y := nI i) (congrArg nI (Nat.add_sub_cancel i 1)) ?_
            refine lv_aload_n hx hb dX1_shorten_78 rfl (lv_at hl 0 rfl) ?_
            refine va_get (D := D) (ci := 1) (v := .ref (a 1)) (C := RX1) (T := TX1) (N := 4) hx hb hts in_X1 hown hK hP 0 rfl rfl 2 (by decide) (hts _ q152) (fun _ h9 => h9) rfl dX1_shorten_79 ?_
            refine lv_iload_n hx hb dX1_shorten_82 rfl (lv_at hl 2 rfl) ?_
            refine wm_iald hx hb hK hP 1 0 rfl rfl (by decide) (by omega) dX1_shorten_83 ?_
            refine wm_iast hx hb hK hP hD hS 1 0 rfl rfl (by decide) (by omega) dX1_shorten_84 (fun H locs hP hD hS => ?_)
            have hP : va_P D wm_cl (wm_y a k n m (wm_un (wm_it wm_sf i t) i ((wm_it wm_sf i t) (i + 1))) p) H := hP
            have hD : va_D A (wm_y a k n m (wm_un (wm_it wm_sf i t) i ((wm_it wm_sf i t) (i + 1))) p) := hD
            refine lv_iinc (v := nI ((i + 1) + 1)) (lv' := [(2, .int (nI ((i + 1) + 1))), (0, .ref (a 0)), (1, .int z)]) hx hb dX1_shorten_85 hl (k := 2) rfl (wm_inc (i + 1)) (by decide) rfl (fun ls hl => ?_)
            refine lv_goto (tgt := 63) hx hb dX1_shorten_88 (by decide) ?_
            exact ih (i + 1) (by omega) _ _ _ hP hD hS (lv_sub hl [1, 2, 0] rfl)
      exact loop (n - 1) 0 (by omega) _ _ _ hP hD hS (lv_sub hl [1, 2, 0] rfl)
    · skip
      have el : wm_len z n m = m := if_neg hz
      rw [el] at h0
      refine lv_iconst (v := nI 1) hx hb dX1_shorten_16 (by decide +kernel) ?_
      refine lv_istore_n (lv' := [(2, .int (nI 1)), (0, .ref (a 0)), (1, .int z)]) hx hb dX1_shorten_17 rfl hl (by decide) rfl (fun ls hl => ?_)
      have loop : ∀ (r i : Nat), i + r = m - 1 → ∀ (H : Heap) (locs : List Loc) (ls : Array Slot), va_P D wm_cl (wm_y a k n m t (wm_it wm_sf i p)) H → va_D A (wm_y a k n m t (wm_it wm_sf i p)) → va_S A s.heap H locs → lv_has ls 3 [(0, .ref (a 0)), (1, .int z), (2, .int (nI (i + 1)))] → W P0 l e0 (headSpec (ws_ yX1_shorten cX1_shorten 3 (some .int)) ({ frames := 1, cells := 0, slots := 0, locals := 22 } : Room)).room s M0 ([.ref (a 0), .int z] : List Value).toArray bl mt cd H locs 0 0 (MQ bl (va_Qi (fun (r : Int32) (u : wm_S) => (r, u) = wm_so z n m t p) (fun u => wm_is D wm_cl (wm_yt k) A (wm_y a k u.1 u.2.1 u.2.2.1 u.2.2.2)) A) ([.ref (a 0), .int z] : List Value).toArray s 0 0 A) (F0 M0 18 ls []) := by
        intro r
        induction r with
        | zero =>
          intro i hi
          intro H locs ls hP hD hS hl
          refine lv_iload_n hx hb dX1_shorten_18 rfl (lv_at hl 2 rfl) ?_
          refine lv_aload_n hx hb dX1_shorten_19 rfl (lv_at hl 0 rfl) ?_
          refine va_get (D := D) (ci := 1) (v := .int (nI m)) (C := RX1) (T := TX1) (N := 4) hx hb hts in_X1 hown hK hP 0 rfl rfl 1 (by decide) (hts _ q151) (fun _ h9 => h9) rfl dX1_shorten_20 ?_
          refine wm_cge (tgt := 46) hx hb dX1_shorten_23 (by decide) (by omega) (by omega) (fun hd => ?_) (fun hd => ?_)
          · skip
            have hie : i = m - 1 := by omega
            rw [hie] at hP hD
            have hP : va_P D wm_cl (wm_y a k n m t (wm_it wm_sf (m - 1) p)) H := hP
            have hD : va_D A (wm_y a k n m t (wm_it wm_sf (m - 1) p)) := hD
            refine lv_aload_n hx hb dX1_shorten_46 rfl (lv_at hl 0 rfl) ?_
            refine lv_dup hx hb dX1_shorten_47 rfl ?_
            refine va_get (D := D) (ci := 1) (v := .int (nI m)) (C := RX1) (T := TX1) (N := 4) hx hb hts in_X1 hown hK hP 0 rfl rfl 1 (by decide) (hts _ q151) (fun _ h9 => h9) rfl dX1_shorten_48 ?_
            refine lv_iconst (v := nI 1) hx hb dX1_shorten_51 (by decide +kernel) ?_
            refine wm_isub hx hb dX1_shorten_52 (by omega) ?_
            refine va_put (D := D) (ci := 1) (v := .int (nI (m - 1))) (ty := .int) (C := RX1) (T := TX1) (N := 4) hx hb hts in_X1 tyX1 tyX1_ok nmX1 hown hK hP hD hS 0 rfl rfl 1 (by decide) (hts _ q151) (fun _ h9 => h9) rfl (by decide +kernel) rfl rfl (Nat.le_of_ble_eq_true rfl) dX1_shorten_53 (fun H locs hP hD hS => ?_)
            have hP : va_P D wm_cl (wm_y a k n (m - 1) t (wm_it wm_sf (m - 1) p)) H := hP
            have hD : va_D A (wm_y a k n (m - 1) t (wm_it wm_sf (m - 1) p)) := hD
            refine lv_aload_n hx hb dX1_shorten_56 rfl (lv_at hl 0 rfl) ?_
            refine va_get (D := D) (ci := 1) (v := .int (nI (m - 1))) (C := RX1) (T := TX1) (N := 4) hx hb hts in_X1 hown hK hP 0 rfl rfl 1 (by decide) (hts _ q151) (fun _ h9 => h9) rfl dX1_shorten_57 ?_
            exact W.iret (v := nI (m - 1)) hx hb hr (fun T0 hT0 hW0 => ⟨⟨nI (m - 1), (n, m - 1, t, wm_it wm_sf (m - 1) p), rfl, (by rw [wm_so, el, if_neg h0, if_neg hz]), by rw [hT0]; exact hP, va_K.moved hW0.alike hK, hD⟩, hS.F hT0⟩) hS.2.2 dX1_shorten_60
          · omega
        | succ r ih =>
          intro i hi
          intro H locs ls hP hD hS hl
          refine lv_iload_n hx hb dX1_shorten_18 rfl (lv_at hl 2 rfl) ?_
          refine lv_aload_n hx hb dX1_shorten_19 rfl (lv_at hl 0 rfl) ?_
          refine va_get (D := D) (ci := 1) (v := .int (nI m)) (C := RX1) (T := TX1) (N := 4) hx hb hts in_X1 hown hK hP 0 rfl rfl 1 (by decide) (hts _ q151) (fun _ h9 => h9) rfl dX1_shorten_20 ?_
          refine wm_cge (tgt := 46) hx hb dX1_shorten_23 (by decide) (by omega) (by omega) (fun hd => ?_) (fun hd => ?_)
          · omega
          · skip
            refine lv_aload_n hx hb dX1_shorten_26 rfl (lv_at hl 0 rfl) ?_
            refine va_get (D := D) (ci := 1) (v := .ref (a 2)) (C := RX1) (T := TX1) (N := 4) hx hb hts in_X1 hown hK hP 0 rfl rfl 3 (by decide) (hts _ q153) (fun _ h9 => h9) rfl dX1_shorten_27 ?_
            refine lv_iload_n hx hb dX1_shorten_30 rfl (lv_at hl 2 rfl) ?_
            refine lv_iconst (v := nI 1) hx hb dX1_shorten_31 (by decide +kernel) ?_
            refine wm_isub hx hb dX1_shorten_32 (by omega) ?_
            refine wm_top (y := nI i) (congrArg nI (Nat.add_sub_cancel i 1)) ?_
            refine lv_aload_n hx hb dX1_shorten_33 rfl (lv_at hl 0 rfl) ?_
            refine va_get (D := D) (ci := 1) (v := .ref (a 2)) (C := RX1) (T := TX1) (N := 4) hx hb hts in_X1 hown hK hP 0 rfl rfl 3 (by decide) (hts _ q153) (fun _ h9 => h9) rfl dX1_shorten_34 ?_
            refine lv_iload_n hx hb dX1_shorten_37 rfl (lv_at hl 2 rfl) ?_
            refine wm_iald hx hb hK hP 2 1 rfl rfl (by decide) (by omega) dX1_shorten_38 ?_
            refine wm_iast hx hb hK hP hD hS 2 1 rfl rfl (by decide) (by omega) dX1_shorten_39 (fun H locs hP hD hS => ?_)
            have hP : va_P D wm_cl (wm_y a k n m t (wm_un (wm_it wm_sf i p) i ((wm_it wm_sf i p) (i + 1)))) H := hP
            have hD : va_D A (wm_y a k n m t (wm_un (wm_it wm_sf i p) i ((wm_it wm_sf i p) (i + 1)))) := hD
            refine lv_iinc (v := nI ((i + 1) + 1)) (lv' := [(2, .int (nI ((i + 1) + 1))), (0, .ref (a 0)), (1, .int z)]) hx hb dX1_shorten_40 hl (k := 2) rfl (wm_inc (i + 1)) (by decide) rfl (fun ls hl => ?_)
            refine lv_goto (tgt := 18) hx hb dX1_shorten_43 (by decide) ?_
            exact ih (i + 1) (by omega) _ _ _ hP hD hS (lv_sub hl [1, 2, 0] rfl)
      exact loop (m - 1) 0 (by omega) _ _ _ hP hD hS (lv_sub hl [1, 2, 0] rfl)
  · skip
    have h0 : wm_len z n m = 0 := by
      by_cases h : wm_len z n m = 0
      · exact h
      · have hle : wm_len z n m ≤ 40 := by unfold wm_len; split <;> omega
        rw [if_neg (fun hh => hh.elim (by decide) (fun hh => absurd hh (nI_nle (by omega) (by omega))))] at hq
        rw [hq] at hc
        exact absurd hc (by decide)
    refine lv_bipush (v := (-2)) hx hb dX1_shorten_9 (by decide +kernel) ?_
    exact W.iret (v := (-2)) hx hb hr (fun T0 hT0 hW0 => ⟨⟨(-2), (n, m, t, p), rfl, (by rw [wm_so, if_pos h0]), by rw [hT0]; exact hP, va_K.moved hW0.alike hK, hD⟩, hS.F hT0⟩) hS.2.2 dX1_shorten_11
end
section
set_option maxHeartbeats 4000000 in
set_option maxRecDepth 100000 in
/-- the constructor of the reference -/
theorem my_init (l : Launch) (D : va_G) (b sz : Nat) : Met l yX1_init (ws_ yX1_init cX1_init 1 none) ({ frames := 1, cells := 2, slots := 52, locals := 12 } : Room) (va_Pc [.ref b] (wm_pre D wm_cl [] [(b, .inr (1, [.int (nI 0), .int (nI 0), .null, .null]))] sz)) (va_Qv (fun u : (Nat → Nat) × (Nat → ClassId) => u.1 0 = b) (fun u => wm_is D wm_cl (wm_yt u.2) (va_A [(b, .inr (1, [.int (nI 0), .int (nI 0), .null, .null]))] sz) (wm_y u.1 u.2 0 0 (fun _ => 0) (fun _ => 0))) (va_A [(b, .inr (1, [.int (nI 0), .int (nI 0), .null, .null]))] sz)) 2 52 (va_A [(b, .inr (1, [.int (nI 0), .int (nI 0), .null, .null]))] sz) := by
  refine Met.ofW (cc := cX1_init) (maxL := 1) (ret := none) (by decide) rfl ?_
  intro P0 e0 s M0 av bl mt cd s1 B hml hv
  obtain ⟨rfl, hsz, hP, hK, hD0⟩ := hv
  have hx := B.exec
  have hb := B.bytes
  have hr := B.returns
  have hts := atoms_spec (ws := (ws_ yX1_init cX1_init 1 none)) B.pre
  have hts : ∀ w ∈ lw_all, w.before _ s = true := fun w h => hts w (List.mem_cons_of_mem _ h)
  have hown : s.vm.findClass RX1 = some M0.cls := findClass_of_methodNamed B.named
  have hlocks := B.notSynchronized
  have hin : mt.name = "<init>" := (name_of_methodNamed B.named B.method).1
  subst hsz
  have hD := hD0.self (sz := s.heap.size)
  generalize hAe : va_A [(b, .inr (1, [.int (nI 0), .int (nI 0), .null, .null]))] s.heap.size = A at hD ⊢
  have hA : ∀ q : Nat, s.heap.size ≤ q → A q := fun q h => by rw [← hAe]; exact Or.inr h
  have hS : va_S A s.heap s.heap [] := va_S.rf
  have hP : va_P D wm_cl [(b, .inr (1, [.int (nI 0), .int (nI 0), .null, .null]))] s.heap := hP
  have hl := lv_entry ([.ref b]) (n := 1) (Nat.le_of_ble_eq_true rfl)
  rw [lg_entry_eq]
  generalize (lg_sl ([.ref b]) ++ List.replicate (1 - (lg_sl ([.ref b])).length) Slot.unset).toArray = ls at hl ⊢
  have hl : lv_has ls 1 [(0, .ref b)] := hl
  refine lv_aload_n hx hb dX1_init_0 rfl (lv_at hl 0 rfl) ?_
  refine W.objInit hx hb hown (hts _ q149) (hts _ q22) (hts _ q23) rfl (by rw [hml]; exact hl.1) rfl dX1_init_1 (Nat.le_of_ble_eq_true rfl) (Nat.le_of_ble_eq_true rfl) ?_
  refine W.eq (g2 := F0 M0 4 ls []) rfl ?_
  refine lv_aload_n hx hb dX1_init_4 rfl (lv_at hl 0 rfl) ?_
  refine lv_iconst (v := nI 0) hx hb dX1_init_5 (by decide +kernel) ?_
  refine va_put (D := D) (ci := 1) (v := .int (nI 0)) (ty := .int) (C := RX1) (T := TX1) (N := 4) hx hb hts in_X1 tyX1 tyX1_ok nmX1 hown hK hP hD hS 0 rfl rfl 0 (by decide) (hts _ q150) (fun _ h9 => h9) rfl (by decide +kernel) rfl rfl (Nat.le_of_ble_eq_true rfl) dX1_init_6 (fun H locs hP hD hS => ?_)
  have hP : va_P D wm_cl [(b, .inr (1, [.int (nI 0), .int (nI 0), .null, .null]))] H := hP
  have hD : va_D A [(b, .inr (1, [.int (nI 0), .int (nI 0), .null, .null]))] := hD
  refine lv_aload_n hx hb dX1_init_9 rfl (lv_at hl 0 rfl) ?_
  refine lv_iconst (v := nI 0) hx hb dX1_init_10 (by decide +kernel) ?_
  refine va_put (D := D) (ci := 1) (v := .int (nI 0)) (ty := .int) (C := RX1) (T := TX1) (N := 4) hx hb hts in_X1 tyX1 tyX1_ok nmX1 hown hK hP hD hS 0 rfl rfl 1 (by decide) (hts _ q151) (fun _ h9 => h9) rfl (by decide +kernel) rfl rfl (Nat.le_of_ble_eq_true rfl) dX1_init_11 (fun H locs hP hD hS => ?_)
  have hP : va_P D wm_cl [(b, .inr (1, [.int (nI 0), .int (nI 0), .null, .null]))] H := hP
  have hD : va_D A [(b, .inr (1, [.int (nI 0), .int (nI 0), .null, .null]))] := hD
  refine lv_aload_n hx hb dX1_init_14 rfl (lv_at hl 0 rfl) ?_
  refine lv_bipush (v := nI 40) hx hb dX1_init_15 (by decide +kernel) ?_
  refine va_newa (atype := .int) (ty := .int) (N' := 40) (a0 := (40, .inl (wm_a (fun _ => 0)))) hx hb (hts _ q53) rfl hK hP hD hS hA (fun cA => rfl) (by decide +kernel) (by decide +kernel) (by decide +kernel) (Nat.le_of_ble_eq_true rfl) (Nat.le_of_ble_eq_true rfl) dX1_init_17 (fun q1 c1 H hK hP hD hS => ?_)
  refine W.widen (k := 1) (n := 40) (Nat.le_refl _) (Nat.le_refl _) ?_
  have hP : va_P D wm_cl [(b, .inr (1, [.int (nI 0), .int (nI 0), .null, .null])), (q1, .inl (c1, 40, .inl (wm_a (fun _ => 0))))] H := hP
  have hD : va_D A [(b, .inr (1, [.int (nI 0), .int (nI 0), .null, .null])), (q1, .inl (c1, 40, .inl (wm_a (fun _ => 0))))] := hD
  have hK : va_K D wm_cl [(c1, .int)] s := hK
  refine va_put (D := D) (ci := 1) (v := .ref q1) (ty := .array .int) (C := RX1) (T := TX1) (N := 4) hx hb hts in_X1 tyX1 tyX1_ok nmX1 hown hK hP hD hS 0 rfl rfl 2 (by decide) (hts _ q152) (fun _ h9 => h9) rfl (by decide +kernel) rfl rfl (Nat.le_of_ble_eq_true rfl) dX1_init_19 (fun H locs hP hD hS => ?_)
  have hP : va_P D wm_cl [(b, .inr (1, [.int (nI 0), .int (nI 0), .ref q1, .null])), (q1, .inl (c1, 40, .inl (wm_a (fun _ => 0))))] H := hP
  have hD : va_D A [(b, .inr (1, [.int (nI 0), .int (nI 0), .ref q1, .null])), (q1, .inl (c1, 40, .inl (wm_a (fun _ => 0))))] := hD
  refine lv_aload_n hx hb dX1_init_22 rfl (lv_at hl 0 rfl) ?_
  refine lv_bipush (v := nI 12) hx hb dX1_init_23 (by decide +kernel) ?_
  refine va_newa (atype := .int) (ty := .int) (N' := 12) (a0 := (12, .inl (wm_a (fun _ => 0)))) hx hb (hts _ q53) rfl hK hP hD hS hA (fun cA => rfl) (by decide +kernel) (by decide +kernel) (by decide +kernel) (Nat.le_of_ble_eq_true rfl) (Nat.le_of_ble_eq_true rfl) dX1_init_25 (fun q2 c2 H hK hP hD hS => ?_)
  refine W.widen (k := 2) (n := 52) (Nat.le_refl _) (Nat.le_refl _) ?_
  have hP : va_P D wm_cl [(b, .inr (1, [.int (nI 0), .int (nI 0), .ref q1, .null])), (q1, .inl (c1, 40, .inl (wm_a (fun _ => 0)))), (q2, .inl (c2, 12, .inl (wm_a (fun _ => 0))))] H := hP
  have hD : va_D A [(b, .inr (1, [.int (nI 0), .int (nI 0), .ref q1, .null])), (q1, .inl (c1, 40, .inl (wm_a (fun _ => 0)))), (q2, .inl (c2, 12, .inl (wm_a (fun _ => 0))))] := hD
  have hK : va_K D wm_cl [(c1, .int), (c2, .int)] s := hK
  refine va_put (D := D) (ci := 1) (v := .ref q2) (ty := .array .int) (C := RX1) (T := TX1) (N := 4) hx hb hts in_X1 tyX1 tyX1_ok nmX1 hown hK hP hD hS 0 rfl rfl 3 (by decide) (hts _ q153) (fun _ h9 => h9) rfl (by decide +kernel) rfl rfl (Nat.le_of_ble_eq_true rfl) dX1_init_27 (fun H locs hP hD hS => ?_)
  have hP : va_P D wm_cl [(b, .inr (1, [.int (nI 0), .int (nI 0), .ref q1, .ref q2])), (q1, .inl (c1, 40, .inl (wm_a (fun _ => 0)))), (q2, .inl (c2, 12, .inl (wm_a (fun _ => 0))))] H := hP
  have hD : va_D A [(b, .inr (1, [.int (nI 0), .int (nI 0), .ref q1, .ref q2])), (q1, .inl (c1, 40, .inl (wm_a (fun _ => 0)))), (q2, .inl (c2, 12, .inl (wm_a (fun _ => 0))))] := hD
  obtain ⟨a, ea⟩ : ∃ a : Nat → Nat, a = fun i => [b, q1, q2].getD i 0 := ⟨_, rfl⟩
  obtain ⟨k, ek⟩ : ∃ k : Nat → ClassId, k = fun i => [c1, c1, c2].getD i c1 := ⟨_, rfl⟩
  have ea0 : a 0 = b := by rw [ea]; rfl
  have ea1 : a 1 = q1 := by rw [ea]; rfl
  have ea2 : a 2 = q2 := by rw [ea]; rfl
  have ek1 : k 1 = c1 := by rw [ek]; rfl
  have ek2 : k 2 = c2 := by rw [ek]; rfl
  have hP : va_P D wm_cl (wm_y a k 0 0 (fun _ => 0) (fun _ => 0)) H := by rw [wm_y, ea0, ea1, ea2, ek1, ek2]; exact hP
  have hD : va_D A (wm_y a k 0 0 (fun _ => 0) (fun _ => 0)) := by rw [wm_y, ea0, ea1, ea2, ek1, ek2]; exact hD
  have hK : va_K D wm_cl (wm_yt k) s := by rw [wm_yt, ek1, ek2]; exact hK
  exact W.vret hx hb hr (fun T0 hT0 hW0 => ⟨⟨(a, k), rfl, ea0, by rw [hT0]; exact hP, va_K.moved hW0.alike hK, hD⟩, hS.F hT0⟩) hS.2.2 dX1_init_30
end
section
/-! THE CLAIM OUT OF ONE WALK OF THE LAW'S BODY. Your part is whole_start (and what it stands on); all else here is the same for every law, but numbers. -/
def R_law : String := "WildcardMatcherLaw"
def lw_P (b : Addr) (xs : List Int32) (args : Array Value) (s : State) : Prop := args = #[.ref b] ∧ s.IntsAt b xs ∧ xs.length ≤ 256 ∧ (Jvm.Cond.and given_1 narrow_1).before args s = true
def lw_Q (_ : Array Value) (s : State) (o : Outcome) (t : State) : Prop := o = .returned (some (.int 1)) ∧ Framed s o t [] 600000 7290000
def lw_Z (below : List Frame) (a : Array Value) (s : State) : State → Prop := fun t => ∃ o, t.status = .running ∧ Ended t below o ∧ lw_Q a s o t
/-- the law's own end, with 1 on the stack, nothing written that was there before, its room as the claim has it -/
theorem lw_ret {p : Program} {l : Launch} {e : Env} {s : State} {m : MethodId} {below : List Frame} {meth : Method} {c : Code} {b : Nat} (hx : p.tables.exec = Jvm.exec) (hb : c.code = code) (hr : meth.sig.returnType = ret) (hlocks : meth.locks = false) {pc : Nat} {H : Heap} {ls : Array Slot} (hdg : decode code pc = .ok (.ireturn, 1)) : W p l e room_1 s m #[Value.ref b] below meth c H [] 600000 7290000 (lw_Z below #[Value.ref b] s) (F0 m pc ls [.int 1]) := by
  intro T hT X
  obtain ⟨fs, hret, hrun, hended, hW, hframe⟩ := X.leave (v := some (.int 1)) (hlocks := hlocks) (fun h => by rw [hr] at h; cases h)
  have hmeth' : T.vm.method? m = some meth := X.method'
  refine ⟨T.setFrames fs, ?_, .returned (some (.int 1)), hrun, hended, rfl, ⟨_, rfl⟩, hW, hframe⟩
  jvm_step X.here [X.here.top, hx, hb, hdg, hmeth', hr, ret, narrow_b1]
  (try refine ⟨rfl, ?_⟩); (try refine ⟨rfl, ?_⟩)
  first | (intro acts; rw [hret _ acts rfl rfl rfl]) | rw [hret _ _ rfl rfl rfl]
  exact Steps.refl _
/-- what holds at the law's entry: the machine, the code, the tables' words (any of lw_tbl by 'hts w (by decide +kernel)'), the script of L ints xs at the cell b, what the Statement gives of the start (any of its parts by flat_of_before) -/
def lw_At (p : Program) (s : State) (m : MethodId) (meth : Method) (c : Code) (b L : Nat) (xs : Nat → Int32) : Prop :=
  p.tables.exec = Jvm.exec ∧ c.code = code ∧ meth.sig.returnType = ret ∧ c.maxLocals = 4 ∧ s.vm.findClass R_law = some m.cls ∧ (∀ w ∈ lw_tbl, w.before #[Value.ref b] s = true) ∧ va_X b L xs s s.heap ∧ b < s.heap.size ∧ meth.locks = false ∧ (Jvm.Cond.and given_1 narrow_1).before #[Value.ref b] s = true
section WML
variable {p : Program} {l : Launch} {e : Env} {R : Room} {s : State} {m : MethodId} {args : Array Value} {below : List Frame} {meth : Method} {c : Code} {H : Heap} {locs : List Loc} {cells slots : Nat} {Q : State → Prop}
variable {cc : ByteArray} {pc : Nat} {ls : Array Slot} {rest : List Value} {A : Nat → Prop} {H0 : Heap}
theorem wm_sld (hexec : p.tables.exec = Jvm.exec) (hb : c.code = cc) {b L : Nat} {xs : Nat → Int32} (hX : va_X b L xs s H0) (hbl : b < H0.size) (hbA : ¬ A b) (hS : va_S A H0 H locs) {i : Nat} (hi : i < L) (hL : L < 2 ^ 31) (hdg : decode cc pc = .ok (.iaload, 1))
    (kk : W p l e R s m args below meth c H locs cells slots Q (F0 m (pc + 1) ls (.int (xs i) :: rest))) : W p l e R s m args below meth c H locs cells slots Q (F0 m pc ls (.int (nI i) :: .ref b :: rest)) :=
  va_sld hexec hb hX hbl hbA hS (vp_in_nI hi hL) hdg (wm_top (by rw [nI_clamp (Nat.lt_trans hi hL)]) kk)
end WML
theorem wm_four {L i : Nat} (hL : L < 2 ^ 30) (hi : i < 2 ^ 30) : nI L - nI 4 < nI i ↔ L < i + 4 := by
  rw [Int32.lt_iff_toInt_lt, pk_sub_toInt hL (by decide), nI_toInt (by omega)]
  omega
end
section
set_option maxHeartbeats 4000000 in
set_option maxRecDepth 100000 in
/-- the law at a call of type -/
theorem wm_case0 {P0 : Program} {l : Launch} {e0 : Env} {s : State} {M0 : MethodId} {bl : List Frame} {mt : Method} {cd : Code} {D : va_G} {A : Nat → Prop} {b L : Nat} {xs : Nat → Int32} {a1 a2 : Nat → Nat} {k1 k2 : Nat → ClassId} (hL : L ≤ 256) (hx : P0.tables.exec = Jvm.exec) (hb : cd.code = code) (hr : mt.sig.returnType = ret) (hlocks : mt.locks = false) (hml : cd.maxLocals = 4) (hown : s.vm.findClass R_law = some M0.cls) (hts : ∀ w ∈ lw_all, w.before #[Value.ref b] s = true) (hX : va_X b L xs s s.heap) (hbl : b < s.heap.size) (hbA : ¬ A b) (hA : ∀ q : Nat, s.heap.size ≤ q → A q) (hAs : ∀ q : Nat, A q → s.heap.size ≤ q) (hK : va_K D wm_cl (wm_xt k1 ++ wm_yt k2) s) {i n m rd : Nat} {t p w d g : Nat → Nat} {ls : Array Slot} (hI : wm_xi n m rd t p w d g) (hi4 : i + 4 ≤ L) (hl : lv_has ls 4 [(0, .ref b), (1, .ref (a1 0)), (2, .ref (a2 0)), (3, .int (nI i))]) (tail : ∀ (n m rd : Nat) (t p w d g : Nat → Nat) (H : Heap) (locs : List Loc), wm_xi n m rd t p w d g → va_P D wm_cl (wm_x a1 k1 n m rd t p w d g ++ wm_y a2 k2 n m t p) H → va_D A (wm_x a1 k1 n m rd t p w d g ++ wm_y a2 k2 n m t p) → va_S A s.heap H locs → W P0 l e0 room_1 s M0 #[Value.ref b] bl mt cd H locs 10 453 (lw_Z bl #[Value.ref b] s) (F0 M0 472 ls [])) {H : Heap} {locs : List Loc} (hP : va_P D wm_cl (wm_x a1 k1 n m rd t p w d g ++ wm_y a2 k2 n m t p) H) (hD : va_D A (wm_x a1 k1 n m rd t p w d g ++ wm_y a2 k2 n m t p)) (hS : va_S A s.heap H locs) : W P0 l e0 room_1 s M0 #[Value.ref b] bl mt cd H locs 10 453 (lw_Z bl #[Value.ref b] s) (F0 M0 96 ls []) := by
  have hab := hI.1
  by_cases hz : xs (i + 1) = 0
  · skip
    refine lv_aload_n hx hb dL_law_96 rfl (lv_at hl 1 rfl) ?_
    refine lv_aload_n hx hb dL_law_97 rfl (lv_at hl 0 rfl) ?_
    refine lv_iload_n hx hb dL_law_98 rfl (lv_at hl 3 rfl) ?_
    refine lv_iconst (v := nI 1) hx hb dL_law_99 (by decide +kernel) ?_
    refine wm_iadd hx hb dL_law_100 ?_
    refine wm_sld hx hb hX hbl hbA hS (i := i + 1) (by omega) (by omega) dL_law_101 ?_
    refine lv_if_eq (tgt := 109) hx hb dL_law_102 (by decide) (fun hz1 => ?_) (fun hz1 => ?_)
    · skip
      refine lv_iconst (v := nI 0) hx hb dL_law_109 (by decide +kernel) ?_
      refine lv_aload_n hx hb dL_law_110 rfl (lv_at hl 0 rfl) ?_
      refine lv_iload_n hx hb dL_law_111 rfl (lv_at hl 3 rfl) ?_
      refine lv_iconst (v := nI 2) hx hb dL_law_112 (by decide +kernel) ?_
      refine wm_iadd hx hb dL_law_113 ?_
      refine wm_sld hx hb hX hbl hbA hS (i := i + 2) (by omega) (by omega) dL_law_114 ?_
      refine wm_calli (wr := wm_y a2 k2 n m t p) (As := [.int (nI 0), .int (xs (i + 2))]) (rest := []) ⟨hx, hb, hml, hown, hts⟩ (mx_type l D a1 k1 _ n m rd t p w d g (nI 0) (xs (i + 2)) hI) (cwV 2 hts (lw_V q54 q55 q56 q14 q57) rfl rfl rfl (by decide +kernel) ⟨Nat.le_of_ble_eq_true rfl, Nat.le_of_ble_eq_true rfl⟩) (va_recv hK hP (ci := 0) (q0 := 0) rfl rfl) hK hP hD hS hA [0, 1, 2, 3, 4, 5, 6] [7, 8, 9] [0, 1, 2, 3, 4, 5] rfl rfl rfl (by decide) (by decide) (by decide) rfl rfl hl.1 rfl (Nat.le_of_ble_eq_true rfl) dL_law_115 ⟨Nat.le_of_ble_eq_true rfl, Nat.le_of_ble_eq_true rfl⟩ (fun r1 u H locs hq1 hP hD hS => ?_)
      obtain ⟨⟨n1, m1, t1, p1⟩, rd1, w1, d1, g1⟩ := u
      obtain ⟨hq1, hI1⟩ := hq1
      have hq1 : (r1, n1, m1, t1, p1) = wm_ty (nI 0) (xs (i + 2)) n m t p := hq1
      have hI1 : wm_xi n1 m1 rd1 t1 p1 w1 d1 g1 := hI1
      have hP : va_P D wm_cl (wm_y a2 k2 n m t p ++ wm_x a1 k1 n1 m1 rd1 t1 p1 w1 d1 g1) H := hP
      have hD : va_D A (wm_y a2 k2 n m t p ++ wm_x a1 k1 n1 m1 rd1 t1 p1 w1 d1 g1) := hD
      refine lv_aload_n hx hb dL_law_118 rfl (lv_at hl 2 rfl) ?_
      refine lv_aload_n hx hb dL_law_119 rfl (lv_at hl 0 rfl) ?_
      refine lv_iload_n hx hb dL_law_120 rfl (lv_at hl 3 rfl) ?_
      refine lv_iconst (v := nI 1) hx hb dL_law_121 (by decide +kernel) ?_
      refine wm_iadd hx hb dL_law_122 ?_
      refine wm_sld hx hb hX hbl hbA hS (i := i + 1) (by omega) (by omega) dL_law_123 ?_
      refine lv_if_eq (tgt := 131) hx hb dL_law_124 (by decide) (fun hz1 => ?_) (fun hz1 => ?_)
      · skip
        refine lv_iconst (v := nI 0) hx hb dL_law_131 (by decide +kernel) ?_
        refine lv_aload_n hx hb dL_law_132 rfl (lv_at hl 0 rfl) ?_
        refine lv_iload_n hx hb dL_law_133 rfl (lv_at hl 3 rfl) ?_
        refine lv_iconst (v := nI 2) hx hb dL_law_134 (by decide +kernel) ?_
        refine wm_iadd hx hb dL_law_135 ?_
        refine wm_sld hx hb hX hbl hbA hS (i := i + 2) (by omega) (by omega) dL_law_136 ?_
        refine wm_calli (wr := wm_x a1 k1 n1 m1 rd1 t1 p1 w1 d1 g1) (As := [.int (nI 0), .int (xs (i + 2))]) (rest := [.int r1]) ⟨hx, hb, hml, hown, hts⟩ (my_type l D a2 k2 _ n m t p (nI 0) (xs (i + 2)) hab) (cwV 2 hts (lw_V q163 q164 q165 q15 q166) rfl rfl rfl (by decide +kernel) ⟨Nat.le_of_ble_eq_true rfl, Nat.le_of_ble_eq_true rfl⟩) (va_recv hK hP (ci := 1) (q0 := 0) rfl rfl) hK hP hD hS hA [0, 1, 2] [3, 4, 5, 6, 7, 8, 9] [6, 7] rfl rfl rfl (by decide) (by decide) (by decide) rfl rfl hl.1 rfl (Nat.le_of_ble_eq_true rfl) dL_law_137 ⟨Nat.le_of_ble_eq_true rfl, Nat.le_of_ble_eq_true rfl⟩ (fun r2 u H locs hq2 hP hD hS => ?_)
        obtain ⟨n2, m2, t2, p2⟩ := u
        have hq2 : (r2, n2, m2, t2, p2) = wm_ty (nI 0) (xs (i + 2)) n m t p := hq2
        have hP : va_P D wm_cl (wm_x a1 k1 n1 m1 rd1 t1 p1 w1 d1 g1 ++ wm_y a2 k2 n2 m2 t2 p2) H := hP
        have hD : va_D A (wm_x a1 k1 n1 m1 rd1 t1 p1 w1 d1 g1 ++ wm_y a2 k2 n2 m2 t2 p2) := hD
        have hE := hq1.trans hq2.symm
        simp only [Prod.mk.injEq] at hE
        obtain ⟨hr12, rfl, rfl, rfl, rfl⟩ := hE
        refine lv_icmp_eq (tgt := 472) hx hb dL_law_140 (by decide) (fun hne => ?_) (fun hne => ?_)
        · skip
          exact tail _ _ _ _ _ _ _ _ _ _ hI1 hP hD hS
        · exact absurd hr12 hne
      · exact absurd hz hz1
    · exact absurd hz hz1
  · skip
    refine lv_aload_n hx hb dL_law_96 rfl (lv_at hl 1 rfl) ?_
    refine lv_aload_n hx hb dL_law_97 rfl (lv_at hl 0 rfl) ?_
    refine lv_iload_n hx hb dL_law_98 rfl (lv_at hl 3 rfl) ?_
    refine lv_iconst (v := nI 1) hx hb dL_law_99 (by decide +kernel) ?_
    refine wm_iadd hx hb dL_law_100 ?_
    refine wm_sld hx hb hX hbl hbA hS (i := i + 1) (by omega) (by omega) dL_law_101 ?_
    refine lv_if_eq (tgt := 109) hx hb dL_law_102 (by decide) (fun hz1 => ?_) (fun hz1 => ?_)
    · exact absurd hz1 hz
    · skip
      refine lv_iconst (v := nI 1) hx hb dL_law_105 (by decide +kernel) ?_
      refine lv_goto (tgt := 110) hx hb dL_law_106 (by decide) ?_
      refine lv_aload_n hx hb dL_law_110 rfl (lv_at hl 0 rfl) ?_
      refine lv_iload_n hx hb dL_law_111 rfl (lv_at hl 3 rfl) ?_
      refine lv_iconst (v := nI 2) hx hb dL_law_112 (by decide +kernel) ?_
      refine wm_iadd hx hb dL_law_113 ?_
      refine wm_sld hx hb hX hbl hbA hS (i := i + 2) (by omega) (by omega) dL_law_114 ?_
      refine wm_calli (wr := wm_y a2 k2 n m t p) (As := [.int (nI 1), .int (xs (i + 2))]) (rest := []) ⟨hx, hb, hml, hown, hts⟩ (mx_type l D a1 k1 _ n m rd t p w d g (nI 1) (xs (i + 2)) hI) (cwV 2 hts (lw_V q54 q55 q56 q14 q57) rfl rfl rfl (by decide +kernel) ⟨Nat.le_of_ble_eq_true rfl, Nat.le_of_ble_eq_true rfl⟩) (va_recv hK hP (ci := 0) (q0 := 0) rfl rfl) hK hP hD hS hA [0, 1, 2, 3, 4, 5, 6] [7, 8, 9] [0, 1, 2, 3, 4, 5] rfl rfl rfl (by decide) (by decide) (by decide) rfl rfl hl.1 rfl (Nat.le_of_ble_eq_true rfl) dL_law_115 ⟨Nat.le_of_ble_eq_true rfl, Nat.le_of_ble_eq_true rfl⟩ (fun r1 u H locs hq1 hP hD hS => ?_)
      obtain ⟨⟨n1, m1, t1, p1⟩, rd1, w1, d1, g1⟩ := u
      obtain ⟨hq1, hI1⟩ := hq1
      have hq1 : (r1, n1, m1, t1, p1) = wm_ty (nI 1) (xs (i + 2)) n m t p := hq1
      have hI1 : wm_xi n1 m1 rd1 t1 p1 w1 d1 g1 := hI1
      have hP : va_P D wm_cl (wm_y a2 k2 n m t p ++ wm_x a1 k1 n1 m1 rd1 t1 p1 w1 d1 g1) H := hP
      have hD : va_D A (wm_y a2 k2 n m t p ++ wm_x a1 k1 n1 m1 rd1 t1 p1 w1 d1 g1) := hD
      refine lv_aload_n hx hb dL_law_118 rfl (lv_at hl 2 rfl) ?_
      refine lv_aload_n hx hb dL_law_119 rfl (lv_at hl 0 rfl) ?_
      refine lv_iload_n hx hb dL_law_120 rfl (lv_at hl 3 rfl) ?_
      refine lv_iconst (v := nI 1) hx hb dL_law_121 (by decide +kernel) ?_
      refine wm_iadd hx hb dL_law_122 ?_
      refine wm_sld hx hb hX hbl hbA hS (i := i + 1) (by omega) (by omega) dL_law_123 ?_
      refine lv_if_eq (tgt := 131) hx hb dL_law_124 (by decide) (fun hz1 => ?_) (fun hz1 => ?_)
      · exact absurd hz1 hz
      · skip
        refine lv_iconst (v := nI 1) hx hb dL_law_127 (by decide +kernel) ?_
        refine lv_goto (tgt := 132) hx hb dL_law_128 (by decide) ?_
        refine lv_aload_n hx hb dL_law_132 rfl (lv_at hl 0 rfl) ?_
        refine lv_iload_n hx hb dL_law_133 rfl (lv_at hl 3 rfl) ?_
        refine lv_iconst (v := nI 2) hx hb dL_law_134 (by decide +kernel) ?_
        refine wm_iadd hx hb dL_law_135 ?_
        refine wm_sld hx hb hX hbl hbA hS (i := i + 2) (by omega) (by omega) dL_law_136 ?_
        refine wm_calli (wr := wm_x a1 k1 n1 m1 rd1 t1 p1 w1 d1 g1) (As := [.int (nI 1), .int (xs (i + 2))]) (rest := [.int r1]) ⟨hx, hb, hml, hown, hts⟩ (my_type l D a2 k2 _ n m t p (nI 1) (xs (i + 2)) hab) (cwV 2 hts (lw_V q163 q164 q165 q15 q166) rfl rfl rfl (by decide +kernel) ⟨Nat.le_of_ble_eq_true rfl, Nat.le_of_ble_eq_true rfl⟩) (va_recv hK hP (ci := 1) (q0 := 0) rfl rfl) hK hP hD hS hA [0, 1, 2] [3, 4, 5, 6, 7, 8, 9] [6, 7] rfl rfl rfl (by decide) (by decide) (by decide) rfl rfl hl.1 rfl (Nat.le_of_ble_eq_true rfl) dL_law_137 ⟨Nat.le_of_ble_eq_true rfl, Nat.le_of_ble_eq_true rfl⟩ (fun r2 u H locs hq2 hP hD hS => ?_)
        obtain ⟨n2, m2, t2, p2⟩ := u
        have hq2 : (r2, n2, m2, t2, p2) = wm_ty (nI 1) (xs (i + 2)) n m t p := hq2
        have hP : va_P D wm_cl (wm_x a1 k1 n1 m1 rd1 t1 p1 w1 d1 g1 ++ wm_y a2 k2 n2 m2 t2 p2) H := hP
        have hD : va_D A (wm_x a1 k1 n1 m1 rd1 t1 p1 w1 d1 g1 ++ wm_y a2 k2 n2 m2 t2 p2) := hD
        have hE := hq1.trans hq2.symm
        simp only [Prod.mk.injEq] at hE
        obtain ⟨hr12, rfl, rfl, rfl, rfl⟩ := hE
        refine lv_icmp_eq (tgt := 472) hx hb dL_law_140 (by decide) (fun hne => ?_) (fun hne => ?_)
        · skip
          exact tail _ _ _ _ _ _ _ _ _ _ hI1 hP hD hS
        · exact absurd hr12 hne
set_option maxHeartbeats 4000000 in
set_option maxRecDepth 100000 in
/-- the law at a call of replace -/
theorem wm_case1 {P0 : Program} {l : Launch} {e0 : Env} {s : State} {M0 : MethodId} {bl : List Frame} {mt : Method} {cd : Code} {D : va_G} {A : Nat → Prop} {b L : Nat} {xs : Nat → Int32} {a1 a2 : Nat → Nat} {k1 k2 : Nat → ClassId} (hL : L ≤ 256) (hx : P0.tables.exec = Jvm.exec) (hb : cd.code = code) (hr : mt.sig.returnType = ret) (hlocks : mt.locks = false) (hml : cd.maxLocals = 4) (hown : s.vm.findClass R_law = some M0.cls) (hts : ∀ w ∈ lw_all, w.before #[Value.ref b] s = true) (hX : va_X b L xs s s.heap) (hbl : b < s.heap.size) (hbA : ¬ A b) (hA : ∀ q : Nat, s.heap.size ≤ q → A q) (hAs : ∀ q : Nat, A q → s.heap.size ≤ q) (hK : va_K D wm_cl (wm_xt k1 ++ wm_yt k2) s) {i n m rd : Nat} {t p w d g : Nat → Nat} {ls : Array Slot} (hI : wm_xi n m rd t p w d g) (hi4 : i + 4 ≤ L) (hl : lv_has ls 4 [(0, .ref b), (1, .ref (a1 0)), (2, .ref (a2 0)), (3, .int (nI i))]) (tail : ∀ (n m rd : Nat) (t p w d g : Nat → Nat) (H : Heap) (locs : List Loc), wm_xi n m rd t p w d g → va_P D wm_cl (wm_x a1 k1 n m rd t p w d g ++ wm_y a2 k2 n m t p) H → va_D A (wm_x a1 k1 n m rd t p w d g ++ wm_y a2 k2 n m t p) → va_S A s.heap H locs → W P0 l e0 room_1 s M0 #[Value.ref b] bl mt cd H locs 10 453 (lw_Z bl #[Value.ref b] s) (F0 M0 472 ls [])) {H : Heap} {locs : List Loc} (hP : va_P D wm_cl (wm_x a1 k1 n m rd t p w d g ++ wm_y a2 k2 n m t p) H) (hD : va_D A (wm_x a1 k1 n m rd t p w d g ++ wm_y a2 k2 n m t p)) (hS : va_S A s.heap H locs) : W P0 l e0 room_1 s M0 #[Value.ref b] bl mt cd H locs 10 453 (lw_Z bl #[Value.ref b] s) (F0 M0 145 ls []) := by
  have hab := hI.1
  by_cases hz : xs (i + 1) = 0
  · skip
    refine lv_aload_n hx hb dL_law_145 rfl (lv_at hl 1 rfl) ?_
    refine lv_aload_n hx hb dL_law_146 rfl (lv_at hl 0 rfl) ?_
    refine lv_iload_n hx hb dL_law_147 rfl (lv_at hl 3 rfl) ?_
    refine lv_iconst (v := nI 1) hx hb dL_law_148 (by decide +kernel) ?_
    refine wm_iadd hx hb dL_law_149 ?_
    refine wm_sld hx hb hX hbl hbA hS (i := i + 1) (by omega) (by omega) dL_law_150 ?_
    refine lv_if_eq (tgt := 158) hx hb dL_law_151 (by decide) (fun hz1 => ?_) (fun hz1 => ?_)
    · skip
      refine lv_iconst (v := nI 0) hx hb dL_law_158 (by decide +kernel) ?_
      refine lv_aload_n hx hb dL_law_159 rfl (lv_at hl 0 rfl) ?_
      refine lv_iload_n hx hb dL_law_160 rfl (lv_at hl 3 rfl) ?_
      refine lv_iconst (v := nI 2) hx hb dL_law_161 (by decide +kernel) ?_
      refine wm_iadd hx hb dL_law_162 ?_
      refine wm_sld hx hb hX hbl hbA hS (i := i + 2) (by omega) (by omega) dL_law_163 ?_
      refine lv_aload_n hx hb dL_law_164 rfl (lv_at hl 0 rfl) ?_
      refine lv_iload_n hx hb dL_law_165 rfl (lv_at hl 3 rfl) ?_
      refine lv_iconst (v := nI 3) hx hb dL_law_166 (by decide +kernel) ?_
      refine wm_iadd hx hb dL_law_167 ?_
      refine wm_sld hx hb hX hbl hbA hS (i := i + 3) (by omega) (by omega) dL_law_168 ?_
      refine wm_calli (wr := wm_y a2 k2 n m t p) (As := [.int (nI 0), .int (xs (i + 2)), .int (xs (i + 3))]) (rest := []) ⟨hx, hb, hml, hown, hts⟩ (mx_replace l D a1 k1 _ n m rd t p w d g (nI 0) (xs (i + 2)) (xs (i + 3)) hI) (cwV 3 hts (lw_V q58 q59 q60 q14 q61) rfl rfl rfl (by decide +kernel) ⟨Nat.le_of_ble_eq_true rfl, Nat.le_of_ble_eq_true rfl⟩) (va_recv hK hP (ci := 0) (q0 := 0) rfl rfl) hK hP hD hS hA [0, 1, 2, 3, 4, 5, 6] [7, 8, 9] [0, 1, 2, 3, 4, 5] rfl rfl rfl (by decide) (by decide) (by decide) rfl rfl hl.1 rfl (Nat.le_of_ble_eq_true rfl) dL_law_169 ⟨Nat.le_of_ble_eq_true rfl, Nat.le_of_ble_eq_true rfl⟩ (fun r1 u H locs hq1 hP hD hS => ?_)
      obtain ⟨⟨n1, m1, t1, p1⟩, rd1, w1, d1, g1⟩ := u
      obtain ⟨hq1, hI1⟩ := hq1
      have hq1 : (r1, n1, m1, t1, p1) = wm_rp (nI 0) (xs (i + 2)) (xs (i + 3)) n m t p := hq1
      have hI1 : wm_xi n1 m1 rd1 t1 p1 w1 d1 g1 := hI1
      have hP : va_P D wm_cl (wm_y a2 k2 n m t p ++ wm_x a1 k1 n1 m1 rd1 t1 p1 w1 d1 g1) H := hP
      have hD : va_D A (wm_y a2 k2 n m t p ++ wm_x a1 k1 n1 m1 rd1 t1 p1 w1 d1 g1) := hD
      refine lv_aload_n hx hb dL_law_172 rfl (lv_at hl 2 rfl) ?_
      refine lv_aload_n hx hb dL_law_173 rfl (lv_at hl 0 rfl) ?_
      refine lv_iload_n hx hb dL_law_174 rfl (lv_at hl 3 rfl) ?_
      refine lv_iconst (v := nI 1) hx hb dL_law_175 (by decide +kernel) ?_
      refine wm_iadd hx hb dL_law_176 ?_
      refine wm_sld hx hb hX hbl hbA hS (i := i + 1) (by omega) (by omega) dL_law_177 ?_
      refine lv_if_eq (tgt := 185) hx hb dL_law_178 (by decide) (fun hz1 => ?_) (fun hz1 => ?_)
      · skip
        refine lv_iconst (v := nI 0) hx hb dL_law_185 (by decide +kernel) ?_
        refine lv_aload_n hx hb dL_law_186 rfl (lv_at hl 0 rfl) ?_
        refine lv_iload_n hx hb dL_law_187 rfl (lv_at hl 3 rfl) ?_
        refine lv_iconst (v := nI 2) hx hb dL_law_188 (by decide +kernel) ?_
        refine wm_iadd hx hb dL_law_189 ?_
        refine wm_sld hx hb hX hbl hbA hS (i := i + 2) (by omega) (by omega) dL_law_190 ?_
        refine lv_aload_n hx hb dL_law_191 rfl (lv_at hl 0 rfl) ?_
        refine lv_iload_n hx hb dL_law_192 rfl (lv_at hl 3 rfl) ?_
        refine lv_iconst (v := nI 3) hx hb dL_law_193 (by decide +kernel) ?_
        refine wm_iadd hx hb dL_law_194 ?_
        refine wm_sld hx hb hX hbl hbA hS (i := i + 3) (by omega) (by omega) dL_law_195 ?_
        refine wm_calli (wr := wm_x a1 k1 n1 m1 rd1 t1 p1 w1 d1 g1) (As := [.int (nI 0), .int (xs (i + 2)), .int (xs (i + 3))]) (rest := [.int r1]) ⟨hx, hb, hml, hown, hts⟩ (my_replace l D a2 k2 _ n m t p (nI 0) (xs (i + 2)) (xs (i + 3)) hab) (cwV 3 hts (lw_V q167 q168 q169 q15 q170) rfl rfl rfl (by decide +kernel) ⟨Nat.le_of_ble_eq_true rfl, Nat.le_of_ble_eq_true rfl⟩) (va_recv hK hP (ci := 1) (q0 := 0) rfl rfl) hK hP hD hS hA [0, 1, 2] [3, 4, 5, 6, 7, 8, 9] [6, 7] rfl rfl rfl (by decide) (by decide) (by decide) rfl rfl hl.1 rfl (Nat.le_of_ble_eq_true rfl) dL_law_196 ⟨Nat.le_of_ble_eq_true rfl, Nat.le_of_ble_eq_true rfl⟩ (fun r2 u H locs hq2 hP hD hS => ?_)
        obtain ⟨n2, m2, t2, p2⟩ := u
        have hq2 : (r2, n2, m2, t2, p2) = wm_rp (nI 0) (xs (i + 2)) (xs (i + 3)) n m t p := hq2
        have hP : va_P D wm_cl (wm_x a1 k1 n1 m1 rd1 t1 p1 w1 d1 g1 ++ wm_y a2 k2 n2 m2 t2 p2) H := hP
        have hD : va_D A (wm_x a1 k1 n1 m1 rd1 t1 p1 w1 d1 g1 ++ wm_y a2 k2 n2 m2 t2 p2) := hD
        have hE := hq1.trans hq2.symm
        simp only [Prod.mk.injEq] at hE
        obtain ⟨hr12, rfl, rfl, rfl, rfl⟩ := hE
        refine lv_icmp_eq (tgt := 472) hx hb dL_law_199 (by decide) (fun hne => ?_) (fun hne => ?_)
        · skip
          exact tail _ _ _ _ _ _ _ _ _ _ hI1 hP hD hS
        · exact absurd hr12 hne
      · exact absurd hz hz1
    · exact absurd hz hz1
  · skip
    refine lv_aload_n hx hb dL_law_145 rfl (lv_at hl 1 rfl) ?_
    refine lv_aload_n hx hb dL_law_146 rfl (lv_at hl 0 rfl) ?_
    refine lv_iload_n hx hb dL_law_147 rfl (lv_at hl 3 rfl) ?_
    refine lv_iconst (v := nI 1) hx hb dL_law_148 (by decide +kernel) ?_
    refine wm_iadd hx hb dL_law_149 ?_
    refine wm_sld hx hb hX hbl hbA hS (i := i + 1) (by omega) (by omega) dL_law_150 ?_
    refine lv_if_eq (tgt := 158) hx hb dL_law_151 (by decide) (fun hz1 => ?_) (fun hz1 => ?_)
    · exact absurd hz1 hz
    · skip
      refine lv_iconst (v := nI 1) hx hb dL_law_154 (by decide +kernel) ?_
      refine lv_goto (tgt := 159) hx hb dL_law_155 (by decide) ?_
      refine lv_aload_n hx hb dL_law_159 rfl (lv_at hl 0 rfl) ?_
      refine lv_iload_n hx hb dL_law_160 rfl (lv_at hl 3 rfl) ?_
      refine lv_iconst (v := nI 2) hx hb dL_law_161 (by decide +kernel) ?_
      refine wm_iadd hx hb dL_law_162 ?_
      refine wm_sld hx hb hX hbl hbA hS (i := i + 2) (by omega) (by omega) dL_law_163 ?_
      refine lv_aload_n hx hb dL_law_164 rfl (lv_at hl 0 rfl) ?_
      refine lv_iload_n hx hb dL_law_165 rfl (lv_at hl 3 rfl) ?_
      refine lv_iconst (v := nI 3) hx hb dL_law_166 (by decide +kernel) ?_
      refine wm_iadd hx hb dL_law_167 ?_
      refine wm_sld hx hb hX hbl hbA hS (i := i + 3) (by omega) (by omega) dL_law_168 ?_
      refine wm_calli (wr := wm_y a2 k2 n m t p) (As := [.int (nI 1), .int (xs (i + 2)), .int (xs (i + 3))]) (rest := []) ⟨hx, hb, hml, hown, hts⟩ (mx_replace l D a1 k1 _ n m rd t p w d g (nI 1) (xs (i + 2)) (xs (i + 3)) hI) (cwV 3 hts (lw_V q58 q59 q60 q14 q61) rfl rfl rfl (by decide +kernel) ⟨Nat.le_of_ble_eq_true rfl, Nat.le_of_ble_eq_true rfl⟩) (va_recv hK hP (ci := 0) (q0 := 0) rfl rfl) hK hP hD hS hA [0, 1, 2, 3, 4, 5, 6] [7, 8, 9] [0, 1, 2, 3, 4, 5] rfl rfl rfl (by decide) (by decide) (by decide) rfl rfl hl.1 rfl (Nat.le_of_ble_eq_true rfl) dL_law_169 ⟨Nat.le_of_ble_eq_true rfl, Nat.le_of_ble_eq_true rfl⟩ (fun r1 u H locs hq1 hP hD hS => ?_)
      obtain ⟨⟨n1, m1, t1, p1⟩, rd1, w1, d1, g1⟩ := u
      obtain ⟨hq1, hI1⟩ := hq1
      have hq1 : (r1, n1, m1, t1, p1) = wm_rp (nI 1) (xs (i + 2)) (xs (i + 3)) n m t p := hq1
      have hI1 : wm_xi n1 m1 rd1 t1 p1 w1 d1 g1 := hI1
      have hP : va_P D wm_cl (wm_y a2 k2 n m t p ++ wm_x a1 k1 n1 m1 rd1 t1 p1 w1 d1 g1) H := hP
      have hD : va_D A (wm_y a2 k2 n m t p ++ wm_x a1 k1 n1 m1 rd1 t1 p1 w1 d1 g1) := hD
      refine lv_aload_n hx hb dL_law_172 rfl (lv_at hl 2 rfl) ?_
      refine lv_aload_n hx hb dL_law_173 rfl (lv_at hl 0 rfl) ?_
      refine lv_iload_n hx hb dL_law_174 rfl (lv_at hl 3 rfl) ?_
      refine lv_iconst (v := nI 1) hx hb dL_law_175 (by decide +kernel) ?_
      refine wm_iadd hx hb dL_law_176 ?_
      refine wm_sld hx hb hX hbl hbA hS (i := i + 1) (by omega) (by omega) dL_law_177 ?_
      refine lv_if_eq (tgt := 185) hx hb dL_law_178 (by decide) (fun hz1 => ?_) (fun hz1 => ?_)
      · exact absurd hz1 hz
      · skip
        refine lv_iconst (v := nI 1) hx hb dL_law_181 (by decide +kernel) ?_
        refine lv_goto (tgt := 186) hx hb dL_law_182 (by decide) ?_
        refine lv_aload_n hx hb dL_law_186 rfl (lv_at hl 0 rfl) ?_
        refine lv_iload_n hx hb dL_law_187 rfl (lv_at hl 3 rfl) ?_
        refine lv_iconst (v := nI 2) hx hb dL_law_188 (by decide +kernel) ?_
        refine wm_iadd hx hb dL_law_189 ?_
        refine wm_sld hx hb hX hbl hbA hS (i := i + 2) (by omega) (by omega) dL_law_190 ?_
        refine lv_aload_n hx hb dL_law_191 rfl (lv_at hl 0 rfl) ?_
        refine lv_iload_n hx hb dL_law_192 rfl (lv_at hl 3 rfl) ?_
        refine lv_iconst (v := nI 3) hx hb dL_law_193 (by decide +kernel) ?_
        refine wm_iadd hx hb dL_law_194 ?_
        refine wm_sld hx hb hX hbl hbA hS (i := i + 3) (by omega) (by omega) dL_law_195 ?_
        refine wm_calli (wr := wm_x a1 k1 n1 m1 rd1 t1 p1 w1 d1 g1) (As := [.int (nI 1), .int (xs (i + 2)), .int (xs (i + 3))]) (rest := [.int r1]) ⟨hx, hb, hml, hown, hts⟩ (my_replace l D a2 k2 _ n m t p (nI 1) (xs (i + 2)) (xs (i + 3)) hab) (cwV 3 hts (lw_V q167 q168 q169 q15 q170) rfl rfl rfl (by decide +kernel) ⟨Nat.le_of_ble_eq_true rfl, Nat.le_of_ble_eq_true rfl⟩) (va_recv hK hP (ci := 1) (q0 := 0) rfl rfl) hK hP hD hS hA [0, 1, 2] [3, 4, 5, 6, 7, 8, 9] [6, 7] rfl rfl rfl (by decide) (by decide) (by decide) rfl rfl hl.1 rfl (Nat.le_of_ble_eq_true rfl) dL_law_196 ⟨Nat.le_of_ble_eq_true rfl, Nat.le_of_ble_eq_true rfl⟩ (fun r2 u H locs hq2 hP hD hS => ?_)
        obtain ⟨n2, m2, t2, p2⟩ := u
        have hq2 : (r2, n2, m2, t2, p2) = wm_rp (nI 1) (xs (i + 2)) (xs (i + 3)) n m t p := hq2
        have hP : va_P D wm_cl (wm_x a1 k1 n1 m1 rd1 t1 p1 w1 d1 g1 ++ wm_y a2 k2 n2 m2 t2 p2) H := hP
        have hD : va_D A (wm_x a1 k1 n1 m1 rd1 t1 p1 w1 d1 g1 ++ wm_y a2 k2 n2 m2 t2 p2) := hD
        have hE := hq1.trans hq2.symm
        simp only [Prod.mk.injEq] at hE
        obtain ⟨hr12, rfl, rfl, rfl, rfl⟩ := hE
        refine lv_icmp_eq (tgt := 472) hx hb dL_law_199 (by decide) (fun hne => ?_) (fun hne => ?_)
        · skip
          exact tail _ _ _ _ _ _ _ _ _ _ hI1 hP hD hS
        · exact absurd hr12 hne
set_option maxHeartbeats 4000000 in
set_option maxRecDepth 100000 in
/-- the law at a call of shorten -/
theorem wm_case2 {P0 : Program} {l : Launch} {e0 : Env} {s : State} {M0 : MethodId} {bl : List Frame} {mt : Method} {cd : Code} {D : va_G} {A : Nat → Prop} {b L : Nat} {xs : Nat → Int32} {a1 a2 : Nat → Nat} {k1 k2 : Nat → ClassId} (hL : L ≤ 256) (hx : P0.tables.exec = Jvm.exec) (hb : cd.code = code) (hr : mt.sig.returnType = ret) (hlocks : mt.locks = false) (hml : cd.maxLocals = 4) (hown : s.vm.findClass R_law = some M0.cls) (hts : ∀ w ∈ lw_all, w.before #[Value.ref b] s = true) (hX : va_X b L xs s s.heap) (hbl : b < s.heap.size) (hbA : ¬ A b) (hA : ∀ q : Nat, s.heap.size ≤ q → A q) (hAs : ∀ q : Nat, A q → s.heap.size ≤ q) (hK : va_K D wm_cl (wm_xt k1 ++ wm_yt k2) s) {i n m rd : Nat} {t p w d g : Nat → Nat} {ls : Array Slot} (hI : wm_xi n m rd t p w d g) (hi4 : i + 4 ≤ L) (hl : lv_has ls 4 [(0, .ref b), (1, .ref (a1 0)), (2, .ref (a2 0)), (3, .int (nI i))]) (tail : ∀ (n m rd : Nat) (t p w d g : Nat → Nat) (H : Heap) (locs : List Loc), wm_xi n m rd t p w d g → va_P D wm_cl (wm_x a1 k1 n m rd t p w d g ++ wm_y a2 k2 n m t p) H → va_D A (wm_x a1 k1 n m rd t p w d g ++ wm_y a2 k2 n m t p) → va_S A s.heap H locs → W P0 l e0 room_1 s M0 #[Value.ref b] bl mt cd H locs 10 453 (lw_Z bl #[Value.ref b] s) (F0 M0 472 ls [])) {H : Heap} {locs : List Loc} (hP : va_P D wm_cl (wm_x a1 k1 n m rd t p w d g ++ wm_y a2 k2 n m t p) H) (hD : va_D A (wm_x a1 k1 n m rd t p w d g ++ wm_y a2 k2 n m t p)) (hS : va_S A s.heap H locs) : W P0 l e0 room_1 s M0 #[Value.ref b] bl mt cd H locs 10 453 (lw_Z bl #[Value.ref b] s) (F0 M0 204 ls []) := by
  have hab := hI.1
  by_cases hz : xs (i + 1) = 0
  · skip
    refine lv_aload_n hx hb dL_law_204 rfl (lv_at hl 1 rfl) ?_
    refine lv_aload_n hx hb dL_law_205 rfl (lv_at hl 0 rfl) ?_
    refine lv_iload_n hx hb dL_law_206 rfl (lv_at hl 3 rfl) ?_
    refine lv_iconst (v := nI 1) hx hb dL_law_207 (by decide +kernel) ?_
    refine wm_iadd hx hb dL_law_208 ?_
    refine wm_sld hx hb hX hbl hbA hS (i := i + 1) (by omega) (by omega) dL_law_209 ?_
    refine lv_if_eq (tgt := 217) hx hb dL_law_210 (by decide) (fun hz1 => ?_) (fun hz1 => ?_)
    · skip
      refine lv_iconst (v := nI 0) hx hb dL_law_217 (by decide +kernel) ?_
      refine wm_calli (wr := wm_y a2 k2 n m t p) (As := [.int (nI 0)]) (rest := []) ⟨hx, hb, hml, hown, hts⟩ (mx_shorten l D a1 k1 _ n m rd t p w d g (nI 0) hI) (cwV 1 hts (lw_V q66 q67 q68 q14 q69) rfl rfl rfl (by decide +kernel) ⟨Nat.le_of_ble_eq_true rfl, Nat.le_of_ble_eq_true rfl⟩) (va_recv hK hP (ci := 0) (q0 := 0) rfl rfl) hK hP hD hS hA [0, 1, 2, 3, 4, 5, 6] [7, 8, 9] [0, 1, 2, 3, 4, 5] rfl rfl rfl (by decide) (by decide) (by decide) rfl rfl hl.1 rfl (Nat.le_of_ble_eq_true rfl) dL_law_218 ⟨Nat.le_of_ble_eq_true rfl, Nat.le_of_ble_eq_true rfl⟩ (fun r1 u H locs hq1 hP hD hS => ?_)
      obtain ⟨⟨n1, m1, t1, p1⟩, rd1, w1, d1, g1⟩ := u
      obtain ⟨hq1, hI1⟩ := hq1
      have hq1 : (r1, n1, m1, t1, p1) = wm_so (nI 0) n m t p := hq1
      have hI1 : wm_xi n1 m1 rd1 t1 p1 w1 d1 g1 := hI1
      have hP : va_P D wm_cl (wm_y a2 k2 n m t p ++ wm_x a1 k1 n1 m1 rd1 t1 p1 w1 d1 g1) H := hP
      have hD : va_D A (wm_y a2 k2 n m t p ++ wm_x a1 k1 n1 m1 rd1 t1 p1 w1 d1 g1) := hD
      refine lv_aload_n hx hb dL_law_221 rfl (lv_at hl 2 rfl) ?_
      refine lv_aload_n hx hb dL_law_222 rfl (lv_at hl 0 rfl) ?_
      refine lv_iload_n hx hb dL_law_223 rfl (lv_at hl 3 rfl) ?_
      refine lv_iconst (v := nI 1) hx hb dL_law_224 (by decide +kernel) ?_
      refine wm_iadd hx hb dL_law_225 ?_
      refine wm_sld hx hb hX hbl hbA hS (i := i + 1) (by omega) (by omega) dL_law_226 ?_
      refine lv_if_eq (tgt := 234) hx hb dL_law_227 (by decide) (fun hz1 => ?_) (fun hz1 => ?_)
      · skip
        refine lv_iconst (v := nI 0) hx hb dL_law_234 (by decide +kernel) ?_
        refine wm_calli (wr := wm_x a1 k1 n1 m1 rd1 t1 p1 w1 d1 g1) (As := [.int (nI 0)]) (rest := [.int r1]) ⟨hx, hb, hml, hown, hts⟩ (my_shorten l D a2 k2 _ n m t p (nI 0) hab) (cwV 1 hts (lw_V q175 q176 q177 q15 q178) rfl rfl rfl (by decide +kernel) ⟨Nat.le_of_ble_eq_true rfl, Nat.le_of_ble_eq_true rfl⟩) (va_recv hK hP (ci := 1) (q0 := 0) rfl rfl) hK hP hD hS hA [0, 1, 2] [3, 4, 5, 6, 7, 8, 9] [6, 7] rfl rfl rfl (by decide) (by decide) (by decide) rfl rfl hl.1 rfl (Nat.le_of_ble_eq_true rfl) dL_law_235 ⟨Nat.le_of_ble_eq_true rfl, Nat.le_of_ble_eq_true rfl⟩ (fun r2 u H locs hq2 hP hD hS => ?_)
        obtain ⟨n2, m2, t2, p2⟩ := u
        have hq2 : (r2, n2, m2, t2, p2) = wm_so (nI 0) n m t p := hq2
        have hP : va_P D wm_cl (wm_x a1 k1 n1 m1 rd1 t1 p1 w1 d1 g1 ++ wm_y a2 k2 n2 m2 t2 p2) H := hP
        have hD : va_D A (wm_x a1 k1 n1 m1 rd1 t1 p1 w1 d1 g1 ++ wm_y a2 k2 n2 m2 t2 p2) := hD
        have hE := hq1.trans hq2.symm
        simp only [Prod.mk.injEq] at hE
        obtain ⟨hr12, rfl, rfl, rfl, rfl⟩ := hE
        refine lv_icmp_eq (tgt := 472) hx hb dL_law_238 (by decide) (fun hne => ?_) (fun hne => ?_)
        · skip
          exact tail _ _ _ _ _ _ _ _ _ _ hI1 hP hD hS
        · exact absurd hr12 hne
      · exact absurd hz hz1
    · exact absurd hz hz1
  · skip
    refine lv_aload_n hx hb dL_law_204 rfl (lv_at hl 1 rfl) ?_
    refine lv_aload_n hx hb dL_law_205 rfl (lv_at hl 0 rfl) ?_
    refine lv_iload_n hx hb dL_law_206 rfl (lv_at hl 3 rfl) ?_
    refine lv_iconst (v := nI 1) hx hb dL_law_207 (by decide +kernel) ?_
    refine wm_iadd hx hb dL_law_208 ?_
    refine wm_sld hx hb hX hbl hbA hS (i := i + 1) (by omega) (by omega) dL_law_209 ?_
    refine lv_if_eq (tgt := 217) hx hb dL_law_210 (by decide) (fun hz1 => ?_) (fun hz1 => ?_)
    · exact absurd hz1 hz
    · skip
      refine lv_iconst (v := nI 1) hx hb dL_law_213 (by decide +kernel) ?_
      refine lv_goto (tgt := 218) hx hb dL_law_214 (by decide) ?_
      refine wm_calli (wr := wm_y a2 k2 n m t p) (As := [.int (nI 1)]) (rest := []) ⟨hx, hb, hml, hown, hts⟩ (mx_shorten l D a1 k1 _ n m rd t p w d g (nI 1) hI) (cwV 1 hts (lw_V q66 q67 q68 q14 q69) rfl rfl rfl (by decide +kernel) ⟨Nat.le_of_ble_eq_true rfl, Nat.le_of_ble_eq_true rfl⟩) (va_recv hK hP (ci := 0) (q0 := 0) rfl rfl) hK hP hD hS hA [0, 1, 2, 3, 4, 5, 6] [7, 8, 9] [0, 1, 2, 3, 4, 5] rfl rfl rfl (by decide) (by decide) (by decide) rfl rfl hl.1 rfl (Nat.le_of_ble_eq_true rfl) dL_law_218 ⟨Nat.le_of_ble_eq_true rfl, Nat.le_of_ble_eq_true rfl⟩ (fun r1 u H locs hq1 hP hD hS => ?_)
      obtain ⟨⟨n1, m1, t1, p1⟩, rd1, w1, d1, g1⟩ := u
      obtain ⟨hq1, hI1⟩ := hq1
      have hq1 : (r1, n1, m1, t1, p1) = wm_so (nI 1) n m t p := hq1
      have hI1 : wm_xi n1 m1 rd1 t1 p1 w1 d1 g1 := hI1
      have hP : va_P D wm_cl (wm_y a2 k2 n m t p ++ wm_x a1 k1 n1 m1 rd1 t1 p1 w1 d1 g1) H := hP
      have hD : va_D A (wm_y a2 k2 n m t p ++ wm_x a1 k1 n1 m1 rd1 t1 p1 w1 d1 g1) := hD
      refine lv_aload_n hx hb dL_law_221 rfl (lv_at hl 2 rfl) ?_
      refine lv_aload_n hx hb dL_law_222 rfl (lv_at hl 0 rfl) ?_
      refine lv_iload_n hx hb dL_law_223 rfl (lv_at hl 3 rfl) ?_
      refine lv_iconst (v := nI 1) hx hb dL_law_224 (by decide +kernel) ?_
      refine wm_iadd hx hb dL_law_225 ?_
      refine wm_sld hx hb hX hbl hbA hS (i := i + 1) (by omega) (by omega) dL_law_226 ?_
      refine lv_if_eq (tgt := 234) hx hb dL_law_227 (by decide) (fun hz1 => ?_) (fun hz1 => ?_)
      · exact absurd hz1 hz
      · skip
        refine lv_iconst (v := nI 1) hx hb dL_law_230 (by decide +kernel) ?_
        refine lv_goto (tgt := 235) hx hb dL_law_231 (by decide) ?_
        refine wm_calli (wr := wm_x a1 k1 n1 m1 rd1 t1 p1 w1 d1 g1) (As := [.int (nI 1)]) (rest := [.int r1]) ⟨hx, hb, hml, hown, hts⟩ (my_shorten l D a2 k2 _ n m t p (nI 1) hab) (cwV 1 hts (lw_V q175 q176 q177 q15 q178) rfl rfl rfl (by decide +kernel) ⟨Nat.le_of_ble_eq_true rfl, Nat.le_of_ble_eq_true rfl⟩) (va_recv hK hP (ci := 1) (q0 := 0) rfl rfl) hK hP hD hS hA [0, 1, 2] [3, 4, 5, 6, 7, 8, 9] [6, 7] rfl rfl rfl (by decide) (by decide) (by decide) rfl rfl hl.1 rfl (Nat.le_of_ble_eq_true rfl) dL_law_235 ⟨Nat.le_of_ble_eq_true rfl, Nat.le_of_ble_eq_true rfl⟩ (fun r2 u H locs hq2 hP hD hS => ?_)
        obtain ⟨n2, m2, t2, p2⟩ := u
        have hq2 : (r2, n2, m2, t2, p2) = wm_so (nI 1) n m t p := hq2
        have hP : va_P D wm_cl (wm_x a1 k1 n1 m1 rd1 t1 p1 w1 d1 g1 ++ wm_y a2 k2 n2 m2 t2 p2) H := hP
        have hD : va_D A (wm_x a1 k1 n1 m1 rd1 t1 p1 w1 d1 g1 ++ wm_y a2 k2 n2 m2 t2 p2) := hD
        have hE := hq1.trans hq2.symm
        simp only [Prod.mk.injEq] at hE
        obtain ⟨hr12, rfl, rfl, rfl, rfl⟩ := hE
        refine lv_icmp_eq (tgt := 472) hx hb dL_law_238 (by decide) (fun hne => ?_) (fun hne => ?_)
        · skip
          exact tail _ _ _ _ _ _ _ _ _ _ hI1 hP hD hS
        · exact absurd hr12 hne
set_option maxHeartbeats 4000000 in
set_option maxRecDepth 100000 in
/-- the law at a call of letter -/
theorem wm_case3 {P0 : Program} {l : Launch} {e0 : Env} {s : State} {M0 : MethodId} {bl : List Frame} {mt : Method} {cd : Code} {D : va_G} {A : Nat → Prop} {b L : Nat} {xs : Nat → Int32} {a1 a2 : Nat → Nat} {k1 k2 : Nat → ClassId} (hL : L ≤ 256) (hx : P0.tables.exec = Jvm.exec) (hb : cd.code = code) (hr : mt.sig.returnType = ret) (hlocks : mt.locks = false) (hml : cd.maxLocals = 4) (hown : s.vm.findClass R_law = some M0.cls) (hts : ∀ w ∈ lw_all, w.before #[Value.ref b] s = true) (hX : va_X b L xs s s.heap) (hbl : b < s.heap.size) (hbA : ¬ A b) (hA : ∀ q : Nat, s.heap.size ≤ q → A q) (hAs : ∀ q : Nat, A q → s.heap.size ≤ q) (hK : va_K D wm_cl (wm_xt k1 ++ wm_yt k2) s) {i n m rd : Nat} {t p w d g : Nat → Nat} {ls : Array Slot} (hI : wm_xi n m rd t p w d g) (hi4 : i + 4 ≤ L) (hl : lv_has ls 4 [(0, .ref b), (1, .ref (a1 0)), (2, .ref (a2 0)), (3, .int (nI i))]) (tail : ∀ (n m rd : Nat) (t p w d g : Nat → Nat) (H : Heap) (locs : List Loc), wm_xi n m rd t p w d g → va_P D wm_cl (wm_x a1 k1 n m rd t p w d g ++ wm_y a2 k2 n m t p) H → va_D A (wm_x a1 k1 n m rd t p w d g ++ wm_y a2 k2 n m t p) → va_S A s.heap H locs → W P0 l e0 room_1 s M0 #[Value.ref b] bl mt cd H locs 10 453 (lw_Z bl #[Value.ref b] s) (F0 M0 472 ls [])) {H : Heap} {locs : List Loc} (hP : va_P D wm_cl (wm_x a1 k1 n m rd t p w d g ++ wm_y a2 k2 n m t p) H) (hD : va_D A (wm_x a1 k1 n m rd t p w d g ++ wm_y a2 k2 n m t p)) (hS : va_S A s.heap H locs) : W P0 l e0 room_1 s M0 #[Value.ref b] bl mt cd H locs 10 453 (lw_Z bl #[Value.ref b] s) (F0 M0 243 ls []) := by
  have hab := hI.1
  by_cases hz : xs (i + 1) = 0
  · skip
    refine lv_aload_n hx hb dL_law_243 rfl (lv_at hl 1 rfl) ?_
    refine lv_aload_n hx hb dL_law_244 rfl (lv_at hl 0 rfl) ?_
    refine lv_iload_n hx hb dL_law_245 rfl (lv_at hl 3 rfl) ?_
    refine lv_iconst (v := nI 1) hx hb dL_law_246 (by decide +kernel) ?_
    refine wm_iadd hx hb dL_law_247 ?_
    refine wm_sld hx hb hX hbl hbA hS (i := i + 1) (by omega) (by omega) dL_law_248 ?_
    refine lv_if_eq (tgt := 256) hx hb dL_law_249 (by decide) (fun hz1 => ?_) (fun hz1 => ?_)
    · skip
      refine lv_iconst (v := nI 0) hx hb dL_law_256 (by decide +kernel) ?_
      refine lv_aload_n hx hb dL_law_257 rfl (lv_at hl 0 rfl) ?_
      refine lv_iload_n hx hb dL_law_258 rfl (lv_at hl 3 rfl) ?_
      refine lv_iconst (v := nI 2) hx hb dL_law_259 (by decide +kernel) ?_
      refine wm_iadd hx hb dL_law_260 ?_
      refine wm_sld hx hb hX hbl hbA hS (i := i + 2) (by omega) (by omega) dL_law_261 ?_
      refine wm_calli (wr := wm_y a2 k2 n m t p) (As := [.int (nI 0), .int (xs (i + 2))]) (rest := []) ⟨hx, hb, hml, hown, hts⟩ (mx_letter l D a1 k1 _ n m rd t p w d g (nI 0) (xs (i + 2)) hab) (cwV 2 hts (lw_V q70 q71 q72 q14 q73) rfl rfl rfl (by decide +kernel) ⟨Nat.le_of_ble_eq_true rfl, Nat.le_of_ble_eq_true rfl⟩) (va_recv hK hP (ci := 0) (q0 := 0) rfl rfl) hK hP hD hS hA [0, 1, 2, 3, 4, 5, 6] [7, 8, 9] [0, 1, 2, 3, 4, 5] rfl rfl rfl (by decide) (by decide) (by decide) rfl rfl hl.1 rfl (Nat.le_of_ble_eq_true rfl) dL_law_262 ⟨Nat.le_of_ble_eq_true rfl, Nat.le_of_ble_eq_true rfl⟩ (fun r1 u H locs hq1 hP hD hS => ?_)
      have hq1 : r1 = wm_le (nI 0) (xs (i + 2)) n m t p := hq1
      have hI1 := hI
      have hP : va_P D wm_cl (wm_y a2 k2 n m t p ++ wm_x a1 k1 n m rd t p w d g) H := hP
      have hD : va_D A (wm_y a2 k2 n m t p ++ wm_x a1 k1 n m rd t p w d g) := hD
      refine lv_aload_n hx hb dL_law_265 rfl (lv_at hl 2 rfl) ?_
      refine lv_aload_n hx hb dL_law_266 rfl (lv_at hl 0 rfl) ?_
      refine lv_iload_n hx hb dL_law_267 rfl (lv_at hl 3 rfl) ?_
      refine lv_iconst (v := nI 1) hx hb dL_law_268 (by decide +kernel) ?_
      refine wm_iadd hx hb dL_law_269 ?_
      refine wm_sld hx hb hX hbl hbA hS (i := i + 1) (by omega) (by omega) dL_law_270 ?_
      refine lv_if_eq (tgt := 278) hx hb dL_law_271 (by decide) (fun hz1 => ?_) (fun hz1 => ?_)
      · skip
        refine lv_iconst (v := nI 0) hx hb dL_law_278 (by decide +kernel) ?_
        refine lv_aload_n hx hb dL_law_279 rfl (lv_at hl 0 rfl) ?_
        refine lv_iload_n hx hb dL_law_280 rfl (lv_at hl 3 rfl) ?_
        refine lv_iconst (v := nI 2) hx hb dL_law_281 (by decide +kernel) ?_
        refine wm_iadd hx hb dL_law_282 ?_
        refine wm_sld hx hb hX hbl hbA hS (i := i + 2) (by omega) (by omega) dL_law_283 ?_
        refine wm_calli (wr := wm_x a1 k1 n m rd t p w d g) (As := [.int (nI 0), .int (xs (i + 2))]) (rest := [.int r1]) ⟨hx, hb, hml, hown, hts⟩ (my_letter l D a2 k2 _ n m t p (nI 0) (xs (i + 2)) hab) (cwV 2 hts (lw_V q179 q180 q181 q15 q182) rfl rfl rfl (by decide +kernel) ⟨Nat.le_of_ble_eq_true rfl, Nat.le_of_ble_eq_true rfl⟩) (va_recv hK hP (ci := 1) (q0 := 0) rfl rfl) hK hP hD hS hA [0, 1, 2] [3, 4, 5, 6, 7, 8, 9] [6, 7] rfl rfl rfl (by decide) (by decide) (by decide) rfl rfl hl.1 rfl (Nat.le_of_ble_eq_true rfl) dL_law_284 ⟨Nat.le_of_ble_eq_true rfl, Nat.le_of_ble_eq_true rfl⟩ (fun r2 u H locs hq2 hP hD hS => ?_)
        have hq2 : r2 = wm_le (nI 0) (xs (i + 2)) n m t p := hq2
        have hP : va_P D wm_cl (wm_x a1 k1 n m rd t p w d g ++ wm_y a2 k2 n m t p) H := hP
        have hD : va_D A (wm_x a1 k1 n m rd t p w d g ++ wm_y a2 k2 n m t p) := hD
        have hr12 : r1 = r2 := hq1.trans hq2.symm
        refine lv_icmp_eq (tgt := 472) hx hb dL_law_287 (by decide) (fun hne => ?_) (fun hne => ?_)
        · skip
          exact tail _ _ _ _ _ _ _ _ _ _ hI1 hP hD hS
        · exact absurd hr12 hne
      · exact absurd hz hz1
    · exact absurd hz hz1
  · skip
    refine lv_aload_n hx hb dL_law_243 rfl (lv_at hl 1 rfl) ?_
    refine lv_aload_n hx hb dL_law_244 rfl (lv_at hl 0 rfl) ?_
    refine lv_iload_n hx hb dL_law_245 rfl (lv_at hl 3 rfl) ?_
    refine lv_iconst (v := nI 1) hx hb dL_law_246 (by decide +kernel) ?_
    refine wm_iadd hx hb dL_law_247 ?_
    refine wm_sld hx hb hX hbl hbA hS (i := i + 1) (by omega) (by omega) dL_law_248 ?_
    refine lv_if_eq (tgt := 256) hx hb dL_law_249 (by decide) (fun hz1 => ?_) (fun hz1 => ?_)
    · exact absurd hz1 hz
    · skip
      refine lv_iconst (v := nI 1) hx hb dL_law_252 (by decide +kernel) ?_
      refine lv_goto (tgt := 257) hx hb dL_law_253 (by decide) ?_
      refine lv_aload_n hx hb dL_law_257 rfl (lv_at hl 0 rfl) ?_
      refine lv_iload_n hx hb dL_law_258 rfl (lv_at hl 3 rfl) ?_
      refine lv_iconst (v := nI 2) hx hb dL_law_259 (by decide +kernel) ?_
      refine wm_iadd hx hb dL_law_260 ?_
      refine wm_sld hx hb hX hbl hbA hS (i := i + 2) (by omega) (by omega) dL_law_261 ?_
      refine wm_calli (wr := wm_y a2 k2 n m t p) (As := [.int (nI 1), .int (xs (i + 2))]) (rest := []) ⟨hx, hb, hml, hown, hts⟩ (mx_letter l D a1 k1 _ n m rd t p w d g (nI 1) (xs (i + 2)) hab) (cwV 2 hts (lw_V q70 q71 q72 q14 q73) rfl rfl rfl (by decide +kernel) ⟨Nat.le_of_ble_eq_true rfl, Nat.le_of_ble_eq_true rfl⟩) (va_recv hK hP (ci := 0) (q0 := 0) rfl rfl) hK hP hD hS hA [0, 1, 2, 3, 4, 5, 6] [7, 8, 9] [0, 1, 2, 3, 4, 5] rfl rfl rfl (by decide) (by decide) (by decide) rfl rfl hl.1 rfl (Nat.le_of_ble_eq_true rfl) dL_law_262 ⟨Nat.le_of_ble_eq_true rfl, Nat.le_of_ble_eq_true rfl⟩ (fun r1 u H locs hq1 hP hD hS => ?_)
      have hq1 : r1 = wm_le (nI 1) (xs (i + 2)) n m t p := hq1
      have hI1 := hI
      have hP : va_P D wm_cl (wm_y a2 k2 n m t p ++ wm_x a1 k1 n m rd t p w d g) H := hP
      have hD : va_D A (wm_y a2 k2 n m t p ++ wm_x a1 k1 n m rd t p w d g) := hD
      refine lv_aload_n hx hb dL_law_265 rfl (lv_at hl 2 rfl) ?_
      refine lv_aload_n hx hb dL_law_266 rfl (lv_at hl 0 rfl) ?_
      refine lv_iload_n hx hb dL_law_267 rfl (lv_at hl 3 rfl) ?_
      refine lv_iconst (v := nI 1) hx hb dL_law_268 (by decide +kernel) ?_
      refine wm_iadd hx hb dL_law_269 ?_
      refine wm_sld hx hb hX hbl hbA hS (i := i + 1) (by omega) (by omega) dL_law_270 ?_
      refine lv_if_eq (tgt := 278) hx hb dL_law_271 (by decide) (fun hz1 => ?_) (fun hz1 => ?_)
      · exact absurd hz1 hz
      · skip
        refine lv_iconst (v := nI 1) hx hb dL_law_274 (by decide +kernel) ?_
        refine lv_goto (tgt := 279) hx hb dL_law_275 (by decide) ?_
        refine lv_aload_n hx hb dL_law_279 rfl (lv_at hl 0 rfl) ?_
        refine lv_iload_n hx hb dL_law_280 rfl (lv_at hl 3 rfl) ?_
        refine lv_iconst (v := nI 2) hx hb dL_law_281 (by decide +kernel) ?_
        refine wm_iadd hx hb dL_law_282 ?_
        refine wm_sld hx hb hX hbl hbA hS (i := i + 2) (by omega) (by omega) dL_law_283 ?_
        refine wm_calli (wr := wm_x a1 k1 n m rd t p w d g) (As := [.int (nI 1), .int (xs (i + 2))]) (rest := [.int r1]) ⟨hx, hb, hml, hown, hts⟩ (my_letter l D a2 k2 _ n m t p (nI 1) (xs (i + 2)) hab) (cwV 2 hts (lw_V q179 q180 q181 q15 q182) rfl rfl rfl (by decide +kernel) ⟨Nat.le_of_ble_eq_true rfl, Nat.le_of_ble_eq_true rfl⟩) (va_recv hK hP (ci := 1) (q0 := 0) rfl rfl) hK hP hD hS hA [0, 1, 2] [3, 4, 5, 6, 7, 8, 9] [6, 7] rfl rfl rfl (by decide) (by decide) (by decide) rfl rfl hl.1 rfl (Nat.le_of_ble_eq_true rfl) dL_law_284 ⟨Nat.le_of_ble_eq_true rfl, Nat.le_of_ble_eq_true rfl⟩ (fun r2 u H locs hq2 hP hD hS => ?_)
        have hq2 : r2 = wm_le (nI 1) (xs (i + 2)) n m t p := hq2
        have hP : va_P D wm_cl (wm_x a1 k1 n m rd t p w d g ++ wm_y a2 k2 n m t p) H := hP
        have hD : va_D A (wm_x a1 k1 n m rd t p w d g ++ wm_y a2 k2 n m t p) := hD
        have hr12 : r1 = r2 := hq1.trans hq2.symm
        refine lv_icmp_eq (tgt := 472) hx hb dL_law_287 (by decide) (fun hne => ?_) (fun hne => ?_)
        · skip
          exact tail _ _ _ _ _ _ _ _ _ _ hI1 hP hD hS
        · exact absurd hr12 hne
end
section
set_option maxHeartbeats 4000000 in
set_option maxRecDepth 100000 in
/-- the law at a call of length -/
theorem wm_case4 {P0 : Program} {l : Launch} {e0 : Env} {s : State} {M0 : MethodId} {bl : List Frame} {mt : Method} {cd : Code} {D : va_G} {A : Nat → Prop} {b L : Nat} {xs : Nat → Int32} {a1 a2 : Nat → Nat} {k1 k2 : Nat → ClassId} (hL : L ≤ 256) (hx : P0.tables.exec = Jvm.exec) (hb : cd.code = code) (hr : mt.sig.returnType = ret) (hlocks : mt.locks = false) (hml : cd.maxLocals = 4) (hown : s.vm.findClass R_law = some M0.cls) (hts : ∀ w ∈ lw_all, w.before #[Value.ref b] s = true) (hX : va_X b L xs s s.heap) (hbl : b < s.heap.size) (hbA : ¬ A b) (hA : ∀ q : Nat, s.heap.size ≤ q → A q) (hAs : ∀ q : Nat, A q → s.heap.size ≤ q) (hK : va_K D wm_cl (wm_xt k1 ++ wm_yt k2) s) {i n m rd : Nat} {t p w d g : Nat → Nat} {ls : Array Slot} (hI : wm_xi n m rd t p w d g) (hi4 : i + 4 ≤ L) (hl : lv_has ls 4 [(0, .ref b), (1, .ref (a1 0)), (2, .ref (a2 0)), (3, .int (nI i))]) (tail : ∀ (n m rd : Nat) (t p w d g : Nat → Nat) (H : Heap) (locs : List Loc), wm_xi n m rd t p w d g → va_P D wm_cl (wm_x a1 k1 n m rd t p w d g ++ wm_y a2 k2 n m t p) H → va_D A (wm_x a1 k1 n m rd t p w d g ++ wm_y a2 k2 n m t p) → va_S A s.heap H locs → W P0 l e0 room_1 s M0 #[Value.ref b] bl mt cd H locs 10 453 (lw_Z bl #[Value.ref b] s) (F0 M0 472 ls [])) {H : Heap} {locs : List Loc} (hP : va_P D wm_cl (wm_x a1 k1 n m rd t p w d g ++ wm_y a2 k2 n m t p) H) (hD : va_D A (wm_x a1 k1 n m rd t p w d g ++ wm_y a2 k2 n m t p)) (hS : va_S A s.heap H locs) : W P0 l e0 room_1 s M0 #[Value.ref b] bl mt cd H locs 10 453 (lw_Z bl #[Value.ref b] s) (F0 M0 292 ls []) := by
  have hab := hI.1
  by_cases hz : xs (i + 1) = 0
  · skip
    refine lv_aload_n hx hb dL_law_292 rfl (lv_at hl 1 rfl) ?_
    refine lv_aload_n hx hb dL_law_293 rfl (lv_at hl 0 rfl) ?_
    refine lv_iload_n hx hb dL_law_294 rfl (lv_at hl 3 rfl) ?_
    refine lv_iconst (v := nI 1) hx hb dL_law_295 (by decide +kernel) ?_
    refine wm_iadd hx hb dL_law_296 ?_
    refine wm_sld hx hb hX hbl hbA hS (i := i + 1) (by omega) (by omega) dL_law_297 ?_
    refine lv_if_eq (tgt := 305) hx hb dL_law_298 (by decide) (fun hz1 => ?_) (fun hz1 => ?_)
    · skip
      refine lv_iconst (v := nI 0) hx hb dL_law_305 (by decide +kernel) ?_
      refine wm_calli (wr := wm_y a2 k2 n m t p) (As := [.int (nI 0)]) (rest := []) ⟨hx, hb, hml, hown, hts⟩ (mx_length l D a1 k1 _ n m rd t p w d g (nI 0) ) (cwV 1 hts (lw_V q74 q63 q64 q14 q65) rfl rfl rfl (by decide +kernel) ⟨Nat.le_of_ble_eq_true rfl, Nat.le_of_ble_eq_true rfl⟩) (va_recv hK hP (ci := 0) (q0 := 0) rfl rfl) hK hP hD hS hA [0, 1, 2, 3, 4, 5, 6] [7, 8, 9] [0, 1, 2, 3, 4, 5] rfl rfl rfl (by decide) (by decide) (by decide) rfl rfl hl.1 rfl (Nat.le_of_ble_eq_true rfl) dL_law_306 ⟨Nat.le_of_ble_eq_true rfl, Nat.le_of_ble_eq_true rfl⟩ (fun r1 u H locs hq1 hP hD hS => ?_)
      have hq1 : r1 = nI (wm_len (nI 0) n m) := hq1
      have hI1 := hI
      have hP : va_P D wm_cl (wm_y a2 k2 n m t p ++ wm_x a1 k1 n m rd t p w d g) H := hP
      have hD : va_D A (wm_y a2 k2 n m t p ++ wm_x a1 k1 n m rd t p w d g) := hD
      refine lv_aload_n hx hb dL_law_309 rfl (lv_at hl 2 rfl) ?_
      refine lv_aload_n hx hb dL_law_310 rfl (lv_at hl 0 rfl) ?_
      refine lv_iload_n hx hb dL_law_311 rfl (lv_at hl 3 rfl) ?_
      refine lv_iconst (v := nI 1) hx hb dL_law_312 (by decide +kernel) ?_
      refine wm_iadd hx hb dL_law_313 ?_
      refine wm_sld hx hb hX hbl hbA hS (i := i + 1) (by omega) (by omega) dL_law_314 ?_
      refine lv_if_eq (tgt := 322) hx hb dL_law_315 (by decide) (fun hz1 => ?_) (fun hz1 => ?_)
      · skip
        refine lv_iconst (v := nI 0) hx hb dL_law_322 (by decide +kernel) ?_
        refine wm_calli (wr := wm_x a1 k1 n m rd t p w d g) (As := [.int (nI 0)]) (rest := [.int r1]) ⟨hx, hb, hml, hown, hts⟩ (my_length l D a2 k2 _ n m t p (nI 0) ) (cwV 1 hts (lw_V q183 q184 q185 q15 q186) rfl rfl rfl (by decide +kernel) ⟨Nat.le_of_ble_eq_true rfl, Nat.le_of_ble_eq_true rfl⟩) (va_recv hK hP (ci := 1) (q0 := 0) rfl rfl) hK hP hD hS hA [0, 1, 2] [3, 4, 5, 6, 7, 8, 9] [6, 7] rfl rfl rfl (by decide) (by decide) (by decide) rfl rfl hl.1 rfl (Nat.le_of_ble_eq_true rfl) dL_law_323 ⟨Nat.le_of_ble_eq_true rfl, Nat.le_of_ble_eq_true rfl⟩ (fun r2 u H locs hq2 hP hD hS => ?_)
        have hq2 : r2 = nI (wm_len (nI 0) n m) := hq2
        have hP : va_P D wm_cl (wm_x a1 k1 n m rd t p w d g ++ wm_y a2 k2 n m t p) H := hP
        have hD : va_D A (wm_x a1 k1 n m rd t p w d g ++ wm_y a2 k2 n m t p) := hD
        have hr12 : r1 = r2 := hq1.trans hq2.symm
        refine lv_icmp_eq (tgt := 472) hx hb dL_law_326 (by decide) (fun hne => ?_) (fun hne => ?_)
        · skip
          exact tail _ _ _ _ _ _ _ _ _ _ hI1 hP hD hS
        · exact absurd hr12 hne
      · exact absurd hz hz1
    · exact absurd hz hz1
  · skip
    refine lv_aload_n hx hb dL_law_292 rfl (lv_at hl 1 rfl) ?_
    refine lv_aload_n hx hb dL_law_293 rfl (lv_at hl 0 rfl) ?_
    refine lv_iload_n hx hb dL_law_294 rfl (lv_at hl 3 rfl) ?_
    refine lv_iconst (v := nI 1) hx hb dL_law_295 (by decide +kernel) ?_
    refine wm_iadd hx hb dL_law_296 ?_
    refine wm_sld hx hb hX hbl hbA hS (i := i + 1) (by omega) (by omega) dL_law_297 ?_
    refine lv_if_eq (tgt := 305) hx hb dL_law_298 (by decide) (fun hz1 => ?_) (fun hz1 => ?_)
    · exact absurd hz1 hz
    · skip
      refine lv_iconst (v := nI 1) hx hb dL_law_301 (by decide +kernel) ?_
      refine lv_goto (tgt := 306) hx hb dL_law_302 (by decide) ?_
      refine wm_calli (wr := wm_y a2 k2 n m t p) (As := [.int (nI 1)]) (rest := []) ⟨hx, hb, hml, hown, hts⟩ (mx_length l D a1 k1 _ n m rd t p w d g (nI 1) ) (cwV 1 hts (lw_V q74 q63 q64 q14 q65) rfl rfl rfl (by decide +kernel) ⟨Nat.le_of_ble_eq_true rfl, Nat.le_of_ble_eq_true rfl⟩) (va_recv hK hP (ci := 0) (q0 := 0) rfl rfl) hK hP hD hS hA [0, 1, 2, 3, 4, 5, 6] [7, 8, 9] [0, 1, 2, 3, 4, 5] rfl rfl rfl (by decide) (by decide) (by decide) rfl rfl hl.1 rfl (Nat.le_of_ble_eq_true rfl) dL_law_306 ⟨Nat.le_of_ble_eq_true rfl, Nat.le_of_ble_eq_true rfl⟩ (fun r1 u H locs hq1 hP hD hS => ?_)
      have hq1 : r1 = nI (wm_len (nI 1) n m) := hq1
      have hI1 := hI
      have hP : va_P D wm_cl (wm_y a2 k2 n m t p ++ wm_x a1 k1 n m rd t p w d g) H := hP
      have hD : va_D A (wm_y a2 k2 n m t p ++ wm_x a1 k1 n m rd t p w d g) := hD
      refine lv_aload_n hx hb dL_law_309 rfl (lv_at hl 2 rfl) ?_
      refine lv_aload_n hx hb dL_law_310 rfl (lv_at hl 0 rfl) ?_
      refine lv_iload_n hx hb dL_law_311 rfl (lv_at hl 3 rfl) ?_
      refine lv_iconst (v := nI 1) hx hb dL_law_312 (by decide +kernel) ?_
      refine wm_iadd hx hb dL_law_313 ?_
      refine wm_sld hx hb hX hbl hbA hS (i := i + 1) (by omega) (by omega) dL_law_314 ?_
      refine lv_if_eq (tgt := 322) hx hb dL_law_315 (by decide) (fun hz1 => ?_) (fun hz1 => ?_)
      · exact absurd hz1 hz
      · skip
        refine lv_iconst (v := nI 1) hx hb dL_law_318 (by decide +kernel) ?_
        refine lv_goto (tgt := 323) hx hb dL_law_319 (by decide) ?_
        refine wm_calli (wr := wm_x a1 k1 n m rd t p w d g) (As := [.int (nI 1)]) (rest := [.int r1]) ⟨hx, hb, hml, hown, hts⟩ (my_length l D a2 k2 _ n m t p (nI 1) ) (cwV 1 hts (lw_V q183 q184 q185 q15 q186) rfl rfl rfl (by decide +kernel) ⟨Nat.le_of_ble_eq_true rfl, Nat.le_of_ble_eq_true rfl⟩) (va_recv hK hP (ci := 1) (q0 := 0) rfl rfl) hK hP hD hS hA [0, 1, 2] [3, 4, 5, 6, 7, 8, 9] [6, 7] rfl rfl rfl (by decide) (by decide) (by decide) rfl rfl hl.1 rfl (Nat.le_of_ble_eq_true rfl) dL_law_323 ⟨Nat.le_of_ble_eq_true rfl, Nat.le_of_ble_eq_true rfl⟩ (fun r2 u H locs hq2 hP hD hS => ?_)
        have hq2 : r2 = nI (wm_len (nI 1) n m) := hq2
        have hP : va_P D wm_cl (wm_x a1 k1 n m rd t p w d g ++ wm_y a2 k2 n m t p) H := hP
        have hD : va_D A (wm_x a1 k1 n m rd t p w d g ++ wm_y a2 k2 n m t p) := hD
        have hr12 : r1 = r2 := hq1.trans hq2.symm
        refine lv_icmp_eq (tgt := 472) hx hb dL_law_326 (by decide) (fun hne => ?_) (fun hne => ?_)
        · skip
          exact tail _ _ _ _ _ _ _ _ _ _ hI1 hP hD hS
        · exact absurd hr12 hne
set_option maxHeartbeats 4000000 in
set_option maxRecDepth 100000 in
/-- the law at a call of matches -/
theorem wm_case5 {P0 : Program} {l : Launch} {e0 : Env} {s : State} {M0 : MethodId} {bl : List Frame} {mt : Method} {cd : Code} {D : va_G} {A : Nat → Prop} {b L : Nat} {xs : Nat → Int32} {a1 a2 : Nat → Nat} {k1 k2 : Nat → ClassId} (hL : L ≤ 256) (hx : P0.tables.exec = Jvm.exec) (hb : cd.code = code) (hr : mt.sig.returnType = ret) (hlocks : mt.locks = false) (hml : cd.maxLocals = 4) (hown : s.vm.findClass R_law = some M0.cls) (hts : ∀ w ∈ lw_all, w.before #[Value.ref b] s = true) (hX : va_X b L xs s s.heap) (hbl : b < s.heap.size) (hbA : ¬ A b) (hA : ∀ q : Nat, s.heap.size ≤ q → A q) (hAs : ∀ q : Nat, A q → s.heap.size ≤ q) (hK : va_K D wm_cl (wm_xt k1 ++ wm_yt k2) s) {i n m rd : Nat} {t p w d g : Nat → Nat} {ls : Array Slot} (hI : wm_xi n m rd t p w d g) (hi4 : i + 4 ≤ L) (hl : lv_has ls 4 [(0, .ref b), (1, .ref (a1 0)), (2, .ref (a2 0)), (3, .int (nI i))]) (tail : ∀ (n m rd : Nat) (t p w d g : Nat → Nat) (H : Heap) (locs : List Loc), wm_xi n m rd t p w d g → va_P D wm_cl (wm_x a1 k1 n m rd t p w d g ++ wm_y a2 k2 n m t p) H → va_D A (wm_x a1 k1 n m rd t p w d g ++ wm_y a2 k2 n m t p) → va_S A s.heap H locs → W P0 l e0 room_1 s M0 #[Value.ref b] bl mt cd H locs 10 453 (lw_Z bl #[Value.ref b] s) (F0 M0 472 ls [])) {H : Heap} {locs : List Loc} (hP : va_P D wm_cl (wm_x a1 k1 n m rd t p w d g ++ wm_y a2 k2 n m t p) H) (hD : va_D A (wm_x a1 k1 n m rd t p w d g ++ wm_y a2 k2 n m t p)) (hS : va_S A s.heap H locs) : W P0 l e0 room_1 s M0 #[Value.ref b] bl mt cd H locs 10 453 (lw_Z bl #[Value.ref b] s) (F0 M0 331 ls []) := by
  have hab := hI.1
  refine lv_aload_n hx hb dL_law_331 rfl (lv_at hl 1 rfl) ?_
  refine lv_aload_n hx hb dL_law_332 rfl (lv_at hl 0 rfl) ?_
  refine lv_iload_n hx hb dL_law_333 rfl (lv_at hl 3 rfl) ?_
  refine lv_iconst (v := nI 1) hx hb dL_law_334 (by decide +kernel) ?_
  refine wm_iadd hx hb dL_law_335 ?_
  refine wm_sld hx hb hX hbl hbA hS (i := i + 1) (by omega) (by omega) dL_law_336 ?_
  refine wm_calli (wr := wm_y a2 k2 n m t p) (As := [.int (xs (i + 1))]) (rest := []) ⟨hx, hb, hml, hown, hts⟩ (mx_matches l D a1 k1 _ n m rd t p w d g (xs (i + 1)) hI) (cwV 1 hts (lw_V q75 q76 q77 q14 q78) rfl rfl rfl (by decide +kernel) ⟨Nat.le_of_ble_eq_true rfl, Nat.le_of_ble_eq_true rfl⟩) (va_recv hK hP (ci := 0) (q0 := 0) rfl rfl) hK hP hD hS hA [0, 1, 2, 3, 4, 5, 6] [7, 8, 9] [0, 1, 2, 3, 4, 5] rfl rfl rfl (by decide) (by decide) (by decide) rfl rfl hl.1 rfl (Nat.le_of_ble_eq_true rfl) dL_law_337 ⟨Nat.le_of_ble_eq_true rfl, Nat.le_of_ble_eq_true rfl⟩ (fun r1 u H locs hq1 hP hD hS => ?_)
  obtain ⟨rd1, w1, d1, g1⟩ := u
  obtain ⟨hq1, hI1⟩ := hq1
  have hq1 : r1 = wm_mt n m t p (xs (i + 1)) := hq1
  have hI1 : wm_xi n m rd1 t p w1 d1 g1 := hI1
  have hP : va_P D wm_cl (wm_y a2 k2 n m t p ++ wm_x a1 k1 n m rd1 t p w1 d1 g1) H := hP
  have hD : va_D A (wm_y a2 k2 n m t p ++ wm_x a1 k1 n m rd1 t p w1 d1 g1) := hD
  refine lv_aload_n hx hb dL_law_340 rfl (lv_at hl 2 rfl) ?_
  refine lv_aload_n hx hb dL_law_341 rfl (lv_at hl 0 rfl) ?_
  refine lv_iload_n hx hb dL_law_342 rfl (lv_at hl 3 rfl) ?_
  refine lv_iconst (v := nI 1) hx hb dL_law_343 (by decide +kernel) ?_
  refine wm_iadd hx hb dL_law_344 ?_
  refine wm_sld hx hb hX hbl hbA hS (i := i + 1) (by omega) (by omega) dL_law_345 ?_
  refine wm_calli (wr := wm_x a1 k1 n m rd1 t p w1 d1 g1) (As := [.int (xs (i + 1))]) (rest := [.int r1]) ⟨hx, hb, hml, hown, hts⟩ (my_matches l D a2 k2 _ n m t p (xs (i + 1)) hab) (cwV 1 hts (lw_V q187 q188 q189 q15 q190) rfl rfl rfl (by decide +kernel) ⟨Nat.le_of_ble_eq_true rfl, Nat.le_of_ble_eq_true rfl⟩) (va_recv hK hP (ci := 1) (q0 := 0) rfl rfl) hK hP hD hS hA [0, 1, 2] [3, 4, 5, 6, 7, 8, 9] [6, 7] rfl rfl rfl (by decide) (by decide) (by decide) rfl rfl hl.1 rfl (Nat.le_of_ble_eq_true rfl) dL_law_346 ⟨Nat.le_of_ble_eq_true rfl, Nat.le_of_ble_eq_true rfl⟩ (fun r2 u H locs hq2 hP hD hS => ?_)
  have hq2 : r2 = wm_mt n m t p (xs (i + 1)) := hq2
  have hP : va_P D wm_cl (wm_x a1 k1 n m rd1 t p w1 d1 g1 ++ wm_y a2 k2 n m t p) H := hP
  have hD : va_D A (wm_x a1 k1 n m rd1 t p w1 d1 g1 ++ wm_y a2 k2 n m t p) := hD
  have hr12 : r1 = r2 := hq1.trans hq2.symm
  refine lv_icmp_eq (tgt := 472) hx hb dL_law_349 (by decide) (fun hne => ?_) (fun hne => ?_)
  · skip
    exact tail _ _ _ _ _ _ _ _ _ _ hI1 hP hD hS
  · exact absurd hr12 hne
set_option maxHeartbeats 4000000 in
set_option maxRecDepth 100000 in
/-- the law at a call of matchCount -/
theorem wm_case6 {P0 : Program} {l : Launch} {e0 : Env} {s : State} {M0 : MethodId} {bl : List Frame} {mt : Method} {cd : Code} {D : va_G} {A : Nat → Prop} {b L : Nat} {xs : Nat → Int32} {a1 a2 : Nat → Nat} {k1 k2 : Nat → ClassId} (hL : L ≤ 256) (hx : P0.tables.exec = Jvm.exec) (hb : cd.code = code) (hr : mt.sig.returnType = ret) (hlocks : mt.locks = false) (hml : cd.maxLocals = 4) (hown : s.vm.findClass R_law = some M0.cls) (hts : ∀ w ∈ lw_all, w.before #[Value.ref b] s = true) (hX : va_X b L xs s s.heap) (hbl : b < s.heap.size) (hbA : ¬ A b) (hA : ∀ q : Nat, s.heap.size ≤ q → A q) (hAs : ∀ q : Nat, A q → s.heap.size ≤ q) (hK : va_K D wm_cl (wm_xt k1 ++ wm_yt k2) s) {i n m rd : Nat} {t p w d g : Nat → Nat} {ls : Array Slot} (hI : wm_xi n m rd t p w d g) (hi4 : i + 4 ≤ L) (hl : lv_has ls 4 [(0, .ref b), (1, .ref (a1 0)), (2, .ref (a2 0)), (3, .int (nI i))]) (tail : ∀ (n m rd : Nat) (t p w d g : Nat → Nat) (H : Heap) (locs : List Loc), wm_xi n m rd t p w d g → va_P D wm_cl (wm_x a1 k1 n m rd t p w d g ++ wm_y a2 k2 n m t p) H → va_D A (wm_x a1 k1 n m rd t p w d g ++ wm_y a2 k2 n m t p) → va_S A s.heap H locs → W P0 l e0 room_1 s M0 #[Value.ref b] bl mt cd H locs 10 453 (lw_Z bl #[Value.ref b] s) (F0 M0 472 ls [])) {H : Heap} {locs : List Loc} (hP : va_P D wm_cl (wm_x a1 k1 n m rd t p w d g ++ wm_y a2 k2 n m t p) H) (hD : va_D A (wm_x a1 k1 n m rd t p w d g ++ wm_y a2 k2 n m t p)) (hS : va_S A s.heap H locs) : W P0 l e0 room_1 s M0 #[Value.ref b] bl mt cd H locs 10 453 (lw_Z bl #[Value.ref b] s) (F0 M0 354 ls []) := by
  have hab := hI.1
  refine lv_aload_n hx hb dL_law_354 rfl (lv_at hl 1 rfl) ?_
  refine wm_calli (wr := wm_y a2 k2 n m t p) (As := []) (rest := []) ⟨hx, hb, hml, hown, hts⟩ (mx_matchCount l D a1 k1 _ n m rd t p w d g  hI) (cwV 0 hts (lw_V q115 q116 q117 q14 q118) rfl rfl rfl (by decide +kernel) ⟨Nat.le_of_ble_eq_true rfl, Nat.le_of_ble_eq_true rfl⟩) (va_recv hK hP (ci := 0) (q0 := 0) rfl rfl) hK hP hD hS hA [0, 1, 2, 3, 4, 5, 6] [7, 8, 9] [0, 1, 2, 3, 4, 5] rfl rfl rfl (by decide) (by decide) (by decide) rfl rfl hl.1 rfl (Nat.le_of_ble_eq_true rfl) dL_law_355 ⟨Nat.le_of_ble_eq_true rfl, Nat.le_of_ble_eq_true rfl⟩ (fun r1 u H locs hq1 hP hD hS => ?_)
  obtain ⟨rd1, w1, d1, g1⟩ := u
  obtain ⟨hq1, hI1⟩ := hq1
  have hq1 : r1 = wm_mc n m t p := hq1
  have hI1 : wm_xi n m rd1 t p w1 d1 g1 := hI1
  have hP : va_P D wm_cl (wm_y a2 k2 n m t p ++ wm_x a1 k1 n m rd1 t p w1 d1 g1) H := hP
  have hD : va_D A (wm_y a2 k2 n m t p ++ wm_x a1 k1 n m rd1 t p w1 d1 g1) := hD
  refine lv_aload_n hx hb dL_law_358 rfl (lv_at hl 2 rfl) ?_
  refine wm_calli (wr := wm_x a1 k1 n m rd1 t p w1 d1 g1) (As := []) (rest := [.int r1]) ⟨hx, hb, hml, hown, hts⟩ (my_matchCount l D a2 k2 _ n m t p  hab) (cwV 0 hts (lw_V q199 q200 q201 q15 q202) rfl rfl rfl (by decide +kernel) ⟨Nat.le_of_ble_eq_true rfl, Nat.le_of_ble_eq_true rfl⟩) (va_recv hK hP (ci := 1) (q0 := 0) rfl rfl) hK hP hD hS hA [0, 1, 2] [3, 4, 5, 6, 7, 8, 9] [6, 7] rfl rfl rfl (by decide) (by decide) (by decide) rfl rfl hl.1 rfl (Nat.le_of_ble_eq_true rfl) dL_law_359 ⟨Nat.le_of_ble_eq_true rfl, Nat.le_of_ble_eq_true rfl⟩ (fun r2 u H locs hq2 hP hD hS => ?_)
  have hq2 : r2 = wm_mc n m t p := hq2
  have hP : va_P D wm_cl (wm_x a1 k1 n m rd1 t p w1 d1 g1 ++ wm_y a2 k2 n m t p) H := hP
  have hD : va_D A (wm_x a1 k1 n m rd1 t p w1 d1 g1 ++ wm_y a2 k2 n m t p) := hD
  have hr12 : r1 = r2 := hq1.trans hq2.symm
  refine lv_icmp_eq (tgt := 472) hx hb dL_law_362 (by decide) (fun hne => ?_) (fun hne => ?_)
  · skip
    exact tail _ _ _ _ _ _ _ _ _ _ hI1 hP hD hS
  · exact absurd hr12 hne
set_option maxHeartbeats 4000000 in
set_option maxRecDepth 100000 in
/-- the law at a call of nextMatch -/
theorem wm_case7 {P0 : Program} {l : Launch} {e0 : Env} {s : State} {M0 : MethodId} {bl : List Frame} {mt : Method} {cd : Code} {D : va_G} {A : Nat → Prop} {b L : Nat} {xs : Nat → Int32} {a1 a2 : Nat → Nat} {k1 k2 : Nat → ClassId} (hL : L ≤ 256) (hx : P0.tables.exec = Jvm.exec) (hb : cd.code = code) (hr : mt.sig.returnType = ret) (hlocks : mt.locks = false) (hml : cd.maxLocals = 4) (hown : s.vm.findClass R_law = some M0.cls) (hts : ∀ w ∈ lw_all, w.before #[Value.ref b] s = true) (hX : va_X b L xs s s.heap) (hbl : b < s.heap.size) (hbA : ¬ A b) (hA : ∀ q : Nat, s.heap.size ≤ q → A q) (hAs : ∀ q : Nat, A q → s.heap.size ≤ q) (hK : va_K D wm_cl (wm_xt k1 ++ wm_yt k2) s) {i n m rd : Nat} {t p w d g : Nat → Nat} {ls : Array Slot} (hI : wm_xi n m rd t p w d g) (hi4 : i + 4 ≤ L) (hl : lv_has ls 4 [(0, .ref b), (1, .ref (a1 0)), (2, .ref (a2 0)), (3, .int (nI i))]) (tail : ∀ (n m rd : Nat) (t p w d g : Nat → Nat) (H : Heap) (locs : List Loc), wm_xi n m rd t p w d g → va_P D wm_cl (wm_x a1 k1 n m rd t p w d g ++ wm_y a2 k2 n m t p) H → va_D A (wm_x a1 k1 n m rd t p w d g ++ wm_y a2 k2 n m t p) → va_S A s.heap H locs → W P0 l e0 room_1 s M0 #[Value.ref b] bl mt cd H locs 10 453 (lw_Z bl #[Value.ref b] s) (F0 M0 472 ls [])) {H : Heap} {locs : List Loc} (hP : va_P D wm_cl (wm_x a1 k1 n m rd t p w d g ++ wm_y a2 k2 n m t p) H) (hD : va_D A (wm_x a1 k1 n m rd t p w d g ++ wm_y a2 k2 n m t p)) (hS : va_S A s.heap H locs) : W P0 l e0 room_1 s M0 #[Value.ref b] bl mt cd H locs 10 453 (lw_Z bl #[Value.ref b] s) (F0 M0 367 ls []) := by
  have hab := hI.1
  refine lv_aload_n hx hb dL_law_367 rfl (lv_at hl 1 rfl) ?_
  refine lv_aload_n hx hb dL_law_368 rfl (lv_at hl 0 rfl) ?_
  refine lv_iload_n hx hb dL_law_369 rfl (lv_at hl 3 rfl) ?_
  refine lv_iconst (v := nI 1) hx hb dL_law_370 (by decide +kernel) ?_
  refine wm_iadd hx hb dL_law_371 ?_
  refine wm_sld hx hb hX hbl hbA hS (i := i + 1) (by omega) (by omega) dL_law_372 ?_
  refine wm_calli (wr := wm_y a2 k2 n m t p) (As := [.int (xs (i + 1))]) (rest := []) ⟨hx, hb, hml, hown, hts⟩ (mx_nextMatch l D a1 k1 _ n m rd t p w d g (xs (i + 1)) hI) (cwV 1 hts (lw_V q120 q121 q122 q14 q123) rfl rfl rfl (by decide +kernel) ⟨Nat.le_of_ble_eq_true rfl, Nat.le_of_ble_eq_true rfl⟩) (va_recv hK hP (ci := 0) (q0 := 0) rfl rfl) hK hP hD hS hA [0, 1, 2, 3, 4, 5, 6] [7, 8, 9] [0, 1, 2, 3, 4, 5] rfl rfl rfl (by decide) (by decide) (by decide) rfl rfl hl.1 rfl (Nat.le_of_ble_eq_true rfl) dL_law_373 ⟨Nat.le_of_ble_eq_true rfl, Nat.le_of_ble_eq_true rfl⟩ (fun r1 u H locs hq1 hP hD hS => ?_)
  obtain ⟨rd1, w1, d1, g1⟩ := u
  obtain ⟨hq1, hI1⟩ := hq1
  have hq1 : r1 = wm_nx n m t p (xs (i + 1)) := hq1
  have hI1 : wm_xi n m rd1 t p w1 d1 g1 := hI1
  have hP : va_P D wm_cl (wm_y a2 k2 n m t p ++ wm_x a1 k1 n m rd1 t p w1 d1 g1) H := hP
  have hD : va_D A (wm_y a2 k2 n m t p ++ wm_x a1 k1 n m rd1 t p w1 d1 g1) := hD
  refine lv_aload_n hx hb dL_law_376 rfl (lv_at hl 2 rfl) ?_
  refine lv_aload_n hx hb dL_law_377 rfl (lv_at hl 0 rfl) ?_
  refine lv_iload_n hx hb dL_law_378 rfl (lv_at hl 3 rfl) ?_
  refine lv_iconst (v := nI 1) hx hb dL_law_379 (by decide +kernel) ?_
  refine wm_iadd hx hb dL_law_380 ?_
  refine wm_sld hx hb hX hbl hbA hS (i := i + 1) (by omega) (by omega) dL_law_381 ?_
  refine wm_calli (wr := wm_x a1 k1 n m rd1 t p w1 d1 g1) (As := [.int (xs (i + 1))]) (rest := [.int r1]) ⟨hx, hb, hml, hown, hts⟩ (my_nextMatch l D a2 k2 _ n m t p (xs (i + 1)) hab) (cwV 1 hts (lw_V q204 q205 q206 q15 q207) rfl rfl rfl (by decide +kernel) ⟨Nat.le_of_ble_eq_true rfl, Nat.le_of_ble_eq_true rfl⟩) (va_recv hK hP (ci := 1) (q0 := 0) rfl rfl) hK hP hD hS hA [0, 1, 2] [3, 4, 5, 6, 7, 8, 9] [6, 7] rfl rfl rfl (by decide) (by decide) (by decide) rfl rfl hl.1 rfl (Nat.le_of_ble_eq_true rfl) dL_law_382 ⟨Nat.le_of_ble_eq_true rfl, Nat.le_of_ble_eq_true rfl⟩ (fun r2 u H locs hq2 hP hD hS => ?_)
  have hq2 : r2 = wm_nx n m t p (xs (i + 1)) := hq2
  have hP : va_P D wm_cl (wm_x a1 k1 n m rd1 t p w1 d1 g1 ++ wm_y a2 k2 n m t p) H := hP
  have hD : va_D A (wm_x a1 k1 n m rd1 t p w1 d1 g1 ++ wm_y a2 k2 n m t p) := hD
  have hr12 : r1 = r2 := hq1.trans hq2.symm
  refine lv_icmp_eq (tgt := 472) hx hb dL_law_385 (by decide) (fun hne => ?_) (fun hne => ?_)
  · skip
    exact tail _ _ _ _ _ _ _ _ _ _ hI1 hP hD hS
  · exact absurd hr12 hne
set_option maxHeartbeats 4000000 in
set_option maxRecDepth 100000 in
/-- the law at a call of mismatches -/
theorem wm_case8 {P0 : Program} {l : Launch} {e0 : Env} {s : State} {M0 : MethodId} {bl : List Frame} {mt : Method} {cd : Code} {D : va_G} {A : Nat → Prop} {b L : Nat} {xs : Nat → Int32} {a1 a2 : Nat → Nat} {k1 k2 : Nat → ClassId} (hL : L ≤ 256) (hx : P0.tables.exec = Jvm.exec) (hb : cd.code = code) (hr : mt.sig.returnType = ret) (hlocks : mt.locks = false) (hml : cd.maxLocals = 4) (hown : s.vm.findClass R_law = some M0.cls) (hts : ∀ w ∈ lw_all, w.before #[Value.ref b] s = true) (hX : va_X b L xs s s.heap) (hbl : b < s.heap.size) (hbA : ¬ A b) (hA : ∀ q : Nat, s.heap.size ≤ q → A q) (hAs : ∀ q : Nat, A q → s.heap.size ≤ q) (hK : va_K D wm_cl (wm_xt k1 ++ wm_yt k2) s) {i n m rd : Nat} {t p w d g : Nat → Nat} {ls : Array Slot} (hI : wm_xi n m rd t p w d g) (hi4 : i + 4 ≤ L) (hl : lv_has ls 4 [(0, .ref b), (1, .ref (a1 0)), (2, .ref (a2 0)), (3, .int (nI i))]) (tail : ∀ (n m rd : Nat) (t p w d g : Nat → Nat) (H : Heap) (locs : List Loc), wm_xi n m rd t p w d g → va_P D wm_cl (wm_x a1 k1 n m rd t p w d g ++ wm_y a2 k2 n m t p) H → va_D A (wm_x a1 k1 n m rd t p w d g ++ wm_y a2 k2 n m t p) → va_S A s.heap H locs → W P0 l e0 room_1 s M0 #[Value.ref b] bl mt cd H locs 10 453 (lw_Z bl #[Value.ref b] s) (F0 M0 472 ls [])) {H : Heap} {locs : List Loc} (hP : va_P D wm_cl (wm_x a1 k1 n m rd t p w d g ++ wm_y a2 k2 n m t p) H) (hD : va_D A (wm_x a1 k1 n m rd t p w d g ++ wm_y a2 k2 n m t p)) (hS : va_S A s.heap H locs) : W P0 l e0 room_1 s M0 #[Value.ref b] bl mt cd H locs 10 453 (lw_Z bl #[Value.ref b] s) (F0 M0 390 ls []) := by
  have hab := hI.1
  refine lv_aload_n hx hb dL_law_390 rfl (lv_at hl 1 rfl) ?_
  refine lv_aload_n hx hb dL_law_391 rfl (lv_at hl 0 rfl) ?_
  refine lv_iload_n hx hb dL_law_392 rfl (lv_at hl 3 rfl) ?_
  refine lv_iconst (v := nI 1) hx hb dL_law_393 (by decide +kernel) ?_
  refine wm_iadd hx hb dL_law_394 ?_
  refine wm_sld hx hb hX hbl hbA hS (i := i + 1) (by omega) (by omega) dL_law_395 ?_
  refine wm_calli (wr := wm_y a2 k2 n m t p) (As := [.int (xs (i + 1))]) (rest := []) ⟨hx, hb, hml, hown, hts⟩ (mx_mismatches l D a1 k1 _ n m rd t p w d g (xs (i + 1)) hI) (cwV 1 hts (lw_V q124 q125 q126 q14 q127) rfl rfl rfl (by decide +kernel) ⟨Nat.le_of_ble_eq_true rfl, Nat.le_of_ble_eq_true rfl⟩) (va_recv hK hP (ci := 0) (q0 := 0) rfl rfl) hK hP hD hS hA [0, 1, 2, 3, 4, 5, 6] [7, 8, 9] [0, 1, 2, 3, 4, 5] rfl rfl rfl (by decide) (by decide) (by decide) rfl rfl hl.1 rfl (Nat.le_of_ble_eq_true rfl) dL_law_396 ⟨Nat.le_of_ble_eq_true rfl, Nat.le_of_ble_eq_true rfl⟩ (fun r1 u H locs hq1 hP hD hS => ?_)
  obtain ⟨rd1, w1, d1, g1⟩ := u
  obtain ⟨hq1, hI1⟩ := hq1
  have hq1 : r1 = wm_mm n m t p (xs (i + 1)) := hq1
  have hI1 : wm_xi n m rd1 t p w1 d1 g1 := hI1
  have hP : va_P D wm_cl (wm_y a2 k2 n m t p ++ wm_x a1 k1 n m rd1 t p w1 d1 g1) H := hP
  have hD : va_D A (wm_y a2 k2 n m t p ++ wm_x a1 k1 n m rd1 t p w1 d1 g1) := hD
  refine lv_aload_n hx hb dL_law_399 rfl (lv_at hl 2 rfl) ?_
  refine lv_aload_n hx hb dL_law_400 rfl (lv_at hl 0 rfl) ?_
  refine lv_iload_n hx hb dL_law_401 rfl (lv_at hl 3 rfl) ?_
  refine lv_iconst (v := nI 1) hx hb dL_law_402 (by decide +kernel) ?_
  refine wm_iadd hx hb dL_law_403 ?_
  refine wm_sld hx hb hX hbl hbA hS (i := i + 1) (by omega) (by omega) dL_law_404 ?_
  refine wm_calli (wr := wm_x a1 k1 n m rd1 t p w1 d1 g1) (As := [.int (xs (i + 1))]) (rest := [.int r1]) ⟨hx, hb, hml, hown, hts⟩ (my_mismatches l D a2 k2 _ n m t p (xs (i + 1)) hab) (cwV 1 hts (lw_V q208 q209 q210 q15 q211) rfl rfl rfl (by decide +kernel) ⟨Nat.le_of_ble_eq_true rfl, Nat.le_of_ble_eq_true rfl⟩) (va_recv hK hP (ci := 1) (q0 := 0) rfl rfl) hK hP hD hS hA [0, 1, 2] [3, 4, 5, 6, 7, 8, 9] [6, 7] rfl rfl rfl (by decide) (by decide) (by decide) rfl rfl hl.1 rfl (Nat.le_of_ble_eq_true rfl) dL_law_405 ⟨Nat.le_of_ble_eq_true rfl, Nat.le_of_ble_eq_true rfl⟩ (fun r2 u H locs hq2 hP hD hS => ?_)
  have hq2 : r2 = wm_mm n m t p (xs (i + 1)) := hq2
  have hP : va_P D wm_cl (wm_x a1 k1 n m rd1 t p w1 d1 g1 ++ wm_y a2 k2 n m t p) H := hP
  have hD : va_D A (wm_x a1 k1 n m rd1 t p w1 d1 g1 ++ wm_y a2 k2 n m t p) := hD
  have hr12 : r1 = r2 := hq1.trans hq2.symm
  refine lv_icmp_eq (tgt := 472) hx hb dL_law_408 (by decide) (fun hne => ?_) (fun hne => ?_)
  · skip
    exact tail _ _ _ _ _ _ _ _ _ _ hI1 hP hD hS
  · exact absurd hr12 hne
set_option maxHeartbeats 4000000 in
set_option maxRecDepth 100000 in
/-- the law at a call of bestShift -/
theorem wm_case9 {P0 : Program} {l : Launch} {e0 : Env} {s : State} {M0 : MethodId} {bl : List Frame} {mt : Method} {cd : Code} {D : va_G} {A : Nat → Prop} {b L : Nat} {xs : Nat → Int32} {a1 a2 : Nat → Nat} {k1 k2 : Nat → ClassId} (hL : L ≤ 256) (hx : P0.tables.exec = Jvm.exec) (hb : cd.code = code) (hr : mt.sig.returnType = ret) (hlocks : mt.locks = false) (hml : cd.maxLocals = 4) (hown : s.vm.findClass R_law = some M0.cls) (hts : ∀ w ∈ lw_all, w.before #[Value.ref b] s = true) (hX : va_X b L xs s s.heap) (hbl : b < s.heap.size) (hbA : ¬ A b) (hA : ∀ q : Nat, s.heap.size ≤ q → A q) (hAs : ∀ q : Nat, A q → s.heap.size ≤ q) (hK : va_K D wm_cl (wm_xt k1 ++ wm_yt k2) s) {i n m rd : Nat} {t p w d g : Nat → Nat} {ls : Array Slot} (hI : wm_xi n m rd t p w d g) (hi4 : i + 4 ≤ L) (hl : lv_has ls 4 [(0, .ref b), (1, .ref (a1 0)), (2, .ref (a2 0)), (3, .int (nI i))]) (tail : ∀ (n m rd : Nat) (t p w d g : Nat → Nat) (H : Heap) (locs : List Loc), wm_xi n m rd t p w d g → va_P D wm_cl (wm_x a1 k1 n m rd t p w d g ++ wm_y a2 k2 n m t p) H → va_D A (wm_x a1 k1 n m rd t p w d g ++ wm_y a2 k2 n m t p) → va_S A s.heap H locs → W P0 l e0 room_1 s M0 #[Value.ref b] bl mt cd H locs 10 453 (lw_Z bl #[Value.ref b] s) (F0 M0 472 ls [])) {H : Heap} {locs : List Loc} (hP : va_P D wm_cl (wm_x a1 k1 n m rd t p w d g ++ wm_y a2 k2 n m t p) H) (hD : va_D A (wm_x a1 k1 n m rd t p w d g ++ wm_y a2 k2 n m t p)) (hS : va_S A s.heap H locs) : W P0 l e0 room_1 s M0 #[Value.ref b] bl mt cd H locs 10 453 (lw_Z bl #[Value.ref b] s) (F0 M0 413 ls []) := by
  have hab := hI.1
  refine lv_aload_n hx hb dL_law_413 rfl (lv_at hl 1 rfl) ?_
  refine wm_calli (wr := wm_y a2 k2 n m t p) (As := []) (rest := []) ⟨hx, hb, hml, hown, hts⟩ (mx_bestShift l D a1 k1 _ n m rd t p w d g  hI) (cwV 0 hts (lw_V q132 q133 q134 q14 q135) rfl rfl rfl (by decide +kernel) ⟨Nat.le_of_ble_eq_true rfl, Nat.le_of_ble_eq_true rfl⟩) (va_recv hK hP (ci := 0) (q0 := 0) rfl rfl) hK hP hD hS hA [0, 1, 2, 3, 4, 5, 6] [7, 8, 9] [0, 1, 2, 3, 4, 5] rfl rfl rfl (by decide) (by decide) (by decide) rfl rfl hl.1 rfl (Nat.le_of_ble_eq_true rfl) dL_law_414 ⟨Nat.le_of_ble_eq_true rfl, Nat.le_of_ble_eq_true rfl⟩ (fun r1 u H locs hq1 hP hD hS => ?_)
  obtain ⟨rd1, w1, d1, g1⟩ := u
  obtain ⟨hq1, hI1⟩ := hq1
  have hq1 : r1 = wm_be n m t p := hq1
  have hI1 : wm_xi n m rd1 t p w1 d1 g1 := hI1
  have hP : va_P D wm_cl (wm_y a2 k2 n m t p ++ wm_x a1 k1 n m rd1 t p w1 d1 g1) H := hP
  have hD : va_D A (wm_y a2 k2 n m t p ++ wm_x a1 k1 n m rd1 t p w1 d1 g1) := hD
  refine lv_aload_n hx hb dL_law_417 rfl (lv_at hl 2 rfl) ?_
  refine wm_calli (wr := wm_x a1 k1 n m rd1 t p w1 d1 g1) (As := []) (rest := [.int r1]) ⟨hx, hb, hml, hown, hts⟩ (my_bestShift l D a2 k2 _ n m t p  hab) (cwV 0 hts (lw_V q212 q213 q214 q15 q215) rfl rfl rfl (by decide +kernel) ⟨Nat.le_of_ble_eq_true rfl, Nat.le_of_ble_eq_true rfl⟩) (va_recv hK hP (ci := 1) (q0 := 0) rfl rfl) hK hP hD hS hA [0, 1, 2] [3, 4, 5, 6, 7, 8, 9] [6, 7] rfl rfl rfl (by decide) (by decide) (by decide) rfl rfl hl.1 rfl (Nat.le_of_ble_eq_true rfl) dL_law_418 ⟨Nat.le_of_ble_eq_true rfl, Nat.le_of_ble_eq_true rfl⟩ (fun r2 u H locs hq2 hP hD hS => ?_)
  have hq2 : r2 = wm_be n m t p := hq2
  have hP : va_P D wm_cl (wm_x a1 k1 n m rd1 t p w1 d1 g1 ++ wm_y a2 k2 n m t p) H := hP
  have hD : va_D A (wm_x a1 k1 n m rd1 t p w1 d1 g1 ++ wm_y a2 k2 n m t p) := hD
  have hr12 : r1 = r2 := hq1.trans hq2.symm
  refine lv_icmp_eq (tgt := 472) hx hb dL_law_421 (by decide) (fun hne => ?_) (fun hne => ?_)
  · skip
    exact tail _ _ _ _ _ _ _ _ _ _ hI1 hP hD hS
  · exact absurd hr12 hne
set_option maxHeartbeats 4000000 in
set_option maxRecDepth 100000 in
/-- the law at a call of within -/
theorem wm_case10 {P0 : Program} {l : Launch} {e0 : Env} {s : State} {M0 : MethodId} {bl : List Frame} {mt : Method} {cd : Code} {D : va_G} {A : Nat → Prop} {b L : Nat} {xs : Nat → Int32} {a1 a2 : Nat → Nat} {k1 k2 : Nat → ClassId} (hL : L ≤ 256) (hx : P0.tables.exec = Jvm.exec) (hb : cd.code = code) (hr : mt.sig.returnType = ret) (hlocks : mt.locks = false) (hml : cd.maxLocals = 4) (hown : s.vm.findClass R_law = some M0.cls) (hts : ∀ w ∈ lw_all, w.before #[Value.ref b] s = true) (hX : va_X b L xs s s.heap) (hbl : b < s.heap.size) (hbA : ¬ A b) (hA : ∀ q : Nat, s.heap.size ≤ q → A q) (hAs : ∀ q : Nat, A q → s.heap.size ≤ q) (hK : va_K D wm_cl (wm_xt k1 ++ wm_yt k2) s) {i n m rd : Nat} {t p w d g : Nat → Nat} {ls : Array Slot} (hI : wm_xi n m rd t p w d g) (hi4 : i + 4 ≤ L) (hl : lv_has ls 4 [(0, .ref b), (1, .ref (a1 0)), (2, .ref (a2 0)), (3, .int (nI i))]) (tail : ∀ (n m rd : Nat) (t p w d g : Nat → Nat) (H : Heap) (locs : List Loc), wm_xi n m rd t p w d g → va_P D wm_cl (wm_x a1 k1 n m rd t p w d g ++ wm_y a2 k2 n m t p) H → va_D A (wm_x a1 k1 n m rd t p w d g ++ wm_y a2 k2 n m t p) → va_S A s.heap H locs → W P0 l e0 room_1 s M0 #[Value.ref b] bl mt cd H locs 10 453 (lw_Z bl #[Value.ref b] s) (F0 M0 472 ls [])) {H : Heap} {locs : List Loc} (hP : va_P D wm_cl (wm_x a1 k1 n m rd t p w d g ++ wm_y a2 k2 n m t p) H) (hD : va_D A (wm_x a1 k1 n m rd t p w d g ++ wm_y a2 k2 n m t p)) (hS : va_S A s.heap H locs) : W P0 l e0 room_1 s M0 #[Value.ref b] bl mt cd H locs 10 453 (lw_Z bl #[Value.ref b] s) (F0 M0 426 ls []) := by
  have hab := hI.1
  refine lv_aload_n hx hb dL_law_426 rfl (lv_at hl 1 rfl) ?_
  refine lv_aload_n hx hb dL_law_427 rfl (lv_at hl 0 rfl) ?_
  refine lv_iload_n hx hb dL_law_428 rfl (lv_at hl 3 rfl) ?_
  refine lv_iconst (v := nI 1) hx hb dL_law_429 (by decide +kernel) ?_
  refine wm_iadd hx hb dL_law_430 ?_
  refine wm_sld hx hb hX hbl hbA hS (i := i + 1) (by omega) (by omega) dL_law_431 ?_
  refine wm_calli (wr := wm_y a2 k2 n m t p) (As := [.int (xs (i + 1))]) (rest := []) ⟨hx, hb, hml, hown, hts⟩ (mx_within l D a1 k1 _ n m rd t p w d g (xs (i + 1)) hI) (cwV 1 hts (lw_V q136 q137 q138 q14 q139) rfl rfl rfl (by decide +kernel) ⟨Nat.le_of_ble_eq_true rfl, Nat.le_of_ble_eq_true rfl⟩) (va_recv hK hP (ci := 0) (q0 := 0) rfl rfl) hK hP hD hS hA [0, 1, 2, 3, 4, 5, 6] [7, 8, 9] [0, 1, 2, 3, 4, 5] rfl rfl rfl (by decide) (by decide) (by decide) rfl rfl hl.1 rfl (Nat.le_of_ble_eq_true rfl) dL_law_432 ⟨Nat.le_of_ble_eq_true rfl, Nat.le_of_ble_eq_true rfl⟩ (fun r1 u H locs hq1 hP hD hS => ?_)
  obtain ⟨rd1, w1, d1, g1⟩ := u
  obtain ⟨hq1, hI1⟩ := hq1
  have hq1 : r1 = wm_wi n m t p (xs (i + 1)) := hq1
  have hI1 : wm_xi n m rd1 t p w1 d1 g1 := hI1
  have hP : va_P D wm_cl (wm_y a2 k2 n m t p ++ wm_x a1 k1 n m rd1 t p w1 d1 g1) H := hP
  have hD : va_D A (wm_y a2 k2 n m t p ++ wm_x a1 k1 n m rd1 t p w1 d1 g1) := hD
  refine lv_aload_n hx hb dL_law_435 rfl (lv_at hl 2 rfl) ?_
  refine lv_aload_n hx hb dL_law_436 rfl (lv_at hl 0 rfl) ?_
  refine lv_iload_n hx hb dL_law_437 rfl (lv_at hl 3 rfl) ?_
  refine lv_iconst (v := nI 1) hx hb dL_law_438 (by decide +kernel) ?_
  refine wm_iadd hx hb dL_law_439 ?_
  refine wm_sld hx hb hX hbl hbA hS (i := i + 1) (by omega) (by omega) dL_law_440 ?_
  refine wm_calli (wr := wm_x a1 k1 n m rd1 t p w1 d1 g1) (As := [.int (xs (i + 1))]) (rest := [.int r1]) ⟨hx, hb, hml, hown, hts⟩ (my_within l D a2 k2 _ n m t p (xs (i + 1)) hab) (cwV 1 hts (lw_V q216 q217 q218 q15 q219) rfl rfl rfl (by decide +kernel) ⟨Nat.le_of_ble_eq_true rfl, Nat.le_of_ble_eq_true rfl⟩) (va_recv hK hP (ci := 1) (q0 := 0) rfl rfl) hK hP hD hS hA [0, 1, 2] [3, 4, 5, 6, 7, 8, 9] [6, 7] rfl rfl rfl (by decide) (by decide) (by decide) rfl rfl hl.1 rfl (Nat.le_of_ble_eq_true rfl) dL_law_441 ⟨Nat.le_of_ble_eq_true rfl, Nat.le_of_ble_eq_true rfl⟩ (fun r2 u H locs hq2 hP hD hS => ?_)
  have hq2 : r2 = wm_wi n m t p (xs (i + 1)) := hq2
  have hP : va_P D wm_cl (wm_x a1 k1 n m rd1 t p w1 d1 g1 ++ wm_y a2 k2 n m t p) H := hP
  have hD : va_D A (wm_x a1 k1 n m rd1 t p w1 d1 g1 ++ wm_y a2 k2 n m t p) := hD
  have hr12 : r1 = r2 := hq1.trans hq2.symm
  refine lv_icmp_eq (tgt := 472) hx hb dL_law_444 (by decide) (fun hne => ?_) (fun hne => ?_)
  · skip
    exact tail _ _ _ _ _ _ _ _ _ _ hI1 hP hD hS
  · exact absurd hr12 hne
set_option maxHeartbeats 4000000 in
set_option maxRecDepth 100000 in
/-- the law at a call of turnedMismatches -/
theorem wm_case11 {P0 : Program} {l : Launch} {e0 : Env} {s : State} {M0 : MethodId} {bl : List Frame} {mt : Method} {cd : Code} {D : va_G} {A : Nat → Prop} {b L : Nat} {xs : Nat → Int32} {a1 a2 : Nat → Nat} {k1 k2 : Nat → ClassId} (hL : L ≤ 256) (hx : P0.tables.exec = Jvm.exec) (hb : cd.code = code) (hr : mt.sig.returnType = ret) (hlocks : mt.locks = false) (hml : cd.maxLocals = 4) (hown : s.vm.findClass R_law = some M0.cls) (hts : ∀ w ∈ lw_all, w.before #[Value.ref b] s = true) (hX : va_X b L xs s s.heap) (hbl : b < s.heap.size) (hbA : ¬ A b) (hA : ∀ q : Nat, s.heap.size ≤ q → A q) (hAs : ∀ q : Nat, A q → s.heap.size ≤ q) (hK : va_K D wm_cl (wm_xt k1 ++ wm_yt k2) s) {i n m rd : Nat} {t p w d g : Nat → Nat} {ls : Array Slot} (hI : wm_xi n m rd t p w d g) (hi4 : i + 4 ≤ L) (hl : lv_has ls 4 [(0, .ref b), (1, .ref (a1 0)), (2, .ref (a2 0)), (3, .int (nI i))]) (tail : ∀ (n m rd : Nat) (t p w d g : Nat → Nat) (H : Heap) (locs : List Loc), wm_xi n m rd t p w d g → va_P D wm_cl (wm_x a1 k1 n m rd t p w d g ++ wm_y a2 k2 n m t p) H → va_D A (wm_x a1 k1 n m rd t p w d g ++ wm_y a2 k2 n m t p) → va_S A s.heap H locs → W P0 l e0 room_1 s M0 #[Value.ref b] bl mt cd H locs 10 453 (lw_Z bl #[Value.ref b] s) (F0 M0 472 ls [])) {H : Heap} {locs : List Loc} (hP : va_P D wm_cl (wm_x a1 k1 n m rd t p w d g ++ wm_y a2 k2 n m t p) H) (hD : va_D A (wm_x a1 k1 n m rd t p w d g ++ wm_y a2 k2 n m t p)) (hS : va_S A s.heap H locs) : W P0 l e0 room_1 s M0 #[Value.ref b] bl mt cd H locs 10 453 (lw_Z bl #[Value.ref b] s) (F0 M0 449 ls []) := by
  have hab := hI.1
  refine lv_aload_n hx hb dL_law_449 rfl (lv_at hl 1 rfl) ?_
  refine lv_aload_n hx hb dL_law_450 rfl (lv_at hl 0 rfl) ?_
  refine lv_iload_n hx hb dL_law_451 rfl (lv_at hl 3 rfl) ?_
  refine lv_iconst (v := nI 1) hx hb dL_law_452 (by decide +kernel) ?_
  refine wm_iadd hx hb dL_law_453 ?_
  refine wm_sld hx hb hX hbl hbA hS (i := i + 1) (by omega) (by omega) dL_law_454 ?_
  refine wm_calli (wr := wm_y a2 k2 n m t p) (As := [.int (xs (i + 1))]) (rest := []) ⟨hx, hb, hml, hown, hts⟩ (mx_turnedMismatches l D a1 k1 _ n m rd t p w d g (xs (i + 1)) hI) (cwV 1 hts (lw_V q140 q141 q142 q14 q143) rfl rfl rfl (by decide +kernel) ⟨Nat.le_of_ble_eq_true rfl, Nat.le_of_ble_eq_true rfl⟩) (va_recv hK hP (ci := 0) (q0 := 0) rfl rfl) hK hP hD hS hA [0, 1, 2, 3, 4, 5, 6] [7, 8, 9] [0, 1, 2, 3, 4, 5] rfl rfl rfl (by decide) (by decide) (by decide) rfl rfl hl.1 rfl (Nat.le_of_ble_eq_true rfl) dL_law_455 ⟨Nat.le_of_ble_eq_true rfl, Nat.le_of_ble_eq_true rfl⟩ (fun r1 u H locs hq1 hP hD hS => ?_)
  obtain ⟨rd1, w1, d1, g1⟩ := u
  obtain ⟨hq1, hI1⟩ := hq1
  have hq1 : r1 = wm_tm n m t p (xs (i + 1)) := hq1
  have hI1 : wm_xi n m rd1 t p w1 d1 g1 := hI1
  have hP : va_P D wm_cl (wm_y a2 k2 n m t p ++ wm_x a1 k1 n m rd1 t p w1 d1 g1) H := hP
  have hD : va_D A (wm_y a2 k2 n m t p ++ wm_x a1 k1 n m rd1 t p w1 d1 g1) := hD
  refine lv_aload_n hx hb dL_law_458 rfl (lv_at hl 2 rfl) ?_
  refine lv_aload_n hx hb dL_law_459 rfl (lv_at hl 0 rfl) ?_
  refine lv_iload_n hx hb dL_law_460 rfl (lv_at hl 3 rfl) ?_
  refine lv_iconst (v := nI 1) hx hb dL_law_461 (by decide +kernel) ?_
  refine wm_iadd hx hb dL_law_462 ?_
  refine wm_sld hx hb hX hbl hbA hS (i := i + 1) (by omega) (by omega) dL_law_463 ?_
  refine wm_calli (wr := wm_x a1 k1 n m rd1 t p w1 d1 g1) (As := [.int (xs (i + 1))]) (rest := [.int r1]) ⟨hx, hb, hml, hown, hts⟩ (my_turnedMismatches l D a2 k2 _ n m t p (xs (i + 1)) hab) (cwV 1 hts (lw_V q220 q221 q222 q15 q223) rfl rfl rfl (by decide +kernel) ⟨Nat.le_of_ble_eq_true rfl, Nat.le_of_ble_eq_true rfl⟩) (va_recv hK hP (ci := 1) (q0 := 0) rfl rfl) hK hP hD hS hA [0, 1, 2] [3, 4, 5, 6, 7, 8, 9] [6, 7] rfl rfl rfl (by decide) (by decide) (by decide) rfl rfl hl.1 rfl (Nat.le_of_ble_eq_true rfl) dL_law_464 ⟨Nat.le_of_ble_eq_true rfl, Nat.le_of_ble_eq_true rfl⟩ (fun r2 u H locs hq2 hP hD hS => ?_)
  have hq2 : r2 = wm_tm n m t p (xs (i + 1)) := hq2
  have hP : va_P D wm_cl (wm_x a1 k1 n m rd1 t p w1 d1 g1 ++ wm_y a2 k2 n m t p) H := hP
  have hD : va_D A (wm_x a1 k1 n m rd1 t p w1 d1 g1 ++ wm_y a2 k2 n m t p) := hD
  have hr12 : r1 = r2 := hq1.trans hq2.symm
  refine lv_icmp_eq (tgt := 472) hx hb dL_law_467 (by decide) (fun hne => ?_) (fun hne => ?_)
  · skip
    exact tail _ _ _ _ _ _ _ _ _ _ hI1 hP hD hS
  · exact absurd hr12 hne
end
section
set_option maxHeartbeats 4000000 in
set_option maxRecDepth 100000 in
/-- the law's loop at its head -/
theorem wm_loop {P0 : Program} {l : Launch} {e0 : Env} {s : State} {M0 : MethodId} {bl : List Frame} {mt : Method} {cd : Code} {D : va_G} {A : Nat → Prop} {b L : Nat} {xs : Nat → Int32} {a1 a2 : Nat → Nat} {k1 k2 : Nat → ClassId} (hL : L ≤ 256) (hx : P0.tables.exec = Jvm.exec) (hb : cd.code = code) (hr : mt.sig.returnType = ret) (hlocks : mt.locks = false) (hml : cd.maxLocals = 4) (hown : s.vm.findClass R_law = some M0.cls) (hts : ∀ w ∈ lw_all, w.before #[Value.ref b] s = true) (hX : va_X b L xs s s.heap) (hbl : b < s.heap.size) (hbA : ¬ A b) (hA : ∀ q : Nat, s.heap.size ≤ q → A q) (hAs : ∀ q : Nat, A q → s.heap.size ≤ q) (hK : va_K D wm_cl (wm_xt k1 ++ wm_yt k2) s) : ∀ (r i n m rd : Nat) (t p w d g : Nat → Nat), L < i + 4 + 4 * r → i ≤ L + 4 → wm_xi n m rd t p w d g → ∀ (H : Heap) (locs : List Loc) (ls : Array Slot), va_P D wm_cl (wm_x a1 k1 n m rd t p w d g ++ wm_y a2 k2 n m t p) H → va_D A (wm_x a1 k1 n m rd t p w d g ++ wm_y a2 k2 n m t p) → va_S A s.heap H locs → lv_has ls 4 [(0, .ref b), (1, .ref (a1 0)), (2, .ref (a2 0)), (3, .int (nI i))] → W P0 l e0 room_1 s M0 #[Value.ref b] bl mt cd H locs 10 453 (lw_Z bl #[Value.ref b] s) (F0 M0 18 ls []) := by
  intro r
  induction r with
  | zero =>
    intro i n m rd t p w d g hr4 hiL hI H locs ls hP hD hS hl
    refine lv_iload_n hx hb dL_law_18 rfl (lv_at hl 3 rfl) ?_
    refine lv_aload_n hx hb dL_law_19 rfl (lv_at hl 0 rfl) ?_
    refine va_slen hx hb hX hbl hbA hS dL_law_20 ?_
    refine wm_top (y := nI L) rfl ?_
    refine lv_iconst (v := nI 4) hx hb dL_law_21 (by decide +kernel) ?_
    refine lv_isub hx hb dL_law_22 ?_
    refine lv_icmp_gt (tgt := 478) hx hb dL_law_23 (by decide) (fun hc => ?_) (fun hc => ?_)
    · skip
      refine va_forget (fun q hq => hAs _ (hS.2.2 q hq)) ?_
      refine W.widen (k := 600000) (n := 7290000) (Nat.le_of_ble_eq_true rfl) (Nat.le_of_ble_eq_true rfl) ?_
      refine lv_iconst (v := 1) hx hb dL_law_478 (by decide +kernel) ?_
      exact lw_ret hx hb hr hlocks dL_law_479
    · exact absurd ((wm_four (by omega) (by omega)).mpr (by omega)) hc
  | succ r ih =>
    intro i n m rd t p w d g hr4 hiL hI H locs ls hP hD hS hl
    refine lv_iload_n hx hb dL_law_18 rfl (lv_at hl 3 rfl) ?_
    refine lv_aload_n hx hb dL_law_19 rfl (lv_at hl 0 rfl) ?_
    refine va_slen hx hb hX hbl hbA hS dL_law_20 ?_
    refine wm_top (y := nI L) rfl ?_
    refine lv_iconst (v := nI 4) hx hb dL_law_21 (by decide +kernel) ?_
    refine lv_isub hx hb dL_law_22 ?_
    refine lv_icmp_gt (tgt := 478) hx hb dL_law_23 (by decide) (fun hc => ?_) (fun hc => ?_)
    · skip
      refine va_forget (fun q hq => hAs _ (hS.2.2 q hq)) ?_
      refine W.widen (k := 600000) (n := 7290000) (Nat.le_of_ble_eq_true rfl) (Nat.le_of_ble_eq_true rfl) ?_
      refine lv_iconst (v := 1) hx hb dL_law_478 (by decide +kernel) ?_
      exact lw_ret hx hb hr hlocks dL_law_479
    · skip
      have hi4 : i + 4 ≤ L := by
        rcases Nat.lt_or_ge L (i + 4) with h | h
        · exact absurd ((wm_four (by omega) (by omega)).mpr h) hc
        · exact h
      have tail : ∀ (n m rd : Nat) (t p w d g : Nat → Nat) (H : Heap) (locs : List Loc), wm_xi n m rd t p w d g → va_P D wm_cl (wm_x a1 k1 n m rd t p w d g ++ wm_y a2 k2 n m t p) H → va_D A (wm_x a1 k1 n m rd t p w d g ++ wm_y a2 k2 n m t p) → va_S A s.heap H locs → W P0 l e0 room_1 s M0 #[Value.ref b] bl mt cd H locs 10 453 (lw_Z bl #[Value.ref b] s) (F0 M0 472 ls []) := by
        intro n m rd t p w d g H locs hI hP hD hS
        refine lv_iinc (v := nI (i + 4)) (lv' := [(3, .int (nI (i + 4))), (0, .ref b), (1, .ref (a1 0)), (2, .ref (a2 0))]) hx hb dL_law_472 hl (k := 3) rfl (wm_inc4 i) (by decide) rfl (fun ls hl => ?_)
        refine lv_goto (tgt := 18) hx hb dL_law_475 (by decide) ?_
        exact ih (i + 4) n m rd t p w d g (by omega) (by omega) hI _ _ _ hP hD hS (lv_sub hl [1, 2, 3, 0] rfl)
      refine lv_aload_n hx hb dL_law_26 rfl (lv_at hl 0 rfl) ?_
      refine lv_iload_n hx hb dL_law_27 rfl (lv_at hl 3 rfl) ?_
      refine wm_sld hx hb hX hbl hbA hS (i := i) (by omega) (by omega) dL_law_28 ?_
      refine lv_bipush (v := nI 15) hx hb dL_law_29 (by decide +kernel) ?_
      refine lv_iand hx hb dL_law_31 ?_
      obtain ⟨j, hj, ej⟩ := pk_andE (xs i) (m := nI 15) 4 (by decide +kernel)
      refine wm_top (y := nI j) ej ?_
      have hj : j < 16 := hj
      rcases Nat.decEq j 0 with hj0 | hj0
      rotate_left
      · subst hj0
        refine lv_tableIn (off := 64) (tgt := 96) hx hb dL_law_32 (by decide +kernel) (by decide +kernel) (by decide +kernel) (by decide) ?_
        exact wm_case0 hL hx hb hr hlocks hml hown hts hX hbl hbA hA hAs hK hI hi4 hl tail hP hD hS
      rcases Nat.decEq j 1 with hj1 | hj1
      rotate_left
      · subst hj1
        refine lv_tableIn (off := 113) (tgt := 145) hx hb dL_law_32 (by decide +kernel) (by decide +kernel) (by decide +kernel) (by decide) ?_
        exact wm_case1 hL hx hb hr hlocks hml hown hts hX hbl hbA hA hAs hK hI hi4 hl tail hP hD hS
      rcases Nat.decEq j 2 with hj2 | hj2
      rotate_left
      · subst hj2
        refine lv_tableIn (off := 172) (tgt := 204) hx hb dL_law_32 (by decide +kernel) (by decide +kernel) (by decide +kernel) (by decide) ?_
        exact wm_case2 hL hx hb hr hlocks hml hown hts hX hbl hbA hA hAs hK hI hi4 hl tail hP hD hS
      rcases Nat.decEq j 3 with hj3 | hj3
      rotate_left
      · subst hj3
        refine lv_tableIn (off := 211) (tgt := 243) hx hb dL_law_32 (by decide +kernel) (by decide +kernel) (by decide +kernel) (by decide) ?_
        exact wm_case3 hL hx hb hr hlocks hml hown hts hX hbl hbA hA hAs hK hI hi4 hl tail hP hD hS
      rcases Nat.decEq j 4 with hj4 | hj4
      rotate_left
      · subst hj4
        refine lv_tableIn (off := 260) (tgt := 292) hx hb dL_law_32 (by decide +kernel) (by decide +kernel) (by decide +kernel) (by decide) ?_
        exact wm_case4 hL hx hb hr hlocks hml hown hts hX hbl hbA hA hAs hK hI hi4 hl tail hP hD hS
      rcases Nat.decEq j 5 with hj5 | hj5
      rotate_left
      · subst hj5
        refine lv_tableIn (off := 299) (tgt := 331) hx hb dL_law_32 (by decide +kernel) (by decide +kernel) (by decide +kernel) (by decide) ?_
        exact wm_case5 hL hx hb hr hlocks hml hown hts hX hbl hbA hA hAs hK hI hi4 hl tail hP hD hS
      rcases Nat.decEq j 6 with hj6 | hj6
      rotate_left
      · subst hj6
        refine lv_tableIn (off := 322) (tgt := 354) hx hb dL_law_32 (by decide +kernel) (by decide +kernel) (by decide +kernel) (by decide) ?_
        exact wm_case6 hL hx hb hr hlocks hml hown hts hX hbl hbA hA hAs hK hI hi4 hl tail hP hD hS
      rcases Nat.decEq j 7 with hj7 | hj7
      rotate_left
      · subst hj7
        refine lv_tableIn (off := 335) (tgt := 367) hx hb dL_law_32 (by decide +kernel) (by decide +kernel) (by decide +kernel) (by decide) ?_
        exact wm_case7 hL hx hb hr hlocks hml hown hts hX hbl hbA hA hAs hK hI hi4 hl tail hP hD hS
      rcases Nat.decEq j 8 with hj8 | hj8
      rotate_left
      · subst hj8
        refine lv_tableIn (off := 358) (tgt := 390) hx hb dL_law_32 (by decide +kernel) (by decide +kernel) (by decide +kernel) (by decide) ?_
        exact wm_case8 hL hx hb hr hlocks hml hown hts hX hbl hbA hA hAs hK hI hi4 hl tail hP hD hS
      rcases Nat.decEq j 9 with hj9 | hj9
      rotate_left
      · subst hj9
        refine lv_tableIn (off := 381) (tgt := 413) hx hb dL_law_32 (by decide +kernel) (by decide +kernel) (by decide +kernel) (by decide) ?_
        exact wm_case9 hL hx hb hr hlocks hml hown hts hX hbl hbA hA hAs hK hI hi4 hl tail hP hD hS
      rcases Nat.decEq j 10 with hj10 | hj10
      rotate_left
      · subst hj10
        refine lv_tableIn (off := 394) (tgt := 426) hx hb dL_law_32 (by decide +kernel) (by decide +kernel) (by decide +kernel) (by decide) ?_
        exact wm_case10 hL hx hb hr hlocks hml hown hts hX hbl hbA hA hAs hK hI hi4 hl tail hP hD hS
      rcases Nat.decEq j 11 with hj11 | hj11
      rotate_left
      · subst hj11
        refine lv_tableIn (off := 417) (tgt := 449) hx hb dL_law_32 (by decide +kernel) (by decide +kernel) (by decide +kernel) (by decide) ?_
        exact wm_case11 hL hx hb hr hlocks hml hown hts hX hbl hbA hA hAs hK hI hi4 hl tail hP hD hS
      refine lv_tableOut (tgt := 472) hx hb dL_law_32 (Or.inr (by rw [nI_toInt (by omega)]; omega)) (by decide) ?_
      exact tail n m rd t p w d g _ _ hI hP hD hS
end
section
set_option maxHeartbeats 4000000 in
set_option maxRecDepth 100000 in
/-- from the entry, for every script of at most 256 ints, the law comes to its end with true -/
theorem whole_start {p : Program} {e : Env} {s : State} {m : MethodId} {below : List Frame} {meth : Method} {c : Code} (l : Launch) {b L : Nat} {xs : Nat → Int32} (hL : L ≤ 256) (C0 : lw_At p s m meth c b L xs) : W p l e room_1 s m #[Value.ref b] below meth c s.heap [] 0 0 (lw_Z below #[Value.ref b] s) (entryFrame m ([Value.ref b] : List Value).toArray 4) := by
  obtain ⟨hx, hb, hr, hml, hown, hts0, hX, hbl, hlocks, hgv⟩ := C0
  have hts : ∀ w ∈ lw_all, w.before #[Value.ref b] s = true := fun w h => hts0 w (lw_all_tbl h)
  obtain ⟨c0_, iS0, hKn0⟩ := u_known (C := RX0) (T := TX0) (N := 9) (n := 9) hts in_X0 (hts _ q17)
  obtain ⟨c1_, iS1, hKn1⟩ := u_known (C := RX1) (T := TX1) (N := 4) (n := 4) hts in_X1 (hts _ q145)
  obtain ⟨D, hDe⟩ : ∃ D : va_G, D = (fun k => if k = 0 then c0_ else c1_, fun k => if k = 0 then iS0 else iS1) := ⟨_, rfl⟩
  have hK : va_K D wm_cl [] s := by
    refine ⟨?_, fun k q hk => by simp at hk⟩
    intro k q hq
    rw [hDe]
    match k, hq with
    | 0, hq => cases hq; exact hKn0
    | 1, hq => cases hq; exact hKn1
    | k + 2, hq => simp [wm_cl] at hq
  obtain ⟨A, hAe⟩ : ∃ A : Nat → Prop, A = fun q => s.heap.size ≤ q := ⟨_, rfl⟩
  have hA : ∀ q : Nat, s.heap.size ≤ q → A q := fun q h => by rw [hAe]; exact h
  have hAs : ∀ q : Nat, A q → s.heap.size ≤ q := fun q h => by rw [hAe] at h; exact h
  have hbA : ¬ A b := fun h => absurd (hAs b h) (by omega)
  have hP : va_P D wm_cl [] s.heap := fun k q hk => by simp at hk
  have hD : va_D A [] := ⟨fun i j x y hi _ _ => by simp at hi, fun k q hk => by simp at hk⟩
  have hS : va_S A s.heap s.heap [] := va_S.rf
  have hl := lv_entry ([Value.ref b]) (n := 4) (Nat.le_of_ble_eq_true rfl)
  rw [lg_entry_eq]
  generalize (lg_sl ([Value.ref b]) ++ List.replicate (4 - (lg_sl ([Value.ref b])).length) Slot.unset).toArray = ls at hl ⊢
  have hl : lv_has ls 4 [(0, .ref b)] := hl
  refine va_new (ci := 0) (fs := [.int (nI 0), .int (nI 0), .null, .null, .null, .null, .int (nI 0), .null, .null]) (C := RX0) (T := TX0) (N := 9) hx hb hts in_X0 tyX0 tyX0_ok hown (hts _ q16) (hts _ q17) (hts _ q14) hK hP hD hS hA rfl (fun j hj => by rcases (show j = 0 ∨ j = 1 ∨ j = 2 ∨ j = 3 ∨ j = 4 ∨ j = 5 ∨ j = 6 ∨ j = 7 ∨ j = 8 by omega) with rfl | rfl | rfl | rfl | rfl | rfl | rfl | rfl | rfl <;> rfl) (Nat.le_of_ble_eq_true rfl) (Nat.le_of_ble_eq_true rfl) dL_law_0 (fun x1 H hP hD hS => ?_)
  refine W.widen (k := 1) (n := 9) (Nat.le_refl _) (Nat.le_refl _) ?_
  have hP : va_P D wm_cl [(x1, .inr (0, [.int (nI 0), .int (nI 0), .null, .null, .null, .null, .int (nI 0), .null, .null]))] H := hP
  have hD : va_D A [(x1, .inr (0, [.int (nI 0), .int (nI 0), .null, .null, .null, .null, .int (nI 0), .null, .null]))] := hD
  refine lv_dup hx hb dL_law_3 rfl ?_
  have hFc := va_free (wc := [(x1, .inr (0, [.int (nI 0), .int (nI 0), .null, .null, .null, .null, .int (nI 0), .null, .null]))]) hD hS hA [0] rfl
  refine va_callv (va_runI (As := []) (rest := [.ref x1]) ⟨hx, hb, hml, hown, hts⟩ (mx_init l D x1 H.size) (cwI 0 hts (lw_meth q20) rfl rfl rfl (hts _ q14) (hts _ q18) (hts _ q19) rfl (by decide +kernel) ⟨Nat.le_of_ble_eq_true rfl, Nat.le_of_ble_eq_true rfl⟩) ⟨fun a U g mk q => by obtain ⟨q0, q1, qP, qK, qD⟩ := q; exact ⟨q0, q1, qP, va_K.moved (u := U) (U := U.calling g mk a) (Vm.Alike.refl U.vm) qK, qD⟩, fun U hU hW => ⟨rfl, by rw [hU], by rw [hU]; exact hP, va_K.moved hW.alike hK, hD.weaken (fun _ _ _ _ => trivial)⟩⟩ rfl rfl hl.1 rfl (lv_room (Nat.le_of_ble_eq_true rfl)) dL_law_4 ⟨Nat.le_of_ble_eq_true rfl, Nat.le_of_ble_eq_true rfl⟩) hS (fun q _ h => hFc q h) hFc (fun u t H1 locs ht hvm hw1 hB hz1 hk1 hS => ?_)
  obtain ⟨a1, k1⟩ := u
  have hw1 : a1 0 = x1 := hw1
  obtain ⟨hP1, hK1, hD1⟩ := hB
  rw [ht] at hP1
  have hK1 := va_K.moved hvm.symm hK1
  have hK1 : va_K D wm_cl (wm_xt k1) s := hK1
  obtain ⟨hP, hD⟩ := va_join (wr := []) (w1 := wm_x a1 k1 0 0 0 (fun _ => 0) (fun _ => 0) (fun _ => 0) (fun _ => 0) (fun _ => 0)) hP hD [0] [] rfl rfl (by decide) (by decide) hk1 hFc hP1 hD1
  have hP : va_P D wm_cl (wm_x a1 k1 0 0 0 (fun _ => 0) (fun _ => 0) (fun _ => 0) (fun _ => 0) (fun _ => 0)) H1 := hP
  have hD : va_D A (wm_x a1 k1 0 0 0 (fun _ => 0) (fun _ => 0) (fun _ => 0) (fun _ => 0) (fun _ => 0)) := hD
  rw [← hw1]
  refine W.widen (k := 7) (n := 397) (Nat.le_refl _) (Nat.le_refl _) ?_
  refine lv_astore_n (lv' := [(1, .ref (a1 0)), (0, .ref b)]) hx hb dL_law_7 rfl hl (by decide) rfl (fun ls hl => ?_)
  refine va_new (ci := 1) (fs := [.int (nI 0), .int (nI 0), .null, .null]) (C := RX1) (T := TX1) (N := 4) hx hb hts in_X1 tyX1 tyX1_ok hown (hts _ q144) (hts _ q145) (hts _ q15) hK1 hP hD hS hA rfl (fun j hj => by rcases (show j = 0 ∨ j = 1 ∨ j = 2 ∨ j = 3 by omega) with rfl | rfl | rfl | rfl <;> rfl) (Nat.le_of_ble_eq_true rfl) (Nat.le_of_ble_eq_true rfl) dL_law_8 (fun x2 H hP hD hS => ?_)
  refine W.widen (k := 8) (n := 401) (Nat.le_refl _) (Nat.le_refl _) ?_
  have hP : va_P D wm_cl (wm_x a1 k1 0 0 0 (fun _ => 0) (fun _ => 0) (fun _ => 0) (fun _ => 0) (fun _ => 0) ++ [(x2, .inr (1, [.int (nI 0), .int (nI 0), .null, .null]))]) H := hP
  have hD : va_D A (wm_x a1 k1 0 0 0 (fun _ => 0) (fun _ => 0) (fun _ => 0) (fun _ => 0) (fun _ => 0) ++ [(x2, .inr (1, [.int (nI 0), .int (nI 0), .null, .null]))]) := hD
  refine lv_dup hx hb dL_law_11 rfl ?_
  have hPc := hP.sub (ws' := [(x2, .inr (1, [.int (nI 0), .int (nI 0), .null, .null]))]) [7] rfl
  have hDc := hD.sub (ws' := [(x2, .inr (1, [.int (nI 0), .int (nI 0), .null, .null]))]) [7] (by decide) rfl
  have hFc := va_free (wc := [(x2, .inr (1, [.int (nI 0), .int (nI 0), .null, .null]))]) hD hS hA [7] rfl
  refine va_callv (va_runI (As := []) (rest := [.ref x2]) ⟨hx, hb, hml, hown, hts⟩ (my_init l D x2 H.size) (cwI 0 hts (lw_meth q148) rfl rfl rfl (hts _ q15) (hts _ q146) (hts _ q147) rfl (by decide +kernel) ⟨Nat.le_of_ble_eq_true rfl, Nat.le_of_ble_eq_true rfl⟩) ⟨fun a U g mk q => by obtain ⟨q0, q1, qP, qK, qD⟩ := q; exact ⟨q0, q1, qP, va_K.moved (u := U) (U := U.calling g mk a) (Vm.Alike.refl U.vm) qK, qD⟩, fun U hU hW => ⟨rfl, by rw [hU], by rw [hU]; exact hPc, va_K.moved hW.alike hK, hDc.weaken (fun _ _ _ _ => trivial)⟩⟩ rfl rfl hl.1 rfl (lv_room (Nat.le_of_ble_eq_true rfl)) dL_law_12 ⟨Nat.le_of_ble_eq_true rfl, Nat.le_of_ble_eq_true rfl⟩) hS (fun q _ h => hFc q h) hFc (fun u t H1 locs ht hvm hw2 hB hz1 hk1 hS => ?_)
  obtain ⟨a2, k2⟩ := u
  have hw2 : a2 0 = x2 := hw2
  obtain ⟨hP1, hK2, hD1⟩ := hB
  rw [ht] at hP1
  have hK2 := va_K.moved hvm.symm hK2
  have hK2 : va_K D wm_cl (wm_yt k2) s := hK2
  obtain ⟨hP, hD⟩ := va_join (wr := wm_x a1 k1 0 0 0 (fun _ => 0) (fun _ => 0) (fun _ => 0) (fun _ => 0) (fun _ => 0)) (w1 := wm_y a2 k2 0 0 (fun _ => 0) (fun _ => 0)) hP hD [7] [0, 1, 2, 3, 4, 5, 6] rfl rfl (by decide) (by decide) hk1 hFc hP1 hD1
  have hK := hK1.app hK2
  rw [← hw2]
  refine W.widen (k := 10) (n := 453) (Nat.le_refl _) (Nat.le_refl _) ?_
  refine lv_astore_n (lv' := [(2, .ref (a2 0)), (1, .ref (a1 0)), (0, .ref b)]) hx hb dL_law_15 rfl hl (by decide) rfl (fun ls hl => ?_)
  refine lv_iconst (v := nI 0) hx hb dL_law_16 (by decide +kernel) ?_
  refine lv_istore_n (lv' := [(3, .int (nI 0)), (2, .ref (a2 0)), (1, .ref (a1 0)), (0, .ref b)]) hx hb dL_law_17 rfl hl (by decide) rfl (fun ls hl => ?_)
  have hz : ∀ x : Nat, (fun _ : Nat => (0 : Nat)) x < 7681 := fun _ => Nat.le_of_ble_eq_true rfl
  exact wm_loop hL hx hb hr hlocks hml hown hts hX hbl hbA hA hAs hK L 0 0 0 0 (fun _ => 0) (fun _ => 0) (fun _ => 0) (fun _ => 0) (fun _ => 0) (by omega) (by omega) ⟨⟨by decide, by decide, fun _ => Nat.le_of_ble_eq_true rfl, fun _ => Nat.le_of_ble_eq_true rfl⟩, by decide, hz, hz, hz, fun h => absurd h (by decide)⟩ _ _ _ hP hD hS (lv_sub hl [3, 2, 1, 0] rfl)
end
section
set_option maxHeartbeats 4000000 in
theorem lw_walk (l : Launch) (b : Addr) (xs : List Int32) : MetFree l x (headSpec (Jvm.Cond.code x code maxLocals ret :: tables_1) room_1) (lw_P b xs) (fun _ _ _ _ _ => True) lw_Q := by
  refine MetFree.of_bodyS (code := code) (maxLocals := maxLocals) (ret := ret) (by decide) ?_ ?_
  · intro args s m h hn
    obtain ⟨meth, c, h1, h2, h3, h4, h5, h6, -, -⟩ := Cond.code_spec hn (atoms_spec (ws := Jvm.Cond.code x code maxLocals ret :: tables_1) h _ List.mem_cons_self)
    exact ⟨meth, c, h1, h2, h3, h4, h5, h6⟩
  · intro p e s m args below meth c s₁ B hml0 hP _
    obtain ⟨rfl, hx, hbd, hgv⟩ := hP
    obtain ⟨scr, harrAt, hlist, hof, hsmall⟩ := hx
    obtain ⟨hcb, hkn, -, -⟩ := State.arrayAt?_spec harrAt
    have hown : s.vm.findClass R_law = some m.cls := findClass_of_methodNamed B.named
    have hts0 : ∀ c ∈ (Jvm.Cond.code x code maxLocals ret :: tables_1), c.before #[Value.ref b] s = true := atoms_spec (ws := Jvm.Cond.code x code maxLocals ret :: tables_1) B.pre
    have hts : ∀ w ∈ lw_tbl, w.before #[Value.ref b] s = true := k2_hts_sels lw_privs (fun w hw => hts0 w (List.mem_cons_of_mem _ hw)) lw_privs_ok
    have hml : c.maxLocals = 4 := B.maxLocals_eq (hts0 _ List.mem_cons_self)
    have X₀ : Stand p l e room_1 s m #[Value.ref b] below meth c s₁ [] 0 0 := Stand.of_body B
    have hh0 : s₁.heap = s.heap := by rw [B.state]; rfl
    have hsz : scr.slots.size = xs.length := by rw [← Array.length_toList, hlist, List.length_map]
    have hval : ∀ j : Nat, j < xs.length → scr.slots[j]? = some (.int (xs.getD j 0)) := fun j hj => by
      rw [← Array.getElem?_toList, hlist]
      simp [hj]
    have hbl : b < s.heap.size := (Array.getElem?_eq_some_iff.mp hcb).1
    have hX : va_X b xs.length (fun j => xs.getD j 0) s s.heap := ⟨scr, hcb, hof, hkn, hsz, hval⟩
    have K : W p l e room_1 s m #[Value.ref b] below meth c s₁.heap [] 0 0 (lw_Z below #[Value.ref b] s) (entryFrame m ([Value.ref b] : List Value).toArray 4) := by
      rw [hh0]
      exact whole_start l hbd ⟨B.exec, B.bytes, B.returns, hml, hown, hts, hX, hbl, B.notSynchronized, hgv⟩
    obtain ⟨t, a1, o, b1, b2, b3⟩ := K s₁ rfl X₀
    exact ⟨t, o, a1, b1, b2, b3⟩
theorem lw_pre_spec {args : Array Value} {s : State} (h : (Jvm.Cond.and given_1 narrow_1).before args s = true) (hr : rest_1_c.before args s = true) : ∃ (b : Addr) (xs : List Int32), lw_P b xs args s := by
  have hs := flat_of_before _ h
  have hq := flat_of_before _ hr
  have hc : (Cond.count 1).before args s = true := hs _ (by decide +kernel)
  have harr : (Cond.arrayOf (.arg 0) .int).before args s = true := hs _ (by decide +kernel)
  have hle : (Cond.le (.length (.arg 0)) (.int 256)).before args s = true := hs _ (by decide +kernel)
  have hlen : (Cond.isInt (.length (.arg 0))).before args s = true := hq _ (by decide +kernel)
  have hall : (Cond.all (.arg 0) (.isInt (.elem (.arg 0) (.index 0)))).before args s = true := hq _ (by decide +kernel)
  obtain ⟨b, xs, hb, hx⟩ := State.ints_of_pre rfl harr hlen hall
  have hsm : xs.length < 2 ^ 31 := hx.choose_spec.2.2.2
  have hev : (Term.length (.arg 0)).eval args s none [] s = some (.int xs.length.toInt32) := hx.length_eval hb
  have hv := Cond.le_ints hev (show (Term.int 256).eval args s none [] s = some (.int 256) from rfl)
  have hd : xs.length.toInt32 ≤ 256 := by
    simpa [Cond.before, Cond.holds, hv] using hle
  have hN : xs.length ≤ 256 := (Int32.ofNat_le_ofNat hsm (by decide)).mp (show Int32.ofNat xs.length ≤ Int32.ofNat 256 from hd)
  exact ⟨b, xs, Cond.one_arg hc (show args[0]? = some (.ref b) from hb), hx, hN, h⟩
theorem lw_comes (l : Launch) : Comes l x (Jvm.Cond.code x code maxLocals ret :: tables_1) room_1 (fun tb e args s => Calls_1 tb e args s ∧ rest_1 tb e args s ∧ Pre_1 tb e args s)
    (fun _ _ args s o t => lw_Q args s o t) := by
  intro p e ha hc hk s m args below hf hfit hheap happ hpre
  obtain ⟨b, xs, hP⟩ := lw_pre_spec hpre.2.2 hpre.2.1
  obtain ⟨k, o, h1, h2, h3, hQ⟩ := lw_walk l b xs p e ha hc hk s m args below hf ((Spec.applies_iff_loose hf).mp happ).1 hP trivial
  exact ⟨k, o, h1, h2, h3, hQ⟩
theorem lw_frame {s t : State} {o : Outcome} {args : Array Value} (h : Framed s o t [] 600000 7290000) :
    Framed s o t (fieldLocs frame_1_writes args s ++ arrayLocs frame_1_arrays args s ++ staticLocs frame_1_statics s) 600000 7290000 := h
theorem lw_limb (L : Cond) (hL : ∀ (args : Array Value) (s t : State), L.after args s (.returned (some (.int 1))) t = true) :
    ArmFor flags0 classFile x code maxLocals ret World_1 tables_1 room_1 Calls_1 rest_1 Pre_1
      (fun tb e a s o t => postC L tb e a s o t ∧ Framed s o t (fieldLocs frame_1_writes a s ++ arrayLocs frame_1_arrays a s ++ staticLocs frame_1_statics s) 600000 7290000) := by
  intro l _ _ _ p e ha hc hk s m args below hf hfit hheap happ hpre
  obtain ⟨k, o, h1, h2, h3, rfl, hF⟩ := lw_comes l p e ha hc hk s m args below hf hfit hheap happ hpre
  exact ⟨k, _, h1, h2, h3, hL args s _, lw_frame hF⟩
theorem i_vc : Claimed_1_1 ∧ Claimed_1_2 := ⟨lw_limb limb_1_1 (fun args s t => by simp [limb_1_1, Cond.after, Cond.holds, Cond.value]), lw_limb limb_1_2 (fun args s t => Cond.after_iff.mpr (by
  first | (rw [show limb_1_2 = Cond.eq .result (.int 1) from rfl, Cond.eq_ints (x := 1) (y := 1) rfl rfl]; simp; done) | (simp [limb_1_2, Cond.value, Term.eval]; done)))⟩
end
