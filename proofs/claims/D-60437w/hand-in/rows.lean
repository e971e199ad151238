section
-- ===== PART A: goes FIRST, ahead of the names: the tables' words, and 'selects' of the private methods out of them =====
/-- a private method of a class that the tables say can be made, by its rows of tables_1 -/
def lw_okq (q : MethodName × Nat) : Prop := (q.1.cls ≠ "java/lang/invoke/MethodHandle" ∧ q.1.cls ≠ "java/lang/invoke/VarHandle") ∧ Cond.instantiable q.1.cls q.2 ∈ tables_1 ∧ Cond.privateMethod q.1 ∈ tables_1 ∧ Cond.instanceMethod q.1 ∈ tables_1
set_option maxRecDepth 100000
theorem lw_p0 : lw_okq (⟨"LzwSearcher", "start", "()V"⟩, 17) := ⟨⟨by decide +kernel, by decide +kernel⟩, List.mem_of_getElem? (i := 4) rfl, List.mem_of_getElem? (i := 12) rfl, List.mem_of_getElem? (i := 13) rfl⟩
theorem lw_p1 : lw_okq (⟨"LzwSearcher", "makePhrase", "(III)V"⟩, 17) := ⟨⟨by decide +kernel, by decide +kernel⟩, List.mem_of_getElem? (i := 4) rfl, List.mem_of_getElem? (i := 16) rfl, List.mem_of_getElem? (i := 17) rfl⟩
theorem lw_p2 : lw_okq (⟨"LzwSearcher", "phraseHolding", "(I)I"⟩, 17) := ⟨⟨by decide +kernel, by decide +kernel⟩, List.mem_of_getElem? (i := 4) rfl, List.mem_of_getElem? (i := 86) rfl, List.mem_of_getElem? (i := 87) rfl⟩
theorem lw_p3 : lw_okq (⟨"LzwSearcher", "phraseAt", "(I)I"⟩, 17) := ⟨⟨by decide +kernel, by decide +kernel⟩, List.mem_of_getElem? (i := 4) rfl, List.mem_of_getElem? (i := 90) rfl, List.mem_of_getElem? (i := 91) rfl⟩
theorem lw_p4 : lw_okq (⟨"LzwSearcher", "beginning", "(II)I"⟩, 17) := ⟨⟨by decide +kernel, by decide +kernel⟩, List.mem_of_getElem? (i := 4) rfl, List.mem_of_getElem? (i := 94) rfl, List.mem_of_getElem? (i := 95) rfl⟩
theorem lw_p5 : lw_okq (⟨"LzwSearcher", "buildAutomaton", "()V"⟩, 17) := ⟨⟨by decide +kernel, by decide +kernel⟩, List.mem_of_getElem? (i := 4) rfl, List.mem_of_getElem? (i := 107) rfl, List.mem_of_getElem? (i := 108) rfl⟩
theorem lw_p6 : lw_okq (⟨"LzwSearcher", "clampLength", "(I)I"⟩, 17) := ⟨⟨by decide +kernel, by decide +kernel⟩, List.mem_of_getElem? (i := 4) rfl, List.mem_of_getElem? (i := 128) rfl, List.mem_of_getElem? (i := 129) rfl⟩
theorem lw_p7 : lw_okq (⟨"LzwSearcher", "prepare", "()V"⟩, 17) := ⟨⟨by decide +kernel, by decide +kernel⟩, List.mem_of_getElem? (i := 4) rfl, List.mem_of_getElem? (i := 132) rfl, List.mem_of_getElem? (i := 133) rfl⟩
theorem lw_p8 : lw_okq (⟨"LzwSearcher", "fill", "(II)V"⟩, 17) := ⟨⟨by decide +kernel, by decide +kernel⟩, List.mem_of_getElem? (i := 4) rfl, List.mem_of_getElem? (i := 136) rfl, List.mem_of_getElem? (i := 137) rfl⟩
theorem lw_p9 : lw_okq (⟨"LzwSearcher", "endInside", "(III)I"⟩, 17) := ⟨⟨by decide +kernel, by decide +kernel⟩, List.mem_of_getElem? (i := 4) rfl, List.mem_of_getElem? (i := 144) rfl, List.mem_of_getElem? (i := 145) rfl⟩
theorem lw_p10 : lw_okq (⟨"LzwSearcherModel", "isLetter", "(I)Z"⟩, 4) := ⟨⟨by decide +kernel, by decide +kernel⟩, List.mem_of_getElem? (i := 157) rfl, List.mem_of_getElem? (i := 180) rfl, List.mem_of_getElem? (i := 181) rfl⟩
theorem lw_p11 : lw_okq (⟨"LzwSearcherModel", "occurs", "(I)Z"⟩, 4) := ⟨⟨by decide +kernel, by decide +kernel⟩, List.mem_of_getElem? (i := 157) rfl, List.mem_of_getElem? (i := 217) rfl, List.mem_of_getElem? (i := 218) rfl⟩
theorem lw_p12 : lw_okq (⟨"LzwSearcherModel", "stands", "(II)Z"⟩, 4) := ⟨⟨by decide +kernel, by decide +kernel⟩, List.mem_of_getElem? (i := 157) rfl, List.mem_of_getElem? (i := 221) rfl, List.mem_of_getElem? (i := 222) rfl⟩
def lw_privs_1 : List (MethodName × Nat) := [(⟨"LzwSearcher", "start", "()V"⟩, 17), (⟨"LzwSearcher", "makePhrase", "(III)V"⟩, 17), (⟨"LzwSearcher", "phraseHolding", "(I)I"⟩, 17), (⟨"LzwSearcher", "phraseAt", "(I)I"⟩, 17), (⟨"LzwSearcher", "beginning", "(II)I"⟩, 17), (⟨"LzwSearcher", "buildAutomaton", "()V"⟩, 17), (⟨"LzwSearcher", "clampLength", "(I)I"⟩, 17), (⟨"LzwSearcher", "prepare", "()V"⟩, 17), (⟨"LzwSearcher", "fill", "(II)V"⟩, 17), (⟨"LzwSearcher", "endInside", "(III)I"⟩, 17), (⟨"LzwSearcherModel", "isLetter", "(I)Z"⟩, 4), (⟨"LzwSearcherModel", "occurs", "(I)Z"⟩, 4), (⟨"LzwSearcherModel", "stands", "(II)Z"⟩, 4)]
theorem lw_r1 : ∀ q ∈ lw_privs_1, lw_okq q := List.forall_mem_cons.mpr ⟨lw_p0, List.forall_mem_cons.mpr ⟨lw_p1, List.forall_mem_cons.mpr ⟨lw_p2, List.forall_mem_cons.mpr ⟨lw_p3, List.forall_mem_cons.mpr ⟨lw_p4, List.forall_mem_cons.mpr ⟨lw_p5, List.forall_mem_cons.mpr ⟨lw_p6, List.forall_mem_cons.mpr ⟨lw_p7, List.forall_mem_cons.mpr ⟨lw_p8, List.forall_mem_cons.mpr ⟨lw_p9, List.forall_mem_cons.mpr ⟨lw_p10, List.forall_mem_cons.mpr ⟨lw_p11, List.forall_mem_cons.mpr ⟨lw_p12, fun _ h => absurd h List.not_mem_nil⟩⟩⟩⟩⟩⟩⟩⟩⟩⟩⟩⟩⟩
def lw_privs : List (MethodName × Nat) := lw_privs_1
def lw_tbl : List Cond := k2_sels lw_privs ++ tables_1
theorem lw_privs_ok : ∀ q ∈ lw_privs, lw_okq q := lw_r1
-- ===== ONE list of words for every method: the tables' words that hold all through a run =====
def lw_all : List Cond := lw_tbl.filter goodWord
/-- a word of the tables by its place: claim/WORDS.tsv -/
theorem lw_w {w : Cond} (i : Nat) (h : lw_tbl[i]? = some w) (g : goodWord w = true) : w ∈ lw_all := List.mem_filter.mpr ⟨List.mem_of_getElem? h, g⟩
theorem lw_all_tbl {w : Cond} (h : w ∈ lw_all) : w ∈ lw_tbl := (List.mem_filter.mp h).1
theorem lw_self : GoodIn lw_all lw_all := fun w h => ⟨h, good_of_word (List.mem_filter.mp h).2⟩
/-- a class's field words, by their places -/
theorem lw_in (ws : List Cond) (ps : List Nat) (hp : ws = ps.filterMap (fun i => lw_tbl[i]?)) (hg : ws.all goodWord = true) : ∀ w ∈ ws, w ∈ lw_all := by
  intro w h
  have h1 := List.all_eq_true.mp hg w h
  rw [hp] at h
  obtain ⟨i, -, hi⟩ := List.mem_filterMap.mp h
  exact lw_w i hi h1
/-- the words of a contract for the method y with code b, L locals, answer r -/
abbrev ws_ (y : MethodName) (b : ByteArray) (L : Nat) (r : Option FieldType) : List Cond := Cond.code y b L r :: lw_all
theorem lw_meth {y : MethodName} {b : ByteArray} {L : Nat} {r : Option FieldType} (h : Cond.code y b L r ∈ lw_all) : GoodIn lw_all (ws_ y b L r) := by
  intro w hw
  rcases List.mem_cons.mp hw with e | e
  · rw [e]
    exact lw_self _ h
  · exact lw_self _ e
theorem lw_app {a c : List Cond} (ha : ∀ w ∈ a, w ∈ lw_all) (hc : GoodIn lw_all c) : GoodIn lw_all (a ++ c) := by
  intro w hw
  rcases List.mem_append.mp hw with e | e
  · exact lw_self w (ha w e)
  · exact hc w e
/-- what a call through an object asks: cwV n hts (lw_V ..) -/
theorem lw_V {own : String} {idx : Nat} {C : String} {y : MethodName} {b : ByteArray} {L : Nat} {r : Option FieldType} (h1 : Cond.methodLink own idx y ∈ lw_all) (h2 : Cond.instanceMethod y ∈ lw_all) (h3 : Cond.selects C y y ∈ lw_all) (h4 : Cond.initialized C ∈ lw_all) (h5 : Cond.code y b L r ∈ lw_all) : GoodIn lw_all (wsV own idx C y (ws_ y b L r)) := by
  refine lw_app ?_ (lw_meth h5)
  intro w hw
  simp only [List.mem_cons, List.not_mem_nil, or_false] at hw
  rcases hw with e | e | e | e
  · rw [e]; exact h1
  · rw [e]; exact h2
  · rw [e]; exact h3
  · rw [e]; exact h4
/-- what a static call asks: va_cwS n hts (lw_S ..) -/
theorem lw_S {own : String} {idx : Nat} {y : MethodName} {b : ByteArray} {L : Nat} {r : Option FieldType} (h1 : Cond.methodLink own idx y ∈ lw_all) (h2 : Cond.static y ∈ lw_all) (h3 : Cond.initialized y.cls ∈ lw_all) (h4 : Cond.code y b L r ∈ lw_all) : GoodIn lw_all (va_wsS own idx y (ws_ y b L r)) := by
  refine lw_app ?_ (lw_meth h4)
  intro w hw
  simp only [List.mem_cons, List.not_mem_nil, or_false] at hw
  rcases hw with e | e | e
  · rw [e]; exact h1
  · rw [e]; exact h2
  · rw [e]; exact h3
/-- the words of a contract for a method WITH HANDLERS (hh: its table) -/
abbrev wsW_ (y : MethodName) (b : ByteArray) (L : Nat) (r : Option FieldType) (hh : List (Nat × Nat × Nat × Nat)) : List Cond := Cond.codeWith y b L r hh :: lw_all
theorem lw_methW {y : MethodName} {b : ByteArray} {L : Nat} {r : Option FieldType} {hh : List (Nat × Nat × Nat × Nat)} (h : Cond.codeWith y b L r hh ∈ lw_all) : GoodIn lw_all (wsW_ y b L r hh) := by
  intro w hw
  rcases List.mem_cons.mp hw with e | e
  · rw [e]
    exact lw_self _ h
  · exact lw_self _ e
/-- any list of words by their places (lw_in), good -/
theorem lw_good {ws : List Cond} (h : ∀ w ∈ ws, w ∈ lw_all) : GoodIn lw_all ws := fun w hw => lw_self w (h w hw)
/-- what a call of a method with handlers asks: vx_cwVW n hts (lw_VW ..), vx_cwSW n hts (lw_SW ..) -/
theorem lw_VW {own : String} {idx : Nat} {C : String} {y : MethodName} {b : ByteArray} {L : Nat} {r : Option FieldType} {hh : List (Nat × Nat × Nat × Nat)} (h1 : Cond.methodLink own idx y ∈ lw_all) (h2 : Cond.instanceMethod y ∈ lw_all) (h3 : Cond.selects C y y ∈ lw_all) (h4 : Cond.initialized C ∈ lw_all) (h5 : Cond.codeWith y b L r hh ∈ lw_all) : GoodIn lw_all (wsV own idx C y (wsW_ y b L r hh)) := by
  refine lw_app ?_ (lw_methW h5)
  intro w hw
  simp only [List.mem_cons, List.not_mem_nil, or_false] at hw
  rcases hw with e | e | e | e
  · rw [e]; exact h1
  · rw [e]; exact h2
  · rw [e]; exact h3
  · rw [e]; exact h4
theorem lw_SW {own : String} {idx : Nat} {y : MethodName} {b : ByteArray} {L : Nat} {r : Option FieldType} {hh : List (Nat × Nat × Nat × Nat)} (h1 : Cond.methodLink own idx y ∈ lw_all) (h2 : Cond.static y ∈ lw_all) (h3 : Cond.initialized y.cls ∈ lw_all) (h4 : Cond.codeWith y b L r hh ∈ lw_all) : GoodIn lw_all (va_wsS own idx y (wsW_ y b L r hh)) := by
  refine lw_app ?_ (lw_methW h4)
  intro w hw
  simp only [List.mem_cons, List.not_mem_nil, or_false] at hw
  rcases hw with e | e | e
  · rw [e]; exact h1
  · rw [e]; exact h2
  · rw [e]; exact h3
/-- a word by its place in its run of the tables -/
theorem lw_at {r : List Cond} (hr : ∀ w ∈ r, w ∈ lw_tbl) {w : Cond} (i : Nat) (h : r[i]? = some w) : w ∈ lw_tbl := hr w (List.mem_of_getElem? h)
theorem lw_g {w : Cond} (h : w ∈ lw_tbl) (g : goodWord w = true) : w ∈ lw_all := List.mem_filter.mpr ⟨h, g⟩
theorem lw_ms : ∀ w ∈ k2_sels lw_privs, w ∈ lw_tbl := fun w h => show w ∈ k2_sels lw_privs ++ tables_1 from List.mem_append_left _ h
theorem lw_m0 : ∀ w ∈ tables_1, w ∈ lw_tbl := fun w h => show w ∈ k2_sels lw_privs ++ tables_1 from List.mem_append_right (k2_sels lw_privs) h
theorem qs0 : (Cond.selects "LzwSearcher" ⟨"LzwSearcher", "start", "()V"⟩ ⟨"LzwSearcher", "start", "()V"⟩) ∈ lw_all := lw_g (lw_at lw_ms 0 rfl) rfl
theorem qs1 : (Cond.selects "LzwSearcher" ⟨"LzwSearcher", "makePhrase", "(III)V"⟩ ⟨"LzwSearcher", "makePhrase", "(III)V"⟩) ∈ lw_all := lw_g (lw_at lw_ms 1 rfl) rfl
theorem qs2 : (Cond.selects "LzwSearcher" ⟨"LzwSearcher", "phraseHolding", "(I)I"⟩ ⟨"LzwSearcher", "phraseHolding", "(I)I"⟩) ∈ lw_all := lw_g (lw_at lw_ms 2 rfl) rfl
theorem qs3 : (Cond.selects "LzwSearcher" ⟨"LzwSearcher", "phraseAt", "(I)I"⟩ ⟨"LzwSearcher", "phraseAt", "(I)I"⟩) ∈ lw_all := lw_g (lw_at lw_ms 3 rfl) rfl
theorem qs4 : (Cond.selects "LzwSearcher" ⟨"LzwSearcher", "beginning", "(II)I"⟩ ⟨"LzwSearcher", "beginning", "(II)I"⟩) ∈ lw_all := lw_g (lw_at lw_ms 4 rfl) rfl
theorem qs5 : (Cond.selects "LzwSearcher" ⟨"LzwSearcher", "buildAutomaton", "()V"⟩ ⟨"LzwSearcher", "buildAutomaton", "()V"⟩) ∈ lw_all := lw_g (lw_at lw_ms 5 rfl) rfl
theorem qs6 : (Cond.selects "LzwSearcher" ⟨"LzwSearcher", "clampLength", "(I)I"⟩ ⟨"LzwSearcher", "clampLength", "(I)I"⟩) ∈ lw_all := lw_g (lw_at lw_ms 6 rfl) rfl
theorem qs7 : (Cond.selects "LzwSearcher" ⟨"LzwSearcher", "prepare", "()V"⟩ ⟨"LzwSearcher", "prepare", "()V"⟩) ∈ lw_all := lw_g (lw_at lw_ms 7 rfl) rfl
theorem qs8 : (Cond.selects "LzwSearcher" ⟨"LzwSearcher", "fill", "(II)V"⟩ ⟨"LzwSearcher", "fill", "(II)V"⟩) ∈ lw_all := lw_g (lw_at lw_ms 8 rfl) rfl
theorem qs9 : (Cond.selects "LzwSearcher" ⟨"LzwSearcher", "endInside", "(III)I"⟩ ⟨"LzwSearcher", "endInside", "(III)I"⟩) ∈ lw_all := lw_g (lw_at lw_ms 9 rfl) rfl
theorem qs10 : (Cond.selects "LzwSearcherModel" ⟨"LzwSearcherModel", "isLetter", "(I)Z"⟩ ⟨"LzwSearcherModel", "isLetter", "(I)Z"⟩) ∈ lw_all := lw_g (lw_at lw_ms 10 rfl) rfl
theorem qs11 : (Cond.selects "LzwSearcherModel" ⟨"LzwSearcherModel", "occurs", "(I)Z"⟩ ⟨"LzwSearcherModel", "occurs", "(I)Z"⟩) ∈ lw_all := lw_g (lw_at lw_ms 11 rfl) rfl
theorem qs12 : (Cond.selects "LzwSearcherModel" ⟨"LzwSearcherModel", "stands", "(II)Z"⟩ ⟨"LzwSearcherModel", "stands", "(II)Z"⟩) ∈ lw_all := lw_g (lw_at lw_ms 12 rfl) rfl
end
section
/-! LzwSearcher -/
set_option maxRecDepth 100000
def RX0 : String := "LzwSearcher"
def TX0 : u_T := fun k => match k with
  | 0 => ("LzwSearcher", "phrases", "I", false)
  | 1 => ("LzwSearcher", "parent", "[I", true)
  | 2 => ("LzwSearcher", "letterOf", "[I", true)
  | 3 => ("LzwSearcher", "size", "[I", true)
  | 4 => ("LzwSearcher", "child", "[I", true)
  | 5 => ("LzwSearcher", "tally", "[I", true)
  | 6 => ("LzwSearcher", "textLen", "I", false)
  | 7 => ("LzwSearcher", "codes", "I", false)
  | 8 => ("LzwSearcher", "code", "[I", true)
  | 9 => ("LzwSearcher", "startOf", "[I", true)
  | 10 => ("LzwSearcher", "open", "I", false)
  | 11 => ("LzwSearcher", "patternLen", "I", false)
  | 12 => ("LzwSearcher", "wanted", "[I", true)
  | 13 => ("LzwSearcher", "next", "[I", true)
  | 14 => ("LzwSearcher", "ready", "Z", false)
  | 15 => ("LzwSearcher", "lead", "[B", true)
  | _ => ("LzwSearcher", "hits", "[B", true)
def tyX0 : Nat → FieldType := fun k => match k with
  | 0 => .int
  | 1 => .array .int
  | 2 => .array .int
  | 3 => .array .int
  | 4 => .array .int
  | 5 => .array .int
  | 6 => .int
  | 7 => .int
  | 8 => .array .int
  | 9 => .array .int
  | 10 => .int
  | 11 => .int
  | 12 => .array .int
  | 13 => .array .int
  | 14 => .boolean
  | 15 => .array .byte
  | _ => .array .byte
abbrev wsX00 : List Cond := u_ws RX0 TX0 17
set_option maxRecDepth 100000 in
theorem nmX0 : ∀ a, a < 17 → ∀ b, b < 17 → a ≠ b → (TX0 a).2.1 ≠ (TX0 b).2.1 := by decide +kernel
set_option maxRecDepth 100000 in
theorem tyX0_ok : ∀ k, k < 17 → parseFieldDescriptor (TX0 k).2.2.1 = some (tyX0 k) := by decide +kernel
abbrev cX0_init : ByteArray := prog_1_method_1_code
def yX0_init : MethodName := ⟨RX0, "<init>", "()V"⟩
theorem dX0_init_0 : decode cX0_init 0 = .ok (.aload_n 0, 1) := by decide +kernel
theorem dX0_init_1 : decode cX0_init 1 = .ok (.invokespecial 1, 3) := by decide +kernel
theorem dX0_init_4 : decode cX0_init 4 = .ok (.aload_n 0, 1) := by decide +kernel
theorem dX0_init_5 : decode cX0_init 5 = .ok (.sipush 128, 3) := by decide +kernel
theorem dX0_init_8 : decode cX0_init 8 = .ok (.newarray .int, 2) := by decide +kernel
theorem dX0_init_10 : decode cX0_init 10 = .ok (.putfield 7, 3) := by decide +kernel
theorem dX0_init_13 : decode cX0_init 13 = .ok (.aload_n 0, 1) := by decide +kernel
theorem dX0_init_14 : decode cX0_init 14 = .ok (.sipush 128, 3) := by decide +kernel
theorem dX0_init_17 : decode cX0_init 17 = .ok (.newarray .int, 2) := by decide +kernel
theorem dX0_init_19 : decode cX0_init 19 = .ok (.putfield 13, 3) := by decide +kernel
theorem dX0_init_22 : decode cX0_init 22 = .ok (.aload_n 0, 1) := by decide +kernel
theorem dX0_init_23 : decode cX0_init 23 = .ok (.sipush 128, 3) := by decide +kernel
theorem dX0_init_26 : decode cX0_init 26 = .ok (.newarray .int, 2) := by decide +kernel
theorem dX0_init_28 : decode cX0_init 28 = .ok (.putfield 16, 3) := by decide +kernel
theorem dX0_init_31 : decode cX0_init 31 = .ok (.aload_n 0, 1) := by decide +kernel
theorem dX0_init_32 : decode cX0_init 32 = .ok (.sipush 512, 3) := by decide +kernel
theorem dX0_init_35 : decode cX0_init 35 = .ok (.newarray .int, 2) := by decide +kernel
theorem dX0_init_37 : decode cX0_init 37 = .ok (.putfield 19, 3) := by decide +kernel
theorem dX0_init_40 : decode cX0_init 40 = .ok (.aload_n 0, 1) := by decide +kernel
theorem dX0_init_41 : decode cX0_init 41 = .ok (.sipush 512, 3) := by decide +kernel
theorem dX0_init_44 : decode cX0_init 44 = .ok (.newarray .int, 2) := by decide +kernel
theorem dX0_init_46 : decode cX0_init 46 = .ok (.putfield 22, 3) := by decide +kernel
theorem dX0_init_49 : decode cX0_init 49 = .ok (.aload_n 0, 1) := by decide +kernel
theorem dX0_init_50 : decode cX0_init 50 = .ok (.bipush 120, 2) := by decide +kernel
theorem dX0_init_52 : decode cX0_init 52 = .ok (.newarray .int, 2) := by decide +kernel
theorem dX0_init_54 : decode cX0_init 54 = .ok (.putfield 25, 3) := by decide +kernel
theorem dX0_init_57 : decode cX0_init 57 = .ok (.aload_n 0, 1) := by decide +kernel
theorem dX0_init_58 : decode cX0_init 58 = .ok (.bipush 121, 2) := by decide +kernel
theorem dX0_init_60 : decode cX0_init 60 = .ok (.newarray .int, 2) := by decide +kernel
theorem dX0_init_62 : decode cX0_init 62 = .ok (.putfield 28, 3) := by decide +kernel
theorem dX0_init_65 : decode cX0_init 65 = .ok (.aload_n 0, 1) := by decide +kernel
theorem dX0_init_66 : decode cX0_init 66 = .ok (.bipush 10, 2) := by decide +kernel
theorem dX0_init_68 : decode cX0_init 68 = .ok (.newarray .int, 2) := by decide +kernel
theorem dX0_init_70 : decode cX0_init 70 = .ok (.putfield 31, 3) := by decide +kernel
theorem dX0_init_73 : decode cX0_init 73 = .ok (.aload_n 0, 1) := by decide +kernel
theorem dX0_init_74 : decode cX0_init 74 = .ok (.bipush 44, 2) := by decide +kernel
theorem dX0_init_76 : decode cX0_init 76 = .ok (.newarray .int, 2) := by decide +kernel
theorem dX0_init_78 : decode cX0_init 78 = .ok (.putfield 34, 3) := by decide +kernel
theorem dX0_init_81 : decode cX0_init 81 = .ok (.aload_n 0, 1) := by decide +kernel
theorem dX0_init_82 : decode cX0_init 82 = .ok (.sipush 1408, 3) := by decide +kernel
theorem dX0_init_85 : decode cX0_init 85 = .ok (.newarray .byte, 2) := by decide +kernel
theorem dX0_init_87 : decode cX0_init 87 = .ok (.putfield 37, 3) := by decide +kernel
theorem dX0_init_90 : decode cX0_init 90 = .ok (.aload_n 0, 1) := by decide +kernel
theorem dX0_init_91 : decode cX0_init 91 = .ok (.sipush 1408, 3) := by decide +kernel
theorem dX0_init_94 : decode cX0_init 94 = .ok (.newarray .byte, 2) := by decide +kernel
theorem dX0_init_96 : decode cX0_init 96 = .ok (.putfield 41, 3) := by decide +kernel
theorem dX0_init_99 : decode cX0_init 99 = .ok (.aload_n 0, 1) := by decide +kernel
theorem dX0_init_100 : decode cX0_init 100 = .ok (.invokevirtual 44, 3) := by decide +kernel
theorem dX0_init_103 : decode cX0_init 103 = .ok (.return_, 1) := by decide +kernel
abbrev cX0_start : ByteArray := prog_1_method_2_code
def yX0_start : MethodName := ⟨RX0, "start", "()V"⟩
theorem dX0_start_0 : decode cX0_start 0 = .ok (.aload_n 0, 1) := by decide +kernel
theorem dX0_start_1 : decode cX0_start 1 = .ok (.iconst 4, 1) := by decide +kernel
theorem dX0_start_2 : decode cX0_start 2 = .ok (.putfield 47, 3) := by decide +kernel
theorem dX0_start_5 : decode cX0_start 5 = .ok (.aload_n 0, 1) := by decide +kernel
theorem dX0_start_6 : decode cX0_start 6 = .ok (.iconst 0, 1) := by decide +kernel
theorem dX0_start_7 : decode cX0_start 7 = .ok (.putfield 51, 3) := by decide +kernel
theorem dX0_start_10 : decode cX0_start 10 = .ok (.aload_n 0, 1) := by decide +kernel
theorem dX0_start_11 : decode cX0_start 11 = .ok (.iconst 0, 1) := by decide +kernel
theorem dX0_start_12 : decode cX0_start 12 = .ok (.putfield 54, 3) := by decide +kernel
theorem dX0_start_15 : decode cX0_start 15 = .ok (.aload_n 0, 1) := by decide +kernel
theorem dX0_start_16 : decode cX0_start 16 = .ok (.iconst (-1), 1) := by decide +kernel
theorem dX0_start_17 : decode cX0_start 17 = .ok (.putfield 57, 3) := by decide +kernel
theorem dX0_start_20 : decode cX0_start 20 = .ok (.aload_n 0, 1) := by decide +kernel
theorem dX0_start_21 : decode cX0_start 21 = .ok (.iconst 0, 1) := by decide +kernel
theorem dX0_start_22 : decode cX0_start 22 = .ok (.putfield 60, 3) := by decide +kernel
theorem dX0_start_25 : decode cX0_start 25 = .ok (.iconst 0, 1) := by decide +kernel
theorem dX0_start_26 : decode cX0_start 26 = .ok (.istore_n 1, 1) := by decide +kernel
theorem dX0_start_27 : decode cX0_start 27 = .ok (.iload_n 1, 1) := by decide +kernel
theorem dX0_start_28 : decode cX0_start 28 = .ok (.iconst 4, 1) := by decide +kernel
theorem dX0_start_29 : decode cX0_start 29 = .ok (.if_icmp .ge 16, 3) := by decide +kernel
theorem dX0_start_32 : decode cX0_start 32 = .ok (.aload_n 0, 1) := by decide +kernel
theorem dX0_start_33 : decode cX0_start 33 = .ok (.iload_n 1, 1) := by decide +kernel
theorem dX0_start_34 : decode cX0_start 34 = .ok (.iconst (-1), 1) := by decide +kernel
theorem dX0_start_35 : decode cX0_start 35 = .ok (.iload_n 1, 1) := by decide +kernel
theorem dX0_start_36 : decode cX0_start 36 = .ok (.invokevirtual 64, 3) := by decide +kernel
theorem dX0_start_39 : decode cX0_start 39 = .ok (.iinc 1 1, 3) := by decide +kernel
theorem dX0_start_42 : decode cX0_start 42 = .ok (.goto (-15), 3) := by decide +kernel
theorem dX0_start_45 : decode cX0_start 45 = .ok (.return_, 1) := by decide +kernel
abbrev cX0_makePhrase : ByteArray := prog_1_method_3_code
def yX0_makePhrase : MethodName := ⟨RX0, "makePhrase", "(III)V"⟩
theorem dX0_makePhrase_0 : decode cX0_makePhrase 0 = .ok (.aload_n 0, 1) := by decide +kernel
theorem dX0_makePhrase_1 : decode cX0_makePhrase 1 = .ok (.getfield 7, 3) := by decide +kernel
theorem dX0_makePhrase_4 : decode cX0_makePhrase 4 = .ok (.iload_n 1, 1) := by decide +kernel
theorem dX0_makePhrase_5 : decode cX0_makePhrase 5 = .ok (.iload_n 2, 1) := by decide +kernel
theorem dX0_makePhrase_6 : decode cX0_makePhrase 6 = .ok (.iastore, 1) := by decide +kernel
theorem dX0_makePhrase_7 : decode cX0_makePhrase 7 = .ok (.aload_n 0, 1) := by decide +kernel
theorem dX0_makePhrase_8 : decode cX0_makePhrase 8 = .ok (.getfield 13, 3) := by decide +kernel
theorem dX0_makePhrase_11 : decode cX0_makePhrase 11 = .ok (.iload_n 1, 1) := by decide +kernel
theorem dX0_makePhrase_12 : decode cX0_makePhrase 12 = .ok (.iload_n 3, 1) := by decide +kernel
theorem dX0_makePhrase_13 : decode cX0_makePhrase 13 = .ok (.iastore, 1) := by decide +kernel
theorem dX0_makePhrase_14 : decode cX0_makePhrase 14 = .ok (.aload_n 0, 1) := by decide +kernel
theorem dX0_makePhrase_15 : decode cX0_makePhrase 15 = .ok (.getfield 16, 3) := by decide +kernel
theorem dX0_makePhrase_18 : decode cX0_makePhrase 18 = .ok (.iload_n 1, 1) := by decide +kernel
theorem dX0_makePhrase_19 : decode cX0_makePhrase 19 = .ok (.iload_n 2, 1) := by decide +kernel
theorem dX0_makePhrase_20 : decode cX0_makePhrase 20 = .ok (.ifCond .ge 7, 3) := by decide +kernel
theorem dX0_makePhrase_23 : decode cX0_makePhrase 23 = .ok (.iconst 1, 1) := by decide +kernel
theorem dX0_makePhrase_24 : decode cX0_makePhrase 24 = .ok (.goto 11, 3) := by decide +kernel
theorem dX0_makePhrase_27 : decode cX0_makePhrase 27 = .ok (.aload_n 0, 1) := by decide +kernel
theorem dX0_makePhrase_28 : decode cX0_makePhrase 28 = .ok (.getfield 16, 3) := by decide +kernel
theorem dX0_makePhrase_31 : decode cX0_makePhrase 31 = .ok (.iload_n 2, 1) := by decide +kernel
theorem dX0_makePhrase_32 : decode cX0_makePhrase 32 = .ok (.iaload, 1) := by decide +kernel
theorem dX0_makePhrase_33 : decode cX0_makePhrase 33 = .ok (.iconst 1, 1) := by decide +kernel
theorem dX0_makePhrase_34 : decode cX0_makePhrase 34 = .ok (.iadd, 1) := by decide +kernel
theorem dX0_makePhrase_35 : decode cX0_makePhrase 35 = .ok (.iastore, 1) := by decide +kernel
theorem dX0_makePhrase_36 : decode cX0_makePhrase 36 = .ok (.iconst 0, 1) := by decide +kernel
theorem dX0_makePhrase_37 : decode cX0_makePhrase 37 = .ok (.istore 4, 2) := by decide +kernel
theorem dX0_makePhrase_39 : decode cX0_makePhrase 39 = .ok (.iload 4, 2) := by decide +kernel
theorem dX0_makePhrase_41 : decode cX0_makePhrase 41 = .ok (.iconst 4, 1) := by decide +kernel
theorem dX0_makePhrase_42 : decode cX0_makePhrase 42 = .ok (.if_icmp .ge 51, 3) := by decide +kernel
theorem dX0_makePhrase_45 : decode cX0_makePhrase 45 = .ok (.aload_n 0, 1) := by decide +kernel
theorem dX0_makePhrase_46 : decode cX0_makePhrase 46 = .ok (.getfield 19, 3) := by decide +kernel
theorem dX0_makePhrase_49 : decode cX0_makePhrase 49 = .ok (.iload_n 1, 1) := by decide +kernel
theorem dX0_makePhrase_50 : decode cX0_makePhrase 50 = .ok (.iconst 4, 1) := by decide +kernel
theorem dX0_makePhrase_51 : decode cX0_makePhrase 51 = .ok (.imul, 1) := by decide +kernel
theorem dX0_makePhrase_52 : decode cX0_makePhrase 52 = .ok (.iload 4, 2) := by decide +kernel
theorem dX0_makePhrase_54 : decode cX0_makePhrase 54 = .ok (.iadd, 1) := by decide +kernel
theorem dX0_makePhrase_55 : decode cX0_makePhrase 55 = .ok (.iconst (-1), 1) := by decide +kernel
theorem dX0_makePhrase_56 : decode cX0_makePhrase 56 = .ok (.iastore, 1) := by decide +kernel
theorem dX0_makePhrase_57 : decode cX0_makePhrase 57 = .ok (.aload_n 0, 1) := by decide +kernel
theorem dX0_makePhrase_58 : decode cX0_makePhrase 58 = .ok (.getfield 22, 3) := by decide +kernel
theorem dX0_makePhrase_61 : decode cX0_makePhrase 61 = .ok (.iload_n 1, 1) := by decide +kernel
theorem dX0_makePhrase_62 : decode cX0_makePhrase 62 = .ok (.iconst 4, 1) := by decide +kernel
theorem dX0_makePhrase_63 : decode cX0_makePhrase 63 = .ok (.imul, 1) := by decide +kernel
theorem dX0_makePhrase_64 : decode cX0_makePhrase 64 = .ok (.iload 4, 2) := by decide +kernel
theorem dX0_makePhrase_66 : decode cX0_makePhrase 66 = .ok (.iadd, 1) := by decide +kernel
theorem dX0_makePhrase_67 : decode cX0_makePhrase 67 = .ok (.iload_n 2, 1) := by decide +kernel
theorem dX0_makePhrase_68 : decode cX0_makePhrase 68 = .ok (.ifCond .ge 7, 3) := by decide +kernel
theorem dX0_makePhrase_71 : decode cX0_makePhrase 71 = .ok (.iconst 0, 1) := by decide +kernel
theorem dX0_makePhrase_72 : decode cX0_makePhrase 72 = .ok (.goto 14, 3) := by decide +kernel
theorem dX0_makePhrase_75 : decode cX0_makePhrase 75 = .ok (.aload_n 0, 1) := by decide +kernel
theorem dX0_makePhrase_76 : decode cX0_makePhrase 76 = .ok (.getfield 22, 3) := by decide +kernel
theorem dX0_makePhrase_79 : decode cX0_makePhrase 79 = .ok (.iload_n 2, 1) := by decide +kernel
theorem dX0_makePhrase_80 : decode cX0_makePhrase 80 = .ok (.iconst 4, 1) := by decide +kernel
theorem dX0_makePhrase_81 : decode cX0_makePhrase 81 = .ok (.imul, 1) := by decide +kernel
theorem dX0_makePhrase_82 : decode cX0_makePhrase 82 = .ok (.iload 4, 2) := by decide +kernel
theorem dX0_makePhrase_84 : decode cX0_makePhrase 84 = .ok (.iadd, 1) := by decide +kernel
theorem dX0_makePhrase_85 : decode cX0_makePhrase 85 = .ok (.iaload, 1) := by decide +kernel
theorem dX0_makePhrase_86 : decode cX0_makePhrase 86 = .ok (.iastore, 1) := by decide +kernel
theorem dX0_makePhrase_87 : decode cX0_makePhrase 87 = .ok (.iinc 4 1, 3) := by decide +kernel
theorem dX0_makePhrase_90 : decode cX0_makePhrase 90 = .ok (.goto (-51), 3) := by decide +kernel
theorem dX0_makePhrase_93 : decode cX0_makePhrase 93 = .ok (.aload_n 0, 1) := by decide +kernel
theorem dX0_makePhrase_94 : decode cX0_makePhrase 94 = .ok (.getfield 22, 3) := by decide +kernel
theorem dX0_makePhrase_97 : decode cX0_makePhrase 97 = .ok (.iload_n 1, 1) := by decide +kernel
theorem dX0_makePhrase_98 : decode cX0_makePhrase 98 = .ok (.iconst 4, 1) := by decide +kernel
theorem dX0_makePhrase_99 : decode cX0_makePhrase 99 = .ok (.imul, 1) := by decide +kernel
theorem dX0_makePhrase_100 : decode cX0_makePhrase 100 = .ok (.iload_n 3, 1) := by decide +kernel
theorem dX0_makePhrase_101 : decode cX0_makePhrase 101 = .ok (.iadd, 1) := by decide +kernel
theorem dX0_makePhrase_102 : decode cX0_makePhrase 102 = .ok (.dup2, 1) := by decide +kernel
theorem dX0_makePhrase_103 : decode cX0_makePhrase 103 = .ok (.iaload, 1) := by decide +kernel
theorem dX0_makePhrase_104 : decode cX0_makePhrase 104 = .ok (.iconst 1, 1) := by decide +kernel
theorem dX0_makePhrase_105 : decode cX0_makePhrase 105 = .ok (.iadd, 1) := by decide +kernel
theorem dX0_makePhrase_106 : decode cX0_makePhrase 106 = .ok (.iastore, 1) := by decide +kernel
theorem dX0_makePhrase_107 : decode cX0_makePhrase 107 = .ok (.return_, 1) := by decide +kernel
abbrev cX0_append : ByteArray := prog_1_method_4_code
def yX0_append : MethodName := ⟨RX0, "append", "(I)I"⟩
theorem dX0_append_0 : decode cX0_append 0 = .ok (.iload_n 1, 1) := by decide +kernel
theorem dX0_append_1 : decode cX0_append 1 = .ok (.ifCond .lt 8, 3) := by decide +kernel
theorem dX0_append_4 : decode cX0_append 4 = .ok (.iload_n 1, 1) := by decide +kernel
theorem dX0_append_5 : decode cX0_append 5 = .ok (.iconst 3, 1) := by decide +kernel
theorem dX0_append_6 : decode cX0_append 6 = .ok (.if_icmp .le 5, 3) := by decide +kernel
theorem dX0_append_9 : decode cX0_append 9 = .ok (.iconst (-1), 1) := by decide +kernel
theorem dX0_append_10 : decode cX0_append 10 = .ok (.ireturn, 1) := by decide +kernel
theorem dX0_append_11 : decode cX0_append 11 = .ok (.aload_n 0, 1) := by decide +kernel
theorem dX0_append_12 : decode cX0_append 12 = .ok (.getfield 51, 3) := by decide +kernel
theorem dX0_append_15 : decode cX0_append 15 = .ok (.bipush 120, 2) := by decide +kernel
theorem dX0_append_17 : decode cX0_append 17 = .ok (.if_icmp .lt 6, 3) := by decide +kernel
theorem dX0_append_20 : decode cX0_append 20 = .ok (.bipush (-2), 2) := by decide +kernel
theorem dX0_append_22 : decode cX0_append 22 = .ok (.ireturn, 1) := by decide +kernel
theorem dX0_append_23 : decode cX0_append 23 = .ok (.aload_n 0, 1) := by decide +kernel
theorem dX0_append_24 : decode cX0_append 24 = .ok (.iconst 0, 1) := by decide +kernel
theorem dX0_append_25 : decode cX0_append 25 = .ok (.putfield 60, 3) := by decide +kernel
theorem dX0_append_28 : decode cX0_append 28 = .ok (.aload_n 0, 1) := by decide +kernel
theorem dX0_append_29 : decode cX0_append 29 = .ok (.getfield 57, 3) := by decide +kernel
theorem dX0_append_32 : decode cX0_append 32 = .ok (.ifCond .ge 21, 3) := by decide +kernel
theorem dX0_append_35 : decode cX0_append 35 = .ok (.aload_n 0, 1) := by decide +kernel
theorem dX0_append_36 : decode cX0_append 36 = .ok (.iload_n 1, 1) := by decide +kernel
theorem dX0_append_37 : decode cX0_append 37 = .ok (.putfield 57, 3) := by decide +kernel
theorem dX0_append_40 : decode cX0_append 40 = .ok (.aload_n 0, 1) := by decide +kernel
theorem dX0_append_41 : decode cX0_append 41 = .ok (.getfield 28, 3) := by decide +kernel
theorem dX0_append_44 : decode cX0_append 44 = .ok (.aload_n 0, 1) := by decide +kernel
theorem dX0_append_45 : decode cX0_append 45 = .ok (.getfield 54, 3) := by decide +kernel
theorem dX0_append_48 : decode cX0_append 48 = .ok (.iconst 0, 1) := by decide +kernel
theorem dX0_append_49 : decode cX0_append 49 = .ok (.iastore, 1) := by decide +kernel
theorem dX0_append_50 : decode cX0_append 50 = .ok (.goto 120, 3) := by decide +kernel
theorem dX0_append_53 : decode cX0_append 53 = .ok (.aload_n 0, 1) := by decide +kernel
theorem dX0_append_54 : decode cX0_append 54 = .ok (.getfield 19, 3) := by decide +kernel
theorem dX0_append_57 : decode cX0_append 57 = .ok (.aload_n 0, 1) := by decide +kernel
theorem dX0_append_58 : decode cX0_append 58 = .ok (.getfield 57, 3) := by decide +kernel
theorem dX0_append_61 : decode cX0_append 61 = .ok (.iconst 4, 1) := by decide +kernel
theorem dX0_append_62 : decode cX0_append 62 = .ok (.imul, 1) := by decide +kernel
theorem dX0_append_63 : decode cX0_append 63 = .ok (.iload_n 1, 1) := by decide +kernel
theorem dX0_append_64 : decode cX0_append 64 = .ok (.iadd, 1) := by decide +kernel
theorem dX0_append_65 : decode cX0_append 65 = .ok (.iaload, 1) := by decide +kernel
theorem dX0_append_66 : decode cX0_append 66 = .ok (.ifCond .lt 23, 3) := by decide +kernel
theorem dX0_append_69 : decode cX0_append 69 = .ok (.aload_n 0, 1) := by decide +kernel
theorem dX0_append_70 : decode cX0_append 70 = .ok (.aload_n 0, 1) := by decide +kernel
theorem dX0_append_71 : decode cX0_append 71 = .ok (.getfield 19, 3) := by decide +kernel
theorem dX0_append_74 : decode cX0_append 74 = .ok (.aload_n 0, 1) := by decide +kernel
theorem dX0_append_75 : decode cX0_append 75 = .ok (.getfield 57, 3) := by decide +kernel
theorem dX0_append_78 : decode cX0_append 78 = .ok (.iconst 4, 1) := by decide +kernel
theorem dX0_append_79 : decode cX0_append 79 = .ok (.imul, 1) := by decide +kernel
theorem dX0_append_80 : decode cX0_append 80 = .ok (.iload_n 1, 1) := by decide +kernel
theorem dX0_append_81 : decode cX0_append 81 = .ok (.iadd, 1) := by decide +kernel
theorem dX0_append_82 : decode cX0_append 82 = .ok (.iaload, 1) := by decide +kernel
theorem dX0_append_83 : decode cX0_append 83 = .ok (.putfield 57, 3) := by decide +kernel
theorem dX0_append_86 : decode cX0_append 86 = .ok (.goto 84, 3) := by decide +kernel
theorem dX0_append_89 : decode cX0_append 89 = .ok (.aload_n 0, 1) := by decide +kernel
theorem dX0_append_90 : decode cX0_append 90 = .ok (.getfield 19, 3) := by decide +kernel
theorem dX0_append_93 : decode cX0_append 93 = .ok (.aload_n 0, 1) := by decide +kernel
theorem dX0_append_94 : decode cX0_append 94 = .ok (.getfield 57, 3) := by decide +kernel
theorem dX0_append_97 : decode cX0_append 97 = .ok (.iconst 4, 1) := by decide +kernel
theorem dX0_append_98 : decode cX0_append 98 = .ok (.imul, 1) := by decide +kernel
theorem dX0_append_99 : decode cX0_append 99 = .ok (.iload_n 1, 1) := by decide +kernel
theorem dX0_append_100 : decode cX0_append 100 = .ok (.iadd, 1) := by decide +kernel
theorem dX0_append_101 : decode cX0_append 101 = .ok (.aload_n 0, 1) := by decide +kernel
theorem dX0_append_102 : decode cX0_append 102 = .ok (.getfield 47, 3) := by decide +kernel
theorem dX0_append_105 : decode cX0_append 105 = .ok (.iastore, 1) := by decide +kernel
theorem dX0_append_106 : decode cX0_append 106 = .ok (.aload_n 0, 1) := by decide +kernel
theorem dX0_append_107 : decode cX0_append 107 = .ok (.aload_n 0, 1) := by decide +kernel
theorem dX0_append_108 : decode cX0_append 108 = .ok (.getfield 47, 3) := by decide +kernel
theorem dX0_append_111 : decode cX0_append 111 = .ok (.aload_n 0, 1) := by decide +kernel
theorem dX0_append_112 : decode cX0_append 112 = .ok (.getfield 57, 3) := by decide +kernel
theorem dX0_append_115 : decode cX0_append 115 = .ok (.iload_n 1, 1) := by decide +kernel
theorem dX0_append_116 : decode cX0_append 116 = .ok (.invokevirtual 64, 3) := by decide +kernel
theorem dX0_append_119 : decode cX0_append 119 = .ok (.aload_n 0, 1) := by decide +kernel
theorem dX0_append_120 : decode cX0_append 120 = .ok (.dup, 1) := by decide +kernel
theorem dX0_append_121 : decode cX0_append 121 = .ok (.getfield 47, 3) := by decide +kernel
theorem dX0_append_124 : decode cX0_append 124 = .ok (.iconst 1, 1) := by decide +kernel
theorem dX0_append_125 : decode cX0_append 125 = .ok (.iadd, 1) := by decide +kernel
theorem dX0_append_126 : decode cX0_append 126 = .ok (.putfield 47, 3) := by decide +kernel
theorem dX0_append_129 : decode cX0_append 129 = .ok (.aload_n 0, 1) := by decide +kernel
theorem dX0_append_130 : decode cX0_append 130 = .ok (.getfield 25, 3) := by decide +kernel
theorem dX0_append_133 : decode cX0_append 133 = .ok (.aload_n 0, 1) := by decide +kernel
theorem dX0_append_134 : decode cX0_append 134 = .ok (.getfield 54, 3) := by decide +kernel
theorem dX0_append_137 : decode cX0_append 137 = .ok (.aload_n 0, 1) := by decide +kernel
theorem dX0_append_138 : decode cX0_append 138 = .ok (.getfield 57, 3) := by decide +kernel
theorem dX0_append_141 : decode cX0_append 141 = .ok (.iastore, 1) := by decide +kernel
theorem dX0_append_142 : decode cX0_append 142 = .ok (.aload_n 0, 1) := by decide +kernel
theorem dX0_append_143 : decode cX0_append 143 = .ok (.dup, 1) := by decide +kernel
theorem dX0_append_144 : decode cX0_append 144 = .ok (.getfield 54, 3) := by decide +kernel
theorem dX0_append_147 : decode cX0_append 147 = .ok (.iconst 1, 1) := by decide +kernel
theorem dX0_append_148 : decode cX0_append 148 = .ok (.iadd, 1) := by decide +kernel
theorem dX0_append_149 : decode cX0_append 149 = .ok (.putfield 54, 3) := by decide +kernel
theorem dX0_append_152 : decode cX0_append 152 = .ok (.aload_n 0, 1) := by decide +kernel
theorem dX0_append_153 : decode cX0_append 153 = .ok (.getfield 28, 3) := by decide +kernel
theorem dX0_append_156 : decode cX0_append 156 = .ok (.aload_n 0, 1) := by decide +kernel
theorem dX0_append_157 : decode cX0_append 157 = .ok (.getfield 54, 3) := by decide +kernel
theorem dX0_append_160 : decode cX0_append 160 = .ok (.aload_n 0, 1) := by decide +kernel
theorem dX0_append_161 : decode cX0_append 161 = .ok (.getfield 51, 3) := by decide +kernel
theorem dX0_append_164 : decode cX0_append 164 = .ok (.iastore, 1) := by decide +kernel
theorem dX0_append_165 : decode cX0_append 165 = .ok (.aload_n 0, 1) := by decide +kernel
theorem dX0_append_166 : decode cX0_append 166 = .ok (.iload_n 1, 1) := by decide +kernel
theorem dX0_append_167 : decode cX0_append 167 = .ok (.putfield 57, 3) := by decide +kernel
theorem dX0_append_170 : decode cX0_append 170 = .ok (.aload_n 0, 1) := by decide +kernel
theorem dX0_append_171 : decode cX0_append 171 = .ok (.dup, 1) := by decide +kernel
theorem dX0_append_172 : decode cX0_append 172 = .ok (.getfield 51, 3) := by decide +kernel
theorem dX0_append_175 : decode cX0_append 175 = .ok (.iconst 1, 1) := by decide +kernel
theorem dX0_append_176 : decode cX0_append 176 = .ok (.iadd, 1) := by decide +kernel
theorem dX0_append_177 : decode cX0_append 177 = .ok (.putfield 51, 3) := by decide +kernel
theorem dX0_append_180 : decode cX0_append 180 = .ok (.aload_n 0, 1) := by decide +kernel
theorem dX0_append_181 : decode cX0_append 181 = .ok (.getfield 51, 3) := by decide +kernel
theorem dX0_append_184 : decode cX0_append 184 = .ok (.ireturn, 1) := by decide +kernel
abbrev cX0_repeat : ByteArray := prog_1_method_5_code
def yX0_repeat : MethodName := ⟨RX0, "repeat", "(II)I"⟩
theorem dX0_repeat_0 : decode cX0_repeat 0 = .ok (.iload_n 2, 1) := by decide +kernel
theorem dX0_repeat_1 : decode cX0_repeat 1 = .ok (.ifCond .ge 7, 3) := by decide +kernel
theorem dX0_repeat_4 : decode cX0_repeat 4 = .ok (.iconst 0, 1) := by decide +kernel
theorem dX0_repeat_5 : decode cX0_repeat 5 = .ok (.goto 4, 3) := by decide +kernel
theorem dX0_repeat_8 : decode cX0_repeat 8 = .ok (.iload_n 2, 1) := by decide +kernel
theorem dX0_repeat_9 : decode cX0_repeat 9 = .ok (.istore_n 3, 1) := by decide +kernel
theorem dX0_repeat_10 : decode cX0_repeat 10 = .ok (.iload_n 1, 1) := by decide +kernel
theorem dX0_repeat_11 : decode cX0_repeat 11 = .ok (.ifCond .lt 11, 3) := by decide +kernel
theorem dX0_repeat_14 : decode cX0_repeat 14 = .ok (.iload_n 1, 1) := by decide +kernel
theorem dX0_repeat_15 : decode cX0_repeat 15 = .ok (.aload_n 0, 1) := by decide +kernel
theorem dX0_repeat_16 : decode cX0_repeat 16 = .ok (.getfield 51, 3) := by decide +kernel
theorem dX0_repeat_19 : decode cX0_repeat 19 = .ok (.if_icmp .lt 6, 3) := by decide +kernel
theorem dX0_repeat_22 : decode cX0_repeat 22 = .ok (.bipush (-3), 2) := by decide +kernel
theorem dX0_repeat_24 : decode cX0_repeat 24 = .ok (.ireturn, 1) := by decide +kernel
theorem dX0_repeat_25 : decode cX0_repeat 25 = .ok (.iload_n 3, 1) := by decide +kernel
theorem dX0_repeat_26 : decode cX0_repeat 26 = .ok (.bipush 120, 2) := by decide +kernel
theorem dX0_repeat_28 : decode cX0_repeat 28 = .ok (.aload_n 0, 1) := by decide +kernel
theorem dX0_repeat_29 : decode cX0_repeat 29 = .ok (.getfield 51, 3) := by decide +kernel
theorem dX0_repeat_32 : decode cX0_repeat 32 = .ok (.isub, 1) := by decide +kernel
theorem dX0_repeat_33 : decode cX0_repeat 33 = .ok (.if_icmp .le 6, 3) := by decide +kernel
theorem dX0_repeat_36 : decode cX0_repeat 36 = .ok (.bipush (-2), 2) := by decide +kernel
theorem dX0_repeat_38 : decode cX0_repeat 38 = .ok (.ireturn, 1) := by decide +kernel
theorem dX0_repeat_39 : decode cX0_repeat 39 = .ok (.iconst 0, 1) := by decide +kernel
theorem dX0_repeat_40 : decode cX0_repeat 40 = .ok (.istore 4, 2) := by decide +kernel
theorem dX0_repeat_42 : decode cX0_repeat 42 = .ok (.iload 4, 2) := by decide +kernel
theorem dX0_repeat_44 : decode cX0_repeat 44 = .ok (.iload_n 3, 1) := by decide +kernel
theorem dX0_repeat_45 : decode cX0_repeat 45 = .ok (.if_icmp .ge 26, 3) := by decide +kernel
theorem dX0_repeat_48 : decode cX0_repeat 48 = .ok (.aload_n 0, 1) := by decide +kernel
theorem dX0_repeat_49 : decode cX0_repeat 49 = .ok (.iload_n 1, 1) := by decide +kernel
theorem dX0_repeat_50 : decode cX0_repeat 50 = .ok (.iload 4, 2) := by decide +kernel
theorem dX0_repeat_52 : decode cX0_repeat 52 = .ok (.iadd, 1) := by decide +kernel
theorem dX0_repeat_53 : decode cX0_repeat 53 = .ok (.invokevirtual 68, 3) := by decide +kernel
theorem dX0_repeat_56 : decode cX0_repeat 56 = .ok (.istore 5, 2) := by decide +kernel
theorem dX0_repeat_58 : decode cX0_repeat 58 = .ok (.aload_n 0, 1) := by decide +kernel
theorem dX0_repeat_59 : decode cX0_repeat 59 = .ok (.iload 5, 2) := by decide +kernel
theorem dX0_repeat_61 : decode cX0_repeat 61 = .ok (.invokevirtual 72, 3) := by decide +kernel
theorem dX0_repeat_64 : decode cX0_repeat 64 = .ok (.pop, 1) := by decide +kernel
theorem dX0_repeat_65 : decode cX0_repeat 65 = .ok (.iinc 4 1, 3) := by decide +kernel
theorem dX0_repeat_68 : decode cX0_repeat 68 = .ok (.goto (-26), 3) := by decide +kernel
theorem dX0_repeat_71 : decode cX0_repeat 71 = .ok (.aload_n 0, 1) := by decide +kernel
theorem dX0_repeat_72 : decode cX0_repeat 72 = .ok (.getfield 51, 3) := by decide +kernel
theorem dX0_repeat_75 : decode cX0_repeat 75 = .ok (.ireturn, 1) := by decide +kernel
end
section
set_option maxRecDepth 100000
abbrev cX0_letterAt : ByteArray := prog_1_method_17_code
def yX0_letterAt : MethodName := ⟨RX0, "letterAt", "(I)I"⟩
theorem dX0_letterAt_0 : decode cX0_letterAt 0 = .ok (.iload_n 1, 1) := by decide +kernel
theorem dX0_letterAt_1 : decode cX0_letterAt 1 = .ok (.ifCond .lt 11, 3) := by decide +kernel
theorem dX0_letterAt_4 : decode cX0_letterAt 4 = .ok (.iload_n 1, 1) := by decide +kernel
theorem dX0_letterAt_5 : decode cX0_letterAt 5 = .ok (.aload_n 0, 1) := by decide +kernel
theorem dX0_letterAt_6 : decode cX0_letterAt 6 = .ok (.getfield 51, 3) := by decide +kernel
theorem dX0_letterAt_9 : decode cX0_letterAt 9 = .ok (.if_icmp .lt 6, 3) := by decide +kernel
theorem dX0_letterAt_12 : decode cX0_letterAt 12 = .ok (.bipush (-4), 2) := by decide +kernel
theorem dX0_letterAt_14 : decode cX0_letterAt 14 = .ok (.ireturn, 1) := by decide +kernel
theorem dX0_letterAt_15 : decode cX0_letterAt 15 = .ok (.aload_n 0, 1) := by decide +kernel
theorem dX0_letterAt_16 : decode cX0_letterAt 16 = .ok (.iload_n 1, 1) := by decide +kernel
theorem dX0_letterAt_17 : decode cX0_letterAt 17 = .ok (.invokevirtual 85, 3) := by decide +kernel
theorem dX0_letterAt_20 : decode cX0_letterAt 20 = .ok (.istore_n 2, 1) := by decide +kernel
theorem dX0_letterAt_21 : decode cX0_letterAt 21 = .ok (.aload_n 0, 1) := by decide +kernel
theorem dX0_letterAt_22 : decode cX0_letterAt 22 = .ok (.iload_n 2, 1) := by decide +kernel
theorem dX0_letterAt_23 : decode cX0_letterAt 23 = .ok (.invokevirtual 88, 3) := by decide +kernel
theorem dX0_letterAt_26 : decode cX0_letterAt 26 = .ok (.istore_n 3, 1) := by decide +kernel
theorem dX0_letterAt_27 : decode cX0_letterAt 27 = .ok (.aload_n 0, 1) := by decide +kernel
theorem dX0_letterAt_28 : decode cX0_letterAt 28 = .ok (.iload_n 3, 1) := by decide +kernel
theorem dX0_letterAt_29 : decode cX0_letterAt 29 = .ok (.iload_n 1, 1) := by decide +kernel
theorem dX0_letterAt_30 : decode cX0_letterAt 30 = .ok (.aload_n 0, 1) := by decide +kernel
theorem dX0_letterAt_31 : decode cX0_letterAt 31 = .ok (.getfield 28, 3) := by decide +kernel
theorem dX0_letterAt_34 : decode cX0_letterAt 34 = .ok (.iload_n 2, 1) := by decide +kernel
theorem dX0_letterAt_35 : decode cX0_letterAt 35 = .ok (.iaload, 1) := by decide +kernel
theorem dX0_letterAt_36 : decode cX0_letterAt 36 = .ok (.isub, 1) := by decide +kernel
theorem dX0_letterAt_37 : decode cX0_letterAt 37 = .ok (.iconst 1, 1) := by decide +kernel
theorem dX0_letterAt_38 : decode cX0_letterAt 38 = .ok (.iadd, 1) := by decide +kernel
theorem dX0_letterAt_39 : decode cX0_letterAt 39 = .ok (.invokevirtual 91, 3) := by decide +kernel
theorem dX0_letterAt_42 : decode cX0_letterAt 42 = .ok (.istore_n 3, 1) := by decide +kernel
theorem dX0_letterAt_43 : decode cX0_letterAt 43 = .ok (.aload_n 0, 1) := by decide +kernel
theorem dX0_letterAt_44 : decode cX0_letterAt 44 = .ok (.getfield 13, 3) := by decide +kernel
theorem dX0_letterAt_47 : decode cX0_letterAt 47 = .ok (.iload_n 3, 1) := by decide +kernel
theorem dX0_letterAt_48 : decode cX0_letterAt 48 = .ok (.iaload, 1) := by decide +kernel
theorem dX0_letterAt_49 : decode cX0_letterAt 49 = .ok (.ireturn, 1) := by decide +kernel
abbrev cX0_phraseHolding : ByteArray := prog_1_method_13_code
def yX0_phraseHolding : MethodName := ⟨RX0, "phraseHolding", "(I)I"⟩
theorem dX0_phraseHolding_0 : decode cX0_phraseHolding 0 = .ok (.iconst 0, 1) := by decide +kernel
theorem dX0_phraseHolding_1 : decode cX0_phraseHolding 1 = .ok (.istore_n 2, 1) := by decide +kernel
theorem dX0_phraseHolding_2 : decode cX0_phraseHolding 2 = .ok (.aload_n 0, 1) := by decide +kernel
theorem dX0_phraseHolding_3 : decode cX0_phraseHolding 3 = .ok (.getfield 54, 3) := by decide +kernel
theorem dX0_phraseHolding_6 : decode cX0_phraseHolding 6 = .ok (.istore_n 3, 1) := by decide +kernel
theorem dX0_phraseHolding_7 : decode cX0_phraseHolding 7 = .ok (.iload_n 2, 1) := by decide +kernel
theorem dX0_phraseHolding_8 : decode cX0_phraseHolding 8 = .ok (.iload_n 3, 1) := by decide +kernel
theorem dX0_phraseHolding_9 : decode cX0_phraseHolding 9 = .ok (.if_icmp .ge 37, 3) := by decide +kernel
theorem dX0_phraseHolding_12 : decode cX0_phraseHolding 12 = .ok (.iload_n 2, 1) := by decide +kernel
theorem dX0_phraseHolding_13 : decode cX0_phraseHolding 13 = .ok (.iload_n 3, 1) := by decide +kernel
theorem dX0_phraseHolding_14 : decode cX0_phraseHolding 14 = .ok (.iadd, 1) := by decide +kernel
theorem dX0_phraseHolding_15 : decode cX0_phraseHolding 15 = .ok (.iconst 1, 1) := by decide +kernel
theorem dX0_phraseHolding_16 : decode cX0_phraseHolding 16 = .ok (.iadd, 1) := by decide +kernel
theorem dX0_phraseHolding_17 : decode cX0_phraseHolding 17 = .ok (.iconst 2, 1) := by decide +kernel
theorem dX0_phraseHolding_18 : decode cX0_phraseHolding 18 = .ok (.idiv, 1) := by decide +kernel
theorem dX0_phraseHolding_19 : decode cX0_phraseHolding 19 = .ok (.istore 4, 2) := by decide +kernel
theorem dX0_phraseHolding_21 : decode cX0_phraseHolding 21 = .ok (.aload_n 0, 1) := by decide +kernel
theorem dX0_phraseHolding_22 : decode cX0_phraseHolding 22 = .ok (.getfield 28, 3) := by decide +kernel
theorem dX0_phraseHolding_25 : decode cX0_phraseHolding 25 = .ok (.iload 4, 2) := by decide +kernel
theorem dX0_phraseHolding_27 : decode cX0_phraseHolding 27 = .ok (.iaload, 1) := by decide +kernel
theorem dX0_phraseHolding_28 : decode cX0_phraseHolding 28 = .ok (.iload_n 1, 1) := by decide +kernel
theorem dX0_phraseHolding_29 : decode cX0_phraseHolding 29 = .ok (.if_icmp .gt 9, 3) := by decide +kernel
theorem dX0_phraseHolding_32 : decode cX0_phraseHolding 32 = .ok (.iload 4, 2) := by decide +kernel
theorem dX0_phraseHolding_34 : decode cX0_phraseHolding 34 = .ok (.istore_n 2, 1) := by decide +kernel
theorem dX0_phraseHolding_35 : decode cX0_phraseHolding 35 = .ok (.goto 8, 3) := by decide +kernel
theorem dX0_phraseHolding_38 : decode cX0_phraseHolding 38 = .ok (.iload 4, 2) := by decide +kernel
theorem dX0_phraseHolding_40 : decode cX0_phraseHolding 40 = .ok (.iconst 1, 1) := by decide +kernel
theorem dX0_phraseHolding_41 : decode cX0_phraseHolding 41 = .ok (.isub, 1) := by decide +kernel
theorem dX0_phraseHolding_42 : decode cX0_phraseHolding 42 = .ok (.istore_n 3, 1) := by decide +kernel
theorem dX0_phraseHolding_43 : decode cX0_phraseHolding 43 = .ok (.goto (-36), 3) := by decide +kernel
theorem dX0_phraseHolding_46 : decode cX0_phraseHolding 46 = .ok (.iload_n 2, 1) := by decide +kernel
theorem dX0_phraseHolding_47 : decode cX0_phraseHolding 47 = .ok (.ireturn, 1) := by decide +kernel
abbrev cX0_phraseAt : ByteArray := prog_1_method_12_code
def yX0_phraseAt : MethodName := ⟨RX0, "phraseAt", "(I)I"⟩
theorem dX0_phraseAt_0 : decode cX0_phraseAt 0 = .ok (.iload_n 1, 1) := by decide +kernel
theorem dX0_phraseAt_1 : decode cX0_phraseAt 1 = .ok (.aload_n 0, 1) := by decide +kernel
theorem dX0_phraseAt_2 : decode cX0_phraseAt 2 = .ok (.getfield 54, 3) := by decide +kernel
theorem dX0_phraseAt_5 : decode cX0_phraseAt 5 = .ok (.if_icmp .ge 12, 3) := by decide +kernel
theorem dX0_phraseAt_8 : decode cX0_phraseAt 8 = .ok (.aload_n 0, 1) := by decide +kernel
theorem dX0_phraseAt_9 : decode cX0_phraseAt 9 = .ok (.getfield 25, 3) := by decide +kernel
theorem dX0_phraseAt_12 : decode cX0_phraseAt 12 = .ok (.iload_n 1, 1) := by decide +kernel
theorem dX0_phraseAt_13 : decode cX0_phraseAt 13 = .ok (.iaload, 1) := by decide +kernel
theorem dX0_phraseAt_14 : decode cX0_phraseAt 14 = .ok (.goto 7, 3) := by decide +kernel
theorem dX0_phraseAt_17 : decode cX0_phraseAt 17 = .ok (.aload_n 0, 1) := by decide +kernel
theorem dX0_phraseAt_18 : decode cX0_phraseAt 18 = .ok (.getfield 57, 3) := by decide +kernel
theorem dX0_phraseAt_21 : decode cX0_phraseAt 21 = .ok (.ireturn, 1) := by decide +kernel
abbrev cX0_beginning : ByteArray := prog_1_method_14_code
def yX0_beginning : MethodName := ⟨RX0, "beginning", "(II)I"⟩
theorem dX0_beginning_0 : decode cX0_beginning 0 = .ok (.iload_n 1, 1) := by decide +kernel
theorem dX0_beginning_1 : decode cX0_beginning 1 = .ok (.istore_n 3, 1) := by decide +kernel
theorem dX0_beginning_2 : decode cX0_beginning 2 = .ok (.aload_n 0, 1) := by decide +kernel
theorem dX0_beginning_3 : decode cX0_beginning 3 = .ok (.getfield 16, 3) := by decide +kernel
theorem dX0_beginning_6 : decode cX0_beginning 6 = .ok (.iload_n 3, 1) := by decide +kernel
theorem dX0_beginning_7 : decode cX0_beginning 7 = .ok (.iaload, 1) := by decide +kernel
theorem dX0_beginning_8 : decode cX0_beginning 8 = .ok (.iload_n 2, 1) := by decide +kernel
theorem dX0_beginning_9 : decode cX0_beginning 9 = .ok (.if_icmp .le 13, 3) := by decide +kernel
theorem dX0_beginning_12 : decode cX0_beginning 12 = .ok (.aload_n 0, 1) := by decide +kernel
theorem dX0_beginning_13 : decode cX0_beginning 13 = .ok (.getfield 7, 3) := by decide +kernel
theorem dX0_beginning_16 : decode cX0_beginning 16 = .ok (.iload_n 3, 1) := by decide +kernel
theorem dX0_beginning_17 : decode cX0_beginning 17 = .ok (.iaload, 1) := by decide +kernel
theorem dX0_beginning_18 : decode cX0_beginning 18 = .ok (.istore_n 3, 1) := by decide +kernel
theorem dX0_beginning_19 : decode cX0_beginning 19 = .ok (.goto (-17), 3) := by decide +kernel
theorem dX0_beginning_22 : decode cX0_beginning 22 = .ok (.iload_n 3, 1) := by decide +kernel
theorem dX0_beginning_23 : decode cX0_beginning 23 = .ok (.ireturn, 1) := by decide +kernel
abbrev cX0_clear : ByteArray := prog_1_method_6_code
def yX0_clear : MethodName := ⟨RX0, "clear", "()V"⟩
theorem dX0_clear_0 : decode cX0_clear 0 = .ok (.aload_n 0, 1) := by decide +kernel
theorem dX0_clear_1 : decode cX0_clear 1 = .ok (.invokevirtual 44, 3) := by decide +kernel
theorem dX0_clear_4 : decode cX0_clear 4 = .ok (.return_, 1) := by decide +kernel
abbrev cX0_pattern : ByteArray := prog_1_method_7_code
def yX0_pattern : MethodName := ⟨RX0, "pattern", "(I)I"⟩
theorem dX0_pattern_0 : decode cX0_pattern 0 = .ok (.iload_n 1, 1) := by decide +kernel
theorem dX0_pattern_1 : decode cX0_pattern 1 = .ok (.ifCond .lt 8, 3) := by decide +kernel
theorem dX0_pattern_4 : decode cX0_pattern 4 = .ok (.iload_n 1, 1) := by decide +kernel
theorem dX0_pattern_5 : decode cX0_pattern 5 = .ok (.iconst 3, 1) := by decide +kernel
theorem dX0_pattern_6 : decode cX0_pattern 6 = .ok (.if_icmp .le 5, 3) := by decide +kernel
theorem dX0_pattern_9 : decode cX0_pattern 9 = .ok (.iconst (-1), 1) := by decide +kernel
theorem dX0_pattern_10 : decode cX0_pattern 10 = .ok (.ireturn, 1) := by decide +kernel
theorem dX0_pattern_11 : decode cX0_pattern 11 = .ok (.aload_n 0, 1) := by decide +kernel
theorem dX0_pattern_12 : decode cX0_pattern 12 = .ok (.getfield 75, 3) := by decide +kernel
theorem dX0_pattern_15 : decode cX0_pattern 15 = .ok (.bipush 10, 2) := by decide +kernel
theorem dX0_pattern_17 : decode cX0_pattern 17 = .ok (.if_icmp .lt 6, 3) := by decide +kernel
theorem dX0_pattern_20 : decode cX0_pattern 20 = .ok (.bipush (-2), 2) := by decide +kernel
theorem dX0_pattern_22 : decode cX0_pattern 22 = .ok (.ireturn, 1) := by decide +kernel
theorem dX0_pattern_23 : decode cX0_pattern 23 = .ok (.aload_n 0, 1) := by decide +kernel
theorem dX0_pattern_24 : decode cX0_pattern 24 = .ok (.getfield 31, 3) := by decide +kernel
theorem dX0_pattern_27 : decode cX0_pattern 27 = .ok (.aload_n 0, 1) := by decide +kernel
theorem dX0_pattern_28 : decode cX0_pattern 28 = .ok (.getfield 75, 3) := by decide +kernel
theorem dX0_pattern_31 : decode cX0_pattern 31 = .ok (.iload_n 1, 1) := by decide +kernel
theorem dX0_pattern_32 : decode cX0_pattern 32 = .ok (.iastore, 1) := by decide +kernel
theorem dX0_pattern_33 : decode cX0_pattern 33 = .ok (.aload_n 0, 1) := by decide +kernel
theorem dX0_pattern_34 : decode cX0_pattern 34 = .ok (.dup, 1) := by decide +kernel
theorem dX0_pattern_35 : decode cX0_pattern 35 = .ok (.getfield 75, 3) := by decide +kernel
theorem dX0_pattern_38 : decode cX0_pattern 38 = .ok (.iconst 1, 1) := by decide +kernel
theorem dX0_pattern_39 : decode cX0_pattern 39 = .ok (.iadd, 1) := by decide +kernel
theorem dX0_pattern_40 : decode cX0_pattern 40 = .ok (.putfield 75, 3) := by decide +kernel
theorem dX0_pattern_43 : decode cX0_pattern 43 = .ok (.aload_n 0, 1) := by decide +kernel
theorem dX0_pattern_44 : decode cX0_pattern 44 = .ok (.invokevirtual 78, 3) := by decide +kernel
theorem dX0_pattern_47 : decode cX0_pattern 47 = .ok (.aload_n 0, 1) := by decide +kernel
theorem dX0_pattern_48 : decode cX0_pattern 48 = .ok (.getfield 75, 3) := by decide +kernel
theorem dX0_pattern_51 : decode cX0_pattern 51 = .ok (.ireturn, 1) := by decide +kernel
abbrev cX0_buildAutomaton : ByteArray := prog_1_method_9_code
def yX0_buildAutomaton : MethodName := ⟨RX0, "buildAutomaton", "()V"⟩
theorem dX0_buildAutomaton_0 : decode cX0_buildAutomaton 0 = .ok (.aload_n 0, 1) := by decide +kernel
theorem dX0_buildAutomaton_1 : decode cX0_buildAutomaton 1 = .ok (.iconst 0, 1) := by decide +kernel
theorem dX0_buildAutomaton_2 : decode cX0_buildAutomaton 2 = .ok (.putfield 60, 3) := by decide +kernel
theorem dX0_buildAutomaton_5 : decode cX0_buildAutomaton 5 = .ok (.iconst 0, 1) := by decide +kernel
theorem dX0_buildAutomaton_6 : decode cX0_buildAutomaton 6 = .ok (.istore_n 1, 1) := by decide +kernel
theorem dX0_buildAutomaton_7 : decode cX0_buildAutomaton 7 = .ok (.iload_n 1, 1) := by decide +kernel
theorem dX0_buildAutomaton_8 : decode cX0_buildAutomaton 8 = .ok (.iconst 4, 1) := by decide +kernel
theorem dX0_buildAutomaton_9 : decode cX0_buildAutomaton 9 = .ok (.if_icmp .ge 30, 3) := by decide +kernel
theorem dX0_buildAutomaton_12 : decode cX0_buildAutomaton 12 = .ok (.aload_n 0, 1) := by decide +kernel
theorem dX0_buildAutomaton_13 : decode cX0_buildAutomaton 13 = .ok (.getfield 34, 3) := by decide +kernel
theorem dX0_buildAutomaton_16 : decode cX0_buildAutomaton 16 = .ok (.iload_n 1, 1) := by decide +kernel
theorem dX0_buildAutomaton_17 : decode cX0_buildAutomaton 17 = .ok (.aload_n 0, 1) := by decide +kernel
theorem dX0_buildAutomaton_18 : decode cX0_buildAutomaton 18 = .ok (.getfield 31, 3) := by decide +kernel
theorem dX0_buildAutomaton_21 : decode cX0_buildAutomaton 21 = .ok (.iconst 0, 1) := by decide +kernel
theorem dX0_buildAutomaton_22 : decode cX0_buildAutomaton 22 = .ok (.iaload, 1) := by decide +kernel
theorem dX0_buildAutomaton_23 : decode cX0_buildAutomaton 23 = .ok (.iload_n 1, 1) := by decide +kernel
theorem dX0_buildAutomaton_24 : decode cX0_buildAutomaton 24 = .ok (.if_icmp .ne 7, 3) := by decide +kernel
theorem dX0_buildAutomaton_27 : decode cX0_buildAutomaton 27 = .ok (.iconst 1, 1) := by decide +kernel
theorem dX0_buildAutomaton_28 : decode cX0_buildAutomaton 28 = .ok (.goto 4, 3) := by decide +kernel
theorem dX0_buildAutomaton_31 : decode cX0_buildAutomaton 31 = .ok (.iconst 0, 1) := by decide +kernel
theorem dX0_buildAutomaton_32 : decode cX0_buildAutomaton 32 = .ok (.iastore, 1) := by decide +kernel
theorem dX0_buildAutomaton_33 : decode cX0_buildAutomaton 33 = .ok (.iinc 1 1, 3) := by decide +kernel
theorem dX0_buildAutomaton_36 : decode cX0_buildAutomaton 36 = .ok (.goto (-29), 3) := by decide +kernel
theorem dX0_buildAutomaton_39 : decode cX0_buildAutomaton 39 = .ok (.iconst 0, 1) := by decide +kernel
theorem dX0_buildAutomaton_40 : decode cX0_buildAutomaton 40 = .ok (.istore_n 1, 1) := by decide +kernel
theorem dX0_buildAutomaton_41 : decode cX0_buildAutomaton 41 = .ok (.iconst 1, 1) := by decide +kernel
theorem dX0_buildAutomaton_42 : decode cX0_buildAutomaton 42 = .ok (.istore_n 2, 1) := by decide +kernel
theorem dX0_buildAutomaton_43 : decode cX0_buildAutomaton 43 = .ok (.iload_n 2, 1) := by decide +kernel
theorem dX0_buildAutomaton_44 : decode cX0_buildAutomaton 44 = .ok (.aload_n 0, 1) := by decide +kernel
theorem dX0_buildAutomaton_45 : decode cX0_buildAutomaton 45 = .ok (.getfield 75, 3) := by decide +kernel
theorem dX0_buildAutomaton_48 : decode cX0_buildAutomaton 48 = .ok (.if_icmp .gt 102, 3) := by decide +kernel
theorem dX0_buildAutomaton_51 : decode cX0_buildAutomaton 51 = .ok (.iconst 0, 1) := by decide +kernel
theorem dX0_buildAutomaton_52 : decode cX0_buildAutomaton 52 = .ok (.istore_n 3, 1) := by decide +kernel
theorem dX0_buildAutomaton_53 : decode cX0_buildAutomaton 53 = .ok (.iload_n 3, 1) := by decide +kernel
theorem dX0_buildAutomaton_54 : decode cX0_buildAutomaton 54 = .ok (.iconst 4, 1) := by decide +kernel
theorem dX0_buildAutomaton_55 : decode cX0_buildAutomaton 55 = .ok (.if_icmp .ge 65, 3) := by decide +kernel
theorem dX0_buildAutomaton_58 : decode cX0_buildAutomaton 58 = .ok (.iload_n 2, 1) := by decide +kernel
theorem dX0_buildAutomaton_59 : decode cX0_buildAutomaton 59 = .ok (.aload_n 0, 1) := by decide +kernel
theorem dX0_buildAutomaton_60 : decode cX0_buildAutomaton 60 = .ok (.getfield 75, 3) := by decide +kernel
theorem dX0_buildAutomaton_63 : decode cX0_buildAutomaton 63 = .ok (.if_icmp .ge 17, 3) := by decide +kernel
theorem dX0_buildAutomaton_66 : decode cX0_buildAutomaton 66 = .ok (.aload_n 0, 1) := by decide +kernel
theorem dX0_buildAutomaton_67 : decode cX0_buildAutomaton 67 = .ok (.getfield 31, 3) := by decide +kernel
theorem dX0_buildAutomaton_70 : decode cX0_buildAutomaton 70 = .ok (.iload_n 2, 1) := by decide +kernel
theorem dX0_buildAutomaton_71 : decode cX0_buildAutomaton 71 = .ok (.iaload, 1) := by decide +kernel
theorem dX0_buildAutomaton_72 : decode cX0_buildAutomaton 72 = .ok (.iload_n 3, 1) := by decide +kernel
theorem dX0_buildAutomaton_73 : decode cX0_buildAutomaton 73 = .ok (.if_icmp .ne 7, 3) := by decide +kernel
theorem dX0_buildAutomaton_76 : decode cX0_buildAutomaton 76 = .ok (.iconst 1, 1) := by decide +kernel
theorem dX0_buildAutomaton_77 : decode cX0_buildAutomaton 77 = .ok (.goto 4, 3) := by decide +kernel
theorem dX0_buildAutomaton_80 : decode cX0_buildAutomaton 80 = .ok (.iconst 0, 1) := by decide +kernel
theorem dX0_buildAutomaton_81 : decode cX0_buildAutomaton 81 = .ok (.istore 4, 2) := by decide +kernel
theorem dX0_buildAutomaton_83 : decode cX0_buildAutomaton 83 = .ok (.aload_n 0, 1) := by decide +kernel
theorem dX0_buildAutomaton_84 : decode cX0_buildAutomaton 84 = .ok (.getfield 34, 3) := by decide +kernel
theorem dX0_buildAutomaton_87 : decode cX0_buildAutomaton 87 = .ok (.iload_n 2, 1) := by decide +kernel
theorem dX0_buildAutomaton_88 : decode cX0_buildAutomaton 88 = .ok (.iconst 4, 1) := by decide +kernel
theorem dX0_buildAutomaton_89 : decode cX0_buildAutomaton 89 = .ok (.imul, 1) := by decide +kernel
theorem dX0_buildAutomaton_90 : decode cX0_buildAutomaton 90 = .ok (.iload_n 3, 1) := by decide +kernel
theorem dX0_buildAutomaton_91 : decode cX0_buildAutomaton 91 = .ok (.iadd, 1) := by decide +kernel
theorem dX0_buildAutomaton_92 : decode cX0_buildAutomaton 92 = .ok (.iload 4, 2) := by decide +kernel
theorem dX0_buildAutomaton_94 : decode cX0_buildAutomaton 94 = .ok (.ifCond .eq 9, 3) := by decide +kernel
theorem dX0_buildAutomaton_97 : decode cX0_buildAutomaton 97 = .ok (.iload_n 2, 1) := by decide +kernel
theorem dX0_buildAutomaton_98 : decode cX0_buildAutomaton 98 = .ok (.iconst 1, 1) := by decide +kernel
theorem dX0_buildAutomaton_99 : decode cX0_buildAutomaton 99 = .ok (.iadd, 1) := by decide +kernel
theorem dX0_buildAutomaton_100 : decode cX0_buildAutomaton 100 = .ok (.goto 13, 3) := by decide +kernel
theorem dX0_buildAutomaton_103 : decode cX0_buildAutomaton 103 = .ok (.aload_n 0, 1) := by decide +kernel
theorem dX0_buildAutomaton_104 : decode cX0_buildAutomaton 104 = .ok (.getfield 34, 3) := by decide +kernel
theorem dX0_buildAutomaton_107 : decode cX0_buildAutomaton 107 = .ok (.iload_n 1, 1) := by decide +kernel
theorem dX0_buildAutomaton_108 : decode cX0_buildAutomaton 108 = .ok (.iconst 4, 1) := by decide +kernel
theorem dX0_buildAutomaton_109 : decode cX0_buildAutomaton 109 = .ok (.imul, 1) := by decide +kernel
theorem dX0_buildAutomaton_110 : decode cX0_buildAutomaton 110 = .ok (.iload_n 3, 1) := by decide +kernel
theorem dX0_buildAutomaton_111 : decode cX0_buildAutomaton 111 = .ok (.iadd, 1) := by decide +kernel
theorem dX0_buildAutomaton_112 : decode cX0_buildAutomaton 112 = .ok (.iaload, 1) := by decide +kernel
theorem dX0_buildAutomaton_113 : decode cX0_buildAutomaton 113 = .ok (.iastore, 1) := by decide +kernel
theorem dX0_buildAutomaton_114 : decode cX0_buildAutomaton 114 = .ok (.iinc 3 1, 3) := by decide +kernel
theorem dX0_buildAutomaton_117 : decode cX0_buildAutomaton 117 = .ok (.goto (-64), 3) := by decide +kernel
theorem dX0_buildAutomaton_120 : decode cX0_buildAutomaton 120 = .ok (.iload_n 2, 1) := by decide +kernel
theorem dX0_buildAutomaton_121 : decode cX0_buildAutomaton 121 = .ok (.aload_n 0, 1) := by decide +kernel
theorem dX0_buildAutomaton_122 : decode cX0_buildAutomaton 122 = .ok (.getfield 75, 3) := by decide +kernel
theorem dX0_buildAutomaton_125 : decode cX0_buildAutomaton 125 = .ok (.if_icmp .ge 19, 3) := by decide +kernel
theorem dX0_buildAutomaton_128 : decode cX0_buildAutomaton 128 = .ok (.aload_n 0, 1) := by decide +kernel
theorem dX0_buildAutomaton_129 : decode cX0_buildAutomaton 129 = .ok (.getfield 34, 3) := by decide +kernel
theorem dX0_buildAutomaton_132 : decode cX0_buildAutomaton 132 = .ok (.iload_n 1, 1) := by decide +kernel
theorem dX0_buildAutomaton_133 : decode cX0_buildAutomaton 133 = .ok (.iconst 4, 1) := by decide +kernel
theorem dX0_buildAutomaton_134 : decode cX0_buildAutomaton 134 = .ok (.imul, 1) := by decide +kernel
theorem dX0_buildAutomaton_135 : decode cX0_buildAutomaton 135 = .ok (.aload_n 0, 1) := by decide +kernel
theorem dX0_buildAutomaton_136 : decode cX0_buildAutomaton 136 = .ok (.getfield 31, 3) := by decide +kernel
theorem dX0_buildAutomaton_139 : decode cX0_buildAutomaton 139 = .ok (.iload_n 2, 1) := by decide +kernel
theorem dX0_buildAutomaton_140 : decode cX0_buildAutomaton 140 = .ok (.iaload, 1) := by decide +kernel
theorem dX0_buildAutomaton_141 : decode cX0_buildAutomaton 141 = .ok (.iadd, 1) := by decide +kernel
theorem dX0_buildAutomaton_142 : decode cX0_buildAutomaton 142 = .ok (.iaload, 1) := by decide +kernel
theorem dX0_buildAutomaton_143 : decode cX0_buildAutomaton 143 = .ok (.istore_n 1, 1) := by decide +kernel
theorem dX0_buildAutomaton_144 : decode cX0_buildAutomaton 144 = .ok (.iinc 2 1, 3) := by decide +kernel
theorem dX0_buildAutomaton_147 : decode cX0_buildAutomaton 147 = .ok (.goto (-104), 3) := by decide +kernel
theorem dX0_buildAutomaton_150 : decode cX0_buildAutomaton 150 = .ok (.return_, 1) := by decide +kernel
abbrev cX0_clearPattern : ByteArray := prog_1_method_8_code
def yX0_clearPattern : MethodName := ⟨RX0, "clearPattern", "()V"⟩
theorem dX0_clearPattern_0 : decode cX0_clearPattern 0 = .ok (.aload_n 0, 1) := by decide +kernel
theorem dX0_clearPattern_1 : decode cX0_clearPattern 1 = .ok (.iconst 0, 1) := by decide +kernel
theorem dX0_clearPattern_2 : decode cX0_clearPattern 2 = .ok (.putfield 75, 3) := by decide +kernel
theorem dX0_clearPattern_5 : decode cX0_clearPattern 5 = .ok (.aload_n 0, 1) := by decide +kernel
theorem dX0_clearPattern_6 : decode cX0_clearPattern 6 = .ok (.iconst 0, 1) := by decide +kernel
theorem dX0_clearPattern_7 : decode cX0_clearPattern 7 = .ok (.putfield 60, 3) := by decide +kernel
theorem dX0_clearPattern_10 : decode cX0_clearPattern 10 = .ok (.return_, 1) := by decide +kernel
abbrev cX0_length : ByteArray := prog_1_method_16_code
def yX0_length : MethodName := ⟨RX0, "length", "()I"⟩
theorem dX0_length_0 : decode cX0_length 0 = .ok (.aload_n 0, 1) := by decide +kernel
theorem dX0_length_1 : decode cX0_length 1 = .ok (.getfield 51, 3) := by decide +kernel
theorem dX0_length_4 : decode cX0_length 4 = .ok (.ireturn, 1) := by decide +kernel
abbrev cX0_count : ByteArray := prog_1_method_18_code
def yX0_count : MethodName := ⟨RX0, "count", "()I"⟩
theorem dX0_count_0 : decode cX0_count 0 = .ok (.aload_n 0, 1) := by decide +kernel
theorem dX0_count_1 : decode cX0_count 1 = .ok (.aload_n 0, 1) := by decide +kernel
theorem dX0_count_2 : decode cX0_count 2 = .ok (.getfield 51, 3) := by decide +kernel
theorem dX0_count_5 : decode cX0_count 5 = .ok (.invokevirtual 95, 3) := by decide +kernel
theorem dX0_count_8 : decode cX0_count 8 = .ok (.ireturn, 1) := by decide +kernel
abbrev cX0_countWithin : ByteArray := prog_1_method_23_code
def yX0_countWithin : MethodName := ⟨RX0, "countWithin", "(I)I"⟩
theorem dX0_countWithin_0 : decode cX0_countWithin 0 = .ok (.aload_n 0, 1) := by decide +kernel
theorem dX0_countWithin_1 : decode cX0_countWithin 1 = .ok (.iload_n 1, 1) := by decide +kernel
theorem dX0_countWithin_2 : decode cX0_countWithin 2 = .ok (.invokevirtual 105, 3) := by decide +kernel
theorem dX0_countWithin_5 : decode cX0_countWithin 5 = .ok (.istore_n 2, 1) := by decide +kernel
theorem dX0_countWithin_6 : decode cX0_countWithin 6 = .ok (.aload_n 0, 1) := by decide +kernel
theorem dX0_countWithin_7 : decode cX0_countWithin 7 = .ok (.getfield 75, 3) := by decide +kernel
theorem dX0_countWithin_10 : decode cX0_countWithin 10 = .ok (.ifCond .eq 7, 3) := by decide +kernel
theorem dX0_countWithin_13 : decode cX0_countWithin 13 = .ok (.iload_n 2, 1) := by decide +kernel
theorem dX0_countWithin_14 : decode cX0_countWithin 14 = .ok (.ifCond .ne 5, 3) := by decide +kernel
theorem dX0_countWithin_17 : decode cX0_countWithin 17 = .ok (.iconst 0, 1) := by decide +kernel
theorem dX0_countWithin_18 : decode cX0_countWithin 18 = .ok (.ireturn, 1) := by decide +kernel
theorem dX0_countWithin_19 : decode cX0_countWithin 19 = .ok (.aload_n 0, 1) := by decide +kernel
theorem dX0_countWithin_20 : decode cX0_countWithin 20 = .ok (.invokevirtual 98, 3) := by decide +kernel
theorem dX0_countWithin_23 : decode cX0_countWithin 23 = .ok (.iconst 0, 1) := by decide +kernel
theorem dX0_countWithin_24 : decode cX0_countWithin 24 = .ok (.istore_n 3, 1) := by decide +kernel
theorem dX0_countWithin_25 : decode cX0_countWithin 25 = .ok (.iconst 0, 1) := by decide +kernel
theorem dX0_countWithin_26 : decode cX0_countWithin 26 = .ok (.istore 4, 2) := by decide +kernel
theorem dX0_countWithin_28 : decode cX0_countWithin 28 = .ok (.iconst 0, 1) := by decide +kernel
theorem dX0_countWithin_29 : decode cX0_countWithin 29 = .ok (.istore 5, 2) := by decide +kernel
theorem dX0_countWithin_31 : decode cX0_countWithin 31 = .ok (.iload 5, 2) := by decide +kernel
theorem dX0_countWithin_33 : decode cX0_countWithin 33 = .ok (.aload_n 0, 1) := by decide +kernel
theorem dX0_countWithin_34 : decode cX0_countWithin 34 = .ok (.getfield 54, 3) := by decide +kernel
theorem dX0_countWithin_37 : decode cX0_countWithin 37 = .ok (.if_icmp .gt 75, 3) := by decide +kernel
theorem dX0_countWithin_40 : decode cX0_countWithin 40 = .ok (.aload_n 0, 1) := by decide +kernel
theorem dX0_countWithin_41 : decode cX0_countWithin 41 = .ok (.getfield 28, 3) := by decide +kernel
theorem dX0_countWithin_44 : decode cX0_countWithin 44 = .ok (.iload 5, 2) := by decide +kernel
theorem dX0_countWithin_46 : decode cX0_countWithin 46 = .ok (.iaload, 1) := by decide +kernel
theorem dX0_countWithin_47 : decode cX0_countWithin 47 = .ok (.iload_n 2, 1) := by decide +kernel
theorem dX0_countWithin_48 : decode cX0_countWithin 48 = .ok (.if_icmp .ge 64, 3) := by decide +kernel
theorem dX0_countWithin_51 : decode cX0_countWithin 51 = .ok (.aload_n 0, 1) := by decide +kernel
theorem dX0_countWithin_52 : decode cX0_countWithin 52 = .ok (.iload 5, 2) := by decide +kernel
theorem dX0_countWithin_54 : decode cX0_countWithin 54 = .ok (.invokevirtual 88, 3) := by decide +kernel
theorem dX0_countWithin_57 : decode cX0_countWithin 57 = .ok (.istore 6, 2) := by decide +kernel
theorem dX0_countWithin_59 : decode cX0_countWithin 59 = .ok (.aload_n 0, 1) := by decide +kernel
theorem dX0_countWithin_60 : decode cX0_countWithin 60 = .ok (.iload 6, 2) := by decide +kernel
theorem dX0_countWithin_62 : decode cX0_countWithin 62 = .ok (.iload_n 2, 1) := by decide +kernel
theorem dX0_countWithin_63 : decode cX0_countWithin 63 = .ok (.aload_n 0, 1) := by decide +kernel
theorem dX0_countWithin_64 : decode cX0_countWithin 64 = .ok (.getfield 28, 3) := by decide +kernel
theorem dX0_countWithin_67 : decode cX0_countWithin 67 = .ok (.iload 5, 2) := by decide +kernel
theorem dX0_countWithin_69 : decode cX0_countWithin 69 = .ok (.iaload, 1) := by decide +kernel
theorem dX0_countWithin_70 : decode cX0_countWithin 70 = .ok (.isub, 1) := by decide +kernel
theorem dX0_countWithin_71 : decode cX0_countWithin 71 = .ok (.invokevirtual 91, 3) := by decide +kernel
theorem dX0_countWithin_74 : decode cX0_countWithin 74 = .ok (.istore 6, 2) := by decide +kernel
theorem dX0_countWithin_76 : decode cX0_countWithin 76 = .ok (.iload 4, 2) := by decide +kernel
theorem dX0_countWithin_78 : decode cX0_countWithin 78 = .ok (.aload_n 0, 1) := by decide +kernel
theorem dX0_countWithin_79 : decode cX0_countWithin 79 = .ok (.getfield 41, 3) := by decide +kernel
theorem dX0_countWithin_82 : decode cX0_countWithin 82 = .ok (.iload 6, 2) := by decide +kernel
theorem dX0_countWithin_84 : decode cX0_countWithin 84 = .ok (.bipush 11, 2) := by decide +kernel
theorem dX0_countWithin_86 : decode cX0_countWithin 86 = .ok (.imul, 1) := by decide +kernel
theorem dX0_countWithin_87 : decode cX0_countWithin 87 = .ok (.iload_n 3, 1) := by decide +kernel
theorem dX0_countWithin_88 : decode cX0_countWithin 88 = .ok (.iadd, 1) := by decide +kernel
theorem dX0_countWithin_89 : decode cX0_countWithin 89 = .ok (.baload, 1) := by decide +kernel
theorem dX0_countWithin_90 : decode cX0_countWithin 90 = .ok (.iadd, 1) := by decide +kernel
theorem dX0_countWithin_91 : decode cX0_countWithin 91 = .ok (.istore 4, 2) := by decide +kernel
theorem dX0_countWithin_93 : decode cX0_countWithin 93 = .ok (.aload_n 0, 1) := by decide +kernel
theorem dX0_countWithin_94 : decode cX0_countWithin 94 = .ok (.getfield 37, 3) := by decide +kernel
theorem dX0_countWithin_97 : decode cX0_countWithin 97 = .ok (.iload 6, 2) := by decide +kernel
theorem dX0_countWithin_99 : decode cX0_countWithin 99 = .ok (.bipush 11, 2) := by decide +kernel
theorem dX0_countWithin_101 : decode cX0_countWithin 101 = .ok (.imul, 1) := by decide +kernel
theorem dX0_countWithin_102 : decode cX0_countWithin 102 = .ok (.iload_n 3, 1) := by decide +kernel
theorem dX0_countWithin_103 : decode cX0_countWithin 103 = .ok (.iadd, 1) := by decide +kernel
theorem dX0_countWithin_104 : decode cX0_countWithin 104 = .ok (.baload, 1) := by decide +kernel
theorem dX0_countWithin_105 : decode cX0_countWithin 105 = .ok (.istore_n 3, 1) := by decide +kernel
theorem dX0_countWithin_106 : decode cX0_countWithin 106 = .ok (.iinc 5 1, 3) := by decide +kernel
theorem dX0_countWithin_109 : decode cX0_countWithin 109 = .ok (.goto (-78), 3) := by decide +kernel
theorem dX0_countWithin_112 : decode cX0_countWithin 112 = .ok (.iload 4, 2) := by decide +kernel
theorem dX0_countWithin_114 : decode cX0_countWithin 114 = .ok (.ireturn, 1) := by decide +kernel
end
section
set_option maxRecDepth 100000
abbrev cX0_clampLength : ByteArray := prog_1_method_15_code
def yX0_clampLength : MethodName := ⟨RX0, "clampLength", "(I)I"⟩
theorem dX0_clampLength_0 : decode cX0_clampLength 0 = .ok (.iload_n 1, 1) := by decide +kernel
theorem dX0_clampLength_1 : decode cX0_clampLength 1 = .ok (.ifCond .ge 5, 3) := by decide +kernel
theorem dX0_clampLength_4 : decode cX0_clampLength 4 = .ok (.iconst 0, 1) := by decide +kernel
theorem dX0_clampLength_5 : decode cX0_clampLength 5 = .ok (.ireturn, 1) := by decide +kernel
theorem dX0_clampLength_6 : decode cX0_clampLength 6 = .ok (.iload_n 1, 1) := by decide +kernel
theorem dX0_clampLength_7 : decode cX0_clampLength 7 = .ok (.aload_n 0, 1) := by decide +kernel
theorem dX0_clampLength_8 : decode cX0_clampLength 8 = .ok (.getfield 51, 3) := by decide +kernel
theorem dX0_clampLength_11 : decode cX0_clampLength 11 = .ok (.if_icmp .le 10, 3) := by decide +kernel
theorem dX0_clampLength_14 : decode cX0_clampLength 14 = .ok (.aload_n 0, 1) := by decide +kernel
theorem dX0_clampLength_15 : decode cX0_clampLength 15 = .ok (.getfield 51, 3) := by decide +kernel
theorem dX0_clampLength_18 : decode cX0_clampLength 18 = .ok (.goto 4, 3) := by decide +kernel
theorem dX0_clampLength_21 : decode cX0_clampLength 21 = .ok (.iload_n 1, 1) := by decide +kernel
theorem dX0_clampLength_22 : decode cX0_clampLength 22 = .ok (.ireturn, 1) := by decide +kernel
abbrev cX0_prepare : ByteArray := prog_1_method_10_code
def yX0_prepare : MethodName := ⟨RX0, "prepare", "()V"⟩
theorem dX0_prepare_0 : decode cX0_prepare 0 = .ok (.aload_n 0, 1) := by decide +kernel
theorem dX0_prepare_1 : decode cX0_prepare 1 = .ok (.getfield 60, 3) := by decide +kernel
theorem dX0_prepare_4 : decode cX0_prepare 4 = .ok (.ifCond .eq 4, 3) := by decide +kernel
theorem dX0_prepare_7 : decode cX0_prepare 7 = .ok (.return_, 1) := by decide +kernel
theorem dX0_prepare_8 : decode cX0_prepare 8 = .ok (.aload_n 0, 1) := by decide +kernel
theorem dX0_prepare_9 : decode cX0_prepare 9 = .ok (.iconst 1, 1) := by decide +kernel
theorem dX0_prepare_10 : decode cX0_prepare 10 = .ok (.putfield 60, 3) := by decide +kernel
theorem dX0_prepare_13 : decode cX0_prepare 13 = .ok (.iconst 0, 1) := by decide +kernel
theorem dX0_prepare_14 : decode cX0_prepare 14 = .ok (.istore_n 1, 1) := by decide +kernel
theorem dX0_prepare_15 : decode cX0_prepare 15 = .ok (.iload_n 1, 1) := by decide +kernel
theorem dX0_prepare_16 : decode cX0_prepare 16 = .ok (.aload_n 0, 1) := by decide +kernel
theorem dX0_prepare_17 : decode cX0_prepare 17 = .ok (.getfield 47, 3) := by decide +kernel
theorem dX0_prepare_20 : decode cX0_prepare 20 = .ok (.if_icmp .ge 31, 3) := by decide +kernel
theorem dX0_prepare_23 : decode cX0_prepare 23 = .ok (.iconst 0, 1) := by decide +kernel
theorem dX0_prepare_24 : decode cX0_prepare 24 = .ok (.istore_n 2, 1) := by decide +kernel
theorem dX0_prepare_25 : decode cX0_prepare 25 = .ok (.iload_n 2, 1) := by decide +kernel
theorem dX0_prepare_26 : decode cX0_prepare 26 = .ok (.aload_n 0, 1) := by decide +kernel
theorem dX0_prepare_27 : decode cX0_prepare 27 = .ok (.getfield 75, 3) := by decide +kernel
theorem dX0_prepare_30 : decode cX0_prepare 30 = .ok (.if_icmp .gt 15, 3) := by decide +kernel
theorem dX0_prepare_33 : decode cX0_prepare 33 = .ok (.aload_n 0, 1) := by decide +kernel
theorem dX0_prepare_34 : decode cX0_prepare 34 = .ok (.iload_n 1, 1) := by decide +kernel
theorem dX0_prepare_35 : decode cX0_prepare 35 = .ok (.iload_n 2, 1) := by decide +kernel
theorem dX0_prepare_36 : decode cX0_prepare 36 = .ok (.invokevirtual 81, 3) := by decide +kernel
theorem dX0_prepare_39 : decode cX0_prepare 39 = .ok (.iinc 2 1, 3) := by decide +kernel
theorem dX0_prepare_42 : decode cX0_prepare 42 = .ok (.goto (-17), 3) := by decide +kernel
theorem dX0_prepare_45 : decode cX0_prepare 45 = .ok (.iinc 1 1, 3) := by decide +kernel
theorem dX0_prepare_48 : decode cX0_prepare 48 = .ok (.goto (-33), 3) := by decide +kernel
theorem dX0_prepare_51 : decode cX0_prepare 51 = .ok (.return_, 1) := by decide +kernel
abbrev cX0_fill : ByteArray := prog_1_method_11_code
def yX0_fill : MethodName := ⟨RX0, "fill", "(II)V"⟩
theorem dX0_fill_0 : decode cX0_fill 0 = .ok (.iload_n 1, 1) := by decide +kernel
theorem dX0_fill_1 : decode cX0_fill 1 = .ok (.bipush 11, 2) := by decide +kernel
theorem dX0_fill_3 : decode cX0_fill 3 = .ok (.imul, 1) := by decide +kernel
theorem dX0_fill_4 : decode cX0_fill 4 = .ok (.iload_n 2, 1) := by decide +kernel
theorem dX0_fill_5 : decode cX0_fill 5 = .ok (.iadd, 1) := by decide +kernel
theorem dX0_fill_6 : decode cX0_fill 6 = .ok (.istore_n 3, 1) := by decide +kernel
theorem dX0_fill_7 : decode cX0_fill 7 = .ok (.aload_n 0, 1) := by decide +kernel
theorem dX0_fill_8 : decode cX0_fill 8 = .ok (.getfield 7, 3) := by decide +kernel
theorem dX0_fill_11 : decode cX0_fill 11 = .ok (.iload_n 1, 1) := by decide +kernel
theorem dX0_fill_12 : decode cX0_fill 12 = .ok (.iaload, 1) := by decide +kernel
theorem dX0_fill_13 : decode cX0_fill 13 = .ok (.ifCond .ge 7, 3) := by decide +kernel
theorem dX0_fill_16 : decode cX0_fill 16 = .ok (.iload_n 2, 1) := by decide +kernel
theorem dX0_fill_17 : decode cX0_fill 17 = .ok (.goto 19, 3) := by decide +kernel
theorem dX0_fill_20 : decode cX0_fill 20 = .ok (.aload_n 0, 1) := by decide +kernel
theorem dX0_fill_21 : decode cX0_fill 21 = .ok (.getfield 37, 3) := by decide +kernel
theorem dX0_fill_24 : decode cX0_fill 24 = .ok (.aload_n 0, 1) := by decide +kernel
theorem dX0_fill_25 : decode cX0_fill 25 = .ok (.getfield 7, 3) := by decide +kernel
theorem dX0_fill_28 : decode cX0_fill 28 = .ok (.iload_n 1, 1) := by decide +kernel
theorem dX0_fill_29 : decode cX0_fill 29 = .ok (.iaload, 1) := by decide +kernel
theorem dX0_fill_30 : decode cX0_fill 30 = .ok (.bipush 11, 2) := by decide +kernel
theorem dX0_fill_32 : decode cX0_fill 32 = .ok (.imul, 1) := by decide +kernel
theorem dX0_fill_33 : decode cX0_fill 33 = .ok (.iload_n 2, 1) := by decide +kernel
theorem dX0_fill_34 : decode cX0_fill 34 = .ok (.iadd, 1) := by decide +kernel
theorem dX0_fill_35 : decode cX0_fill 35 = .ok (.baload, 1) := by decide +kernel
theorem dX0_fill_36 : decode cX0_fill 36 = .ok (.istore 4, 2) := by decide +kernel
theorem dX0_fill_38 : decode cX0_fill 38 = .ok (.aload_n 0, 1) := by decide +kernel
theorem dX0_fill_39 : decode cX0_fill 39 = .ok (.getfield 7, 3) := by decide +kernel
theorem dX0_fill_42 : decode cX0_fill 42 = .ok (.iload_n 1, 1) := by decide +kernel
theorem dX0_fill_43 : decode cX0_fill 43 = .ok (.iaload, 1) := by decide +kernel
theorem dX0_fill_44 : decode cX0_fill 44 = .ok (.ifCond .ge 7, 3) := by decide +kernel
theorem dX0_fill_47 : decode cX0_fill 47 = .ok (.iconst 0, 1) := by decide +kernel
theorem dX0_fill_48 : decode cX0_fill 48 = .ok (.goto 19, 3) := by decide +kernel
theorem dX0_fill_51 : decode cX0_fill 51 = .ok (.aload_n 0, 1) := by decide +kernel
theorem dX0_fill_52 : decode cX0_fill 52 = .ok (.getfield 41, 3) := by decide +kernel
theorem dX0_fill_55 : decode cX0_fill 55 = .ok (.aload_n 0, 1) := by decide +kernel
theorem dX0_fill_56 : decode cX0_fill 56 = .ok (.getfield 7, 3) := by decide +kernel
theorem dX0_fill_59 : decode cX0_fill 59 = .ok (.iload_n 1, 1) := by decide +kernel
theorem dX0_fill_60 : decode cX0_fill 60 = .ok (.iaload, 1) := by decide +kernel
theorem dX0_fill_61 : decode cX0_fill 61 = .ok (.bipush 11, 2) := by decide +kernel
theorem dX0_fill_63 : decode cX0_fill 63 = .ok (.imul, 1) := by decide +kernel
theorem dX0_fill_64 : decode cX0_fill 64 = .ok (.iload_n 2, 1) := by decide +kernel
theorem dX0_fill_65 : decode cX0_fill 65 = .ok (.iadd, 1) := by decide +kernel
theorem dX0_fill_66 : decode cX0_fill 66 = .ok (.baload, 1) := by decide +kernel
theorem dX0_fill_67 : decode cX0_fill 67 = .ok (.istore 5, 2) := by decide +kernel
theorem dX0_fill_69 : decode cX0_fill 69 = .ok (.aload_n 0, 1) := by decide +kernel
theorem dX0_fill_70 : decode cX0_fill 70 = .ok (.getfield 34, 3) := by decide +kernel
theorem dX0_fill_73 : decode cX0_fill 73 = .ok (.iload 4, 2) := by decide +kernel
theorem dX0_fill_75 : decode cX0_fill 75 = .ok (.iconst 4, 1) := by decide +kernel
theorem dX0_fill_76 : decode cX0_fill 76 = .ok (.imul, 1) := by decide +kernel
theorem dX0_fill_77 : decode cX0_fill 77 = .ok (.aload_n 0, 1) := by decide +kernel
theorem dX0_fill_78 : decode cX0_fill 78 = .ok (.getfield 13, 3) := by decide +kernel
theorem dX0_fill_81 : decode cX0_fill 81 = .ok (.iload_n 1, 1) := by decide +kernel
theorem dX0_fill_82 : decode cX0_fill 82 = .ok (.iaload, 1) := by decide +kernel
theorem dX0_fill_83 : decode cX0_fill 83 = .ok (.iadd, 1) := by decide +kernel
theorem dX0_fill_84 : decode cX0_fill 84 = .ok (.iaload, 1) := by decide +kernel
theorem dX0_fill_85 : decode cX0_fill 85 = .ok (.istore 6, 2) := by decide +kernel
theorem dX0_fill_87 : decode cX0_fill 87 = .ok (.aload_n 0, 1) := by decide +kernel
theorem dX0_fill_88 : decode cX0_fill 88 = .ok (.getfield 37, 3) := by decide +kernel
theorem dX0_fill_91 : decode cX0_fill 91 = .ok (.iload_n 3, 1) := by decide +kernel
theorem dX0_fill_92 : decode cX0_fill 92 = .ok (.iload 6, 2) := by decide +kernel
theorem dX0_fill_94 : decode cX0_fill 94 = .ok (.i2b, 1) := by decide +kernel
theorem dX0_fill_95 : decode cX0_fill 95 = .ok (.bastore, 1) := by decide +kernel
theorem dX0_fill_96 : decode cX0_fill 96 = .ok (.aload_n 0, 1) := by decide +kernel
theorem dX0_fill_97 : decode cX0_fill 97 = .ok (.getfield 41, 3) := by decide +kernel
theorem dX0_fill_100 : decode cX0_fill 100 = .ok (.iload_n 3, 1) := by decide +kernel
theorem dX0_fill_101 : decode cX0_fill 101 = .ok (.iload 6, 2) := by decide +kernel
theorem dX0_fill_103 : decode cX0_fill 103 = .ok (.aload_n 0, 1) := by decide +kernel
theorem dX0_fill_104 : decode cX0_fill 104 = .ok (.getfield 75, 3) := by decide +kernel
theorem dX0_fill_107 : decode cX0_fill 107 = .ok (.if_icmp .ne 10, 3) := by decide +kernel
theorem dX0_fill_110 : decode cX0_fill 110 = .ok (.iload 5, 2) := by decide +kernel
theorem dX0_fill_112 : decode cX0_fill 112 = .ok (.iconst 1, 1) := by decide +kernel
theorem dX0_fill_113 : decode cX0_fill 113 = .ok (.iadd, 1) := by decide +kernel
theorem dX0_fill_114 : decode cX0_fill 114 = .ok (.goto 5, 3) := by decide +kernel
theorem dX0_fill_117 : decode cX0_fill 117 = .ok (.iload 5, 2) := by decide +kernel
theorem dX0_fill_119 : decode cX0_fill 119 = .ok (.i2b, 1) := by decide +kernel
theorem dX0_fill_120 : decode cX0_fill 120 = .ok (.bastore, 1) := by decide +kernel
theorem dX0_fill_121 : decode cX0_fill 121 = .ok (.return_, 1) := by decide +kernel
abbrev cX0_position : ByteArray := prog_1_method_19_code
def yX0_position : MethodName := ⟨RX0, "position", "(I)I"⟩
theorem dX0_position_0 : decode cX0_position 0 = .ok (.iload_n 1, 1) := by decide +kernel
theorem dX0_position_1 : decode cX0_position 1 = .ok (.ifCond .lt 17, 3) := by decide +kernel
theorem dX0_position_4 : decode cX0_position 4 = .ok (.aload_n 0, 1) := by decide +kernel
theorem dX0_position_5 : decode cX0_position 5 = .ok (.getfield 75, 3) := by decide +kernel
theorem dX0_position_8 : decode cX0_position 8 = .ok (.ifCond .eq 10, 3) := by decide +kernel
theorem dX0_position_11 : decode cX0_position 11 = .ok (.aload_n 0, 1) := by decide +kernel
theorem dX0_position_12 : decode cX0_position 12 = .ok (.getfield 51, 3) := by decide +kernel
theorem dX0_position_15 : decode cX0_position 15 = .ok (.ifCond .ne 6, 3) := by decide +kernel
theorem dX0_position_18 : decode cX0_position 18 = .ok (.bipush (-4), 2) := by decide +kernel
theorem dX0_position_20 : decode cX0_position 20 = .ok (.ireturn, 1) := by decide +kernel
theorem dX0_position_21 : decode cX0_position 21 = .ok (.aload_n 0, 1) := by decide +kernel
theorem dX0_position_22 : decode cX0_position 22 = .ok (.invokevirtual 98, 3) := by decide +kernel
theorem dX0_position_25 : decode cX0_position 25 = .ok (.iconst 0, 1) := by decide +kernel
theorem dX0_position_26 : decode cX0_position 26 = .ok (.istore_n 2, 1) := by decide +kernel
theorem dX0_position_27 : decode cX0_position 27 = .ok (.iload_n 1, 1) := by decide +kernel
theorem dX0_position_28 : decode cX0_position 28 = .ok (.istore_n 3, 1) := by decide +kernel
theorem dX0_position_29 : decode cX0_position 29 = .ok (.iconst 0, 1) := by decide +kernel
theorem dX0_position_30 : decode cX0_position 30 = .ok (.istore 4, 2) := by decide +kernel
theorem dX0_position_32 : decode cX0_position 32 = .ok (.iload 4, 2) := by decide +kernel
theorem dX0_position_34 : decode cX0_position 34 = .ok (.aload_n 0, 1) := by decide +kernel
theorem dX0_position_35 : decode cX0_position 35 = .ok (.getfield 54, 3) := by decide +kernel
theorem dX0_position_38 : decode cX0_position 38 = .ok (.if_icmp .gt 77, 3) := by decide +kernel
theorem dX0_position_41 : decode cX0_position 41 = .ok (.aload_n 0, 1) := by decide +kernel
theorem dX0_position_42 : decode cX0_position 42 = .ok (.iload 4, 2) := by decide +kernel
theorem dX0_position_44 : decode cX0_position 44 = .ok (.invokevirtual 88, 3) := by decide +kernel
theorem dX0_position_47 : decode cX0_position 47 = .ok (.istore 5, 2) := by decide +kernel
theorem dX0_position_49 : decode cX0_position 49 = .ok (.aload_n 0, 1) := by decide +kernel
theorem dX0_position_50 : decode cX0_position 50 = .ok (.getfield 41, 3) := by decide +kernel
theorem dX0_position_53 : decode cX0_position 53 = .ok (.iload 5, 2) := by decide +kernel
theorem dX0_position_55 : decode cX0_position 55 = .ok (.bipush 11, 2) := by decide +kernel
theorem dX0_position_57 : decode cX0_position 57 = .ok (.imul, 1) := by decide +kernel
theorem dX0_position_58 : decode cX0_position 58 = .ok (.iload_n 2, 1) := by decide +kernel
theorem dX0_position_59 : decode cX0_position 59 = .ok (.iadd, 1) := by decide +kernel
theorem dX0_position_60 : decode cX0_position 60 = .ok (.baload, 1) := by decide +kernel
theorem dX0_position_61 : decode cX0_position 61 = .ok (.istore 6, 2) := by decide +kernel
theorem dX0_position_63 : decode cX0_position 63 = .ok (.iload_n 3, 1) := by decide +kernel
theorem dX0_position_64 : decode cX0_position 64 = .ok (.iload 6, 2) := by decide +kernel
theorem dX0_position_66 : decode cX0_position 66 = .ok (.if_icmp .ge 25, 3) := by decide +kernel
theorem dX0_position_69 : decode cX0_position 69 = .ok (.aload_n 0, 1) := by decide +kernel
theorem dX0_position_70 : decode cX0_position 70 = .ok (.getfield 28, 3) := by decide +kernel
theorem dX0_position_73 : decode cX0_position 73 = .ok (.iload 4, 2) := by decide +kernel
theorem dX0_position_75 : decode cX0_position 75 = .ok (.iaload, 1) := by decide +kernel
theorem dX0_position_76 : decode cX0_position 76 = .ok (.aload_n 0, 1) := by decide +kernel
theorem dX0_position_77 : decode cX0_position 77 = .ok (.iload 5, 2) := by decide +kernel
theorem dX0_position_79 : decode cX0_position 79 = .ok (.iload_n 2, 1) := by decide +kernel
theorem dX0_position_80 : decode cX0_position 80 = .ok (.iload_n 3, 1) := by decide +kernel
theorem dX0_position_81 : decode cX0_position 81 = .ok (.invokevirtual 101, 3) := by decide +kernel
theorem dX0_position_84 : decode cX0_position 84 = .ok (.iadd, 1) := by decide +kernel
theorem dX0_position_85 : decode cX0_position 85 = .ok (.aload_n 0, 1) := by decide +kernel
theorem dX0_position_86 : decode cX0_position 86 = .ok (.getfield 75, 3) := by decide +kernel
theorem dX0_position_89 : decode cX0_position 89 = .ok (.isub, 1) := by decide +kernel
theorem dX0_position_90 : decode cX0_position 90 = .ok (.ireturn, 1) := by decide +kernel
theorem dX0_position_91 : decode cX0_position 91 = .ok (.iload_n 3, 1) := by decide +kernel
theorem dX0_position_92 : decode cX0_position 92 = .ok (.iload 6, 2) := by decide +kernel
theorem dX0_position_94 : decode cX0_position 94 = .ok (.isub, 1) := by decide +kernel
theorem dX0_position_95 : decode cX0_position 95 = .ok (.istore_n 3, 1) := by decide +kernel
theorem dX0_position_96 : decode cX0_position 96 = .ok (.aload_n 0, 1) := by decide +kernel
theorem dX0_position_97 : decode cX0_position 97 = .ok (.getfield 37, 3) := by decide +kernel
theorem dX0_position_100 : decode cX0_position 100 = .ok (.iload 5, 2) := by decide +kernel
theorem dX0_position_102 : decode cX0_position 102 = .ok (.bipush 11, 2) := by decide +kernel
theorem dX0_position_104 : decode cX0_position 104 = .ok (.imul, 1) := by decide +kernel
theorem dX0_position_105 : decode cX0_position 105 = .ok (.iload_n 2, 1) := by decide +kernel
theorem dX0_position_106 : decode cX0_position 106 = .ok (.iadd, 1) := by decide +kernel
theorem dX0_position_107 : decode cX0_position 107 = .ok (.baload, 1) := by decide +kernel
theorem dX0_position_108 : decode cX0_position 108 = .ok (.istore_n 2, 1) := by decide +kernel
theorem dX0_position_109 : decode cX0_position 109 = .ok (.iinc 4 1, 3) := by decide +kernel
theorem dX0_position_112 : decode cX0_position 112 = .ok (.goto (-80), 3) := by decide +kernel
theorem dX0_position_115 : decode cX0_position 115 = .ok (.bipush (-4), 2) := by decide +kernel
theorem dX0_position_117 : decode cX0_position 117 = .ok (.ireturn, 1) := by decide +kernel
abbrev cX0_endInside : ByteArray := prog_1_method_20_code
def yX0_endInside : MethodName := ⟨RX0, "endInside", "(III)I"⟩
theorem dX0_endInside_0 : decode cX0_endInside 0 = .ok (.iload_n 1, 1) := by decide +kernel
theorem dX0_endInside_1 : decode cX0_endInside 1 = .ok (.istore 4, 2) := by decide +kernel
theorem dX0_endInside_3 : decode cX0_endInside 3 = .ok (.aload_n 0, 1) := by decide +kernel
theorem dX0_endInside_4 : decode cX0_endInside 4 = .ok (.getfield 7, 3) := by decide +kernel
theorem dX0_endInside_7 : decode cX0_endInside 7 = .ok (.iload 4, 2) := by decide +kernel
theorem dX0_endInside_9 : decode cX0_endInside 9 = .ok (.iaload, 1) := by decide +kernel
theorem dX0_endInside_10 : decode cX0_endInside 10 = .ok (.ifCond .lt 36, 3) := by decide +kernel
theorem dX0_endInside_13 : decode cX0_endInside 13 = .ok (.aload_n 0, 1) := by decide +kernel
theorem dX0_endInside_14 : decode cX0_endInside 14 = .ok (.getfield 41, 3) := by decide +kernel
theorem dX0_endInside_17 : decode cX0_endInside 17 = .ok (.aload_n 0, 1) := by decide +kernel
theorem dX0_endInside_18 : decode cX0_endInside 18 = .ok (.getfield 7, 3) := by decide +kernel
theorem dX0_endInside_21 : decode cX0_endInside 21 = .ok (.iload 4, 2) := by decide +kernel
theorem dX0_endInside_23 : decode cX0_endInside 23 = .ok (.iaload, 1) := by decide +kernel
theorem dX0_endInside_24 : decode cX0_endInside 24 = .ok (.bipush 11, 2) := by decide +kernel
theorem dX0_endInside_26 : decode cX0_endInside 26 = .ok (.imul, 1) := by decide +kernel
theorem dX0_endInside_27 : decode cX0_endInside 27 = .ok (.iload_n 2, 1) := by decide +kernel
theorem dX0_endInside_28 : decode cX0_endInside 28 = .ok (.iadd, 1) := by decide +kernel
theorem dX0_endInside_29 : decode cX0_endInside 29 = .ok (.baload, 1) := by decide +kernel
theorem dX0_endInside_30 : decode cX0_endInside 30 = .ok (.iload_n 3, 1) := by decide +kernel
theorem dX0_endInside_31 : decode cX0_endInside 31 = .ok (.if_icmp .le 15, 3) := by decide +kernel
theorem dX0_endInside_34 : decode cX0_endInside 34 = .ok (.aload_n 0, 1) := by decide +kernel
theorem dX0_endInside_35 : decode cX0_endInside 35 = .ok (.getfield 7, 3) := by decide +kernel
theorem dX0_endInside_38 : decode cX0_endInside 38 = .ok (.iload 4, 2) := by decide +kernel
theorem dX0_endInside_40 : decode cX0_endInside 40 = .ok (.iaload, 1) := by decide +kernel
theorem dX0_endInside_41 : decode cX0_endInside 41 = .ok (.istore 4, 2) := by decide +kernel
theorem dX0_endInside_43 : decode cX0_endInside 43 = .ok (.goto (-40), 3) := by decide +kernel
theorem dX0_endInside_46 : decode cX0_endInside 46 = .ok (.aload_n 0, 1) := by decide +kernel
theorem dX0_endInside_47 : decode cX0_endInside 47 = .ok (.getfield 16, 3) := by decide +kernel
theorem dX0_endInside_50 : decode cX0_endInside 50 = .ok (.iload 4, 2) := by decide +kernel
theorem dX0_endInside_52 : decode cX0_endInside 52 = .ok (.iaload, 1) := by decide +kernel
theorem dX0_endInside_53 : decode cX0_endInside 53 = .ok (.ireturn, 1) := by decide +kernel
abbrev cX0_frequency : ByteArray := prog_1_method_21_code
def yX0_frequency : MethodName := ⟨RX0, "frequency", "(II)I"⟩
theorem dX0_frequency_0 : decode cX0_frequency 0 = .ok (.iload_n 1, 1) := by decide +kernel
theorem dX0_frequency_1 : decode cX0_frequency 1 = .ok (.ifCond .lt 8, 3) := by decide +kernel
theorem dX0_frequency_4 : decode cX0_frequency 4 = .ok (.iload_n 1, 1) := by decide +kernel
theorem dX0_frequency_5 : decode cX0_frequency 5 = .ok (.iconst 3, 1) := by decide +kernel
theorem dX0_frequency_6 : decode cX0_frequency 6 = .ok (.if_icmp .le 5, 3) := by decide +kernel
theorem dX0_frequency_9 : decode cX0_frequency 9 = .ok (.iconst (-1), 1) := by decide +kernel
theorem dX0_frequency_10 : decode cX0_frequency 10 = .ok (.ireturn, 1) := by decide +kernel
theorem dX0_frequency_11 : decode cX0_frequency 11 = .ok (.aload_n 0, 1) := by decide +kernel
theorem dX0_frequency_12 : decode cX0_frequency 12 = .ok (.iload_n 2, 1) := by decide +kernel
theorem dX0_frequency_13 : decode cX0_frequency 13 = .ok (.invokevirtual 105, 3) := by decide +kernel
theorem dX0_frequency_16 : decode cX0_frequency 16 = .ok (.istore_n 3, 1) := by decide +kernel
theorem dX0_frequency_17 : decode cX0_frequency 17 = .ok (.iconst 0, 1) := by decide +kernel
theorem dX0_frequency_18 : decode cX0_frequency 18 = .ok (.istore 4, 2) := by decide +kernel
theorem dX0_frequency_20 : decode cX0_frequency 20 = .ok (.iconst 0, 1) := by decide +kernel
theorem dX0_frequency_21 : decode cX0_frequency 21 = .ok (.istore 5, 2) := by decide +kernel
theorem dX0_frequency_23 : decode cX0_frequency 23 = .ok (.iload 5, 2) := by decide +kernel
theorem dX0_frequency_25 : decode cX0_frequency 25 = .ok (.aload_n 0, 1) := by decide +kernel
theorem dX0_frequency_26 : decode cX0_frequency 26 = .ok (.getfield 54, 3) := by decide +kernel
theorem dX0_frequency_29 : decode cX0_frequency 29 = .ok (.if_icmp .gt 61, 3) := by decide +kernel
theorem dX0_frequency_32 : decode cX0_frequency 32 = .ok (.aload_n 0, 1) := by decide +kernel
theorem dX0_frequency_33 : decode cX0_frequency 33 = .ok (.getfield 28, 3) := by decide +kernel
theorem dX0_frequency_36 : decode cX0_frequency 36 = .ok (.iload 5, 2) := by decide +kernel
theorem dX0_frequency_38 : decode cX0_frequency 38 = .ok (.iaload, 1) := by decide +kernel
theorem dX0_frequency_39 : decode cX0_frequency 39 = .ok (.iload_n 3, 1) := by decide +kernel
theorem dX0_frequency_40 : decode cX0_frequency 40 = .ok (.if_icmp .ge 50, 3) := by decide +kernel
theorem dX0_frequency_43 : decode cX0_frequency 43 = .ok (.aload_n 0, 1) := by decide +kernel
theorem dX0_frequency_44 : decode cX0_frequency 44 = .ok (.iload 5, 2) := by decide +kernel
theorem dX0_frequency_46 : decode cX0_frequency 46 = .ok (.invokevirtual 88, 3) := by decide +kernel
theorem dX0_frequency_49 : decode cX0_frequency 49 = .ok (.istore 6, 2) := by decide +kernel
theorem dX0_frequency_51 : decode cX0_frequency 51 = .ok (.aload_n 0, 1) := by decide +kernel
theorem dX0_frequency_52 : decode cX0_frequency 52 = .ok (.iload 6, 2) := by decide +kernel
theorem dX0_frequency_54 : decode cX0_frequency 54 = .ok (.iload_n 3, 1) := by decide +kernel
theorem dX0_frequency_55 : decode cX0_frequency 55 = .ok (.aload_n 0, 1) := by decide +kernel
theorem dX0_frequency_56 : decode cX0_frequency 56 = .ok (.getfield 28, 3) := by decide +kernel
theorem dX0_frequency_59 : decode cX0_frequency 59 = .ok (.iload 5, 2) := by decide +kernel
theorem dX0_frequency_61 : decode cX0_frequency 61 = .ok (.iaload, 1) := by decide +kernel
theorem dX0_frequency_62 : decode cX0_frequency 62 = .ok (.isub, 1) := by decide +kernel
theorem dX0_frequency_63 : decode cX0_frequency 63 = .ok (.invokevirtual 91, 3) := by decide +kernel
theorem dX0_frequency_66 : decode cX0_frequency 66 = .ok (.istore 6, 2) := by decide +kernel
theorem dX0_frequency_68 : decode cX0_frequency 68 = .ok (.iload 4, 2) := by decide +kernel
theorem dX0_frequency_70 : decode cX0_frequency 70 = .ok (.aload_n 0, 1) := by decide +kernel
theorem dX0_frequency_71 : decode cX0_frequency 71 = .ok (.getfield 22, 3) := by decide +kernel
theorem dX0_frequency_74 : decode cX0_frequency 74 = .ok (.iload 6, 2) := by decide +kernel
theorem dX0_frequency_76 : decode cX0_frequency 76 = .ok (.iconst 4, 1) := by decide +kernel
theorem dX0_frequency_77 : decode cX0_frequency 77 = .ok (.imul, 1) := by decide +kernel
theorem dX0_frequency_78 : decode cX0_frequency 78 = .ok (.iload_n 1, 1) := by decide +kernel
theorem dX0_frequency_79 : decode cX0_frequency 79 = .ok (.iadd, 1) := by decide +kernel
theorem dX0_frequency_80 : decode cX0_frequency 80 = .ok (.iaload, 1) := by decide +kernel
theorem dX0_frequency_81 : decode cX0_frequency 81 = .ok (.iadd, 1) := by decide +kernel
theorem dX0_frequency_82 : decode cX0_frequency 82 = .ok (.istore 4, 2) := by decide +kernel
theorem dX0_frequency_84 : decode cX0_frequency 84 = .ok (.iinc 5 1, 3) := by decide +kernel
theorem dX0_frequency_87 : decode cX0_frequency 87 = .ok (.goto (-64), 3) := by decide +kernel
theorem dX0_frequency_90 : decode cX0_frequency 90 = .ok (.iload 4, 2) := by decide +kernel
theorem dX0_frequency_92 : decode cX0_frequency 92 = .ok (.ireturn, 1) := by decide +kernel
abbrev cX0_overlap : ByteArray := prog_1_method_22_code
def yX0_overlap : MethodName := ⟨RX0, "overlap", "()I"⟩
theorem dX0_overlap_0 : decode cX0_overlap 0 = .ok (.aload_n 0, 1) := by decide +kernel
theorem dX0_overlap_1 : decode cX0_overlap 1 = .ok (.getfield 75, 3) := by decide +kernel
theorem dX0_overlap_4 : decode cX0_overlap 4 = .ok (.ifCond .eq 10, 3) := by decide +kernel
theorem dX0_overlap_7 : decode cX0_overlap 7 = .ok (.aload_n 0, 1) := by decide +kernel
theorem dX0_overlap_8 : decode cX0_overlap 8 = .ok (.getfield 51, 3) := by decide +kernel
theorem dX0_overlap_11 : decode cX0_overlap 11 = .ok (.ifCond .ne 5, 3) := by decide +kernel
theorem dX0_overlap_14 : decode cX0_overlap 14 = .ok (.iconst 0, 1) := by decide +kernel
theorem dX0_overlap_15 : decode cX0_overlap 15 = .ok (.ireturn, 1) := by decide +kernel
theorem dX0_overlap_16 : decode cX0_overlap 16 = .ok (.aload_n 0, 1) := by decide +kernel
theorem dX0_overlap_17 : decode cX0_overlap 17 = .ok (.invokevirtual 98, 3) := by decide +kernel
theorem dX0_overlap_20 : decode cX0_overlap 20 = .ok (.iconst 0, 1) := by decide +kernel
theorem dX0_overlap_21 : decode cX0_overlap 21 = .ok (.istore_n 1, 1) := by decide +kernel
theorem dX0_overlap_22 : decode cX0_overlap 22 = .ok (.iconst 0, 1) := by decide +kernel
theorem dX0_overlap_23 : decode cX0_overlap 23 = .ok (.istore_n 2, 1) := by decide +kernel
theorem dX0_overlap_24 : decode cX0_overlap 24 = .ok (.iload_n 2, 1) := by decide +kernel
theorem dX0_overlap_25 : decode cX0_overlap 25 = .ok (.aload_n 0, 1) := by decide +kernel
theorem dX0_overlap_26 : decode cX0_overlap 26 = .ok (.getfield 54, 3) := by decide +kernel
theorem dX0_overlap_29 : decode cX0_overlap 29 = .ok (.if_icmp .gt 27, 3) := by decide +kernel
theorem dX0_overlap_32 : decode cX0_overlap 32 = .ok (.aload_n 0, 1) := by decide +kernel
theorem dX0_overlap_33 : decode cX0_overlap 33 = .ok (.iload_n 2, 1) := by decide +kernel
theorem dX0_overlap_34 : decode cX0_overlap 34 = .ok (.invokevirtual 88, 3) := by decide +kernel
theorem dX0_overlap_37 : decode cX0_overlap 37 = .ok (.istore_n 3, 1) := by decide +kernel
theorem dX0_overlap_38 : decode cX0_overlap 38 = .ok (.aload_n 0, 1) := by decide +kernel
theorem dX0_overlap_39 : decode cX0_overlap 39 = .ok (.getfield 37, 3) := by decide +kernel
theorem dX0_overlap_42 : decode cX0_overlap 42 = .ok (.iload_n 3, 1) := by decide +kernel
theorem dX0_overlap_43 : decode cX0_overlap 43 = .ok (.bipush 11, 2) := by decide +kernel
theorem dX0_overlap_45 : decode cX0_overlap 45 = .ok (.imul, 1) := by decide +kernel
theorem dX0_overlap_46 : decode cX0_overlap 46 = .ok (.iload_n 1, 1) := by decide +kernel
theorem dX0_overlap_47 : decode cX0_overlap 47 = .ok (.iadd, 1) := by decide +kernel
theorem dX0_overlap_48 : decode cX0_overlap 48 = .ok (.baload, 1) := by decide +kernel
theorem dX0_overlap_49 : decode cX0_overlap 49 = .ok (.istore_n 1, 1) := by decide +kernel
theorem dX0_overlap_50 : decode cX0_overlap 50 = .ok (.iinc 2 1, 3) := by decide +kernel
theorem dX0_overlap_53 : decode cX0_overlap 53 = .ok (.goto (-29), 3) := by decide +kernel
theorem dX0_overlap_56 : decode cX0_overlap 56 = .ok (.iload_n 1, 1) := by decide +kernel
theorem dX0_overlap_57 : decode cX0_overlap 57 = .ok (.ireturn, 1) := by decide +kernel
end
section
set_option maxRecDepth 100000
theorem q14 : (Jvm.Cond.initialized "LzwSearcher") ∈ lw_all := lw_g (lw_at lw_m0 1 rfl) rfl
theorem q17 : (Jvm.Cond.instantiable "LzwSearcher" (17 : Nat)) ∈ lw_all := lw_g (lw_at lw_m0 4 rfl) rfl
theorem q19 : (Jvm.Cond.instanceMethod ({ cls := "LzwSearcher", name := "<init>", desc := "()V" } : Jvm.MethodName)) ∈ lw_all := lw_g (lw_at lw_m0 6 rfl) rfl
theorem q20 : (Jvm.Cond.code ({ cls := "LzwSearcher", name := "<init>", desc := "()V" } : Jvm.MethodName) prog_1_method_1_code (1 : Nat) (Option.none : Option Jvm.ClassFile.FieldType)) ∈ lw_all := lw_g (lw_at lw_m0 7 rfl) rfl
theorem q21 : (Jvm.Cond.methodLink "LzwSearcher" (1 : Nat) ({ cls := "java/lang/Object", name := "<init>", desc := "()V" } : Jvm.MethodName)) ∈ lw_all := lw_g (lw_at lw_m0 8 rfl) rfl
theorem q24 : (Jvm.Cond.methodLink "LzwSearcher" (44 : Nat) ({ cls := "LzwSearcher", name := "start", desc := "()V" } : Jvm.MethodName)) ∈ lw_all := lw_g (lw_at lw_m0 11 rfl) rfl
theorem q25 : (Jvm.Cond.privateMethod ({ cls := "LzwSearcher", name := "start", desc := "()V" } : Jvm.MethodName)) ∈ lw_tbl := lw_at lw_m0 12 rfl
theorem q26 : (Jvm.Cond.instanceMethod ({ cls := "LzwSearcher", name := "start", desc := "()V" } : Jvm.MethodName)) ∈ lw_all := lw_g (lw_at lw_m0 13 rfl) rfl
theorem q27 : (Jvm.Cond.code ({ cls := "LzwSearcher", name := "start", desc := "()V" } : Jvm.MethodName) prog_1_method_2_code (2 : Nat) (Option.none : Option Jvm.ClassFile.FieldType)) ∈ lw_all := lw_g (lw_at lw_m0 14 rfl) rfl
theorem q28 : (Jvm.Cond.methodLink "LzwSearcher" (64 : Nat) ({ cls := "LzwSearcher", name := "makePhrase", desc := "(III)V" } : Jvm.MethodName)) ∈ lw_all := lw_g (lw_at lw_m0 15 rfl) rfl
theorem q29 : (Jvm.Cond.privateMethod ({ cls := "LzwSearcher", name := "makePhrase", desc := "(III)V" } : Jvm.MethodName)) ∈ lw_tbl := lw_at lw_m0 16 rfl
theorem q30 : (Jvm.Cond.instanceMethod ({ cls := "LzwSearcher", name := "makePhrase", desc := "(III)V" } : Jvm.MethodName)) ∈ lw_all := lw_g (lw_at lw_m0 17 rfl) rfl
theorem q31 : (Jvm.Cond.code ({ cls := "LzwSearcher", name := "makePhrase", desc := "(III)V" } : Jvm.MethodName) prog_1_method_3_code (5 : Nat) (Option.none : Option Jvm.ClassFile.FieldType)) ∈ lw_all := lw_g (lw_at lw_m0 18 rfl) rfl
theorem q32 : (Jvm.Cond.fieldLink "LzwSearcher" (47 : Nat) "LzwSearcher" "phrases" "I") ∈ lw_all := lw_g (lw_at lw_m0 19 rfl) rfl
theorem q33 : (Jvm.Cond.fieldLink "LzwSearcher" (7 : Nat) "LzwSearcher" "parent" "[I") ∈ lw_all := lw_g (lw_at lw_m0 20 rfl) rfl
theorem q34 : (Jvm.Cond.fieldLink "LzwSearcher" (13 : Nat) "LzwSearcher" "letterOf" "[I") ∈ lw_all := lw_g (lw_at lw_m0 21 rfl) rfl
theorem q35 : (Jvm.Cond.fieldLink "LzwSearcher" (16 : Nat) "LzwSearcher" "size" "[I") ∈ lw_all := lw_g (lw_at lw_m0 22 rfl) rfl
theorem q36 : (Jvm.Cond.fieldLink "LzwSearcher" (19 : Nat) "LzwSearcher" "child" "[I") ∈ lw_all := lw_g (lw_at lw_m0 23 rfl) rfl
theorem q37 : (Jvm.Cond.fieldLink "LzwSearcher" (22 : Nat) "LzwSearcher" "tally" "[I") ∈ lw_all := lw_g (lw_at lw_m0 24 rfl) rfl
theorem q38 : (Jvm.Cond.fieldLink "LzwSearcher" (51 : Nat) "LzwSearcher" "textLen" "I") ∈ lw_all := lw_g (lw_at lw_m0 25 rfl) rfl
theorem q39 : (Jvm.Cond.fieldLink "LzwSearcher" (54 : Nat) "LzwSearcher" "codes" "I") ∈ lw_all := lw_g (lw_at lw_m0 26 rfl) rfl
theorem q40 : (Jvm.Cond.fieldLink "LzwSearcher" (25 : Nat) "LzwSearcher" "code" "[I") ∈ lw_all := lw_g (lw_at lw_m0 27 rfl) rfl
theorem q41 : (Jvm.Cond.fieldLink "LzwSearcher" (28 : Nat) "LzwSearcher" "startOf" "[I") ∈ lw_all := lw_g (lw_at lw_m0 28 rfl) rfl
theorem q42 : (Jvm.Cond.fieldLink "LzwSearcher" (57 : Nat) "LzwSearcher" "open" "I") ∈ lw_all := lw_g (lw_at lw_m0 29 rfl) rfl
theorem q43 : (Jvm.Cond.fieldLink "LzwSearcher" (75 : Nat) "LzwSearcher" "patternLen" "I") ∈ lw_all := lw_g (lw_at lw_m0 30 rfl) rfl
theorem q44 : (Jvm.Cond.fieldLink "LzwSearcher" (31 : Nat) "LzwSearcher" "wanted" "[I") ∈ lw_all := lw_g (lw_at lw_m0 31 rfl) rfl
theorem q45 : (Jvm.Cond.fieldLink "LzwSearcher" (34 : Nat) "LzwSearcher" "next" "[I") ∈ lw_all := lw_g (lw_at lw_m0 32 rfl) rfl
theorem q46 : (Jvm.Cond.fieldLink "LzwSearcher" (60 : Nat) "LzwSearcher" "ready" "Z") ∈ lw_all := lw_g (lw_at lw_m0 33 rfl) rfl
theorem q47 : (Jvm.Cond.fieldLink "LzwSearcher" (37 : Nat) "LzwSearcher" "lead" "[B") ∈ lw_all := lw_g (lw_at lw_m0 34 rfl) rfl
theorem q48 : (Jvm.Cond.fieldLink "LzwSearcher" (41 : Nat) "LzwSearcher" "hits" "[B") ∈ lw_all := lw_g (lw_at lw_m0 35 rfl) rfl
theorem q49 : (Jvm.Cond.lays "LzwSearcher" "LzwSearcher" "phrases" "I") ∈ lw_all := lw_g (lw_at lw_m0 36 rfl) rfl
theorem q50 : (Jvm.Cond.soleField "LzwSearcher" "phrases") ∈ lw_all := lw_g (lw_at lw_m0 37 rfl) rfl
theorem q51 : (Jvm.Cond.laysFinal "LzwSearcher" "LzwSearcher" "parent" "[I") ∈ lw_all := lw_g (lw_at lw_m0 38 rfl) rfl
theorem q52 : (Jvm.Cond.soleField "LzwSearcher" "parent") ∈ lw_all := lw_g (lw_at lw_m0 39 rfl) rfl
theorem q53 : (Jvm.Cond.laysFinal "LzwSearcher" "LzwSearcher" "letterOf" "[I") ∈ lw_all := lw_g (lw_at lw_m0 40 rfl) rfl
theorem q54 : (Jvm.Cond.soleField "LzwSearcher" "letterOf") ∈ lw_all := lw_g (lw_at lw_m0 41 rfl) rfl
theorem q55 : (Jvm.Cond.laysFinal "LzwSearcher" "LzwSearcher" "size" "[I") ∈ lw_all := lw_g (lw_at lw_m0 42 rfl) rfl
theorem q56 : (Jvm.Cond.soleField "LzwSearcher" "size") ∈ lw_all := lw_g (lw_at lw_m0 43 rfl) rfl
theorem q57 : (Jvm.Cond.laysFinal "LzwSearcher" "LzwSearcher" "child" "[I") ∈ lw_all := lw_g (lw_at lw_m0 44 rfl) rfl
theorem q58 : (Jvm.Cond.soleField "LzwSearcher" "child") ∈ lw_all := lw_g (lw_at lw_m0 45 rfl) rfl
theorem q59 : (Jvm.Cond.laysFinal "LzwSearcher" "LzwSearcher" "tally" "[I") ∈ lw_all := lw_g (lw_at lw_m0 46 rfl) rfl
theorem q60 : (Jvm.Cond.soleField "LzwSearcher" "tally") ∈ lw_all := lw_g (lw_at lw_m0 47 rfl) rfl
theorem q61 : (Jvm.Cond.lays "LzwSearcher" "LzwSearcher" "textLen" "I") ∈ lw_all := lw_g (lw_at lw_m0 48 rfl) rfl
theorem q62 : (Jvm.Cond.soleField "LzwSearcher" "textLen") ∈ lw_all := lw_g (lw_at lw_m0 49 rfl) rfl
theorem q63 : (Jvm.Cond.lays "LzwSearcher" "LzwSearcher" "codes" "I") ∈ lw_all := lw_g (lw_at lw_m0 50 rfl) rfl
theorem q64 : (Jvm.Cond.soleField "LzwSearcher" "codes") ∈ lw_all := lw_g (lw_at lw_m0 51 rfl) rfl
theorem q65 : (Jvm.Cond.laysFinal "LzwSearcher" "LzwSearcher" "code" "[I") ∈ lw_all := lw_g (lw_at lw_m0 52 rfl) rfl
theorem q66 : (Jvm.Cond.soleField "LzwSearcher" "code") ∈ lw_all := lw_g (lw_at lw_m0 53 rfl) rfl
theorem q67 : (Jvm.Cond.laysFinal "LzwSearcher" "LzwSearcher" "startOf" "[I") ∈ lw_all := lw_g (lw_at lw_m0 54 rfl) rfl
theorem q68 : (Jvm.Cond.soleField "LzwSearcher" "startOf") ∈ lw_all := lw_g (lw_at lw_m0 55 rfl) rfl
theorem q69 : (Jvm.Cond.lays "LzwSearcher" "LzwSearcher" "open" "I") ∈ lw_all := lw_g (lw_at lw_m0 56 rfl) rfl
theorem q70 : (Jvm.Cond.soleField "LzwSearcher" "open") ∈ lw_all := lw_g (lw_at lw_m0 57 rfl) rfl
theorem q71 : (Jvm.Cond.lays "LzwSearcher" "LzwSearcher" "patternLen" "I") ∈ lw_all := lw_g (lw_at lw_m0 58 rfl) rfl
theorem q72 : (Jvm.Cond.soleField "LzwSearcher" "patternLen") ∈ lw_all := lw_g (lw_at lw_m0 59 rfl) rfl
theorem q73 : (Jvm.Cond.laysFinal "LzwSearcher" "LzwSearcher" "wanted" "[I") ∈ lw_all := lw_g (lw_at lw_m0 60 rfl) rfl
theorem q74 : (Jvm.Cond.soleField "LzwSearcher" "wanted") ∈ lw_all := lw_g (lw_at lw_m0 61 rfl) rfl
theorem q75 : (Jvm.Cond.laysFinal "LzwSearcher" "LzwSearcher" "next" "[I") ∈ lw_all := lw_g (lw_at lw_m0 62 rfl) rfl
theorem q76 : (Jvm.Cond.soleField "LzwSearcher" "next") ∈ lw_all := lw_g (lw_at lw_m0 63 rfl) rfl
theorem q77 : (Jvm.Cond.lays "LzwSearcher" "LzwSearcher" "ready" "Z") ∈ lw_all := lw_g (lw_at lw_m0 64 rfl) rfl
theorem q78 : (Jvm.Cond.soleField "LzwSearcher" "ready") ∈ lw_all := lw_g (lw_at lw_m0 65 rfl) rfl
theorem q79 : (Jvm.Cond.laysFinal "LzwSearcher" "LzwSearcher" "lead" "[B") ∈ lw_all := lw_g (lw_at lw_m0 66 rfl) rfl
theorem q80 : (Jvm.Cond.soleField "LzwSearcher" "lead") ∈ lw_all := lw_g (lw_at lw_m0 67 rfl) rfl
theorem q81 : (Jvm.Cond.laysFinal "LzwSearcher" "LzwSearcher" "hits" "[B") ∈ lw_all := lw_g (lw_at lw_m0 68 rfl) rfl
theorem q82 : (Jvm.Cond.soleField "LzwSearcher" "hits") ∈ lw_all := lw_g (lw_at lw_m0 69 rfl) rfl
theorem q83 : (Jvm.Cond.superclass "LzwSearcher" "java/lang/Object") ∈ lw_all := lw_g (lw_at lw_m0 70 rfl) rfl
theorem q87 : (Jvm.Cond.instanceMethod ({ cls := "LzwSearcher", name := "append", desc := "(I)I" } : Jvm.MethodName)) ∈ lw_all := lw_g (lw_at lw_m0 74 rfl) rfl
theorem q88 : (Jvm.Cond.selects "LzwSearcher" ({ cls := "LzwSearcher", name := "append", desc := "(I)I" } : Jvm.MethodName) ({ cls := "LzwSearcher", name := "append", desc := "(I)I" } : Jvm.MethodName)) ∈ lw_all := lw_g (lw_at lw_m0 75 rfl) rfl
theorem q89 : (Jvm.Cond.code ({ cls := "LzwSearcher", name := "append", desc := "(I)I" } : Jvm.MethodName) prog_1_method_4_code (2 : Nat) (Option.some Jvm.ClassFile.FieldType.int)) ∈ lw_all := lw_g (lw_at lw_m0 76 rfl) rfl
theorem q91 : (Jvm.Cond.instanceMethod ({ cls := "LzwSearcher", name := "repeat", desc := "(II)I" } : Jvm.MethodName)) ∈ lw_all := lw_g (lw_at lw_m0 78 rfl) rfl
theorem q92 : (Jvm.Cond.selects "LzwSearcher" ({ cls := "LzwSearcher", name := "repeat", desc := "(II)I" } : Jvm.MethodName) ({ cls := "LzwSearcher", name := "repeat", desc := "(II)I" } : Jvm.MethodName)) ∈ lw_all := lw_g (lw_at lw_m0 79 rfl) rfl
theorem q93 : (Jvm.Cond.code ({ cls := "LzwSearcher", name := "repeat", desc := "(II)I" } : Jvm.MethodName) prog_1_method_5_code (6 : Nat) (Option.some Jvm.ClassFile.FieldType.int)) ∈ lw_all := lw_g (lw_at lw_m0 80 rfl) rfl
theorem q94 : (Jvm.Cond.methodLink "LzwSearcher" (68 : Nat) ({ cls := "LzwSearcher", name := "letterAt", desc := "(I)I" } : Jvm.MethodName)) ∈ lw_all := lw_g (lw_at lw_m0 81 rfl) rfl
theorem q95 : (Jvm.Cond.instanceMethod ({ cls := "LzwSearcher", name := "letterAt", desc := "(I)I" } : Jvm.MethodName)) ∈ lw_all := lw_g (lw_at lw_m0 82 rfl) rfl
theorem q96 : (Jvm.Cond.selects "LzwSearcher" ({ cls := "LzwSearcher", name := "letterAt", desc := "(I)I" } : Jvm.MethodName) ({ cls := "LzwSearcher", name := "letterAt", desc := "(I)I" } : Jvm.MethodName)) ∈ lw_all := lw_g (lw_at lw_m0 83 rfl) rfl
theorem q97 : (Jvm.Cond.code ({ cls := "LzwSearcher", name := "letterAt", desc := "(I)I" } : Jvm.MethodName) prog_1_method_17_code (4 : Nat) (Option.some Jvm.ClassFile.FieldType.int)) ∈ lw_all := lw_g (lw_at lw_m0 84 rfl) rfl
theorem q98 : (Jvm.Cond.methodLink "LzwSearcher" (85 : Nat) ({ cls := "LzwSearcher", name := "phraseHolding", desc := "(I)I" } : Jvm.MethodName)) ∈ lw_all := lw_g (lw_at lw_m0 85 rfl) rfl
theorem q99 : (Jvm.Cond.privateMethod ({ cls := "LzwSearcher", name := "phraseHolding", desc := "(I)I" } : Jvm.MethodName)) ∈ lw_tbl := lw_at lw_m0 86 rfl
theorem q100 : (Jvm.Cond.instanceMethod ({ cls := "LzwSearcher", name := "phraseHolding", desc := "(I)I" } : Jvm.MethodName)) ∈ lw_all := lw_g (lw_at lw_m0 87 rfl) rfl
theorem q101 : (Jvm.Cond.code ({ cls := "LzwSearcher", name := "phraseHolding", desc := "(I)I" } : Jvm.MethodName) prog_1_method_13_code (5 : Nat) (Option.some Jvm.ClassFile.FieldType.int)) ∈ lw_all := lw_g (lw_at lw_m0 88 rfl) rfl
theorem q102 : (Jvm.Cond.methodLink "LzwSearcher" (88 : Nat) ({ cls := "LzwSearcher", name := "phraseAt", desc := "(I)I" } : Jvm.MethodName)) ∈ lw_all := lw_g (lw_at lw_m0 89 rfl) rfl
theorem q103 : (Jvm.Cond.privateMethod ({ cls := "LzwSearcher", name := "phraseAt", desc := "(I)I" } : Jvm.MethodName)) ∈ lw_tbl := lw_at lw_m0 90 rfl
theorem q104 : (Jvm.Cond.instanceMethod ({ cls := "LzwSearcher", name := "phraseAt", desc := "(I)I" } : Jvm.MethodName)) ∈ lw_all := lw_g (lw_at lw_m0 91 rfl) rfl
theorem q105 : (Jvm.Cond.code ({ cls := "LzwSearcher", name := "phraseAt", desc := "(I)I" } : Jvm.MethodName) prog_1_method_12_code (2 : Nat) (Option.some Jvm.ClassFile.FieldType.int)) ∈ lw_all := lw_g (lw_at lw_m0 92 rfl) rfl
theorem q106 : (Jvm.Cond.methodLink "LzwSearcher" (91 : Nat) ({ cls := "LzwSearcher", name := "beginning", desc := "(II)I" } : Jvm.MethodName)) ∈ lw_all := lw_g (lw_at lw_m0 93 rfl) rfl
theorem q107 : (Jvm.Cond.privateMethod ({ cls := "LzwSearcher", name := "beginning", desc := "(II)I" } : Jvm.MethodName)) ∈ lw_tbl := lw_at lw_m0 94 rfl
theorem q108 : (Jvm.Cond.instanceMethod ({ cls := "LzwSearcher", name := "beginning", desc := "(II)I" } : Jvm.MethodName)) ∈ lw_all := lw_g (lw_at lw_m0 95 rfl) rfl
theorem q109 : (Jvm.Cond.code ({ cls := "LzwSearcher", name := "beginning", desc := "(II)I" } : Jvm.MethodName) prog_1_method_14_code (4 : Nat) (Option.some Jvm.ClassFile.FieldType.int)) ∈ lw_all := lw_g (lw_at lw_m0 96 rfl) rfl
theorem q110 : (Jvm.Cond.methodLink "LzwSearcher" (72 : Nat) ({ cls := "LzwSearcher", name := "append", desc := "(I)I" } : Jvm.MethodName)) ∈ lw_all := lw_g (lw_at lw_m0 97 rfl) rfl
theorem q112 : (Jvm.Cond.instanceMethod ({ cls := "LzwSearcher", name := "clear", desc := "()V" } : Jvm.MethodName)) ∈ lw_all := lw_g (lw_at lw_m0 99 rfl) rfl
theorem q113 : (Jvm.Cond.selects "LzwSearcher" ({ cls := "LzwSearcher", name := "clear", desc := "()V" } : Jvm.MethodName) ({ cls := "LzwSearcher", name := "clear", desc := "()V" } : Jvm.MethodName)) ∈ lw_all := lw_g (lw_at lw_m0 100 rfl) rfl
theorem q114 : (Jvm.Cond.code ({ cls := "LzwSearcher", name := "clear", desc := "()V" } : Jvm.MethodName) prog_1_method_6_code (1 : Nat) (Option.none : Option Jvm.ClassFile.FieldType)) ∈ lw_all := lw_g (lw_at lw_m0 101 rfl) rfl
theorem q116 : (Jvm.Cond.instanceMethod ({ cls := "LzwSearcher", name := "pattern", desc := "(I)I" } : Jvm.MethodName)) ∈ lw_all := lw_g (lw_at lw_m0 103 rfl) rfl
theorem q117 : (Jvm.Cond.selects "LzwSearcher" ({ cls := "LzwSearcher", name := "pattern", desc := "(I)I" } : Jvm.MethodName) ({ cls := "LzwSearcher", name := "pattern", desc := "(I)I" } : Jvm.MethodName)) ∈ lw_all := lw_g (lw_at lw_m0 104 rfl) rfl
theorem q118 : (Jvm.Cond.code ({ cls := "LzwSearcher", name := "pattern", desc := "(I)I" } : Jvm.MethodName) prog_1_method_7_code (2 : Nat) (Option.some Jvm.ClassFile.FieldType.int)) ∈ lw_all := lw_g (lw_at lw_m0 105 rfl) rfl
theorem q119 : (Jvm.Cond.methodLink "LzwSearcher" (78 : Nat) ({ cls := "LzwSearcher", name := "buildAutomaton", desc := "()V" } : Jvm.MethodName)) ∈ lw_all := lw_g (lw_at lw_m0 106 rfl) rfl
theorem q120 : (Jvm.Cond.privateMethod ({ cls := "LzwSearcher", name := "buildAutomaton", desc := "()V" } : Jvm.MethodName)) ∈ lw_tbl := lw_at lw_m0 107 rfl
theorem q121 : (Jvm.Cond.instanceMethod ({ cls := "LzwSearcher", name := "buildAutomaton", desc := "()V" } : Jvm.MethodName)) ∈ lw_all := lw_g (lw_at lw_m0 108 rfl) rfl
theorem q122 : (Jvm.Cond.code ({ cls := "LzwSearcher", name := "buildAutomaton", desc := "()V" } : Jvm.MethodName) prog_1_method_9_code (5 : Nat) (Option.none : Option Jvm.ClassFile.FieldType)) ∈ lw_all := lw_g (lw_at lw_m0 109 rfl) rfl
theorem q124 : (Jvm.Cond.instanceMethod ({ cls := "LzwSearcher", name := "clearPattern", desc := "()V" } : Jvm.MethodName)) ∈ lw_all := lw_g (lw_at lw_m0 111 rfl) rfl
theorem q125 : (Jvm.Cond.selects "LzwSearcher" ({ cls := "LzwSearcher", name := "clearPattern", desc := "()V" } : Jvm.MethodName) ({ cls := "LzwSearcher", name := "clearPattern", desc := "()V" } : Jvm.MethodName)) ∈ lw_all := lw_g (lw_at lw_m0 112 rfl) rfl
theorem q126 : (Jvm.Cond.code ({ cls := "LzwSearcher", name := "clearPattern", desc := "()V" } : Jvm.MethodName) prog_1_method_8_code (1 : Nat) (Option.none : Option Jvm.ClassFile.FieldType)) ∈ lw_all := lw_g (lw_at lw_m0 113 rfl) rfl
theorem q128 : (Jvm.Cond.instanceMethod ({ cls := "LzwSearcher", name := "length", desc := "()I" } : Jvm.MethodName)) ∈ lw_all := lw_g (lw_at lw_m0 115 rfl) rfl
theorem q129 : (Jvm.Cond.selects "LzwSearcher" ({ cls := "LzwSearcher", name := "length", desc := "()I" } : Jvm.MethodName) ({ cls := "LzwSearcher", name := "length", desc := "()I" } : Jvm.MethodName)) ∈ lw_all := lw_g (lw_at lw_m0 116 rfl) rfl
theorem q130 : (Jvm.Cond.code ({ cls := "LzwSearcher", name := "length", desc := "()I" } : Jvm.MethodName) prog_1_method_16_code (1 : Nat) (Option.some Jvm.ClassFile.FieldType.int)) ∈ lw_all := lw_g (lw_at lw_m0 117 rfl) rfl
theorem q133 : (Jvm.Cond.instanceMethod ({ cls := "LzwSearcher", name := "count", desc := "()I" } : Jvm.MethodName)) ∈ lw_all := lw_g (lw_at lw_m0 120 rfl) rfl
theorem q134 : (Jvm.Cond.selects "LzwSearcher" ({ cls := "LzwSearcher", name := "count", desc := "()I" } : Jvm.MethodName) ({ cls := "LzwSearcher", name := "count", desc := "()I" } : Jvm.MethodName)) ∈ lw_all := lw_g (lw_at lw_m0 121 rfl) rfl
theorem q135 : (Jvm.Cond.code ({ cls := "LzwSearcher", name := "count", desc := "()I" } : Jvm.MethodName) prog_1_method_18_code (1 : Nat) (Option.some Jvm.ClassFile.FieldType.int)) ∈ lw_all := lw_g (lw_at lw_m0 122 rfl) rfl
theorem q136 : (Jvm.Cond.methodLink "LzwSearcher" (95 : Nat) ({ cls := "LzwSearcher", name := "countWithin", desc := "(I)I" } : Jvm.MethodName)) ∈ lw_all := lw_g (lw_at lw_m0 123 rfl) rfl
theorem q137 : (Jvm.Cond.instanceMethod ({ cls := "LzwSearcher", name := "countWithin", desc := "(I)I" } : Jvm.MethodName)) ∈ lw_all := lw_g (lw_at lw_m0 124 rfl) rfl
theorem q138 : (Jvm.Cond.selects "LzwSearcher" ({ cls := "LzwSearcher", name := "countWithin", desc := "(I)I" } : Jvm.MethodName) ({ cls := "LzwSearcher", name := "countWithin", desc := "(I)I" } : Jvm.MethodName)) ∈ lw_all := lw_g (lw_at lw_m0 125 rfl) rfl
theorem q139 : (Jvm.Cond.code ({ cls := "LzwSearcher", name := "countWithin", desc := "(I)I" } : Jvm.MethodName) prog_1_method_23_code (7 : Nat) (Option.some Jvm.ClassFile.FieldType.int)) ∈ lw_all := lw_g (lw_at lw_m0 126 rfl) rfl
theorem q140 : (Jvm.Cond.methodLink "LzwSearcher" (105 : Nat) ({ cls := "LzwSearcher", name := "clampLength", desc := "(I)I" } : Jvm.MethodName)) ∈ lw_all := lw_g (lw_at lw_m0 127 rfl) rfl
theorem q141 : (Jvm.Cond.privateMethod ({ cls := "LzwSearcher", name := "clampLength", desc := "(I)I" } : Jvm.MethodName)) ∈ lw_tbl := lw_at lw_m0 128 rfl
theorem q142 : (Jvm.Cond.instanceMethod ({ cls := "LzwSearcher", name := "clampLength", desc := "(I)I" } : Jvm.MethodName)) ∈ lw_all := lw_g (lw_at lw_m0 129 rfl) rfl
theorem q143 : (Jvm.Cond.code ({ cls := "LzwSearcher", name := "clampLength", desc := "(I)I" } : Jvm.MethodName) prog_1_method_15_code (2 : Nat) (Option.some Jvm.ClassFile.FieldType.int)) ∈ lw_all := lw_g (lw_at lw_m0 130 rfl) rfl
theorem q144 : (Jvm.Cond.methodLink "LzwSearcher" (98 : Nat) ({ cls := "LzwSearcher", name := "prepare", desc := "()V" } : Jvm.MethodName)) ∈ lw_all := lw_g (lw_at lw_m0 131 rfl) rfl
theorem q145 : (Jvm.Cond.privateMethod ({ cls := "LzwSearcher", name := "prepare", desc := "()V" } : Jvm.MethodName)) ∈ lw_tbl := lw_at lw_m0 132 rfl
theorem q146 : (Jvm.Cond.instanceMethod ({ cls := "LzwSearcher", name := "prepare", desc := "()V" } : Jvm.MethodName)) ∈ lw_all := lw_g (lw_at lw_m0 133 rfl) rfl
theorem q147 : (Jvm.Cond.code ({ cls := "LzwSearcher", name := "prepare", desc := "()V" } : Jvm.MethodName) prog_1_method_10_code (3 : Nat) (Option.none : Option Jvm.ClassFile.FieldType)) ∈ lw_all := lw_g (lw_at lw_m0 134 rfl) rfl
theorem q148 : (Jvm.Cond.methodLink "LzwSearcher" (81 : Nat) ({ cls := "LzwSearcher", name := "fill", desc := "(II)V" } : Jvm.MethodName)) ∈ lw_all := lw_g (lw_at lw_m0 135 rfl) rfl
theorem q149 : (Jvm.Cond.privateMethod ({ cls := "LzwSearcher", name := "fill", desc := "(II)V" } : Jvm.MethodName)) ∈ lw_tbl := lw_at lw_m0 136 rfl
theorem q150 : (Jvm.Cond.instanceMethod ({ cls := "LzwSearcher", name := "fill", desc := "(II)V" } : Jvm.MethodName)) ∈ lw_all := lw_g (lw_at lw_m0 137 rfl) rfl
theorem q151 : (Jvm.Cond.code ({ cls := "LzwSearcher", name := "fill", desc := "(II)V" } : Jvm.MethodName) prog_1_method_11_code (7 : Nat) (Option.none : Option Jvm.ClassFile.FieldType)) ∈ lw_all := lw_g (lw_at lw_m0 138 rfl) rfl
theorem q153 : (Jvm.Cond.instanceMethod ({ cls := "LzwSearcher", name := "position", desc := "(I)I" } : Jvm.MethodName)) ∈ lw_all := lw_g (lw_at lw_m0 140 rfl) rfl
theorem q154 : (Jvm.Cond.selects "LzwSearcher" ({ cls := "LzwSearcher", name := "position", desc := "(I)I" } : Jvm.MethodName) ({ cls := "LzwSearcher", name := "position", desc := "(I)I" } : Jvm.MethodName)) ∈ lw_all := lw_g (lw_at lw_m0 141 rfl) rfl
theorem q155 : (Jvm.Cond.code ({ cls := "LzwSearcher", name := "position", desc := "(I)I" } : Jvm.MethodName) prog_1_method_19_code (7 : Nat) (Option.some Jvm.ClassFile.FieldType.int)) ∈ lw_all := lw_g (lw_at lw_m0 142 rfl) rfl
theorem q156 : (Jvm.Cond.methodLink "LzwSearcher" (101 : Nat) ({ cls := "LzwSearcher", name := "endInside", desc := "(III)I" } : Jvm.MethodName)) ∈ lw_all := lw_g (lw_at lw_m0 143 rfl) rfl
theorem q157 : (Jvm.Cond.privateMethod ({ cls := "LzwSearcher", name := "endInside", desc := "(III)I" } : Jvm.MethodName)) ∈ lw_tbl := lw_at lw_m0 144 rfl
theorem q158 : (Jvm.Cond.instanceMethod ({ cls := "LzwSearcher", name := "endInside", desc := "(III)I" } : Jvm.MethodName)) ∈ lw_all := lw_g (lw_at lw_m0 145 rfl) rfl
theorem q159 : (Jvm.Cond.code ({ cls := "LzwSearcher", name := "endInside", desc := "(III)I" } : Jvm.MethodName) prog_1_method_20_code (5 : Nat) (Option.some Jvm.ClassFile.FieldType.int)) ∈ lw_all := lw_g (lw_at lw_m0 146 rfl) rfl
theorem q161 : (Jvm.Cond.instanceMethod ({ cls := "LzwSearcher", name := "frequency", desc := "(II)I" } : Jvm.MethodName)) ∈ lw_all := lw_g (lw_at lw_m0 148 rfl) rfl
theorem q162 : (Jvm.Cond.selects "LzwSearcher" ({ cls := "LzwSearcher", name := "frequency", desc := "(II)I" } : Jvm.MethodName) ({ cls := "LzwSearcher", name := "frequency", desc := "(II)I" } : Jvm.MethodName)) ∈ lw_all := lw_g (lw_at lw_m0 149 rfl) rfl
theorem q163 : (Jvm.Cond.code ({ cls := "LzwSearcher", name := "frequency", desc := "(II)I" } : Jvm.MethodName) prog_1_method_21_code (7 : Nat) (Option.some Jvm.ClassFile.FieldType.int)) ∈ lw_all := lw_g (lw_at lw_m0 150 rfl) rfl
theorem q165 : (Jvm.Cond.instanceMethod ({ cls := "LzwSearcher", name := "overlap", desc := "()I" } : Jvm.MethodName)) ∈ lw_all := lw_g (lw_at lw_m0 152 rfl) rfl
theorem q166 : (Jvm.Cond.selects "LzwSearcher" ({ cls := "LzwSearcher", name := "overlap", desc := "()I" } : Jvm.MethodName) ({ cls := "LzwSearcher", name := "overlap", desc := "()I" } : Jvm.MethodName)) ∈ lw_all := lw_g (lw_at lw_m0 153 rfl) rfl
theorem q167 : (Jvm.Cond.code ({ cls := "LzwSearcher", name := "overlap", desc := "()I" } : Jvm.MethodName) prog_1_method_22_code (4 : Nat) (Option.some Jvm.ClassFile.FieldType.int)) ∈ lw_all := lw_g (lw_at lw_m0 154 rfl) rfl
theorem in_X0 : ∀ w ∈ wsX00, w ∈ lw_all := lw_in wsX00 [49, 51, 53, 55, 57, 59, 61, 63, 65, 67, 69, 71, 73, 75, 77, 79, 81] (by decide +kernel) (by decide +kernel)
/-! java/lang/Object -/
set_option maxRecDepth 100000
def RJ0 : String := "java/lang/Object"
abbrev cJ0_init : ByteArray := object_method_1_code
def yJ0_init : MethodName := ⟨RJ0, "<init>", "()V"⟩
theorem dJ0_init_0 : decode cJ0_init 0 = .ok (.return_, 1) := by decide +kernel
theorem q22 : (Jvm.Cond.instanceMethod ({ cls := "java/lang/Object", name := "<init>", desc := "()V" } : Jvm.MethodName)) ∈ lw_all := lw_g (lw_at lw_m0 9 rfl) rfl
theorem q23 : (Jvm.Cond.code ({ cls := "java/lang/Object", name := "<init>", desc := "()V" } : Jvm.MethodName) object_method_1_code (1 : Nat) (Option.none : Option Jvm.ClassFile.FieldType)) ∈ lw_all := lw_g (lw_at lw_m0 10 rfl) rfl
theorem q13 : (Jvm.Cond.initialized "LzwSearcherLaw") ∈ lw_all := lw_g (lw_at lw_m0 0 rfl) rfl
set_option maxRecDepth 100000
theorem q16 : (Jvm.Cond.classLink "LzwSearcherLaw" (7 : Nat) "LzwSearcher") ∈ lw_all := lw_g (lw_at lw_m0 3 rfl) rfl
theorem q18 : (Jvm.Cond.methodLink "LzwSearcherLaw" (9 : Nat) ({ cls := "LzwSearcher", name := "<init>", desc := "()V" } : Jvm.MethodName)) ∈ lw_all := lw_g (lw_at lw_m0 5 rfl) rfl
theorem q86 : (Jvm.Cond.methodLink "LzwSearcherLaw" (13 : Nat) ({ cls := "LzwSearcher", name := "append", desc := "(I)I" } : Jvm.MethodName)) ∈ lw_all := lw_g (lw_at lw_m0 73 rfl) rfl
theorem q90 : (Jvm.Cond.methodLink "LzwSearcherLaw" (18 : Nat) ({ cls := "LzwSearcher", name := "repeat", desc := "(II)I" } : Jvm.MethodName)) ∈ lw_all := lw_g (lw_at lw_m0 77 rfl) rfl
theorem q111 : (Jvm.Cond.methodLink "LzwSearcherLaw" (23 : Nat) ({ cls := "LzwSearcher", name := "clear", desc := "()V" } : Jvm.MethodName)) ∈ lw_all := lw_g (lw_at lw_m0 98 rfl) rfl
theorem q115 : (Jvm.Cond.methodLink "LzwSearcherLaw" (27 : Nat) ({ cls := "LzwSearcher", name := "pattern", desc := "(I)I" } : Jvm.MethodName)) ∈ lw_all := lw_g (lw_at lw_m0 102 rfl) rfl
theorem q123 : (Jvm.Cond.methodLink "LzwSearcherLaw" (31 : Nat) ({ cls := "LzwSearcher", name := "clearPattern", desc := "()V" } : Jvm.MethodName)) ∈ lw_all := lw_g (lw_at lw_m0 110 rfl) rfl
theorem q127 : (Jvm.Cond.methodLink "LzwSearcherLaw" (35 : Nat) ({ cls := "LzwSearcher", name := "length", desc := "()I" } : Jvm.MethodName)) ∈ lw_all := lw_g (lw_at lw_m0 114 rfl) rfl
theorem q131 : (Jvm.Cond.methodLink "LzwSearcherLaw" (40 : Nat) ({ cls := "LzwSearcher", name := "letterAt", desc := "(I)I" } : Jvm.MethodName)) ∈ lw_all := lw_g (lw_at lw_m0 118 rfl) rfl
theorem q132 : (Jvm.Cond.methodLink "LzwSearcherLaw" (44 : Nat) ({ cls := "LzwSearcher", name := "count", desc := "()I" } : Jvm.MethodName)) ∈ lw_all := lw_g (lw_at lw_m0 119 rfl) rfl
theorem q152 : (Jvm.Cond.methodLink "LzwSearcherLaw" (48 : Nat) ({ cls := "LzwSearcher", name := "position", desc := "(I)I" } : Jvm.MethodName)) ∈ lw_all := lw_g (lw_at lw_m0 139 rfl) rfl
theorem q160 : (Jvm.Cond.methodLink "LzwSearcherLaw" (52 : Nat) ({ cls := "LzwSearcher", name := "frequency", desc := "(II)I" } : Jvm.MethodName)) ∈ lw_all := lw_g (lw_at lw_m0 147 rfl) rfl
theorem q164 : (Jvm.Cond.methodLink "LzwSearcherLaw" (56 : Nat) ({ cls := "LzwSearcher", name := "overlap", desc := "()I" } : Jvm.MethodName)) ∈ lw_all := lw_g (lw_at lw_m0 151 rfl) rfl
theorem q168 : (Jvm.Cond.methodLink "LzwSearcherLaw" (60 : Nat) ({ cls := "LzwSearcher", name := "countWithin", desc := "(I)I" } : Jvm.MethodName)) ∈ lw_all := lw_g (lw_at lw_m0 155 rfl) rfl
theorem q169 : (Jvm.Cond.classLink "LzwSearcherLaw" (10 : Nat) "LzwSearcherModel") ∈ lw_all := lw_g (lw_at lw_m0 156 rfl) rfl
theorem q171 : (Jvm.Cond.methodLink "LzwSearcherLaw" (12 : Nat) ({ cls := "LzwSearcherModel", name := "<init>", desc := "()V" } : Jvm.MethodName)) ∈ lw_all := lw_g (lw_at lw_m0 158 rfl) rfl
theorem q188 : (Jvm.Cond.methodLink "LzwSearcherLaw" (17 : Nat) ({ cls := "LzwSearcherModel", name := "append", desc := "(I)I" } : Jvm.MethodName)) ∈ lw_all := lw_g (lw_at lw_m0 175 rfl) rfl
theorem q196 : (Jvm.Cond.methodLink "LzwSearcherLaw" (22 : Nat) ({ cls := "LzwSearcherModel", name := "repeat", desc := "(II)I" } : Jvm.MethodName)) ∈ lw_all := lw_g (lw_at lw_m0 183 rfl) rfl
theorem q201 : (Jvm.Cond.methodLink "LzwSearcherLaw" (26 : Nat) ({ cls := "LzwSearcherModel", name := "clear", desc := "()V" } : Jvm.MethodName)) ∈ lw_all := lw_g (lw_at lw_m0 188 rfl) rfl
theorem q205 : (Jvm.Cond.methodLink "LzwSearcherLaw" (30 : Nat) ({ cls := "LzwSearcherModel", name := "pattern", desc := "(I)I" } : Jvm.MethodName)) ∈ lw_all := lw_g (lw_at lw_m0 192 rfl) rfl
theorem q209 : (Jvm.Cond.methodLink "LzwSearcherLaw" (34 : Nat) ({ cls := "LzwSearcherModel", name := "clearPattern", desc := "()V" } : Jvm.MethodName)) ∈ lw_all := lw_g (lw_at lw_m0 196 rfl) rfl
theorem q213 : (Jvm.Cond.methodLink "LzwSearcherLaw" (39 : Nat) ({ cls := "LzwSearcherModel", name := "length", desc := "()I" } : Jvm.MethodName)) ∈ lw_all := lw_g (lw_at lw_m0 200 rfl) rfl
theorem q217 : (Jvm.Cond.methodLink "LzwSearcherLaw" (43 : Nat) ({ cls := "LzwSearcherModel", name := "letterAt", desc := "(I)I" } : Jvm.MethodName)) ∈ lw_all := lw_g (lw_at lw_m0 204 rfl) rfl
theorem q221 : (Jvm.Cond.methodLink "LzwSearcherLaw" (47 : Nat) ({ cls := "LzwSearcherModel", name := "count", desc := "()I" } : Jvm.MethodName)) ∈ lw_all := lw_g (lw_at lw_m0 208 rfl) rfl
theorem q238 : (Jvm.Cond.methodLink "LzwSearcherLaw" (51 : Nat) ({ cls := "LzwSearcherModel", name := "position", desc := "(I)I" } : Jvm.MethodName)) ∈ lw_all := lw_g (lw_at lw_m0 225 rfl) rfl
theorem q242 : (Jvm.Cond.methodLink "LzwSearcherLaw" (55 : Nat) ({ cls := "LzwSearcherModel", name := "frequency", desc := "(II)I" } : Jvm.MethodName)) ∈ lw_all := lw_g (lw_at lw_m0 229 rfl) rfl
theorem q246 : (Jvm.Cond.methodLink "LzwSearcherLaw" (59 : Nat) ({ cls := "LzwSearcherModel", name := "overlap", desc := "()I" } : Jvm.MethodName)) ∈ lw_all := lw_g (lw_at lw_m0 233 rfl) rfl
theorem q250 : (Jvm.Cond.methodLink "LzwSearcherLaw" (63 : Nat) ({ cls := "LzwSearcherModel", name := "countWithin", desc := "(I)I" } : Jvm.MethodName)) ∈ lw_all := lw_g (lw_at lw_m0 237 rfl) rfl
theorem q84 : (Jvm.Cond.arrayClass Jvm.ClassFile.FieldType.int) ∈ lw_all := lw_g (lw_at lw_m0 71 rfl) rfl
set_option maxRecDepth 100000
theorem q85 : (Jvm.Cond.arrayClass Jvm.ClassFile.FieldType.byte) ∈ lw_all := lw_g (lw_at lw_m0 72 rfl) rfl
end
section
/-! LzwSearcherModel -/
set_option maxRecDepth 100000
def RX1 : String := "LzwSearcherModel"
def TX1 : u_T := fun k => match k with
  | 0 => ("LzwSearcherModel", "letters", "[I", true)
  | 1 => ("LzwSearcherModel", "size", "I", false)
  | 2 => ("LzwSearcherModel", "wanted", "[I", true)
  | _ => ("LzwSearcherModel", "wantedSize", "I", false)
def tyX1 : Nat → FieldType := fun k => match k with
  | 0 => .array .int
  | 1 => .int
  | 2 => .array .int
  | _ => .int
abbrev wsX10 : List Cond := u_ws RX1 TX1 4
theorem nmX1 : ∀ a, a < 4 → ∀ b, b < 4 → a ≠ b → (TX1 a).2.1 ≠ (TX1 b).2.1 := by decide +kernel
theorem tyX1_ok : ∀ k, k < 4 → parseFieldDescriptor (TX1 k).2.2.1 = some (tyX1 k) := by decide +kernel
abbrev cX1_init : ByteArray := prog_3_method_1_code
def yX1_init : MethodName := ⟨RX1, "<init>", "()V"⟩
theorem dX1_init_0 : decode cX1_init 0 = .ok (.aload_n 0, 1) := by decide +kernel
theorem dX1_init_1 : decode cX1_init 1 = .ok (.invokespecial 1, 3) := by decide +kernel
theorem dX1_init_4 : decode cX1_init 4 = .ok (.aload_n 0, 1) := by decide +kernel
theorem dX1_init_5 : decode cX1_init 5 = .ok (.bipush 120, 2) := by decide +kernel
theorem dX1_init_7 : decode cX1_init 7 = .ok (.newarray .int, 2) := by decide +kernel
theorem dX1_init_9 : decode cX1_init 9 = .ok (.putfield 7, 3) := by decide +kernel
theorem dX1_init_12 : decode cX1_init 12 = .ok (.aload_n 0, 1) := by decide +kernel
theorem dX1_init_13 : decode cX1_init 13 = .ok (.bipush 10, 2) := by decide +kernel
theorem dX1_init_15 : decode cX1_init 15 = .ok (.newarray .int, 2) := by decide +kernel
theorem dX1_init_17 : decode cX1_init 17 = .ok (.putfield 13, 3) := by decide +kernel
theorem dX1_init_20 : decode cX1_init 20 = .ok (.return_, 1) := by decide +kernel
abbrev cX1_append : ByteArray := prog_3_method_3_code
def yX1_append : MethodName := ⟨RX1, "append", "(I)I"⟩
theorem dX1_append_0 : decode cX1_append 0 = .ok (.aload_n 0, 1) := by decide +kernel
theorem dX1_append_1 : decode cX1_append 1 = .ok (.iload_n 1, 1) := by decide +kernel
theorem dX1_append_2 : decode cX1_append 2 = .ok (.invokevirtual 16, 3) := by decide +kernel
theorem dX1_append_5 : decode cX1_append 5 = .ok (.ifCond .ne 5, 3) := by decide +kernel
theorem dX1_append_8 : decode cX1_append 8 = .ok (.iconst (-1), 1) := by decide +kernel
theorem dX1_append_9 : decode cX1_append 9 = .ok (.ireturn, 1) := by decide +kernel
theorem dX1_append_10 : decode cX1_append 10 = .ok (.aload_n 0, 1) := by decide +kernel
theorem dX1_append_11 : decode cX1_append 11 = .ok (.getfield 20, 3) := by decide +kernel
theorem dX1_append_14 : decode cX1_append 14 = .ok (.bipush 120, 2) := by decide +kernel
theorem dX1_append_16 : decode cX1_append 16 = .ok (.if_icmp .ne 6, 3) := by decide +kernel
theorem dX1_append_19 : decode cX1_append 19 = .ok (.bipush (-2), 2) := by decide +kernel
theorem dX1_append_21 : decode cX1_append 21 = .ok (.ireturn, 1) := by decide +kernel
theorem dX1_append_22 : decode cX1_append 22 = .ok (.aload_n 0, 1) := by decide +kernel
theorem dX1_append_23 : decode cX1_append 23 = .ok (.getfield 7, 3) := by decide +kernel
theorem dX1_append_26 : decode cX1_append 26 = .ok (.aload_n 0, 1) := by decide +kernel
theorem dX1_append_27 : decode cX1_append 27 = .ok (.getfield 20, 3) := by decide +kernel
theorem dX1_append_30 : decode cX1_append 30 = .ok (.iload_n 1, 1) := by decide +kernel
theorem dX1_append_31 : decode cX1_append 31 = .ok (.iastore, 1) := by decide +kernel
theorem dX1_append_32 : decode cX1_append 32 = .ok (.aload_n 0, 1) := by decide +kernel
theorem dX1_append_33 : decode cX1_append 33 = .ok (.dup, 1) := by decide +kernel
theorem dX1_append_34 : decode cX1_append 34 = .ok (.getfield 20, 3) := by decide +kernel
theorem dX1_append_37 : decode cX1_append 37 = .ok (.iconst 1, 1) := by decide +kernel
theorem dX1_append_38 : decode cX1_append 38 = .ok (.iadd, 1) := by decide +kernel
theorem dX1_append_39 : decode cX1_append 39 = .ok (.putfield 20, 3) := by decide +kernel
theorem dX1_append_42 : decode cX1_append 42 = .ok (.aload_n 0, 1) := by decide +kernel
theorem dX1_append_43 : decode cX1_append 43 = .ok (.getfield 20, 3) := by decide +kernel
theorem dX1_append_46 : decode cX1_append 46 = .ok (.ireturn, 1) := by decide +kernel
abbrev cX1_isLetter : ByteArray := prog_3_method_2_code
def yX1_isLetter : MethodName := ⟨RX1, "isLetter", "(I)Z"⟩
theorem dX1_isLetter_0 : decode cX1_isLetter 0 = .ok (.iload_n 1, 1) := by decide +kernel
theorem dX1_isLetter_1 : decode cX1_isLetter 1 = .ok (.ifCond .lt 12, 3) := by decide +kernel
theorem dX1_isLetter_4 : decode cX1_isLetter 4 = .ok (.iload_n 1, 1) := by decide +kernel
theorem dX1_isLetter_5 : decode cX1_isLetter 5 = .ok (.iconst 3, 1) := by decide +kernel
theorem dX1_isLetter_6 : decode cX1_isLetter 6 = .ok (.if_icmp .gt 7, 3) := by decide +kernel
theorem dX1_isLetter_9 : decode cX1_isLetter 9 = .ok (.iconst 1, 1) := by decide +kernel
theorem dX1_isLetter_10 : decode cX1_isLetter 10 = .ok (.goto 4, 3) := by decide +kernel
theorem dX1_isLetter_13 : decode cX1_isLetter 13 = .ok (.iconst 0, 1) := by decide +kernel
theorem dX1_isLetter_14 : decode cX1_isLetter 14 = .ok (.ireturn, 1) := by decide +kernel
abbrev cX1_repeat : ByteArray := prog_3_method_4_code
def yX1_repeat : MethodName := ⟨RX1, "repeat", "(II)I"⟩
theorem dX1_repeat_0 : decode cX1_repeat 0 = .ok (.iload_n 2, 1) := by decide +kernel
theorem dX1_repeat_1 : decode cX1_repeat 1 = .ok (.ifCond .ge 7, 3) := by decide +kernel
theorem dX1_repeat_4 : decode cX1_repeat 4 = .ok (.iconst 0, 1) := by decide +kernel
theorem dX1_repeat_5 : decode cX1_repeat 5 = .ok (.goto 4, 3) := by decide +kernel
theorem dX1_repeat_8 : decode cX1_repeat 8 = .ok (.iload_n 2, 1) := by decide +kernel
theorem dX1_repeat_9 : decode cX1_repeat 9 = .ok (.istore_n 3, 1) := by decide +kernel
theorem dX1_repeat_10 : decode cX1_repeat 10 = .ok (.iload_n 1, 1) := by decide +kernel
theorem dX1_repeat_11 : decode cX1_repeat 11 = .ok (.ifCond .lt 11, 3) := by decide +kernel
theorem dX1_repeat_14 : decode cX1_repeat 14 = .ok (.iload_n 1, 1) := by decide +kernel
theorem dX1_repeat_15 : decode cX1_repeat 15 = .ok (.aload_n 0, 1) := by decide +kernel
theorem dX1_repeat_16 : decode cX1_repeat 16 = .ok (.getfield 20, 3) := by decide +kernel
theorem dX1_repeat_19 : decode cX1_repeat 19 = .ok (.if_icmp .lt 6, 3) := by decide +kernel
theorem dX1_repeat_22 : decode cX1_repeat 22 = .ok (.bipush (-3), 2) := by decide +kernel
theorem dX1_repeat_24 : decode cX1_repeat 24 = .ok (.ireturn, 1) := by decide +kernel
theorem dX1_repeat_25 : decode cX1_repeat 25 = .ok (.iload_n 3, 1) := by decide +kernel
theorem dX1_repeat_26 : decode cX1_repeat 26 = .ok (.bipush 120, 2) := by decide +kernel
theorem dX1_repeat_28 : decode cX1_repeat 28 = .ok (.aload_n 0, 1) := by decide +kernel
theorem dX1_repeat_29 : decode cX1_repeat 29 = .ok (.getfield 20, 3) := by decide +kernel
theorem dX1_repeat_32 : decode cX1_repeat 32 = .ok (.isub, 1) := by decide +kernel
theorem dX1_repeat_33 : decode cX1_repeat 33 = .ok (.if_icmp .le 6, 3) := by decide +kernel
theorem dX1_repeat_36 : decode cX1_repeat 36 = .ok (.bipush (-2), 2) := by decide +kernel
theorem dX1_repeat_38 : decode cX1_repeat 38 = .ok (.ireturn, 1) := by decide +kernel
theorem dX1_repeat_39 : decode cX1_repeat 39 = .ok (.iconst 0, 1) := by decide +kernel
theorem dX1_repeat_40 : decode cX1_repeat 40 = .ok (.istore 4, 2) := by decide +kernel
theorem dX1_repeat_42 : decode cX1_repeat 42 = .ok (.iload 4, 2) := by decide +kernel
theorem dX1_repeat_44 : decode cX1_repeat 44 = .ok (.iload_n 3, 1) := by decide +kernel
theorem dX1_repeat_45 : decode cX1_repeat 45 = .ok (.if_icmp .ge 23, 3) := by decide +kernel
theorem dX1_repeat_48 : decode cX1_repeat 48 = .ok (.aload_n 0, 1) := by decide +kernel
theorem dX1_repeat_49 : decode cX1_repeat 49 = .ok (.aload_n 0, 1) := by decide +kernel
theorem dX1_repeat_50 : decode cX1_repeat 50 = .ok (.getfield 7, 3) := by decide +kernel
theorem dX1_repeat_53 : decode cX1_repeat 53 = .ok (.iload_n 1, 1) := by decide +kernel
theorem dX1_repeat_54 : decode cX1_repeat 54 = .ok (.iload 4, 2) := by decide +kernel
theorem dX1_repeat_56 : decode cX1_repeat 56 = .ok (.iadd, 1) := by decide +kernel
theorem dX1_repeat_57 : decode cX1_repeat 57 = .ok (.iaload, 1) := by decide +kernel
theorem dX1_repeat_58 : decode cX1_repeat 58 = .ok (.invokevirtual 24, 3) := by decide +kernel
theorem dX1_repeat_61 : decode cX1_repeat 61 = .ok (.pop, 1) := by decide +kernel
theorem dX1_repeat_62 : decode cX1_repeat 62 = .ok (.iinc 4 1, 3) := by decide +kernel
theorem dX1_repeat_65 : decode cX1_repeat 65 = .ok (.goto (-23), 3) := by decide +kernel
theorem dX1_repeat_68 : decode cX1_repeat 68 = .ok (.aload_n 0, 1) := by decide +kernel
theorem dX1_repeat_69 : decode cX1_repeat 69 = .ok (.getfield 20, 3) := by decide +kernel
theorem dX1_repeat_72 : decode cX1_repeat 72 = .ok (.ireturn, 1) := by decide +kernel
abbrev cX1_clear : ByteArray := prog_3_method_5_code
def yX1_clear : MethodName := ⟨RX1, "clear", "()V"⟩
theorem dX1_clear_0 : decode cX1_clear 0 = .ok (.aload_n 0, 1) := by decide +kernel
theorem dX1_clear_1 : decode cX1_clear 1 = .ok (.iconst 0, 1) := by decide +kernel
theorem dX1_clear_2 : decode cX1_clear 2 = .ok (.putfield 20, 3) := by decide +kernel
theorem dX1_clear_5 : decode cX1_clear 5 = .ok (.return_, 1) := by decide +kernel
abbrev cX1_pattern : ByteArray := prog_3_method_6_code
def yX1_pattern : MethodName := ⟨RX1, "pattern", "(I)I"⟩
theorem dX1_pattern_0 : decode cX1_pattern 0 = .ok (.aload_n 0, 1) := by decide +kernel
theorem dX1_pattern_1 : decode cX1_pattern 1 = .ok (.iload_n 1, 1) := by decide +kernel
theorem dX1_pattern_2 : decode cX1_pattern 2 = .ok (.invokevirtual 16, 3) := by decide +kernel
theorem dX1_pattern_5 : decode cX1_pattern 5 = .ok (.ifCond .ne 5, 3) := by decide +kernel
theorem dX1_pattern_8 : decode cX1_pattern 8 = .ok (.iconst (-1), 1) := by decide +kernel
theorem dX1_pattern_9 : decode cX1_pattern 9 = .ok (.ireturn, 1) := by decide +kernel
theorem dX1_pattern_10 : decode cX1_pattern 10 = .ok (.aload_n 0, 1) := by decide +kernel
theorem dX1_pattern_11 : decode cX1_pattern 11 = .ok (.getfield 28, 3) := by decide +kernel
theorem dX1_pattern_14 : decode cX1_pattern 14 = .ok (.bipush 10, 2) := by decide +kernel
theorem dX1_pattern_16 : decode cX1_pattern 16 = .ok (.if_icmp .ne 6, 3) := by decide +kernel
theorem dX1_pattern_19 : decode cX1_pattern 19 = .ok (.bipush (-2), 2) := by decide +kernel
theorem dX1_pattern_21 : decode cX1_pattern 21 = .ok (.ireturn, 1) := by decide +kernel
theorem dX1_pattern_22 : decode cX1_pattern 22 = .ok (.aload_n 0, 1) := by decide +kernel
theorem dX1_pattern_23 : decode cX1_pattern 23 = .ok (.getfield 13, 3) := by decide +kernel
theorem dX1_pattern_26 : decode cX1_pattern 26 = .ok (.aload_n 0, 1) := by decide +kernel
theorem dX1_pattern_27 : decode cX1_pattern 27 = .ok (.getfield 28, 3) := by decide +kernel
theorem dX1_pattern_30 : decode cX1_pattern 30 = .ok (.iload_n 1, 1) := by decide +kernel
theorem dX1_pattern_31 : decode cX1_pattern 31 = .ok (.iastore, 1) := by decide +kernel
theorem dX1_pattern_32 : decode cX1_pattern 32 = .ok (.aload_n 0, 1) := by decide +kernel
theorem dX1_pattern_33 : decode cX1_pattern 33 = .ok (.dup, 1) := by decide +kernel
theorem dX1_pattern_34 : decode cX1_pattern 34 = .ok (.getfield 28, 3) := by decide +kernel
theorem dX1_pattern_37 : decode cX1_pattern 37 = .ok (.iconst 1, 1) := by decide +kernel
theorem dX1_pattern_38 : decode cX1_pattern 38 = .ok (.iadd, 1) := by decide +kernel
theorem dX1_pattern_39 : decode cX1_pattern 39 = .ok (.putfield 28, 3) := by decide +kernel
theorem dX1_pattern_42 : decode cX1_pattern 42 = .ok (.aload_n 0, 1) := by decide +kernel
theorem dX1_pattern_43 : decode cX1_pattern 43 = .ok (.getfield 28, 3) := by decide +kernel
theorem dX1_pattern_46 : decode cX1_pattern 46 = .ok (.ireturn, 1) := by decide +kernel
abbrev cX1_clearPattern : ByteArray := prog_3_method_7_code
def yX1_clearPattern : MethodName := ⟨RX1, "clearPattern", "()V"⟩
theorem dX1_clearPattern_0 : decode cX1_clearPattern 0 = .ok (.aload_n 0, 1) := by decide +kernel
theorem dX1_clearPattern_1 : decode cX1_clearPattern 1 = .ok (.iconst 0, 1) := by decide +kernel
theorem dX1_clearPattern_2 : decode cX1_clearPattern 2 = .ok (.putfield 28, 3) := by decide +kernel
theorem dX1_clearPattern_5 : decode cX1_clearPattern 5 = .ok (.return_, 1) := by decide +kernel
abbrev cX1_length : ByteArray := prog_3_method_8_code
def yX1_length : MethodName := ⟨RX1, "length", "()I"⟩
theorem dX1_length_0 : decode cX1_length 0 = .ok (.aload_n 0, 1) := by decide +kernel
theorem dX1_length_1 : decode cX1_length 1 = .ok (.getfield 20, 3) := by decide +kernel
theorem dX1_length_4 : decode cX1_length 4 = .ok (.ireturn, 1) := by decide +kernel
abbrev cX1_letterAt : ByteArray := prog_3_method_9_code
def yX1_letterAt : MethodName := ⟨RX1, "letterAt", "(I)I"⟩
theorem dX1_letterAt_0 : decode cX1_letterAt 0 = .ok (.iload_n 1, 1) := by decide +kernel
theorem dX1_letterAt_1 : decode cX1_letterAt 1 = .ok (.ifCond .lt 20, 3) := by decide +kernel
theorem dX1_letterAt_4 : decode cX1_letterAt 4 = .ok (.iload_n 1, 1) := by decide +kernel
theorem dX1_letterAt_5 : decode cX1_letterAt 5 = .ok (.aload_n 0, 1) := by decide +kernel
theorem dX1_letterAt_6 : decode cX1_letterAt 6 = .ok (.getfield 20, 3) := by decide +kernel
theorem dX1_letterAt_9 : decode cX1_letterAt 9 = .ok (.if_icmp .ge 12, 3) := by decide +kernel
theorem dX1_letterAt_12 : decode cX1_letterAt 12 = .ok (.aload_n 0, 1) := by decide +kernel
theorem dX1_letterAt_13 : decode cX1_letterAt 13 = .ok (.getfield 7, 3) := by decide +kernel
theorem dX1_letterAt_16 : decode cX1_letterAt 16 = .ok (.iload_n 1, 1) := by decide +kernel
theorem dX1_letterAt_17 : decode cX1_letterAt 17 = .ok (.iaload, 1) := by decide +kernel
theorem dX1_letterAt_18 : decode cX1_letterAt 18 = .ok (.goto 5, 3) := by decide +kernel
theorem dX1_letterAt_21 : decode cX1_letterAt 21 = .ok (.bipush (-4), 2) := by decide +kernel
theorem dX1_letterAt_23 : decode cX1_letterAt 23 = .ok (.ireturn, 1) := by decide +kernel
abbrev cX1_count : ByteArray := prog_3_method_12_code
def yX1_count : MethodName := ⟨RX1, "count", "()I"⟩
theorem dX1_count_0 : decode cX1_count 0 = .ok (.aload_n 0, 1) := by decide +kernel
theorem dX1_count_1 : decode cX1_count 1 = .ok (.aload_n 0, 1) := by decide +kernel
theorem dX1_count_2 : decode cX1_count 2 = .ok (.getfield 20, 3) := by decide +kernel
theorem dX1_count_5 : decode cX1_count 5 = .ok (.invokevirtual 38, 3) := by decide +kernel
theorem dX1_count_8 : decode cX1_count 8 = .ok (.ireturn, 1) := by decide +kernel
abbrev cX1_countWithin : ByteArray := prog_3_method_16_code
def yX1_countWithin : MethodName := ⟨RX1, "countWithin", "(I)I"⟩
theorem dX1_countWithin_0 : decode cX1_countWithin 0 = .ok (.iconst 0, 1) := by decide +kernel
theorem dX1_countWithin_1 : decode cX1_countWithin 1 = .ok (.istore_n 2, 1) := by decide +kernel
theorem dX1_countWithin_2 : decode cX1_countWithin 2 = .ok (.iconst 0, 1) := by decide +kernel
theorem dX1_countWithin_3 : decode cX1_countWithin 3 = .ok (.istore_n 3, 1) := by decide +kernel
theorem dX1_countWithin_4 : decode cX1_countWithin 4 = .ok (.iload_n 3, 1) := by decide +kernel
theorem dX1_countWithin_5 : decode cX1_countWithin 5 = .ok (.aload_n 0, 1) := by decide +kernel
theorem dX1_countWithin_6 : decode cX1_countWithin 6 = .ok (.getfield 20, 3) := by decide +kernel
theorem dX1_countWithin_9 : decode cX1_countWithin 9 = .ok (.if_icmp .ge 30, 3) := by decide +kernel
theorem dX1_countWithin_12 : decode cX1_countWithin 12 = .ok (.aload_n 0, 1) := by decide +kernel
theorem dX1_countWithin_13 : decode cX1_countWithin 13 = .ok (.iload_n 3, 1) := by decide +kernel
theorem dX1_countWithin_14 : decode cX1_countWithin 14 = .ok (.invokevirtual 41, 3) := by decide +kernel
theorem dX1_countWithin_17 : decode cX1_countWithin 17 = .ok (.ifCond .eq 16, 3) := by decide +kernel
theorem dX1_countWithin_20 : decode cX1_countWithin 20 = .ok (.iload_n 3, 1) := by decide +kernel
theorem dX1_countWithin_21 : decode cX1_countWithin 21 = .ok (.aload_n 0, 1) := by decide +kernel
theorem dX1_countWithin_22 : decode cX1_countWithin 22 = .ok (.getfield 28, 3) := by decide +kernel
theorem dX1_countWithin_25 : decode cX1_countWithin 25 = .ok (.iadd, 1) := by decide +kernel
theorem dX1_countWithin_26 : decode cX1_countWithin 26 = .ok (.iload_n 1, 1) := by decide +kernel
theorem dX1_countWithin_27 : decode cX1_countWithin 27 = .ok (.if_icmp .gt 6, 3) := by decide +kernel
theorem dX1_countWithin_30 : decode cX1_countWithin 30 = .ok (.iinc 2 1, 3) := by decide +kernel
theorem dX1_countWithin_33 : decode cX1_countWithin 33 = .ok (.iinc 3 1, 3) := by decide +kernel
theorem dX1_countWithin_36 : decode cX1_countWithin 36 = .ok (.goto (-32), 3) := by decide +kernel
theorem dX1_countWithin_39 : decode cX1_countWithin 39 = .ok (.iload_n 2, 1) := by decide +kernel
theorem dX1_countWithin_40 : decode cX1_countWithin 40 = .ok (.ireturn, 1) := by decide +kernel
abbrev cX1_occurs : ByteArray := prog_3_method_11_code
def yX1_occurs : MethodName := ⟨RX1, "occurs", "(I)Z"⟩
theorem dX1_occurs_0 : decode cX1_occurs 0 = .ok (.aload_n 0, 1) := by decide +kernel
theorem dX1_occurs_1 : decode cX1_occurs 1 = .ok (.getfield 28, 3) := by decide +kernel
theorem dX1_occurs_4 : decode cX1_occurs 4 = .ok (.ifCond .le 19, 3) := by decide +kernel
theorem dX1_occurs_7 : decode cX1_occurs 7 = .ok (.aload_n 0, 1) := by decide +kernel
theorem dX1_occurs_8 : decode cX1_occurs 8 = .ok (.iload_n 1, 1) := by decide +kernel
theorem dX1_occurs_9 : decode cX1_occurs 9 = .ok (.aload_n 0, 1) := by decide +kernel
theorem dX1_occurs_10 : decode cX1_occurs 10 = .ok (.getfield 28, 3) := by decide +kernel
theorem dX1_occurs_13 : decode cX1_occurs 13 = .ok (.invokevirtual 34, 3) := by decide +kernel
theorem dX1_occurs_16 : decode cX1_occurs 16 = .ok (.ifCond .eq 7, 3) := by decide +kernel
theorem dX1_occurs_19 : decode cX1_occurs 19 = .ok (.iconst 1, 1) := by decide +kernel
theorem dX1_occurs_20 : decode cX1_occurs 20 = .ok (.goto 4, 3) := by decide +kernel
theorem dX1_occurs_23 : decode cX1_occurs 23 = .ok (.iconst 0, 1) := by decide +kernel
theorem dX1_occurs_24 : decode cX1_occurs 24 = .ok (.ireturn, 1) := by decide +kernel
abbrev cX1_stands : ByteArray := prog_3_method_10_code
def yX1_stands : MethodName := ⟨RX1, "stands", "(II)Z"⟩
theorem dX1_stands_0 : decode cX1_stands 0 = .ok (.iconst 0, 1) := by decide +kernel
theorem dX1_stands_1 : decode cX1_stands 1 = .ok (.istore_n 3, 1) := by decide +kernel
theorem dX1_stands_2 : decode cX1_stands 2 = .ok (.iload_n 3, 1) := by decide +kernel
theorem dX1_stands_3 : decode cX1_stands 3 = .ok (.iload_n 2, 1) := by decide +kernel
theorem dX1_stands_4 : decode cX1_stands 4 = .ok (.if_icmp .ge 27, 3) := by decide +kernel
theorem dX1_stands_7 : decode cX1_stands 7 = .ok (.aload_n 0, 1) := by decide +kernel
theorem dX1_stands_8 : decode cX1_stands 8 = .ok (.iload_n 1, 1) := by decide +kernel
theorem dX1_stands_9 : decode cX1_stands 9 = .ok (.iload_n 3, 1) := by decide +kernel
theorem dX1_stands_10 : decode cX1_stands 10 = .ok (.iadd, 1) := by decide +kernel
theorem dX1_stands_11 : decode cX1_stands 11 = .ok (.invokevirtual 31, 3) := by decide +kernel
theorem dX1_stands_14 : decode cX1_stands 14 = .ok (.aload_n 0, 1) := by decide +kernel
theorem dX1_stands_15 : decode cX1_stands 15 = .ok (.getfield 13, 3) := by decide +kernel
theorem dX1_stands_18 : decode cX1_stands 18 = .ok (.iload_n 3, 1) := by decide +kernel
theorem dX1_stands_19 : decode cX1_stands 19 = .ok (.iaload, 1) := by decide +kernel
theorem dX1_stands_20 : decode cX1_stands 20 = .ok (.if_icmp .eq 5, 3) := by decide +kernel
theorem dX1_stands_23 : decode cX1_stands 23 = .ok (.iconst 0, 1) := by decide +kernel
theorem dX1_stands_24 : decode cX1_stands 24 = .ok (.ireturn, 1) := by decide +kernel
theorem dX1_stands_25 : decode cX1_stands 25 = .ok (.iinc 3 1, 3) := by decide +kernel
theorem dX1_stands_28 : decode cX1_stands 28 = .ok (.goto (-26), 3) := by decide +kernel
theorem dX1_stands_31 : decode cX1_stands 31 = .ok (.iconst 1, 1) := by decide +kernel
theorem dX1_stands_32 : decode cX1_stands 32 = .ok (.ireturn, 1) := by decide +kernel
abbrev cX1_position : ByteArray := prog_3_method_13_code
def yX1_position : MethodName := ⟨RX1, "position", "(I)I"⟩
theorem dX1_position_0 : decode cX1_position 0 = .ok (.iconst 0, 1) := by decide +kernel
theorem dX1_position_1 : decode cX1_position 1 = .ok (.istore_n 2, 1) := by decide +kernel
theorem dX1_position_2 : decode cX1_position 2 = .ok (.iconst 0, 1) := by decide +kernel
theorem dX1_position_3 : decode cX1_position 3 = .ok (.istore_n 3, 1) := by decide +kernel
theorem dX1_position_4 : decode cX1_position 4 = .ok (.iload_n 3, 1) := by decide +kernel
theorem dX1_position_5 : decode cX1_position 5 = .ok (.aload_n 0, 1) := by decide +kernel
theorem dX1_position_6 : decode cX1_position 6 = .ok (.getfield 20, 3) := by decide +kernel
theorem dX1_position_9 : decode cX1_position 9 = .ok (.if_icmp .ge 27, 3) := by decide +kernel
theorem dX1_position_12 : decode cX1_position 12 = .ok (.aload_n 0, 1) := by decide +kernel
theorem dX1_position_13 : decode cX1_position 13 = .ok (.iload_n 3, 1) := by decide +kernel
theorem dX1_position_14 : decode cX1_position 14 = .ok (.invokevirtual 41, 3) := by decide +kernel
theorem dX1_position_17 : decode cX1_position 17 = .ok (.ifCond .eq 13, 3) := by decide +kernel
theorem dX1_position_20 : decode cX1_position 20 = .ok (.iload_n 2, 1) := by decide +kernel
theorem dX1_position_21 : decode cX1_position 21 = .ok (.iload_n 1, 1) := by decide +kernel
theorem dX1_position_22 : decode cX1_position 22 = .ok (.if_icmp .ne 5, 3) := by decide +kernel
theorem dX1_position_25 : decode cX1_position 25 = .ok (.iload_n 3, 1) := by decide +kernel
theorem dX1_position_26 : decode cX1_position 26 = .ok (.ireturn, 1) := by decide +kernel
theorem dX1_position_27 : decode cX1_position 27 = .ok (.iinc 2 1, 3) := by decide +kernel
theorem dX1_position_30 : decode cX1_position 30 = .ok (.iinc 3 1, 3) := by decide +kernel
theorem dX1_position_33 : decode cX1_position 33 = .ok (.goto (-29), 3) := by decide +kernel
theorem dX1_position_36 : decode cX1_position 36 = .ok (.bipush (-4), 2) := by decide +kernel
theorem dX1_position_38 : decode cX1_position 38 = .ok (.ireturn, 1) := by decide +kernel
abbrev cX1_frequency : ByteArray := prog_3_method_14_code
def yX1_frequency : MethodName := ⟨RX1, "frequency", "(II)I"⟩
theorem dX1_frequency_0 : decode cX1_frequency 0 = .ok (.aload_n 0, 1) := by decide +kernel
theorem dX1_frequency_1 : decode cX1_frequency 1 = .ok (.iload_n 1, 1) := by decide +kernel
theorem dX1_frequency_2 : decode cX1_frequency 2 = .ok (.invokevirtual 16, 3) := by decide +kernel
theorem dX1_frequency_5 : decode cX1_frequency 5 = .ok (.ifCond .ne 5, 3) := by decide +kernel
theorem dX1_frequency_8 : decode cX1_frequency 8 = .ok (.iconst (-1), 1) := by decide +kernel
theorem dX1_frequency_9 : decode cX1_frequency 9 = .ok (.ireturn, 1) := by decide +kernel
theorem dX1_frequency_10 : decode cX1_frequency 10 = .ok (.iconst 0, 1) := by decide +kernel
theorem dX1_frequency_11 : decode cX1_frequency 11 = .ok (.istore_n 3, 1) := by decide +kernel
theorem dX1_frequency_12 : decode cX1_frequency 12 = .ok (.iconst 0, 1) := by decide +kernel
theorem dX1_frequency_13 : decode cX1_frequency 13 = .ok (.istore 4, 2) := by decide +kernel
theorem dX1_frequency_15 : decode cX1_frequency 15 = .ok (.iload 4, 2) := by decide +kernel
theorem dX1_frequency_17 : decode cX1_frequency 17 = .ok (.iload_n 2, 1) := by decide +kernel
theorem dX1_frequency_18 : decode cX1_frequency 18 = .ok (.if_icmp .ge 32, 3) := by decide +kernel
theorem dX1_frequency_21 : decode cX1_frequency 21 = .ok (.iload 4, 2) := by decide +kernel
theorem dX1_frequency_23 : decode cX1_frequency 23 = .ok (.aload_n 0, 1) := by decide +kernel
theorem dX1_frequency_24 : decode cX1_frequency 24 = .ok (.getfield 20, 3) := by decide +kernel
theorem dX1_frequency_27 : decode cX1_frequency 27 = .ok (.if_icmp .ge 23, 3) := by decide +kernel
theorem dX1_frequency_30 : decode cX1_frequency 30 = .ok (.aload_n 0, 1) := by decide +kernel
theorem dX1_frequency_31 : decode cX1_frequency 31 = .ok (.getfield 7, 3) := by decide +kernel
theorem dX1_frequency_34 : decode cX1_frequency 34 = .ok (.iload 4, 2) := by decide +kernel
theorem dX1_frequency_36 : decode cX1_frequency 36 = .ok (.iaload, 1) := by decide +kernel
theorem dX1_frequency_37 : decode cX1_frequency 37 = .ok (.iload_n 1, 1) := by decide +kernel
theorem dX1_frequency_38 : decode cX1_frequency 38 = .ok (.if_icmp .ne 6, 3) := by decide +kernel
theorem dX1_frequency_41 : decode cX1_frequency 41 = .ok (.iinc 3 1, 3) := by decide +kernel
theorem dX1_frequency_44 : decode cX1_frequency 44 = .ok (.iinc 4 1, 3) := by decide +kernel
theorem dX1_frequency_47 : decode cX1_frequency 47 = .ok (.goto (-32), 3) := by decide +kernel
theorem dX1_frequency_50 : decode cX1_frequency 50 = .ok (.iload_n 3, 1) := by decide +kernel
theorem dX1_frequency_51 : decode cX1_frequency 51 = .ok (.ireturn, 1) := by decide +kernel
abbrev cX1_overlap : ByteArray := prog_3_method_15_code
def yX1_overlap : MethodName := ⟨RX1, "overlap", "()I"⟩
theorem dX1_overlap_0 : decode cX1_overlap 0 = .ok (.iconst 0, 1) := by decide +kernel
theorem dX1_overlap_1 : decode cX1_overlap 1 = .ok (.istore_n 1, 1) := by decide +kernel
theorem dX1_overlap_2 : decode cX1_overlap 2 = .ok (.iconst 1, 1) := by decide +kernel
theorem dX1_overlap_3 : decode cX1_overlap 3 = .ok (.istore_n 2, 1) := by decide +kernel
theorem dX1_overlap_4 : decode cX1_overlap 4 = .ok (.iload_n 2, 1) := by decide +kernel
theorem dX1_overlap_5 : decode cX1_overlap 5 = .ok (.aload_n 0, 1) := by decide +kernel
theorem dX1_overlap_6 : decode cX1_overlap 6 = .ok (.getfield 28, 3) := by decide +kernel
theorem dX1_overlap_9 : decode cX1_overlap 9 = .ok (.if_icmp .gt 33, 3) := by decide +kernel
theorem dX1_overlap_12 : decode cX1_overlap 12 = .ok (.iload_n 2, 1) := by decide +kernel
theorem dX1_overlap_13 : decode cX1_overlap 13 = .ok (.aload_n 0, 1) := by decide +kernel
theorem dX1_overlap_14 : decode cX1_overlap 14 = .ok (.getfield 20, 3) := by decide +kernel
theorem dX1_overlap_17 : decode cX1_overlap 17 = .ok (.if_icmp .gt 25, 3) := by decide +kernel
theorem dX1_overlap_20 : decode cX1_overlap 20 = .ok (.aload_n 0, 1) := by decide +kernel
theorem dX1_overlap_21 : decode cX1_overlap 21 = .ok (.aload_n 0, 1) := by decide +kernel
theorem dX1_overlap_22 : decode cX1_overlap 22 = .ok (.getfield 20, 3) := by decide +kernel
theorem dX1_overlap_25 : decode cX1_overlap 25 = .ok (.iload_n 2, 1) := by decide +kernel
theorem dX1_overlap_26 : decode cX1_overlap 26 = .ok (.isub, 1) := by decide +kernel
theorem dX1_overlap_27 : decode cX1_overlap 27 = .ok (.iload_n 2, 1) := by decide +kernel
theorem dX1_overlap_28 : decode cX1_overlap 28 = .ok (.invokevirtual 34, 3) := by decide +kernel
theorem dX1_overlap_31 : decode cX1_overlap 31 = .ok (.ifCond .eq 5, 3) := by decide +kernel
theorem dX1_overlap_34 : decode cX1_overlap 34 = .ok (.iload_n 2, 1) := by decide +kernel
theorem dX1_overlap_35 : decode cX1_overlap 35 = .ok (.istore_n 1, 1) := by decide +kernel
theorem dX1_overlap_36 : decode cX1_overlap 36 = .ok (.iinc 2 1, 3) := by decide +kernel
theorem dX1_overlap_39 : decode cX1_overlap 39 = .ok (.goto (-35), 3) := by decide +kernel
theorem dX1_overlap_42 : decode cX1_overlap 42 = .ok (.iload_n 1, 1) := by decide +kernel
theorem dX1_overlap_43 : decode cX1_overlap 43 = .ok (.ireturn, 1) := by decide +kernel
theorem q15 : (Jvm.Cond.initialized "LzwSearcherModel") ∈ lw_all := lw_g (lw_at lw_m0 2 rfl) rfl
theorem q170 : (Jvm.Cond.instantiable "LzwSearcherModel" (4 : Nat)) ∈ lw_all := lw_g (lw_at lw_m0 157 rfl) rfl
theorem q172 : (Jvm.Cond.instanceMethod ({ cls := "LzwSearcherModel", name := "<init>", desc := "()V" } : Jvm.MethodName)) ∈ lw_all := lw_g (lw_at lw_m0 159 rfl) rfl
theorem q173 : (Jvm.Cond.code ({ cls := "LzwSearcherModel", name := "<init>", desc := "()V" } : Jvm.MethodName) prog_3_method_1_code (1 : Nat) (Option.none : Option Jvm.ClassFile.FieldType)) ∈ lw_all := lw_g (lw_at lw_m0 160 rfl) rfl
theorem q174 : (Jvm.Cond.methodLink "LzwSearcherModel" (1 : Nat) ({ cls := "java/lang/Object", name := "<init>", desc := "()V" } : Jvm.MethodName)) ∈ lw_all := lw_g (lw_at lw_m0 161 rfl) rfl
theorem q175 : (Jvm.Cond.fieldLink "LzwSearcherModel" (7 : Nat) "LzwSearcherModel" "letters" "[I") ∈ lw_all := lw_g (lw_at lw_m0 162 rfl) rfl
theorem q176 : (Jvm.Cond.fieldLink "LzwSearcherModel" (20 : Nat) "LzwSearcherModel" "size" "I") ∈ lw_all := lw_g (lw_at lw_m0 163 rfl) rfl
theorem q177 : (Jvm.Cond.fieldLink "LzwSearcherModel" (13 : Nat) "LzwSearcherModel" "wanted" "[I") ∈ lw_all := lw_g (lw_at lw_m0 164 rfl) rfl
theorem q178 : (Jvm.Cond.fieldLink "LzwSearcherModel" (28 : Nat) "LzwSearcherModel" "wantedSize" "I") ∈ lw_all := lw_g (lw_at lw_m0 165 rfl) rfl
theorem q179 : (Jvm.Cond.laysFinal "LzwSearcherModel" "LzwSearcherModel" "letters" "[I") ∈ lw_all := lw_g (lw_at lw_m0 166 rfl) rfl
theorem q180 : (Jvm.Cond.soleField "LzwSearcherModel" "letters") ∈ lw_all := lw_g (lw_at lw_m0 167 rfl) rfl
theorem q181 : (Jvm.Cond.lays "LzwSearcherModel" "LzwSearcherModel" "size" "I") ∈ lw_all := lw_g (lw_at lw_m0 168 rfl) rfl
theorem q182 : (Jvm.Cond.soleField "LzwSearcherModel" "size") ∈ lw_all := lw_g (lw_at lw_m0 169 rfl) rfl
theorem q183 : (Jvm.Cond.laysFinal "LzwSearcherModel" "LzwSearcherModel" "wanted" "[I") ∈ lw_all := lw_g (lw_at lw_m0 170 rfl) rfl
theorem q184 : (Jvm.Cond.soleField "LzwSearcherModel" "wanted") ∈ lw_all := lw_g (lw_at lw_m0 171 rfl) rfl
theorem q185 : (Jvm.Cond.lays "LzwSearcherModel" "LzwSearcherModel" "wantedSize" "I") ∈ lw_all := lw_g (lw_at lw_m0 172 rfl) rfl
theorem q186 : (Jvm.Cond.soleField "LzwSearcherModel" "wantedSize") ∈ lw_all := lw_g (lw_at lw_m0 173 rfl) rfl
theorem q187 : (Jvm.Cond.superclass "LzwSearcherModel" "java/lang/Object") ∈ lw_all := lw_g (lw_at lw_m0 174 rfl) rfl
theorem q189 : (Jvm.Cond.instanceMethod ({ cls := "LzwSearcherModel", name := "append", desc := "(I)I" } : Jvm.MethodName)) ∈ lw_all := lw_g (lw_at lw_m0 176 rfl) rfl
theorem q190 : (Jvm.Cond.selects "LzwSearcherModel" ({ cls := "LzwSearcherModel", name := "append", desc := "(I)I" } : Jvm.MethodName) ({ cls := "LzwSearcherModel", name := "append", desc := "(I)I" } : Jvm.MethodName)) ∈ lw_all := lw_g (lw_at lw_m0 177 rfl) rfl
theorem q191 : (Jvm.Cond.code ({ cls := "LzwSearcherModel", name := "append", desc := "(I)I" } : Jvm.MethodName) prog_3_method_3_code (2 : Nat) (Option.some Jvm.ClassFile.FieldType.int)) ∈ lw_all := lw_g (lw_at lw_m0 178 rfl) rfl
theorem q192 : (Jvm.Cond.methodLink "LzwSearcherModel" (16 : Nat) ({ cls := "LzwSearcherModel", name := "isLetter", desc := "(I)Z" } : Jvm.MethodName)) ∈ lw_all := lw_g (lw_at lw_m0 179 rfl) rfl
theorem q193 : (Jvm.Cond.privateMethod ({ cls := "LzwSearcherModel", name := "isLetter", desc := "(I)Z" } : Jvm.MethodName)) ∈ lw_tbl := lw_at lw_m0 180 rfl
theorem q194 : (Jvm.Cond.instanceMethod ({ cls := "LzwSearcherModel", name := "isLetter", desc := "(I)Z" } : Jvm.MethodName)) ∈ lw_all := lw_g (lw_at lw_m0 181 rfl) rfl
theorem q195 : (Jvm.Cond.code ({ cls := "LzwSearcherModel", name := "isLetter", desc := "(I)Z" } : Jvm.MethodName) prog_3_method_2_code (2 : Nat) (Option.some Jvm.ClassFile.FieldType.boolean)) ∈ lw_all := lw_g (lw_at lw_m0 182 rfl) rfl
theorem q197 : (Jvm.Cond.instanceMethod ({ cls := "LzwSearcherModel", name := "repeat", desc := "(II)I" } : Jvm.MethodName)) ∈ lw_all := lw_g (lw_at lw_m0 184 rfl) rfl
theorem q198 : (Jvm.Cond.selects "LzwSearcherModel" ({ cls := "LzwSearcherModel", name := "repeat", desc := "(II)I" } : Jvm.MethodName) ({ cls := "LzwSearcherModel", name := "repeat", desc := "(II)I" } : Jvm.MethodName)) ∈ lw_all := lw_g (lw_at lw_m0 185 rfl) rfl
theorem q199 : (Jvm.Cond.code ({ cls := "LzwSearcherModel", name := "repeat", desc := "(II)I" } : Jvm.MethodName) prog_3_method_4_code (5 : Nat) (Option.some Jvm.ClassFile.FieldType.int)) ∈ lw_all := lw_g (lw_at lw_m0 186 rfl) rfl
theorem q200 : (Jvm.Cond.methodLink "LzwSearcherModel" (24 : Nat) ({ cls := "LzwSearcherModel", name := "append", desc := "(I)I" } : Jvm.MethodName)) ∈ lw_all := lw_g (lw_at lw_m0 187 rfl) rfl
theorem q202 : (Jvm.Cond.instanceMethod ({ cls := "LzwSearcherModel", name := "clear", desc := "()V" } : Jvm.MethodName)) ∈ lw_all := lw_g (lw_at lw_m0 189 rfl) rfl
theorem q203 : (Jvm.Cond.selects "LzwSearcherModel" ({ cls := "LzwSearcherModel", name := "clear", desc := "()V" } : Jvm.MethodName) ({ cls := "LzwSearcherModel", name := "clear", desc := "()V" } : Jvm.MethodName)) ∈ lw_all := lw_g (lw_at lw_m0 190 rfl) rfl
theorem q204 : (Jvm.Cond.code ({ cls := "LzwSearcherModel", name := "clear", desc := "()V" } : Jvm.MethodName) prog_3_method_5_code (1 : Nat) (Option.none : Option Jvm.ClassFile.FieldType)) ∈ lw_all := lw_g (lw_at lw_m0 191 rfl) rfl
theorem q206 : (Jvm.Cond.instanceMethod ({ cls := "LzwSearcherModel", name := "pattern", desc := "(I)I" } : Jvm.MethodName)) ∈ lw_all := lw_g (lw_at lw_m0 193 rfl) rfl
theorem q207 : (Jvm.Cond.selects "LzwSearcherModel" ({ cls := "LzwSearcherModel", name := "pattern", desc := "(I)I" } : Jvm.MethodName) ({ cls := "LzwSearcherModel", name := "pattern", desc := "(I)I" } : Jvm.MethodName)) ∈ lw_all := lw_g (lw_at lw_m0 194 rfl) rfl
theorem q208 : (Jvm.Cond.code ({ cls := "LzwSearcherModel", name := "pattern", desc := "(I)I" } : Jvm.MethodName) prog_3_method_6_code (2 : Nat) (Option.some Jvm.ClassFile.FieldType.int)) ∈ lw_all := lw_g (lw_at lw_m0 195 rfl) rfl
theorem q210 : (Jvm.Cond.instanceMethod ({ cls := "LzwSearcherModel", name := "clearPattern", desc := "()V" } : Jvm.MethodName)) ∈ lw_all := lw_g (lw_at lw_m0 197 rfl) rfl
theorem q211 : (Jvm.Cond.selects "LzwSearcherModel" ({ cls := "LzwSearcherModel", name := "clearPattern", desc := "()V" } : Jvm.MethodName) ({ cls := "LzwSearcherModel", name := "clearPattern", desc := "()V" } : Jvm.MethodName)) ∈ lw_all := lw_g (lw_at lw_m0 198 rfl) rfl
theorem q212 : (Jvm.Cond.code ({ cls := "LzwSearcherModel", name := "clearPattern", desc := "()V" } : Jvm.MethodName) prog_3_method_7_code (1 : Nat) (Option.none : Option Jvm.ClassFile.FieldType)) ∈ lw_all := lw_g (lw_at lw_m0 199 rfl) rfl
theorem q214 : (Jvm.Cond.instanceMethod ({ cls := "LzwSearcherModel", name := "length", desc := "()I" } : Jvm.MethodName)) ∈ lw_all := lw_g (lw_at lw_m0 201 rfl) rfl
theorem q215 : (Jvm.Cond.selects "LzwSearcherModel" ({ cls := "LzwSearcherModel", name := "length", desc := "()I" } : Jvm.MethodName) ({ cls := "LzwSearcherModel", name := "length", desc := "()I" } : Jvm.MethodName)) ∈ lw_all := lw_g (lw_at lw_m0 202 rfl) rfl
theorem q216 : (Jvm.Cond.code ({ cls := "LzwSearcherModel", name := "length", desc := "()I" } : Jvm.MethodName) prog_3_method_8_code (1 : Nat) (Option.some Jvm.ClassFile.FieldType.int)) ∈ lw_all := lw_g (lw_at lw_m0 203 rfl) rfl
theorem q218 : (Jvm.Cond.instanceMethod ({ cls := "LzwSearcherModel", name := "letterAt", desc := "(I)I" } : Jvm.MethodName)) ∈ lw_all := lw_g (lw_at lw_m0 205 rfl) rfl
theorem q219 : (Jvm.Cond.selects "LzwSearcherModel" ({ cls := "LzwSearcherModel", name := "letterAt", desc := "(I)I" } : Jvm.MethodName) ({ cls := "LzwSearcherModel", name := "letterAt", desc := "(I)I" } : Jvm.MethodName)) ∈ lw_all := lw_g (lw_at lw_m0 206 rfl) rfl
theorem q220 : (Jvm.Cond.code ({ cls := "LzwSearcherModel", name := "letterAt", desc := "(I)I" } : Jvm.MethodName) prog_3_method_9_code (2 : Nat) (Option.some Jvm.ClassFile.FieldType.int)) ∈ lw_all := lw_g (lw_at lw_m0 207 rfl) rfl
theorem q222 : (Jvm.Cond.instanceMethod ({ cls := "LzwSearcherModel", name := "count", desc := "()I" } : Jvm.MethodName)) ∈ lw_all := lw_g (lw_at lw_m0 209 rfl) rfl
theorem q223 : (Jvm.Cond.selects "LzwSearcherModel" ({ cls := "LzwSearcherModel", name := "count", desc := "()I" } : Jvm.MethodName) ({ cls := "LzwSearcherModel", name := "count", desc := "()I" } : Jvm.MethodName)) ∈ lw_all := lw_g (lw_at lw_m0 210 rfl) rfl
theorem q224 : (Jvm.Cond.code ({ cls := "LzwSearcherModel", name := "count", desc := "()I" } : Jvm.MethodName) prog_3_method_12_code (1 : Nat) (Option.some Jvm.ClassFile.FieldType.int)) ∈ lw_all := lw_g (lw_at lw_m0 211 rfl) rfl
theorem q225 : (Jvm.Cond.methodLink "LzwSearcherModel" (38 : Nat) ({ cls := "LzwSearcherModel", name := "countWithin", desc := "(I)I" } : Jvm.MethodName)) ∈ lw_all := lw_g (lw_at lw_m0 212 rfl) rfl
theorem q226 : (Jvm.Cond.instanceMethod ({ cls := "LzwSearcherModel", name := "countWithin", desc := "(I)I" } : Jvm.MethodName)) ∈ lw_all := lw_g (lw_at lw_m0 213 rfl) rfl
theorem q227 : (Jvm.Cond.selects "LzwSearcherModel" ({ cls := "LzwSearcherModel", name := "countWithin", desc := "(I)I" } : Jvm.MethodName) ({ cls := "LzwSearcherModel", name := "countWithin", desc := "(I)I" } : Jvm.MethodName)) ∈ lw_all := lw_g (lw_at lw_m0 214 rfl) rfl
theorem q228 : (Jvm.Cond.code ({ cls := "LzwSearcherModel", name := "countWithin", desc := "(I)I" } : Jvm.MethodName) prog_3_method_16_code (4 : Nat) (Option.some Jvm.ClassFile.FieldType.int)) ∈ lw_all := lw_g (lw_at lw_m0 215 rfl) rfl
theorem q229 : (Jvm.Cond.methodLink "LzwSearcherModel" (41 : Nat) ({ cls := "LzwSearcherModel", name := "occurs", desc := "(I)Z" } : Jvm.MethodName)) ∈ lw_all := lw_g (lw_at lw_m0 216 rfl) rfl
theorem q230 : (Jvm.Cond.privateMethod ({ cls := "LzwSearcherModel", name := "occurs", desc := "(I)Z" } : Jvm.MethodName)) ∈ lw_tbl := lw_at lw_m0 217 rfl
theorem q231 : (Jvm.Cond.instanceMethod ({ cls := "LzwSearcherModel", name := "occurs", desc := "(I)Z" } : Jvm.MethodName)) ∈ lw_all := lw_g (lw_at lw_m0 218 rfl) rfl
theorem q232 : (Jvm.Cond.code ({ cls := "LzwSearcherModel", name := "occurs", desc := "(I)Z" } : Jvm.MethodName) prog_3_method_11_code (2 : Nat) (Option.some Jvm.ClassFile.FieldType.boolean)) ∈ lw_all := lw_g (lw_at lw_m0 219 rfl) rfl
theorem q233 : (Jvm.Cond.methodLink "LzwSearcherModel" (34 : Nat) ({ cls := "LzwSearcherModel", name := "stands", desc := "(II)Z" } : Jvm.MethodName)) ∈ lw_all := lw_g (lw_at lw_m0 220 rfl) rfl
theorem q234 : (Jvm.Cond.privateMethod ({ cls := "LzwSearcherModel", name := "stands", desc := "(II)Z" } : Jvm.MethodName)) ∈ lw_tbl := lw_at lw_m0 221 rfl
theorem q235 : (Jvm.Cond.instanceMethod ({ cls := "LzwSearcherModel", name := "stands", desc := "(II)Z" } : Jvm.MethodName)) ∈ lw_all := lw_g (lw_at lw_m0 222 rfl) rfl
theorem q236 : (Jvm.Cond.code ({ cls := "LzwSearcherModel", name := "stands", desc := "(II)Z" } : Jvm.MethodName) prog_3_method_10_code (4 : Nat) (Option.some Jvm.ClassFile.FieldType.boolean)) ∈ lw_all := lw_g (lw_at lw_m0 223 rfl) rfl
theorem q237 : (Jvm.Cond.methodLink "LzwSearcherModel" (31 : Nat) ({ cls := "LzwSearcherModel", name := "letterAt", desc := "(I)I" } : Jvm.MethodName)) ∈ lw_all := lw_g (lw_at lw_m0 224 rfl) rfl
theorem q239 : (Jvm.Cond.instanceMethod ({ cls := "LzwSearcherModel", name := "position", desc := "(I)I" } : Jvm.MethodName)) ∈ lw_all := lw_g (lw_at lw_m0 226 rfl) rfl
theorem q240 : (Jvm.Cond.selects "LzwSearcherModel" ({ cls := "LzwSearcherModel", name := "position", desc := "(I)I" } : Jvm.MethodName) ({ cls := "LzwSearcherModel", name := "position", desc := "(I)I" } : Jvm.MethodName)) ∈ lw_all := lw_g (lw_at lw_m0 227 rfl) rfl
theorem q241 : (Jvm.Cond.code ({ cls := "LzwSearcherModel", name := "position", desc := "(I)I" } : Jvm.MethodName) prog_3_method_13_code (4 : Nat) (Option.some Jvm.ClassFile.FieldType.int)) ∈ lw_all := lw_g (lw_at lw_m0 228 rfl) rfl
theorem q243 : (Jvm.Cond.instanceMethod ({ cls := "LzwSearcherModel", name := "frequency", desc := "(II)I" } : Jvm.MethodName)) ∈ lw_all := lw_g (lw_at lw_m0 230 rfl) rfl
theorem q244 : (Jvm.Cond.selects "LzwSearcherModel" ({ cls := "LzwSearcherModel", name := "frequency", desc := "(II)I" } : Jvm.MethodName) ({ cls := "LzwSearcherModel", name := "frequency", desc := "(II)I" } : Jvm.MethodName)) ∈ lw_all := lw_g (lw_at lw_m0 231 rfl) rfl
theorem q245 : (Jvm.Cond.code ({ cls := "LzwSearcherModel", name := "frequency", desc := "(II)I" } : Jvm.MethodName) prog_3_method_14_code (5 : Nat) (Option.some Jvm.ClassFile.FieldType.int)) ∈ lw_all := lw_g (lw_at lw_m0 232 rfl) rfl
theorem q247 : (Jvm.Cond.instanceMethod ({ cls := "LzwSearcherModel", name := "overlap", desc := "()I" } : Jvm.MethodName)) ∈ lw_all := lw_g (lw_at lw_m0 234 rfl) rfl
theorem q248 : (Jvm.Cond.selects "LzwSearcherModel" ({ cls := "LzwSearcherModel", name := "overlap", desc := "()I" } : Jvm.MethodName) ({ cls := "LzwSearcherModel", name := "overlap", desc := "()I" } : Jvm.MethodName)) ∈ lw_all := lw_g (lw_at lw_m0 235 rfl) rfl
theorem q249 : (Jvm.Cond.code ({ cls := "LzwSearcherModel", name := "overlap", desc := "()I" } : Jvm.MethodName) prog_3_method_15_code (3 : Nat) (Option.some Jvm.ClassFile.FieldType.int)) ∈ lw_all := lw_g (lw_at lw_m0 236 rfl) rfl
theorem in_X1 : ∀ w ∈ wsX10, w ∈ lw_all := lw_in wsX10 [179, 181, 183, 185] (by decide +kernel) (by decide +kernel)
/-! the law's own entry -/
set_option maxRecDepth 100000
abbrev cL_law : ByteArray := code
theorem dL_law_0 : decode cL_law 0 = .ok (.new 7, 3) := by decide +kernel
theorem dL_law_3 : decode cL_law 3 = .ok (.dup, 1) := by decide +kernel
theorem dL_law_4 : decode cL_law 4 = .ok (.invokespecial 9, 3) := by decide +kernel
theorem dL_law_7 : decode cL_law 7 = .ok (.astore_n 1, 1) := by decide +kernel
theorem dL_law_8 : decode cL_law 8 = .ok (.new 10, 3) := by decide +kernel
theorem dL_law_11 : decode cL_law 11 = .ok (.dup, 1) := by decide +kernel
theorem dL_law_12 : decode cL_law 12 = .ok (.invokespecial 12, 3) := by decide +kernel
theorem dL_law_15 : decode cL_law 15 = .ok (.astore_n 2, 1) := by decide +kernel
theorem dL_law_16 : decode cL_law 16 = .ok (.iconst 0, 1) := by decide +kernel
theorem dL_law_17 : decode cL_law 17 = .ok (.istore_n 3, 1) := by decide +kernel
theorem dL_law_18 : decode cL_law 18 = .ok (.iload_n 3, 1) := by decide +kernel
theorem dL_law_19 : decode cL_law 19 = .ok (.aload_n 0, 1) := by decide +kernel
theorem dL_law_20 : decode cL_law 20 = .ok (.arraylength, 1) := by decide +kernel
theorem dL_law_21 : decode cL_law 21 = .ok (.iconst 3, 1) := by decide +kernel
theorem dL_law_22 : decode cL_law 22 = .ok (.isub, 1) := by decide +kernel
theorem dL_law_23 : decode cL_law 23 = .ok (.if_icmp .gt 321, 3) := by decide +kernel
theorem dL_law_26 : decode cL_law 26 = .ok (.aload_n 0, 1) := by decide +kernel
theorem dL_law_27 : decode cL_law 27 = .ok (.iload_n 3, 1) := by decide +kernel
theorem dL_law_28 : decode cL_law 28 = .ok (.iaload, 1) := by decide +kernel
theorem dL_law_29 : decode cL_law 29 = .ok (.bipush 15, 2) := by decide +kernel
theorem dL_law_31 : decode cL_law 31 = .ok (.iand, 1) := by decide +kernel
theorem dL_law_32 : decode cL_law 32 = .ok (.tableswitch 306 0 11 #[64, 87, 120, 131, 154, 165, 178, 201, 214, 237, 270, 283], 64) := by decide +kernel
theorem dL_law_96 : decode cL_law 96 = .ok (.aload_n 1, 1) := by decide +kernel
theorem dL_law_97 : decode cL_law 97 = .ok (.aload_n 0, 1) := by decide +kernel
theorem dL_law_98 : decode cL_law 98 = .ok (.iload_n 3, 1) := by decide +kernel
theorem dL_law_99 : decode cL_law 99 = .ok (.iconst 1, 1) := by decide +kernel
theorem dL_law_100 : decode cL_law 100 = .ok (.iadd, 1) := by decide +kernel
theorem dL_law_101 : decode cL_law 101 = .ok (.iaload, 1) := by decide +kernel
theorem dL_law_102 : decode cL_law 102 = .ok (.invokevirtual 13, 3) := by decide +kernel
theorem dL_law_105 : decode cL_law 105 = .ok (.aload_n 2, 1) := by decide +kernel
theorem dL_law_106 : decode cL_law 106 = .ok (.aload_n 0, 1) := by decide +kernel
theorem dL_law_107 : decode cL_law 107 = .ok (.iload_n 3, 1) := by decide +kernel
theorem dL_law_108 : decode cL_law 108 = .ok (.iconst 1, 1) := by decide +kernel
theorem dL_law_109 : decode cL_law 109 = .ok (.iadd, 1) := by decide +kernel
theorem dL_law_110 : decode cL_law 110 = .ok (.iaload, 1) := by decide +kernel
theorem dL_law_111 : decode cL_law 111 = .ok (.invokevirtual 17, 3) := by decide +kernel
theorem dL_law_114 : decode cL_law 114 = .ok (.if_icmp .eq 224, 3) := by decide +kernel
theorem dL_law_117 : decode cL_law 117 = .ok (.iconst 0, 1) := by decide +kernel
theorem dL_law_118 : decode cL_law 118 = .ok (.ireturn, 1) := by decide +kernel
theorem dL_law_119 : decode cL_law 119 = .ok (.aload_n 1, 1) := by decide +kernel
theorem dL_law_120 : decode cL_law 120 = .ok (.aload_n 0, 1) := by decide +kernel
theorem dL_law_121 : decode cL_law 121 = .ok (.iload_n 3, 1) := by decide +kernel
theorem dL_law_122 : decode cL_law 122 = .ok (.iconst 1, 1) := by decide +kernel
theorem dL_law_123 : decode cL_law 123 = .ok (.iadd, 1) := by decide +kernel
theorem dL_law_124 : decode cL_law 124 = .ok (.iaload, 1) := by decide +kernel
theorem dL_law_125 : decode cL_law 125 = .ok (.aload_n 0, 1) := by decide +kernel
theorem dL_law_126 : decode cL_law 126 = .ok (.iload_n 3, 1) := by decide +kernel
theorem dL_law_127 : decode cL_law 127 = .ok (.iconst 2, 1) := by decide +kernel
theorem dL_law_128 : decode cL_law 128 = .ok (.iadd, 1) := by decide +kernel
theorem dL_law_129 : decode cL_law 129 = .ok (.iaload, 1) := by decide +kernel
theorem dL_law_130 : decode cL_law 130 = .ok (.invokevirtual 18, 3) := by decide +kernel
theorem dL_law_133 : decode cL_law 133 = .ok (.aload_n 2, 1) := by decide +kernel
theorem dL_law_134 : decode cL_law 134 = .ok (.aload_n 0, 1) := by decide +kernel
theorem dL_law_135 : decode cL_law 135 = .ok (.iload_n 3, 1) := by decide +kernel
theorem dL_law_136 : decode cL_law 136 = .ok (.iconst 1, 1) := by decide +kernel
theorem dL_law_137 : decode cL_law 137 = .ok (.iadd, 1) := by decide +kernel
theorem dL_law_138 : decode cL_law 138 = .ok (.iaload, 1) := by decide +kernel
theorem dL_law_139 : decode cL_law 139 = .ok (.aload_n 0, 1) := by decide +kernel
theorem dL_law_140 : decode cL_law 140 = .ok (.iload_n 3, 1) := by decide +kernel
theorem dL_law_141 : decode cL_law 141 = .ok (.iconst 2, 1) := by decide +kernel
theorem dL_law_142 : decode cL_law 142 = .ok (.iadd, 1) := by decide +kernel
theorem dL_law_143 : decode cL_law 143 = .ok (.iaload, 1) := by decide +kernel
theorem dL_law_144 : decode cL_law 144 = .ok (.invokevirtual 22, 3) := by decide +kernel
theorem dL_law_147 : decode cL_law 147 = .ok (.if_icmp .eq 191, 3) := by decide +kernel
theorem dL_law_150 : decode cL_law 150 = .ok (.iconst 0, 1) := by decide +kernel
theorem dL_law_151 : decode cL_law 151 = .ok (.ireturn, 1) := by decide +kernel
theorem dL_law_152 : decode cL_law 152 = .ok (.aload_n 1, 1) := by decide +kernel
theorem dL_law_153 : decode cL_law 153 = .ok (.invokevirtual 23, 3) := by decide +kernel
theorem dL_law_156 : decode cL_law 156 = .ok (.aload_n 2, 1) := by decide +kernel
theorem dL_law_157 : decode cL_law 157 = .ok (.invokevirtual 26, 3) := by decide +kernel
theorem dL_law_160 : decode cL_law 160 = .ok (.goto 178, 3) := by decide +kernel
theorem dL_law_163 : decode cL_law 163 = .ok (.aload_n 1, 1) := by decide +kernel
theorem dL_law_164 : decode cL_law 164 = .ok (.aload_n 0, 1) := by decide +kernel
theorem dL_law_165 : decode cL_law 165 = .ok (.iload_n 3, 1) := by decide +kernel
theorem dL_law_166 : decode cL_law 166 = .ok (.iconst 1, 1) := by decide +kernel
theorem dL_law_167 : decode cL_law 167 = .ok (.iadd, 1) := by decide +kernel
theorem dL_law_168 : decode cL_law 168 = .ok (.iaload, 1) := by decide +kernel
theorem dL_law_169 : decode cL_law 169 = .ok (.invokevirtual 27, 3) := by decide +kernel
theorem dL_law_172 : decode cL_law 172 = .ok (.aload_n 2, 1) := by decide +kernel
theorem dL_law_173 : decode cL_law 173 = .ok (.aload_n 0, 1) := by decide +kernel
theorem dL_law_174 : decode cL_law 174 = .ok (.iload_n 3, 1) := by decide +kernel
theorem dL_law_175 : decode cL_law 175 = .ok (.iconst 1, 1) := by decide +kernel
theorem dL_law_176 : decode cL_law 176 = .ok (.iadd, 1) := by decide +kernel
theorem dL_law_177 : decode cL_law 177 = .ok (.iaload, 1) := by decide +kernel
theorem dL_law_178 : decode cL_law 178 = .ok (.invokevirtual 30, 3) := by decide +kernel
theorem dL_law_181 : decode cL_law 181 = .ok (.if_icmp .eq 157, 3) := by decide +kernel
theorem dL_law_184 : decode cL_law 184 = .ok (.iconst 0, 1) := by decide +kernel
theorem dL_law_185 : decode cL_law 185 = .ok (.ireturn, 1) := by decide +kernel
theorem dL_law_186 : decode cL_law 186 = .ok (.aload_n 1, 1) := by decide +kernel
theorem dL_law_187 : decode cL_law 187 = .ok (.invokevirtual 31, 3) := by decide +kernel
theorem dL_law_190 : decode cL_law 190 = .ok (.aload_n 2, 1) := by decide +kernel
theorem dL_law_191 : decode cL_law 191 = .ok (.invokevirtual 34, 3) := by decide +kernel
theorem dL_law_194 : decode cL_law 194 = .ok (.goto 144, 3) := by decide +kernel
theorem dL_law_197 : decode cL_law 197 = .ok (.aload_n 1, 1) := by decide +kernel
theorem dL_law_198 : decode cL_law 198 = .ok (.invokevirtual 35, 3) := by decide +kernel
theorem dL_law_201 : decode cL_law 201 = .ok (.aload_n 2, 1) := by decide +kernel
theorem dL_law_202 : decode cL_law 202 = .ok (.invokevirtual 39, 3) := by decide +kernel
theorem dL_law_205 : decode cL_law 205 = .ok (.if_icmp .eq 133, 3) := by decide +kernel
theorem dL_law_208 : decode cL_law 208 = .ok (.iconst 0, 1) := by decide +kernel
theorem dL_law_209 : decode cL_law 209 = .ok (.ireturn, 1) := by decide +kernel
theorem dL_law_210 : decode cL_law 210 = .ok (.aload_n 1, 1) := by decide +kernel
theorem dL_law_211 : decode cL_law 211 = .ok (.aload_n 0, 1) := by decide +kernel
theorem dL_law_212 : decode cL_law 212 = .ok (.iload_n 3, 1) := by decide +kernel
theorem dL_law_213 : decode cL_law 213 = .ok (.iconst 1, 1) := by decide +kernel
theorem dL_law_214 : decode cL_law 214 = .ok (.iadd, 1) := by decide +kernel
theorem dL_law_215 : decode cL_law 215 = .ok (.iaload, 1) := by decide +kernel
theorem dL_law_216 : decode cL_law 216 = .ok (.invokevirtual 40, 3) := by decide +kernel
theorem dL_law_219 : decode cL_law 219 = .ok (.aload_n 2, 1) := by decide +kernel
theorem dL_law_220 : decode cL_law 220 = .ok (.aload_n 0, 1) := by decide +kernel
theorem dL_law_221 : decode cL_law 221 = .ok (.iload_n 3, 1) := by decide +kernel
theorem dL_law_222 : decode cL_law 222 = .ok (.iconst 1, 1) := by decide +kernel
theorem dL_law_223 : decode cL_law 223 = .ok (.iadd, 1) := by decide +kernel
theorem dL_law_224 : decode cL_law 224 = .ok (.iaload, 1) := by decide +kernel
theorem dL_law_225 : decode cL_law 225 = .ok (.invokevirtual 43, 3) := by decide +kernel
theorem dL_law_228 : decode cL_law 228 = .ok (.if_icmp .eq 110, 3) := by decide +kernel
theorem dL_law_231 : decode cL_law 231 = .ok (.iconst 0, 1) := by decide +kernel
theorem dL_law_232 : decode cL_law 232 = .ok (.ireturn, 1) := by decide +kernel
theorem dL_law_233 : decode cL_law 233 = .ok (.aload_n 1, 1) := by decide +kernel
theorem dL_law_234 : decode cL_law 234 = .ok (.invokevirtual 44, 3) := by decide +kernel
theorem dL_law_237 : decode cL_law 237 = .ok (.aload_n 2, 1) := by decide +kernel
theorem dL_law_238 : decode cL_law 238 = .ok (.invokevirtual 47, 3) := by decide +kernel
theorem dL_law_241 : decode cL_law 241 = .ok (.if_icmp .eq 97, 3) := by decide +kernel
theorem dL_law_244 : decode cL_law 244 = .ok (.iconst 0, 1) := by decide +kernel
theorem dL_law_245 : decode cL_law 245 = .ok (.ireturn, 1) := by decide +kernel
theorem dL_law_246 : decode cL_law 246 = .ok (.aload_n 1, 1) := by decide +kernel
theorem dL_law_247 : decode cL_law 247 = .ok (.aload_n 0, 1) := by decide +kernel
theorem dL_law_248 : decode cL_law 248 = .ok (.iload_n 3, 1) := by decide +kernel
theorem dL_law_249 : decode cL_law 249 = .ok (.iconst 1, 1) := by decide +kernel
theorem dL_law_250 : decode cL_law 250 = .ok (.iadd, 1) := by decide +kernel
theorem dL_law_251 : decode cL_law 251 = .ok (.iaload, 1) := by decide +kernel
theorem dL_law_252 : decode cL_law 252 = .ok (.invokevirtual 48, 3) := by decide +kernel
theorem dL_law_255 : decode cL_law 255 = .ok (.aload_n 2, 1) := by decide +kernel
theorem dL_law_256 : decode cL_law 256 = .ok (.aload_n 0, 1) := by decide +kernel
theorem dL_law_257 : decode cL_law 257 = .ok (.iload_n 3, 1) := by decide +kernel
theorem dL_law_258 : decode cL_law 258 = .ok (.iconst 1, 1) := by decide +kernel
theorem dL_law_259 : decode cL_law 259 = .ok (.iadd, 1) := by decide +kernel
theorem dL_law_260 : decode cL_law 260 = .ok (.iaload, 1) := by decide +kernel
theorem dL_law_261 : decode cL_law 261 = .ok (.invokevirtual 51, 3) := by decide +kernel
theorem dL_law_264 : decode cL_law 264 = .ok (.if_icmp .eq 74, 3) := by decide +kernel
theorem dL_law_267 : decode cL_law 267 = .ok (.iconst 0, 1) := by decide +kernel
theorem dL_law_268 : decode cL_law 268 = .ok (.ireturn, 1) := by decide +kernel
theorem dL_law_269 : decode cL_law 269 = .ok (.aload_n 1, 1) := by decide +kernel
theorem dL_law_270 : decode cL_law 270 = .ok (.aload_n 0, 1) := by decide +kernel
theorem dL_law_271 : decode cL_law 271 = .ok (.iload_n 3, 1) := by decide +kernel
theorem dL_law_272 : decode cL_law 272 = .ok (.iconst 1, 1) := by decide +kernel
theorem dL_law_273 : decode cL_law 273 = .ok (.iadd, 1) := by decide +kernel
theorem dL_law_274 : decode cL_law 274 = .ok (.iaload, 1) := by decide +kernel
theorem dL_law_275 : decode cL_law 275 = .ok (.aload_n 0, 1) := by decide +kernel
theorem dL_law_276 : decode cL_law 276 = .ok (.iload_n 3, 1) := by decide +kernel
theorem dL_law_277 : decode cL_law 277 = .ok (.iconst 2, 1) := by decide +kernel
theorem dL_law_278 : decode cL_law 278 = .ok (.iadd, 1) := by decide +kernel
theorem dL_law_279 : decode cL_law 279 = .ok (.iaload, 1) := by decide +kernel
theorem dL_law_280 : decode cL_law 280 = .ok (.invokevirtual 52, 3) := by decide +kernel
theorem dL_law_283 : decode cL_law 283 = .ok (.aload_n 2, 1) := by decide +kernel
theorem dL_law_284 : decode cL_law 284 = .ok (.aload_n 0, 1) := by decide +kernel
theorem dL_law_285 : decode cL_law 285 = .ok (.iload_n 3, 1) := by decide +kernel
theorem dL_law_286 : decode cL_law 286 = .ok (.iconst 1, 1) := by decide +kernel
theorem dL_law_287 : decode cL_law 287 = .ok (.iadd, 1) := by decide +kernel
theorem dL_law_288 : decode cL_law 288 = .ok (.iaload, 1) := by decide +kernel
theorem dL_law_289 : decode cL_law 289 = .ok (.aload_n 0, 1) := by decide +kernel
theorem dL_law_290 : decode cL_law 290 = .ok (.iload_n 3, 1) := by decide +kernel
theorem dL_law_291 : decode cL_law 291 = .ok (.iconst 2, 1) := by decide +kernel
theorem dL_law_292 : decode cL_law 292 = .ok (.iadd, 1) := by decide +kernel
theorem dL_law_293 : decode cL_law 293 = .ok (.iaload, 1) := by decide +kernel
theorem dL_law_294 : decode cL_law 294 = .ok (.invokevirtual 55, 3) := by decide +kernel
theorem dL_law_297 : decode cL_law 297 = .ok (.if_icmp .eq 41, 3) := by decide +kernel
theorem dL_law_300 : decode cL_law 300 = .ok (.iconst 0, 1) := by decide +kernel
theorem dL_law_301 : decode cL_law 301 = .ok (.ireturn, 1) := by decide +kernel
theorem dL_law_302 : decode cL_law 302 = .ok (.aload_n 1, 1) := by decide +kernel
theorem dL_law_303 : decode cL_law 303 = .ok (.invokevirtual 56, 3) := by decide +kernel
theorem dL_law_306 : decode cL_law 306 = .ok (.aload_n 2, 1) := by decide +kernel
theorem dL_law_307 : decode cL_law 307 = .ok (.invokevirtual 59, 3) := by decide +kernel
theorem dL_law_310 : decode cL_law 310 = .ok (.if_icmp .eq 28, 3) := by decide +kernel
theorem dL_law_313 : decode cL_law 313 = .ok (.iconst 0, 1) := by decide +kernel
theorem dL_law_314 : decode cL_law 314 = .ok (.ireturn, 1) := by decide +kernel
theorem dL_law_315 : decode cL_law 315 = .ok (.aload_n 1, 1) := by decide +kernel
theorem dL_law_316 : decode cL_law 316 = .ok (.aload_n 0, 1) := by decide +kernel
theorem dL_law_317 : decode cL_law 317 = .ok (.iload_n 3, 1) := by decide +kernel
theorem dL_law_318 : decode cL_law 318 = .ok (.iconst 1, 1) := by decide +kernel
theorem dL_law_319 : decode cL_law 319 = .ok (.iadd, 1) := by decide +kernel
theorem dL_law_320 : decode cL_law 320 = .ok (.iaload, 1) := by decide +kernel
theorem dL_law_321 : decode cL_law 321 = .ok (.invokevirtual 60, 3) := by decide +kernel
theorem dL_law_324 : decode cL_law 324 = .ok (.aload_n 2, 1) := by decide +kernel
theorem dL_law_325 : decode cL_law 325 = .ok (.aload_n 0, 1) := by decide +kernel
theorem dL_law_326 : decode cL_law 326 = .ok (.iload_n 3, 1) := by decide +kernel
theorem dL_law_327 : decode cL_law 327 = .ok (.iconst 1, 1) := by decide +kernel
theorem dL_law_328 : decode cL_law 328 = .ok (.iadd, 1) := by decide +kernel
theorem dL_law_329 : decode cL_law 329 = .ok (.iaload, 1) := by decide +kernel
theorem dL_law_330 : decode cL_law 330 = .ok (.invokevirtual 63, 3) := by decide +kernel
theorem dL_law_333 : decode cL_law 333 = .ok (.if_icmp .eq 5, 3) := by decide +kernel
theorem dL_law_336 : decode cL_law 336 = .ok (.iconst 0, 1) := by decide +kernel
theorem dL_law_337 : decode cL_law 337 = .ok (.ireturn, 1) := by decide +kernel
theorem dL_law_338 : decode cL_law 338 = .ok (.iinc 3 3, 3) := by decide +kernel
theorem dL_law_341 : decode cL_law 341 = .ok (.goto (-323), 3) := by decide +kernel
theorem dL_law_344 : decode cL_law 344 = .ok (.iconst 1, 1) := by decide +kernel
theorem dL_law_345 : decode cL_law 345 = .ok (.ireturn, 1) := by decide +kernel
end
section
/-! PLAIN LAWS 1: the longest border, the automaton, runs and hits, counts. No program in sight. -/
def kx_best (P : Nat → Bool) : Nat → Nat
  | 0 => 0
  | k + 1 => if P (k + 1) = true then k + 1 else kx_best P k
theorem kx_best_s (P : Nat → Bool) (k : Nat) : kx_best P (k + 1) = if P (k + 1) = true then k + 1 else kx_best P k := rfl
theorem kx_best_le (P : Nat → Bool) : ∀ n, kx_best P n ≤ n
  | 0 => Nat.le_refl 0
  | k + 1 => by
    have h := kx_best_le P k
    rw [kx_best_s]
    split <;> omega
theorem kx_best_ok (P : Nat → Bool) (h0 : P 0 = true) : ∀ n, P (kx_best P n) = true
  | 0 => h0
  | k + 1 => by
    have h := kx_best_ok P h0 k
    rw [kx_best_s]
    split
    · assumption
    · exact h
theorem kx_best_max (P : Nat → Bool) : ∀ n k, k ≤ n → P k = true → k ≤ kx_best P n
  | 0, k, h, _ => by omega
  | n + 1, k, h, hp => by
    rw [kx_best_s]
    split
    · exact h
    · rename_i hn
      rcases Nat.lt_or_ge n k with q | q
      · have e : k = n + 1 := by omega
        subst e
        exact absurd hp hn
      · exact kx_best_max P n k q hp
theorem kx_best_congr {P R : Nat → Bool} : ∀ n, (∀ k, k ≤ n → P k = R k) → kx_best P n = kx_best R n
  | 0, _ => rfl
  | n + 1, h => by
    have ih := kx_best_congr n (fun k hk => h k (by omega))
    rw [kx_best_s, kx_best_s, h (n + 1) (Nat.le_refl _), ih]
theorem kx_best_eq {P : Nat → Bool} (h0 : P 0 = true) {n q : Nat} (hq : q ≤ n) (hp : P q = true) (hm : ∀ k, k ≤ n → P k = true → k ≤ q) : kx_best P n = q := by
  have h1 := kx_best_max P n q hq hp
  have h2 := hm _ (kx_best_le P n) (kx_best_ok P h0 n)
  omega
theorem kx_best_cut {P : Nat → Bool} {a : Nat} : ∀ n, a ≤ n → (∀ k, a < k → k ≤ n → P k = false) → kx_best P n = kx_best P a
  | 0, h, _ => by
    have e : a = 0 := by omega
    rw [e]
  | n + 1, h, hf => by
    rcases Nat.lt_or_ge n a with q | q
    · have e : a = n + 1 := by omega
      rw [e]
    · have ih := kx_best_cut n q (fun k h1 h2 => hf k h1 (by omega))
      rw [kx_best_s, hf (n + 1) (by omega) (Nat.le_refl _), ih]
      simp
/-- the longest beginning of w that T ends with -/
def kx_ov (w T : List Nat) : Nat := kx_best (fun k => decide (w.take k <:+ T)) w.length
theorem kx_ov_le (w T : List Nat) : kx_ov w T ≤ w.length := kx_best_le _ _
theorem kx_ov_ok (w T : List Nat) : w.take (kx_ov w T) <:+ T := by
  have h := kx_best_ok (fun k => decide (w.take k <:+ T)) (by simp) w.length
  exact of_decide_eq_true h
theorem kx_ov_max (w T : List Nat) {k : Nat} (hk : k ≤ w.length) (h : w.take k <:+ T) : k ≤ kx_ov w T := kx_best_max _ _ k hk (decide_eq_true h)
theorem kx_ov_eq (w T : List Nat) {q : Nat} (hq : q ≤ w.length) (hp : w.take q <:+ T) (hm : ∀ k, k ≤ w.length → w.take k <:+ T → k ≤ q) : kx_ov w T = q :=
  kx_best_eq (by simp) hq (decide_eq_true hp) (fun k hk h => hm k hk (of_decide_eq_true h))
theorem kx_ov_len (w T : List Nat) : kx_ov w T ≤ T.length := by
  have h := (kx_ov_ok w T).length_le
  have h2 := kx_ov_le w T
  rw [List.length_take] at h
  omega
theorem kx_ov_congr {w T X : List Nat} (h : ∀ k, k ≤ w.length → (w.take k <:+ T ↔ w.take k <:+ X)) : kx_ov w T = kx_ov w X :=
  kx_best_congr _ (fun k hk => decide_eq_decide.mpr (h k hk))
theorem kx_ov_nil (w : List Nat) : kx_ov w [] = 0 := by
  have h := kx_ov_len w []
  simpa using h
theorem kx_ov_full (w T : List Nat) : kx_ov w T = w.length ↔ w <:+ T := by
  constructor
  · intro h
    have h2 := kx_ov_ok w T
    rwa [h, List.take_length] at h2
  · intro h
    have h1 := kx_ov_max w T (k := w.length) (Nat.le_refl _) (by rwa [List.take_length])
    have h2 := kx_ov_le w T
    omega
theorem kx_take_s {w : List Nat} {k : Nat} (hk : k < w.length) : w.take (k + 1) = w.take k ++ [w.getD k 0] := by
  rw [List.take_add_one, List.getD_eq_getElem?_getD, List.getElem?_eq_getElem hk]
  rfl
theorem kx_sfx_s {w X : List Nat} {k l : Nat} (hk : k < w.length) : w.take (k + 1) <:+ X ++ [l] ↔ w.getD k 0 = l ∧ w.take k <:+ X := by
  rw [kx_take_s hk, List.suffix_concat_iff]
  constructor
  · rintro (h | ⟨t, h, ht⟩)
    · simp at h
    · obtain ⟨h1, h2⟩ := List.append_inj' h rfl
      exact ⟨List.head_eq_of_cons_eq h2, by rw [h1]; exact ht⟩
  · rintro ⟨h1, h2⟩
    exact Or.inr ⟨_, by rw [h1], h2⟩
/-- the automaton's step -/
def kx_d (w : List Nat) (q l : Nat) : Nat := kx_ov w (w.take q ++ [l])
theorem kx_d_le (w : List Nat) (q l : Nat) : kx_d w q l ≤ w.length := kx_ov_le _ _
theorem kx_ov_step (w T : List Nat) (l : Nat) : kx_ov w (T ++ [l]) = kx_d w (kx_ov w T) l := by
  refine kx_ov_congr (fun k hk => ?_)
  cases k with
  | zero => simp
  | succ k =>
    rw [kx_sfx_s (by omega), kx_sfx_s (by omega)]
    refine and_congr_right (fun _ => ⟨fun h => ?_, fun h => h.trans (kx_ov_ok w T)⟩)
    refine List.suffix_of_suffix_length_le h (kx_ov_ok w T) ?_
    have h1 := kx_ov_max w T (k := k) (by omega) h
    have h2 := kx_ov_le w T
    rw [List.length_take, List.length_take]
    omega
theorem kx_d_back {w : List Nat} {q l : Nat} (h1 : 1 ≤ q) (hq : q ≤ w.length) (hn : ¬ (q < w.length ∧ w.getD q 0 = l)) : kx_d w q l = kx_d w (kx_ov w ((w.take q).drop 1)) l := by
  rw [← kx_ov_step]
  refine kx_ov_congr (fun k hk => ?_)
  cases k with
  | zero => simp
  | succ k =>
    rw [kx_sfx_s (by omega), kx_sfx_s (by omega)]
    constructor
    · rintro ⟨a, b⟩
      refine ⟨a, List.suffix_of_suffix_length_le b (List.drop_suffix 1 _) ?_⟩
      have hb := b.length_le
      have hne : k ≠ q := fun e => hn ⟨by omega, by rw [← e]; exact a⟩
      simp only [List.length_take, List.length_drop] at hb ⊢
      omega
    · rintro ⟨a, b⟩
      exact ⟨a, b.trans (List.drop_suffix 1 _)⟩
theorem kx_d_go {w : List Nat} {q l : Nat} (hq : q < w.length) (hl : w.getD q 0 = l) : kx_d w q l = q + 1 := by
  refine kx_ov_eq w _ (by omega) ?_ ?_
  · rw [kx_sfx_s hq]
    exact ⟨hl, List.suffix_refl _⟩
  · intro k hk h
    have h2 := h.length_le
    simp only [List.length_take, List.length_append, List.length_cons, List.length_nil] at h2
    omega
theorem kx_d_zero {w : List Nat} {l : Nat} (hw : 0 < w.length) : kx_d w 0 l = if w.getD 0 0 = l then 1 else 0 := by
  split
  · rename_i h
    exact kx_d_go hw h
  · rename_i h
    refine kx_ov_eq w _ (Nat.zero_le _) (by simp) ?_
    intro k hk hs
    cases k with
    | zero => exact Nat.le_refl 0
    | succ k =>
      rw [kx_sfx_s (by omega)] at hs
      obtain ⟨a, b⟩ := hs
      have hb := b.length_le
      simp only [List.take_zero, List.length_nil, List.length_take] at hb
      have e : k = 0 := by omega
      subst e
      exact absurd a h
theorem kx_back_s {w : List Nat} {q : Nat} (h1 : 1 ≤ q) (hq : q < w.length) : kx_ov w ((w.take (q + 1)).drop 1) = kx_d w (kx_ov w ((w.take q).drop 1)) (w.getD q 0) := by
  rw [← kx_ov_step, kx_take_s hq, List.drop_append_of_le_length (by rw [List.length_take]; omega)]
theorem kx_back_0 (w : List Nat) : kx_ov w ((w.take 1).drop 1) = 0 := by
  have h := kx_ov_len w ((w.take 1).drop 1)
  simp only [List.length_drop, List.length_take] at h
  omega
theorem kx_back_lt {w : List Nat} {q : Nat} (h1 : 1 ≤ q) : kx_ov w ((w.take q).drop 1) < q := by
  have h := kx_ov_len w ((w.take q).drop 1)
  simp only [List.length_drop, List.length_take] at h
  omega
/-- the state behind L, entered in state q; and how many occurrences end in it -/
def kx_run (w : List Nat) (q : Nat) (L : List Nat) : Nat := L.foldl (kx_d w) q
theorem kx_run_app (w : List Nat) (q : Nat) (A B : List Nat) : kx_run w q (A ++ B) = kx_run w (kx_run w q A) B := List.foldl_append
def kx_hit (w : List Nat) : Nat → List Nat → Nat
  | _, [] => 0
  | q, a :: L => (if kx_d w q a = w.length then 1 else 0) + kx_hit w (kx_d w q a) L
theorem kx_hit_c (w : List Nat) (q a : Nat) (L : List Nat) : kx_hit w q (a :: L) = (if kx_d w q a = w.length then 1 else 0) + kx_hit w (kx_d w q a) L := rfl
theorem kx_hit_app (w : List Nat) : ∀ (A : List Nat) (q : Nat) (B : List Nat), kx_hit w q (A ++ B) = kx_hit w q A + kx_hit w (kx_run w q A) B
  | [], q, B => by
    show kx_hit w q B = 0 + kx_hit w q B
    omega
  | a :: A, q, B => by
    show kx_hit w q (a :: (A ++ B)) = _ + kx_hit w (kx_run w (kx_d w q a) A) B
    rw [kx_hit_c, kx_hit_c, kx_hit_app w A]
    omega
theorem kx_hit_one (w : List Nat) (q a : Nat) : kx_hit w q [a] = if kx_d w q a = w.length then 1 else 0 := rfl
theorem kx_run_one (w : List Nat) (q a : Nat) : kx_run w q [a] = kx_d w q a := rfl
theorem kx_run_nil (w : List Nat) (q : Nat) : kx_run w q [] = q := rfl
theorem kx_hit_nil (w : List Nat) (q : Nat) : kx_hit w q [] = 0 := rfl
theorem kx_run_le (w : List Nat) : ∀ (L : List Nat) (q : Nat), q ≤ w.length → kx_run w q L ≤ w.length
  | [], q, h => h
  | a :: L, q, h => kx_run_le w L _ (kx_d_le w q a)
theorem kx_hit_le (w : List Nat) : ∀ (L : List Nat) (q : Nat), kx_hit w q L ≤ L.length
  | [], q => Nat.le_refl 0
  | a :: L, q => by
    have h := kx_hit_le w L (kx_d w q a)
    rw [kx_hit_c, List.length_cons]
    split <;> omega
theorem kx_run_ov (w : List Nat) : ∀ (B A : List Nat), kx_run w (kx_ov w A) B = kx_ov w (A ++ B)
  | [], A => by rw [kx_run_nil, List.append_nil]
  | b :: B, A => by
    show kx_run w (kx_d w (kx_ov w A) b) B = _
    rw [← kx_ov_step, kx_run_ov w B, List.append_assoc]
    rfl
theorem kx_run0 (w T : List Nat) : kx_run w 0 T = kx_ov w T := by
  have h := kx_run_ov w T []
  rwa [kx_ov_nil, List.nil_append] at h
/-- how many i < n have f -/
def kx_cnt (f : Nat → Bool) : Nat → Nat
  | 0 => 0
  | n + 1 => kx_cnt f n + if f n = true then 1 else 0
theorem kx_cnt_s (f : Nat → Bool) (n : Nat) : kx_cnt f (n + 1) = kx_cnt f n + if f n = true then 1 else 0 := rfl
theorem kx_cnt_congr {f g : Nat → Bool} : ∀ n, (∀ i, i < n → f i = g i) → kx_cnt f n = kx_cnt g n
  | 0, _ => rfl
  | n + 1, h => by rw [kx_cnt_s, kx_cnt_s, kx_cnt_congr n (fun i hi => h i (by omega)), h n (by omega)]
theorem kx_cnt_cut {f : Nat → Bool} {a : Nat} : ∀ n, a ≤ n → (∀ i, a ≤ i → i < n → f i = false) → kx_cnt f n = kx_cnt f a
  | 0, h, _ => by
    have e : a = 0 := by omega
    rw [e]
  | n + 1, h, hf => by
    rcases Nat.lt_or_ge n a with q | q
    · have e : a = n + 1 := by omega
      rw [e]
    · rw [kx_cnt_s, kx_cnt_cut n q (fun i h1 h2 => hf i h1 (by omega)), hf n q (by omega)]
      simp
theorem kx_cnt_le (f : Nat → Bool) : ∀ n, kx_cnt f n ≤ n
  | 0 => Nat.le_refl 0
  | n + 1 => by
    have h := kx_cnt_le f n
    rw [kx_cnt_s]
    split <;> omega
theorem kx_cnt_mono (f : Nat → Bool) {a : Nat} : ∀ b, a ≤ b → kx_cnt f a ≤ kx_cnt f b
  | 0, h => by
    have e : a = 0 := by omega
    rw [e]
    exact Nat.le_refl _
  | b + 1, h => by
    rcases Nat.lt_or_ge b a with q | q
    · have e : a = b + 1 := by omega
      rw [e]
      exact Nat.le_refl _
    · have h := kx_cnt_mono f b q
      rw [kx_cnt_s]
      omega
/-- w stands in T at i -/
def kx_occ (T w : List Nat) (i : Nat) : Bool := decide (w <+: T.drop i)
def kx_oc (T w : List Nat) (i : Nat) : Bool := decide (1 ≤ w.length) && decide (w <+: T.drop i)
theorem kx_oc_eq {T w : List Nat} (h : 1 ≤ w.length) : kx_oc T w = kx_occ T w := by
  funext i
  simp [kx_oc, kx_occ, h]
theorem kx_sfx_take {T w : List Nat} {k : Nat} (hk : k ≤ T.length) : w <:+ T.take k ↔ w.length ≤ k ∧ w <+: T.drop (k - w.length) := by
  rw [List.suffix_iff_eq_drop, List.prefix_iff_eq_take, List.length_take, Nat.min_eq_left hk, List.drop_take]
  constructor
  · intro h
    have hl : w.length ≤ k := by
      have h2 := congrArg List.length h
      simp only [List.length_take, List.length_drop] at h2
      omega
    refine ⟨hl, ?_⟩
    have e : k - (k - w.length) = w.length := by omega
    rw [e] at h
    exact h
  · rintro ⟨hl, h⟩
    have e : k - (k - w.length) = w.length := by omega
    rw [e]
    exact h
theorem kx_hit_cnt (w T : List Nat) : ∀ k, k ≤ T.length → kx_hit w 0 (T.take k) = kx_cnt (fun j => decide (w <:+ T.take (j + 1))) k
  | 0, _ => by
    rw [List.take_zero]
    rfl
  | k + 1, h => by
    rw [kx_cnt_s, ← kx_hit_cnt w T k (by omega)]
    have e := kx_take_s (w := T) (k := k) (by omega)
    have e1 : kx_hit w 0 (T.take (k + 1)) = kx_hit w 0 (T.take k) + kx_hit w (kx_run w 0 (T.take k)) [T.getD k 0] := by rw [e, kx_hit_app]
    rw [e1, kx_hit_one, kx_run0, ← kx_ov_step, ← e]
    simp only [kx_ov_full, decide_eq_true_eq]
theorem kx_cnt_occ (w T : List Nat) (hm : 1 ≤ w.length) : ∀ k, k ≤ T.length → kx_cnt (fun j => decide (w <:+ T.take (j + 1))) k = kx_cnt (kx_occ T w) (k + 1 - w.length)
  | 0, _ => by
    have e : 0 + 1 - w.length = 0 := by omega
    rw [e]
    rfl
  | k + 1, h => by
    rw [kx_cnt_s, kx_cnt_occ w T hm k (by omega)]
    have e := kx_sfx_take (T := T) (w := w) (k := k + 1) h
    rcases Nat.lt_or_ge (k + 1) w.length with q | q
    · have e1 : k + 1 + 1 - w.length = 0 := by omega
      have e2 : k + 1 - w.length = 0 := by omega
      rw [e1, e2]
      have hn : ¬ w <:+ T.take (k + 1) := fun z => by
        have h3 := (e.mp z).1
        omega
      rw [decide_eq_false hn]
      rfl
    · have e1 : k + 1 + 1 - w.length = (k + 1 - w.length) + 1 := by omega
      rw [e1, kx_cnt_s]
      have e2 : w <:+ T.take (k + 1) ↔ w <+: T.drop (k + 1 - w.length) := ⟨fun z => (e.mp z).2, fun z => e.mpr ⟨q, z⟩⟩
      have e3 : decide (w <:+ T.take (k + 1)) = kx_occ T w (k + 1 - w.length) := decide_eq_decide.mpr e2
      rw [e3]
theorem kx_hit_occ {w T : List Nat} (hm : 1 ≤ w.length) {k : Nat} (hk : k ≤ T.length) : kx_hit w 0 (T.take k) = kx_cnt (kx_oc T w) (k + 1 - w.length) := by
  rw [kx_hit_cnt w T k hk, kx_cnt_occ w T hm k hk, kx_oc_eq hm]
theorem kx_oc_len {T w : List Nat} {i : Nat} (h : kx_oc T w i = true) : 1 ≤ w.length ∧ i + w.length ≤ T.length := by
  simp only [kx_oc, Bool.and_eq_true, decide_eq_true_eq] at h
  obtain ⟨h1, h2⟩ := h
  have h3 := h2.length_le
  rw [List.length_drop] at h3
  omega
/-- countWithin: both sides -/
theorem kx_within {T w : List Nat} (hm : 1 ≤ w.length) (x : Int) : kx_cnt (fun i => kx_oc T w i && decide (((i + w.length : Nat) : Int) ≤ x)) T.length = kx_hit w 0 (T.take (min x.toNat T.length)) := by
  rw [kx_hit_occ hm (Nat.min_le_right _ _)]
  rw [kx_cnt_cut (a := min x.toNat T.length + 1 - w.length) T.length (by omega)]
  · refine kx_cnt_congr _ (fun i hi => ?_)
    have e : ((i + w.length : Nat) : Int) ≤ x := by omega
    rw [decide_eq_true e, Bool.and_true]
  · intro i h1 h2
    cases hc : kx_oc T w i with
    | false => rfl
    | true =>
      have h3 := kx_oc_len hc
      have e : ¬ ((i + w.length : Nat) : Int) ≤ x := by omega
      rw [decide_eq_false e]
      rfl
/-- position: both sides -/
def kx_PosR (f : Nat → Bool) (n : Nat) (x r : Int32) : Prop := (∃ i, i < n ∧ f i = true ∧ x = nI (kx_cnt f i) ∧ r = nI i) ∨ ((∀ i, i < n → f i = true → x ≠ nI (kx_cnt f i)) ∧ r = -4)
theorem kx_pos_one {f : Nat → Bool} {i j : Nat} (h : i < j) (hi : f i = true) : kx_cnt f i < kx_cnt f j := by
  have h1 := kx_cnt_mono f (a := i + 1) j h
  rw [kx_cnt_s, hi] at h1
  simp at h1
  omega
theorem kx_PosR_eq {f : Nat → Bool} {n : Nat} (hn : n < 2 ^ 31) {x r q : Int32} (h1 : kx_PosR f n x r) (h2 : kx_PosR f n x q) : r = q := by
  rcases h1 with ⟨i, a1, a2, a3, a4⟩ | ⟨a1, a2⟩
  · rcases h2 with ⟨j, b1, b2, b3, b4⟩ | ⟨b1, b2⟩
    · have c1 := kx_cnt_le f i
      have c2 := kx_cnt_le f j
      have e : kx_cnt f i = kx_cnt f j := (nI_eq (by omega) (by omega)).mp (a3.symm.trans b3)
      have e2 : i = j := by
        rcases Nat.lt_trichotomy i j with q1 | q1 | q1
        · have := kx_pos_one q1 a2
          omega
        · exact q1
        · have := kx_pos_one q1 b2
          omega
      rw [a4, b4, e2]
    · exact absurd a3 (b1 i a1 a2)
  · rcases h2 with ⟨j, b1, b2, b3, b4⟩ | ⟨b1, b2⟩
    · exact absurd b3 (a1 j b1 b2)
    · rw [a2, b2]
theorem kx_pos_at {T w : List Nat} (hm : 1 ≤ w.length) {e N : Nat} (he1 : 1 ≤ e) (he : e ≤ T.length) (h1 : kx_hit w 0 (T.take e) = N + 1) (h2 : kx_hit w 0 (T.take (e - 1)) = N) : w.length ≤ e ∧ kx_PosR (kx_oc T w) T.length (nI N) (nI (e - w.length)) := by
  rw [kx_hit_occ hm he] at h1
  rw [kx_hit_occ hm (by omega), show e - 1 + 1 - w.length = e - w.length by omega] at h2
  have hl : w.length ≤ e := by
    rcases Nat.lt_or_ge e w.length with q | q
    · rw [show e + 1 - w.length = e - w.length by omega] at h1
      omega
    · exact q
  refine ⟨hl, Or.inl ⟨e - w.length, by omega, ?_, by rw [h2], rfl⟩⟩
  rw [show e + 1 - w.length = (e - w.length) + 1 by omega, kx_cnt_s, h2] at h1
  cases hc : kx_oc T w (e - w.length) with
  | true => rfl
  | false =>
    rw [hc] at h1
    simp at h1
theorem kx_pos_none {T w : List Nat} (hm : 1 ≤ w.length) {N : Nat} (hT : T.length < 2 ^ 31) (hN : N < 2 ^ 31) (h : kx_hit w 0 T ≤ N) : kx_PosR (kx_oc T w) T.length (nI N) (-4) := by
  refine Or.inr ⟨fun i hi ho => ?_, rfl⟩
  have h0 := kx_hit_occ hm (T := T) (w := w) (k := T.length) (Nat.le_refl _)
  rw [List.take_length] at h0
  have h1 := kx_oc_len ho
  have h2 := kx_pos_one (f := kx_oc T w) (i := i) (j := T.length + 1 - w.length) (by omega) ho
  have h3 := kx_cnt_le (kx_oc T w) i
  intro e
  have e2 : N = kx_cnt (kx_oc T w) i := (nI_eq hN (by omega)).mp e
  omega
/-- overlap: both sides -/
def kx_std (T w : List Nat) (i k : Nat) : Bool := decide (w.take k <+: T.drop i)
theorem kx_std_oc {T w : List Nat} {i : Nat} (h : 1 ≤ w.length) : kx_oc T w i = kx_std T w i w.length := by
  simp [kx_oc, kx_std, h]
theorem kx_ov_std (T w : List Nat) : kx_ov w T = kx_best (fun k => kx_std T w (T.length - k) k) (min w.length T.length) := by
  have hc : kx_ov w T = kx_best (fun k => decide (w.take k <:+ T)) (min w.length T.length) := by
    refine kx_best_cut w.length (Nat.min_le_left _ _) (fun k h1 h2 => decide_eq_false (fun z => ?_))
    have h3 := z.length_le
    rw [List.length_take] at h3
    omega
  rw [hc]
  refine kx_best_congr _ (fun k hk => decide_eq_decide.mpr ?_)
  have e := kx_sfx_take (T := T) (w := w.take k) (k := T.length) (Nat.le_refl _)
  have hl : (w.take k).length = k := by
    rw [List.length_take]
    omega
  rw [List.take_length, hl] at e
  exact ⟨fun z => (e.mp z).2, fun z => e.mpr ⟨by omega, z⟩⟩
theorem kx_pfx_s {T w : List Nat} {i q : Nat} (hq : q < w.length) : w.take (q + 1) <+: T.drop i ↔ w.take q <+: T.drop i ∧ i + q < T.length ∧ T.getD (i + q) 0 = w.getD q 0 := by
  have hl : (w.take q).length = q := by
    rw [List.length_take]
    omega
  have hl1 : (w.take (q + 1)).length = q + 1 := by
    rw [List.length_take]
    omega
  constructor
  · intro h
    have h1 := h.length_le
    rw [hl1, List.length_drop] at h1
    have e := List.prefix_iff_eq_take.mp h
    rw [hl1, kx_take_s hq, kx_take_s (by rw [List.length_drop]; omega)] at e
    obtain ⟨e1, e2⟩ := List.append_inj' e rfl
    have e3 := List.head_eq_of_cons_eq e2
    refine ⟨by rw [e1]; exact List.take_prefix _ _, by omega, ?_⟩
    rw [e3, List.getD_eq_getElem?_getD, List.getD_eq_getElem?_getD, List.getElem?_drop]
  · rintro ⟨h1, h2, h3⟩
    have e := List.prefix_iff_eq_take.mp h1
    rw [hl] at e
    rw [kx_take_s hq, e, ← h3]
    have e2 : T.getD (i + q) 0 = (T.drop i).getD q 0 := by rw [List.getD_eq_getElem?_getD, List.getD_eq_getElem?_getD, List.getElem?_drop]
    rw [e2, ← kx_take_s (by rw [List.length_drop]; omega)]
    exact List.take_prefix _ _
end
section
/-! PLAIN LAWS 2: the dictionary, the text as phrases, the pattern, the tables. -/
/-- where phrase number i of the text begins -/
def kx_st (wd : Nat → List Nat) (kk : List Nat) (i : Nat) : Nat := ((kk.take i).flatMap wd).length
theorem kx_st_0 (wd : Nat → List Nat) (kk : List Nat) : kx_st wd kk 0 = 0 := by simp [kx_st]
theorem kx_fm_s {wd : Nat → List Nat} {kk : List Nat} {i : Nat} (hi : i < kk.length) : (kk.take (i + 1)).flatMap wd = (kk.take i).flatMap wd ++ wd (kk.getD i 0) := by
  rw [kx_take_s hi, List.flatMap_append]
  simp
theorem kx_st_s {wd : Nat → List Nat} {kk : List Nat} {i : Nat} (hi : i < kk.length) : kx_st wd kk (i + 1) = kx_st wd kk i + (wd (kk.getD i 0)).length := by
  unfold kx_st
  rw [kx_fm_s hi, List.length_append]
theorem kx_st_n (wd : Nat → List Nat) (kk : List Nat) {i : Nat} (h : kk.length ≤ i) : kx_st wd kk i = (kk.flatMap wd).length := by
  unfold kx_st
  rw [List.take_of_length_le h]
theorem kx_st_mono (wd : Nat → List Nat) (kk : List Nat) {i : Nat} : ∀ j, i ≤ j → kx_st wd kk i ≤ kx_st wd kk j
  | 0, h => by
    have e : i = 0 := by omega
    rw [e]
    exact Nat.le_refl _
  | j + 1, h => by
    rcases Nat.lt_or_ge j i with q | q
    · have e : i = j + 1 := by omega
      rw [e]
      exact Nat.le_refl _
    · have ih := kx_st_mono wd kk j q
      rcases Nat.lt_or_ge j kk.length with r | r
      · rw [kx_st_s r]
        omega
      · rw [kx_st_n wd kk r] at ih
        rw [kx_st_n wd kk (i := j + 1) (by omega)]
        exact ih
theorem kx_st_le (wd : Nat → List Nat) (kk : List Nat) (i : Nat) : kx_st wd kk i ≤ (kk.flatMap wd).length := by
  rcases Nat.le_total i kk.length with q | q
  · have h := kx_st_mono wd kk kk.length q
    rwa [kx_st_n wd kk (Nat.le_refl _)] at h
  · rw [kx_st_n wd kk q]
    exact Nat.le_refl _
theorem kx_cutT {wd : Nat → List Nat} {kk : List Nat} {i : Nat} (hi : i < kk.length) : kk.flatMap wd = (kk.take i).flatMap wd ++ (wd (kk.getD i 0) ++ (kk.drop (i + 1)).flatMap wd) := by
  rw [← List.append_assoc, ← kx_fm_s hi, ← List.flatMap_append, List.take_append_drop]
theorem kx_T_take0 {wd : Nat → List Nat} {kk : List Nat} {i : Nat} (hi : i < kk.length) : (kk.flatMap wd).take (kx_st wd kk i) = (kk.take i).flatMap wd := by
  rw [kx_cutT hi]
  exact List.take_left' rfl
theorem kx_T_take {wd : Nat → List Nat} {kk : List Nat} {i j : Nat} (hi : i < kk.length) (hj : j ≤ (wd (kk.getD i 0)).length) : (kk.flatMap wd).take (kx_st wd kk i + j) = (kk.flatMap wd).take (kx_st wd kk i) ++ (wd (kk.getD i 0)).take j := by
  rw [kx_T_take0 hi, kx_cutT hi]
  unfold kx_st
  rw [List.take_length_add_append, List.take_append_of_le_length hj]
theorem kx_T_get {wd : Nat → List Nat} {kk : List Nat} {i j : Nat} (hi : i < kk.length) (hj : j < (wd (kk.getD i 0)).length) : (kk.flatMap wd).getD (kx_st wd kk i + j) 0 = (wd (kk.getD i 0)).getD j 0 := by
  rw [List.getD_eq_getElem?_getD, List.getD_eq_getElem?_getD, kx_cutT hi]
  rw [List.getElem?_append_right (by unfold kx_st; omega)]
  have e : kx_st wd kk i + j - ((kk.take i).flatMap wd).length = j := by
    unfold kx_st
    omega
  rw [e, List.getElem?_append_left hj]
/-- one phrase as the arrays hold it: parent b1, letterOf b2, size b3, child b4, tally b5 -/
def kx_DA (B : Nat) (wd : Nat → List Nat) (b1 b2 b3 b4 b5 : Nat → Int32) (p : Nat) : Prop :=
  ∃ l, l < 4 ∧ b2 p = nI l ∧ ((b1 p = -1 ∧ wd p = [l]) ∨ ∃ q, q < p ∧ b1 p = nI q ∧ wd p = wd q ++ [l]) ∧ b3 p = nI (wd p).length ∧ (∀ x, x < 4 → b5 (p * 4 + x) = nI ((wd p).count x)) ∧ (∀ x, x < 4 → b4 (p * 4 + x) = -1 ∨ ∃ c, c < B ∧ b4 (p * 4 + x) = nI c ∧ wd c = wd p ++ [x])
def kx_Dict (P B : Nat) (wd : Nat → List Nat) (b1 b2 b3 b4 b5 : Nat → Int32) : Prop := ∀ p, p < P → kx_DA B wd b1 b2 b3 b4 b5 p
theorem kx_dict_len {P B : Nat} {wd : Nat → List Nat} {b1 b2 b3 b4 b5 : Nat → Int32} (h : kx_Dict P B wd b1 b2 b3 b4 b5) : ∀ p, p < P → 1 ≤ (wd p).length ∧ (wd p).length ≤ p + 1 := by
  intro p
  induction p using Nat.strongRecOn with
  | ind p ih =>
    intro hp
    obtain ⟨l, -, -, h3, -⟩ := h p hp
    rcases h3 with ⟨-, e⟩ | ⟨q, hq, -, e⟩
    · rw [e]
      simp
    · have h4 := ih q hq (by omega)
      rw [e, List.length_append, List.length_singleton]
      omega
/-- what makePhrase does to the arrays -/
def kx_Mk (k : Nat) (up : Int32) (l : Nat) (sz : Int32) (tb : Nat → Int32) (b1 b2 b3 b4 b5 c1 c2 c3 c4 c5 : Nat → Int32) : Prop :=
  c1 = upd b1 k up ∧ c2 = upd b2 k (nI l) ∧ c3 = upd b3 k sz ∧ (∀ j, c4 j = if j / 4 = k then -1 else b4 j) ∧ (∀ j, c5 j = if j / 4 = k then tb (j % 4) + (if j % 4 = l then 1 else 0) else b5 j)
/-- whose child it is -/
def kx_Up (k : Nat) (up sz : Int32) (tb b3 b5 : Nat → Int32) : Prop :=
  (up = -1 ∧ sz = nI 1 ∧ ∀ x, tb x = 0) ∨ ∃ q, q < 128 ∧ q ≠ k ∧ up = nI q ∧ sz = b3 q + nI 1 ∧ ∀ x, x < 4 → tb x = b5 (q * 4 + x)
theorem kx_dict_push {P : Nat} {wd : Nat → List Nat} {b1 b2 b3 b4 b5 c1 c2 c3 c4 c5 : Nat → Int32} {up sz : Int32} {tb : Nat → Int32} {l : Nat} (h : kx_Dict P (P + 1) wd b1 b2 b3 b4 b5) (hl : l < 4) (hm : kx_Mk P up l sz tb b1 b2 b3 b4 b5 c1 c2 c3 c4 c5)
    (hu : (up = -1 ∧ sz = nI 1 ∧ (∀ x, tb x = 0) ∧ wd P = [l]) ∨ ∃ q, q < P ∧ up = nI q ∧ sz = b3 q + nI 1 ∧ (∀ x, x < 4 → tb x = b5 (q * 4 + x)) ∧ wd P = wd q ++ [l]) : kx_Dict (P + 1) (P + 1) wd c1 c2 c3 c4 c5 := by
  obtain ⟨m1, m2, m3, m4, m5⟩ := hm
  intro p hp
  have d4 : ∀ x, x < 4 → (p * 4 + x) / 4 = p := fun x hx => by omega
  have r4 : ∀ x, x < 4 → (p * 4 + x) % 4 = x := fun x hx => by omega
  rcases Nat.lt_or_ge p P with q | q
  · obtain ⟨l', g1, g2, g3, g4, g5, g6⟩ := h p q
    have hne : p ≠ P := by omega
    refine ⟨l', g1, by rw [m2, pk_un hne]; exact g2, by rw [m1, pk_un hne]; exact g3, by rw [m3, pk_un hne]; exact g4, fun x hx => ?_, fun x hx => ?_⟩
    · rw [m5, d4 x hx, if_neg hne]
      exact g5 x hx
    · rw [m4, d4 x hx, if_neg hne]
      exact g6 x hx
  · have e : p = P := by omega
    subst e
    have cone : ∀ x, (if x = l then (1 : Int32) else 0) = nI (List.count x [l]) := by
      intro x
      by_cases hx : x = l
      · subst hx
        simp
        rfl
      · have hx2 : ¬ l = x := fun z => hx z.symm
        simp [List.count_cons, hx, hx2]
        rfl
    refine ⟨l, hl, by rw [m2, pk_us], ?_, ?_, fun x hx => ?_, fun x hx => Or.inl (by rw [m4, d4 x hx, if_pos rfl])⟩
    · rw [m1, pk_us]
      rcases hu with ⟨u1, -, -, u4⟩ | ⟨q2, u1, u2, -, -, u5⟩
      · exact Or.inl ⟨u1, u4⟩
      · exact Or.inr ⟨q2, u1, u2, u5⟩
    · rw [m3, pk_us]
      rcases hu with ⟨-, u2, -, u4⟩ | ⟨q2, u1, -, u3, -, u5⟩
      · rw [u2, u4]
        rfl
      · obtain ⟨-, -, -, -, g4, -⟩ := h q2 u1
        rw [u3, g4, u5, nI_add, List.length_append, List.length_singleton]
    · rw [m5, d4 x hx, if_pos rfl, r4 x hx, cone x]
      rcases hu with ⟨-, -, u3, u4⟩ | ⟨q2, u1, -, -, u4, u5⟩
      · rw [u3, u4]
        show nI 0 + _ = _
        rw [nI_add, Nat.zero_add]
      · obtain ⟨-, -, -, -, -, g5, -⟩ := h q2 u1
        rw [u4 x hx, g5 x hx, u5, nI_add, List.count_append]
/-- the text T as phrases kk (codes, then the one under way); c codes -/
def kx_TI (a0 a6 a7 a10 : Int32) (b1 b2 b3 b4 b5 b8 b9 : Nat → Int32) (T : List Nat) (wd : Nat → List Nat) (kk : List Nat) (c : Nat) : Prop :=
  T.length ≤ 120 ∧ (∀ x, x ∈ T → x < 4) ∧ (∀ x, x < 4 → wd x = [x]) ∧ T = kk.flatMap wd ∧ (∀ i, i < kk.length → kk.getD i 0 < 4 + c) ∧ ((kk = [] ∧ c = 0 ∧ a10 = -1) ∨ (kk.length = c + 1 ∧ a10 = nI (kk.getD c 0))) ∧ a0 = nI (4 + c) ∧ a6 = nI T.length ∧ a7 = nI c ∧ kx_Dict (4 + c) (4 + c) wd b1 b2 b3 b4 b5 ∧ (∀ i, i < c → b8 i = nI (kk.getD i 0)) ∧ (∀ i, i ≤ c → b9 i = nI (kx_st wd kk i))
/-- the pattern w and its automaton -/
def kx_PI (a11 : Int32) (b12 b13 : Nat → Int32) (w : List Nat) : Prop :=
  w.length ≤ 10 ∧ (∀ x, x ∈ w → x < 4) ∧ a11 = nI w.length ∧ (∀ i, i < w.length → b12 i = nI (w.getD i 0)) ∧ (1 ≤ w.length → ∀ q, q ≤ w.length → ∀ x, x < 4 → b13 (q * 4 + x) = nI (kx_d w q x))
/-- the tables over whole phrases -/
def kx_Tab (P : Nat) (wd : Nat → List Nat) (w : List Nat) (b15 b16 : Nat → Int32) : Prop :=
  ∀ p, p < P → ∀ q, q ≤ w.length → b15 (p * 11 + q) = nI (kx_run w q (wd p)) ∧ b16 (p * 11 + q) = nI (kx_hit w q (wd p))
def kx_RI (a14 : Int32) (b15 b16 : Nat → Int32) (P : Nat) (wd : Nat → List Nat) (w : List Nat) : Prop := a14 = 0 ∨ (a14 = 1 ∧ kx_Tab P wd w b15 b16)
/-- the searcher's ints and arrays -/
abbrev XA : Type := Nat → Int32
abbrev XS : Type := (Int32 × Int32 × Int32 × Int32 × Int32 × Int32) × (XA × XA × XA × XA × XA × XA × XA × XA × XA × XA × XA)
/-- the searcher holds the text T and the pattern w -/
def kx_Ic (a0 a6 a7 a10 a11 a14 : Int32) (b1 b2 b3 b4 b5 b8 b9 b12 b13 b15 b16 : XA) (T w : List Nat) : Prop :=
  ∃ (wd : Nat → List Nat) (kk : List Nat) (c : Nat), kx_TI a0 a6 a7 a10 b1 b2 b3 b4 b5 b8 b9 T wd kk c ∧ kx_PI a11 b12 b13 w ∧ kx_RI a14 b15 b16 (4 + c) wd w
def kx_Inv (u : XS) (T w : List Nat) : Prop := kx_Ic u.1.1 u.1.2.1 u.1.2.2.1 u.1.2.2.2.1 u.1.2.2.2.2.1 u.1.2.2.2.2.2 u.2.1 u.2.2.1 u.2.2.2.1 u.2.2.2.2.1 u.2.2.2.2.2.1 u.2.2.2.2.2.2.1 u.2.2.2.2.2.2.2.1 u.2.2.2.2.2.2.2.2.1 u.2.2.2.2.2.2.2.2.2.1 u.2.2.2.2.2.2.2.2.2.2.1 u.2.2.2.2.2.2.2.2.2.2.2 T w
/-- the model holds the text T and the pattern w -/
def kx_MI (a1 a3 : Int32) (m0 m2 : Nat → Int32) (T w : List Nat) : Prop :=
  T.length ≤ 120 ∧ (∀ x, x ∈ T → x < 4) ∧ a1 = nI T.length ∧ (∀ i, i < T.length → m0 i = nI (T.getD i 0)) ∧ w.length ≤ 10 ∧ (∀ x, x ∈ w → x < 4) ∧ a3 = nI w.length ∧ (∀ i, i < w.length → m2 i = nI (w.getD i 0))
theorem kx_fm_len {P B : Nat} {wd : Nat → List Nat} {b1 b2 b3 b4 b5 : Nat → Int32} (h : kx_Dict P B wd b1 b2 b3 b4 b5) : ∀ kk : List Nat, (∀ x, x ∈ kk → x < P) → kk.length ≤ (kk.flatMap wd).length
  | [], _ => Nat.zero_le _
  | a :: kk, hk => by
    have h1 := (kx_dict_len h a (hk a (by simp))).1
    have h2 := kx_fm_len h kk (fun x hx => hk x (by simp [hx]))
    rw [List.flatMap_cons, List.length_append, List.length_cons]
    omega
theorem kx_getD_mem {kk : List Nat} {P : Nat} (h : ∀ i, i < kk.length → kk.getD i 0 < P) : ∀ x, x ∈ kk → x < P := by
  intro x hx
  obtain ⟨i, hi, e⟩ := List.getElem_of_mem hx
  have h2 := h i hi
  rw [List.getD_eq_getElem?_getD, List.getElem?_eq_getElem hi, Option.getD_some, e] at h2
  exact h2
theorem kx_mem_getD {kk : List Nat} {P : Nat} (h : ∀ x, x ∈ kk → x < P) {i : Nat} (hi : i < kk.length) : kk.getD i 0 < P := by
  rw [List.getD_eq_getElem?_getD, List.getElem?_eq_getElem hi, Option.getD_some]
  exact h _ (List.getElem_mem hi)
theorem kx_getD_app {A : List Nat} {i : Nat} (B : List Nat) (hi : i < A.length) : (A ++ B).getD i 0 = A.getD i 0 := by
  rw [List.getD_eq_getElem?_getD, List.getD_eq_getElem?_getD, List.getElem?_append_left hi]
theorem kx_getD_last (A : List Nat) (x : Nat) : (A ++ [x]).getD A.length 0 = x := by
  rw [List.getD_eq_getElem?_getD, List.getElem?_append_right (Nat.le_refl _), Nat.sub_self]
  rfl
theorem kx_TI.c_le {a0 a6 a7 a10 : Int32} {b1 b2 b3 b4 b5 b8 b9 : Nat → Int32} {T : List Nat} {wd : Nat → List Nat} {kk : List Nat} {c : Nat} (h : kx_TI a0 a6 a7 a10 b1 b2 b3 b4 b5 b8 b9 T wd kk c) : c ≤ 119 ∧ kk.length ≤ T.length ∧ kk.length ≤ c + 1 := by
  obtain ⟨h1, h2, -, h3, h4, h5, h6, h7, h8, h9, -⟩ := h
  have h10 := kx_fm_len h9 kk (kx_getD_mem h4)
  rw [← h3] at h10
  rcases h5 with ⟨e1, e2, -⟩ | ⟨e1, -⟩
  · subst e1
    simp at h10 ⊢
    omega
  · omega
/-- a text that isn't empty has a phrase under way -/
theorem kx_TI.some_kk {a0 a6 a7 a10 : Int32} {b1 b2 b3 b4 b5 b8 b9 : Nat → Int32} {T : List Nat} {wd : Nat → List Nat} {kk : List Nat} {c : Nat} (h : kx_TI a0 a6 a7 a10 b1 b2 b3 b4 b5 b8 b9 T wd kk c) (hT : T ≠ []) : kk.length = c + 1 ∧ a10 = nI (kk.getD c 0) := by
  obtain ⟨h1, h2, -, h3, h4, h5, -⟩ := h
  rcases h5 with ⟨e1, -, -⟩ | e
  · subst e1
    exact absurd h3 hT
  · exact e
end
section
/-! ROWS: the worlds of the two classes, and the kit's rows in the forms that the walks use (numbers as nI n, calls in one row). -/
abbrev vwCl : List vw_C := [(RX0, TX0, 17), (RX1, TX1, 4)]
abbrev tys_ (cI cB : ClassId) : List (ClassId × FieldType) := [(cI, .int), (cB, .byte)]
/-- the searcher's cells: h 0 the object, h k the array in its field k; a.. its ints, b.. its arrays -/
abbrev XWc (h : Nat → Nat) (cI cB : ClassId) (a0 a6 a7 a10 a11 a14 : Int32) (b1 b2 b3 b4 b5 b8 b9 b12 b13 b15 b16 : Nat → Int32) : va_W :=
  [(h 0, .inr (0, [.int a0, .ref (h 1), .ref (h 2), .ref (h 3), .ref (h 4), .ref (h 5), .int a6, .int a7, .ref (h 8), .ref (h 9), .int a10, .int a11, .ref (h 12), .ref (h 13), .int a14, .ref (h 15), .ref (h 16)])),
   (h 1, .inl (cI, 128, .inl b1)), (h 2, .inl (cI, 128, .inl b2)), (h 3, .inl (cI, 128, .inl b3)), (h 4, .inl (cI, 512, .inl b4)), (h 5, .inl (cI, 512, .inl b5)), (h 8, .inl (cI, 120, .inl b8)), (h 9, .inl (cI, 121, .inl b9)), (h 12, .inl (cI, 10, .inl b12)), (h 13, .inl (cI, 44, .inl b13)), (h 15, .inl (cB, 1408, .inl b15)), (h 16, .inl (cB, 1408, .inl b16))]
abbrev XWs (h : Nat → Nat) (cI cB : ClassId) (u : XS) : va_W := XWc h cI cB u.1.1 u.1.2.1 u.1.2.2.1 u.1.2.2.2.1 u.1.2.2.2.2.1 u.1.2.2.2.2.2 u.2.1 u.2.2.1 u.2.2.2.1 u.2.2.2.2.1 u.2.2.2.2.2.1 u.2.2.2.2.2.2.1 u.2.2.2.2.2.2.2.1 u.2.2.2.2.2.2.2.2.1 u.2.2.2.2.2.2.2.2.2.1 u.2.2.2.2.2.2.2.2.2.2.1 u.2.2.2.2.2.2.2.2.2.2.2
/-- the model's cells: k 0 the object, k 1 letters, k 2 wanted -/
abbrev MWc (k : Nat → Nat) (cI : ClassId) (a1 a3 : Int32) (m0 m2 : Nat → Int32) : va_W :=
  [(k 0, .inr (1, [.ref (k 1), .int a1, .ref (k 2), .int a3])), (k 1, .inl (cI, 120, .inl m0)), (k 2, .inl (cI, 10, .inl m2))]
abbrev MS : Type := (Int32 × Int32) × (XA × XA)
abbrev MWs (k : Nat → Nat) (cI : ClassId) (u : MS) : va_W := MWc k cI u.1.1 u.1.2 u.2.1 u.2.2
abbrev kx_Pr (D : va_G) (tys : List (ClassId × FieldType)) (ws : va_W) (av : List Value) : Array Value → State → Prop := va_Pc av (fun U => va_P D vwCl ws U.heap ∧ va_K D vwCl tys U)
abbrev kx_Pm (D : va_G) (tys : List (ClassId × FieldType)) (ws : va_W) (sz : Nat) (av : List Value) : Array Value → State → Prop := va_Pc av (fun U => U.heap.size = sz ∧ va_P D vwCl ws U.heap ∧ va_K D vwCl tys U ∧ va_D (fun _ => True) ws)
abbrev kx_B {S : Type} (D : va_G) (wo : S → va_W) (A : Nat → Prop) (u : S) (t : State) : Prop := va_P D vwCl (wo u) t.heap ∧ va_D A (wo u)
theorem kx_Pr_blind {D : va_G} {tys : List (ClassId × FieldType)} {ws : va_W} {av : List Value} : FrameBlind (kx_Pr D tys ws av) := fun a U g mk q => by
  obtain ⟨q0, qP, qK⟩ := q
  exact ⟨q0, qP, va_K.moved (u := U) (U := U.calling g mk a) (Vm.Alike.refl U.vm) qK⟩
theorem kx_Pm_blind {D : va_G} {tys : List (ClassId × FieldType)} {ws : va_W} {sz : Nat} {av : List Value} : FrameBlind (kx_Pm D tys ws sz av) := fun a U g mk q => by
  obtain ⟨q0, q1, qP, qK, qD⟩ := q
  exact ⟨q0, q1, qP, va_K.moved (u := U) (U := U.calling g mk a) (Vm.Alike.refl U.vm) qK, qD⟩
theorem kx_filterMap {ws wc : va_W} {is : List Nat} (h : is.map (fun i => ws[i]?) = wc.map some) : is.filterMap (fun i => ws[i]?) = wc := by
  have e : is.filterMap (fun i => ws[i]?) = (is.map (fun i => ws[i]?)).filterMap id := by
    rw [List.filterMap_map]
    rfl
  rw [e, h, List.filterMap_map]
  have e2 : (id ∘ some : (Nat × va_E) → Option (Nat × va_E)) = some := rfl
  rw [e2, List.filterMap_some]
theorem kx_byte : ∀ j, j < 128 → (nI j).toInt8.toInt32 = nI j := by decide +kernel
section KW
variable {p : Program} {l : Launch} {e : Env} {R : Room} {s : State} {m : MethodId} {args : Array Value} {below : List Frame} {meth : Method} {c : Code} {H : Heap} {locs : List Loc} {cells slots : Nat} {Q : State → Prop}
variable {cc : ByteArray} {pc nL : Nat} {ls : Array Slot} {rest st : List Value} {D : va_G} {A : Nat → Prop} {a : Nat} {tys : List (ClassId × FieldType)} {ws : va_W} {H0 : Heap} {own : String} {Ts : List Cond}
theorem kw_top {x y : Int32} (h : x = y) (kk : W p l e R s m args below meth c H locs cells slots Q (F0 m pc ls (.int y :: rest))) : W p l e R s m args below meth c H locs cells slots Q (F0 m pc ls (.int x :: rest)) := by
  rw [h]
  exact kk
theorem kw_iadd {a b : Nat} (S : CallFix p m c cc nL s args Ts own) (hdg : decode cc pc = .ok (.iadd, 1)) (k : W p l e R s m args below meth c H locs cells slots Q (F0 m (pc + 1) ls (.int (nI (a + b)) :: rest))) : W p l e R s m args below meth c H locs cells slots Q (F0 m pc ls (.int (nI b) :: .int (nI a) :: rest)) := lv_iadd S.1 S.2.1 hdg (kw_top (nI_add a b) k)
theorem kw_imul {a b : Nat} (S : CallFix p m c cc nL s args Ts own) (hdg : decode cc pc = .ok (.imul, 1)) (k : W p l e R s m args below meth c H locs cells slots Q (F0 m (pc + 1) ls (.int (nI (a * b)) :: rest))) : W p l e R s m args below meth c H locs cells slots Q (F0 m pc ls (.int (nI b) :: .int (nI a) :: rest)) := lv_imul S.1 S.2.1 hdg (kw_top (pk_mul a b) k)
theorem kw_isub {a b : Nat} (S : CallFix p m c cc nL s args Ts own) (hdg : decode cc pc = .ok (.isub, 1)) (h : b ≤ a) (k : W p l e R s m args below meth c H locs cells slots Q (F0 m (pc + 1) ls (.int (nI (a - b)) :: rest))) : W p l e R s m args below meth c H locs cells slots Q (F0 m pc ls (.int (nI b) :: .int (nI a) :: rest)) := lv_isub S.1 S.2.1 hdg (kw_top (pk_sub h) k)
theorem kw_lt {a b : Nat} (S : CallFix p m c cc nL s args Ts own) {off : Int} {tgt : Nat} (hdg : decode cc pc = .ok (.if_icmp .lt off, 3)) (ht : (pc : Int) + off = (tgt : Int)) (ha : a < 2 ^ 31) (hb : b < 2 ^ 31) (kt : a < b → W p l e R s m args below meth c H locs cells slots Q (F0 m tgt ls rest)) (kf : b ≤ a → W p l e R s m args below meth c H locs cells slots Q (F0 m (pc + 3) ls rest)) : W p l e R s m args below meth c H locs cells slots Q (F0 m pc ls (.int (nI b) :: .int (nI a) :: rest)) :=
  lv_icmp_lt S.1 S.2.1 hdg ht (fun h => kt ((nI_ltI ha hb).mp h)) (fun h => kf (Nat.le_of_not_lt (fun z => h ((nI_ltI ha hb).mpr z))))
theorem kw_ge {a b : Nat} (S : CallFix p m c cc nL s args Ts own) {off : Int} {tgt : Nat} (hdg : decode cc pc = .ok (.if_icmp .ge off, 3)) (ht : (pc : Int) + off = (tgt : Int)) (ha : a < 2 ^ 31) (hb : b < 2 ^ 31) (kt : b ≤ a → W p l e R s m args below meth c H locs cells slots Q (F0 m tgt ls rest)) (kf : a < b → W p l e R s m args below meth c H locs cells slots Q (F0 m (pc + 3) ls rest)) : W p l e R s m args below meth c H locs cells slots Q (F0 m pc ls (.int (nI b) :: .int (nI a) :: rest)) :=
  lv_icmp_ge S.1 S.2.1 hdg ht (fun h => kt ((nI_leI hb ha).mp h)) (fun h => kf (Nat.lt_of_not_le (fun z => h ((nI_leI hb ha).mpr z))))
theorem kw_gt {a b : Nat} (S : CallFix p m c cc nL s args Ts own) {off : Int} {tgt : Nat} (hdg : decode cc pc = .ok (.if_icmp .gt off, 3)) (ht : (pc : Int) + off = (tgt : Int)) (ha : a < 2 ^ 31) (hb : b < 2 ^ 31) (kt : b < a → W p l e R s m args below meth c H locs cells slots Q (F0 m tgt ls rest)) (kf : a ≤ b → W p l e R s m args below meth c H locs cells slots Q (F0 m (pc + 3) ls rest)) : W p l e R s m args below meth c H locs cells slots Q (F0 m pc ls (.int (nI b) :: .int (nI a) :: rest)) :=
  lv_icmp_gt S.1 S.2.1 hdg ht (fun h => kt ((nI_ltI hb ha).mp h)) (fun h => kf (Nat.le_of_not_lt (fun z => h ((nI_ltI hb ha).mpr z))))
theorem kw_le {a b : Nat} (S : CallFix p m c cc nL s args Ts own) {off : Int} {tgt : Nat} (hdg : decode cc pc = .ok (.if_icmp .le off, 3)) (ht : (pc : Int) + off = (tgt : Int)) (ha : a < 2 ^ 31) (hb : b < 2 ^ 31) (kt : a ≤ b → W p l e R s m args below meth c H locs cells slots Q (F0 m tgt ls rest)) (kf : b < a → W p l e R s m args below meth c H locs cells slots Q (F0 m (pc + 3) ls rest)) : W p l e R s m args below meth c H locs cells slots Q (F0 m pc ls (.int (nI b) :: .int (nI a) :: rest)) :=
  lv_icmp_le S.1 S.2.1 hdg ht (fun h => kt ((nI_leI ha hb).mp h)) (fun h => kf (Nat.lt_of_not_le (fun z => h ((nI_leI ha hb).mpr z))))
theorem kw_ne {a b : Nat} (S : CallFix p m c cc nL s args Ts own) {off : Int} {tgt : Nat} (hdg : decode cc pc = .ok (.if_icmp .ne off, 3)) (ht : (pc : Int) + off = (tgt : Int)) (ha : a < 2 ^ 31) (hb : b < 2 ^ 31) (kt : a ≠ b → W p l e R s m args below meth c H locs cells slots Q (F0 m tgt ls rest)) (kf : a = b → W p l e R s m args below meth c H locs cells slots Q (F0 m (pc + 3) ls rest)) : W p l e R s m args below meth c H locs cells slots Q (F0 m pc ls (.int (nI b) :: .int (nI a) :: rest)) :=
  lv_icmp_ne S.1 S.2.1 hdg ht (fun h => kt (fun z => h ((nI_eq ha hb).mpr z))) (fun h => kf ((nI_eq ha hb).mp h))
theorem kw_eq {a b : Nat} (S : CallFix p m c cc nL s args Ts own) {off : Int} {tgt : Nat} (hdg : decode cc pc = .ok (.if_icmp .eq off, 3)) (ht : (pc : Int) + off = (tgt : Int)) (ha : a < 2 ^ 31) (hb : b < 2 ^ 31) (kt : a = b → W p l e R s m args below meth c H locs cells slots Q (F0 m tgt ls rest)) (kf : a ≠ b → W p l e R s m args below meth c H locs cells slots Q (F0 m (pc + 3) ls rest)) : W p l e R s m args below meth c H locs cells slots Q (F0 m pc ls (.int (nI b) :: .int (nI a) :: rest)) :=
  lv_icmp_eq S.1 S.2.1 hdg ht (fun h => kt ((nI_eq ha hb).mp h)) (fun h => kf (fun z => h ((nI_eq ha hb).mpr z)))
theorem kw_if0 {a : Nat} (S : CallFix p m c cc nL s args Ts own) {off : Int} {tgt : Nat} (hdg : decode cc pc = .ok (.ifCond .eq off, 3)) (ht : (pc : Int) + off = (tgt : Int)) (ha : a < 2 ^ 31) (kt : a = 0 → W p l e R s m args below meth c H locs cells slots Q (F0 m tgt ls rest)) (kf : a ≠ 0 → W p l e R s m args below meth c H locs cells slots Q (F0 m (pc + 3) ls rest)) : W p l e R s m args below meth c H locs cells slots Q (F0 m pc ls (.int (nI a) :: rest)) :=
  lv_if_eq S.1 S.2.1 hdg ht (fun h => kt ((nI_eq ha (by decide)).mp h)) (fun h => kf (fun z => h ((nI_eq ha (by decide)).mpr z)))
theorem kw_ifn {a : Nat} (S : CallFix p m c cc nL s args Ts own) {off : Int} {tgt : Nat} (hdg : decode cc pc = .ok (.ifCond .ne off, 3)) (ht : (pc : Int) + off = (tgt : Int)) (ha : a < 2 ^ 31) (kt : a ≠ 0 → W p l e R s m args below meth c H locs cells slots Q (F0 m tgt ls rest)) (kf : a = 0 → W p l e R s m args below meth c H locs cells slots Q (F0 m (pc + 3) ls rest)) : W p l e R s m args below meth c H locs cells slots Q (F0 m pc ls (.int (nI a) :: rest)) :=
  lv_if_ne S.1 S.2.1 hdg ht (fun h => kt (fun z => h ((nI_eq ha (by decide)).mpr z))) (fun h => kf ((nI_eq ha (by decide)).mp h))
theorem kw_iald (S : CallFix p m c cc nL s args Ts own) (hK : va_K D vwCl tys s) (hP : va_P D vwCl ws H) (q0 t0 : Nat) {cA : ClassId} {n : Nat} {f : Nat → Int32} (ha : ws[q0]? = some (a, .inl (cA, n, .inl f))) (ht : tys[t0]? = some (cA, .int)) {k : Nat} {y : Int32} (hk : k < n) (hn : n < 2 ^ 31) (hy : f k = y) (hdg : decode cc pc = .ok (.iaload, 1))
    (kk : W p l e R s m args below meth c H locs cells slots Q (F0 m (pc + 1) ls (.int y :: rest))) : W p l e R s m args below meth c H locs cells slots Q (F0 m pc ls (.int (nI k) :: .ref a :: rest)) :=
  va_iald S.1 S.2.1 hK hP q0 t0 ha ht (vp_in_nI hk hn) hdg (kw_top (by rw [nI_clamp (Nat.lt_trans hk hn)]; exact hy) kk)
theorem kw_bald (S : CallFix p m c cc nL s args Ts own) (hK : va_K D vwCl tys s) (hP : va_P D vwCl ws H) (q0 t0 : Nat) {cA : ClassId} {n : Nat} {f : Nat → Int32} (ha : ws[q0]? = some (a, .inl (cA, n, .inl f))) (ht : tys[t0]? = some (cA, .byte)) {k : Nat} {y : Int32} (hk : k < n) (hn : n < 2 ^ 31) (hy : f k = y) (hdg : decode cc pc = .ok (.baload, 1))
    (kk : W p l e R s m args below meth c H locs cells slots Q (F0 m (pc + 1) ls (.int y :: rest))) : W p l e R s m args below meth c H locs cells slots Q (F0 m pc ls (.int (nI k) :: .ref a :: rest)) :=
  va_bald S.1 S.2.1 hK hP q0 t0 ha ht (vp_in_nI hk hn) hdg (kw_top (by rw [nI_clamp (Nat.lt_trans hk hn)]; exact hy) kk)
theorem kw_iast (S : CallFix p m c cc nL s args Ts own) (hK : va_K D vwCl tys s) (hP : va_P D vwCl ws H) (hD : va_D A ws) (hS : va_S A H0 H locs) (q0 t0 : Nat) {cA : ClassId} {n : Nat} {f : Nat → Int32} (ha : ws[q0]? = some (a, .inl (cA, n, .inl f))) (ht : tys[t0]? = some (cA, .int)) {k : Nat} {x : Int32} (hk : k < n) (hn : n < 2 ^ 31) (hdg : decode cc pc = .ok (.iastore, 1))
    (kk : ∀ (H1 : Heap) (locs1 : List Loc), va_P D vwCl (ws.set q0 (a, .inl (cA, n, .inl (upd f k x)))) H1 → va_D A (ws.set q0 (a, .inl (cA, n, .inl (upd f k x)))) → va_S A H0 H1 locs1 → W p l e R s m args below meth c H1 locs1 cells slots Q (F0 m (pc + 1) ls rest)) : W p l e R s m args below meth c H locs cells slots Q (F0 m pc ls (.int x :: .int (nI k) :: .ref a :: rest)) := by
  refine va_iast S.1 S.2.1 hK hP hD hS q0 t0 ha ht (vp_in_nI hk hn) hdg (fun H1 locs1 h1 h2 h3 => ?_)
  rw [nI_clamp (Nat.lt_trans hk hn)] at h1 h2
  exact kk H1 locs1 h1 h2 h3
theorem kw_bast (S : CallFix p m c cc nL s args Ts own) (hK : va_K D vwCl tys s) (hP : va_P D vwCl ws H) (hD : va_D A ws) (hS : va_S A H0 H locs) (q0 t0 : Nat) {cA : ClassId} {n : Nat} {f : Nat → Int32} (ha : ws[q0]? = some (a, .inl (cA, n, .inl f))) (ht : tys[t0]? = some (cA, .byte)) {k x : Nat} (hk : k < n) (hn : n < 2 ^ 31) (hx : x < 128) (hdg : decode cc pc = .ok (.bastore, 1))
    (kk : ∀ (H1 : Heap) (locs1 : List Loc), va_P D vwCl (ws.set q0 (a, .inl (cA, n, .inl (upd f k (nI x))))) H1 → va_D A (ws.set q0 (a, .inl (cA, n, .inl (upd f k (nI x))))) → va_S A H0 H1 locs1 → W p l e R s m args below meth c H1 locs1 cells slots Q (F0 m (pc + 1) ls rest)) : W p l e R s m args below meth c H locs cells slots Q (F0 m pc ls (.int (nI x) :: .int (nI k) :: .ref a :: rest)) := by
  refine va_bast S.1 S.2.1 hK hP hD hS q0 t0 ha ht (vp_in_nI hk hn) hdg (fun H1 locs1 h1 h2 h3 => ?_)
  rw [nI_clamp (Nat.lt_trans hk hn), vp_nar_byte, kx_byte x hx] at h1 h2
  exact kk H1 locs1 h1 h2 h3
theorem kw_i2b {x : Nat} (S : CallFix p m c cc nL s args Ts own) (hdg : decode cc pc = .ok (.i2b, 1)) (hx : x < 128) (k : W p l e R s m args below meth c H locs cells slots Q (F0 m (pc + 1) ls (.int (nI x) :: rest))) : W p l e R s m args below meth c H locs cells slots Q (F0 m pc ls (.int (nI x) :: rest)) := lv_i2b S.1 S.2.1 hdg (kx_byte x hx) k
theorem x0_get (S : CallFix p m c cc nL s args lw_all RX0) (hK : va_K D vwCl tys s) (hP : va_P D vwCl ws H) {fs : List Value} (he : ws[0]? = some (a, .inr (0, fs))) (k : Nat) (hk : k < 17) {index : Nat} (hlink : Cond.fieldLink RX0 index (TX0 k).1 (TX0 k).2.1 (TX0 k).2.2.1 ∈ lw_all) {v : Value} (hv : fs[k]? = some v) (hdg : decode cc pc = .ok (.getfield index, 3))
    (kk : W p l e R s m args below meth c H locs cells slots Q (F0 m (pc + 3) ls (v :: rest))) : W p l e R s m args below meth c H locs cells slots Q (F0 m pc ls (.ref a :: rest)) :=
  va_get (ci := 0) (C := RX0) (T := TX0) (N := 17) S.1 S.2.1 S.2.2.2.2 in_X0 S.2.2.2.1 hK hP 0 he rfl k hk (S.2.2.2.2 _ hlink) (fun _ h => h) hv hdg kk
theorem x0_put (S : CallFix p m c cc nL s args lw_all RX0) (hK : va_K D vwCl tys s) (hP : va_P D vwCl ws H) (hD : va_D A ws) (hS0 : va_S A H0 H locs) {fs : List Value} (he : ws[0]? = some (a, .inr (0, fs))) (k : Nat) (hk : k < 17) {index : Nat} (hlink : Cond.fieldLink RX0 index (TX0 k).1 (TX0 k).2.1 (TX0 k).2.2.1 ∈ lw_all) (hfin : (TX0 k).2.2.2 = false) {v : Value} (hn : narrow (tyX0 k) v = v) (hfit : fits (tyX0 k) v = true) (hl : k < fs.length) (hdg : decode cc pc = .ok (.putfield index, 3))
    (kk : ∀ (H1 : Heap) (locs1 : List Loc), va_P D vwCl (ws.set 0 (a, .inr (0, fs.set k v))) H1 → va_D A (ws.set 0 (a, .inr (0, fs.set k v))) → va_S A H0 H1 locs1 → W p l e R s m args below meth c H1 locs1 cells slots Q (F0 m (pc + 3) ls rest)) : W p l e R s m args below meth c H locs cells slots Q (F0 m pc ls (v :: .ref a :: rest)) :=
  va_put (ci := 0) (C := RX0) (T := TX0) (N := 17) S.1 S.2.1 S.2.2.2.2 in_X0 tyX0 tyX0_ok nmX0 S.2.2.2.1 hK hP hD hS0 0 he rfl k hk (S.2.2.2.2 _ hlink) (fun _ h => h) hfin (tyX0_ok k hk) hn hfit hl hdg kk
theorem x0_putF (S : CallFix p m c cc nL s args lw_all RX0) (hK : va_K D vwCl tys s) (hP : va_P D vwCl ws H) (hD : va_D A ws) (hS0 : va_S A H0 H locs) (hin2 : meth.name = "<init>") {fs : List Value} (he : ws[0]? = some (a, .inr (0, fs))) (k : Nat) (hk : k < 17) {index : Nat} (hlink : Cond.fieldLink RX0 index (TX0 k).1 (TX0 k).2.1 (TX0 k).2.2.1 ∈ lw_all) (hfin : (TX0 k).2.2.2 = true) (hdecl : (TX0 k).1 = RX0) {v : Value} (hn : narrow (tyX0 k) v = v) (hfit : fits (tyX0 k) v = true) (hl : k < fs.length) (hdg : decode cc pc = .ok (.putfield index, 3))
    (kk : ∀ (H1 : Heap) (locs1 : List Loc), va_P D vwCl (ws.set 0 (a, .inr (0, fs.set k v))) H1 → va_D A (ws.set 0 (a, .inr (0, fs.set k v))) → va_S A H0 H1 locs1 → W p l e R s m args below meth c H1 locs1 cells slots Q (F0 m (pc + 3) ls rest)) : W p l e R s m args below meth c H locs cells slots Q (F0 m pc ls (v :: .ref a :: rest)) :=
  va_putF (ci := 0) (C := RX0) (T := TX0) (N := 17) S.1 S.2.1 S.2.2.2.2 in_X0 tyX0 tyX0_ok nmX0 S.2.2.2.1 hK hP hD hS0 0 he rfl k hk (S.2.2.2.2 _ hlink) (fun _ h => h) hfin hin2 hdecl (tyX0_ok k hk) hn hfit hl hdg kk
theorem x1_get (S : CallFix p m c cc nL s args lw_all RX1) (hK : va_K D vwCl tys s) (hP : va_P D vwCl ws H) {fs : List Value} (he : ws[0]? = some (a, .inr (1, fs))) (k : Nat) (hk : k < 4) {index : Nat} (hlink : Cond.fieldLink RX1 index (TX1 k).1 (TX1 k).2.1 (TX1 k).2.2.1 ∈ lw_all) {v : Value} (hv : fs[k]? = some v) (hdg : decode cc pc = .ok (.getfield index, 3))
    (kk : W p l e R s m args below meth c H locs cells slots Q (F0 m (pc + 3) ls (v :: rest))) : W p l e R s m args below meth c H locs cells slots Q (F0 m pc ls (.ref a :: rest)) :=
  va_get (ci := 1) (C := RX1) (T := TX1) (N := 4) S.1 S.2.1 S.2.2.2.2 in_X1 S.2.2.2.1 hK hP 0 he rfl k hk (S.2.2.2.2 _ hlink) (fun _ h => h) hv hdg kk
theorem x1_put (S : CallFix p m c cc nL s args lw_all RX1) (hK : va_K D vwCl tys s) (hP : va_P D vwCl ws H) (hD : va_D A ws) (hS0 : va_S A H0 H locs) {fs : List Value} (he : ws[0]? = some (a, .inr (1, fs))) (k : Nat) (hk : k < 4) {index : Nat} (hlink : Cond.fieldLink RX1 index (TX1 k).1 (TX1 k).2.1 (TX1 k).2.2.1 ∈ lw_all) (hfin : (TX1 k).2.2.2 = false) {v : Value} (hn : narrow (tyX1 k) v = v) (hfit : fits (tyX1 k) v = true) (hl : k < fs.length) (hdg : decode cc pc = .ok (.putfield index, 3))
    (kk : ∀ (H1 : Heap) (locs1 : List Loc), va_P D vwCl (ws.set 0 (a, .inr (1, fs.set k v))) H1 → va_D A (ws.set 0 (a, .inr (1, fs.set k v))) → va_S A H0 H1 locs1 → W p l e R s m args below meth c H1 locs1 cells slots Q (F0 m (pc + 3) ls rest)) : W p l e R s m args below meth c H locs cells slots Q (F0 m pc ls (v :: .ref a :: rest)) :=
  va_put (ci := 1) (C := RX1) (T := TX1) (N := 4) S.1 S.2.1 S.2.2.2.2 in_X1 tyX1 tyX1_ok nmX1 S.2.2.2.1 hK hP hD hS0 0 he rfl k hk (S.2.2.2.2 _ hlink) (fun _ h => h) hfin (tyX1_ok k hk) hn hfit hl hdg kk
theorem x1_putF (S : CallFix p m c cc nL s args lw_all RX1) (hK : va_K D vwCl tys s) (hP : va_P D vwCl ws H) (hD : va_D A ws) (hS0 : va_S A H0 H locs) (hin2 : meth.name = "<init>") {fs : List Value} (he : ws[0]? = some (a, .inr (1, fs))) (k : Nat) (hk : k < 4) {index : Nat} (hlink : Cond.fieldLink RX1 index (TX1 k).1 (TX1 k).2.1 (TX1 k).2.2.1 ∈ lw_all) (hfin : (TX1 k).2.2.2 = true) (hdecl : (TX1 k).1 = RX1) {v : Value} (hn : narrow (tyX1 k) v = v) (hfit : fits (tyX1 k) v = true) (hl : k < fs.length) (hdg : decode cc pc = .ok (.putfield index, 3))
    (kk : ∀ (H1 : Heap) (locs1 : List Loc), va_P D vwCl (ws.set 0 (a, .inr (1, fs.set k v))) H1 → va_D A (ws.set 0 (a, .inr (1, fs.set k v))) → va_S A H0 H1 locs1 → W p l e R s m args below meth c H1 locs1 cells slots Q (F0 m (pc + 3) ls rest)) : W p l e R s m args below meth c H locs cells slots Q (F0 m pc ls (v :: .ref a :: rest)) :=
  va_putF (ci := 1) (C := RX1) (T := TX1) (N := 4) S.1 S.2.1 S.2.2.2.2 in_X1 tyX1 tyX1_ok nmX1 S.2.2.2.1 hK hP hD hS0 0 he rfl k hk (S.2.2.2.2 _ hlink) (fun _ h => h) hfin hin2 hdecl (tyX1_ok k hk) hn hfit hl hdg kk
variable {y : MethodName} {bytes : ByteArray} {maxL n index : Nat} {ret : Option FieldType} {rm : Room} {C : String} {b : Addr} {As : List Value} {ci : Nat} {T : u_T} {N : Nat} {fs : List Value} {wc wr : va_W}
/-- a call of a method that only reads: the heap stays -/
theorem kw_ro {post : Int32 → Prop} (S : CallFix p m c cc nL s args lw_all own) (hls : ls.size = nL) (hK : va_K D vwCl tys s) (hP : va_P D vwCl ws H) (isC : List Nat) (hC : isC.map (fun i => ws[i]?) = wc.map some) (hc : vwCl[ci]? = some (C, T, N)) (he : wc[0]? = some (b, .inr (ci, fs)))
    (hM : Met l y (ws_ y bytes maxL ret) rm (kx_Pr D tys wc (.ref b :: As)) (vp_Si post) 0 0 (fun _ => False))
    (hV : GoodIn lw_all (wsV own index C y (ws_ y bytes maxL ret))) (hrc : rm.cells = 0) (hrs : rm.slots = 0)
    (hd : y.cls = C ∧ y.cls ≠ "java/lang/invoke/MethodHandle" ∧ y.cls ≠ "java/lang/invoke/VarHandle" ∧ (parseMethodDescriptor y.desc).map (fun d => d.parameters.length) = some n) (hR : rm.frames + 1 ≤ R.frames ∧ 8 + (maxL + 11) + rm.locals ≤ R.locals)
    (hn : As.length = n) (hst : st = As.reverse ++ .ref b :: rest) (hrest : (rest.map fun v => v.category).sum ≤ 8) (hdg : decode cc pc = .ok (.invokevirtual index, 3)) (hf : cells ≤ R.cells ∧ slots ≤ R.slots)
    (kk : ∀ r : Int32, post r → W p l e R s m args below meth c H locs cells slots Q (F0 m (pc + 3) ls (.int r :: rest))) :
    W p l e R s m args below meth c H locs cells slots Q (F0 m pc ls st) := by
  have hPc : va_P D vwCl wc H := hP.sub isC (kx_filterMap hC)
  exact vp_callSi (va_Run.run (va_runV (As := As) (rest := rest) S hM (cwV n S.2.2.2.2 hV rfl hrc hrs hd hR) ⟨kx_Pr_blind, va_recv hK hPc hc he, fun U hU hW => ⟨rfl, by rw [hU]; exact hPc, va_K.moved hW.alike hK⟩⟩ rfl hn hls hst (lv_room hrest) hdg hf)) kk
/-- a call that changes the cells wc (places isC of the world) and answers an int -/
theorem kw_mi {S0 : Type} {post : Int32 → S0 → Prop} {wo : S0 → va_W} (S : CallFix p m c cc nL s args lw_all own) (hls : ls.size = nL) (hK : va_K D vwCl tys s) (hP : va_P D vwCl ws H) (hD : va_D A ws) (hS : va_S A s.heap H locs) (hA : ∀ q, s.heap.size ≤ q → A q) (isC isR : List Nat) (hC : isC.map (fun i => ws[i]?) = wc.map some) (hR0 : isR.map (fun i => ws[i]?) = wr.map some) (hnC : va_nd isC = true) (hnR : va_nd isR = true) (hdis : ∀ i ∈ isR, i ∉ isC) (hc : vwCl[ci]? = some (C, T, N)) (he : wc[0]? = some (b, .inr (ci, fs)))
    (hM : ∀ sz, Met l y (ws_ y bytes maxL ret) rm (kx_Pm D tys wc sz (.ref b :: As)) (va_Qi post (kx_B D wo (va_A wc sz)) (va_A wc sz)) 0 0 (va_A wc sz))
    (hV : GoodIn lw_all (wsV own index C y (ws_ y bytes maxL ret))) (hrc : rm.cells = 0) (hrs : rm.slots = 0)
    (hd : y.cls = C ∧ y.cls ≠ "java/lang/invoke/MethodHandle" ∧ y.cls ≠ "java/lang/invoke/VarHandle" ∧ (parseMethodDescriptor y.desc).map (fun d => d.parameters.length) = some n) (hR : rm.frames + 1 ≤ R.frames ∧ 8 + (maxL + 11) + rm.locals ≤ R.locals)
    (hn : As.length = n) (hst : st = As.reverse ++ .ref b :: rest) (hrest : (rest.map fun v => v.category).sum ≤ 8) (hdg : decode cc pc = .ok (.invokevirtual index, 3)) (hf : cells ≤ R.cells ∧ slots ≤ R.slots)
    (kk : ∀ (r : Int32) (u : S0) (H1 : Heap) (locs1 : List Loc), post r u → va_P D vwCl (wr ++ wo u) H1 → va_D A (wr ++ wo u) → va_S A s.heap H1 locs1 → W p l e R s m args below meth c H1 locs1 cells slots Q (F0 m (pc + 3) ls (.int r :: rest))) :
    W p l e R s m args below meth c H locs cells slots Q (F0 m pc ls st) := by
  have hPc : va_P D vwCl wc H := hP.sub isC (kx_filterMap hC)
  have hDc : va_D A wc := hD.sub isC hnC hC
  have hFc := va_free (wc := wc) hD hS hA isC hC
  refine va_calli (va_runV (As := As) (rest := rest) S (hM H.size) (cwV n S.2.2.2.2 hV rfl hrc hrs hd hR) ⟨kx_Pm_blind, va_recv hK hPc hc he, fun U hU hW => ⟨rfl, by rw [hU], by rw [hU]; exact hPc, va_K.moved hW.alike hK, hDc.weaken (fun _ _ _ _ => trivial)⟩⟩ rfl hn hls hst (lv_room hrest) hdg hf) hS (fun q _ h => hFc q h) hFc (fun r u t H1 locs1 ht hvm hw hB hz hk hS1 => ?_)
  obtain ⟨hP1, hD1⟩ := hB
  rw [ht] at hP1
  obtain ⟨hP2, hD2⟩ := va_join hP hD isC isR hC hR0 hnR hdis hk hFc hP1 hD1
  exact kk r u H1 locs1 hw hP2 hD2 hS1
/-- the same, void -/
theorem kw_mv {S0 : Type} {post : S0 → Prop} {wo : S0 → va_W} (S : CallFix p m c cc nL s args lw_all own) (hls : ls.size = nL) (hK : va_K D vwCl tys s) (hP : va_P D vwCl ws H) (hD : va_D A ws) (hS : va_S A s.heap H locs) (hA : ∀ q, s.heap.size ≤ q → A q) (isC isR : List Nat) (hC : isC.map (fun i => ws[i]?) = wc.map some) (hR0 : isR.map (fun i => ws[i]?) = wr.map some) (hnC : va_nd isC = true) (hnR : va_nd isR = true) (hdis : ∀ i ∈ isR, i ∉ isC) (hc : vwCl[ci]? = some (C, T, N)) (he : wc[0]? = some (b, .inr (ci, fs)))
    (hM : ∀ sz, Met l y (ws_ y bytes maxL ret) rm (kx_Pm D tys wc sz (.ref b :: As)) (va_Qv post (kx_B D wo (va_A wc sz)) (va_A wc sz)) 0 0 (va_A wc sz))
    (hV : GoodIn lw_all (wsV own index C y (ws_ y bytes maxL ret))) (hrc : rm.cells = 0) (hrs : rm.slots = 0)
    (hd : y.cls = C ∧ y.cls ≠ "java/lang/invoke/MethodHandle" ∧ y.cls ≠ "java/lang/invoke/VarHandle" ∧ (parseMethodDescriptor y.desc).map (fun d => d.parameters.length) = some n) (hR : rm.frames + 1 ≤ R.frames ∧ 8 + (maxL + 11) + rm.locals ≤ R.locals)
    (hn : As.length = n) (hst : st = As.reverse ++ .ref b :: rest) (hrest : (rest.map fun v => v.category).sum ≤ 8) (hdg : decode cc pc = .ok (.invokevirtual index, 3)) (hf : cells ≤ R.cells ∧ slots ≤ R.slots)
    (kk : ∀ (u : S0) (H1 : Heap) (locs1 : List Loc), post u → va_P D vwCl (wr ++ wo u) H1 → va_D A (wr ++ wo u) → va_S A s.heap H1 locs1 → W p l e R s m args below meth c H1 locs1 cells slots Q (F0 m (pc + 3) ls rest)) :
    W p l e R s m args below meth c H locs cells slots Q (F0 m pc ls st) := by
  have hPc : va_P D vwCl wc H := hP.sub isC (kx_filterMap hC)
  have hDc : va_D A wc := hD.sub isC hnC hC
  have hFc := va_free (wc := wc) hD hS hA isC hC
  refine va_callv (va_runV (As := As) (rest := rest) S (hM H.size) (cwV n S.2.2.2.2 hV rfl hrc hrs hd hR) ⟨kx_Pm_blind, va_recv hK hPc hc he, fun U hU hW => ⟨rfl, by rw [hU], by rw [hU]; exact hPc, va_K.moved hW.alike hK, hDc.weaken (fun _ _ _ _ => trivial)⟩⟩ rfl hn hls hst (lv_room hrest) hdg hf) hS (fun q _ h => hFc q h) hFc (fun u t H1 locs1 ht hvm hw hB hz hk hS1 => ?_)
  obtain ⟨hP1, hD1⟩ := hB
  rw [ht] at hP1
  obtain ⟨hP2, hD2⟩ := va_join hP hD isC isR hC hR0 hnR hdis hk hFc hP1 hD1
  exact kk u H1 locs1 hw hP2 hD2 hS1
end KW
end
section
/-! PLAIN LAWS 3: what the methods answer, and what one step does to the text. -/
theorem kx_nlt {x : Int32} (h : 0 ≤ x) : ¬ x < 0 := by
  rw [Int32.lt_iff_toInt_lt]
  rw [Int32.le_iff_toInt_le] at h
  omega
theorem kx_clamp_neg {x : Int32} (h : ¬ 0 ≤ x) : x.toNatClampNeg = 0 := by
  rw [Int32.le_iff_toInt_le] at h
  have h0 : (0 : Int32).toInt = 0 := rfl
  rw [h0] at h
  show x.toInt.toNat = 0
  omega
theorem kx_clamp_lt {x : Int32} (h : x < 0) : x.toNatClampNeg = 0 := by
  refine kx_clamp_neg (fun z => kx_nlt z h)
theorem kx_toInt_clamp (x : Int32) : x.toNatClampNeg = x.toInt.toNat := rfl
/-- letterAt -/
def kx_la (T : List Nat) (x : Int32) : Int32 := if x < 0 then -4 else if nI T.length ≤ x then -4 else nI (T.getD x.toNatClampNeg 0)
theorem kx_la_in {T : List Nat} {j : Nat} (hj : j < T.length) (h : T.length < 2 ^ 31) : kx_la T (nI j) = nI (T.getD j 0) := by
  rw [kx_la, if_neg (nI_pos (by omega)), if_neg (nI_ge hj h), nI_clamp (by omega)]
theorem kx_getD_take {L : List Nat} {t k : Nat} (h : t < k) : (L.take k).getD t 0 = L.getD t 0 := by
  rw [List.getD_eq_getElem?_getD, List.getD_eq_getElem?_getD, List.getElem?_take_of_lt h]
theorem kx_letter {wd : Nat → List Nat} {kk : List Nat} {b1 : XA} {i j q lt : Nat} (hi : i < kk.length) (hs1 : kx_st wd kk i ≤ j) (hjn : j < kx_st wd kk (i + 1)) (hwq : wd q = (wd (kk.getD i 0)).take (j - kx_st wd kk i + 1)) (g3 : (b1 q = -1 ∧ wd q = [lt]) ∨ ∃ q2, q2 < q ∧ b1 q = nI q2 ∧ wd q = wd q2 ++ [lt]) : (kk.flatMap wd).getD j 0 = lt := by
  rw [kx_st_s hi] at hjn
  obtain ⟨t, et⟩ : ∃ t, t = j - kx_st wd kk i := ⟨_, rfl⟩
  have e1 := kx_T_get (wd := wd) (kk := kk) (i := i) (j := t) hi (by omega)
  rw [show kx_st wd kk i + t = j by omega] at e1
  rw [e1]
  rw [← et] at hwq
  have hlen : (wd q).length = t + 1 := by
    rw [hwq, List.length_take]
    omega
  have e2 : (wd (kk.getD i 0)).getD t 0 = (wd q).getD t 0 := by
    rw [hwq, kx_getD_take (by omega)]
  rw [e2]
  have last : ∀ A : List Nat, wd q = A ++ [lt] → (wd q).getD t 0 = lt := by
    intro A hA
    have hAl : A.length = t := by
      have h1 := congrArg List.length hA
      rw [List.length_append, List.length_singleton] at h1
      omega
    rw [hA, ← hAl]
    exact kx_getD_last A lt
  rcases g3 with ⟨-, e⟩ | ⟨q2, -, -, e⟩
  · exact last [] e
  · exact last _ e
theorem kx_seg {wd : Nat → List Nat} {kk : List Nat} {i N : Nat} (hi : i < kk.length) (h : kx_st wd kk i ≤ N) : (kk.flatMap wd).take (min N (kx_st wd kk (i + 1))) = (kk.flatMap wd).take (kx_st wd kk i) ++ (wd (kk.getD i 0)).take (N - kx_st wd kk i) := by
  rw [kx_st_s hi]
  have e : min N (kx_st wd kk i + (wd (kk.getD i 0)).length) = kx_st wd kk i + min (N - kx_st wd kk i) (wd (kk.getD i 0)).length := by omega
  rw [e, kx_T_take hi (Nat.min_le_right _ _), ← List.take_eq_take_min]
/-- frequency -/
def kx_frq (T : List Nat) (x y : Int32) : Int32 := if x < 0 ∨ ¬ x ≤ nI 3 then -1 else nI ((T.take y.toNatClampNeg).count x.toNatClampNeg)
/-- append, repeat, pattern: the answer and the new text or pattern -/
def kx_appR (T : List Nat) (x : Int32) : Int32 := if x < 0 ∨ ¬ x ≤ nI 3 then -1 else if 120 ≤ T.length then -2 else nI (T.length + 1)
def kx_appT (T : List Nat) (x : Int32) : List Nat := if x < 0 ∨ ¬ x ≤ nI 3 then T else if 120 ≤ T.length then T else T ++ [x.toNatClampNeg]
def kx_patR (w : List Nat) (x : Int32) : Int32 := if x < 0 ∨ ¬ x ≤ nI 3 then -1 else if 10 ≤ w.length then -2 else nI (w.length + 1)
def kx_patW (w : List Nat) (x : Int32) : List Nat := if x < 0 ∨ ¬ x ≤ nI 3 then w else if 10 ≤ w.length then w else w ++ [x.toNatClampNeg]
theorem kx_okn {lt : Nat} (h : lt < 4) : ¬ (nI lt < 0 ∨ ¬ nI lt ≤ nI 3) := by
  intro z
  rcases z with z | z
  · exact nI_pos (by omega) z
  · exact z (nI_le (by omega) (by decide))
theorem kx_appR_in {T : List Nat} {lt : Nat} (h : lt < 4) (hT : T.length < 120) : kx_appR T (nI lt) = nI (T.length + 1) := by
  rw [kx_appR, if_neg (kx_okn h), if_neg (by omega)]
theorem kx_appT_in {T : List Nat} {lt : Nat} (h : lt < 4) (hT : T.length < 120) : kx_appT T (nI lt) = T ++ [lt] := by
  rw [kx_appT, if_neg (kx_okn h), if_neg (by omega), nI_clamp (by omega)]
theorem kx_patR_in {w : List Nat} {lt : Nat} (h : lt < 4) (hT : w.length < 10) : kx_patR w (nI lt) = nI (w.length + 1) := by
  rw [kx_patR, if_neg (kx_okn h), if_neg (by omega)]
theorem kx_patW_in {w : List Nat} {lt : Nat} (h : lt < 4) (hT : w.length < 10) : kx_patW w (nI lt) = w ++ [lt] := by
  rw [kx_patW, if_neg (kx_okn h), if_neg (by omega), nI_clamp (by omega)]
def kx_ext (T : List Nat) (j : Nat) : Nat → List Nat
  | 0 => T
  | k + 1 => kx_ext T j k ++ [(kx_ext T j k).getD (j + k) 0]
theorem kx_ext_s (T : List Nat) (j k : Nat) : kx_ext T j (k + 1) = kx_ext T j k ++ [(kx_ext T j k).getD (j + k) 0] := rfl
theorem kx_ext_len (T : List Nat) (j : Nat) : ∀ k, (kx_ext T j k).length = T.length + k
  | 0 => rfl
  | k + 1 => by
    rw [kx_ext_s, List.length_append, List.length_singleton, kx_ext_len T j k]
    omega
theorem kx_ext_lt {T : List Nat} {j : Nat} (hT : ∀ x, x ∈ T → x < 4) (hj : j < T.length) : ∀ k, ∀ x, x ∈ kx_ext T j k → x < 4
  | 0 => hT
  | k + 1 => by
    intro x hx
    have ih := kx_ext_lt hT hj k
    rw [kx_ext_s] at hx
    rcases List.mem_append.mp hx with h | h
    · exact ih x h
    · rw [List.mem_singleton.mp h]
      exact kx_mem_getD ih (by rw [kx_ext_len]; omega)
theorem kx_ext_at {T : List Nat} {j : Nat} (hT : ∀ x, x ∈ T → x < 4) (hj : j < T.length) (k : Nat) : (kx_ext T j k).getD (j + k) 0 < 4 := kx_mem_getD (kx_ext_lt hT hj k) (by rw [kx_ext_len]; omega)
theorem kx_ext_app {T : List Nat} {j k : Nat} (hT : ∀ x, x ∈ T → x < 4) (hj : j < T.length) (h : T.length + k < 120) : kx_appT (kx_ext T j k) (nI ((kx_ext T j k).getD (j + k) 0)) = kx_ext T j (k + 1) := by
  rw [kx_appT_in (kx_ext_at hT hj k) (by rw [kx_ext_len]; omega), kx_ext_s]
def kx_repR (T : List Nat) (x y : Int32) : Int32 := if x < 0 ∨ nI T.length ≤ x then -3 else if 120 - T.length < y.toNatClampNeg then -2 else nI (T.length + y.toNatClampNeg)
def kx_repT (T : List Nat) (x y : Int32) : List Nat := if x < 0 ∨ nI T.length ≤ x then T else if 120 - T.length < y.toNatClampNeg then T else kx_ext T x.toNatClampNeg y.toNatClampNeg
/-- countWithin -/
def kx_cw (T w : List Nat) (x : Int32) : Nat := if w.length = 0 then 0 else kx_hit w 0 (T.take (min x.toNatClampNeg T.length))
/-- makePhrase's loop -/
theorem kx_mkv {cc bb v : XA} {k i : Nat} (hi : i < 4) (h : ∀ j, cc j = if j / 4 = k ∧ j % 4 < i then v (j % 4) else bb j) : ∀ j, upd cc (k * 4 + i) (v i) j = if j / 4 = k ∧ j % 4 < i + 1 then v (j % 4) else bb j := by
  intro j
  by_cases e : j = k * 4 + i
  · subst e
    rw [pk_us, if_pos (by omega), show (k * 4 + i) % 4 = i by omega]
  · rw [pk_un e, h j]
    by_cases e2 : j / 4 = k ∧ j % 4 < i
    · rw [if_pos e2, if_pos (by omega)]
    · rw [if_neg e2, if_neg (by omega)]
theorem kx_mk_end {k lt i : Nat} {up sz : Int32} {tb b1 b2 b3 b4 b5 c4 c5 : XA} (hi : 4 ≤ i) (hlt : lt < 4) (h4 : ∀ j, c4 j = if j / 4 = k ∧ j % 4 < i then (fun _ => -1 : XA) (j % 4) else b4 j) (h5 : ∀ j, c5 j = if j / 4 = k ∧ j % 4 < i then tb (j % 4) else b5 j) :
    kx_Mk k up lt sz tb b1 b2 b3 b4 b5 (upd b1 k up) (upd b2 k (nI lt)) (upd b3 k sz) c4 (upd c5 (k * 4 + lt) (tb lt + nI 1)) := by
  refine ⟨rfl, rfl, rfl, fun j => ?_, fun j => ?_⟩
  · rw [h4 j]
    by_cases e : j / 4 = k
    · rw [if_pos (by omega), if_pos e]
    · rw [if_neg (by omega), if_neg e]
  · by_cases e : j = k * 4 + lt
    · subst e
      rw [pk_us, if_pos (by omega), show (k * 4 + lt) % 4 = lt by omega, if_pos rfl]
      rfl
    · rw [pk_un e, h5 j]
      by_cases e2 : j / 4 = k
      · rw [if_pos (by omega), if_pos e2, if_neg (by omega), Int32.add_zero]
      · rw [if_neg (by omega), if_neg e2]
/-- the text grows by a letter: first letter; along a known phrase; a new phrase -/
theorem kx_app_A {a0 a6 a7 a10 : Int32} {b1 b2 b3 b4 b5 b8 b9 : XA} {T kk : List Nat} {wd : Nat → List Nat} {c lt : Nat} (h : kx_TI a0 a6 a7 a10 b1 b2 b3 b4 b5 b8 b9 T wd kk c) (hk : kk = []) (hc : c = 0) (hlt : lt < 4) : kx_TI (nI (4 + c)) (nI (T.length + 1)) (nI c) (nI lt) b1 b2 b3 b4 b5 b8 (upd b9 c (nI 0)) (T ++ [lt]) wd [lt] c := by
  obtain ⟨h1, h2, h2b, h3, h4, h5, h6, h7, h8, h9, h10, h11⟩ := h
  subst hk
  subst hc
  have hT : T = [] := h3
  subst hT
  refine ⟨by simp, fun x hx => ?_, h2b, ?_, fun i hi => ?_, Or.inr ⟨rfl, rfl⟩, rfl, rfl, rfl, h9, fun i hi => absurd hi (Nat.not_lt_zero _), fun i hi => ?_⟩
  · have e : x = lt := by simpa using hx
    rw [e]
    exact hlt
  · rw [List.flatMap_cons, List.flatMap_nil, h2b lt hlt]
    rfl
  · have e : i = 0 := by simpa using hi
    subst e
    show lt < 4 + 0
    omega
  · have e : i = 0 := by omega
    subst e
    rw [pk_us, kx_st_0]
theorem kx_app_B {a0 a6 a7 a10 : Int32} {b1 b2 b3 b4 b5 b8 b9 : XA} {T kk : List Nat} {wd : Nat → List Nat} {c lt ch : Nat} (h : kx_TI a0 a6 a7 a10 b1 b2 b3 b4 b5 b8 b9 T wd kk c) (hk : kk.length = c + 1) (hT : T.length < 120) (hlt : lt < 4) (hch : ch < 4 + c) (hw : wd ch = wd (kk.getD c 0) ++ [lt]) : kx_TI (nI (4 + c)) (nI (T.length + 1)) (nI c) (nI ch) b1 b2 b3 b4 b5 b8 b9 (T ++ [lt]) wd (kk.take c ++ [ch]) c := by
  obtain ⟨h1, h2, h2b, h3, h4, h5, h6, h7, h8, h9, h10, h11⟩ := h
  have hl : (kk.take c).length = c := by
    rw [List.length_take]
    omega
  have hg : ∀ i, i < c → (kk.take c ++ [ch]).getD i 0 = kk.getD i 0 := by
    intro i hi
    rw [kx_getD_app _ (by omega), List.getD_eq_getElem?_getD, List.getD_eq_getElem?_getD, List.getElem?_take_of_lt hi]
  have hgc : (kk.take c ++ [ch]).getD c 0 = ch := by
    have e := kx_getD_last (kk.take c) ch
    rwa [hl] at e
  refine ⟨?_, fun x hx => ?_, h2b, ?_, fun i hi => ?_, Or.inr ⟨?_, by rw [hgc]⟩, rfl, ?_, rfl, h9, fun i hi => ?_, fun i hi => ?_⟩
  · rw [List.length_append, List.length_singleton]
    omega
  · rcases List.mem_append.mp hx with z | z
    · exact h2 x z
    · rw [List.mem_singleton.mp z]
      exact hlt
  · have e := kx_cutT (wd := wd) (kk := kk) (i := c) (by omega)
    rw [List.drop_of_length_le (by omega), List.flatMap_nil, List.append_nil] at e
    rw [h3, e, List.flatMap_append, List.flatMap_cons, List.flatMap_nil, List.append_nil, hw, List.append_assoc]
  · rw [List.length_append, List.length_singleton, hl] at hi
    rcases Nat.lt_or_ge i c with z | z
    · rw [hg i z]
      exact h4 i (by omega)
    · have e : i = c := by omega
      rw [e, hgc]
      exact hch
  · rw [List.length_append, List.length_singleton, hl]
  · rw [List.length_append, List.length_singleton]
  · rw [hg i hi]
    exact h10 i hi
  · have e : (kk.take c ++ [ch]).take i = kk.take i := by rw [List.take_append_of_le_length (by omega), List.take_take, Nat.min_eq_left hi]
    rw [h11 i hi]
    unfold kx_st
    rw [e]
theorem kx_fm_congr {wd we : Nat → List Nat} : ∀ kk : List Nat, (∀ x, x ∈ kk → we x = wd x) → kk.flatMap we = kk.flatMap wd
  | [], _ => rfl
  | a :: kk, h => by rw [List.flatMap_cons, List.flatMap_cons, h a (by simp), kx_fm_congr kk (fun x hx => h x (by simp [hx]))]
theorem kx_dict_mono {P B B2 : Nat} {wd : Nat → List Nat} {b1 b2 b3 b4 b5 : XA} (h : kx_Dict P B wd b1 b2 b3 b4 b5) (hB : B ≤ B2) : kx_Dict P B2 wd b1 b2 b3 b4 b5 := by
  intro p hp
  obtain ⟨l, g1, g2, g3, g4, g5, g6⟩ := h p hp
  refine ⟨l, g1, g2, g3, g4, g5, fun x hx => ?_⟩
  rcases g6 x hx with e | ⟨q, q1, q2⟩
  · exact Or.inl e
  · exact Or.inr ⟨q, by omega, q2⟩
theorem kx_app_C {a0 a6 a7 a10 : Int32} {b1 b2 b3 b4 b5 b8 b9 d1 d2 d3 d4 d5 : XA} {T kk : List Nat} {wd : Nat → List Nat} {c lt o : Nat} (h : kx_TI a0 a6 a7 a10 b1 b2 b3 b4 b5 b8 b9 T wd kk c) (hk : kk.length = c + 1) (hT : T.length < 120) (hlt : lt < 4) (ho : o = kk.getD c 0)
    (hm : kx_Mk (4 + c) (nI o) lt (b3 o + nI 1) (fun x => b5 (o * 4 + x)) b1 b2 b3 (upd b4 (o * 4 + lt) (nI (4 + c))) b5 d1 d2 d3 d4 d5) : kx_TI (nI (4 + c + 1)) (nI (T.length + 1)) (nI (c + 1)) (nI lt) d1 d2 d3 d4 d5 (upd b8 c (nI o)) (upd b9 (c + 1) (nI T.length)) (T ++ [lt]) (fun p => if p = 4 + c then wd o ++ [lt] else wd p) (kk ++ [lt]) (c + 1) := by
  obtain ⟨h1, h2, h2b, h3, h4, h5, h6, h7, h8, h9, h10, h11⟩ := h
  obtain ⟨we, ewe⟩ : ∃ we : Nat → List Nat, we = fun p => if p = 4 + c then wd o ++ [lt] else wd p := ⟨_, rfl⟩
  rw [← ewe]
  have ho4 : o < 4 + c := by
    rw [ho]
    exact h4 c (by omega)
  have wl : ∀ p, p < 4 + c → we p = wd p := fun p hp => by
    rw [ewe]
    exact if_neg (by omega)
  have wn : we (4 + c) = wd o ++ [lt] := by
    rw [ewe]
    exact if_pos rfl
  have hmem := kx_getD_mem h4
  have hfm : kk.flatMap we = kk.flatMap wd := kx_fm_congr kk (fun x hx => wl x (hmem x hx))
  refine ⟨?_, fun x hx => ?_, fun x hx => ?_, ?_, fun i hi => ?_, Or.inr ⟨?_, ?_⟩, rfl, ?_, rfl, ?_, fun i hi => ?_, fun i hi => ?_⟩
  · rw [List.length_append, List.length_singleton]
    omega
  · rcases List.mem_append.mp hx with z | z
    · exact h2 x z
    · rw [List.mem_singleton.mp z]
      exact hlt
  · rw [wl x (by omega)]
    exact h2b x hx
  · rw [List.flatMap_append, List.flatMap_cons, List.flatMap_nil, List.append_nil, hfm, wl lt (by omega), h2b lt hlt, h3]
  · rw [List.length_append, List.length_singleton, hk] at hi
    rcases Nat.lt_or_ge i (c + 1) with z | z
    · rw [kx_getD_app _ (by omega)]
      have := h4 i (by omega)
      omega
    · have e : i = kk.length := by omega
      rw [e, kx_getD_last]
      omega
  · rw [List.length_append, List.length_singleton, hk]
  · have e := kx_getD_last kk lt
    rw [hk] at e
    rw [e]
  · rw [List.length_append, List.length_singleton]
  · have hd : kx_Dict (4 + c) (4 + c + 1) we b1 b2 b3 (upd b4 (o * 4 + lt) (nI (4 + c))) b5 := by
      intro p hp
      obtain ⟨l, g1, g2, g3, g4, g5, g6⟩ := h9 p hp
      refine ⟨l, g1, g2, ?_, by rw [wl p hp]; exact g4, by rw [wl p hp]; exact g5, fun x hx => ?_⟩
      · rcases g3 with ⟨e1, e2⟩ | ⟨q, q1, q2, q3⟩
        · exact Or.inl ⟨e1, by rw [wl p hp]; exact e2⟩
        · exact Or.inr ⟨q, q1, q2, by rw [wl p hp, wl q (by omega)]; exact q3⟩
      · by_cases e : p * 4 + x = o * 4 + lt
        · refine Or.inr ⟨4 + c, by omega, by rw [e, pk_us], ?_⟩
          have e1 : p = o := by omega
          have e2 : x = lt := by omega
          rw [wn, wl p hp, e1, e2]
        · rw [pk_un e, wl p hp]
          rcases g6 x hx with z | ⟨q, q1, q2, q3⟩
          · exact Or.inl z
          · exact Or.inr ⟨q, by omega, q2, by rw [wl q q1]; exact q3⟩
    exact kx_dict_push hd hlt hm (Or.inr ⟨o, ho4, rfl, rfl, fun _ _ => rfl, by rw [wl o ho4]; exact wn⟩)
  · rcases Nat.lt_or_ge i c with z | z
    · rw [pk_un (by omega), kx_getD_app _ (by omega)]
      exact h10 i z
    · have e : i = c := by omega
      rw [e, pk_us, kx_getD_app _ (by omega), ho]
  · have e : (kk ++ [lt]).take i = kk.take i := List.take_append_of_le_length (by omega)
    have e2 : (kk.take i).flatMap we = (kk.take i).flatMap wd := kx_fm_congr _ (fun x hx => wl x (hmem x (List.mem_of_mem_take hx)))
    unfold kx_st
    rw [e, e2]
    rcases Nat.lt_or_ge c i with z | z
    · have ei : i = c + 1 := by omega
      rw [ei, pk_us, List.take_of_length_le (by omega), ← h3]
    · rw [pk_un (by omega), h11 i z]
      rfl
/-- an empty text -/
theorem kx_TI_nil {b1 b2 b3 b4 b5 b8 b9 : XA} (h : kx_Dict 4 4 (fun x => [x]) b1 b2 b3 b4 b5) (h9 : b9 0 = nI 0) : kx_TI (nI 4) (nI 0) (nI 0) (-1) b1 b2 b3 b4 b5 b8 b9 [] (fun x => [x]) [] 0 := by
  refine ⟨by simp, fun x hx => absurd hx List.not_mem_nil, fun x _ => rfl, rfl, fun i hi => absurd hi (Nat.not_lt_zero _), Or.inl ⟨rfl, rfl, rfl⟩, rfl, rfl, rfl, h, fun i hi => absurd hi (Nat.not_lt_zero _), fun i hi => ?_⟩
  have e : i = 0 := by omega
  rw [e, h9, kx_st_0]
end
section
/-! CONTRACTS of LzwSearcher: the methods that only read (printed by gen/x0ro.py) -/
set_option maxHeartbeats 4000000 in
set_option maxRecDepth 100000 in
/-- length(): the field -/
theorem met_X0_length (l : Launch) (D : va_G) (ad : Nat → Nat) (cI cB : ClassId) (a0 a6 a7 a10 a11 a14 : Int32) (b1 b2 b3 b4 b5 b8 b9 b12 b13 b15 b16 : XA)  : Met l yX0_length (ws_ yX0_length cX0_length 1 (some .int)) ({ frames := 0, cells := 0, slots := 0, locals := 0 }) (kx_Pr D (tys_ cI cB) (XWc ad cI cB a0 a6 a7 a10 a11 a14 b1 b2 b3 b4 b5 b8 b9 b12 b13 b15 b16) [.ref (ad 0)]) (vp_Si (fun r => r = a6)) 0 0 (fun _ => False) := by
  refine Met.ofW (cc := cX0_length) (maxL := 1) (ret := (some .int)) (by decide) rfl ?_
  intro p e s m args below meth c s₁ B hml hv
  obtain ⟨rfl, hP, hK⟩ := hv
  have hx := B.exec
  have hb := B.bytes
  have hr := B.returns
  have hts := atoms_spec (ws := ws_ yX0_length cX0_length 1 (some .int)) B.pre
  have hts : ∀ w ∈ lw_all, w.before _ s = true := fun w h => hts w (List.mem_cons_of_mem _ h)
  have hown : s.vm.findClass RX0 = some m.cls := findClass_of_methodNamed B.named
  have hlocks := B.notSynchronized
  have S0 : CallFix p m c cX0_length 1 s _ lw_all RX0 := ⟨hx, hb, hml, hown, hts⟩
  have hl := lv_entry ([.ref (ad 0)]) (n := 1) (Nat.le_of_ble_eq_true rfl)
  rw [lg_entry_eq]
  generalize (lg_sl ([.ref (ad 0)]) ++ List.replicate (1 - (lg_sl ([.ref (ad 0)])).length) Slot.unset).toArray = ls at hl ⊢
  have hl : lv_has ls 1 [(0, .ref (ad 0))] := hl
  refine lv_aload_n hx hb dX0_length_0 rfl (lv_at hl 0 rfl) ?_
  refine x0_get (v := .int a6) S0 hK hP rfl 6 (by decide) q38 rfl dX0_length_1 ?_
  exact W.iret (v := a6) hx hb hr (fun t ht hW => ⟨_, rfl, rfl, ht⟩) (fun q h => absurd h List.not_mem_nil) dX0_length_4
set_option maxHeartbeats 4000000 in
set_option maxRecDepth 100000 in
/-- phraseAt(j): the phrase number j of the text -/
theorem met_X0_phraseAt (l : Launch) (D : va_G) (ad : Nat → Nat) (cI cB : ClassId) (a0 a6 a7 a10 a11 a14 : Int32) (b1 b2 b3 b4 b5 b8 b9 b12 b13 b15 b16 : XA) (kk : List Nat) (cN : Nat) (h7 : a7 = nI cN) (hc : cN ≤ 119) (h8 : ∀ i, i < cN → b8 i = nI (kk.getD i 0)) (h10 : a10 = nI (kk.getD cN 0)) (j : Nat) (hj : j ≤ cN) : Met l yX0_phraseAt (ws_ yX0_phraseAt cX0_phraseAt 2 (some .int)) ({ frames := 0, cells := 0, slots := 0, locals := 0 }) (kx_Pr D (tys_ cI cB) (XWc ad cI cB a0 a6 a7 a10 a11 a14 b1 b2 b3 b4 b5 b8 b9 b12 b13 b15 b16) [.ref (ad 0), .int (nI j)]) (vp_Si (fun r => r = nI (kk.getD j 0))) 0 0 (fun _ => False) := by
  refine Met.ofW (cc := cX0_phraseAt) (maxL := 2) (ret := (some .int)) (by decide) rfl ?_
  intro p e s m args below meth c s₁ B hml hv
  obtain ⟨rfl, hP, hK⟩ := hv
  have hx := B.exec
  have hb := B.bytes
  have hr := B.returns
  have hts := atoms_spec (ws := ws_ yX0_phraseAt cX0_phraseAt 2 (some .int)) B.pre
  have hts : ∀ w ∈ lw_all, w.before _ s = true := fun w h => hts w (List.mem_cons_of_mem _ h)
  have hown : s.vm.findClass RX0 = some m.cls := findClass_of_methodNamed B.named
  have hlocks := B.notSynchronized
  have S0 : CallFix p m c cX0_phraseAt 2 s _ lw_all RX0 := ⟨hx, hb, hml, hown, hts⟩
  have hl := lv_entry ([.ref (ad 0), .int (nI j)]) (n := 2) (Nat.le_of_ble_eq_true rfl)
  rw [lg_entry_eq]
  generalize (lg_sl ([.ref (ad 0), .int (nI j)]) ++ List.replicate (2 - (lg_sl ([.ref (ad 0), .int (nI j)])).length) Slot.unset).toArray = ls at hl ⊢
  have hl : lv_has ls 2 [(0, .ref (ad 0)), (1, .int (nI j))] := hl
  subst h7
  subst h10
  refine lv_iload_n hx hb dX0_phraseAt_0 rfl (lv_at hl 1 rfl) ?_
  refine lv_aload_n hx hb dX0_phraseAt_1 rfl (lv_at hl 0 rfl) ?_
  refine x0_get (v := .int (nI cN)) S0 hK hP rfl 7 (by decide) q39 rfl dX0_phraseAt_2 ?_
  refine kw_ge (tgt := 17) S0 dX0_phraseAt_5 (by decide) (by omega) (by omega) (fun c1 => ?_) (fun c1 => ?_)
  · have ej : j = cN := by omega
    refine lv_aload_n hx hb dX0_phraseAt_17 rfl (lv_at hl 0 rfl) ?_
    refine x0_get (v := .int (nI (kk.getD cN 0))) S0 hK hP rfl 10 (by decide) q42 rfl dX0_phraseAt_18 ?_
    exact W.iret (v := nI (kk.getD cN 0)) hx hb hr (fun t ht hW => ⟨_, rfl, by rw [ej], ht⟩) (fun q h => absurd h List.not_mem_nil) dX0_phraseAt_21
  · refine lv_aload_n hx hb dX0_phraseAt_8 rfl (lv_at hl 0 rfl) ?_
    refine x0_get (v := .ref (ad 8)) S0 hK hP rfl 8 (by decide) q40 rfl dX0_phraseAt_9 ?_
    refine lv_iload_n hx hb dX0_phraseAt_12 rfl (lv_at hl 1 rfl) ?_
    refine kw_iald (y := nI (kk.getD j 0)) S0 hK hP 6 0 rfl rfl (by omega) (by decide) (h8 j c1) dX0_phraseAt_13 ?_
    refine lv_goto (tgt := 21) hx hb dX0_phraseAt_14 (by decide) ?_
    exact W.iret (v := nI (kk.getD j 0)) hx hb hr (fun t ht hW => ⟨_, rfl, rfl, ht⟩) (fun q h => absurd h List.not_mem_nil) dX0_phraseAt_21
set_option maxHeartbeats 4000000 in
set_option maxRecDepth 100000 in
/-- clampLength(x) -/
theorem met_X0_clampLength (l : Launch) (D : va_G) (ad : Nat → Nat) (cI cB : ClassId) (a0 a6 a7 a10 a11 a14 : Int32) (b1 b2 b3 b4 b5 b8 b9 b12 b13 b15 b16 : XA) (N : Nat) (h6 : a6 = nI N) (hN : N ≤ 120) (x : Int32) : Met l yX0_clampLength (ws_ yX0_clampLength cX0_clampLength 2 (some .int)) ({ frames := 0, cells := 0, slots := 0, locals := 0 }) (kx_Pr D (tys_ cI cB) (XWc ad cI cB a0 a6 a7 a10 a11 a14 b1 b2 b3 b4 b5 b8 b9 b12 b13 b15 b16) [.ref (ad 0), .int x]) (vp_Si (fun r => r = nI (min x.toNatClampNeg N))) 0 0 (fun _ => False) := by
  refine Met.ofW (cc := cX0_clampLength) (maxL := 2) (ret := (some .int)) (by decide) rfl ?_
  intro p e s m args below meth c s₁ B hml hv
  obtain ⟨rfl, hP, hK⟩ := hv
  have hx := B.exec
  have hb := B.bytes
  have hr := B.returns
  have hts := atoms_spec (ws := ws_ yX0_clampLength cX0_clampLength 2 (some .int)) B.pre
  have hts : ∀ w ∈ lw_all, w.before _ s = true := fun w h => hts w (List.mem_cons_of_mem _ h)
  have hown : s.vm.findClass RX0 = some m.cls := findClass_of_methodNamed B.named
  have hlocks := B.notSynchronized
  have S0 : CallFix p m c cX0_clampLength 2 s _ lw_all RX0 := ⟨hx, hb, hml, hown, hts⟩
  have hl := lv_entry ([.ref (ad 0), .int x]) (n := 2) (Nat.le_of_ble_eq_true rfl)
  rw [lg_entry_eq]
  generalize (lg_sl ([.ref (ad 0), .int x]) ++ List.replicate (2 - (lg_sl ([.ref (ad 0), .int x])).length) Slot.unset).toArray = ls at hl ⊢
  have hl : lv_has ls 2 [(0, .ref (ad 0)), (1, .int x)] := hl
  subst h6
  refine lv_iload_n hx hb dX0_clampLength_0 rfl (lv_at hl 1 rfl) ?_
  refine lv_if_ge (tgt := 6) hx hb dX0_clampLength_1 (by decide) (fun c1 => ?_) (fun c1 => ?_)
  · obtain ⟨j, hj, ej⟩ := nI_of (kx_nlt c1)
    refine lv_iload_n hx hb dX0_clampLength_6 rfl (lv_at hl 1 rfl) ?_
    refine kw_top (y := nI j) ej ?_
    refine lv_aload_n hx hb dX0_clampLength_7 rfl (lv_at hl 0 rfl) ?_
    refine x0_get (v := .int (nI N)) S0 hK hP rfl 6 (by decide) q38 rfl dX0_clampLength_8 ?_
    refine kw_le (tgt := 21) S0 dX0_clampLength_11 (by decide) (by omega) (by omega) (fun c2 => ?_) (fun c2 => ?_)
    · refine lv_iload_n hx hb dX0_clampLength_21 rfl (lv_at hl 1 rfl) ?_
      refine kw_top (y := nI j) ej ?_
      exact W.iret (v := nI j) hx hb hr (fun t ht hW => ⟨_, rfl, by rw [ej, nI_clamp hj, Nat.min_eq_left c2], ht⟩) (fun q h => absurd h List.not_mem_nil) dX0_clampLength_22
    · refine lv_aload_n hx hb dX0_clampLength_14 rfl (lv_at hl 0 rfl) ?_
      refine x0_get (v := .int (nI N)) S0 hK hP rfl 6 (by decide) q38 rfl dX0_clampLength_15 ?_
      refine lv_goto (tgt := 22) hx hb dX0_clampLength_18 (by decide) ?_
      exact W.iret (v := nI N) hx hb hr (fun t ht hW => ⟨_, rfl, by rw [ej, nI_clamp hj, Nat.min_eq_right (Nat.le_of_lt c2)], ht⟩) (fun q h => absurd h List.not_mem_nil) dX0_clampLength_22
  · refine lv_iconst (v := nI 0) hx hb dX0_clampLength_4 rfl ?_
    exact W.iret (v := nI 0) hx hb hr (fun t ht hW => ⟨_, rfl, by rw [kx_clamp_neg c1, Nat.zero_min], ht⟩) (fun q h => absurd h List.not_mem_nil) dX0_clampLength_5
set_option maxHeartbeats 4000000 in
set_option maxRecDepth 100000 in
/-- beginning(ph, k): the phrase of the first k letters -/
theorem met_X0_beginning (l : Launch) (D : va_G) (ad : Nat → Nat) (cI cB : ClassId) (a0 a6 a7 a10 a11 a14 : Int32) (b1 b2 b3 b4 b5 b8 b9 b12 b13 b15 b16 : XA) (P : Nat) (wd : Nat → List Nat) (hP8 : P ≤ 128) (hDi : kx_Dict P P wd b1 b2 b3 b4 b5) (ph k : Nat) (hph : ph < P) (hk : 1 ≤ k) (hk2 : k < 2 ^ 31) : Met l yX0_beginning (ws_ yX0_beginning cX0_beginning 4 (some .int)) ({ frames := 0, cells := 0, slots := 0, locals := 0 }) (kx_Pr D (tys_ cI cB) (XWc ad cI cB a0 a6 a7 a10 a11 a14 b1 b2 b3 b4 b5 b8 b9 b12 b13 b15 b16) [.ref (ad 0), .int (nI ph), .int (nI k)]) (vp_Si (fun r => ∃ q, r = nI q ∧ q < P ∧ wd q = (wd ph).take k)) 0 0 (fun _ => False) := by
  refine Met.ofW (cc := cX0_beginning) (maxL := 4) (ret := (some .int)) (by decide) rfl ?_
  intro p e s m args below meth c s₁ B hml hv
  obtain ⟨rfl, hP, hK⟩ := hv
  have hx := B.exec
  have hb := B.bytes
  have hr := B.returns
  have hts := atoms_spec (ws := ws_ yX0_beginning cX0_beginning 4 (some .int)) B.pre
  have hts : ∀ w ∈ lw_all, w.before _ s = true := fun w h => hts w (List.mem_cons_of_mem _ h)
  have hown : s.vm.findClass RX0 = some m.cls := findClass_of_methodNamed B.named
  have hlocks := B.notSynchronized
  have S0 : CallFix p m c cX0_beginning 4 s _ lw_all RX0 := ⟨hx, hb, hml, hown, hts⟩
  have hl := lv_entry ([.ref (ad 0), .int (nI ph), .int (nI k)]) (n := 4) (Nat.le_of_ble_eq_true rfl)
  rw [lg_entry_eq]
  generalize (lg_sl ([.ref (ad 0), .int (nI ph), .int (nI k)]) ++ List.replicate (4 - (lg_sl ([.ref (ad 0), .int (nI ph), .int (nI k)])).length) Slot.unset).toArray = ls at hl ⊢
  have hl : lv_has ls 4 [(0, .ref (ad 0)), (1, .int (nI ph)), (2, .int (nI k))] := hl
  have loop : ∀ (z q : Nat), q < z → q < P → (wd q).take k = (wd ph).take k → ∀ (ls : Array Slot), lv_has ls 4 [(3, .int (nI q)), (0, .ref (ad 0)), (1, .int (nI ph)), (2, .int (nI k))] → W p l e (headSpec (ws_ yX0_beginning cX0_beginning 4 (some .int)) ({ frames := 0, cells := 0, slots := 0, locals := 0 })).room s m ([.ref (ad 0), .int (nI ph), .int (nI k)] : List Value).toArray below meth c s.heap [] 0 0 (MQ below (vp_Si (fun r => ∃ q, r = nI q ∧ q < P ∧ wd q = (wd ph).take k)) ([.ref (ad 0), .int (nI ph), .int (nI k)] : List Value).toArray s 0 0 (fun _ => False)) (F0 m 2 ls []) := by
    intro z
    induction z with
    | zero => intro q h1; exact absurd h1 (Nat.not_lt_zero _)
    | succ z ih =>
      intro q hqz hq hw ls hl
      obtain ⟨lt, g1, g2, g3, g4, g5, g6⟩ := hDi q hq
      have hlen := kx_dict_len hDi q hq
      refine lv_aload_n hx hb dX0_beginning_2 rfl (lv_at hl 1 rfl) ?_
      refine x0_get (v := .ref (ad 3)) S0 hK hP rfl 3 (by decide) q35 rfl dX0_beginning_3 ?_
      refine lv_iload_n hx hb dX0_beginning_6 rfl (lv_at hl 0 rfl) ?_
      refine kw_iald (y := nI ((wd q).length)) S0 hK hP 3 0 rfl rfl (by omega) (by decide) (g4) dX0_beginning_7 ?_
      refine lv_iload_n hx hb dX0_beginning_8 rfl (lv_at hl 3 rfl) ?_
      refine kw_le (tgt := 22) S0 dX0_beginning_9 (by decide) (by omega) (by omega) (fun c1 => ?_) (fun c1 => ?_)
      · refine lv_iload_n hx hb dX0_beginning_22 rfl (lv_at hl 0 rfl) ?_
        exact W.iret (v := nI q) hx hb hr (fun t ht hW => ⟨_, rfl, ⟨q, rfl, hq, by rw [← hw, List.take_of_length_le c1]⟩, ht⟩) (fun q h => absurd h List.not_mem_nil) dX0_beginning_23
      · rcases g3 with ⟨e1, e2⟩ | ⟨q2, hq2, e1, e2⟩
        · rw [e2, List.length_singleton] at c1
          exact absurd c1 (by omega)
        · refine lv_aload_n hx hb dX0_beginning_12 rfl (lv_at hl 1 rfl) ?_
          refine x0_get (v := .ref (ad 1)) S0 hK hP rfl 1 (by decide) q33 rfl dX0_beginning_13 ?_
          refine lv_iload_n hx hb dX0_beginning_16 rfl (lv_at hl 0 rfl) ?_
          refine kw_iald (y := nI q2) S0 hK hP 1 0 rfl rfl (by omega) (by decide) (e1) dX0_beginning_17 ?_
          refine lv_istore_n (lv' := [(3, .int (nI q2)), (0, .ref (ad 0)), (1, .int (nI ph)), (2, .int (nI k))]) hx hb dX0_beginning_18 rfl hl (by decide) rfl (fun ls hl => ?_)
          refine lv_goto (tgt := 2) hx hb dX0_beginning_19 (by decide) ?_
          refine ih q2 (by omega) (by omega) ?_ ls (lv_sub hl [0, 1, 2, 3] rfl)
          rw [e2, List.length_append, List.length_singleton] at c1
          rw [← hw, e2, List.take_append_of_le_length (by omega)]
  refine lv_iload_n hx hb dX0_beginning_0 rfl (lv_at hl 1 rfl) ?_
  refine lv_istore_n (lv' := [(3, .int (nI ph)), (0, .ref (ad 0)), (1, .int (nI ph)), (2, .int (nI k))]) hx hb dX0_beginning_1 rfl hl (by decide) rfl (fun ls hl => ?_)
  exact loop (ph + 1) ph (by omega) hph rfl ls (lv_sub hl [0, 1, 2, 3] rfl)
set_option maxHeartbeats 4000000 in
set_option maxRecDepth 100000 in
/-- phraseHolding(x): the phrase that holds the letter x -/
theorem met_X0_phraseHolding (l : Launch) (D : va_G) (ad : Nat → Nat) (cI cB : ClassId) (a0 a6 a7 a10 a11 a14 : Int32) (b1 b2 b3 b4 b5 b8 b9 b12 b13 b15 b16 : XA) (st : Nat → Nat) (cN : Nat) (h7 : a7 = nI cN) (hc : cN ≤ 119) (h9 : ∀ i, i ≤ cN → b9 i = nI (st i)) (hst : ∀ i, st i < 2 ^ 31) (x : Nat) (hx31 : x < 2 ^ 31) (h0 : st 0 ≤ x) : Met l yX0_phraseHolding (ws_ yX0_phraseHolding cX0_phraseHolding 5 (some .int)) ({ frames := 0, cells := 0, slots := 0, locals := 0 }) (kx_Pr D (tys_ cI cB) (XWc ad cI cB a0 a6 a7 a10 a11 a14 b1 b2 b3 b4 b5 b8 b9 b12 b13 b15 b16) [.ref (ad 0), .int (nI x)]) (vp_Si (fun r => ∃ i, r = nI i ∧ i ≤ cN ∧ st i ≤ x ∧ (i < cN → x < st (i + 1)))) 0 0 (fun _ => False) := by
  refine Met.ofW (cc := cX0_phraseHolding) (maxL := 5) (ret := (some .int)) (by decide) rfl ?_
  intro p e s m args below meth c s₁ B hml hv
  obtain ⟨rfl, hP, hK⟩ := hv
  have hx := B.exec
  have hb := B.bytes
  have hr := B.returns
  have hts := atoms_spec (ws := ws_ yX0_phraseHolding cX0_phraseHolding 5 (some .int)) B.pre
  have hts : ∀ w ∈ lw_all, w.before _ s = true := fun w h => hts w (List.mem_cons_of_mem _ h)
  have hown : s.vm.findClass RX0 = some m.cls := findClass_of_methodNamed B.named
  have hlocks := B.notSynchronized
  have S0 : CallFix p m c cX0_phraseHolding 5 s _ lw_all RX0 := ⟨hx, hb, hml, hown, hts⟩
  have hl := lv_entry ([.ref (ad 0), .int (nI x)]) (n := 5) (Nat.le_of_ble_eq_true rfl)
  rw [lg_entry_eq]
  generalize (lg_sl ([.ref (ad 0), .int (nI x)]) ++ List.replicate (5 - (lg_sl ([.ref (ad 0), .int (nI x)])).length) Slot.unset).toArray = ls at hl ⊢
  have hl : lv_has ls 5 [(0, .ref (ad 0)), (1, .int (nI x))] := hl
  subst h7
  have loop : ∀ (z lo hi : Nat), hi - lo < z → lo ≤ hi → hi ≤ cN → st lo ≤ x → (hi < cN → x < st (hi + 1)) → ∀ (ls : Array Slot), lv_has ls 5 [(2, .int (nI lo)), (3, .int (nI hi)), (0, .ref (ad 0)), (1, .int (nI x))] → W p l e (headSpec (ws_ yX0_phraseHolding cX0_phraseHolding 5 (some .int)) ({ frames := 0, cells := 0, slots := 0, locals := 0 })).room s m ([.ref (ad 0), .int (nI x)] : List Value).toArray below meth c s.heap [] 0 0 (MQ below (vp_Si (fun r => ∃ i, r = nI i ∧ i ≤ cN ∧ st i ≤ x ∧ (i < cN → x < st (i + 1)))) ([.ref (ad 0), .int (nI x)] : List Value).toArray s 0 0 (fun _ => False)) (F0 m 7 ls []) := by
    intro z
    induction z with
    | zero => intro lo hi h1; exact absurd h1 (Nat.not_lt_zero _)
    | succ z ih =>
      intro lo hi hz hlh hhc hlo hhi ls hl
      refine lv_iload_n hx hb dX0_phraseHolding_7 rfl (lv_at hl 0 rfl) ?_
      refine lv_iload_n hx hb dX0_phraseHolding_8 rfl (lv_at hl 1 rfl) ?_
      refine kw_ge (tgt := 46) S0 dX0_phraseHolding_9 (by decide) (by omega) (by omega) (fun c1 => ?_) (fun c1 => ?_)
      · have elh : lo = hi := by omega
        refine lv_iload_n hx hb dX0_phraseHolding_46 rfl (lv_at hl 0 rfl) ?_
        exact W.iret (v := nI lo) hx hb hr (fun t ht hW => ⟨_, rfl, ⟨lo, rfl, by omega, hlo, by rw [elh]; exact hhi⟩, ht⟩) (fun q h => absurd h List.not_mem_nil) dX0_phraseHolding_47
      · obtain ⟨md, emd⟩ : ∃ md : Nat, md = (lo + hi + 1) / 2 := ⟨_, rfl⟩
        refine lv_iload_n hx hb dX0_phraseHolding_12 rfl (lv_at hl 0 rfl) ?_
        refine lv_iload_n hx hb dX0_phraseHolding_13 rfl (lv_at hl 1 rfl) ?_
        refine kw_iadd S0 dX0_phraseHolding_14 ?_
        refine lv_iconst (v := nI 1) hx hb dX0_phraseHolding_15 rfl ?_
        refine kw_iadd S0 dX0_phraseHolding_16 ?_
        refine lv_iconst (v := nI 2) hx hb dX0_phraseHolding_17 rfl ?_
        refine lv_idiv hx hb dX0_phraseHolding_18 (by decide) ?_
        refine kw_top (y := nI md) (by rw [emd]; exact pk_div (by omega) (by decide) (by decide)) ?_
        refine lv_istore (lv' := [(4, .int (nI md)), (2, .int (nI lo)), (3, .int (nI hi)), (0, .ref (ad 0)), (1, .int (nI x))]) hx hb dX0_phraseHolding_19 hl (by decide) rfl (fun ls hl => ?_)
        refine lv_aload_n hx hb dX0_phraseHolding_21 rfl (lv_at hl 3 rfl) ?_
        refine x0_get (v := .ref (ad 9)) S0 hK hP rfl 9 (by decide) q41 rfl dX0_phraseHolding_22 ?_
        refine lv_iload hx hb dX0_phraseHolding_25 (lv_at hl 0 rfl) ?_
        refine kw_iald (y := nI (st md)) S0 hK hP 7 0 rfl rfl (by omega) (by decide) (h9 md (by omega)) dX0_phraseHolding_27 ?_
        refine lv_iload_n hx hb dX0_phraseHolding_28 rfl (lv_at hl 4 rfl) ?_
        refine kw_gt (tgt := 38) S0 dX0_phraseHolding_29 (by decide) (hst md) (hx31) (fun c2 => ?_) (fun c2 => ?_)
        · refine lv_iload hx hb dX0_phraseHolding_38 (lv_at hl 0 rfl) ?_
          refine lv_iconst (v := nI 1) hx hb dX0_phraseHolding_40 rfl ?_
          refine kw_isub S0 dX0_phraseHolding_41 (by omega) ?_
          refine lv_istore_n (lv' := [(3, .int (nI (md - 1))), (4, .int (nI md)), (2, .int (nI lo)), (0, .ref (ad 0)), (1, .int (nI x))]) hx hb dX0_phraseHolding_42 rfl hl (by decide) rfl (fun ls hl => ?_)
          refine lv_goto (tgt := 7) hx hb dX0_phraseHolding_43 (by decide) ?_
          refine ih lo (md - 1) (by omega) (by omega) (by omega) hlo (fun _ => ?_) ls (lv_sub hl [2, 0, 3, 4] rfl)
          rw [show md - 1 + 1 = md by omega]
          exact c2
        · refine lv_iload hx hb dX0_phraseHolding_32 (lv_at hl 0 rfl) ?_
          refine lv_istore_n (lv' := [(2, .int (nI md)), (4, .int (nI md)), (3, .int (nI hi)), (0, .ref (ad 0)), (1, .int (nI x))]) hx hb dX0_phraseHolding_34 rfl hl (by decide) rfl (fun ls hl => ?_)
          refine lv_goto (tgt := 43) hx hb dX0_phraseHolding_35 (by decide) ?_
          refine lv_goto (tgt := 7) hx hb dX0_phraseHolding_43 (by decide) ?_
          exact ih md hi (by omega) (by omega) hhc c2 hhi ls (lv_sub hl [0, 2, 3, 4] rfl)
  refine lv_iconst (v := nI 0) hx hb dX0_phraseHolding_0 rfl ?_
  refine lv_istore_n (lv' := [(2, .int (nI 0)), (0, .ref (ad 0)), (1, .int (nI x))]) hx hb dX0_phraseHolding_1 rfl hl (by decide) rfl (fun ls hl => ?_)
  refine lv_aload_n hx hb dX0_phraseHolding_2 rfl (lv_at hl 1 rfl) ?_
  refine x0_get (v := .int (nI cN)) S0 hK hP rfl 7 (by decide) q39 rfl dX0_phraseHolding_3 ?_
  refine lv_istore_n (lv' := [(3, .int (nI cN)), (2, .int (nI 0)), (0, .ref (ad 0)), (1, .int (nI x))]) hx hb dX0_phraseHolding_6 rfl hl (by decide) rfl (fun ls hl => ?_)
  exact loop (cN + 1) 0 cN (by omega) (by omega) (by omega) h0 (fun h => absurd h (by omega)) ls (lv_sub hl [1, 0, 2, 3] rfl)
set_option maxHeartbeats 4000000 in
set_option maxRecDepth 100000 in
/-- letterAt(x) -/
theorem met_X0_letterAt (l : Launch) (D : va_G) (ad : Nat → Nat) (cI cB : ClassId) (a0 a6 a7 a10 a11 a14 : Int32) (b1 b2 b3 b4 b5 b8 b9 b12 b13 b15 b16 : XA) (T : List Nat) (wd : Nat → List Nat) (kk : List Nat) (cN : Nat) (hT : kx_TI a0 a6 a7 a10 b1 b2 b3 b4 b5 b8 b9 T wd kk cN) (x : Int32) : Met l yX0_letterAt (ws_ yX0_letterAt cX0_letterAt 4 (some .int)) ({ frames := 1, cells := 0, slots := 0, locals := 24 }) (kx_Pr D (tys_ cI cB) (XWc ad cI cB a0 a6 a7 a10 a11 a14 b1 b2 b3 b4 b5 b8 b9 b12 b13 b15 b16) [.ref (ad 0), .int x]) (vp_Si (fun r => r = kx_la T x)) 0 0 (fun _ => False) := by
  refine Met.ofW (cc := cX0_letterAt) (maxL := 4) (ret := (some .int)) (by decide) rfl ?_
  intro p e s m args below meth c s₁ B hml hv
  obtain ⟨rfl, hP, hK⟩ := hv
  have hx := B.exec
  have hb := B.bytes
  have hr := B.returns
  have hts := atoms_spec (ws := ws_ yX0_letterAt cX0_letterAt 4 (some .int)) B.pre
  have hts : ∀ w ∈ lw_all, w.before _ s = true := fun w h => hts w (List.mem_cons_of_mem _ h)
  have hown : s.vm.findClass RX0 = some m.cls := findClass_of_methodNamed B.named
  have hlocks := B.notSynchronized
  have S0 : CallFix p m c cX0_letterAt 4 s _ lw_all RX0 := ⟨hx, hb, hml, hown, hts⟩
  have hl := lv_entry ([.ref (ad 0), .int x]) (n := 4) (Nat.le_of_ble_eq_true rfl)
  rw [lg_entry_eq]
  generalize (lg_sl ([.ref (ad 0), .int x]) ++ List.replicate (4 - (lg_sl ([.ref (ad 0), .int x])).length) Slot.unset).toArray = ls at hl ⊢
  have hl : lv_has ls 4 [(0, .ref (ad 0)), (1, .int x)] := hl
  have hT0 := hT
  have hcl := hT.c_le
  obtain ⟨t1, t2, t2b, t3, t4, t5, rfl, rfl, rfl, t9, t10, t11⟩ := hT
  refine lv_iload_n hx hb dX0_letterAt_0 rfl (lv_at hl 1 rfl) ?_
  refine lv_if_lt (tgt := 12) hx hb dX0_letterAt_1 (by decide) (fun c1 => ?_) (fun c1 => ?_)
  · refine lv_bipush (v := (-4)) hx hb dX0_letterAt_12 rfl ?_
    exact W.iret (v := (-4)) hx hb hr (fun t ht hW => ⟨_, rfl, by rw [kx_la, if_pos c1], ht⟩) (fun q h => absurd h List.not_mem_nil) dX0_letterAt_14
  · obtain ⟨j, hj, ej⟩ := nI_of c1
    refine lv_iload_n hx hb dX0_letterAt_4 rfl (lv_at hl 1 rfl) ?_
    refine kw_top (y := nI j) ej ?_
    refine lv_aload_n hx hb dX0_letterAt_5 rfl (lv_at hl 0 rfl) ?_
    refine x0_get (v := .int (nI T.length)) S0 hK hP rfl 6 (by decide) q38 rfl dX0_letterAt_6 ?_
    refine kw_lt (tgt := 15) S0 dX0_letterAt_9 (by decide) (hj) (by omega) (fun c2 => ?_) (fun c2 => ?_)
    · have hTn : T ≠ [] := fun z => by rw [z] at c2; exact absurd c2 (Nat.not_lt_zero _)
      obtain ⟨hkl, h10⟩ := hT0.some_kk hTn
      have hstb : ∀ i, kx_st wd kk i < 2 ^ 31 := fun i => by have := kx_st_le wd kk i; rw [← t3] at this; omega
      refine lv_aload_n hx hb dX0_letterAt_15 rfl (lv_at hl 0 rfl) ?_
      refine lv_iload_n hx hb dX0_letterAt_16 rfl (lv_at hl 1 rfl) ?_
      refine kw_top (y := nI j) ej ?_
      refine kw_ro (n := 1) (wc := (XWc ad cI cB (nI (4 + cN)) (nI T.length) (nI cN) a10 a11 a14 b1 b2 b3 b4 b5 b8 b9 b12 b13 b15 b16)) (ci := 0) (As := [.int (nI j)]) (rest := []) S0 hl.1 hK hP [0, 1, 2, 3, 4, 5, 6, 7, 8, 9, 10, 11] rfl rfl rfl (met_X0_phraseHolding l D ad cI cB (nI (4 + cN)) (nI T.length) (nI cN) a10 a11 a14 b1 b2 b3 b4 b5 b8 b9 b12 b13 b15 b16 (kx_st wd kk) cN rfl (by omega) t11 hstb j hj (by rw [kx_st_0]; omega)) (lw_V q98 q100 qs2 q14 q101) rfl rfl (by decide +kernel) ⟨Nat.le_of_ble_eq_true rfl, Nat.le_of_ble_eq_true rfl⟩ rfl rfl (Nat.le_of_ble_eq_true rfl) dX0_letterAt_17 ⟨Nat.zero_le _, Nat.zero_le _⟩ (fun r1 hr1 => ?_)
      obtain ⟨i, rfl, hi, hs1, hs2⟩ := hr1
      refine lv_istore_n (lv' := [(2, .int (nI i)), (0, .ref (ad 0)), (1, .int x)]) hx hb dX0_letterAt_20 rfl hl (by decide) rfl (fun ls hl => ?_)
      refine lv_aload_n hx hb dX0_letterAt_21 rfl (lv_at hl 1 rfl) ?_
      refine lv_iload_n hx hb dX0_letterAt_22 rfl (lv_at hl 0 rfl) ?_
      refine kw_ro (n := 1) (wc := (XWc ad cI cB (nI (4 + cN)) (nI T.length) (nI cN) a10 a11 a14 b1 b2 b3 b4 b5 b8 b9 b12 b13 b15 b16)) (ci := 0) (As := [.int (nI i)]) (rest := []) S0 hl.1 hK hP [0, 1, 2, 3, 4, 5, 6, 7, 8, 9, 10, 11] rfl rfl rfl (met_X0_phraseAt l D ad cI cB (nI (4 + cN)) (nI T.length) (nI cN) a10 a11 a14 b1 b2 b3 b4 b5 b8 b9 b12 b13 b15 b16 kk cN rfl (by omega) t10 h10 i hi) (lw_V q102 q104 qs3 q14 q105) rfl rfl (by decide +kernel) ⟨Nat.le_of_ble_eq_true rfl, Nat.le_of_ble_eq_true rfl⟩ rfl rfl (Nat.le_of_ble_eq_true rfl) dX0_letterAt_23 ⟨Nat.zero_le _, Nat.zero_le _⟩ (fun r2 hr2 => ?_)
      subst hr2
      refine lv_istore_n (lv' := [(3, .int (nI (kk.getD i 0))), (2, .int (nI i)), (0, .ref (ad 0)), (1, .int x)]) hx hb dX0_letterAt_26 rfl hl (by decide) rfl (fun ls hl => ?_)
      refine lv_aload_n hx hb dX0_letterAt_27 rfl (lv_at hl 2 rfl) ?_
      refine lv_iload_n hx hb dX0_letterAt_28 rfl (lv_at hl 0 rfl) ?_
      refine lv_iload_n hx hb dX0_letterAt_29 rfl (lv_at hl 3 rfl) ?_
      refine kw_top (y := nI j) ej ?_
      refine lv_aload_n hx hb dX0_letterAt_30 rfl (lv_at hl 2 rfl) ?_
      refine x0_get (v := .ref (ad 9)) S0 hK hP rfl 9 (by decide) q41 rfl dX0_letterAt_31 ?_
      refine lv_iload_n hx hb dX0_letterAt_34 rfl (lv_at hl 1 rfl) ?_
      refine kw_iald (y := nI (kx_st wd kk i)) S0 hK hP 7 0 rfl rfl (by omega) (by decide) (t11 i hi) dX0_letterAt_35 ?_
      refine kw_isub S0 dX0_letterAt_36 (hs1) ?_
      refine lv_iconst (v := nI 1) hx hb dX0_letterAt_37 rfl ?_
      refine kw_iadd S0 dX0_letterAt_38 ?_
      refine kw_ro (n := 2) (wc := (XWc ad cI cB (nI (4 + cN)) (nI T.length) (nI cN) a10 a11 a14 b1 b2 b3 b4 b5 b8 b9 b12 b13 b15 b16)) (ci := 0) (As := [.int (nI (kk.getD i 0)), .int (nI ((j - (kx_st wd kk i)) + 1))]) (rest := []) S0 hl.1 hK hP [0, 1, 2, 3, 4, 5, 6, 7, 8, 9, 10, 11] rfl rfl rfl (met_X0_beginning l D ad cI cB (nI (4 + cN)) (nI T.length) (nI cN) a10 a11 a14 b1 b2 b3 b4 b5 b8 b9 b12 b13 b15 b16 (4 + cN) wd (by omega) t9 (kk.getD i 0) (j - kx_st wd kk i + 1) (t4 i (by omega)) (by omega) (by omega)) (lw_V q106 q108 qs4 q14 q109) rfl rfl (by decide +kernel) ⟨Nat.le_of_ble_eq_true rfl, Nat.le_of_ble_eq_true rfl⟩ rfl rfl (Nat.le_of_ble_eq_true rfl) dX0_letterAt_39 ⟨Nat.zero_le _, Nat.zero_le _⟩ (fun r3 hr3 => ?_)
      obtain ⟨q, rfl, hq, hwq⟩ := hr3
      obtain ⟨lt, g1, g2, g3, g4, g5, g6⟩ := t9 q hq
      refine lv_istore_n (lv' := [(3, .int (nI q)), (2, .int (nI i)), (0, .ref (ad 0)), (1, .int x)]) hx hb dX0_letterAt_42 rfl hl (by decide) rfl (fun ls hl => ?_)
      refine lv_aload_n hx hb dX0_letterAt_43 rfl (lv_at hl 2 rfl) ?_
      refine x0_get (v := .ref (ad 2)) S0 hK hP rfl 2 (by decide) q34 rfl dX0_letterAt_44 ?_
      refine lv_iload_n hx hb dX0_letterAt_47 rfl (lv_at hl 0 rfl) ?_
      refine kw_iald (y := nI lt) S0 hK hP 2 0 rfl rfl (by omega) (by decide) (g2) dX0_letterAt_48 ?_
      have hjn : j < kx_st wd kk (i + 1) := by
        rcases Nat.lt_or_ge i cN with z | z
        · exact hs2 z
        · rw [kx_st_n wd kk (by omega), ← t3]
          exact c2
      exact W.iret (v := nI lt) hx hb hr (fun t ht hW => ⟨_, rfl, by rw [ej, kx_la_in c2 (by omega), t3]; exact congrArg nI (kx_letter (by omega) hs1 hjn hwq g3).symm, ht⟩) (fun q h => absurd h List.not_mem_nil) dX0_letterAt_49
    · refine lv_bipush (v := (-4)) hx hb dX0_letterAt_12 rfl ?_
      exact W.iret (v := (-4)) hx hb hr (fun t ht hW => ⟨_, rfl, by rw [kx_la, if_neg c1, if_pos (by rw [ej]; exact nI_le c2 hj)], ht⟩) (fun q h => absurd h List.not_mem_nil) dX0_letterAt_14
set_option maxHeartbeats 4000000 in
set_option maxRecDepth 100000 in
/-- endInside(ph, q, lf) -/
theorem met_X0_endInside (l : Launch) (D : va_G) (ad : Nat → Nat) (cI cB : ClassId) (a0 a6 a7 a10 a11 a14 : Int32) (b1 b2 b3 b4 b5 b8 b9 b12 b13 b15 b16 : XA) (P : Nat) (wd : Nat → List Nat) (hP8 : P ≤ 123) (hDi : kx_Dict P P wd b1 b2 b3 b4 b5) (w : List Nat) (hw : w.length ≤ 10) (hTab : kx_Tab P wd w b15 b16) (ph q lf : Nat) (hph : ph < P) (hq : q ≤ w.length) (hlf : lf < kx_hit w q (wd ph)) : Met l yX0_endInside (ws_ yX0_endInside cX0_endInside 5 (some .int)) ({ frames := 0, cells := 0, slots := 0, locals := 0 }) (kx_Pr D (tys_ cI cB) (XWc ad cI cB a0 a6 a7 a10 a11 a14 b1 b2 b3 b4 b5 b8 b9 b12 b13 b15 b16) [.ref (ad 0), .int (nI ph), .int (nI q), .int (nI lf)]) (vp_Si (fun r => ∃ e : Nat, r = nI e ∧ 1 ≤ e ∧ e ≤ (wd ph).length ∧ lf < kx_hit w q ((wd ph).take e) ∧ kx_hit w q ((wd ph).take (e - 1)) ≤ lf)) 0 0 (fun _ => False) := by
  refine Met.ofW (cc := cX0_endInside) (maxL := 5) (ret := (some .int)) (by decide) rfl ?_
  intro p e s m args below meth c s₁ B hml hv
  obtain ⟨rfl, hP, hK⟩ := hv
  have hx := B.exec
  have hb := B.bytes
  have hr := B.returns
  have hts := atoms_spec (ws := ws_ yX0_endInside cX0_endInside 5 (some .int)) B.pre
  have hts : ∀ w ∈ lw_all, w.before _ s = true := fun w h => hts w (List.mem_cons_of_mem _ h)
  have hown : s.vm.findClass RX0 = some m.cls := findClass_of_methodNamed B.named
  have hlocks := B.notSynchronized
  have S0 : CallFix p m c cX0_endInside 5 s _ lw_all RX0 := ⟨hx, hb, hml, hown, hts⟩
  have hl := lv_entry ([.ref (ad 0), .int (nI ph), .int (nI q), .int (nI lf)]) (n := 5) (Nat.le_of_ble_eq_true rfl)
  rw [lg_entry_eq]
  generalize (lg_sl ([.ref (ad 0), .int (nI ph), .int (nI q), .int (nI lf)]) ++ List.replicate (5 - (lg_sl ([.ref (ad 0), .int (nI ph), .int (nI q), .int (nI lf)])).length) Slot.unset).toArray = ls at hl ⊢
  have hl : lv_has ls 5 [(0, .ref (ad 0)), (1, .int (nI ph)), (2, .int (nI q)), (3, .int (nI lf))] := hl
  have hl31 : lf < 2 ^ 31 := by
    have h1 := kx_hit_le w (wd ph) q
    have h2 := (kx_dict_len hDi ph hph).2
    omega
  have loop : ∀ (z y : Nat), y < z → y < P → wd y = (wd ph).take (wd y).length → lf < kx_hit w q (wd y) → ∀ (ls : Array Slot), lv_has ls 5 [(4, .int (nI y)), (0, .ref (ad 0)), (1, .int (nI ph)), (2, .int (nI q)), (3, .int (nI lf))] → W p l e (headSpec (ws_ yX0_endInside cX0_endInside 5 (some .int)) ({ frames := 0, cells := 0, slots := 0, locals := 0 })).room s m ([.ref (ad 0), .int (nI ph), .int (nI q), .int (nI lf)] : List Value).toArray below meth c s.heap [] 0 0 (MQ below (vp_Si (fun r => ∃ e : Nat, r = nI e ∧ 1 ≤ e ∧ e ≤ (wd ph).length ∧ lf < kx_hit w q ((wd ph).take e) ∧ kx_hit w q ((wd ph).take (e - 1)) ≤ lf)) ([.ref (ad 0), .int (nI ph), .int (nI q), .int (nI lf)] : List Value).toArray s 0 0 (fun _ => False)) (F0 m 3 ls []) := by
    intro z
    induction z with
    | zero => intro y h1; exact absurd h1 (Nat.not_lt_zero _)
    | succ z ih =>
      intro y hyz hy hpr hly ls hl
      obtain ⟨lt, g1, g2, g3, g4, g5, g6⟩ := hDi y hy
      have hlen := kx_dict_len hDi y hy
      have hlen2 : (wd y).length ≤ (wd ph).length := by
        have h1 := congrArg List.length hpr
        rw [List.length_take] at h1
        omega
      rcases g3 with ⟨e1, e2⟩ | ⟨y2, hy2, e1, e2⟩
      · refine lv_aload_n hx hb dX0_endInside_3 rfl (lv_at hl 1 rfl) ?_
        refine x0_get (v := .ref (ad 1)) S0 hK hP rfl 1 (by decide) q33 rfl dX0_endInside_4 ?_
        refine lv_iload hx hb dX0_endInside_7 (lv_at hl 0 rfl) ?_
        refine kw_iald (y := (-1)) S0 hK hP 1 0 rfl rfl (by omega) (by decide) (e1) dX0_endInside_9 ?_
        refine lv_if_lt (tgt := 46) hx hb dX0_endInside_10 (by decide) (fun _ => ?_) (fun c9 => absurd (by decide) c9)
        refine lv_aload_n hx hb dX0_endInside_46 rfl (lv_at hl 1 rfl) ?_
        refine x0_get (v := .ref (ad 3)) S0 hK hP rfl 3 (by decide) q35 rfl dX0_endInside_47 ?_
        refine lv_iload hx hb dX0_endInside_50 (lv_at hl 0 rfl) ?_
        refine kw_iald (y := nI ((wd y).length)) S0 hK hP 3 0 rfl rfl (by omega) (by decide) (g4) dX0_endInside_52 ?_
        exact W.iret (v := nI ((wd y).length)) hx hb hr (fun t ht hW => ⟨_, rfl, ⟨(wd y).length, rfl, hlen.1, hlen2, by rw [← hpr]; exact hly, by rw [e2, List.length_singleton]; exact Nat.zero_le _⟩, ht⟩) (fun q h => absurd h List.not_mem_nil) dX0_endInside_53
      · have hh2 : kx_hit w q (wd y2) < 2 ^ 31 := by
          have h1 := kx_hit_le w (wd y2) q
          have h2 := (kx_dict_len hDi y2 (by omega)).2
          omega
        have hyl : (wd y).length = (wd y2).length + 1 := by rw [e2, List.length_append, List.length_singleton]
        have hpr2 : wd y2 = (wd ph).take (wd y2).length := by
          have h1 : (wd y).take (wd y2).length = wd y2 := by rw [e2]; exact List.take_left' rfl
          rw [hpr, List.take_take, Nat.min_eq_left (by omega)] at h1
          exact h1.symm
        refine lv_aload_n hx hb dX0_endInside_3 rfl (lv_at hl 1 rfl) ?_
        refine x0_get (v := .ref (ad 1)) S0 hK hP rfl 1 (by decide) q33 rfl dX0_endInside_4 ?_
        refine lv_iload hx hb dX0_endInside_7 (lv_at hl 0 rfl) ?_
        refine kw_iald (y := nI y2) S0 hK hP 1 0 rfl rfl (by omega) (by decide) (e1) dX0_endInside_9 ?_
        refine lv_if_lt (tgt := 46) hx hb dX0_endInside_10 (by decide) (fun c9 => absurd c9 (nI_pos (by omega))) (fun _ => ?_)
        refine lv_aload_n hx hb dX0_endInside_13 rfl (lv_at hl 1 rfl) ?_
        refine x0_get (v := .ref (ad 16)) S0 hK hP rfl 16 (by decide) q48 rfl dX0_endInside_14 ?_
        refine lv_aload_n hx hb dX0_endInside_17 rfl (lv_at hl 1 rfl) ?_
        refine x0_get (v := .ref (ad 1)) S0 hK hP rfl 1 (by decide) q33 rfl dX0_endInside_18 ?_
        refine lv_iload hx hb dX0_endInside_21 (lv_at hl 0 rfl) ?_
        refine kw_iald (y := nI y2) S0 hK hP 1 0 rfl rfl (by omega) (by decide) (e1) dX0_endInside_23 ?_
        refine lv_bipush (v := nI 11) hx hb dX0_endInside_24 rfl ?_
        refine kw_imul S0 dX0_endInside_26 ?_
        refine lv_iload_n hx hb dX0_endInside_27 rfl (lv_at hl 3 rfl) ?_
        refine kw_iadd S0 dX0_endInside_28 ?_
        refine kw_bald (y := nI (kx_hit w q (wd y2))) S0 hK hP 11 1 rfl rfl (by omega) (by decide) ((hTab y2 (by omega) q hq).2) dX0_endInside_29 ?_
        refine lv_iload_n hx hb dX0_endInside_30 rfl (lv_at hl 4 rfl) ?_
        refine kw_le (tgt := 46) S0 dX0_endInside_31 (by decide) (hh2) (hl31) (fun c1 => ?_) (fun c1 => ?_)
        · refine lv_aload_n hx hb dX0_endInside_46 rfl (lv_at hl 1 rfl) ?_
          refine x0_get (v := .ref (ad 3)) S0 hK hP rfl 3 (by decide) q35 rfl dX0_endInside_47 ?_
          refine lv_iload hx hb dX0_endInside_50 (lv_at hl 0 rfl) ?_
          refine kw_iald (y := nI ((wd y).length)) S0 hK hP 3 0 rfl rfl (by omega) (by decide) (g4) dX0_endInside_52 ?_
          exact W.iret (v := nI ((wd y).length)) hx hb hr (fun t ht hW => ⟨_, rfl, ⟨(wd y).length, rfl, hlen.1, hlen2, by rw [← hpr]; exact hly, by rw [hyl, Nat.add_sub_cancel, ← hpr2]; exact c1⟩, ht⟩) (fun q h => absurd h List.not_mem_nil) dX0_endInside_53
        · refine lv_aload_n hx hb dX0_endInside_34 rfl (lv_at hl 1 rfl) ?_
          refine x0_get (v := .ref (ad 1)) S0 hK hP rfl 1 (by decide) q33 rfl dX0_endInside_35 ?_
          refine lv_iload hx hb dX0_endInside_38 (lv_at hl 0 rfl) ?_
          refine kw_iald (y := nI y2) S0 hK hP 1 0 rfl rfl (by omega) (by decide) (e1) dX0_endInside_40 ?_
          refine lv_istore (lv' := [(4, .int (nI y2)), (0, .ref (ad 0)), (1, .int (nI ph)), (2, .int (nI q)), (3, .int (nI lf))]) hx hb dX0_endInside_41 hl (by decide) rfl (fun ls hl => ?_)
          refine lv_goto (tgt := 3) hx hb dX0_endInside_43 (by decide) ?_
          exact ih y2 (by omega) (by omega) hpr2 c1 ls (lv_sub hl [0, 1, 2, 3, 4] rfl)
  refine lv_iload_n hx hb dX0_endInside_0 rfl (lv_at hl 1 rfl) ?_
  refine lv_istore (lv' := [(4, .int (nI ph)), (0, .ref (ad 0)), (1, .int (nI ph)), (2, .int (nI q)), (3, .int (nI lf))]) hx hb dX0_endInside_1 hl (by decide) rfl (fun ls hl => ?_)
  exact loop (ph + 1) ph (by omega) hph (by rw [List.take_length]) hlf ls (lv_sub hl [0, 1, 2, 3, 4] rfl)
set_option maxHeartbeats 4000000 in
set_option maxRecDepth 100000 in
/-- frequency(x, y) -/
theorem met_X0_frequency (l : Launch) (D : va_G) (ad : Nat → Nat) (cI cB : ClassId) (a0 a6 a7 a10 a11 a14 : Int32) (b1 b2 b3 b4 b5 b8 b9 b12 b13 b15 b16 : XA) (T : List Nat) (wd : Nat → List Nat) (kk : List Nat) (cN : Nat) (hT : kx_TI a0 a6 a7 a10 b1 b2 b3 b4 b5 b8 b9 T wd kk cN) (x y : Int32) : Met l yX0_frequency (ws_ yX0_frequency cX0_frequency 7 (some .int)) ({ frames := 1, cells := 0, slots := 0, locals := 24 }) (kx_Pr D (tys_ cI cB) (XWc ad cI cB a0 a6 a7 a10 a11 a14 b1 b2 b3 b4 b5 b8 b9 b12 b13 b15 b16) [.ref (ad 0), .int x, .int y]) (vp_Si (fun r => r = kx_frq T x y)) 0 0 (fun _ => False) := by
  refine Met.ofW (cc := cX0_frequency) (maxL := 7) (ret := (some .int)) (by decide) rfl ?_
  intro p e s m args below meth c s₁ B hml hv
  obtain ⟨rfl, hP, hK⟩ := hv
  have hx := B.exec
  have hb := B.bytes
  have hr := B.returns
  have hts := atoms_spec (ws := ws_ yX0_frequency cX0_frequency 7 (some .int)) B.pre
  have hts : ∀ w ∈ lw_all, w.before _ s = true := fun w h => hts w (List.mem_cons_of_mem _ h)
  have hown : s.vm.findClass RX0 = some m.cls := findClass_of_methodNamed B.named
  have hlocks := B.notSynchronized
  have S0 : CallFix p m c cX0_frequency 7 s _ lw_all RX0 := ⟨hx, hb, hml, hown, hts⟩
  have hl := lv_entry ([.ref (ad 0), .int x, .int y]) (n := 7) (Nat.le_of_ble_eq_true rfl)
  rw [lg_entry_eq]
  generalize (lg_sl ([.ref (ad 0), .int x, .int y]) ++ List.replicate (7 - (lg_sl ([.ref (ad 0), .int x, .int y])).length) Slot.unset).toArray = ls at hl ⊢
  have hl : lv_has ls 7 [(0, .ref (ad 0)), (1, .int x), (2, .int y)] := hl
  have hT0 := hT
  have hcl := hT.c_le
  obtain ⟨t1, t2, t2b, t3, t4, t5, rfl, rfl, rfl, t9, t10, t11⟩ := hT
  refine lv_iload_n hx hb dX0_frequency_0 rfl (lv_at hl 1 rfl) ?_
  refine lv_if_lt (tgt := 9) hx hb dX0_frequency_1 (by decide) (fun c1 => ?_) (fun c1 => ?_)
  · refine lv_iconst (v := (-1)) hx hb dX0_frequency_9 rfl ?_
    exact W.iret (v := (-1)) hx hb hr (fun t ht hW => ⟨_, rfl, by rw [kx_frq, if_pos (Or.inl c1)], ht⟩) (fun q h => absurd h List.not_mem_nil) dX0_frequency_10
  · refine lv_iload_n hx hb dX0_frequency_4 rfl (lv_at hl 1 rfl) ?_
    refine lv_iconst (v := nI 3) hx hb dX0_frequency_5 rfl ?_
    refine lv_icmp_le (tgt := 11) hx hb dX0_frequency_6 (by decide) (fun c2 => ?_) (fun c2 => ?_)
    · obtain ⟨lt, hlt, ex⟩ := nI_of2 (n := 3) (by decide) c1 c2
      have hlt4 : lt < 4 := by omega
      obtain ⟨N, hN⟩ : ∃ N : Nat, N = min y.toNatClampNeg T.length := ⟨_, rfl⟩
      have hNT : N ≤ T.length := by omega
      refine lv_aload_n hx hb dX0_frequency_11 rfl (lv_at hl 0 rfl) ?_
      refine lv_iload_n hx hb dX0_frequency_12 rfl (lv_at hl 2 rfl) ?_
      refine kw_ro (n := 1) (wc := (XWc ad cI cB (nI (4 + cN)) (nI T.length) (nI cN) a10 a11 a14 b1 b2 b3 b4 b5 b8 b9 b12 b13 b15 b16)) (ci := 0) (As := [.int y]) (rest := []) S0 hl.1 hK hP [0, 1, 2, 3, 4, 5, 6, 7, 8, 9, 10, 11] rfl rfl rfl (met_X0_clampLength l D ad cI cB (nI (4 + cN)) (nI T.length) (nI cN) a10 a11 a14 b1 b2 b3 b4 b5 b8 b9 b12 b13 b15 b16 T.length rfl t1 y) (lw_V q140 q142 qs6 q14 q143) rfl rfl (by decide +kernel) ⟨Nat.le_of_ble_eq_true rfl, Nat.le_of_ble_eq_true rfl⟩ rfl rfl (Nat.le_of_ble_eq_true rfl) dX0_frequency_13 ⟨Nat.zero_le _, Nat.zero_le _⟩ (fun r1 hr1 => ?_)
      refine kw_top (y := nI N) (by rw [hr1, hN]) ?_
      have hstb : ∀ i, kx_st wd kk i ≤ T.length := fun i => by have := kx_st_le wd kk i; rw [← t3] at this; exact this
      have loop : ∀ (z i sm : Nat), i ≤ cN + 1 → cN + 1 < i + z → sm = (T.take (min N (kx_st wd kk i))).count lt → ∀ (ls : Array Slot), lv_has ls 7 [(5, .int (nI i)), (4, .int (nI sm)), (3, .int (nI N)), (0, .ref (ad 0)), (1, .int x), (2, .int y)] → W p l e (headSpec (ws_ yX0_frequency cX0_frequency 7 (some .int)) ({ frames := 1, cells := 0, slots := 0, locals := 24 })).room s m ([.ref (ad 0), .int x, .int y] : List Value).toArray below meth c s.heap [] 0 0 (MQ below (vp_Si (fun r => r = kx_frq T x y)) ([.ref (ad 0), .int x, .int y] : List Value).toArray s 0 0 (fun _ => False)) (F0 m 23 ls []) := by
        intro z
        induction z with
        | zero => intro i sm h1 h2; exact absurd h2 (by omega)
        | succ z ih =>
          intro i sm hi hiz hsm ls hl
          refine lv_iload hx hb dX0_frequency_23 (lv_at hl 0 rfl) ?_
          refine lv_aload_n hx hb dX0_frequency_25 rfl (lv_at hl 3 rfl) ?_
          refine x0_get (v := .int (nI cN)) S0 hK hP rfl 7 (by decide) q39 rfl dX0_frequency_26 ?_
          refine kw_gt (tgt := 90) S0 dX0_frequency_29 (by decide) (by omega) (by omega) (fun c3 => ?_) (fun c3 => ?_)
          · have est : kx_st wd kk i = T.length := by rw [kx_st_n wd kk (by omega), ← t3]
            refine lv_iload hx hb dX0_frequency_90 (lv_at hl 1 rfl) ?_
            exact W.iret (v := nI sm) hx hb hr (fun t ht hW => ⟨_, rfl, by rw [kx_frq, if_neg (fun z => z.elim c1 (fun z => z c2)), ex, nI_clamp (by omega), hsm, est, Nat.min_eq_left hNT, hN, List.take_eq_take_min (i := y.toNatClampNeg)], ht⟩) (fun q h => absurd h List.not_mem_nil) dX0_frequency_92
          · refine lv_aload_n hx hb dX0_frequency_32 rfl (lv_at hl 3 rfl) ?_
            refine x0_get (v := .ref (ad 9)) S0 hK hP rfl 9 (by decide) q41 rfl dX0_frequency_33 ?_
            refine lv_iload hx hb dX0_frequency_36 (lv_at hl 0 rfl) ?_
            refine kw_iald (y := nI (kx_st wd kk i)) S0 hK hP 7 0 rfl rfl (by omega) (by decide) (t11 i c3) dX0_frequency_38 ?_
            refine lv_iload_n hx hb dX0_frequency_39 rfl (lv_at hl 2 rfl) ?_
            refine kw_ge (tgt := 90) S0 dX0_frequency_40 (by decide) (by have := hstb i; omega) (by omega) (fun c4 => ?_) (fun c4 => ?_)
            · refine lv_iload hx hb dX0_frequency_90 (lv_at hl 1 rfl) ?_
              exact W.iret (v := nI sm) hx hb hr (fun t ht hW => ⟨_, rfl, by rw [kx_frq, if_neg (fun z => z.elim c1 (fun z => z c2)), ex, nI_clamp (by omega), hsm, Nat.min_eq_left c4, hN, List.take_eq_take_min (i := y.toNatClampNeg)], ht⟩) (fun q h => absurd h List.not_mem_nil) dX0_frequency_92
            · have hTn : T ≠ [] := fun z => by rw [z] at hNT; exact absurd c4 (by simp at hNT; omega)
              obtain ⟨hkl, h10⟩ := hT0.some_kk hTn
              refine lv_aload_n hx hb dX0_frequency_43 rfl (lv_at hl 3 rfl) ?_
              refine lv_iload hx hb dX0_frequency_44 (lv_at hl 0 rfl) ?_
              refine kw_ro (n := 1) (wc := (XWc ad cI cB (nI (4 + cN)) (nI T.length) (nI cN) a10 a11 a14 b1 b2 b3 b4 b5 b8 b9 b12 b13 b15 b16)) (ci := 0) (As := [.int (nI i)]) (rest := []) S0 hl.1 hK hP [0, 1, 2, 3, 4, 5, 6, 7, 8, 9, 10, 11] rfl rfl rfl (met_X0_phraseAt l D ad cI cB (nI (4 + cN)) (nI T.length) (nI cN) a10 a11 a14 b1 b2 b3 b4 b5 b8 b9 b12 b13 b15 b16 kk cN rfl (by omega) t10 h10 i c3) (lw_V q102 q104 qs3 q14 q105) rfl rfl (by decide +kernel) ⟨Nat.le_of_ble_eq_true rfl, Nat.le_of_ble_eq_true rfl⟩ rfl rfl (Nat.le_of_ble_eq_true rfl) dX0_frequency_46 ⟨Nat.zero_le _, Nat.zero_le _⟩ (fun r2 hr2 => ?_)
              subst hr2
              refine lv_istore (lv' := [(6, .int (nI (kk.getD i 0))), (5, .int (nI i)), (4, .int (nI sm)), (3, .int (nI N)), (0, .ref (ad 0)), (1, .int x), (2, .int y)]) hx hb dX0_frequency_49 hl (by decide) rfl (fun ls hl => ?_)
              refine lv_aload_n hx hb dX0_frequency_51 rfl (lv_at hl 4 rfl) ?_
              refine lv_iload hx hb dX0_frequency_52 (lv_at hl 0 rfl) ?_
              refine lv_iload_n hx hb dX0_frequency_54 rfl (lv_at hl 3 rfl) ?_
              refine lv_aload_n hx hb dX0_frequency_55 rfl (lv_at hl 4 rfl) ?_
              refine x0_get (v := .ref (ad 9)) S0 hK hP rfl 9 (by decide) q41 rfl dX0_frequency_56 ?_
              refine lv_iload hx hb dX0_frequency_59 (lv_at hl 1 rfl) ?_
              refine kw_iald (y := nI (kx_st wd kk i)) S0 hK hP 7 0 rfl rfl (by omega) (by decide) (t11 i c3) dX0_frequency_61 ?_
              refine kw_isub S0 dX0_frequency_62 (by omega) ?_
              refine kw_ro (n := 2) (wc := (XWc ad cI cB (nI (4 + cN)) (nI T.length) (nI cN) a10 a11 a14 b1 b2 b3 b4 b5 b8 b9 b12 b13 b15 b16)) (ci := 0) (As := [.int (nI (kk.getD i 0)), .int (nI (N - (kx_st wd kk i)))]) (rest := []) S0 hl.1 hK hP [0, 1, 2, 3, 4, 5, 6, 7, 8, 9, 10, 11] rfl rfl rfl (met_X0_beginning l D ad cI cB (nI (4 + cN)) (nI T.length) (nI cN) a10 a11 a14 b1 b2 b3 b4 b5 b8 b9 b12 b13 b15 b16 (4 + cN) wd (by omega) t9 (kk.getD i 0) (N - kx_st wd kk i) (t4 i (by omega)) (by omega) (by omega)) (lw_V q106 q108 qs4 q14 q109) rfl rfl (by decide +kernel) ⟨Nat.le_of_ble_eq_true rfl, Nat.le_of_ble_eq_true rfl⟩ rfl rfl (Nat.le_of_ble_eq_true rfl) dX0_frequency_63 ⟨Nat.zero_le _, Nat.zero_le _⟩ (fun r3 hr3 => ?_)
              obtain ⟨q, rfl, hq, hwq⟩ := hr3
              obtain ⟨l5, g1, g2, g3, g4, g5, g6⟩ := t9 q hq
              refine lv_istore (lv' := [(6, .int (nI q)), (5, .int (nI i)), (4, .int (nI sm)), (3, .int (nI N)), (0, .ref (ad 0)), (1, .int x), (2, .int y)]) hx hb dX0_frequency_66 hl (by decide) rfl (fun ls hl => ?_)
              refine lv_iload hx hb dX0_frequency_68 (lv_at hl 2 rfl) ?_
              refine lv_aload_n hx hb dX0_frequency_70 rfl (lv_at hl 4 rfl) ?_
              refine x0_get (v := .ref (ad 5)) S0 hK hP rfl 5 (by decide) q37 rfl dX0_frequency_71 ?_
              refine lv_iload hx hb dX0_frequency_74 (lv_at hl 0 rfl) ?_
              refine lv_iconst (v := nI 4) hx hb dX0_frequency_76 rfl ?_
              refine kw_imul S0 dX0_frequency_77 ?_
              refine lv_iload_n hx hb dX0_frequency_78 rfl (lv_at hl 5 rfl) ?_
              refine kw_top (y := nI lt) ex ?_
              refine kw_iadd S0 dX0_frequency_79 ?_
              refine kw_iald (y := nI ((wd q).count lt)) S0 hK hP 5 0 rfl rfl (by omega) (by decide) (g5 lt hlt4) dX0_frequency_80 ?_
              refine kw_iadd S0 dX0_frequency_81 ?_
              refine lv_istore (lv' := [(4, .int (nI (sm + ((wd q).count lt)))), (6, .int (nI q)), (5, .int (nI i)), (3, .int (nI N)), (0, .ref (ad 0)), (1, .int x), (2, .int y)]) hx hb dX0_frequency_82 hl (by decide) rfl (fun ls hl => ?_)
              refine lv_iinc (v := nI (i + 1)) (lv' := [(5, .int (nI (i + 1))), (4, .int (nI (sm + ((wd q).count lt)))), (6, .int (nI q)), (3, .int (nI N)), (0, .ref (ad 0)), (1, .int x), (2, .int y)]) hx hb dX0_frequency_84 hl (k := 2) rfl (nI_1 i) (by decide) rfl (fun ls hl => ?_)
              refine lv_goto (tgt := 23) hx hb dX0_frequency_87 (by decide) ?_
              refine ih (i + 1) (sm + (wd q).count lt) (by omega) (by omega) ?_ ls (lv_sub hl [0, 1, 3, 4, 5, 6] rfl)
              rw [hsm, hwq, t3, Nat.min_eq_right (Nat.le_of_lt c4), kx_seg (by omega) (Nat.le_of_lt c4), List.count_append]
      refine lv_istore_n (lv' := [(3, .int (nI N)), (0, .ref (ad 0)), (1, .int x), (2, .int y)]) hx hb dX0_frequency_16 rfl hl (by decide) rfl (fun ls hl => ?_)
      refine lv_iconst (v := nI 0) hx hb dX0_frequency_17 rfl ?_
      refine lv_istore (lv' := [(4, .int (nI 0)), (3, .int (nI N)), (0, .ref (ad 0)), (1, .int x), (2, .int y)]) hx hb dX0_frequency_18 hl (by decide) rfl (fun ls hl => ?_)
      refine lv_iconst (v := nI 0) hx hb dX0_frequency_20 rfl ?_
      refine lv_istore (lv' := [(5, .int (nI 0)), (4, .int (nI 0)), (3, .int (nI N)), (0, .ref (ad 0)), (1, .int x), (2, .int y)]) hx hb dX0_frequency_21 hl (by decide) rfl (fun ls hl => ?_)
      exact loop (cN + 2) 0 0 (by omega) (by omega) (by rw [kx_st_0]; simp) ls (lv_sub hl [0, 1, 2, 3, 4, 5] rfl)
    · refine lv_iconst (v := (-1)) hx hb dX0_frequency_9 rfl ?_
      exact W.iret (v := (-1)) hx hb hr (fun t ht hW => ⟨_, rfl, by rw [kx_frq, if_pos (Or.inr c2)], ht⟩) (fun q h => absurd h List.not_mem_nil) dX0_frequency_10
end
section
/-! CONTRACTS of LzwSearcher: growing the text (printed by gen/x0m.py) -/
set_option maxHeartbeats 4000000 in
set_option maxRecDepth 100000 in
/-- makePhrase(k, up, lt) -/
theorem met_X0_makePhrase (l : Launch) (D : va_G) (ad : Nat → Nat) (cI cB : ClassId) (a0 a6 a7 a10 a11 a14 : Int32) (b1 b2 b3 b4 b5 b8 b9 b12 b13 b15 b16 : XA) (k : Nat) (hk : k < 128) (up sz1 : Int32) (tb : XA) (lt : Nat) (hlt : lt < 4) (hup : kx_Up k up sz1 tb b3 b5) (sz : Nat) : Met l yX0_makePhrase (ws_ yX0_makePhrase cX0_makePhrase 5 none) ({ frames := 0, cells := 0, slots := 0, locals := 0 }) (kx_Pm D (tys_ cI cB) (XWc ad cI cB a0 a6 a7 a10 a11 a14 b1 b2 b3 b4 b5 b8 b9 b12 b13 b15 b16) sz [.ref (ad 0), .int (nI k), .int up, .int (nI lt)]) (va_Qv (fun (u : XA × XA × XA × XA × XA) => kx_Mk k up lt sz1 tb b1 b2 b3 b4 b5 u.1 u.2.1 u.2.2.1 u.2.2.2.1 u.2.2.2.2) (kx_B D (fun u : XA × XA × XA × XA × XA => XWc ad cI cB a0 a6 a7 a10 a11 a14 u.1 u.2.1 u.2.2.1 u.2.2.2.1 u.2.2.2.2 b8 b9 b12 b13 b15 b16) (va_A (XWc ad cI cB a0 a6 a7 a10 a11 a14 b1 b2 b3 b4 b5 b8 b9 b12 b13 b15 b16) sz)) (va_A (XWc ad cI cB a0 a6 a7 a10 a11 a14 b1 b2 b3 b4 b5 b8 b9 b12 b13 b15 b16) sz)) 0 0 (va_A (XWc ad cI cB a0 a6 a7 a10 a11 a14 b1 b2 b3 b4 b5 b8 b9 b12 b13 b15 b16) sz) := by
  refine Met.ofW (cc := cX0_makePhrase) (maxL := 5) (ret := none) (by decide) rfl ?_
  intro p e s m args below meth c s₁ B hml hv
  obtain ⟨rfl, hsz, hP, hK, hD0⟩ := hv
  have hx := B.exec
  have hb := B.bytes
  have hr := B.returns
  have hts := atoms_spec (ws := ws_ yX0_makePhrase cX0_makePhrase 5 none) B.pre
  have hts : ∀ w ∈ lw_all, w.before _ s = true := fun w h => hts w (List.mem_cons_of_mem _ h)
  have hown : s.vm.findClass RX0 = some m.cls := findClass_of_methodNamed B.named
  have hlocks := B.notSynchronized
  have S0 : CallFix p m c cX0_makePhrase 5 s _ lw_all RX0 := ⟨hx, hb, hml, hown, hts⟩
  subst hsz
  have hD := hD0.self (sz := s.heap.size)
  generalize hAe : va_A (XWc ad cI cB a0 a6 a7 a10 a11 a14 b1 b2 b3 b4 b5 b8 b9 b12 b13 b15 b16) s.heap.size = A at hD ⊢
  have hA : ∀ q : Nat, s.heap.size ≤ q → A q := fun q h => by rw [← hAe]; exact Or.inr h
  have hS : va_S A s.heap s.heap [] := va_S.rf
  have hl := lv_entry ([.ref (ad 0), .int (nI k), .int up, .int (nI lt)]) (n := 5) (Nat.le_of_ble_eq_true rfl)
  rw [lg_entry_eq]
  generalize (lg_sl ([.ref (ad 0), .int (nI k), .int up, .int (nI lt)]) ++ List.replicate (5 - (lg_sl ([.ref (ad 0), .int (nI k), .int up, .int (nI lt)])).length) Slot.unset).toArray = ls at hl ⊢
  have hl : lv_has ls 5 [(0, .ref (ad 0)), (1, .int (nI k)), (2, .int up), (3, .int (nI lt))] := hl
  refine lv_aload_n hx hb dX0_makePhrase_0 rfl (lv_at hl 0 rfl) ?_
  refine x0_get (v := .ref (ad 1)) S0 hK hP rfl 1 (by decide) q33 rfl dX0_makePhrase_1 ?_
  refine lv_iload_n hx hb dX0_makePhrase_4 rfl (lv_at hl 1 rfl) ?_
  refine lv_iload_n hx hb dX0_makePhrase_5 rfl (lv_at hl 2 rfl) ?_
  refine kw_iast S0 hK hP hD hS 1 0 rfl rfl (hk) (by decide) dX0_makePhrase_6 (fun H locs hP hD hS => ?_)
  have hP : va_P D vwCl (XWc ad cI cB a0 a6 a7 a10 a11 a14 (upd b1 k up) b2 b3 b4 b5 b8 b9 b12 b13 b15 b16) H := hP
  have hD : va_D A (XWc ad cI cB a0 a6 a7 a10 a11 a14 (upd b1 k up) b2 b3 b4 b5 b8 b9 b12 b13 b15 b16) := hD
  refine lv_aload_n hx hb dX0_makePhrase_7 rfl (lv_at hl 0 rfl) ?_
  refine x0_get (v := .ref (ad 2)) S0 hK hP rfl 2 (by decide) q34 rfl dX0_makePhrase_8 ?_
  refine lv_iload_n hx hb dX0_makePhrase_11 rfl (lv_at hl 1 rfl) ?_
  refine lv_iload_n hx hb dX0_makePhrase_12 rfl (lv_at hl 3 rfl) ?_
  refine kw_iast S0 hK hP hD hS 2 0 rfl rfl (hk) (by decide) dX0_makePhrase_13 (fun H locs hP hD hS => ?_)
  have hP : va_P D vwCl (XWc ad cI cB a0 a6 a7 a10 a11 a14 (upd b1 k up) (upd b2 k (nI lt)) b3 b4 b5 b8 b9 b12 b13 b15 b16) H := hP
  have hD : va_D A (XWc ad cI cB a0 a6 a7 a10 a11 a14 (upd b1 k up) (upd b2 k (nI lt)) b3 b4 b5 b8 b9 b12 b13 b15 b16) := hD
  refine lv_aload_n hx hb dX0_makePhrase_14 rfl (lv_at hl 0 rfl) ?_
  refine x0_get (v := .ref (ad 3)) S0 hK hP rfl 3 (by decide) q35 rfl dX0_makePhrase_15 ?_
  refine lv_iload_n hx hb dX0_makePhrase_18 rfl (lv_at hl 1 rfl) ?_
  refine lv_iload_n hx hb dX0_makePhrase_19 rfl (lv_at hl 2 rfl) ?_
  have loop : ∀ (z i : Nat) (c4 c5 : XA), i ≤ 4 → 4 < i + z → (∀ j, c4 j = if j / 4 = k ∧ j % 4 < i then (fun _ => -1 : XA) (j % 4) else b4 j) → (∀ j, c5 j = if j / 4 = k ∧ j % 4 < i then tb (j % 4) else b5 j) → ∀ (H : Heap) (locs : List Loc), va_P D vwCl (XWc ad cI cB a0 a6 a7 a10 a11 a14 (upd b1 k up) (upd b2 k (nI lt)) (upd b3 k sz1) c4 c5 b8 b9 b12 b13 b15 b16) H → va_D A (XWc ad cI cB a0 a6 a7 a10 a11 a14 (upd b1 k up) (upd b2 k (nI lt)) (upd b3 k sz1) c4 c5 b8 b9 b12 b13 b15 b16) → va_S A s.heap H locs → ∀ (ls : Array Slot), lv_has ls 5 [(4, .int (nI i)), (0, .ref (ad 0)), (1, .int (nI k)), (2, .int up), (3, .int (nI lt))] → W p l e (headSpec (ws_ yX0_makePhrase cX0_makePhrase 5 none) ({ frames := 0, cells := 0, slots := 0, locals := 0 })).room s m ([.ref (ad 0), .int (nI k), .int up, .int (nI lt)] : List Value).toArray below meth c H locs 0 0 (MQ below (va_Qv (fun (u : XA × XA × XA × XA × XA) => kx_Mk k up lt sz1 tb b1 b2 b3 b4 b5 u.1 u.2.1 u.2.2.1 u.2.2.2.1 u.2.2.2.2) (kx_B D (fun u : XA × XA × XA × XA × XA => XWc ad cI cB a0 a6 a7 a10 a11 a14 u.1 u.2.1 u.2.2.1 u.2.2.2.1 u.2.2.2.2 b8 b9 b12 b13 b15 b16) A) A) ([.ref (ad 0), .int (nI k), .int up, .int (nI lt)] : List Value).toArray s 0 0 A) (F0 m 39 ls []) := by
    intro z
    induction z with
    | zero => intro i c4 c5 h1 h2; exact absurd h2 (by omega)
    | succ z ih =>
      intro i c4 c5 hi hiz h4 h5 H locs hP hD hS ls hl
      refine lv_iload hx hb dX0_makePhrase_39 (lv_at hl 0 rfl) ?_
      refine lv_iconst (v := nI 4) hx hb dX0_makePhrase_41 rfl ?_
      refine kw_ge (tgt := 93) S0 dX0_makePhrase_42 (by decide) (by omega) (by omega) (fun c1 => ?_) (fun c1 => ?_)
      · refine lv_aload_n hx hb dX0_makePhrase_93 rfl (lv_at hl 1 rfl) ?_
        refine x0_get (v := .ref (ad 5)) S0 hK hP rfl 5 (by decide) q37 rfl dX0_makePhrase_94 ?_
        refine lv_iload_n hx hb dX0_makePhrase_97 rfl (lv_at hl 2 rfl) ?_
        refine lv_iconst (v := nI 4) hx hb dX0_makePhrase_98 rfl ?_
        refine kw_imul S0 dX0_makePhrase_99 ?_
        refine lv_iload_n hx hb dX0_makePhrase_100 rfl (lv_at hl 4 rfl) ?_
        refine kw_iadd S0 dX0_makePhrase_101 ?_
        refine lv_dup2_11 hx hb dX0_makePhrase_102 rfl rfl ?_
        refine kw_iald (y := tb lt) S0 hK hP 5 0 rfl rfl (by omega) (by decide) (by rw [h5, if_pos (by omega), show (k * 4 + lt) % 4 = lt by omega]) dX0_makePhrase_103 ?_
        refine lv_iconst (v := nI 1) hx hb dX0_makePhrase_104 rfl ?_
        refine lv_iadd hx hb dX0_makePhrase_105 ?_
        refine kw_iast S0 hK hP hD hS 5 0 rfl rfl (by omega) (by decide) dX0_makePhrase_106 (fun H locs hP hD hS => ?_)
        have hP : va_P D vwCl (XWc ad cI cB a0 a6 a7 a10 a11 a14 (upd b1 k up) (upd b2 k (nI lt)) (upd b3 k sz1) c4 (upd c5 (k * 4 + lt) ((tb lt) + (nI 1))) b8 b9 b12 b13 b15 b16) H := hP
        have hD : va_D A (XWc ad cI cB a0 a6 a7 a10 a11 a14 (upd b1 k up) (upd b2 k (nI lt)) (upd b3 k sz1) c4 (upd c5 (k * 4 + lt) ((tb lt) + (nI 1))) b8 b9 b12 b13 b15 b16) := hD
        exact W.vret hx hb hr (fun t ht hW => ⟨⟨(upd b1 k up, upd b2 k (nI lt), upd b3 k sz1, c4, upd c5 (k * 4 + lt) ((tb lt) + (nI 1))), rfl, kx_mk_end (by omega) hlt h4 h5, by rw [ht]; exact hP, hD⟩, hS.F ht⟩) hS.2.2 dX0_makePhrase_107
      · refine lv_aload_n hx hb dX0_makePhrase_45 rfl (lv_at hl 1 rfl) ?_
        refine x0_get (v := .ref (ad 4)) S0 hK hP rfl 4 (by decide) q36 rfl dX0_makePhrase_46 ?_
        refine lv_iload_n hx hb dX0_makePhrase_49 rfl (lv_at hl 2 rfl) ?_
        refine lv_iconst (v := nI 4) hx hb dX0_makePhrase_50 rfl ?_
        refine kw_imul S0 dX0_makePhrase_51 ?_
        refine lv_iload hx hb dX0_makePhrase_52 (lv_at hl 0 rfl) ?_
        refine kw_iadd S0 dX0_makePhrase_54 ?_
        refine lv_iconst (v := (-1)) hx hb dX0_makePhrase_55 rfl ?_
        refine kw_iast S0 hK hP hD hS 4 0 rfl rfl (by omega) (by decide) dX0_makePhrase_56 (fun H locs hP hD hS => ?_)
        have hP : va_P D vwCl (XWc ad cI cB a0 a6 a7 a10 a11 a14 (upd b1 k up) (upd b2 k (nI lt)) (upd b3 k sz1) (upd c4 (k * 4 + i) (-1)) c5 b8 b9 b12 b13 b15 b16) H := hP
        have hD : va_D A (XWc ad cI cB a0 a6 a7 a10 a11 a14 (upd b1 k up) (upd b2 k (nI lt)) (upd b3 k sz1) (upd c4 (k * 4 + i) (-1)) c5 b8 b9 b12 b13 b15 b16) := hD
        refine lv_aload_n hx hb dX0_makePhrase_57 rfl (lv_at hl 1 rfl) ?_
        refine x0_get (v := .ref (ad 5)) S0 hK hP rfl 5 (by decide) q37 rfl dX0_makePhrase_58 ?_
        refine lv_iload_n hx hb dX0_makePhrase_61 rfl (lv_at hl 2 rfl) ?_
        refine lv_iconst (v := nI 4) hx hb dX0_makePhrase_62 rfl ?_
        refine kw_imul S0 dX0_makePhrase_63 ?_
        refine lv_iload hx hb dX0_makePhrase_64 (lv_at hl 0 rfl) ?_
        refine kw_iadd S0 dX0_makePhrase_66 ?_
        refine lv_iload_n hx hb dX0_makePhrase_67 rfl (lv_at hl 3 rfl) ?_
        have after : ∀ (H : Heap) (locs : List Loc), va_P D vwCl (XWc ad cI cB a0 a6 a7 a10 a11 a14 (upd b1 k up) (upd b2 k (nI lt)) (upd b3 k sz1) (upd c4 (k * 4 + i) (-1)) c5 b8 b9 b12 b13 b15 b16) H → va_D A (XWc ad cI cB a0 a6 a7 a10 a11 a14 (upd b1 k up) (upd b2 k (nI lt)) (upd b3 k sz1) (upd c4 (k * 4 + i) (-1)) c5 b8 b9 b12 b13 b15 b16) → va_S A s.heap H locs → ∀ (ls : Array Slot), lv_has ls 5 [(4, .int (nI i)), (0, .ref (ad 0)), (1, .int (nI k)), (2, .int up), (3, .int (nI lt))] → W p l e (headSpec (ws_ yX0_makePhrase cX0_makePhrase 5 none) ({ frames := 0, cells := 0, slots := 0, locals := 0 })).room s m ([.ref (ad 0), .int (nI k), .int up, .int (nI lt)] : List Value).toArray below meth c H locs 0 0 (MQ below (va_Qv (fun (u : XA × XA × XA × XA × XA) => kx_Mk k up lt sz1 tb b1 b2 b3 b4 b5 u.1 u.2.1 u.2.2.1 u.2.2.2.1 u.2.2.2.2) (kx_B D (fun u : XA × XA × XA × XA × XA => XWc ad cI cB a0 a6 a7 a10 a11 a14 u.1 u.2.1 u.2.2.1 u.2.2.2.1 u.2.2.2.2 b8 b9 b12 b13 b15 b16) A) A) ([.ref (ad 0), .int (nI k), .int up, .int (nI lt)] : List Value).toArray s 0 0 A) (F0 m 86 ls [.int (tb i), .int (nI (k * 4 + i)), .ref (ad 5)]) := by
          intro H locs hP hD hS ls hl
          refine kw_iast S0 hK hP hD hS 5 0 rfl rfl (by omega) (by decide) dX0_makePhrase_86 (fun H locs hP hD hS => ?_)
          have hP : va_P D vwCl (XWc ad cI cB a0 a6 a7 a10 a11 a14 (upd b1 k up) (upd b2 k (nI lt)) (upd b3 k sz1) (upd c4 (k * 4 + i) (-1)) (upd c5 (k * 4 + i) (tb i)) b8 b9 b12 b13 b15 b16) H := hP
          have hD : va_D A (XWc ad cI cB a0 a6 a7 a10 a11 a14 (upd b1 k up) (upd b2 k (nI lt)) (upd b3 k sz1) (upd c4 (k * 4 + i) (-1)) (upd c5 (k * 4 + i) (tb i)) b8 b9 b12 b13 b15 b16) := hD
          refine lv_iinc (v := nI (i + 1)) (lv' := [(4, .int (nI (i + 1))), (0, .ref (ad 0)), (1, .int (nI k)), (2, .int up), (3, .int (nI lt))]) hx hb dX0_makePhrase_87 hl (k := 0) rfl (nI_1 i) (by decide) rfl (fun ls hl => ?_)
          refine lv_goto (tgt := 39) hx hb dX0_makePhrase_90 (by decide) ?_
          exact ih (i + 1) _ _ (by omega) (by omega) (kx_mkv (v := fun _ => -1) c1 h4) (kx_mkv c1 h5) _ _ hP hD hS ls (lv_sub hl [0, 1, 2, 3, 4] rfl)
        rcases hup with ⟨e1, e2, e3⟩ | ⟨y, hy, hyk, e1, e2, e3⟩
        · refine lv_if_ge (tgt := 75) hx hb dX0_makePhrase_68 (by decide) (fun c9 => absurd c9 (by rw [e1]; decide)) (fun _ => ?_)
          refine lv_iconst (v := nI 0) hx hb dX0_makePhrase_71 rfl ?_
          refine lv_goto (tgt := 86) hx hb dX0_makePhrase_72 (by decide) ?_
          refine kw_top (y := tb i) (nI_0.trans (e3 i).symm) ?_
          exact after _ _ hP hD hS ls hl
        · refine lv_if_ge (tgt := 75) hx hb dX0_makePhrase_68 (by decide) (fun _ => ?_) (fun c9 => absurd (by rw [e1]; exact nI_pos' (by omega)) c9)
          refine lv_aload_n hx hb dX0_makePhrase_75 rfl (lv_at hl 1 rfl) ?_
          refine x0_get (v := .ref (ad 5)) S0 hK hP rfl 5 (by decide) q37 rfl dX0_makePhrase_76 ?_
          refine lv_iload_n hx hb dX0_makePhrase_79 rfl (lv_at hl 3 rfl) ?_
          refine kw_top (y := nI y) e1 ?_
          refine lv_iconst (v := nI 4) hx hb dX0_makePhrase_80 rfl ?_
          refine kw_imul S0 dX0_makePhrase_81 ?_
          refine lv_iload hx hb dX0_makePhrase_82 (lv_at hl 0 rfl) ?_
          refine kw_iadd S0 dX0_makePhrase_84 ?_
          refine kw_iald (y := tb i) S0 hK hP 5 0 rfl rfl (by omega) (by decide) (by rw [h5, if_neg (by omega)]; exact (e3 i c1).symm) dX0_makePhrase_85 ?_
          exact after _ _ hP hD hS ls hl
  have after : ∀ (H : Heap) (locs : List Loc), va_P D vwCl (XWc ad cI cB a0 a6 a7 a10 a11 a14 (upd b1 k up) (upd b2 k (nI lt)) b3 b4 b5 b8 b9 b12 b13 b15 b16) H → va_D A (XWc ad cI cB a0 a6 a7 a10 a11 a14 (upd b1 k up) (upd b2 k (nI lt)) b3 b4 b5 b8 b9 b12 b13 b15 b16) → va_S A s.heap H locs → ∀ (ls : Array Slot), lv_has ls 5 [(0, .ref (ad 0)), (1, .int (nI k)), (2, .int up), (3, .int (nI lt))] → W p l e (headSpec (ws_ yX0_makePhrase cX0_makePhrase 5 none) ({ frames := 0, cells := 0, slots := 0, locals := 0 })).room s m ([.ref (ad 0), .int (nI k), .int up, .int (nI lt)] : List Value).toArray below meth c H locs 0 0 (MQ below (va_Qv (fun (u : XA × XA × XA × XA × XA) => kx_Mk k up lt sz1 tb b1 b2 b3 b4 b5 u.1 u.2.1 u.2.2.1 u.2.2.2.1 u.2.2.2.2) (kx_B D (fun u : XA × XA × XA × XA × XA => XWc ad cI cB a0 a6 a7 a10 a11 a14 u.1 u.2.1 u.2.2.1 u.2.2.2.1 u.2.2.2.2 b8 b9 b12 b13 b15 b16) A) A) ([.ref (ad 0), .int (nI k), .int up, .int (nI lt)] : List Value).toArray s 0 0 A) (F0 m 35 ls [.int sz1, .int (nI k), .ref (ad 3)]) := by
    intro H locs hP hD hS ls hl
    refine kw_iast S0 hK hP hD hS 3 0 rfl rfl (hk) (by decide) dX0_makePhrase_35 (fun H locs hP hD hS => ?_)
    have hP : va_P D vwCl (XWc ad cI cB a0 a6 a7 a10 a11 a14 (upd b1 k up) (upd b2 k (nI lt)) (upd b3 k sz1) b4 b5 b8 b9 b12 b13 b15 b16) H := hP
    have hD : va_D A (XWc ad cI cB a0 a6 a7 a10 a11 a14 (upd b1 k up) (upd b2 k (nI lt)) (upd b3 k sz1) b4 b5 b8 b9 b12 b13 b15 b16) := hD
    refine lv_iconst (v := nI 0) hx hb dX0_makePhrase_36 rfl ?_
    refine lv_istore (lv' := [(4, .int (nI 0)), (0, .ref (ad 0)), (1, .int (nI k)), (2, .int up), (3, .int (nI lt))]) hx hb dX0_makePhrase_37 hl (by decide) rfl (fun ls hl => ?_)
    exact loop 5 0 b4 b5 (by omega) (by omega) (fun j => by rw [if_neg (by omega)]) (fun j => by rw [if_neg (by omega)]) _ _ hP hD hS ls (lv_sub hl [0, 1, 2, 3, 4] rfl)
  rcases hup with ⟨e1, e2, e3⟩ | ⟨y, hy, hyk, e1, e2, e3⟩
  · refine lv_if_ge (tgt := 27) hx hb dX0_makePhrase_20 (by decide) (fun c9 => absurd c9 (by rw [e1]; decide)) (fun _ => ?_)
    refine lv_iconst (v := nI 1) hx hb dX0_makePhrase_23 rfl ?_
    refine lv_goto (tgt := 35) hx hb dX0_makePhrase_24 (by decide) ?_
    refine kw_top (y := sz1) (e2.symm) ?_
    exact after _ _ hP hD hS ls hl
  · refine lv_if_ge (tgt := 27) hx hb dX0_makePhrase_20 (by decide) (fun _ => ?_) (fun c9 => absurd (by rw [e1]; exact nI_pos' (by omega)) c9)
    refine lv_aload_n hx hb dX0_makePhrase_27 rfl (lv_at hl 0 rfl) ?_
    refine x0_get (v := .ref (ad 3)) S0 hK hP rfl 3 (by decide) q35 rfl dX0_makePhrase_28 ?_
    refine lv_iload_n hx hb dX0_makePhrase_31 rfl (lv_at hl 2 rfl) ?_
    refine kw_top (y := nI y) e1 ?_
    refine kw_iald (y := b3 y) S0 hK hP 3 0 rfl rfl (by omega) (by decide) (rfl) dX0_makePhrase_32 ?_
    refine lv_iconst (v := nI 1) hx hb dX0_makePhrase_33 rfl ?_
    refine lv_iadd hx hb dX0_makePhrase_34 ?_
    refine kw_top (y := sz1) (e2.symm) ?_
    exact after _ _ hP hD hS ls hl
set_option maxHeartbeats 4000000 in
set_option maxRecDepth 100000 in
/-- start(): an empty text -/
theorem met_X0_start (l : Launch) (D : va_G) (ad : Nat → Nat) (cI cB : ClassId) (a0 a6 a7 a10 a11 a14 : Int32) (b1 b2 b3 b4 b5 b8 b9 b12 b13 b15 b16 : XA) (w : List Nat) (hPI : kx_PI a11 b12 b13 w) (h9 : b9 0 = nI 0) (sz : Nat) : Met l yX0_start (ws_ yX0_start cX0_start 2 none) ({ frames := 1, cells := 0, slots := 0, locals := 24 }) (kx_Pm D (tys_ cI cB) (XWc ad cI cB a0 a6 a7 a10 a11 a14 b1 b2 b3 b4 b5 b8 b9 b12 b13 b15 b16) sz [.ref (ad 0)]) (va_Qv (fun (u : XS) => kx_Inv u [] w) (kx_B D (fun u : XS => XWs ad cI cB u) (va_A (XWc ad cI cB a0 a6 a7 a10 a11 a14 b1 b2 b3 b4 b5 b8 b9 b12 b13 b15 b16) sz)) (va_A (XWc ad cI cB a0 a6 a7 a10 a11 a14 b1 b2 b3 b4 b5 b8 b9 b12 b13 b15 b16) sz)) 0 0 (va_A (XWc ad cI cB a0 a6 a7 a10 a11 a14 b1 b2 b3 b4 b5 b8 b9 b12 b13 b15 b16) sz) := by
  refine Met.ofW (cc := cX0_start) (maxL := 2) (ret := none) (by decide) rfl ?_
  intro p e s m args below meth c s₁ B hml hv
  obtain ⟨rfl, hsz, hP, hK, hD0⟩ := hv
  have hx := B.exec
  have hb := B.bytes
  have hr := B.returns
  have hts := atoms_spec (ws := ws_ yX0_start cX0_start 2 none) B.pre
  have hts : ∀ w ∈ lw_all, w.before _ s = true := fun w h => hts w (List.mem_cons_of_mem _ h)
  have hown : s.vm.findClass RX0 = some m.cls := findClass_of_methodNamed B.named
  have hlocks := B.notSynchronized
  have S0 : CallFix p m c cX0_start 2 s _ lw_all RX0 := ⟨hx, hb, hml, hown, hts⟩
  subst hsz
  have hD := hD0.self (sz := s.heap.size)
  generalize hAe : va_A (XWc ad cI cB a0 a6 a7 a10 a11 a14 b1 b2 b3 b4 b5 b8 b9 b12 b13 b15 b16) s.heap.size = A at hD ⊢
  have hA : ∀ q : Nat, s.heap.size ≤ q → A q := fun q h => by rw [← hAe]; exact Or.inr h
  have hS : va_S A s.heap s.heap [] := va_S.rf
  have hl := lv_entry ([.ref (ad 0)]) (n := 2) (Nat.le_of_ble_eq_true rfl)
  rw [lg_entry_eq]
  generalize (lg_sl ([.ref (ad 0)]) ++ List.replicate (2 - (lg_sl ([.ref (ad 0)])).length) Slot.unset).toArray = ls at hl ⊢
  have hl : lv_has ls 2 [(0, .ref (ad 0))] := hl
  refine lv_aload_n hx hb dX0_start_0 rfl (lv_at hl 0 rfl) ?_
  refine lv_iconst (v := nI 4) hx hb dX0_start_1 rfl ?_
  refine x0_put (v := .int (nI 4)) S0 hK hP hD hS rfl 0 (by decide) q32 rfl rfl rfl (Nat.le_of_ble_eq_true rfl) dX0_start_2 (fun H locs hP hD hS => ?_)
  have hP : va_P D vwCl (XWc ad cI cB (nI 4) a6 a7 a10 a11 a14 b1 b2 b3 b4 b5 b8 b9 b12 b13 b15 b16) H := hP
  have hD : va_D A (XWc ad cI cB (nI 4) a6 a7 a10 a11 a14 b1 b2 b3 b4 b5 b8 b9 b12 b13 b15 b16) := hD
  refine lv_aload_n hx hb dX0_start_5 rfl (lv_at hl 0 rfl) ?_
  refine lv_iconst (v := nI 0) hx hb dX0_start_6 rfl ?_
  refine x0_put (v := .int (nI 0)) S0 hK hP hD hS rfl 6 (by decide) q38 rfl rfl rfl (Nat.le_of_ble_eq_true rfl) dX0_start_7 (fun H locs hP hD hS => ?_)
  have hP : va_P D vwCl (XWc ad cI cB (nI 4) (nI 0) a7 a10 a11 a14 b1 b2 b3 b4 b5 b8 b9 b12 b13 b15 b16) H := hP
  have hD : va_D A (XWc ad cI cB (nI 4) (nI 0) a7 a10 a11 a14 b1 b2 b3 b4 b5 b8 b9 b12 b13 b15 b16) := hD
  refine lv_aload_n hx hb dX0_start_10 rfl (lv_at hl 0 rfl) ?_
  refine lv_iconst (v := nI 0) hx hb dX0_start_11 rfl ?_
  refine x0_put (v := .int (nI 0)) S0 hK hP hD hS rfl 7 (by decide) q39 rfl rfl rfl (Nat.le_of_ble_eq_true rfl) dX0_start_12 (fun H locs hP hD hS => ?_)
  have hP : va_P D vwCl (XWc ad cI cB (nI 4) (nI 0) (nI 0) a10 a11 a14 b1 b2 b3 b4 b5 b8 b9 b12 b13 b15 b16) H := hP
  have hD : va_D A (XWc ad cI cB (nI 4) (nI 0) (nI 0) a10 a11 a14 b1 b2 b3 b4 b5 b8 b9 b12 b13 b15 b16) := hD
  refine lv_aload_n hx hb dX0_start_15 rfl (lv_at hl 0 rfl) ?_
  refine lv_iconst (v := (-1)) hx hb dX0_start_16 rfl ?_
  refine x0_put (v := .int (-1)) S0 hK hP hD hS rfl 10 (by decide) q42 rfl rfl rfl (Nat.le_of_ble_eq_true rfl) dX0_start_17 (fun H locs hP hD hS => ?_)
  have hP : va_P D vwCl (XWc ad cI cB (nI 4) (nI 0) (nI 0) (-1) a11 a14 b1 b2 b3 b4 b5 b8 b9 b12 b13 b15 b16) H := hP
  have hD : va_D A (XWc ad cI cB (nI 4) (nI 0) (nI 0) (-1) a11 a14 b1 b2 b3 b4 b5 b8 b9 b12 b13 b15 b16) := hD
  refine lv_aload_n hx hb dX0_start_20 rfl (lv_at hl 0 rfl) ?_
  refine lv_iconst (v := nI 0) hx hb dX0_start_21 rfl ?_
  refine x0_put (v := .int (nI 0)) S0 hK hP hD hS rfl 14 (by decide) q46 rfl rfl rfl (Nat.le_of_ble_eq_true rfl) dX0_start_22 (fun H locs hP hD hS => ?_)
  have hP : va_P D vwCl (XWc ad cI cB (nI 4) (nI 0) (nI 0) (-1) a11 (nI 0) b1 b2 b3 b4 b5 b8 b9 b12 b13 b15 b16) H := hP
  have hD : va_D A (XWc ad cI cB (nI 4) (nI 0) (nI 0) (-1) a11 (nI 0) b1 b2 b3 b4 b5 b8 b9 b12 b13 b15 b16) := hD
  refine lv_iconst (v := nI 0) hx hb dX0_start_25 rfl ?_
  refine lv_istore_n (lv' := [(1, .int (nI 0)), (0, .ref (ad 0))]) hx hb dX0_start_26 rfl hl (by decide) rfl (fun ls hl => ?_)
  have loop : ∀ (z i : Nat) (c1 c2 c3 c4 c5 : XA), i ≤ 4 → 4 < i + z → kx_Dict i i (fun x => [x]) c1 c2 c3 c4 c5 → ∀ (H : Heap) (locs : List Loc), va_P D vwCl (XWc ad cI cB (nI 4) (nI 0) (nI 0) (-1) a11 (nI 0) c1 c2 c3 c4 c5 b8 b9 b12 b13 b15 b16) H → va_D A (XWc ad cI cB (nI 4) (nI 0) (nI 0) (-1) a11 (nI 0) c1 c2 c3 c4 c5 b8 b9 b12 b13 b15 b16) → va_S A s.heap H locs → ∀ (ls : Array Slot), lv_has ls 2 [(1, .int (nI i)), (0, .ref (ad 0))] → W p l e (headSpec (ws_ yX0_start cX0_start 2 none) ({ frames := 1, cells := 0, slots := 0, locals := 24 })).room s m ([.ref (ad 0)] : List Value).toArray below meth c H locs 0 0 (MQ below (va_Qv (fun (u : XS) => kx_Inv u [] w) (kx_B D (fun u : XS => XWs ad cI cB u) A) A) ([.ref (ad 0)] : List Value).toArray s 0 0 A) (F0 m 27 ls []) := by
    intro z
    induction z with
    | zero => intro i c1 c2 c3 c4 c5 h1 h2; exact absurd h2 (by omega)
    | succ z ih =>
      intro i c1 c2 c3 c4 c5 hi hiz hDi H locs hP hD hS ls hl
      refine lv_iload_n hx hb dX0_start_27 rfl (lv_at hl 0 rfl) ?_
      refine lv_iconst (v := nI 4) hx hb dX0_start_28 rfl ?_
      refine kw_ge (tgt := 45) S0 dX0_start_29 (by decide) (by omega) (by omega) (fun k1 => ?_) (fun k1 => ?_)
      · have e4 : i = 4 := by omega
        subst e4
        exact W.vret hx hb hr (fun t ht hW => ⟨⟨((nI 4, nI 0, nI 0, (-1), a11, nI 0), (c1, c2, c3, c4, c5, b8, b9, b12, b13, b15, b16)), rfl, ⟨fun x => [x], [], 0, kx_TI_nil hDi h9, hPI, Or.inl nI_0⟩, by rw [ht]; exact hP, hD⟩, hS.F ht⟩) hS.2.2 dX0_start_45
      · refine lv_aload_n hx hb dX0_start_32 rfl (lv_at hl 1 rfl) ?_
        refine lv_iload_n hx hb dX0_start_33 rfl (lv_at hl 0 rfl) ?_
        refine lv_iconst (v := (-1)) hx hb dX0_start_34 rfl ?_
        refine lv_iload_n hx hb dX0_start_35 rfl (lv_at hl 0 rfl) ?_
        refine kw_mv (n := 3) (wc := (XWc ad cI cB (nI 4) (nI 0) (nI 0) (-1) a11 (nI 0) c1 c2 c3 c4 c5 b8 b9 b12 b13 b15 b16)) (wr := []) (ci := 0) (As := [.int (nI i), .int (-1), .int (nI i)]) (rest := []) S0 hl.1 hK hP hD hS hA [0, 1, 2, 3, 4, 5, 6, 7, 8, 9, 10, 11] [] rfl rfl (by decide) (by decide) (by decide) rfl rfl (fun sz => met_X0_makePhrase l D ad cI cB (nI 4) (nI 0) (nI 0) (-1) a11 (nI 0) c1 c2 c3 c4 c5 b8 b9 b12 b13 b15 b16 i (by omega) (-1) (nI 1) (fun _ => 0) i k1 (Or.inl ⟨rfl, rfl, fun _ => rfl⟩) sz) (lw_V q28 q30 qs1 q14 q31) rfl rfl (by decide +kernel) ⟨Nat.le_of_ble_eq_true rfl, Nat.le_of_ble_eq_true rfl⟩ rfl rfl (Nat.le_of_ble_eq_true rfl) dX0_start_36 ⟨Nat.zero_le _, Nat.zero_le _⟩ (fun v H locs hM hP hD hS => ?_)
        obtain ⟨d1, d2, d3, d4, d5⟩ := v
        have hP : va_P D vwCl (XWc ad cI cB (nI 4) (nI 0) (nI 0) (-1) a11 (nI 0) d1 d2 d3 d4 d5 b8 b9 b12 b13 b15 b16) H := hP
        have hD : va_D A (XWc ad cI cB (nI 4) (nI 0) (nI 0) (-1) a11 (nI 0) d1 d2 d3 d4 d5 b8 b9 b12 b13 b15 b16) := hD
        refine lv_iinc (v := nI (i + 1)) (lv' := [(1, .int (nI (i + 1))), (0, .ref (ad 0))]) hx hb dX0_start_39 hl (k := 0) rfl (nI_1 i) (by decide) rfl (fun ls hl => ?_)
        refine lv_goto (tgt := 27) hx hb dX0_start_42 (by decide) ?_
        exact ih (i + 1) d1 d2 d3 d4 d5 (by omega) (by omega) (kx_dict_push (kx_dict_mono hDi (by omega)) k1 hM (Or.inl ⟨rfl, rfl, fun _ => rfl, rfl⟩)) _ _ hP hD hS ls (lv_sub hl [0, 1] rfl)
  exact loop 5 0 b1 b2 b3 b4 b5 (by omega) (by omega) (fun p hp => absurd hp (Nat.not_lt_zero _)) _ _ hP hD hS ls (lv_sub hl [0, 1] rfl)
set_option maxHeartbeats 4000000 in
set_option maxRecDepth 100000 in
/-- clear() -/
theorem met_X0_clear (l : Launch) (D : va_G) (ad : Nat → Nat) (cI cB : ClassId) (a0 a6 a7 a10 a11 a14 : Int32) (b1 b2 b3 b4 b5 b8 b9 b12 b13 b15 b16 : XA) (T w : List Nat) (hI : kx_Ic a0 a6 a7 a10 a11 a14 b1 b2 b3 b4 b5 b8 b9 b12 b13 b15 b16 T w) (sz : Nat) : Met l yX0_clear (ws_ yX0_clear cX0_clear 1 none) ({ frames := 2, cells := 0, slots := 0, locals := 48 }) (kx_Pm D (tys_ cI cB) (XWc ad cI cB a0 a6 a7 a10 a11 a14 b1 b2 b3 b4 b5 b8 b9 b12 b13 b15 b16) sz [.ref (ad 0)]) (va_Qv (fun (u : XS) => kx_Inv u [] w) (kx_B D (fun u : XS => XWs ad cI cB u) (va_A (XWc ad cI cB a0 a6 a7 a10 a11 a14 b1 b2 b3 b4 b5 b8 b9 b12 b13 b15 b16) sz)) (va_A (XWc ad cI cB a0 a6 a7 a10 a11 a14 b1 b2 b3 b4 b5 b8 b9 b12 b13 b15 b16) sz)) 0 0 (va_A (XWc ad cI cB a0 a6 a7 a10 a11 a14 b1 b2 b3 b4 b5 b8 b9 b12 b13 b15 b16) sz) := by
  refine Met.ofW (cc := cX0_clear) (maxL := 1) (ret := none) (by decide) rfl ?_
  intro p e s m args below meth c s₁ B hml hv
  obtain ⟨rfl, hsz, hP, hK, hD0⟩ := hv
  have hx := B.exec
  have hb := B.bytes
  have hr := B.returns
  have hts := atoms_spec (ws := ws_ yX0_clear cX0_clear 1 none) B.pre
  have hts : ∀ w ∈ lw_all, w.before _ s = true := fun w h => hts w (List.mem_cons_of_mem _ h)
  have hown : s.vm.findClass RX0 = some m.cls := findClass_of_methodNamed B.named
  have hlocks := B.notSynchronized
  have S0 : CallFix p m c cX0_clear 1 s _ lw_all RX0 := ⟨hx, hb, hml, hown, hts⟩
  subst hsz
  have hD := hD0.self (sz := s.heap.size)
  generalize hAe : va_A (XWc ad cI cB a0 a6 a7 a10 a11 a14 b1 b2 b3 b4 b5 b8 b9 b12 b13 b15 b16) s.heap.size = A at hD ⊢
  have hA : ∀ q : Nat, s.heap.size ≤ q → A q := fun q h => by rw [← hAe]; exact Or.inr h
  have hS : va_S A s.heap s.heap [] := va_S.rf
  have hl := lv_entry ([.ref (ad 0)]) (n := 1) (Nat.le_of_ble_eq_true rfl)
  rw [lg_entry_eq]
  generalize (lg_sl ([.ref (ad 0)]) ++ List.replicate (1 - (lg_sl ([.ref (ad 0)])).length) Slot.unset).toArray = ls at hl ⊢
  have hl : lv_has ls 1 [(0, .ref (ad 0))] := hl
  obtain ⟨wd, kk, cN, hT, hPI, hRI⟩ := hI
  have h9 : b9 0 = nI 0 := by
    obtain ⟨-, -, -, -, -, -, -, -, -, -, -, t11⟩ := hT
    rw [t11 0 (Nat.zero_le _), kx_st_0]
  refine lv_aload_n hx hb dX0_clear_0 rfl (lv_at hl 0 rfl) ?_
  refine kw_mv (n := 0) (wc := (XWc ad cI cB a0 a6 a7 a10 a11 a14 b1 b2 b3 b4 b5 b8 b9 b12 b13 b15 b16)) (wr := []) (ci := 0) (As := []) (rest := []) S0 hl.1 hK hP hD hS hA [0, 1, 2, 3, 4, 5, 6, 7, 8, 9, 10, 11] [] rfl rfl (by decide) (by decide) (by decide) rfl rfl (fun sz => met_X0_start l D ad cI cB a0 a6 a7 a10 a11 a14 b1 b2 b3 b4 b5 b8 b9 b12 b13 b15 b16 w hPI h9 sz) (lw_V q24 q26 qs0 q14 q27) rfl rfl (by decide +kernel) ⟨Nat.le_of_ble_eq_true rfl, Nat.le_of_ble_eq_true rfl⟩ rfl rfl (Nat.le_of_ble_eq_true rfl) dX0_clear_1 ⟨Nat.zero_le _, Nat.zero_le _⟩ (fun v H locs hv2 hP hD hS => ?_)
  exact W.vret hx hb hr (fun t ht hW => ⟨⟨v, rfl, hv2, by rw [ht]; exact hP, hD⟩, hS.F ht⟩) hS.2.2 dX0_clear_4
set_option maxHeartbeats 4000000 in
set_option maxRecDepth 100000 in
/-- append(x) -/
theorem met_X0_append (l : Launch) (D : va_G) (ad : Nat → Nat) (cI cB : ClassId) (a0 a6 a7 a10 a11 a14 : Int32) (b1 b2 b3 b4 b5 b8 b9 b12 b13 b15 b16 : XA) (T w : List Nat) (hI : kx_Ic a0 a6 a7 a10 a11 a14 b1 b2 b3 b4 b5 b8 b9 b12 b13 b15 b16 T w) (x : Int32) (sz : Nat) : Met l yX0_append (ws_ yX0_append cX0_append 2 (some .int)) ({ frames := 1, cells := 0, slots := 0, locals := 24 }) (kx_Pm D (tys_ cI cB) (XWc ad cI cB a0 a6 a7 a10 a11 a14 b1 b2 b3 b4 b5 b8 b9 b12 b13 b15 b16) sz [.ref (ad 0), .int x]) (va_Qi (fun (r : Int32) (u : XS) => r = kx_appR T x ∧ kx_Inv u (kx_appT T x) w) (kx_B D (fun u : XS => XWs ad cI cB u) (va_A (XWc ad cI cB a0 a6 a7 a10 a11 a14 b1 b2 b3 b4 b5 b8 b9 b12 b13 b15 b16) sz)) (va_A (XWc ad cI cB a0 a6 a7 a10 a11 a14 b1 b2 b3 b4 b5 b8 b9 b12 b13 b15 b16) sz)) 0 0 (va_A (XWc ad cI cB a0 a6 a7 a10 a11 a14 b1 b2 b3 b4 b5 b8 b9 b12 b13 b15 b16) sz) := by
  refine Met.ofW (cc := cX0_append) (maxL := 2) (ret := (some .int)) (by decide) rfl ?_
  intro p e s m args below meth c s₁ B hml hv
  obtain ⟨rfl, hsz, hP, hK, hD0⟩ := hv
  have hx := B.exec
  have hb := B.bytes
  have hr := B.returns
  have hts := atoms_spec (ws := ws_ yX0_append cX0_append 2 (some .int)) B.pre
  have hts : ∀ w ∈ lw_all, w.before _ s = true := fun w h => hts w (List.mem_cons_of_mem _ h)
  have hown : s.vm.findClass RX0 = some m.cls := findClass_of_methodNamed B.named
  have hlocks := B.notSynchronized
  have S0 : CallFix p m c cX0_append 2 s _ lw_all RX0 := ⟨hx, hb, hml, hown, hts⟩
  subst hsz
  have hD := hD0.self (sz := s.heap.size)
  generalize hAe : va_A (XWc ad cI cB a0 a6 a7 a10 a11 a14 b1 b2 b3 b4 b5 b8 b9 b12 b13 b15 b16) s.heap.size = A at hD ⊢
  have hA : ∀ q : Nat, s.heap.size ≤ q → A q := fun q h => by rw [← hAe]; exact Or.inr h
  have hS : va_S A s.heap s.heap [] := va_S.rf
  have hl := lv_entry ([.ref (ad 0), .int x]) (n := 2) (Nat.le_of_ble_eq_true rfl)
  rw [lg_entry_eq]
  generalize (lg_sl ([.ref (ad 0), .int x]) ++ List.replicate (2 - (lg_sl ([.ref (ad 0), .int x])).length) Slot.unset).toArray = ls at hl ⊢
  have hl : lv_has ls 2 [(0, .ref (ad 0)), (1, .int x)] := hl
  have hI0 := hI
  obtain ⟨wd, kk, cN, hT, hPI, hRI⟩ := hI
  have hT0 := hT
  have hcl := hT.c_le
  obtain ⟨t1, t2, t2b, t3, t4, t5, rfl, rfl, rfl, t9, t10, t11⟩ := hT
  refine lv_iload_n hx hb dX0_append_0 rfl (lv_at hl 1 rfl) ?_
  refine lv_if_lt (tgt := 9) hx hb dX0_append_1 (by decide) (fun k1 => ?_) (fun k1 => ?_)
  · refine lv_iconst (v := (-1)) hx hb dX0_append_9 rfl ?_
    exact W.iret (v := (-1)) hx hb hr (fun t ht hW => ⟨⟨(-1), ((nI (4 + cN), nI T.length, nI cN, a10, a11, a14), (b1, b2, b3, b4, b5, b8, b9, b12, b13, b15, b16)), rfl, ⟨by rw [kx_appR, if_pos (Or.inl k1)], by rw [kx_appT, if_pos (Or.inl k1)]; exact hI0⟩, by rw [ht]; exact hP, hD⟩, hS.F ht⟩) hS.2.2 dX0_append_10
  · refine lv_iload_n hx hb dX0_append_4 rfl (lv_at hl 1 rfl) ?_
    refine lv_iconst (v := nI 3) hx hb dX0_append_5 rfl ?_
    refine lv_icmp_le (tgt := 11) hx hb dX0_append_6 (by decide) (fun k2 => ?_) (fun k2 => ?_)
    · obtain ⟨lt, hlt3, ex⟩ := nI_of2 (n := 3) (by decide) k1 k2
      have hlt : lt < 4 := by omega
      have hok := kx_okn hlt
      rw [← ex] at hok
      refine lv_aload_n hx hb dX0_append_11 rfl (lv_at hl 0 rfl) ?_
      refine x0_get (v := .int (nI T.length)) S0 hK hP rfl 6 (by decide) q38 rfl dX0_append_12 ?_
      refine lv_bipush (v := nI 120) hx hb dX0_append_15 rfl ?_
      refine kw_lt (tgt := 23) S0 dX0_append_17 (by decide) (by omega) (by omega) (fun k3 => ?_) (fun k3 => ?_)
      · have eR : kx_appR T x = nI (T.length + 1) := by rw [ex]; exact kx_appR_in hlt k3
        have eT : kx_appT T x = T ++ [lt] := by rw [ex]; exact kx_appT_in hlt k3
        refine lv_aload_n hx hb dX0_append_23 rfl (lv_at hl 0 rfl) ?_
        refine lv_iconst (v := nI 0) hx hb dX0_append_24 rfl ?_
        refine x0_put (v := .int (nI 0)) S0 hK hP hD hS rfl 14 (by decide) q46 rfl rfl rfl (Nat.le_of_ble_eq_true rfl) dX0_append_25 (fun H locs hP hD hS => ?_)
        have hP : va_P D vwCl (XWc ad cI cB (nI (4 + cN)) (nI T.length) (nI cN) a10 a11 (nI 0) b1 b2 b3 b4 b5 b8 b9 b12 b13 b15 b16) H := hP
        have hD : va_D A (XWc ad cI cB (nI (4 + cN)) (nI T.length) (nI cN) a10 a11 (nI 0) b1 b2 b3 b4 b5 b8 b9 b12 b13 b15 b16) := hD
        refine lv_aload_n hx hb dX0_append_28 rfl (lv_at hl 0 rfl) ?_
        refine x0_get (v := .int a10) S0 hK hP rfl 10 (by decide) q42 rfl dX0_append_29 ?_
        rcases t5 with ⟨ek, ec, e10⟩ | ⟨hkl, e10⟩
        · subst e10
          refine lv_if_ge (tgt := 53) hx hb dX0_append_32 (by decide) (fun c9 => absurd c9 (by decide)) (fun _ => ?_)
          refine lv_aload_n hx hb dX0_append_35 rfl (lv_at hl 0 rfl) ?_
          refine lv_iload_n hx hb dX0_append_36 rfl (lv_at hl 1 rfl) ?_
          refine kw_top (y := nI lt) ex ?_
          refine x0_put (v := .int (nI lt)) S0 hK hP hD hS rfl 10 (by decide) q42 rfl rfl rfl (Nat.le_of_ble_eq_true rfl) dX0_append_37 (fun H locs hP hD hS => ?_)
          have hP : va_P D vwCl (XWc ad cI cB (nI (4 + cN)) (nI T.length) (nI cN) (nI lt) a11 (nI 0) b1 b2 b3 b4 b5 b8 b9 b12 b13 b15 b16) H := hP
          have hD : va_D A (XWc ad cI cB (nI (4 + cN)) (nI T.length) (nI cN) (nI lt) a11 (nI 0) b1 b2 b3 b4 b5 b8 b9 b12 b13 b15 b16) := hD
          refine lv_aload_n hx hb dX0_append_40 rfl (lv_at hl 0 rfl) ?_
          refine x0_get (v := .ref (ad 9)) S0 hK hP rfl 9 (by decide) q41 rfl dX0_append_41 ?_
          refine lv_aload_n hx hb dX0_append_44 rfl (lv_at hl 0 rfl) ?_
          refine x0_get (v := .int (nI cN)) S0 hK hP rfl 7 (by decide) q39 rfl dX0_append_45 ?_
          refine lv_iconst (v := nI 0) hx hb dX0_append_48 rfl ?_
          refine kw_iast S0 hK hP hD hS 7 0 rfl rfl (by omega) (by decide) dX0_append_49 (fun H locs hP hD hS => ?_)
          have hP : va_P D vwCl (XWc ad cI cB (nI (4 + cN)) (nI T.length) (nI cN) (nI lt) a11 (nI 0) b1 b2 b3 b4 b5 b8 (upd b9 cN (nI 0)) b12 b13 b15 b16) H := hP
          have hD : va_D A (XWc ad cI cB (nI (4 + cN)) (nI T.length) (nI cN) (nI lt) a11 (nI 0) b1 b2 b3 b4 b5 b8 (upd b9 cN (nI 0)) b12 b13 b15 b16) := hD
          refine lv_goto (tgt := 170) hx hb dX0_append_50 (by decide) ?_
          refine lv_aload_n hx hb dX0_append_170 rfl (lv_at hl 0 rfl) ?_
          refine lv_dup hx hb dX0_append_171 rfl ?_
          refine x0_get (v := .int (nI T.length)) S0 hK hP rfl 6 (by decide) q38 rfl dX0_append_172 ?_
          refine lv_iconst (v := nI 1) hx hb dX0_append_175 rfl ?_
          refine kw_iadd S0 dX0_append_176 ?_
          refine x0_put (v := .int (nI (T.length + 1))) S0 hK hP hD hS rfl 6 (by decide) q38 rfl rfl rfl (Nat.le_of_ble_eq_true rfl) dX0_append_177 (fun H locs hP hD hS => ?_)
          have hP : va_P D vwCl (XWc ad cI cB (nI (4 + cN)) (nI (T.length + 1)) (nI cN) (nI lt) a11 (nI 0) b1 b2 b3 b4 b5 b8 (upd b9 cN (nI 0)) b12 b13 b15 b16) H := hP
          have hD : va_D A (XWc ad cI cB (nI (4 + cN)) (nI (T.length + 1)) (nI cN) (nI lt) a11 (nI 0) b1 b2 b3 b4 b5 b8 (upd b9 cN (nI 0)) b12 b13 b15 b16) := hD
          refine lv_aload_n hx hb dX0_append_180 rfl (lv_at hl 0 rfl) ?_
          refine x0_get (v := .int (nI (T.length + 1))) S0 hK hP rfl 6 (by decide) q38 rfl dX0_append_181 ?_
          exact W.iret (v := nI (T.length + 1)) hx hb hr (fun t ht hW => ⟨⟨nI (T.length + 1), ((nI (4 + cN), nI (T.length + 1), nI cN, nI lt, a11, nI 0), (b1, b2, b3, b4, b5, b8, upd b9 cN (nI 0), b12, b13, b15, b16)), rfl, ⟨eR.symm, by rw [eT]; exact ⟨wd, [lt], cN, kx_app_A hT0 ek ec hlt, hPI, Or.inl nI_0⟩⟩, by rw [ht]; exact hP, hD⟩, hS.F ht⟩) hS.2.2 dX0_append_184
        · obtain ⟨o, eo⟩ : ∃ o : Nat, o = kk.getD cN 0 := ⟨_, rfl⟩
          rw [← eo] at e10
          subst e10
          have ho4 : o < 4 + cN := by rw [eo]; exact t4 cN (by omega)
          obtain ⟨l5, g1, g2, g3, g4, g5, g6⟩ := t9 o ho4
          refine lv_if_ge (tgt := 53) hx hb dX0_append_32 (by decide) (fun _ => ?_) (fun c9 => absurd (nI_pos' (by omega)) c9)
          refine lv_aload_n hx hb dX0_append_53 rfl (lv_at hl 0 rfl) ?_
          refine x0_get (v := .ref (ad 4)) S0 hK hP rfl 4 (by decide) q36 rfl dX0_append_54 ?_
          refine lv_aload_n hx hb dX0_append_57 rfl (lv_at hl 0 rfl) ?_
          refine x0_get (v := .int (nI o)) S0 hK hP rfl 10 (by decide) q42 rfl dX0_append_58 ?_
          refine lv_iconst (v := nI 4) hx hb dX0_append_61 rfl ?_
          refine kw_imul S0 dX0_append_62 ?_
          refine lv_iload_n hx hb dX0_append_63 rfl (lv_at hl 1 rfl) ?_
          refine kw_top (y := nI lt) ex ?_
          refine kw_iadd S0 dX0_append_64 ?_
          rcases g6 lt hlt with ech | ⟨ch, hch, ech, hwch⟩
          · refine kw_iald (y := (-1)) S0 hK hP 4 0 rfl rfl (by omega) (by decide) (ech) dX0_append_65 ?_
            refine lv_if_lt (tgt := 89) hx hb dX0_append_66 (by decide) (fun _ => ?_) (fun c9 => absurd (by decide) c9)
            refine lv_aload_n hx hb dX0_append_89 rfl (lv_at hl 0 rfl) ?_
            refine x0_get (v := .ref (ad 4)) S0 hK hP rfl 4 (by decide) q36 rfl dX0_append_90 ?_
            refine lv_aload_n hx hb dX0_append_93 rfl (lv_at hl 0 rfl) ?_
            refine x0_get (v := .int (nI o)) S0 hK hP rfl 10 (by decide) q42 rfl dX0_append_94 ?_
            refine lv_iconst (v := nI 4) hx hb dX0_append_97 rfl ?_
            refine kw_imul S0 dX0_append_98 ?_
            refine lv_iload_n hx hb dX0_append_99 rfl (lv_at hl 1 rfl) ?_
            refine kw_top (y := nI lt) ex ?_
            refine kw_iadd S0 dX0_append_100 ?_
            refine lv_aload_n hx hb dX0_append_101 rfl (lv_at hl 0 rfl) ?_
            refine x0_get (v := .int (nI (4 + cN))) S0 hK hP rfl 0 (by decide) q32 rfl dX0_append_102 ?_
            refine kw_iast S0 hK hP hD hS 4 0 rfl rfl (by omega) (by decide) dX0_append_105 (fun H locs hP hD hS => ?_)
            have hP : va_P D vwCl (XWc ad cI cB (nI (4 + cN)) (nI T.length) (nI cN) (nI o) a11 (nI 0) b1 b2 b3 (upd b4 (o * 4 + lt) (nI (4 + cN))) b5 b8 b9 b12 b13 b15 b16) H := hP
            have hD : va_D A (XWc ad cI cB (nI (4 + cN)) (nI T.length) (nI cN) (nI o) a11 (nI 0) b1 b2 b3 (upd b4 (o * 4 + lt) (nI (4 + cN))) b5 b8 b9 b12 b13 b15 b16) := hD
            refine lv_aload_n hx hb dX0_append_106 rfl (lv_at hl 0 rfl) ?_
            refine lv_aload_n hx hb dX0_append_107 rfl (lv_at hl 0 rfl) ?_
            refine x0_get (v := .int (nI (4 + cN))) S0 hK hP rfl 0 (by decide) q32 rfl dX0_append_108 ?_
            refine lv_aload_n hx hb dX0_append_111 rfl (lv_at hl 0 rfl) ?_
            refine x0_get (v := .int (nI o)) S0 hK hP rfl 10 (by decide) q42 rfl dX0_append_112 ?_
            refine lv_iload_n hx hb dX0_append_115 rfl (lv_at hl 1 rfl) ?_
            refine kw_top (y := nI lt) ex ?_
            refine kw_mv (n := 3) (wc := (XWc ad cI cB (nI (4 + cN)) (nI T.length) (nI cN) (nI o) a11 (nI 0) b1 b2 b3 (upd b4 (o * 4 + lt) (nI (4 + cN))) b5 b8 b9 b12 b13 b15 b16)) (wr := []) (ci := 0) (As := [.int (nI (4 + cN)), .int (nI o), .int (nI lt)]) (rest := []) S0 hl.1 hK hP hD hS hA [0, 1, 2, 3, 4, 5, 6, 7, 8, 9, 10, 11] [] rfl rfl (by decide) (by decide) (by decide) rfl rfl (fun sz => met_X0_makePhrase l D ad cI cB (nI (4 + cN)) (nI T.length) (nI cN) (nI o) a11 (nI 0) b1 b2 b3 (upd b4 (o * 4 + lt) (nI (4 + cN))) b5 b8 b9 b12 b13 b15 b16 (4 + cN) (by omega) (nI o) (b3 o + nI 1) (fun x => b5 (o * 4 + x)) lt hlt (Or.inr ⟨o, by omega, by omega, rfl, rfl, fun _ _ => rfl⟩) sz) (lw_V q28 q30 qs1 q14 q31) rfl rfl (by decide +kernel) ⟨Nat.le_of_ble_eq_true rfl, Nat.le_of_ble_eq_true rfl⟩ rfl rfl (Nat.le_of_ble_eq_true rfl) dX0_append_116 ⟨Nat.zero_le _, Nat.zero_le _⟩ (fun v H locs hM hP hD hS => ?_)
            obtain ⟨d1, d2, d3, d4, d5⟩ := v
            have hP : va_P D vwCl (XWc ad cI cB (nI (4 + cN)) (nI T.length) (nI cN) (nI o) a11 (nI 0) d1 d2 d3 d4 d5 b8 b9 b12 b13 b15 b16) H := hP
            have hD : va_D A (XWc ad cI cB (nI (4 + cN)) (nI T.length) (nI cN) (nI o) a11 (nI 0) d1 d2 d3 d4 d5 b8 b9 b12 b13 b15 b16) := hD
            refine lv_aload_n hx hb dX0_append_119 rfl (lv_at hl 0 rfl) ?_
            refine lv_dup hx hb dX0_append_120 rfl ?_
            refine x0_get (v := .int (nI (4 + cN))) S0 hK hP rfl 0 (by decide) q32 rfl dX0_append_121 ?_
            refine lv_iconst (v := nI 1) hx hb dX0_append_124 rfl ?_
            refine kw_iadd S0 dX0_append_125 ?_
            refine x0_put (v := .int (nI (4 + cN + 1))) S0 hK hP hD hS rfl 0 (by decide) q32 rfl rfl rfl (Nat.le_of_ble_eq_true rfl) dX0_append_126 (fun H locs hP hD hS => ?_)
            have hP : va_P D vwCl (XWc ad cI cB (nI (4 + cN + 1)) (nI T.length) (nI cN) (nI o) a11 (nI 0) d1 d2 d3 d4 d5 b8 b9 b12 b13 b15 b16) H := hP
            have hD : va_D A (XWc ad cI cB (nI (4 + cN + 1)) (nI T.length) (nI cN) (nI o) a11 (nI 0) d1 d2 d3 d4 d5 b8 b9 b12 b13 b15 b16) := hD
            refine lv_aload_n hx hb dX0_append_129 rfl (lv_at hl 0 rfl) ?_
            refine x0_get (v := .ref (ad 8)) S0 hK hP rfl 8 (by decide) q40 rfl dX0_append_130 ?_
            refine lv_aload_n hx hb dX0_append_133 rfl (lv_at hl 0 rfl) ?_
            refine x0_get (v := .int (nI cN)) S0 hK hP rfl 7 (by decide) q39 rfl dX0_append_134 ?_
            refine lv_aload_n hx hb dX0_append_137 rfl (lv_at hl 0 rfl) ?_
            refine x0_get (v := .int (nI o)) S0 hK hP rfl 10 (by decide) q42 rfl dX0_append_138 ?_
            refine kw_iast S0 hK hP hD hS 6 0 rfl rfl (by omega) (by decide) dX0_append_141 (fun H locs hP hD hS => ?_)
            have hP : va_P D vwCl (XWc ad cI cB (nI (4 + cN + 1)) (nI T.length) (nI cN) (nI o) a11 (nI 0) d1 d2 d3 d4 d5 (upd b8 cN (nI o)) b9 b12 b13 b15 b16) H := hP
            have hD : va_D A (XWc ad cI cB (nI (4 + cN + 1)) (nI T.length) (nI cN) (nI o) a11 (nI 0) d1 d2 d3 d4 d5 (upd b8 cN (nI o)) b9 b12 b13 b15 b16) := hD
            refine lv_aload_n hx hb dX0_append_142 rfl (lv_at hl 0 rfl) ?_
            refine lv_dup hx hb dX0_append_143 rfl ?_
            refine x0_get (v := .int (nI cN)) S0 hK hP rfl 7 (by decide) q39 rfl dX0_append_144 ?_
            refine lv_iconst (v := nI 1) hx hb dX0_append_147 rfl ?_
            refine kw_iadd S0 dX0_append_148 ?_
            refine x0_put (v := .int (nI (cN + 1))) S0 hK hP hD hS rfl 7 (by decide) q39 rfl rfl rfl (Nat.le_of_ble_eq_true rfl) dX0_append_149 (fun H locs hP hD hS => ?_)
            have hP : va_P D vwCl (XWc ad cI cB (nI (4 + cN + 1)) (nI T.length) (nI (cN + 1)) (nI o) a11 (nI 0) d1 d2 d3 d4 d5 (upd b8 cN (nI o)) b9 b12 b13 b15 b16) H := hP
            have hD : va_D A (XWc ad cI cB (nI (4 + cN + 1)) (nI T.length) (nI (cN + 1)) (nI o) a11 (nI 0) d1 d2 d3 d4 d5 (upd b8 cN (nI o)) b9 b12 b13 b15 b16) := hD
            refine lv_aload_n hx hb dX0_append_152 rfl (lv_at hl 0 rfl) ?_
            refine x0_get (v := .ref (ad 9)) S0 hK hP rfl 9 (by decide) q41 rfl dX0_append_153 ?_
            refine lv_aload_n hx hb dX0_append_156 rfl (lv_at hl 0 rfl) ?_
            refine x0_get (v := .int (nI (cN + 1))) S0 hK hP rfl 7 (by decide) q39 rfl dX0_append_157 ?_
            refine lv_aload_n hx hb dX0_append_160 rfl (lv_at hl 0 rfl) ?_
            refine x0_get (v := .int (nI T.length)) S0 hK hP rfl 6 (by decide) q38 rfl dX0_append_161 ?_
            refine kw_iast S0 hK hP hD hS 7 0 rfl rfl (by omega) (by decide) dX0_append_164 (fun H locs hP hD hS => ?_)
            have hP : va_P D vwCl (XWc ad cI cB (nI (4 + cN + 1)) (nI T.length) (nI (cN + 1)) (nI o) a11 (nI 0) d1 d2 d3 d4 d5 (upd b8 cN (nI o)) (upd b9 (cN + 1) (nI T.length)) b12 b13 b15 b16) H := hP
            have hD : va_D A (XWc ad cI cB (nI (4 + cN + 1)) (nI T.length) (nI (cN + 1)) (nI o) a11 (nI 0) d1 d2 d3 d4 d5 (upd b8 cN (nI o)) (upd b9 (cN + 1) (nI T.length)) b12 b13 b15 b16) := hD
            refine lv_aload_n hx hb dX0_append_165 rfl (lv_at hl 0 rfl) ?_
            refine lv_iload_n hx hb dX0_append_166 rfl (lv_at hl 1 rfl) ?_
            refine kw_top (y := nI lt) ex ?_
            refine x0_put (v := .int (nI lt)) S0 hK hP hD hS rfl 10 (by decide) q42 rfl rfl rfl (Nat.le_of_ble_eq_true rfl) dX0_append_167 (fun H locs hP hD hS => ?_)
            have hP : va_P D vwCl (XWc ad cI cB (nI (4 + cN + 1)) (nI T.length) (nI (cN + 1)) (nI lt) a11 (nI 0) d1 d2 d3 d4 d5 (upd b8 cN (nI o)) (upd b9 (cN + 1) (nI T.length)) b12 b13 b15 b16) H := hP
            have hD : va_D A (XWc ad cI cB (nI (4 + cN + 1)) (nI T.length) (nI (cN + 1)) (nI lt) a11 (nI 0) d1 d2 d3 d4 d5 (upd b8 cN (nI o)) (upd b9 (cN + 1) (nI T.length)) b12 b13 b15 b16) := hD
            refine lv_aload_n hx hb dX0_append_170 rfl (lv_at hl 0 rfl) ?_
            refine lv_dup hx hb dX0_append_171 rfl ?_
            refine x0_get (v := .int (nI T.length)) S0 hK hP rfl 6 (by decide) q38 rfl dX0_append_172 ?_
            refine lv_iconst (v := nI 1) hx hb dX0_append_175 rfl ?_
            refine kw_iadd S0 dX0_append_176 ?_
            refine x0_put (v := .int (nI (T.length + 1))) S0 hK hP hD hS rfl 6 (by decide) q38 rfl rfl rfl (Nat.le_of_ble_eq_true rfl) dX0_append_177 (fun H locs hP hD hS => ?_)
            have hP : va_P D vwCl (XWc ad cI cB (nI (4 + cN + 1)) (nI (T.length + 1)) (nI (cN + 1)) (nI lt) a11 (nI 0) d1 d2 d3 d4 d5 (upd b8 cN (nI o)) (upd b9 (cN + 1) (nI T.length)) b12 b13 b15 b16) H := hP
            have hD : va_D A (XWc ad cI cB (nI (4 + cN + 1)) (nI (T.length + 1)) (nI (cN + 1)) (nI lt) a11 (nI 0) d1 d2 d3 d4 d5 (upd b8 cN (nI o)) (upd b9 (cN + 1) (nI T.length)) b12 b13 b15 b16) := hD
            refine lv_aload_n hx hb dX0_append_180 rfl (lv_at hl 0 rfl) ?_
            refine x0_get (v := .int (nI (T.length + 1))) S0 hK hP rfl 6 (by decide) q38 rfl dX0_append_181 ?_
            exact W.iret (v := nI (T.length + 1)) hx hb hr (fun t ht hW => ⟨⟨nI (T.length + 1), ((nI (4 + cN + 1), nI (T.length + 1), nI (cN + 1), nI lt, a11, nI 0), (d1, d2, d3, d4, d5, upd b8 cN (nI o), upd b9 (cN + 1) (nI T.length), b12, b13, b15, b16)), rfl, ⟨eR.symm, by rw [eT]; exact ⟨_, _, _, kx_app_C hT0 hkl k3 hlt eo hM, hPI, Or.inl nI_0⟩⟩, by rw [ht]; exact hP, hD⟩, hS.F ht⟩) hS.2.2 dX0_append_184
          · refine kw_iald (y := nI ch) S0 hK hP 4 0 rfl rfl (by omega) (by decide) (ech) dX0_append_65 ?_
            refine lv_if_lt (tgt := 89) hx hb dX0_append_66 (by decide) (fun c9 => absurd c9 (nI_pos (by omega))) (fun _ => ?_)
            refine lv_aload_n hx hb dX0_append_69 rfl (lv_at hl 0 rfl) ?_
            refine lv_aload_n hx hb dX0_append_70 rfl (lv_at hl 0 rfl) ?_
            refine x0_get (v := .ref (ad 4)) S0 hK hP rfl 4 (by decide) q36 rfl dX0_append_71 ?_
            refine lv_aload_n hx hb dX0_append_74 rfl (lv_at hl 0 rfl) ?_
            refine x0_get (v := .int (nI o)) S0 hK hP rfl 10 (by decide) q42 rfl dX0_append_75 ?_
            refine lv_iconst (v := nI 4) hx hb dX0_append_78 rfl ?_
            refine kw_imul S0 dX0_append_79 ?_
            refine lv_iload_n hx hb dX0_append_80 rfl (lv_at hl 1 rfl) ?_
            refine kw_top (y := nI lt) ex ?_
            refine kw_iadd S0 dX0_append_81 ?_
            refine kw_iald (y := nI ch) S0 hK hP 4 0 rfl rfl (by omega) (by decide) (ech) dX0_append_82 ?_
            refine x0_put (v := .int (nI ch)) S0 hK hP hD hS rfl 10 (by decide) q42 rfl rfl rfl (Nat.le_of_ble_eq_true rfl) dX0_append_83 (fun H locs hP hD hS => ?_)
            have hP : va_P D vwCl (XWc ad cI cB (nI (4 + cN)) (nI T.length) (nI cN) (nI ch) a11 (nI 0) b1 b2 b3 b4 b5 b8 b9 b12 b13 b15 b16) H := hP
            have hD : va_D A (XWc ad cI cB (nI (4 + cN)) (nI T.length) (nI cN) (nI ch) a11 (nI 0) b1 b2 b3 b4 b5 b8 b9 b12 b13 b15 b16) := hD
            refine lv_goto (tgt := 170) hx hb dX0_append_86 (by decide) ?_
            refine lv_aload_n hx hb dX0_append_170 rfl (lv_at hl 0 rfl) ?_
            refine lv_dup hx hb dX0_append_171 rfl ?_
            refine x0_get (v := .int (nI T.length)) S0 hK hP rfl 6 (by decide) q38 rfl dX0_append_172 ?_
            refine lv_iconst (v := nI 1) hx hb dX0_append_175 rfl ?_
            refine kw_iadd S0 dX0_append_176 ?_
            refine x0_put (v := .int (nI (T.length + 1))) S0 hK hP hD hS rfl 6 (by decide) q38 rfl rfl rfl (Nat.le_of_ble_eq_true rfl) dX0_append_177 (fun H locs hP hD hS => ?_)
            have hP : va_P D vwCl (XWc ad cI cB (nI (4 + cN)) (nI (T.length + 1)) (nI cN) (nI ch) a11 (nI 0) b1 b2 b3 b4 b5 b8 b9 b12 b13 b15 b16) H := hP
            have hD : va_D A (XWc ad cI cB (nI (4 + cN)) (nI (T.length + 1)) (nI cN) (nI ch) a11 (nI 0) b1 b2 b3 b4 b5 b8 b9 b12 b13 b15 b16) := hD
            refine lv_aload_n hx hb dX0_append_180 rfl (lv_at hl 0 rfl) ?_
            refine x0_get (v := .int (nI (T.length + 1))) S0 hK hP rfl 6 (by decide) q38 rfl dX0_append_181 ?_
            exact W.iret (v := nI (T.length + 1)) hx hb hr (fun t ht hW => ⟨⟨nI (T.length + 1), ((nI (4 + cN), nI (T.length + 1), nI cN, nI ch, a11, nI 0), (b1, b2, b3, b4, b5, b8, b9, b12, b13, b15, b16)), rfl, ⟨eR.symm, by rw [eT]; exact ⟨wd, _, cN, kx_app_B hT0 hkl k3 hlt hch (by rw [← eo]; exact hwch), hPI, Or.inl nI_0⟩⟩, by rw [ht]; exact hP, hD⟩, hS.F ht⟩) hS.2.2 dX0_append_184
      · refine lv_bipush (v := (-2)) hx hb dX0_append_20 rfl ?_
        exact W.iret (v := (-2)) hx hb hr (fun t ht hW => ⟨⟨(-2), ((nI (4 + cN), nI T.length, nI cN, a10, a11, a14), (b1, b2, b3, b4, b5, b8, b9, b12, b13, b15, b16)), rfl, ⟨by rw [kx_appR, if_neg hok, if_pos k3], by rw [kx_appT, if_neg hok, if_pos k3]; exact hI0⟩, by rw [ht]; exact hP, hD⟩, hS.F ht⟩) hS.2.2 dX0_append_22
    · refine lv_iconst (v := (-1)) hx hb dX0_append_9 rfl ?_
      exact W.iret (v := (-1)) hx hb hr (fun t ht hW => ⟨⟨(-1), ((nI (4 + cN), nI T.length, nI cN, a10, a11, a14), (b1, b2, b3, b4, b5, b8, b9, b12, b13, b15, b16)), rfl, ⟨by rw [kx_appR, if_pos (Or.inr k2)], by rw [kx_appT, if_pos (Or.inr k2)]; exact hI0⟩, by rw [ht]; exact hP, hD⟩, hS.F ht⟩) hS.2.2 dX0_append_10
set_option maxHeartbeats 4000000 in
set_option maxRecDepth 100000 in
/-- repeat(x, y) -/
theorem met_X0_repeat (l : Launch) (D : va_G) (ad : Nat → Nat) (cI cB : ClassId) (a0 a6 a7 a10 a11 a14 : Int32) (b1 b2 b3 b4 b5 b8 b9 b12 b13 b15 b16 : XA) (T w : List Nat) (hI : kx_Ic a0 a6 a7 a10 a11 a14 b1 b2 b3 b4 b5 b8 b9 b12 b13 b15 b16 T w) (x y : Int32) (sz : Nat) : Met l yX0_repeat (ws_ yX0_repeat cX0_repeat 6 (some .int)) ({ frames := 2, cells := 0, slots := 0, locals := 48 }) (kx_Pm D (tys_ cI cB) (XWc ad cI cB a0 a6 a7 a10 a11 a14 b1 b2 b3 b4 b5 b8 b9 b12 b13 b15 b16) sz [.ref (ad 0), .int x, .int y]) (va_Qi (fun (r : Int32) (u : XS) => r = kx_repR T x y ∧ kx_Inv u (kx_repT T x y) w) (kx_B D (fun u : XS => XWs ad cI cB u) (va_A (XWc ad cI cB a0 a6 a7 a10 a11 a14 b1 b2 b3 b4 b5 b8 b9 b12 b13 b15 b16) sz)) (va_A (XWc ad cI cB a0 a6 a7 a10 a11 a14 b1 b2 b3 b4 b5 b8 b9 b12 b13 b15 b16) sz)) 0 0 (va_A (XWc ad cI cB a0 a6 a7 a10 a11 a14 b1 b2 b3 b4 b5 b8 b9 b12 b13 b15 b16) sz) := by
  refine Met.ofW (cc := cX0_repeat) (maxL := 6) (ret := (some .int)) (by decide) rfl ?_
  intro p e s m args below meth c s₁ B hml hv
  obtain ⟨rfl, hsz, hP, hK, hD0⟩ := hv
  have hx := B.exec
  have hb := B.bytes
  have hr := B.returns
  have hts := atoms_spec (ws := ws_ yX0_repeat cX0_repeat 6 (some .int)) B.pre
  have hts : ∀ w ∈ lw_all, w.before _ s = true := fun w h => hts w (List.mem_cons_of_mem _ h)
  have hown : s.vm.findClass RX0 = some m.cls := findClass_of_methodNamed B.named
  have hlocks := B.notSynchronized
  have S0 : CallFix p m c cX0_repeat 6 s _ lw_all RX0 := ⟨hx, hb, hml, hown, hts⟩
  subst hsz
  have hD := hD0.self (sz := s.heap.size)
  generalize hAe : va_A (XWc ad cI cB a0 a6 a7 a10 a11 a14 b1 b2 b3 b4 b5 b8 b9 b12 b13 b15 b16) s.heap.size = A at hD ⊢
  have hA : ∀ q : Nat, s.heap.size ≤ q → A q := fun q h => by rw [← hAe]; exact Or.inr h
  have hS : va_S A s.heap s.heap [] := va_S.rf
  have hl := lv_entry ([.ref (ad 0), .int x, .int y]) (n := 6) (Nat.le_of_ble_eq_true rfl)
  rw [lg_entry_eq]
  generalize (lg_sl ([.ref (ad 0), .int x, .int y]) ++ List.replicate (6 - (lg_sl ([.ref (ad 0), .int x, .int y])).length) Slot.unset).toArray = ls at hl ⊢
  have hl : lv_has ls 6 [(0, .ref (ad 0)), (1, .int x), (2, .int y)] := hl
  have hI0 := hI
  have hIx : kx_Inv ((a0, a6, a7, a10, a11, a14), (b1, b2, b3, b4, b5, b8, b9, b12, b13, b15, b16)) T w := hI
  obtain ⟨K, eK⟩ : ∃ K : Nat, K = y.toNatClampNeg := ⟨_, rfl⟩
  have hK31 : K < 2 ^ 31 := by
    have h1 := Int32.toInt_lt y
    rw [eK, kx_toInt_clamp]
    omega
  have h6 : a6 = nI T.length := by
    obtain ⟨_, _, _, hT, -, -⟩ := hI
    obtain ⟨-, -, -, -, -, -, -, e6, -, -, -, -⟩ := hT
    exact e6
  have t1 : T.length ≤ 120 := by
    obtain ⟨_, _, _, hT, -, -⟩ := hI
    exact hT.1
  have t2 : ∀ x, x ∈ T → x < 4 := by
    obtain ⟨_, _, _, hT, -, -⟩ := hI
    exact hT.2.1
  subst h6
  refine lv_iload_n hx hb dX0_repeat_0 rfl (lv_at hl 2 rfl) ?_
  have after : ∀ (H : Heap) (locs : List Loc), va_P D vwCl (XWc ad cI cB a0 (nI T.length) a7 a10 a11 a14 b1 b2 b3 b4 b5 b8 b9 b12 b13 b15 b16) H → va_D A (XWc ad cI cB a0 (nI T.length) a7 a10 a11 a14 b1 b2 b3 b4 b5 b8 b9 b12 b13 b15 b16) → va_S A s.heap H locs → ∀ (ls : Array Slot), lv_has ls 6 [(0, .ref (ad 0)), (1, .int x), (2, .int y)] → W p l e (headSpec (ws_ yX0_repeat cX0_repeat 6 (some .int)) ({ frames := 2, cells := 0, slots := 0, locals := 48 })).room s m ([.ref (ad 0), .int x, .int y] : List Value).toArray below meth c H locs 0 0 (MQ below (va_Qi (fun (r : Int32) (u : XS) => r = kx_repR T x y ∧ kx_Inv u (kx_repT T x y) w) (kx_B D (fun u : XS => XWs ad cI cB u) A) A) ([.ref (ad 0), .int x, .int y] : List Value).toArray s 0 0 A) (F0 m 9 ls [.int (nI K)]) := by
    intro H locs hP hD hS ls hl
    refine lv_istore_n (lv' := [(3, .int (nI K)), (0, .ref (ad 0)), (1, .int x), (2, .int y)]) hx hb dX0_repeat_9 rfl hl (by decide) rfl (fun ls hl => ?_)
    refine lv_iload_n hx hb dX0_repeat_10 rfl (lv_at hl 2 rfl) ?_
    refine lv_if_lt (tgt := 22) hx hb dX0_repeat_11 (by decide) (fun k1 => ?_) (fun k1 => ?_)
    · refine lv_bipush (v := (-3)) hx hb dX0_repeat_22 rfl ?_
      exact W.iret (v := (-3)) hx hb hr (fun t ht hW => ⟨⟨(-3), ((a0, nI T.length, a7, a10, a11, a14), (b1, b2, b3, b4, b5, b8, b9, b12, b13, b15, b16)), rfl, ⟨by rw [kx_repR, if_pos (Or.inl k1)], by rw [kx_repT, if_pos (Or.inl k1)]; exact hIx⟩, by rw [ht]; exact hP, hD⟩, hS.F ht⟩) hS.2.2 dX0_repeat_24
    · obtain ⟨j, hj, ej⟩ := nI_of k1
      refine lv_iload_n hx hb dX0_repeat_14 rfl (lv_at hl 2 rfl) ?_
      refine kw_top (y := nI j) ej ?_
      refine lv_aload_n hx hb dX0_repeat_15 rfl (lv_at hl 1 rfl) ?_
      refine x0_get (v := .int (nI T.length)) S0 hK hP rfl 6 (by decide) q38 rfl dX0_repeat_16 ?_
      refine kw_lt (tgt := 25) S0 dX0_repeat_19 (by decide) (hj) (by omega) (fun k2 => ?_) (fun k2 => ?_)
      · have hgood : ¬ (x < 0 ∨ nI T.length ≤ x) := fun z => z.elim k1 (fun z => by rw [ej] at z; exact nI_ge k2 (by omega) z)
        refine lv_iload_n hx hb dX0_repeat_25 rfl (lv_at hl 0 rfl) ?_
        refine lv_bipush (v := nI 120) hx hb dX0_repeat_26 rfl ?_
        refine lv_aload_n hx hb dX0_repeat_28 rfl (lv_at hl 1 rfl) ?_
        refine x0_get (v := .int (nI T.length)) S0 hK hP rfl 6 (by decide) q38 rfl dX0_repeat_29 ?_
        refine kw_isub S0 dX0_repeat_32 (t1) ?_
        refine kw_le (tgt := 39) S0 dX0_repeat_33 (by decide) (by omega) (by omega) (fun k3 => ?_) (fun k3 => ?_)
        · have hg3 : ¬ 120 - T.length < y.toNatClampNeg := by omega
          have loop : ∀ (z i : Nat) (na0 na6 na7 na10 na11 na14 : Int32) (nb1 nb2 nb3 nb4 nb5 nb8 nb9 nb12 nb13 nb15 nb16 : XA), i ≤ K → K < i + z → kx_Ic na0 na6 na7 na10 na11 na14 nb1 nb2 nb3 nb4 nb5 nb8 nb9 nb12 nb13 nb15 nb16 (kx_ext T j i) w → ∀ (H : Heap) (locs : List Loc), va_P D vwCl (XWc ad cI cB na0 na6 na7 na10 na11 na14 nb1 nb2 nb3 nb4 nb5 nb8 nb9 nb12 nb13 nb15 nb16) H → va_D A (XWc ad cI cB na0 na6 na7 na10 na11 na14 nb1 nb2 nb3 nb4 nb5 nb8 nb9 nb12 nb13 nb15 nb16) → va_S A s.heap H locs → ∀ (ls : Array Slot), lv_has ls 6 [(4, .int (nI i)), (3, .int (nI K)), (0, .ref (ad 0)), (1, .int x), (2, .int y)] → W p l e (headSpec (ws_ yX0_repeat cX0_repeat 6 (some .int)) ({ frames := 2, cells := 0, slots := 0, locals := 48 })).room s m ([.ref (ad 0), .int x, .int y] : List Value).toArray below meth c H locs 0 0 (MQ below (va_Qi (fun (r : Int32) (u : XS) => r = kx_repR T x y ∧ kx_Inv u (kx_repT T x y) w) (kx_B D (fun u : XS => XWs ad cI cB u) A) A) ([.ref (ad 0), .int x, .int y] : List Value).toArray s 0 0 A) (F0 m 42 ls []) := by
            intro z
            induction z with
            | zero => intro i na0 na6 na7 na10 na11 na14 nb1 nb2 nb3 nb4 nb5 nb8 nb9 nb12 nb13 nb15 nb16 h1 h2; exact absurd h2 (by omega)
            | succ z ih =>
              intro i na0 na6 na7 na10 na11 na14 nb1 nb2 nb3 nb4 nb5 nb8 nb9 nb12 nb13 nb15 nb16 hi hiz hIi H locs hP hD hS ls hl
              have hIi0 := hIi
              obtain ⟨wd, kk, cN, hT, hPI, hRI⟩ := hIi
              have hT0 := hT
              have elen := kx_ext_len T j i
              refine lv_iload hx hb dX0_repeat_42 (lv_at hl 0 rfl) ?_
              refine lv_iload_n hx hb dX0_repeat_44 rfl (lv_at hl 1 rfl) ?_
              refine kw_ge (tgt := 71) S0 dX0_repeat_45 (by decide) (by omega) (by omega) (fun k4 => ?_) (fun k4 => ?_)
              · have eiK : i = K := by omega
                have e6 : na6 = nI (kx_ext T j i).length := by
                  obtain ⟨-, -, -, -, -, -, -, e6, -, -, -, -⟩ := hT
                  exact e6
                refine lv_aload_n hx hb dX0_repeat_71 rfl (lv_at hl 2 rfl) ?_
                refine x0_get (v := .int na6) S0 hK hP rfl 6 (by decide) q38 rfl dX0_repeat_72 ?_
                refine kw_top (y := nI (T.length + K)) (by rw [e6, elen, eiK]) ?_
                exact W.iret (v := nI (T.length + K)) hx hb hr (fun t ht hW => ⟨⟨nI (T.length + K), ((na0, na6, na7, na10, na11, na14), (nb1, nb2, nb3, nb4, nb5, nb8, nb9, nb12, nb13, nb15, nb16)), rfl, ⟨by rw [kx_repR, if_neg hgood, if_neg hg3, eK], by rw [kx_repT, if_neg hgood, if_neg hg3, ej, nI_clamp hj, ← eK, ← eiK]; exact hIi0⟩, by rw [ht]; exact hP, hD⟩, hS.F ht⟩) hS.2.2 dX0_repeat_75
              · refine lv_aload_n hx hb dX0_repeat_48 rfl (lv_at hl 2 rfl) ?_
                refine lv_iload_n hx hb dX0_repeat_49 rfl (lv_at hl 3 rfl) ?_
                refine kw_top (y := nI j) ej ?_
                refine lv_iload hx hb dX0_repeat_50 (lv_at hl 0 rfl) ?_
                refine kw_iadd S0 dX0_repeat_52 ?_
                refine kw_ro (n := 1) (wc := (XWc ad cI cB na0 na6 na7 na10 na11 na14 nb1 nb2 nb3 nb4 nb5 nb8 nb9 nb12 nb13 nb15 nb16)) (ci := 0) (As := [.int (nI (j + i))]) (rest := []) S0 hl.1 hK hP [0, 1, 2, 3, 4, 5, 6, 7, 8, 9, 10, 11] rfl rfl rfl (met_X0_letterAt l D ad cI cB na0 na6 na7 na10 na11 na14 nb1 nb2 nb3 nb4 nb5 nb8 nb9 nb12 nb13 nb15 nb16 (kx_ext T j i) wd kk cN hT (nI (j + i))) (lw_V q94 q95 q96 q14 q97) rfl rfl (by decide +kernel) ⟨Nat.le_of_ble_eq_true rfl, Nat.le_of_ble_eq_true rfl⟩ rfl rfl (Nat.le_of_ble_eq_true rfl) dX0_repeat_53 ⟨Nat.zero_le _, Nat.zero_le _⟩ (fun r1 hr1 => ?_)
                refine kw_top (y := nI ((kx_ext T j i).getD (j + i) 0)) (by rw [hr1, kx_la_in (by omega) (by omega)]) ?_
                refine lv_istore (lv' := [(5, .int (nI ((kx_ext T j i).getD (j + i) 0))), (4, .int (nI i)), (3, .int (nI K)), (0, .ref (ad 0)), (1, .int x), (2, .int y)]) hx hb dX0_repeat_56 hl (by decide) rfl (fun ls hl => ?_)
                refine lv_aload_n hx hb dX0_repeat_58 rfl (lv_at hl 3 rfl) ?_
                refine lv_iload hx hb dX0_repeat_59 (lv_at hl 0 rfl) ?_
                refine kw_mi (n := 1) (wc := (XWc ad cI cB na0 na6 na7 na10 na11 na14 nb1 nb2 nb3 nb4 nb5 nb8 nb9 nb12 nb13 nb15 nb16)) (wr := []) (ci := 0) (As := [.int (nI ((kx_ext T j i).getD (j + i) 0))]) (rest := []) S0 hl.1 hK hP hD hS hA [0, 1, 2, 3, 4, 5, 6, 7, 8, 9, 10, 11] [] rfl rfl (by decide) (by decide) (by decide) rfl rfl (fun sz => met_X0_append l D ad cI cB na0 na6 na7 na10 na11 na14 nb1 nb2 nb3 nb4 nb5 nb8 nb9 nb12 nb13 nb15 nb16 (kx_ext T j i) w hIi0 (nI ((kx_ext T j i).getD (j + i) 0)) sz) (lw_V q110 q87 q88 q14 q89) rfl rfl (by decide +kernel) ⟨Nat.le_of_ble_eq_true rfl, Nat.le_of_ble_eq_true rfl⟩ rfl rfl (Nat.le_of_ble_eq_true rfl) dX0_repeat_61 ⟨Nat.zero_le _, Nat.zero_le _⟩ (fun r2 v H locs hv2 hP hD hS => ?_)
                have hv3 := hv2.2
                rw [kx_ext_app t2 k2 (by omega)] at hv3
                obtain ⟨⟨oa0, oa6, oa7, oa10, oa11, oa14⟩, ⟨ob1, ob2, ob3, ob4, ob5, ob8, ob9, ob12, ob13, ob15, ob16⟩⟩ := v
                have hP : va_P D vwCl (XWc ad cI cB oa0 oa6 oa7 oa10 oa11 oa14 ob1 ob2 ob3 ob4 ob5 ob8 ob9 ob12 ob13 ob15 ob16) H := hP
                have hD : va_D A (XWc ad cI cB oa0 oa6 oa7 oa10 oa11 oa14 ob1 ob2 ob3 ob4 ob5 ob8 ob9 ob12 ob13 ob15 ob16) := hD
                refine lv_pop hx hb dX0_repeat_64 rfl ?_
                refine lv_iinc (v := nI (i + 1)) (lv' := [(4, .int (nI (i + 1))), (5, .int (nI ((kx_ext T j i).getD (j + i) 0))), (3, .int (nI K)), (0, .ref (ad 0)), (1, .int x), (2, .int y)]) hx hb dX0_repeat_65 hl (k := 1) rfl (nI_1 i) (by decide) rfl (fun ls hl => ?_)
                refine lv_goto (tgt := 42) hx hb dX0_repeat_68 (by decide) ?_
                exact ih (i + 1) oa0 oa6 oa7 oa10 oa11 oa14 ob1 ob2 ob3 ob4 ob5 ob8 ob9 ob12 ob13 ob15 ob16 (by omega) (by omega) hv3 _ _ hP hD hS ls (lv_sub hl [0, 2, 3, 4, 5] rfl)
          refine lv_iconst (v := nI 0) hx hb dX0_repeat_39 rfl ?_
          refine lv_istore (lv' := [(4, .int (nI 0)), (3, .int (nI K)), (0, .ref (ad 0)), (1, .int x), (2, .int y)]) hx hb dX0_repeat_40 hl (by decide) rfl (fun ls hl => ?_)
          exact loop (K + 1) 0 a0 (nI T.length) a7 a10 a11 a14 b1 b2 b3 b4 b5 b8 b9 b12 b13 b15 b16 (by omega) (by omega) hI0 _ _ hP hD hS ls (lv_sub hl [0, 1, 2, 3, 4] rfl)
        · have hb3 : 120 - T.length < y.toNatClampNeg := by omega
          refine lv_bipush (v := (-2)) hx hb dX0_repeat_36 rfl ?_
          exact W.iret (v := (-2)) hx hb hr (fun t ht hW => ⟨⟨(-2), ((a0, nI T.length, a7, a10, a11, a14), (b1, b2, b3, b4, b5, b8, b9, b12, b13, b15, b16)), rfl, ⟨by rw [kx_repR, if_neg hgood, if_pos hb3], by rw [kx_repT, if_neg hgood, if_pos hb3]; exact hIx⟩, by rw [ht]; exact hP, hD⟩, hS.F ht⟩) hS.2.2 dX0_repeat_38
      · have hbad : x < 0 ∨ nI T.length ≤ x := Or.inr (by rw [ej]; exact nI_le k2 hj)
        refine lv_bipush (v := (-3)) hx hb dX0_repeat_22 rfl ?_
        exact W.iret (v := (-3)) hx hb hr (fun t ht hW => ⟨⟨(-3), ((a0, nI T.length, a7, a10, a11, a14), (b1, b2, b3, b4, b5, b8, b9, b12, b13, b15, b16)), rfl, ⟨by rw [kx_repR, if_pos hbad], by rw [kx_repT, if_pos hbad]; exact hIx⟩, by rw [ht]; exact hP, hD⟩, hS.F ht⟩) hS.2.2 dX0_repeat_24
  refine lv_if_ge (tgt := 8) hx hb dX0_repeat_1 (by decide) (fun k0 => ?_) (fun k0 => ?_)
  · obtain ⟨jy, hjy, ejy⟩ := nI_of (kx_nlt k0)
    have eKy : y = nI K := by rw [eK, ejy, nI_clamp hjy]
    refine lv_iload_n hx hb dX0_repeat_8 rfl (lv_at hl 2 rfl) ?_
    refine kw_top (y := nI K) eKy ?_
    exact after _ _ hP hD hS ls hl
  · refine lv_iconst (v := nI 0) hx hb dX0_repeat_4 rfl ?_
    refine lv_goto (tgt := 9) hx hb dX0_repeat_5 (by decide) ?_
    refine kw_top (y := nI K) (by rw [eK, kx_clamp_neg k0]) ?_
    exact after _ _ hP hD hS ls hl
set_option maxHeartbeats 4000000 in
set_option maxRecDepth 100000 in
/-- clearPattern() -/
theorem met_X0_clearPattern (l : Launch) (D : va_G) (ad : Nat → Nat) (cI cB : ClassId) (a0 a6 a7 a10 a11 a14 : Int32) (b1 b2 b3 b4 b5 b8 b9 b12 b13 b15 b16 : XA) (T w : List Nat) (hI : kx_Ic a0 a6 a7 a10 a11 a14 b1 b2 b3 b4 b5 b8 b9 b12 b13 b15 b16 T w) (sz : Nat) : Met l yX0_clearPattern (ws_ yX0_clearPattern cX0_clearPattern 1 none) ({ frames := 0, cells := 0, slots := 0, locals := 0 }) (kx_Pm D (tys_ cI cB) (XWc ad cI cB a0 a6 a7 a10 a11 a14 b1 b2 b3 b4 b5 b8 b9 b12 b13 b15 b16) sz [.ref (ad 0)]) (va_Qv (fun (u : XS) => kx_Inv u T []) (kx_B D (fun u : XS => XWs ad cI cB u) (va_A (XWc ad cI cB a0 a6 a7 a10 a11 a14 b1 b2 b3 b4 b5 b8 b9 b12 b13 b15 b16) sz)) (va_A (XWc ad cI cB a0 a6 a7 a10 a11 a14 b1 b2 b3 b4 b5 b8 b9 b12 b13 b15 b16) sz)) 0 0 (va_A (XWc ad cI cB a0 a6 a7 a10 a11 a14 b1 b2 b3 b4 b5 b8 b9 b12 b13 b15 b16) sz) := by
  refine Met.ofW (cc := cX0_clearPattern) (maxL := 1) (ret := none) (by decide) rfl ?_
  intro p e s m args below meth c s₁ B hml hv
  obtain ⟨rfl, hsz, hP, hK, hD0⟩ := hv
  have hx := B.exec
  have hb := B.bytes
  have hr := B.returns
  have hts := atoms_spec (ws := ws_ yX0_clearPattern cX0_clearPattern 1 none) B.pre
  have hts : ∀ w ∈ lw_all, w.before _ s = true := fun w h => hts w (List.mem_cons_of_mem _ h)
  have hown : s.vm.findClass RX0 = some m.cls := findClass_of_methodNamed B.named
  have hlocks := B.notSynchronized
  have S0 : CallFix p m c cX0_clearPattern 1 s _ lw_all RX0 := ⟨hx, hb, hml, hown, hts⟩
  subst hsz
  have hD := hD0.self (sz := s.heap.size)
  generalize hAe : va_A (XWc ad cI cB a0 a6 a7 a10 a11 a14 b1 b2 b3 b4 b5 b8 b9 b12 b13 b15 b16) s.heap.size = A at hD ⊢
  have hA : ∀ q : Nat, s.heap.size ≤ q → A q := fun q h => by rw [← hAe]; exact Or.inr h
  have hS : va_S A s.heap s.heap [] := va_S.rf
  have hl := lv_entry ([.ref (ad 0)]) (n := 1) (Nat.le_of_ble_eq_true rfl)
  rw [lg_entry_eq]
  generalize (lg_sl ([.ref (ad 0)]) ++ List.replicate (1 - (lg_sl ([.ref (ad 0)])).length) Slot.unset).toArray = ls at hl ⊢
  have hl : lv_has ls 1 [(0, .ref (ad 0))] := hl
  obtain ⟨wd, kk, cN, hT, hPI, hRI⟩ := hI
  refine lv_aload_n hx hb dX0_clearPattern_0 rfl (lv_at hl 0 rfl) ?_
  refine lv_iconst (v := nI 0) hx hb dX0_clearPattern_1 rfl ?_
  refine x0_put (v := .int (nI 0)) S0 hK hP hD hS rfl 11 (by decide) q43 rfl rfl rfl (Nat.le_of_ble_eq_true rfl) dX0_clearPattern_2 (fun H locs hP hD hS => ?_)
  have hP : va_P D vwCl (XWc ad cI cB a0 a6 a7 a10 (nI 0) a14 b1 b2 b3 b4 b5 b8 b9 b12 b13 b15 b16) H := hP
  have hD : va_D A (XWc ad cI cB a0 a6 a7 a10 (nI 0) a14 b1 b2 b3 b4 b5 b8 b9 b12 b13 b15 b16) := hD
  refine lv_aload_n hx hb dX0_clearPattern_5 rfl (lv_at hl 0 rfl) ?_
  refine lv_iconst (v := nI 0) hx hb dX0_clearPattern_6 rfl ?_
  refine x0_put (v := .int (nI 0)) S0 hK hP hD hS rfl 14 (by decide) q46 rfl rfl rfl (Nat.le_of_ble_eq_true rfl) dX0_clearPattern_7 (fun H locs hP hD hS => ?_)
  have hP : va_P D vwCl (XWc ad cI cB a0 a6 a7 a10 (nI 0) (nI 0) b1 b2 b3 b4 b5 b8 b9 b12 b13 b15 b16) H := hP
  have hD : va_D A (XWc ad cI cB a0 a6 a7 a10 (nI 0) (nI 0) b1 b2 b3 b4 b5 b8 b9 b12 b13 b15 b16) := hD
  exact W.vret hx hb hr (fun t ht hW => ⟨⟨((a0, a6, a7, a10, nI 0, nI 0), (b1, b2, b3, b4, b5, b8, b9, b12, b13, b15, b16)), rfl, ⟨wd, kk, cN, hT, ⟨by simp, fun x hx => absurd hx List.not_mem_nil, rfl, fun i hi => absurd hi (Nat.not_lt_zero _), fun h => absurd h (by simp)⟩, Or.inl nI_0⟩, by rw [ht]; exact hP, hD⟩, hS.F ht⟩) hS.2.2 dX0_clearPattern_10
end
section
/-! CONTRACTS of LzwSearcher: the pattern, the tables, the questions (printed by gen/x0p.py) -/
def kx_Nx (w : List Nat) (q : Nat) (c13 : XA) : Prop := ∀ y, y < q → ∀ x, x < 4 → c13 (y * 4 + x) = nI (kx_d w y x)
theorem kx_nx_s {w : List Nat} {q : Nat} {c13 : XA} (h : kx_Nx w q c13) (hr : ∀ x, x < 4 → c13 (q * 4 + x) = nI (kx_d w q x)) : kx_Nx w (q + 1) c13 := by
  intro y hy x hx
  rcases Nat.lt_or_ge y q with z | z
  · exact h y z x hx
  · have e : y = q := by omega
    rw [e]
    exact hr x hx
theorem kx_nx_u {w : List Nat} {q i : Nat} {c13 : XA} {v : Int32} (h : kx_Nx w q c13) : kx_Nx w q (upd c13 (q * 4 + i) v) := by
  intro y hy x hx
  rw [pk_un (by omega)]
  exact h y hy x hx
theorem kx_nx_r {w : List Nat} {q i : Nat} {c13 : XA} (hr : ∀ x, x < i → c13 (q * 4 + x) = nI (kx_d w q x)) : ∀ x, x < i + 1 → upd c13 (q * 4 + i) (nI (kx_d w q i)) (q * 4 + x) = nI (kx_d w q x) := by
  intro x hx
  by_cases e : x = i
  · rw [e, pk_us]
  · rw [pk_un (by omega)]
    exact hr x (by omega)
theorem kx_pat12 {w : List Nat} {b12 : XA} {lt : Nat} (h : ∀ i, i < w.length → b12 i = nI (w.getD i 0)) : ∀ i, i < (w ++ [lt]).length → upd b12 w.length (nI lt) i = nI ((w ++ [lt]).getD i 0) := by
  intro i hi
  rw [List.length_append, List.length_singleton] at hi
  rcases Nat.lt_or_ge i w.length with z | z
  · rw [pk_un (by omega), kx_getD_app _ z]
    exact h i z
  · have e : i = w.length := by omega
    rw [e, pk_us, kx_getD_last]
theorem kx_app4 {w : List Nat} {lt : Nat} (h : ∀ x, x ∈ w → x < 4) (hlt : lt < 4) : ∀ x, x ∈ w ++ [lt] → x < 4 := by
  intro x hx
  rcases List.mem_append.mp hx with z | z
  · exact h x z
  · rw [List.mem_singleton.mp z]
    exact hlt
theorem kx_tab_u {ph q : Nat} {wd : Nat → List Nat} {w : List Nat} {b15 b16 : XA} {x y : Int32} (hw : w.length ≤ 10) (h : kx_Tab ph wd w b15 b16) : kx_Tab ph wd w (upd b15 (ph * 11 + q) x) (upd b16 (ph * 11 + q) y) := by
  intro p hp z hz
  rw [pk_un (by omega), pk_un (by omega)]
  exact h p hp z hz
def kx_Row (ph q : Nat) (wd : Nat → List Nat) (w : List Nat) (b15 b16 : XA) : Prop := ∀ z, z < q → b15 (ph * 11 + z) = nI (kx_run w z (wd ph)) ∧ b16 (ph * 11 + z) = nI (kx_hit w z (wd ph))
theorem kx_row_u {ph q : Nat} {wd : Nat → List Nat} {w : List Nat} {b15 b16 : XA} (h : kx_Row ph q wd w b15 b16) : kx_Row ph (q + 1) wd w (upd b15 (ph * 11 + q) (nI (kx_run w q (wd ph)))) (upd b16 (ph * 11 + q) (nI (kx_hit w q (wd ph)))) := by
  intro z hz
  by_cases e : z = q
  · rw [e, pk_us, pk_us]
    exact ⟨rfl, rfl⟩
  · rw [pk_un (by omega), pk_un (by omega)]
    exact h z (by omega)
theorem kx_tab_s {ph q : Nat} {wd : Nat → List Nat} {w : List Nat} {b15 b16 : XA} (h : kx_Tab ph wd w b15 b16) (hr : kx_Row ph q wd w b15 b16) (hq : w.length < q) : kx_Tab (ph + 1) wd w b15 b16 := by
  intro p hp z hz
  rcases Nat.lt_or_ge p ph with y | y
  · exact h p y z hz
  · have e : p = ph := by omega
    rw [e]
    exact hr z (by omega)
theorem kx_T_next {T kk : List Nat} {wd : Nat → List Nat} {i : Nat} (hT : T = kk.flatMap wd) (hi : i < kk.length) : T.take (kx_st wd kk (i + 1)) = T.take (kx_st wd kk i) ++ wd (kk.getD i 0) := by
  rw [kx_st_s hi, hT, kx_T_take hi (Nat.le_refl _), List.take_length]
theorem kx_T_all {T kk : List Nat} {wd : Nat → List Nat} {i : Nat} (hT : T = kk.flatMap wd) (hi : kk.length ≤ i) : T.take (kx_st wd kk i) = T := by
  rw [kx_st_n wd kk hi, ← hT, List.take_length]
theorem kx_hit_step {w L : List Nat} {q k : Nat} (h1 : 1 ≤ k) (h2 : k ≤ L.length) : kx_hit w q (L.take k) ≤ kx_hit w q (L.take (k - 1)) + 1 := by
  obtain ⟨j, rfl⟩ : ∃ j, k = j + 1 := ⟨k - 1, by omega⟩
  rw [kx_take_s (by omega), kx_hit_app, kx_hit_one, Nat.add_sub_cancel]
  split <;> omega
theorem kx_pos_neg {f : Nat → Bool} {k : Nat} {x : Int32} (hx : x < 0) (hk : k < 2 ^ 31) : kx_PosR f k x (-4) := by
  refine Or.inr ⟨fun i hi _ e => ?_, rfl⟩
  have h := kx_cnt_le f i
  rw [e] at hx
  exact nI_pos (by omega) hx
theorem kx_pos_w0 {T w : List Nat} {k : Nat} {x : Int32} (h : w.length = 0) : kx_PosR (kx_oc T w) k x (-4) := by
  refine Or.inr ⟨fun i hi ho => ?_, rfl⟩
  have h2 := (kx_oc_len ho).1
  omega
theorem kx_pos_hit {T w kk : List Nat} {wd : Nat → List Nat} {i k lf N : Nat} (hm : 1 ≤ w.length) (hT : T = kk.flatMap wd) (hi : i < kk.length) (h1 : 1 ≤ k) (h2 : k ≤ (wd (kk.getD i 0)).length) (h3 : lf < kx_hit w (kx_run w 0 (T.take (kx_st wd kk i))) ((wd (kk.getD i 0)).take k)) (h4 : kx_hit w (kx_run w 0 (T.take (kx_st wd kk i))) ((wd (kk.getD i 0)).take (k - 1)) ≤ lf) (hN : kx_hit w 0 (T.take (kx_st wd kk i)) + lf = N) : w.length ≤ kx_st wd kk i + k ∧ kx_PosR (kx_oc T w) T.length (nI N) (nI (kx_st wd kk i + k - w.length)) := by
  have h5 := kx_hit_step (w := w) (L := wd (kk.getD i 0)) (q := kx_run w 0 (T.take (kx_st wd kk i))) h1 h2
  have hle : kx_st wd kk i + k ≤ T.length := by
    have h6 := kx_st_le wd kk (i + 1)
    rw [kx_st_s hi, ← hT] at h6
    omega
  refine kx_pos_at hm (by omega) hle ?_ ?_
  · have e : T.take (kx_st wd kk i + k) = T.take (kx_st wd kk i) ++ (wd (kk.getD i 0)).take k := by
      rw [hT]
      exact kx_T_take hi h2
    rw [e, kx_hit_app]
    omega
  · have e : T.take (kx_st wd kk i + k - 1) = T.take (kx_st wd kk i) ++ (wd (kk.getD i 0)).take (k - 1) := by
      rw [hT, Nat.add_sub_assoc h1]
      exact kx_T_take hi (by omega)
    rw [e, kx_hit_app]
    omega
set_option maxHeartbeats 4000000 in
set_option maxRecDepth 100000 in
/-- buildAutomaton(): the table of kx_d -/
theorem met_X0_buildAutomaton (l : Launch) (D : va_G) (ad : Nat → Nat) (cI cB : ClassId) (a0 a6 a7 a10 a11 a14 : Int32) (b1 b2 b3 b4 b5 b8 b9 b12 b13 b15 b16 : XA) (w : List Nat) (hw1 : 1 ≤ w.length) (hw : w.length ≤ 10) (hwl : ∀ x, x ∈ w → x < 4) (h11 : a11 = nI w.length) (h12 : ∀ i, i < w.length → b12 i = nI (w.getD i 0)) (sz : Nat) : Met l yX0_buildAutomaton (ws_ yX0_buildAutomaton cX0_buildAutomaton 5 none) ({ frames := 0, cells := 0, slots := 0, locals := 0 }) (kx_Pm D (tys_ cI cB) (XWc ad cI cB a0 a6 a7 a10 a11 a14 b1 b2 b3 b4 b5 b8 b9 b12 b13 b15 b16) sz [.ref (ad 0)]) (va_Qv (fun (u : Int32 × XA) => u.1 = nI 0 ∧ ∀ q, q ≤ w.length → ∀ x, x < 4 → u.2 (q * 4 + x) = nI (kx_d w q x)) (kx_B D (fun u : Int32 × XA => XWc ad cI cB a0 a6 a7 a10 a11 u.1 b1 b2 b3 b4 b5 b8 b9 b12 u.2 b15 b16) (va_A (XWc ad cI cB a0 a6 a7 a10 a11 a14 b1 b2 b3 b4 b5 b8 b9 b12 b13 b15 b16) sz)) (va_A (XWc ad cI cB a0 a6 a7 a10 a11 a14 b1 b2 b3 b4 b5 b8 b9 b12 b13 b15 b16) sz)) 0 0 (va_A (XWc ad cI cB a0 a6 a7 a10 a11 a14 b1 b2 b3 b4 b5 b8 b9 b12 b13 b15 b16) sz) := by
  refine Met.ofW (cc := cX0_buildAutomaton) (maxL := 5) (ret := none) (by decide) rfl ?_
  intro p e s m args below meth c s₁ B hml hv
  obtain ⟨rfl, hsz, hP, hK, hD0⟩ := hv
  have hx := B.exec
  have hb := B.bytes
  have hr := B.returns
  have hts := atoms_spec (ws := ws_ yX0_buildAutomaton cX0_buildAutomaton 5 none) B.pre
  have hts : ∀ w ∈ lw_all, w.before _ s = true := fun w h => hts w (List.mem_cons_of_mem _ h)
  have hown : s.vm.findClass RX0 = some m.cls := findClass_of_methodNamed B.named
  have hlocks := B.notSynchronized
  have S0 : CallFix p m c cX0_buildAutomaton 5 s _ lw_all RX0 := ⟨hx, hb, hml, hown, hts⟩
  subst hsz
  have hD := hD0.self (sz := s.heap.size)
  generalize hAe : va_A (XWc ad cI cB a0 a6 a7 a10 a11 a14 b1 b2 b3 b4 b5 b8 b9 b12 b13 b15 b16) s.heap.size = A at hD ⊢
  have hA : ∀ q : Nat, s.heap.size ≤ q → A q := fun q h => by rw [← hAe]; exact Or.inr h
  have hS : va_S A s.heap s.heap [] := va_S.rf
  have hl := lv_entry ([.ref (ad 0)]) (n := 5) (Nat.le_of_ble_eq_true rfl)
  rw [lg_entry_eq]
  generalize (lg_sl ([.ref (ad 0)]) ++ List.replicate (5 - (lg_sl ([.ref (ad 0)])).length) Slot.unset).toArray = ls at hl ⊢
  have hl : lv_has ls 5 [(0, .ref (ad 0))] := hl
  subst h11
  refine lv_aload_n hx hb dX0_buildAutomaton_0 rfl (lv_at hl 0 rfl) ?_
  refine lv_iconst (v := nI 0) hx hb dX0_buildAutomaton_1 rfl ?_
  refine x0_put (v := .int (nI 0)) S0 hK hP hD hS rfl 14 (by decide) q46 rfl rfl rfl (Nat.le_of_ble_eq_true rfl) dX0_buildAutomaton_2 (fun H locs hP hD hS => ?_)
  have hP : va_P D vwCl (XWc ad cI cB a0 a6 a7 a10 (nI w.length) (nI 0) b1 b2 b3 b4 b5 b8 b9 b12 b13 b15 b16) H := hP
  have hD : va_D A (XWc ad cI cB a0 a6 a7 a10 (nI w.length) (nI 0) b1 b2 b3 b4 b5 b8 b9 b12 b13 b15 b16) := hD
  refine lv_iconst (v := nI 0) hx hb dX0_buildAutomaton_5 rfl ?_
  refine lv_istore_n (lv' := [(1, .int (nI 0)), (0, .ref (ad 0))]) hx hb dX0_buildAutomaton_6 rfl hl (by decide) rfl (fun ls hl => ?_)
  have after39 : ∀ (c13 : XA), (∀ x, x < 4 → c13 x = nI (kx_d w 0 x)) → ∀ (H : Heap) (locs : List Loc), va_P D vwCl (XWc ad cI cB a0 a6 a7 a10 (nI w.length) (nI 0) b1 b2 b3 b4 b5 b8 b9 b12 c13 b15 b16) H → va_D A (XWc ad cI cB a0 a6 a7 a10 (nI w.length) (nI 0) b1 b2 b3 b4 b5 b8 b9 b12 c13 b15 b16) → va_S A s.heap H locs → ∀ (ls : Array Slot), lv_has ls 5 [(0, .ref (ad 0))] → W p l e (headSpec (ws_ yX0_buildAutomaton cX0_buildAutomaton 5 none) ({ frames := 0, cells := 0, slots := 0, locals := 0 })).room s m ([.ref (ad 0)] : List Value).toArray below meth c H locs 0 0 (MQ below (va_Qv (fun (u : Int32 × XA) => u.1 = nI 0 ∧ ∀ q, q ≤ w.length → ∀ x, x < 4 → u.2 (q * 4 + x) = nI (kx_d w q x)) (kx_B D (fun u : Int32 × XA => XWc ad cI cB a0 a6 a7 a10 (nI w.length) u.1 b1 b2 b3 b4 b5 b8 b9 b12 u.2 b15 b16) A) A) ([.ref (ad 0)] : List Value).toArray s 0 0 A) (F0 m 39 ls []) := by
    intro c13 h39 H locs hP hD hS ls hl
    have loop2 : ∀ (z q bk : Nat) (e13 : XA), 1 ≤ q → q ≤ w.length + 1 → w.length + 1 < q + z → (q ≤ w.length → bk = kx_ov w ((w.take q).drop 1)) → kx_Nx w q e13 → ∀ (H : Heap) (locs : List Loc), va_P D vwCl (XWc ad cI cB a0 a6 a7 a10 (nI w.length) (nI 0) b1 b2 b3 b4 b5 b8 b9 b12 e13 b15 b16) H → va_D A (XWc ad cI cB a0 a6 a7 a10 (nI w.length) (nI 0) b1 b2 b3 b4 b5 b8 b9 b12 e13 b15 b16) → va_S A s.heap H locs → ∀ (ls : Array Slot), lv_has ls 5 [(2, .int (nI q)), (1, .int (nI bk)), (0, .ref (ad 0))] → W p l e (headSpec (ws_ yX0_buildAutomaton cX0_buildAutomaton 5 none) ({ frames := 0, cells := 0, slots := 0, locals := 0 })).room s m ([.ref (ad 0)] : List Value).toArray below meth c H locs 0 0 (MQ below (va_Qv (fun (u : Int32 × XA) => u.1 = nI 0 ∧ ∀ q, q ≤ w.length → ∀ x, x < 4 → u.2 (q * 4 + x) = nI (kx_d w q x)) (kx_B D (fun u : Int32 × XA => XWc ad cI cB a0 a6 a7 a10 (nI w.length) u.1 b1 b2 b3 b4 b5 b8 b9 b12 u.2 b15 b16) A) A) ([.ref (ad 0)] : List Value).toArray s 0 0 A) (F0 m 43 ls []) := by
      intro z
      induction z with
      | zero => intro q bk e13 h1 h2 h3; exact absurd h3 (by omega)
      | succ z ih =>
        intro q bk e13 h1 hq hqz hbk0 hN H locs hP hD hS ls hl
        refine lv_iload_n hx hb dX0_buildAutomaton_43 rfl (lv_at hl 0 rfl) ?_
        refine lv_aload_n hx hb dX0_buildAutomaton_44 rfl (lv_at hl 2 rfl) ?_
        refine x0_get (v := .int (nI w.length)) S0 hK hP rfl 11 (by decide) q43 rfl dX0_buildAutomaton_45 ?_
        refine kw_gt (tgt := 150) S0 dX0_buildAutomaton_48 (by decide) (by omega) (by omega) (fun k1 => ?_) (fun k1 => ?_)
        · exact W.vret hx hb hr (fun t ht hW => ⟨⟨(nI 0, e13), rfl, ⟨rfl, fun y hy x hx => hN y (by omega) x hx⟩, by rw [ht]; exact hP, hD⟩, hS.F ht⟩) hS.2.2 dX0_buildAutomaton_150
        · have hbk := hbk0 k1
          have hbq : bk < q := by rw [hbk]; exact kx_back_lt h1
          refine lv_iconst (v := nI 0) hx hb dX0_buildAutomaton_51 rfl ?_
          refine lv_istore_n (lv' := [(3, .int (nI 0)), (2, .int (nI q)), (1, .int (nI bk)), (0, .ref (ad 0))]) hx hb dX0_buildAutomaton_52 rfl hl (by decide) rfl (fun ls hl => ?_)
          have loop3 : ∀ (z3 i : Nat) (f13 : XA), i ≤ 4 → 4 < i + z3 → kx_Nx w q f13 → (∀ x, x < i → f13 (q * 4 + x) = nI (kx_d w q x)) → ∀ (H : Heap) (locs : List Loc), va_P D vwCl (XWc ad cI cB a0 a6 a7 a10 (nI w.length) (nI 0) b1 b2 b3 b4 b5 b8 b9 b12 f13 b15 b16) H → va_D A (XWc ad cI cB a0 a6 a7 a10 (nI w.length) (nI 0) b1 b2 b3 b4 b5 b8 b9 b12 f13 b15 b16) → va_S A s.heap H locs → ∀ (ls : Array Slot), lv_has ls 5 [(3, .int (nI i)), (2, .int (nI q)), (1, .int (nI bk)), (0, .ref (ad 0))] → W p l e (headSpec (ws_ yX0_buildAutomaton cX0_buildAutomaton 5 none) ({ frames := 0, cells := 0, slots := 0, locals := 0 })).room s m ([.ref (ad 0)] : List Value).toArray below meth c H locs 0 0 (MQ below (va_Qv (fun (u : Int32 × XA) => u.1 = nI 0 ∧ ∀ q, q ≤ w.length → ∀ x, x < 4 → u.2 (q * 4 + x) = nI (kx_d w q x)) (kx_B D (fun u : Int32 × XA => XWc ad cI cB a0 a6 a7 a10 (nI w.length) u.1 b1 b2 b3 b4 b5 b8 b9 b12 u.2 b15 b16) A) A) ([.ref (ad 0)] : List Value).toArray s 0 0 A) (F0 m 53 ls []) := by
            intro z3
            induction z3 with
            | zero => intro i f13 y1 y2; exact absurd y2 (by omega)
            | succ z3 ih3 =>
              intro i f13 hi hiz hN3 hrow H locs hP hD hS ls hl
              refine lv_iload_n hx hb dX0_buildAutomaton_53 rfl (lv_at hl 0 rfl) ?_
              refine lv_iconst (v := nI 4) hx hb dX0_buildAutomaton_54 rfl ?_
              refine kw_ge (tgt := 120) S0 dX0_buildAutomaton_55 (by decide) (by omega) (by omega) (fun k2 => ?_) (fun k2 => ?_)
              · refine lv_iload_n hx hb dX0_buildAutomaton_120 rfl (lv_at hl 1 rfl) ?_
                refine lv_aload_n hx hb dX0_buildAutomaton_121 rfl (lv_at hl 3 rfl) ?_
                refine x0_get (v := .int (nI w.length)) S0 hK hP rfl 11 (by decide) q43 rfl dX0_buildAutomaton_122 ?_
                refine kw_ge (tgt := 144) S0 dX0_buildAutomaton_125 (by decide) (by omega) (by omega) (fun k3 => ?_) (fun k3 => ?_)
                · refine lv_iinc (v := nI (q + 1)) (lv' := [(2, .int (nI (q + 1))), (3, .int (nI i)), (1, .int (nI bk)), (0, .ref (ad 0))]) hx hb dX0_buildAutomaton_144 hl (k := 1) rfl (nI_1 q) (by decide) rfl (fun ls hl => ?_)
                  refine lv_goto (tgt := 43) hx hb dX0_buildAutomaton_147 (by decide) ?_
                  exact ih (q + 1) bk f13 (by omega) (by omega) (by omega) (fun y => absurd y (by omega)) (kx_nx_s hN3 (fun x hx => hrow x (by omega))) _ _ hP hD hS ls (lv_sub hl [0, 2, 3] rfl)
                · have hlq : w.getD q 0 < 4 := kx_mem_getD hwl k3
                  refine lv_aload_n hx hb dX0_buildAutomaton_128 rfl (lv_at hl 3 rfl) ?_
                  refine x0_get (v := .ref (ad 13)) S0 hK hP rfl 13 (by decide) q45 rfl dX0_buildAutomaton_129 ?_
                  refine lv_iload_n hx hb dX0_buildAutomaton_132 rfl (lv_at hl 2 rfl) ?_
                  refine lv_iconst (v := nI 4) hx hb dX0_buildAutomaton_133 rfl ?_
                  refine kw_imul S0 dX0_buildAutomaton_134 ?_
                  refine lv_aload_n hx hb dX0_buildAutomaton_135 rfl (lv_at hl 3 rfl) ?_
                  refine x0_get (v := .ref (ad 12)) S0 hK hP rfl 12 (by decide) q44 rfl dX0_buildAutomaton_136 ?_
                  refine lv_iload_n hx hb dX0_buildAutomaton_139 rfl (lv_at hl 1 rfl) ?_
                  refine kw_iald (y := nI (w.getD q 0)) S0 hK hP 8 0 rfl rfl (by omega) (by decide) (h12 q k3) dX0_buildAutomaton_140 ?_
                  refine kw_iadd S0 dX0_buildAutomaton_141 ?_
                  refine kw_iald (y := nI (kx_d w bk (w.getD q 0))) S0 hK hP 9 0 rfl rfl (by omega) (by decide) (hN3 bk hbq _ hlq) dX0_buildAutomaton_142 ?_
                  refine lv_istore_n (lv' := [(1, .int (nI (kx_d w bk (w.getD q 0)))), (3, .int (nI i)), (2, .int (nI q)), (0, .ref (ad 0))]) hx hb dX0_buildAutomaton_143 rfl hl (by decide) rfl (fun ls hl => ?_)
                  refine lv_iinc (v := nI (q + 1)) (lv' := [(2, .int (nI (q + 1))), (1, .int (nI (kx_d w bk (w.getD q 0)))), (3, .int (nI i)), (0, .ref (ad 0))]) hx hb dX0_buildAutomaton_144 hl (k := 2) rfl (nI_1 q) (by decide) rfl (fun ls hl => ?_)
                  refine lv_goto (tgt := 43) hx hb dX0_buildAutomaton_147 (by decide) ?_
                  exact ih (q + 1) _ f13 (by omega) (by omega) (by omega) (fun _ => by rw [hbk]; exact (kx_back_s h1 k3).symm) (kx_nx_s hN3 (fun x hx => hrow x (by omega))) _ _ hP hD hS ls (lv_sub hl [0, 1, 3] rfl)
              · have after113 : ∀ (v4 : Int32), ∀ (H : Heap) (locs : List Loc), va_P D vwCl (XWc ad cI cB a0 a6 a7 a10 (nI w.length) (nI 0) b1 b2 b3 b4 b5 b8 b9 b12 f13 b15 b16) H → va_D A (XWc ad cI cB a0 a6 a7 a10 (nI w.length) (nI 0) b1 b2 b3 b4 b5 b8 b9 b12 f13 b15 b16) → va_S A s.heap H locs → ∀ (ls : Array Slot), lv_has ls 5 [(4, .int v4), (3, .int (nI i)), (2, .int (nI q)), (1, .int (nI bk)), (0, .ref (ad 0))] → W p l e (headSpec (ws_ yX0_buildAutomaton cX0_buildAutomaton 5 none) ({ frames := 0, cells := 0, slots := 0, locals := 0 })).room s m ([.ref (ad 0)] : List Value).toArray below meth c H locs 0 0 (MQ below (va_Qv (fun (u : Int32 × XA) => u.1 = nI 0 ∧ ∀ q, q ≤ w.length → ∀ x, x < 4 → u.2 (q * 4 + x) = nI (kx_d w q x)) (kx_B D (fun u : Int32 × XA => XWc ad cI cB a0 a6 a7 a10 (nI w.length) u.1 b1 b2 b3 b4 b5 b8 b9 b12 u.2 b15 b16) A) A) ([.ref (ad 0)] : List Value).toArray s 0 0 A) (F0 m 113 ls [.int (nI (kx_d w q i)), .int (nI (q * 4 + i)), .ref (ad 13)]) := by
                  intro v4 H locs hP hD hS ls hl
                  refine kw_iast S0 hK hP hD hS 9 0 rfl rfl (by omega) (by decide) dX0_buildAutomaton_113 (fun H locs hP hD hS => ?_)
                  have hP : va_P D vwCl (XWc ad cI cB a0 a6 a7 a10 (nI w.length) (nI 0) b1 b2 b3 b4 b5 b8 b9 b12 (upd f13 (q * 4 + i) (nI (kx_d w q i))) b15 b16) H := hP
                  have hD : va_D A (XWc ad cI cB a0 a6 a7 a10 (nI w.length) (nI 0) b1 b2 b3 b4 b5 b8 b9 b12 (upd f13 (q * 4 + i) (nI (kx_d w q i))) b15 b16) := hD
                  refine lv_iinc (v := nI (i + 1)) (lv' := [(3, .int (nI (i + 1))), (4, .int v4), (2, .int (nI q)), (1, .int (nI bk)), (0, .ref (ad 0))]) hx hb dX0_buildAutomaton_114 hl (k := 1) rfl (nI_1 i) (by decide) rfl (fun ls hl => ?_)
                  refine lv_goto (tgt := 53) hx hb dX0_buildAutomaton_117 (by decide) ?_
                  exact ih3 (i + 1) _ (by omega) (by omega) (kx_nx_u hN3) (kx_nx_r hrow) _ _ hP hD hS ls (lv_sub hl [0, 2, 3, 4] rfl)
                have after80 : ¬ (q < w.length ∧ w.getD q 0 = i) → ∀ (H : Heap) (locs : List Loc), va_P D vwCl (XWc ad cI cB a0 a6 a7 a10 (nI w.length) (nI 0) b1 b2 b3 b4 b5 b8 b9 b12 f13 b15 b16) H → va_D A (XWc ad cI cB a0 a6 a7 a10 (nI w.length) (nI 0) b1 b2 b3 b4 b5 b8 b9 b12 f13 b15 b16) → va_S A s.heap H locs → ∀ (ls : Array Slot), lv_has ls 5 [(3, .int (nI i)), (2, .int (nI q)), (1, .int (nI bk)), (0, .ref (ad 0))] → W p l e (headSpec (ws_ yX0_buildAutomaton cX0_buildAutomaton 5 none) ({ frames := 0, cells := 0, slots := 0, locals := 0 })).room s m ([.ref (ad 0)] : List Value).toArray below meth c H locs 0 0 (MQ below (va_Qv (fun (u : Int32 × XA) => u.1 = nI 0 ∧ ∀ q, q ≤ w.length → ∀ x, x < 4 → u.2 (q * 4 + x) = nI (kx_d w q x)) (kx_B D (fun u : Int32 × XA => XWc ad cI cB a0 a6 a7 a10 (nI w.length) u.1 b1 b2 b3 b4 b5 b8 b9 b12 u.2 b15 b16) A) A) ([.ref (ad 0)] : List Value).toArray s 0 0 A) (F0 m 80 ls []) := by
                  intro hn H locs hP hD hS ls hl
                  refine lv_iconst (v := nI 0) hx hb dX0_buildAutomaton_80 rfl ?_
                  refine lv_istore (lv' := [(4, .int (nI 0)), (3, .int (nI i)), (2, .int (nI q)), (1, .int (nI bk)), (0, .ref (ad 0))]) hx hb dX0_buildAutomaton_81 hl (by decide) rfl (fun ls hl => ?_)
                  refine lv_aload_n hx hb dX0_buildAutomaton_83 rfl (lv_at hl 4 rfl) ?_
                  refine x0_get (v := .ref (ad 13)) S0 hK hP rfl 13 (by decide) q45 rfl dX0_buildAutomaton_84 ?_
                  refine lv_iload_n hx hb dX0_buildAutomaton_87 rfl (lv_at hl 2 rfl) ?_
                  refine lv_iconst (v := nI 4) hx hb dX0_buildAutomaton_88 rfl ?_
                  refine kw_imul S0 dX0_buildAutomaton_89 ?_
                  refine lv_iload_n hx hb dX0_buildAutomaton_90 rfl (lv_at hl 1 rfl) ?_
                  refine kw_iadd S0 dX0_buildAutomaton_91 ?_
                  refine lv_iload hx hb dX0_buildAutomaton_92 (lv_at hl 0 rfl) ?_
                  refine lv_if_eq (tgt := 103) hx hb dX0_buildAutomaton_94 (by decide) (fun _ => ?_) (fun c9 => absurd (nI_0) c9)
                  refine lv_aload_n hx hb dX0_buildAutomaton_103 rfl (lv_at hl 4 rfl) ?_
                  refine x0_get (v := .ref (ad 13)) S0 hK hP rfl 13 (by decide) q45 rfl dX0_buildAutomaton_104 ?_
                  refine lv_iload_n hx hb dX0_buildAutomaton_107 rfl (lv_at hl 3 rfl) ?_
                  refine lv_iconst (v := nI 4) hx hb dX0_buildAutomaton_108 rfl ?_
                  refine kw_imul S0 dX0_buildAutomaton_109 ?_
                  refine lv_iload_n hx hb dX0_buildAutomaton_110 rfl (lv_at hl 1 rfl) ?_
                  refine kw_iadd S0 dX0_buildAutomaton_111 ?_
                  refine kw_iald (y := nI (kx_d w bk i)) S0 hK hP 9 0 rfl rfl (by omega) (by decide) (hN3 bk hbq i k2) dX0_buildAutomaton_112 ?_
                  refine kw_top (y := nI (kx_d w q i)) (by rw [kx_d_back h1 k1 hn, ← hbk]) ?_
                  exact after113 _ _ _ hP hD hS ls (lv_sub hl [0, 1, 2, 3, 4] rfl)
                refine lv_iload_n hx hb dX0_buildAutomaton_58 rfl (lv_at hl 1 rfl) ?_
                refine lv_aload_n hx hb dX0_buildAutomaton_59 rfl (lv_at hl 3 rfl) ?_
                refine x0_get (v := .int (nI w.length)) S0 hK hP rfl 11 (by decide) q43 rfl dX0_buildAutomaton_60 ?_
                refine kw_ge (tgt := 80) S0 dX0_buildAutomaton_63 (by decide) (by omega) (by omega) (fun k3 => ?_) (fun k3 => ?_)
                · exact after80 (fun y => absurd y.1 (by omega)) _ _ hP hD hS ls (lv_sub hl [0, 1, 2, 3] rfl)
                · have hlq : w.getD q 0 < 4 := kx_mem_getD hwl k3
                  refine lv_aload_n hx hb dX0_buildAutomaton_66 rfl (lv_at hl 3 rfl) ?_
                  refine x0_get (v := .ref (ad 12)) S0 hK hP rfl 12 (by decide) q44 rfl dX0_buildAutomaton_67 ?_
                  refine lv_iload_n hx hb dX0_buildAutomaton_70 rfl (lv_at hl 1 rfl) ?_
                  refine kw_iald (y := nI (w.getD q 0)) S0 hK hP 8 0 rfl rfl (by omega) (by decide) (h12 q k3) dX0_buildAutomaton_71 ?_
                  refine lv_iload_n hx hb dX0_buildAutomaton_72 rfl (lv_at hl 0 rfl) ?_
                  refine kw_ne (tgt := 80) S0 dX0_buildAutomaton_73 (by decide) (by omega) (by omega) (fun k4 => ?_) (fun k4 => ?_)
                  · exact after80 (fun y => k4 y.2) _ _ hP hD hS ls (lv_sub hl [0, 1, 2, 3] rfl)
                  · refine lv_iconst (v := nI 1) hx hb dX0_buildAutomaton_76 rfl ?_
                    refine lv_goto (tgt := 81) hx hb dX0_buildAutomaton_77 (by decide) ?_
                    refine lv_istore (lv' := [(4, .int (nI 1)), (3, .int (nI i)), (2, .int (nI q)), (1, .int (nI bk)), (0, .ref (ad 0))]) hx hb dX0_buildAutomaton_81 hl (by decide) rfl (fun ls hl => ?_)
                    refine lv_aload_n hx hb dX0_buildAutomaton_83 rfl (lv_at hl 4 rfl) ?_
                    refine x0_get (v := .ref (ad 13)) S0 hK hP rfl 13 (by decide) q45 rfl dX0_buildAutomaton_84 ?_
                    refine lv_iload_n hx hb dX0_buildAutomaton_87 rfl (lv_at hl 2 rfl) ?_
                    refine lv_iconst (v := nI 4) hx hb dX0_buildAutomaton_88 rfl ?_
                    refine kw_imul S0 dX0_buildAutomaton_89 ?_
                    refine lv_iload_n hx hb dX0_buildAutomaton_90 rfl (lv_at hl 1 rfl) ?_
                    refine kw_iadd S0 dX0_buildAutomaton_91 ?_
                    refine lv_iload hx hb dX0_buildAutomaton_92 (lv_at hl 0 rfl) ?_
                    refine lv_if_eq (tgt := 103) hx hb dX0_buildAutomaton_94 (by decide) (fun c9 => absurd c9 (by decide)) (fun _ => ?_)
                    refine lv_iload_n hx hb dX0_buildAutomaton_97 rfl (lv_at hl 2 rfl) ?_
                    refine lv_iconst (v := nI 1) hx hb dX0_buildAutomaton_98 rfl ?_
                    refine kw_iadd S0 dX0_buildAutomaton_99 ?_
                    refine lv_goto (tgt := 113) hx hb dX0_buildAutomaton_100 (by decide) ?_
                    refine kw_top (y := nI (kx_d w q i)) (by rw [kx_d_go k3 k4]) ?_
                    exact after113 _ _ _ hP hD hS ls (lv_sub hl [0, 1, 2, 3, 4] rfl)
          exact loop3 5 0 e13 (by omega) (by omega) hN (fun x hx => absurd hx (Nat.not_lt_zero _)) _ _ hP hD hS ls (lv_sub hl [0, 1, 2, 3] rfl)
    refine lv_iconst (v := nI 0) hx hb dX0_buildAutomaton_39 rfl ?_
    refine lv_istore_n (lv' := [(1, .int (nI 0)), (0, .ref (ad 0))]) hx hb dX0_buildAutomaton_40 rfl hl (by decide) rfl (fun ls hl => ?_)
    refine lv_iconst (v := nI 1) hx hb dX0_buildAutomaton_41 rfl ?_
    refine lv_istore_n (lv' := [(2, .int (nI 1)), (1, .int (nI 0)), (0, .ref (ad 0))]) hx hb dX0_buildAutomaton_42 rfl hl (by decide) rfl (fun ls hl => ?_)
    exact loop2 (w.length + 1) 1 0 c13 (by omega) (by omega) (by omega) (fun _ => (kx_back_0 w).symm) (fun y hy x hx => by rw [show y = 0 by omega, Nat.zero_mul, Nat.zero_add]; exact h39 x hx) _ _ hP hD hS ls (lv_sub hl [0, 1, 2] rfl)
  have loop1 : ∀ (z i : Nat) (c13 : XA), i ≤ 4 → 4 < i + z → (∀ x, x < i → c13 x = nI (kx_d w 0 x)) → ∀ (H : Heap) (locs : List Loc), va_P D vwCl (XWc ad cI cB a0 a6 a7 a10 (nI w.length) (nI 0) b1 b2 b3 b4 b5 b8 b9 b12 c13 b15 b16) H → va_D A (XWc ad cI cB a0 a6 a7 a10 (nI w.length) (nI 0) b1 b2 b3 b4 b5 b8 b9 b12 c13 b15 b16) → va_S A s.heap H locs → ∀ (ls : Array Slot), lv_has ls 5 [(1, .int (nI i)), (0, .ref (ad 0))] → W p l e (headSpec (ws_ yX0_buildAutomaton cX0_buildAutomaton 5 none) ({ frames := 0, cells := 0, slots := 0, locals := 0 })).room s m ([.ref (ad 0)] : List Value).toArray below meth c H locs 0 0 (MQ below (va_Qv (fun (u : Int32 × XA) => u.1 = nI 0 ∧ ∀ q, q ≤ w.length → ∀ x, x < 4 → u.2 (q * 4 + x) = nI (kx_d w q x)) (kx_B D (fun u : Int32 × XA => XWc ad cI cB a0 a6 a7 a10 (nI w.length) u.1 b1 b2 b3 b4 b5 b8 b9 b12 u.2 b15 b16) A) A) ([.ref (ad 0)] : List Value).toArray s 0 0 A) (F0 m 7 ls []) := by
    intro z
    induction z with
    | zero => intro i c13 h1 h2; exact absurd h2 (by omega)
    | succ z ih =>
      intro i c13 hi hiz hr1 H locs hP hD hS ls hl
      refine lv_iload_n hx hb dX0_buildAutomaton_7 rfl (lv_at hl 0 rfl) ?_
      refine lv_iconst (v := nI 4) hx hb dX0_buildAutomaton_8 rfl ?_
      refine kw_ge (tgt := 39) S0 dX0_buildAutomaton_9 (by decide) (by omega) (by omega) (fun k1 => ?_) (fun k1 => ?_)
      · exact after39 c13 (fun x hx => hr1 x (by omega)) _ _ hP hD hS ls (lv_sub hl [1] rfl)
      · refine lv_aload_n hx hb dX0_buildAutomaton_12 rfl (lv_at hl 1 rfl) ?_
        refine x0_get (v := .ref (ad 13)) S0 hK hP rfl 13 (by decide) q45 rfl dX0_buildAutomaton_13 ?_
        refine lv_iload_n hx hb dX0_buildAutomaton_16 rfl (lv_at hl 0 rfl) ?_
        refine lv_aload_n hx hb dX0_buildAutomaton_17 rfl (lv_at hl 1 rfl) ?_
        refine x0_get (v := .ref (ad 12)) S0 hK hP rfl 12 (by decide) q44 rfl dX0_buildAutomaton_18 ?_
        refine lv_iconst (v := nI 0) hx hb dX0_buildAutomaton_21 rfl ?_
        refine kw_iald (y := nI (w.getD 0 0)) S0 hK hP 8 0 rfl rfl (by omega) (by decide) (h12 0 hw1) dX0_buildAutomaton_22 ?_
        refine lv_iload_n hx hb dX0_buildAutomaton_23 rfl (lv_at hl 0 rfl) ?_
        have after32 : ∀ (H : Heap) (locs : List Loc), va_P D vwCl (XWc ad cI cB a0 a6 a7 a10 (nI w.length) (nI 0) b1 b2 b3 b4 b5 b8 b9 b12 c13 b15 b16) H → va_D A (XWc ad cI cB a0 a6 a7 a10 (nI w.length) (nI 0) b1 b2 b3 b4 b5 b8 b9 b12 c13 b15 b16) → va_S A s.heap H locs → ∀ (ls : Array Slot), lv_has ls 5 [(1, .int (nI i)), (0, .ref (ad 0))] → W p l e (headSpec (ws_ yX0_buildAutomaton cX0_buildAutomaton 5 none) ({ frames := 0, cells := 0, slots := 0, locals := 0 })).room s m ([.ref (ad 0)] : List Value).toArray below meth c H locs 0 0 (MQ below (va_Qv (fun (u : Int32 × XA) => u.1 = nI 0 ∧ ∀ q, q ≤ w.length → ∀ x, x < 4 → u.2 (q * 4 + x) = nI (kx_d w q x)) (kx_B D (fun u : Int32 × XA => XWc ad cI cB a0 a6 a7 a10 (nI w.length) u.1 b1 b2 b3 b4 b5 b8 b9 b12 u.2 b15 b16) A) A) ([.ref (ad 0)] : List Value).toArray s 0 0 A) (F0 m 32 ls [.int (nI (kx_d w 0 i)), .int (nI i), .ref (ad 13)]) := by
          intro H locs hP hD hS ls hl
          refine kw_iast S0 hK hP hD hS 9 0 rfl rfl (by omega) (by decide) dX0_buildAutomaton_32 (fun H locs hP hD hS => ?_)
          have hP : va_P D vwCl (XWc ad cI cB a0 a6 a7 a10 (nI w.length) (nI 0) b1 b2 b3 b4 b5 b8 b9 b12 (upd c13 i (nI (kx_d w 0 i))) b15 b16) H := hP
          have hD : va_D A (XWc ad cI cB a0 a6 a7 a10 (nI w.length) (nI 0) b1 b2 b3 b4 b5 b8 b9 b12 (upd c13 i (nI (kx_d w 0 i))) b15 b16) := hD
          refine lv_iinc (v := nI (i + 1)) (lv' := [(1, .int (nI (i + 1))), (0, .ref (ad 0))]) hx hb dX0_buildAutomaton_33 hl (k := 0) rfl (nI_1 i) (by decide) rfl (fun ls hl => ?_)
          refine lv_goto (tgt := 7) hx hb dX0_buildAutomaton_36 (by decide) ?_
          refine ih (i + 1) _ (by omega) (by omega) (fun x hx => ?_) _ _ hP hD hS ls (lv_sub hl [0, 1] rfl)
          by_cases e2 : x = i
          · rw [e2, pk_us]
          · rw [pk_un e2]
            exact hr1 x (by omega)
        have hl0 : w.getD 0 0 < 4 := kx_mem_getD hwl hw1
        refine kw_ne (tgt := 31) S0 dX0_buildAutomaton_24 (by decide) (by omega) (by omega) (fun k2 => ?_) (fun k2 => ?_)
        · refine lv_iconst (v := nI 0) hx hb dX0_buildAutomaton_31 rfl ?_
          refine kw_top (y := nI (kx_d w 0 i)) (by rw [kx_d_zero hw1, if_neg k2]) ?_
          exact after32 _ _ hP hD hS ls hl
        · refine lv_iconst (v := nI 1) hx hb dX0_buildAutomaton_27 rfl ?_
          refine lv_goto (tgt := 32) hx hb dX0_buildAutomaton_28 (by decide) ?_
          refine kw_top (y := nI (kx_d w 0 i)) (by rw [kx_d_zero hw1, if_pos k2]) ?_
          exact after32 _ _ hP hD hS ls hl
  exact loop1 5 0 b13 (by omega) (by omega) (fun x hx => absurd hx (Nat.not_lt_zero _)) _ _ hP hD hS ls (lv_sub hl [0, 1] rfl)
set_option maxHeartbeats 4000000 in
set_option maxRecDepth 100000 in
/-- pattern(x) -/
theorem met_X0_pattern (l : Launch) (D : va_G) (ad : Nat → Nat) (cI cB : ClassId) (a0 a6 a7 a10 a11 a14 : Int32) (b1 b2 b3 b4 b5 b8 b9 b12 b13 b15 b16 : XA) (T w : List Nat) (hI : kx_Ic a0 a6 a7 a10 a11 a14 b1 b2 b3 b4 b5 b8 b9 b12 b13 b15 b16 T w) (x : Int32) (sz : Nat) : Met l yX0_pattern (ws_ yX0_pattern cX0_pattern 2 (some .int)) ({ frames := 1, cells := 0, slots := 0, locals := 24 }) (kx_Pm D (tys_ cI cB) (XWc ad cI cB a0 a6 a7 a10 a11 a14 b1 b2 b3 b4 b5 b8 b9 b12 b13 b15 b16) sz [.ref (ad 0), .int x]) (va_Qi (fun (r : Int32) (u : XS) => r = kx_patR w x ∧ kx_Inv u T (kx_patW w x)) (kx_B D (fun u : XS => XWs ad cI cB u) (va_A (XWc ad cI cB a0 a6 a7 a10 a11 a14 b1 b2 b3 b4 b5 b8 b9 b12 b13 b15 b16) sz)) (va_A (XWc ad cI cB a0 a6 a7 a10 a11 a14 b1 b2 b3 b4 b5 b8 b9 b12 b13 b15 b16) sz)) 0 0 (va_A (XWc ad cI cB a0 a6 a7 a10 a11 a14 b1 b2 b3 b4 b5 b8 b9 b12 b13 b15 b16) sz) := by
  refine Met.ofW (cc := cX0_pattern) (maxL := 2) (ret := (some .int)) (by decide) rfl ?_
  intro p e s m args below meth c s₁ B hml hv
  obtain ⟨rfl, hsz, hP, hK, hD0⟩ := hv
  have hx := B.exec
  have hb := B.bytes
  have hr := B.returns
  have hts := atoms_spec (ws := ws_ yX0_pattern cX0_pattern 2 (some .int)) B.pre
  have hts : ∀ w ∈ lw_all, w.before _ s = true := fun w h => hts w (List.mem_cons_of_mem _ h)
  have hown : s.vm.findClass RX0 = some m.cls := findClass_of_methodNamed B.named
  have hlocks := B.notSynchronized
  have S0 : CallFix p m c cX0_pattern 2 s _ lw_all RX0 := ⟨hx, hb, hml, hown, hts⟩
  subst hsz
  have hD := hD0.self (sz := s.heap.size)
  generalize hAe : va_A (XWc ad cI cB a0 a6 a7 a10 a11 a14 b1 b2 b3 b4 b5 b8 b9 b12 b13 b15 b16) s.heap.size = A at hD ⊢
  have hA : ∀ q : Nat, s.heap.size ≤ q → A q := fun q h => by rw [← hAe]; exact Or.inr h
  have hS : va_S A s.heap s.heap [] := va_S.rf
  have hl := lv_entry ([.ref (ad 0), .int x]) (n := 2) (Nat.le_of_ble_eq_true rfl)
  rw [lg_entry_eq]
  generalize (lg_sl ([.ref (ad 0), .int x]) ++ List.replicate (2 - (lg_sl ([.ref (ad 0), .int x])).length) Slot.unset).toArray = ls at hl ⊢
  have hl : lv_has ls 2 [(0, .ref (ad 0)), (1, .int x)] := hl
  have hI0 := hI
  obtain ⟨wd, kk, cN, hT, hPI, hRI⟩ := hI
  have hPI0 := hPI
  obtain ⟨p1, p2, rfl, p4, p5⟩ := hPI
  refine lv_iload_n hx hb dX0_pattern_0 rfl (lv_at hl 1 rfl) ?_
  refine lv_if_lt (tgt := 9) hx hb dX0_pattern_1 (by decide) (fun k1 => ?_) (fun k1 => ?_)
  · refine lv_iconst (v := (-1)) hx hb dX0_pattern_9 rfl ?_
    exact W.iret (v := (-1)) hx hb hr (fun t ht hW => ⟨⟨(-1), ((a0, a6, a7, a10, nI w.length, a14), (b1, b2, b3, b4, b5, b8, b9, b12, b13, b15, b16)), rfl, ⟨by rw [kx_patR, if_pos (Or.inl k1)], by rw [kx_patW, if_pos (Or.inl k1)]; exact hI0⟩, by rw [ht]; exact hP, hD⟩, hS.F ht⟩) hS.2.2 dX0_pattern_10
  · refine lv_iload_n hx hb dX0_pattern_4 rfl (lv_at hl 1 rfl) ?_
    refine lv_iconst (v := nI 3) hx hb dX0_pattern_5 rfl ?_
    refine lv_icmp_le (tgt := 11) hx hb dX0_pattern_6 (by decide) (fun k2 => ?_) (fun k2 => ?_)
    · obtain ⟨lt, hlt3, ex⟩ := nI_of2 (n := 3) (by decide) k1 k2
      have hlt : lt < 4 := by omega
      have hok := kx_okn hlt
      rw [← ex] at hok
      refine lv_aload_n hx hb dX0_pattern_11 rfl (lv_at hl 0 rfl) ?_
      refine x0_get (v := .int (nI w.length)) S0 hK hP rfl 11 (by decide) q43 rfl dX0_pattern_12 ?_
      refine lv_bipush (v := nI 10) hx hb dX0_pattern_15 rfl ?_
      refine kw_lt (tgt := 23) S0 dX0_pattern_17 (by decide) (by omega) (by omega) (fun k3 => ?_) (fun k3 => ?_)
      · have eR : kx_patR w x = nI (w.length + 1) := by rw [ex]; exact kx_patR_in hlt k3
        have eT : kx_patW w x = w ++ [lt] := by rw [ex]; exact kx_patW_in hlt k3
        have elen : (w ++ [lt]).length = w.length + 1 := by rw [List.length_append, List.length_singleton]
        refine lv_aload_n hx hb dX0_pattern_23 rfl (lv_at hl 0 rfl) ?_
        refine x0_get (v := .ref (ad 12)) S0 hK hP rfl 12 (by decide) q44 rfl dX0_pattern_24 ?_
        refine lv_aload_n hx hb dX0_pattern_27 rfl (lv_at hl 0 rfl) ?_
        refine x0_get (v := .int (nI w.length)) S0 hK hP rfl 11 (by decide) q43 rfl dX0_pattern_28 ?_
        refine lv_iload_n hx hb dX0_pattern_31 rfl (lv_at hl 1 rfl) ?_
        refine kw_top (y := nI lt) ex ?_
        refine kw_iast S0 hK hP hD hS 8 0 rfl rfl (by omega) (by decide) dX0_pattern_32 (fun H locs hP hD hS => ?_)
        have hP : va_P D vwCl (XWc ad cI cB a0 a6 a7 a10 (nI w.length) a14 b1 b2 b3 b4 b5 b8 b9 (upd b12 w.length (nI lt)) b13 b15 b16) H := hP
        have hD : va_D A (XWc ad cI cB a0 a6 a7 a10 (nI w.length) a14 b1 b2 b3 b4 b5 b8 b9 (upd b12 w.length (nI lt)) b13 b15 b16) := hD
        refine lv_aload_n hx hb dX0_pattern_33 rfl (lv_at hl 0 rfl) ?_
        refine lv_dup hx hb dX0_pattern_34 rfl ?_
        refine x0_get (v := .int (nI w.length)) S0 hK hP rfl 11 (by decide) q43 rfl dX0_pattern_35 ?_
        refine lv_iconst (v := nI 1) hx hb dX0_pattern_38 rfl ?_
        refine kw_iadd S0 dX0_pattern_39 ?_
        refine x0_put (v := .int (nI (w.length + 1))) S0 hK hP hD hS rfl 11 (by decide) q43 rfl rfl rfl (Nat.le_of_ble_eq_true rfl) dX0_pattern_40 (fun H locs hP hD hS => ?_)
        have hP : va_P D vwCl (XWc ad cI cB a0 a6 a7 a10 (nI (w.length + 1)) a14 b1 b2 b3 b4 b5 b8 b9 (upd b12 w.length (nI lt)) b13 b15 b16) H := hP
        have hD : va_D A (XWc ad cI cB a0 a6 a7 a10 (nI (w.length + 1)) a14 b1 b2 b3 b4 b5 b8 b9 (upd b12 w.length (nI lt)) b13 b15 b16) := hD
        refine lv_aload_n hx hb dX0_pattern_43 rfl (lv_at hl 0 rfl) ?_
        refine kw_mv (n := 0) (wc := (XWc ad cI cB a0 a6 a7 a10 (nI (w.length + 1)) a14 b1 b2 b3 b4 b5 b8 b9 (upd b12 w.length (nI lt)) b13 b15 b16)) (wr := []) (ci := 0) (As := []) (rest := []) S0 hl.1 hK hP hD hS hA [0, 1, 2, 3, 4, 5, 6, 7, 8, 9, 10, 11] [] rfl rfl (by decide) (by decide) (by decide) rfl rfl (fun sz => met_X0_buildAutomaton l D ad cI cB a0 a6 a7 a10 (nI (w.length + 1)) a14 b1 b2 b3 b4 b5 b8 b9 (upd b12 w.length (nI lt)) b13 b15 b16 (w ++ [lt]) (by omega) (by omega) (kx_app4 p2 hlt) (by rw [elen]) (kx_pat12 p4) sz) (lw_V q119 q121 qs5 q14 q122) rfl rfl (by decide +kernel) ⟨Nat.le_of_ble_eq_true rfl, Nat.le_of_ble_eq_true rfl⟩ rfl rfl (Nat.le_of_ble_eq_true rfl) dX0_pattern_44 ⟨Nat.zero_le _, Nat.zero_le _⟩ (fun v H locs hv2 hP hD hS => ?_)
        obtain ⟨e14, c13⟩ := v
        have hP : va_P D vwCl (XWc ad cI cB a0 a6 a7 a10 (nI (w.length + 1)) e14 b1 b2 b3 b4 b5 b8 b9 (upd b12 w.length (nI lt)) c13 b15 b16) H := hP
        have hD : va_D A (XWc ad cI cB a0 a6 a7 a10 (nI (w.length + 1)) e14 b1 b2 b3 b4 b5 b8 b9 (upd b12 w.length (nI lt)) c13 b15 b16) := hD
        refine lv_aload_n hx hb dX0_pattern_47 rfl (lv_at hl 0 rfl) ?_
        refine x0_get (v := .int (nI (w.length + 1))) S0 hK hP rfl 11 (by decide) q43 rfl dX0_pattern_48 ?_
        exact W.iret (v := nI (w.length + 1)) hx hb hr (fun t ht hW => ⟨⟨nI (w.length + 1), ((a0, a6, a7, a10, nI (w.length + 1), e14), (b1, b2, b3, b4, b5, b8, b9, upd b12 w.length (nI lt), c13, b15, b16)), rfl, ⟨eR.symm, by rw [eT]; exact ⟨wd, kk, cN, hT, ⟨by omega, kx_app4 p2 hlt, by rw [elen], kx_pat12 p4, fun _ => hv2.2⟩, Or.inl (hv2.1.trans nI_0)⟩⟩, by rw [ht]; exact hP, hD⟩, hS.F ht⟩) hS.2.2 dX0_pattern_51
      · refine lv_bipush (v := (-2)) hx hb dX0_pattern_20 rfl ?_
        exact W.iret (v := (-2)) hx hb hr (fun t ht hW => ⟨⟨(-2), ((a0, a6, a7, a10, nI w.length, a14), (b1, b2, b3, b4, b5, b8, b9, b12, b13, b15, b16)), rfl, ⟨by rw [kx_patR, if_neg hok, if_pos k3], by rw [kx_patW, if_neg hok, if_pos k3]; exact hI0⟩, by rw [ht]; exact hP, hD⟩, hS.F ht⟩) hS.2.2 dX0_pattern_22
    · refine lv_iconst (v := (-1)) hx hb dX0_pattern_9 rfl ?_
      exact W.iret (v := (-1)) hx hb hr (fun t ht hW => ⟨⟨(-1), ((a0, a6, a7, a10, nI w.length, a14), (b1, b2, b3, b4, b5, b8, b9, b12, b13, b15, b16)), rfl, ⟨by rw [kx_patR, if_pos (Or.inr k2)], by rw [kx_patW, if_pos (Or.inr k2)]; exact hI0⟩, by rw [ht]; exact hP, hD⟩, hS.F ht⟩) hS.2.2 dX0_pattern_10
set_option maxHeartbeats 4000000 in
set_option maxRecDepth 100000 in
/-- fill(ph, q) -/
theorem met_X0_fill (l : Launch) (D : va_G) (ad : Nat → Nat) (cI cB : ClassId) (a0 a6 a7 a10 a11 a14 : Int32) (b1 b2 b3 b4 b5 b8 b9 b12 b13 b15 b16 : XA) (P : Nat) (wd : Nat → List Nat) (hP8 : P ≤ 123) (hDi : kx_Dict P P wd b1 b2 b3 b4 b5) (w : List Nat) (hw1 : 1 ≤ w.length) (hPI : kx_PI a11 b12 b13 w) (ph q : Nat) (hph : ph < P) (hq : q ≤ w.length) (hTab : kx_Tab ph wd w b15 b16) (sz : Nat) : Met l yX0_fill (ws_ yX0_fill cX0_fill 7 none) ({ frames := 0, cells := 0, slots := 0, locals := 0 }) (kx_Pm D (tys_ cI cB) (XWc ad cI cB a0 a6 a7 a10 a11 a14 b1 b2 b3 b4 b5 b8 b9 b12 b13 b15 b16) sz [.ref (ad 0), .int (nI ph), .int (nI q)]) (va_Qv (fun (u : XA × XA) => u.1 = upd b15 (ph * 11 + q) (nI (kx_run w q (wd ph))) ∧ u.2 = upd b16 (ph * 11 + q) (nI (kx_hit w q (wd ph)))) (kx_B D (fun u : XA × XA => XWc ad cI cB a0 a6 a7 a10 a11 a14 b1 b2 b3 b4 b5 b8 b9 b12 b13 u.1 u.2) (va_A (XWc ad cI cB a0 a6 a7 a10 a11 a14 b1 b2 b3 b4 b5 b8 b9 b12 b13 b15 b16) sz)) (va_A (XWc ad cI cB a0 a6 a7 a10 a11 a14 b1 b2 b3 b4 b5 b8 b9 b12 b13 b15 b16) sz)) 0 0 (va_A (XWc ad cI cB a0 a6 a7 a10 a11 a14 b1 b2 b3 b4 b5 b8 b9 b12 b13 b15 b16) sz) := by
  refine Met.ofW (cc := cX0_fill) (maxL := 7) (ret := none) (by decide) rfl ?_
  intro p e s m args below meth c s₁ B hml hv
  obtain ⟨rfl, hsz, hP, hK, hD0⟩ := hv
  have hx := B.exec
  have hb := B.bytes
  have hr := B.returns
  have hts := atoms_spec (ws := ws_ yX0_fill cX0_fill 7 none) B.pre
  have hts : ∀ w ∈ lw_all, w.before _ s = true := fun w h => hts w (List.mem_cons_of_mem _ h)
  have hown : s.vm.findClass RX0 = some m.cls := findClass_of_methodNamed B.named
  have hlocks := B.notSynchronized
  have S0 : CallFix p m c cX0_fill 7 s _ lw_all RX0 := ⟨hx, hb, hml, hown, hts⟩
  subst hsz
  have hD := hD0.self (sz := s.heap.size)
  generalize hAe : va_A (XWc ad cI cB a0 a6 a7 a10 a11 a14 b1 b2 b3 b4 b5 b8 b9 b12 b13 b15 b16) s.heap.size = A at hD ⊢
  have hA : ∀ q : Nat, s.heap.size ≤ q → A q := fun q h => by rw [← hAe]; exact Or.inr h
  have hS : va_S A s.heap s.heap [] := va_S.rf
  have hl := lv_entry ([.ref (ad 0), .int (nI ph), .int (nI q)]) (n := 7) (Nat.le_of_ble_eq_true rfl)
  rw [lg_entry_eq]
  generalize (lg_sl ([.ref (ad 0), .int (nI ph), .int (nI q)]) ++ List.replicate (7 - (lg_sl ([.ref (ad 0), .int (nI ph), .int (nI q)])).length) Slot.unset).toArray = ls at hl ⊢
  have hl : lv_has ls 7 [(0, .ref (ad 0)), (1, .int (nI ph)), (2, .int (nI q))] := hl
  obtain ⟨p1, p2, rfl, p4, p5⟩ := hPI
  obtain ⟨lt, g1, g2, g3, g4, g5, g6⟩ := hDi ph hph
  rcases g3 with ⟨e1, e2⟩ | ⟨y, hy, e1, e2⟩
  · have hsta : q ≤ w.length := hq
    have hbef : 0 ≤ 122 := by omega
    have erun : kx_run w q (wd ph) = kx_d w q lt := by rw [e2, kx_run_one]
    have ehit : kx_hit w q (wd ph) = 0 + (if kx_d w q lt = w.length then 1 else 0) := by rw [e2, kx_hit_one, Nat.zero_add]
    have hdl := kx_d_le w q lt
    refine lv_iload_n hx hb dX0_fill_0 rfl (lv_at hl 1 rfl) ?_
    refine lv_bipush (v := nI 11) hx hb dX0_fill_1 rfl ?_
    refine kw_imul S0 dX0_fill_3 ?_
    refine lv_iload_n hx hb dX0_fill_4 rfl (lv_at hl 2 rfl) ?_
    refine kw_iadd S0 dX0_fill_5 ?_
    refine lv_istore_n (lv' := [(3, .int (nI (ph * 11 + q))), (0, .ref (ad 0)), (1, .int (nI ph)), (2, .int (nI q))]) hx hb dX0_fill_6 rfl hl (by decide) rfl (fun ls hl => ?_)
    refine lv_aload_n hx hb dX0_fill_7 rfl (lv_at hl 1 rfl) ?_
    refine x0_get (v := .ref (ad 1)) S0 hK hP rfl 1 (by decide) q33 rfl dX0_fill_8 ?_
    refine lv_iload_n hx hb dX0_fill_11 rfl (lv_at hl 2 rfl) ?_
    refine kw_iald (y := (-1)) S0 hK hP 1 0 rfl rfl (by omega) (by decide) (e1) dX0_fill_12 ?_
    refine lv_if_ge (tgt := 20) hx hb dX0_fill_13 (by decide) (fun c9 => absurd c9 (by decide)) (fun _ => ?_)
    refine lv_iload_n hx hb dX0_fill_16 rfl (lv_at hl 3 rfl) ?_
    refine lv_goto (tgt := 36) hx hb dX0_fill_17 (by decide) ?_
    refine lv_istore (lv' := [(4, .int (nI q)), (3, .int (nI (ph * 11 + q))), (0, .ref (ad 0)), (1, .int (nI ph)), (2, .int (nI q))]) hx hb dX0_fill_36 hl (by decide) rfl (fun ls hl => ?_)
    refine lv_aload_n hx hb dX0_fill_38 rfl (lv_at hl 2 rfl) ?_
    refine x0_get (v := .ref (ad 1)) S0 hK hP rfl 1 (by decide) q33 rfl dX0_fill_39 ?_
    refine lv_iload_n hx hb dX0_fill_42 rfl (lv_at hl 3 rfl) ?_
    refine kw_iald (y := (-1)) S0 hK hP 1 0 rfl rfl (by omega) (by decide) (e1) dX0_fill_43 ?_
    refine lv_if_ge (tgt := 51) hx hb dX0_fill_44 (by decide) (fun c9 => absurd c9 (by decide)) (fun _ => ?_)
    refine lv_iconst (v := nI 0) hx hb dX0_fill_47 rfl ?_
    refine lv_goto (tgt := 67) hx hb dX0_fill_48 (by decide) ?_
    refine lv_istore (lv' := [(5, .int (nI 0)), (4, .int (nI q)), (3, .int (nI (ph * 11 + q))), (0, .ref (ad 0)), (1, .int (nI ph)), (2, .int (nI q))]) hx hb dX0_fill_67 hl (by decide) rfl (fun ls hl => ?_)
    refine lv_aload_n hx hb dX0_fill_69 rfl (lv_at hl 3 rfl) ?_
    refine x0_get (v := .ref (ad 13)) S0 hK hP rfl 13 (by decide) q45 rfl dX0_fill_70 ?_
    refine lv_iload hx hb dX0_fill_73 (lv_at hl 1 rfl) ?_
    refine lv_iconst (v := nI 4) hx hb dX0_fill_75 rfl ?_
    refine kw_imul S0 dX0_fill_76 ?_
    refine lv_aload_n hx hb dX0_fill_77 rfl (lv_at hl 3 rfl) ?_
    refine x0_get (v := .ref (ad 2)) S0 hK hP rfl 2 (by decide) q34 rfl dX0_fill_78 ?_
    refine lv_iload_n hx hb dX0_fill_81 rfl (lv_at hl 4 rfl) ?_
    refine kw_iald (y := nI lt) S0 hK hP 2 0 rfl rfl (by omega) (by decide) (g2) dX0_fill_82 ?_
    refine kw_iadd S0 dX0_fill_83 ?_
    refine kw_iald (y := nI (kx_d w q lt)) S0 hK hP 9 0 rfl rfl (by omega) (by decide) (p5 hw1 _ hsta lt g1) dX0_fill_84 ?_
    refine lv_istore (lv' := [(6, .int (nI (kx_d w q lt))), (5, .int (nI 0)), (4, .int (nI q)), (3, .int (nI (ph * 11 + q))), (0, .ref (ad 0)), (1, .int (nI ph)), (2, .int (nI q))]) hx hb dX0_fill_85 hl (by decide) rfl (fun ls hl => ?_)
    refine lv_aload_n hx hb dX0_fill_87 rfl (lv_at hl 4 rfl) ?_
    refine x0_get (v := .ref (ad 15)) S0 hK hP rfl 15 (by decide) q47 rfl dX0_fill_88 ?_
    refine lv_iload_n hx hb dX0_fill_91 rfl (lv_at hl 3 rfl) ?_
    refine lv_iload hx hb dX0_fill_92 (lv_at hl 0 rfl) ?_
    refine kw_i2b S0 dX0_fill_94 (by omega) ?_
    refine kw_bast S0 hK hP hD hS 10 1 rfl rfl (by omega) (by decide) (by omega) dX0_fill_95 (fun H locs hP hD hS => ?_)
    have hP : va_P D vwCl (XWc ad cI cB a0 a6 a7 a10 (nI w.length) a14 b1 b2 b3 b4 b5 b8 b9 b12 b13 (upd b15 (ph * 11 + q) (nI (kx_d w q lt))) b16) H := hP
    have hD : va_D A (XWc ad cI cB a0 a6 a7 a10 (nI w.length) a14 b1 b2 b3 b4 b5 b8 b9 b12 b13 (upd b15 (ph * 11 + q) (nI (kx_d w q lt))) b16) := hD
    refine lv_aload_n hx hb dX0_fill_96 rfl (lv_at hl 4 rfl) ?_
    refine x0_get (v := .ref (ad 16)) S0 hK hP rfl 16 (by decide) q48 rfl dX0_fill_97 ?_
    refine lv_iload_n hx hb dX0_fill_100 rfl (lv_at hl 3 rfl) ?_
    refine lv_iload hx hb dX0_fill_101 (lv_at hl 0 rfl) ?_
    refine lv_aload_n hx hb dX0_fill_103 rfl (lv_at hl 4 rfl) ?_
    refine x0_get (v := .int (nI w.length)) S0 hK hP rfl 11 (by decide) q43 rfl dX0_fill_104 ?_
    refine kw_ne (tgt := 117) S0 dX0_fill_107 (by decide) (by omega) (by omega) (fun k1 => ?_) (fun k1 => ?_)
    · refine lv_iload hx hb dX0_fill_117 (lv_at hl 1 rfl) ?_
      refine kw_i2b S0 dX0_fill_119 (by omega) ?_
      refine kw_bast S0 hK hP hD hS 11 1 rfl rfl (by omega) (by decide) (by omega) dX0_fill_120 (fun H locs hP hD hS => ?_)
      have hP : va_P D vwCl (XWc ad cI cB a0 a6 a7 a10 (nI w.length) a14 b1 b2 b3 b4 b5 b8 b9 b12 b13 (upd b15 (ph * 11 + q) (nI (kx_d w q lt))) (upd b16 (ph * 11 + q) (nI 0))) H := hP
      have hD : va_D A (XWc ad cI cB a0 a6 a7 a10 (nI w.length) a14 b1 b2 b3 b4 b5 b8 b9 b12 b13 (upd b15 (ph * 11 + q) (nI (kx_d w q lt))) (upd b16 (ph * 11 + q) (nI 0))) := hD
      exact W.vret hx hb hr (fun t ht hW => ⟨⟨(upd b15 (ph * 11 + q) (nI (kx_d w q lt)), upd b16 (ph * 11 + q) (nI 0)), rfl, ⟨by rw [erun], by rw [ehit, if_neg k1, Nat.add_zero]⟩, by rw [ht]; exact hP, hD⟩, hS.F ht⟩) hS.2.2 dX0_fill_121
    · refine lv_iload hx hb dX0_fill_110 (lv_at hl 1 rfl) ?_
      refine lv_iconst (v := nI 1) hx hb dX0_fill_112 rfl ?_
      refine kw_iadd S0 dX0_fill_113 ?_
      refine lv_goto (tgt := 119) hx hb dX0_fill_114 (by decide) ?_
      refine kw_i2b S0 dX0_fill_119 (by omega) ?_
      refine kw_bast S0 hK hP hD hS 11 1 rfl rfl (by omega) (by decide) (by omega) dX0_fill_120 (fun H locs hP hD hS => ?_)
      have hP : va_P D vwCl (XWc ad cI cB a0 a6 a7 a10 (nI w.length) a14 b1 b2 b3 b4 b5 b8 b9 b12 b13 (upd b15 (ph * 11 + q) (nI (kx_d w q lt))) (upd b16 (ph * 11 + q) (nI (0 + 1)))) H := hP
      have hD : va_D A (XWc ad cI cB a0 a6 a7 a10 (nI w.length) a14 b1 b2 b3 b4 b5 b8 b9 b12 b13 (upd b15 (ph * 11 + q) (nI (kx_d w q lt))) (upd b16 (ph * 11 + q) (nI (0 + 1)))) := hD
      exact W.vret hx hb hr (fun t ht hW => ⟨⟨(upd b15 (ph * 11 + q) (nI (kx_d w q lt)), upd b16 (ph * 11 + q) (nI (0 + 1))), rfl, ⟨by rw [erun], by rw [ehit, if_pos k1]⟩, by rw [ht]; exact hP, hD⟩, hS.F ht⟩) hS.2.2 dX0_fill_121
  · have hsta : kx_run w q (wd y) ≤ w.length := kx_run_le w (wd y) q hq
    have hbef : kx_hit w q (wd y) ≤ 122 := by
      have z1 := kx_hit_le w (wd y) q
      have z2 := (kx_dict_len hDi y (by omega)).2
      omega
    have erun : kx_run w q (wd ph) = kx_d w (kx_run w q (wd y)) lt := by rw [e2, kx_run_app, kx_run_one]
    have ehit : kx_hit w q (wd ph) = kx_hit w q (wd y) + (if kx_d w (kx_run w q (wd y)) lt = w.length then 1 else 0) := by rw [e2, kx_hit_app, kx_hit_one]
    have hdl := kx_d_le w (kx_run w q (wd y)) lt
    refine lv_iload_n hx hb dX0_fill_0 rfl (lv_at hl 1 rfl) ?_
    refine lv_bipush (v := nI 11) hx hb dX0_fill_1 rfl ?_
    refine kw_imul S0 dX0_fill_3 ?_
    refine lv_iload_n hx hb dX0_fill_4 rfl (lv_at hl 2 rfl) ?_
    refine kw_iadd S0 dX0_fill_5 ?_
    refine lv_istore_n (lv' := [(3, .int (nI (ph * 11 + q))), (0, .ref (ad 0)), (1, .int (nI ph)), (2, .int (nI q))]) hx hb dX0_fill_6 rfl hl (by decide) rfl (fun ls hl => ?_)
    refine lv_aload_n hx hb dX0_fill_7 rfl (lv_at hl 1 rfl) ?_
    refine x0_get (v := .ref (ad 1)) S0 hK hP rfl 1 (by decide) q33 rfl dX0_fill_8 ?_
    refine lv_iload_n hx hb dX0_fill_11 rfl (lv_at hl 2 rfl) ?_
    refine kw_iald (y := nI y) S0 hK hP 1 0 rfl rfl (by omega) (by decide) (e1) dX0_fill_12 ?_
    refine lv_if_ge (tgt := 20) hx hb dX0_fill_13 (by decide) (fun _ => ?_) (fun c9 => absurd (nI_pos' (by omega)) c9)
    refine lv_aload_n hx hb dX0_fill_20 rfl (lv_at hl 1 rfl) ?_
    refine x0_get (v := .ref (ad 15)) S0 hK hP rfl 15 (by decide) q47 rfl dX0_fill_21 ?_
    refine lv_aload_n hx hb dX0_fill_24 rfl (lv_at hl 1 rfl) ?_
    refine x0_get (v := .ref (ad 1)) S0 hK hP rfl 1 (by decide) q33 rfl dX0_fill_25 ?_
    refine lv_iload_n hx hb dX0_fill_28 rfl (lv_at hl 2 rfl) ?_
    refine kw_iald (y := nI y) S0 hK hP 1 0 rfl rfl (by omega) (by decide) (e1) dX0_fill_29 ?_
    refine lv_bipush (v := nI 11) hx hb dX0_fill_30 rfl ?_
    refine kw_imul S0 dX0_fill_32 ?_
    refine lv_iload_n hx hb dX0_fill_33 rfl (lv_at hl 3 rfl) ?_
    refine kw_iadd S0 dX0_fill_34 ?_
    refine kw_bald (y := nI (kx_run w q (wd y))) S0 hK hP 10 1 rfl rfl (by omega) (by decide) ((hTab y hy q hq).1) dX0_fill_35 ?_
    refine lv_istore (lv' := [(4, .int (nI (kx_run w q (wd y)))), (3, .int (nI (ph * 11 + q))), (0, .ref (ad 0)), (1, .int (nI ph)), (2, .int (nI q))]) hx hb dX0_fill_36 hl (by decide) rfl (fun ls hl => ?_)
    refine lv_aload_n hx hb dX0_fill_38 rfl (lv_at hl 2 rfl) ?_
    refine x0_get (v := .ref (ad 1)) S0 hK hP rfl 1 (by decide) q33 rfl dX0_fill_39 ?_
    refine lv_iload_n hx hb dX0_fill_42 rfl (lv_at hl 3 rfl) ?_
    refine kw_iald (y := nI y) S0 hK hP 1 0 rfl rfl (by omega) (by decide) (e1) dX0_fill_43 ?_
    refine lv_if_ge (tgt := 51) hx hb dX0_fill_44 (by decide) (fun _ => ?_) (fun c9 => absurd (nI_pos' (by omega)) c9)
    refine lv_aload_n hx hb dX0_fill_51 rfl (lv_at hl 2 rfl) ?_
    refine x0_get (v := .ref (ad 16)) S0 hK hP rfl 16 (by decide) q48 rfl dX0_fill_52 ?_
    refine lv_aload_n hx hb dX0_fill_55 rfl (lv_at hl 2 rfl) ?_
    refine x0_get (v := .ref (ad 1)) S0 hK hP rfl 1 (by decide) q33 rfl dX0_fill_56 ?_
    refine lv_iload_n hx hb dX0_fill_59 rfl (lv_at hl 3 rfl) ?_
    refine kw_iald (y := nI y) S0 hK hP 1 0 rfl rfl (by omega) (by decide) (e1) dX0_fill_60 ?_
    refine lv_bipush (v := nI 11) hx hb dX0_fill_61 rfl ?_
    refine kw_imul S0 dX0_fill_63 ?_
    refine lv_iload_n hx hb dX0_fill_64 rfl (lv_at hl 4 rfl) ?_
    refine kw_iadd S0 dX0_fill_65 ?_
    refine kw_bald (y := nI (kx_hit w q (wd y))) S0 hK hP 11 1 rfl rfl (by omega) (by decide) ((hTab y hy q hq).2) dX0_fill_66 ?_
    refine lv_istore (lv' := [(5, .int (nI (kx_hit w q (wd y)))), (4, .int (nI (kx_run w q (wd y)))), (3, .int (nI (ph * 11 + q))), (0, .ref (ad 0)), (1, .int (nI ph)), (2, .int (nI q))]) hx hb dX0_fill_67 hl (by decide) rfl (fun ls hl => ?_)
    refine lv_aload_n hx hb dX0_fill_69 rfl (lv_at hl 3 rfl) ?_
    refine x0_get (v := .ref (ad 13)) S0 hK hP rfl 13 (by decide) q45 rfl dX0_fill_70 ?_
    refine lv_iload hx hb dX0_fill_73 (lv_at hl 1 rfl) ?_
    refine lv_iconst (v := nI 4) hx hb dX0_fill_75 rfl ?_
    refine kw_imul S0 dX0_fill_76 ?_
    refine lv_aload_n hx hb dX0_fill_77 rfl (lv_at hl 3 rfl) ?_
    refine x0_get (v := .ref (ad 2)) S0 hK hP rfl 2 (by decide) q34 rfl dX0_fill_78 ?_
    refine lv_iload_n hx hb dX0_fill_81 rfl (lv_at hl 4 rfl) ?_
    refine kw_iald (y := nI lt) S0 hK hP 2 0 rfl rfl (by omega) (by decide) (g2) dX0_fill_82 ?_
    refine kw_iadd S0 dX0_fill_83 ?_
    refine kw_iald (y := nI (kx_d w (kx_run w q (wd y)) lt)) S0 hK hP 9 0 rfl rfl (by omega) (by decide) (p5 hw1 _ hsta lt g1) dX0_fill_84 ?_
    refine lv_istore (lv' := [(6, .int (nI (kx_d w (kx_run w q (wd y)) lt))), (5, .int (nI (kx_hit w q (wd y)))), (4, .int (nI (kx_run w q (wd y)))), (3, .int (nI (ph * 11 + q))), (0, .ref (ad 0)), (1, .int (nI ph)), (2, .int (nI q))]) hx hb dX0_fill_85 hl (by decide) rfl (fun ls hl => ?_)
    refine lv_aload_n hx hb dX0_fill_87 rfl (lv_at hl 4 rfl) ?_
    refine x0_get (v := .ref (ad 15)) S0 hK hP rfl 15 (by decide) q47 rfl dX0_fill_88 ?_
    refine lv_iload_n hx hb dX0_fill_91 rfl (lv_at hl 3 rfl) ?_
    refine lv_iload hx hb dX0_fill_92 (lv_at hl 0 rfl) ?_
    refine kw_i2b S0 dX0_fill_94 (by omega) ?_
    refine kw_bast S0 hK hP hD hS 10 1 rfl rfl (by omega) (by decide) (by omega) dX0_fill_95 (fun H locs hP hD hS => ?_)
    have hP : va_P D vwCl (XWc ad cI cB a0 a6 a7 a10 (nI w.length) a14 b1 b2 b3 b4 b5 b8 b9 b12 b13 (upd b15 (ph * 11 + q) (nI (kx_d w (kx_run w q (wd y)) lt))) b16) H := hP
    have hD : va_D A (XWc ad cI cB a0 a6 a7 a10 (nI w.length) a14 b1 b2 b3 b4 b5 b8 b9 b12 b13 (upd b15 (ph * 11 + q) (nI (kx_d w (kx_run w q (wd y)) lt))) b16) := hD
    refine lv_aload_n hx hb dX0_fill_96 rfl (lv_at hl 4 rfl) ?_
    refine x0_get (v := .ref (ad 16)) S0 hK hP rfl 16 (by decide) q48 rfl dX0_fill_97 ?_
    refine lv_iload_n hx hb dX0_fill_100 rfl (lv_at hl 3 rfl) ?_
    refine lv_iload hx hb dX0_fill_101 (lv_at hl 0 rfl) ?_
    refine lv_aload_n hx hb dX0_fill_103 rfl (lv_at hl 4 rfl) ?_
    refine x0_get (v := .int (nI w.length)) S0 hK hP rfl 11 (by decide) q43 rfl dX0_fill_104 ?_
    refine kw_ne (tgt := 117) S0 dX0_fill_107 (by decide) (by omega) (by omega) (fun k1 => ?_) (fun k1 => ?_)
    · refine lv_iload hx hb dX0_fill_117 (lv_at hl 1 rfl) ?_
      refine kw_i2b S0 dX0_fill_119 (by omega) ?_
      refine kw_bast S0 hK hP hD hS 11 1 rfl rfl (by omega) (by decide) (by omega) dX0_fill_120 (fun H locs hP hD hS => ?_)
      have hP : va_P D vwCl (XWc ad cI cB a0 a6 a7 a10 (nI w.length) a14 b1 b2 b3 b4 b5 b8 b9 b12 b13 (upd b15 (ph * 11 + q) (nI (kx_d w (kx_run w q (wd y)) lt))) (upd b16 (ph * 11 + q) (nI (kx_hit w q (wd y))))) H := hP
      have hD : va_D A (XWc ad cI cB a0 a6 a7 a10 (nI w.length) a14 b1 b2 b3 b4 b5 b8 b9 b12 b13 (upd b15 (ph * 11 + q) (nI (kx_d w (kx_run w q (wd y)) lt))) (upd b16 (ph * 11 + q) (nI (kx_hit w q (wd y))))) := hD
      exact W.vret hx hb hr (fun t ht hW => ⟨⟨(upd b15 (ph * 11 + q) (nI (kx_d w (kx_run w q (wd y)) lt)), upd b16 (ph * 11 + q) (nI (kx_hit w q (wd y)))), rfl, ⟨by rw [erun], by rw [ehit, if_neg k1, Nat.add_zero]⟩, by rw [ht]; exact hP, hD⟩, hS.F ht⟩) hS.2.2 dX0_fill_121
    · refine lv_iload hx hb dX0_fill_110 (lv_at hl 1 rfl) ?_
      refine lv_iconst (v := nI 1) hx hb dX0_fill_112 rfl ?_
      refine kw_iadd S0 dX0_fill_113 ?_
      refine lv_goto (tgt := 119) hx hb dX0_fill_114 (by decide) ?_
      refine kw_i2b S0 dX0_fill_119 (by omega) ?_
      refine kw_bast S0 hK hP hD hS 11 1 rfl rfl (by omega) (by decide) (by omega) dX0_fill_120 (fun H locs hP hD hS => ?_)
      have hP : va_P D vwCl (XWc ad cI cB a0 a6 a7 a10 (nI w.length) a14 b1 b2 b3 b4 b5 b8 b9 b12 b13 (upd b15 (ph * 11 + q) (nI (kx_d w (kx_run w q (wd y)) lt))) (upd b16 (ph * 11 + q) (nI (kx_hit w q (wd y) + 1)))) H := hP
      have hD : va_D A (XWc ad cI cB a0 a6 a7 a10 (nI w.length) a14 b1 b2 b3 b4 b5 b8 b9 b12 b13 (upd b15 (ph * 11 + q) (nI (kx_d w (kx_run w q (wd y)) lt))) (upd b16 (ph * 11 + q) (nI (kx_hit w q (wd y) + 1)))) := hD
      exact W.vret hx hb hr (fun t ht hW => ⟨⟨(upd b15 (ph * 11 + q) (nI (kx_d w (kx_run w q (wd y)) lt)), upd b16 (ph * 11 + q) (nI (kx_hit w q (wd y) + 1))), rfl, ⟨by rw [erun], by rw [ehit, if_pos k1]⟩, by rw [ht]; exact hP, hD⟩, hS.F ht⟩) hS.2.2 dX0_fill_121
set_option maxHeartbeats 4000000 in
set_option maxRecDepth 100000 in
/-- prepare() -/
theorem met_X0_prepare (l : Launch) (D : va_G) (ad : Nat → Nat) (cI cB : ClassId) (a0 a6 a7 a10 a11 a14 : Int32) (b1 b2 b3 b4 b5 b8 b9 b12 b13 b15 b16 : XA) (P : Nat) (wd : Nat → List Nat) (hP8 : P ≤ 123) (hDi : kx_Dict P P wd b1 b2 b3 b4 b5) (w : List Nat) (hw1 : 1 ≤ w.length) (hPI : kx_PI a11 b12 b13 w) (h0 : a0 = nI P) (hRI : kx_RI a14 b15 b16 P wd w) (sz : Nat) : Met l yX0_prepare (ws_ yX0_prepare cX0_prepare 3 none) ({ frames := 1, cells := 0, slots := 0, locals := 26 }) (kx_Pm D (tys_ cI cB) (XWc ad cI cB a0 a6 a7 a10 a11 a14 b1 b2 b3 b4 b5 b8 b9 b12 b13 b15 b16) sz [.ref (ad 0)]) (va_Qv (fun (u : Int32 × XA × XA) => u.1 = 1 ∧ kx_Tab P wd w u.2.1 u.2.2) (kx_B D (fun u : Int32 × XA × XA => XWc ad cI cB a0 a6 a7 a10 a11 u.1 b1 b2 b3 b4 b5 b8 b9 b12 b13 u.2.1 u.2.2) (va_A (XWc ad cI cB a0 a6 a7 a10 a11 a14 b1 b2 b3 b4 b5 b8 b9 b12 b13 b15 b16) sz)) (va_A (XWc ad cI cB a0 a6 a7 a10 a11 a14 b1 b2 b3 b4 b5 b8 b9 b12 b13 b15 b16) sz)) 0 0 (va_A (XWc ad cI cB a0 a6 a7 a10 a11 a14 b1 b2 b3 b4 b5 b8 b9 b12 b13 b15 b16) sz) := by
  refine Met.ofW (cc := cX0_prepare) (maxL := 3) (ret := none) (by decide) rfl ?_
  intro p e s m args below meth c s₁ B hml hv
  obtain ⟨rfl, hsz, hP, hK, hD0⟩ := hv
  have hx := B.exec
  have hb := B.bytes
  have hr := B.returns
  have hts := atoms_spec (ws := ws_ yX0_prepare cX0_prepare 3 none) B.pre
  have hts : ∀ w ∈ lw_all, w.before _ s = true := fun w h => hts w (List.mem_cons_of_mem _ h)
  have hown : s.vm.findClass RX0 = some m.cls := findClass_of_methodNamed B.named
  have hlocks := B.notSynchronized
  have S0 : CallFix p m c cX0_prepare 3 s _ lw_all RX0 := ⟨hx, hb, hml, hown, hts⟩
  subst hsz
  have hD := hD0.self (sz := s.heap.size)
  generalize hAe : va_A (XWc ad cI cB a0 a6 a7 a10 a11 a14 b1 b2 b3 b4 b5 b8 b9 b12 b13 b15 b16) s.heap.size = A at hD ⊢
  have hA : ∀ q : Nat, s.heap.size ≤ q → A q := fun q h => by rw [← hAe]; exact Or.inr h
  have hS : va_S A s.heap s.heap [] := va_S.rf
  have hl := lv_entry ([.ref (ad 0)]) (n := 3) (Nat.le_of_ble_eq_true rfl)
  rw [lg_entry_eq]
  generalize (lg_sl ([.ref (ad 0)]) ++ List.replicate (3 - (lg_sl ([.ref (ad 0)])).length) Slot.unset).toArray = ls at hl ⊢
  have hl : lv_has ls 3 [(0, .ref (ad 0))] := hl
  have hPI0 := hPI
  obtain ⟨p1, p2, rfl, p4, p5⟩ := hPI
  subst h0
  rcases hRI with rfl | ⟨rfl, hTab⟩
  · refine lv_aload_n hx hb dX0_prepare_0 rfl (lv_at hl 0 rfl) ?_
    refine x0_get (v := .int 0) S0 hK hP rfl 14 (by decide) q46 rfl dX0_prepare_1 ?_
    refine lv_if_eq (tgt := 8) hx hb dX0_prepare_4 (by decide) (fun _ => ?_) (fun c9 => absurd (rfl) c9)
    refine lv_aload_n hx hb dX0_prepare_8 rfl (lv_at hl 0 rfl) ?_
    refine lv_iconst (v := nI 1) hx hb dX0_prepare_9 rfl ?_
    refine x0_put (v := .int (nI 1)) S0 hK hP hD hS rfl 14 (by decide) q46 rfl rfl rfl (Nat.le_of_ble_eq_true rfl) dX0_prepare_10 (fun H locs hP hD hS => ?_)
    have hP : va_P D vwCl (XWc ad cI cB (nI P) a6 a7 a10 (nI w.length) (nI 1) b1 b2 b3 b4 b5 b8 b9 b12 b13 b15 b16) H := hP
    have hD : va_D A (XWc ad cI cB (nI P) a6 a7 a10 (nI w.length) (nI 1) b1 b2 b3 b4 b5 b8 b9 b12 b13 b15 b16) := hD
    refine lv_iconst (v := nI 0) hx hb dX0_prepare_13 rfl ?_
    refine lv_istore_n (lv' := [(1, .int (nI 0)), (0, .ref (ad 0))]) hx hb dX0_prepare_14 rfl hl (by decide) rfl (fun ls hl => ?_)
    have loopP : ∀ (z ph : Nat) (c15 c16 : XA), ph ≤ P → P < ph + z → kx_Tab ph wd w c15 c16 → ∀ (H : Heap) (locs : List Loc), va_P D vwCl (XWc ad cI cB (nI P) a6 a7 a10 (nI w.length) (nI 1) b1 b2 b3 b4 b5 b8 b9 b12 b13 c15 c16) H → va_D A (XWc ad cI cB (nI P) a6 a7 a10 (nI w.length) (nI 1) b1 b2 b3 b4 b5 b8 b9 b12 b13 c15 c16) → va_S A s.heap H locs → ∀ (ls : Array Slot), lv_has ls 3 [(1, .int (nI ph)), (0, .ref (ad 0))] → W p l e (headSpec (ws_ yX0_prepare cX0_prepare 3 none) ({ frames := 1, cells := 0, slots := 0, locals := 26 })).room s m ([.ref (ad 0)] : List Value).toArray below meth c H locs 0 0 (MQ below (va_Qv (fun (u : Int32 × XA × XA) => u.1 = 1 ∧ kx_Tab P wd w u.2.1 u.2.2) (kx_B D (fun u : Int32 × XA × XA => XWc ad cI cB (nI P) a6 a7 a10 (nI w.length) u.1 b1 b2 b3 b4 b5 b8 b9 b12 b13 u.2.1 u.2.2) A) A) ([.ref (ad 0)] : List Value).toArray s 0 0 A) (F0 m 15 ls []) := by
      intro z
      induction z with
      | zero => intro ph c15 c16 h1 h2; exact absurd h2 (by omega)
      | succ z ih =>
        intro ph c15 c16 hp hpz hTab H locs hP hD hS ls hl
        refine lv_iload_n hx hb dX0_prepare_15 rfl (lv_at hl 0 rfl) ?_
        refine lv_aload_n hx hb dX0_prepare_16 rfl (lv_at hl 1 rfl) ?_
        refine x0_get (v := .int (nI P)) S0 hK hP rfl 0 (by decide) q32 rfl dX0_prepare_17 ?_
        refine kw_ge (tgt := 51) S0 dX0_prepare_20 (by decide) (by omega) (by omega) (fun k1 => ?_) (fun k1 => ?_)
        · exact W.vret hx hb hr (fun t ht hW => ⟨⟨(nI 1, c15, c16), rfl, ⟨rfl, fun y hy => hTab y (by omega)⟩, by rw [ht]; exact hP, hD⟩, hS.F ht⟩) hS.2.2 dX0_prepare_51
        · refine lv_iconst (v := nI 0) hx hb dX0_prepare_23 rfl ?_
          refine lv_istore_n (lv' := [(2, .int (nI 0)), (1, .int (nI ph)), (0, .ref (ad 0))]) hx hb dX0_prepare_24 rfl hl (by decide) rfl (fun ls hl => ?_)
          have loopQ : ∀ (z2 q : Nat) (e15 e16 : XA), q ≤ w.length + 1 → w.length + 1 < q + z2 → kx_Tab ph wd w e15 e16 → kx_Row ph q wd w e15 e16 → ∀ (H : Heap) (locs : List Loc), va_P D vwCl (XWc ad cI cB (nI P) a6 a7 a10 (nI w.length) (nI 1) b1 b2 b3 b4 b5 b8 b9 b12 b13 e15 e16) H → va_D A (XWc ad cI cB (nI P) a6 a7 a10 (nI w.length) (nI 1) b1 b2 b3 b4 b5 b8 b9 b12 b13 e15 e16) → va_S A s.heap H locs → ∀ (ls : Array Slot), lv_has ls 3 [(2, .int (nI q)), (1, .int (nI ph)), (0, .ref (ad 0))] → W p l e (headSpec (ws_ yX0_prepare cX0_prepare 3 none) ({ frames := 1, cells := 0, slots := 0, locals := 26 })).room s m ([.ref (ad 0)] : List Value).toArray below meth c H locs 0 0 (MQ below (va_Qv (fun (u : Int32 × XA × XA) => u.1 = 1 ∧ kx_Tab P wd w u.2.1 u.2.2) (kx_B D (fun u : Int32 × XA × XA => XWc ad cI cB (nI P) a6 a7 a10 (nI w.length) u.1 b1 b2 b3 b4 b5 b8 b9 b12 b13 u.2.1 u.2.2) A) A) ([.ref (ad 0)] : List Value).toArray s 0 0 A) (F0 m 25 ls []) := by
            intro z2
            induction z2 with
            | zero => intro q e15 e16 h1 h2; exact absurd h2 (by omega)
            | succ z2 ih2 =>
              intro q e15 e16 hq hqz hT2 hR2 H locs hP hD hS ls hl
              refine lv_iload_n hx hb dX0_prepare_25 rfl (lv_at hl 0 rfl) ?_
              refine lv_aload_n hx hb dX0_prepare_26 rfl (lv_at hl 2 rfl) ?_
              refine x0_get (v := .int (nI w.length)) S0 hK hP rfl 11 (by decide) q43 rfl dX0_prepare_27 ?_
              refine kw_gt (tgt := 45) S0 dX0_prepare_30 (by decide) (by omega) (by omega) (fun k2 => ?_) (fun k2 => ?_)
              · refine lv_iinc (v := nI (ph + 1)) (lv' := [(1, .int (nI (ph + 1))), (2, .int (nI q)), (0, .ref (ad 0))]) hx hb dX0_prepare_45 hl (k := 1) rfl (nI_1 ph) (by decide) rfl (fun ls hl => ?_)
                refine lv_goto (tgt := 15) hx hb dX0_prepare_48 (by decide) ?_
                exact ih (ph + 1) e15 e16 (by omega) (by omega) (kx_tab_s hT2 hR2 k2) _ _ hP hD hS ls (lv_sub hl [0, 2] rfl)
              · refine lv_aload_n hx hb dX0_prepare_33 rfl (lv_at hl 2 rfl) ?_
                refine lv_iload_n hx hb dX0_prepare_34 rfl (lv_at hl 1 rfl) ?_
                refine lv_iload_n hx hb dX0_prepare_35 rfl (lv_at hl 0 rfl) ?_
                refine kw_mv (n := 2) (wc := (XWc ad cI cB (nI P) a6 a7 a10 (nI w.length) (nI 1) b1 b2 b3 b4 b5 b8 b9 b12 b13 e15 e16)) (wr := []) (ci := 0) (As := [.int (nI ph), .int (nI q)]) (rest := []) S0 hl.1 hK hP hD hS hA [0, 1, 2, 3, 4, 5, 6, 7, 8, 9, 10, 11] [] rfl rfl (by decide) (by decide) (by decide) rfl rfl (fun sz => met_X0_fill l D ad cI cB (nI P) a6 a7 a10 (nI w.length) (nI 1) b1 b2 b3 b4 b5 b8 b9 b12 b13 e15 e16 P wd hP8 hDi w hw1 hPI0 ph q k1 k2 hT2 sz) (lw_V q148 q150 qs8 q14 q151) rfl rfl (by decide +kernel) ⟨Nat.le_of_ble_eq_true rfl, Nat.le_of_ble_eq_true rfl⟩ rfl rfl (Nat.le_of_ble_eq_true rfl) dX0_prepare_36 ⟨Nat.zero_le _, Nat.zero_le _⟩ (fun v H locs hv2 hP hD hS => ?_)
                obtain ⟨n15, n16⟩ := v
                obtain ⟨y1, y2⟩ := hv2
                dsimp only at y1 y2
                subst y1
                subst y2
                have hP : va_P D vwCl (XWc ad cI cB (nI P) a6 a7 a10 (nI w.length) (nI 1) b1 b2 b3 b4 b5 b8 b9 b12 b13 (upd e15 (ph * 11 + q) (nI (kx_run w q (wd ph)))) (upd e16 (ph * 11 + q) (nI (kx_hit w q (wd ph))))) H := hP
                have hD : va_D A (XWc ad cI cB (nI P) a6 a7 a10 (nI w.length) (nI 1) b1 b2 b3 b4 b5 b8 b9 b12 b13 (upd e15 (ph * 11 + q) (nI (kx_run w q (wd ph)))) (upd e16 (ph * 11 + q) (nI (kx_hit w q (wd ph))))) := hD
                refine lv_iinc (v := nI (q + 1)) (lv' := [(2, .int (nI (q + 1))), (1, .int (nI ph)), (0, .ref (ad 0))]) hx hb dX0_prepare_39 hl (k := 0) rfl (nI_1 q) (by decide) rfl (fun ls hl => ?_)
                refine lv_goto (tgt := 25) hx hb dX0_prepare_42 (by decide) ?_
                exact ih2 (q + 1) _ _ (by omega) (by omega) (kx_tab_u p1 hT2) (kx_row_u hR2) _ _ hP hD hS ls (lv_sub hl [0, 1, 2] rfl)
          exact loopQ (w.length + 2) 0 c15 c16 (by omega) (by omega) hTab (fun y hy => absurd hy (Nat.not_lt_zero _)) _ _ hP hD hS ls (lv_sub hl [0, 1, 2] rfl)
    exact loopP (P + 1) 0 b15 b16 (by omega) (by omega) (fun y hy => absurd hy (Nat.not_lt_zero _)) _ _ hP hD hS ls (lv_sub hl [0, 1] rfl)
  · refine lv_aload_n hx hb dX0_prepare_0 rfl (lv_at hl 0 rfl) ?_
    refine x0_get (v := .int 1) S0 hK hP rfl 14 (by decide) q46 rfl dX0_prepare_1 ?_
    refine lv_if_eq (tgt := 8) hx hb dX0_prepare_4 (by decide) (fun c9 => absurd c9 (by decide)) (fun _ => ?_)
    exact W.vret hx hb hr (fun t ht hW => ⟨⟨(1, b15, b16), rfl, ⟨rfl, hTab⟩, by rw [ht]; exact hP, hD⟩, hS.F ht⟩) hS.2.2 dX0_prepare_7
set_option maxHeartbeats 4000000 in
set_option maxRecDepth 100000 in
/-- overlap() -/
theorem met_X0_overlap (l : Launch) (D : va_G) (ad : Nat → Nat) (cI cB : ClassId) (a0 a6 a7 a10 a11 a14 : Int32) (b1 b2 b3 b4 b5 b8 b9 b12 b13 b15 b16 : XA) (T w : List Nat) (hI : kx_Ic a0 a6 a7 a10 a11 a14 b1 b2 b3 b4 b5 b8 b9 b12 b13 b15 b16 T w) (sz : Nat) : Met l yX0_overlap (ws_ yX0_overlap cX0_overlap 4 (some .int)) ({ frames := 2, cells := 0, slots := 0, locals := 50 }) (kx_Pm D (tys_ cI cB) (XWc ad cI cB a0 a6 a7 a10 a11 a14 b1 b2 b3 b4 b5 b8 b9 b12 b13 b15 b16) sz [.ref (ad 0)]) (va_Qi (fun (r : Int32) (u : XS) => r = nI (kx_ov w T) ∧ kx_Inv u T w) (kx_B D (fun u : XS => XWs ad cI cB u) (va_A (XWc ad cI cB a0 a6 a7 a10 a11 a14 b1 b2 b3 b4 b5 b8 b9 b12 b13 b15 b16) sz)) (va_A (XWc ad cI cB a0 a6 a7 a10 a11 a14 b1 b2 b3 b4 b5 b8 b9 b12 b13 b15 b16) sz)) 0 0 (va_A (XWc ad cI cB a0 a6 a7 a10 a11 a14 b1 b2 b3 b4 b5 b8 b9 b12 b13 b15 b16) sz) := by
  refine Met.ofW (cc := cX0_overlap) (maxL := 4) (ret := (some .int)) (by decide) rfl ?_
  intro p e s m args below meth c s₁ B hml hv
  obtain ⟨rfl, hsz, hP, hK, hD0⟩ := hv
  have hx := B.exec
  have hb := B.bytes
  have hr := B.returns
  have hts := atoms_spec (ws := ws_ yX0_overlap cX0_overlap 4 (some .int)) B.pre
  have hts : ∀ w ∈ lw_all, w.before _ s = true := fun w h => hts w (List.mem_cons_of_mem _ h)
  have hown : s.vm.findClass RX0 = some m.cls := findClass_of_methodNamed B.named
  have hlocks := B.notSynchronized
  have S0 : CallFix p m c cX0_overlap 4 s _ lw_all RX0 := ⟨hx, hb, hml, hown, hts⟩
  subst hsz
  have hD := hD0.self (sz := s.heap.size)
  generalize hAe : va_A (XWc ad cI cB a0 a6 a7 a10 a11 a14 b1 b2 b3 b4 b5 b8 b9 b12 b13 b15 b16) s.heap.size = A at hD ⊢
  have hA : ∀ q : Nat, s.heap.size ≤ q → A q := fun q h => by rw [← hAe]; exact Or.inr h
  have hS : va_S A s.heap s.heap [] := va_S.rf
  have hl := lv_entry ([.ref (ad 0)]) (n := 4) (Nat.le_of_ble_eq_true rfl)
  rw [lg_entry_eq]
  generalize (lg_sl ([.ref (ad 0)]) ++ List.replicate (4 - (lg_sl ([.ref (ad 0)])).length) Slot.unset).toArray = ls at hl ⊢
  have hl : lv_has ls 4 [(0, .ref (ad 0))] := hl
  have hI0 := hI
  obtain ⟨wd, kk, cN, hT, hPI, hRI⟩ := hI
  have hT0 := hT
  have hcl := hT.c_le
  obtain ⟨t1, t2, t2b, t3, t4, t5, rfl, rfl, rfl, t9, t10, t11⟩ := hT
  have hPI0 := hPI
  obtain ⟨p1, p2, rfl, p4, p5⟩ := hPI
  have hstb : ∀ i, kx_st wd kk i ≤ T.length := fun i => by have h1 := kx_st_le wd kk i; rw [← t3] at h1; exact h1
  refine lv_aload_n hx hb dX0_overlap_0 rfl (lv_at hl 0 rfl) ?_
  refine x0_get (v := .int (nI w.length)) S0 hK hP rfl 11 (by decide) q43 rfl dX0_overlap_1 ?_
  refine kw_if0 (tgt := 14) S0 dX0_overlap_4 (by decide) (by omega) (fun k1 => ?_) (fun k1 => ?_)
  · refine lv_iconst (v := nI 0) hx hb dX0_overlap_14 rfl ?_
    exact W.iret (v := nI 0) hx hb hr (fun t ht hW => ⟨⟨nI 0, ((nI (4 + cN), nI T.length, nI cN, a10, nI w.length, a14), (b1, b2, b3, b4, b5, b8, b9, b12, b13, b15, b16)), rfl, ⟨by have h1 := kx_ov_le w T; rw [show kx_ov w T = 0 by omega], hI0⟩, by rw [ht]; exact hP, hD⟩, hS.F ht⟩) hS.2.2 dX0_overlap_15
  · refine lv_aload_n hx hb dX0_overlap_7 rfl (lv_at hl 0 rfl) ?_
    refine x0_get (v := .int (nI T.length)) S0 hK hP rfl 6 (by decide) q38 rfl dX0_overlap_8 ?_
    refine kw_ifn (tgt := 16) S0 dX0_overlap_11 (by decide) (by omega) (fun k2 => ?_) (fun k2 => ?_)
    · have hTlen := k2
      have hTn : T ≠ [] := fun z => by rw [z] at hTlen; exact absurd rfl hTlen
      obtain ⟨hkl, h10⟩ := hT0.some_kk hTn
      refine lv_aload_n hx hb dX0_overlap_16 rfl (lv_at hl 0 rfl) ?_
      refine kw_mv (n := 0) (wc := (XWc ad cI cB (nI (4 + cN)) (nI T.length) (nI cN) a10 (nI w.length) a14 b1 b2 b3 b4 b5 b8 b9 b12 b13 b15 b16)) (wr := []) (ci := 0) (As := []) (rest := []) S0 hl.1 hK hP hD hS hA [0, 1, 2, 3, 4, 5, 6, 7, 8, 9, 10, 11] [] rfl rfl (by decide) (by decide) (by decide) rfl rfl (fun sz => met_X0_prepare l D ad cI cB (nI (4 + cN)) (nI T.length) (nI cN) a10 (nI w.length) a14 b1 b2 b3 b4 b5 b8 b9 b12 b13 b15 b16 (4 + cN) wd (by omega) t9 w (by omega) hPI0 rfl hRI sz) (lw_V q144 q146 qs7 q14 q147) rfl rfl (by decide +kernel) ⟨Nat.le_of_ble_eq_true rfl, Nat.le_of_ble_eq_true rfl⟩ rfl rfl (Nat.le_of_ble_eq_true rfl) dX0_overlap_17 ⟨Nat.zero_le _, Nat.zero_le _⟩ (fun v H locs hv2 hP hD hS => ?_)
      obtain ⟨e14, e15, e16⟩ := v
      obtain ⟨hv3, hTab⟩ := hv2
      have hP : va_P D vwCl (XWc ad cI cB (nI (4 + cN)) (nI T.length) (nI cN) a10 (nI w.length) e14 b1 b2 b3 b4 b5 b8 b9 b12 b13 e15 e16) H := hP
      have hD : va_D A (XWc ad cI cB (nI (4 + cN)) (nI T.length) (nI cN) a10 (nI w.length) e14 b1 b2 b3 b4 b5 b8 b9 b12 b13 e15 e16) := hD
      have hIv : kx_Inv ((nI (4 + cN), nI T.length, nI cN, a10, nI w.length, e14), (b1, b2, b3, b4, b5, b8, b9, b12, b13, e15, e16)) T w := ⟨wd, kk, cN, hT0, hPI0, Or.inr ⟨hv3, hTab⟩⟩
      refine lv_iconst (v := nI 0) hx hb dX0_overlap_20 rfl ?_
      refine lv_istore_n (lv' := [(1, .int (nI 0)), (0, .ref (ad 0))]) hx hb dX0_overlap_21 rfl hl (by decide) rfl (fun ls hl => ?_)
      refine lv_iconst (v := nI 0) hx hb dX0_overlap_22 rfl ?_
      refine lv_istore_n (lv' := [(2, .int (nI 0)), (1, .int (nI 0)), (0, .ref (ad 0))]) hx hb dX0_overlap_23 rfl hl (by decide) rfl (fun ls hl => ?_)
      have loop : ∀ (z i : Nat), i ≤ cN + 1 → cN + 1 < i + z → ∀ (H : Heap) (locs : List Loc), va_P D vwCl (XWc ad cI cB (nI (4 + cN)) (nI T.length) (nI cN) a10 (nI w.length) e14 b1 b2 b3 b4 b5 b8 b9 b12 b13 e15 e16) H → va_D A (XWc ad cI cB (nI (4 + cN)) (nI T.length) (nI cN) a10 (nI w.length) e14 b1 b2 b3 b4 b5 b8 b9 b12 b13 e15 e16) → va_S A s.heap H locs → ∀ (ls : Array Slot), lv_has ls 4 [(2, .int (nI i)), (1, .int (nI (kx_run w 0 (T.take (kx_st wd kk i))))), (0, .ref (ad 0))] → W p l e (headSpec (ws_ yX0_overlap cX0_overlap 4 (some .int)) ({ frames := 2, cells := 0, slots := 0, locals := 50 })).room s m ([.ref (ad 0)] : List Value).toArray below meth c H locs 0 0 (MQ below (va_Qi (fun (r : Int32) (u : XS) => r = nI (kx_ov w T) ∧ kx_Inv u T w) (kx_B D (fun u : XS => XWs ad cI cB u) A) A) ([.ref (ad 0)] : List Value).toArray s 0 0 A) (F0 m 24 ls []) := by
        intro z
        induction z with
        | zero => intro i h1 h2; exact absurd h2 (by omega)
        | succ z ih =>
          intro i hi hiz H locs hP hD hS ls hl
          refine lv_iload_n hx hb dX0_overlap_24 rfl (lv_at hl 0 rfl) ?_
          refine lv_aload_n hx hb dX0_overlap_25 rfl (lv_at hl 2 rfl) ?_
          refine x0_get (v := .int (nI cN)) S0 hK hP rfl 7 (by decide) q39 rfl dX0_overlap_26 ?_
          refine kw_gt (tgt := 56) S0 dX0_overlap_29 (by decide) (by omega) (by omega) (fun k3 => ?_) (fun k3 => ?_)
          · refine lv_iload_n hx hb dX0_overlap_56 rfl (lv_at hl 1 rfl) ?_
            refine kw_top (y := nI (kx_ov w T)) (by rw [kx_T_all t3 (by omega), kx_run0]) ?_
            exact W.iret (v := nI (kx_ov w T)) hx hb hr (fun t ht hW => ⟨⟨nI (kx_ov w T), ((nI (4 + cN), nI T.length, nI cN, a10, nI w.length, e14), (b1, b2, b3, b4, b5, b8, b9, b12, b13, e15, e16)), rfl, ⟨rfl, hIv⟩, by rw [ht]; exact hP, hD⟩, hS.F ht⟩) hS.2.2 dX0_overlap_57
          · have hrun := kx_run_le w (T.take (kx_st wd kk i)) 0 (Nat.zero_le _)
            have hp := t4 i (by omega)
            refine lv_aload_n hx hb dX0_overlap_32 rfl (lv_at hl 2 rfl) ?_
            refine lv_iload_n hx hb dX0_overlap_33 rfl (lv_at hl 0 rfl) ?_
            refine kw_ro (n := 1) (wc := (XWc ad cI cB (nI (4 + cN)) (nI T.length) (nI cN) a10 (nI w.length) e14 b1 b2 b3 b4 b5 b8 b9 b12 b13 e15 e16)) (ci := 0) (As := [.int (nI i)]) (rest := []) S0 hl.1 hK hP [0, 1, 2, 3, 4, 5, 6, 7, 8, 9, 10, 11] rfl rfl rfl (met_X0_phraseAt l D ad cI cB (nI (4 + cN)) (nI T.length) (nI cN) a10 (nI w.length) e14 b1 b2 b3 b4 b5 b8 b9 b12 b13 e15 e16 kk cN rfl (by omega) t10 h10 i k3) (lw_V q102 q104 qs3 q14 q105) rfl rfl (by decide +kernel) ⟨Nat.le_of_ble_eq_true rfl, Nat.le_of_ble_eq_true rfl⟩ rfl rfl (Nat.le_of_ble_eq_true rfl) dX0_overlap_34 ⟨Nat.zero_le _, Nat.zero_le _⟩ (fun r2 hr2 => ?_)
            subst hr2
            refine lv_istore_n (lv' := [(3, .int (nI (kk.getD i 0))), (2, .int (nI i)), (1, .int (nI (kx_run w 0 (T.take (kx_st wd kk i))))), (0, .ref (ad 0))]) hx hb dX0_overlap_37 rfl hl (by decide) rfl (fun ls hl => ?_)
            refine lv_aload_n hx hb dX0_overlap_38 rfl (lv_at hl 3 rfl) ?_
            refine x0_get (v := .ref (ad 15)) S0 hK hP rfl 15 (by decide) q47 rfl dX0_overlap_39 ?_
            refine lv_iload_n hx hb dX0_overlap_42 rfl (lv_at hl 0 rfl) ?_
            refine lv_bipush (v := nI 11) hx hb dX0_overlap_43 rfl ?_
            refine kw_imul S0 dX0_overlap_45 ?_
            refine lv_iload_n hx hb dX0_overlap_46 rfl (lv_at hl 2 rfl) ?_
            refine kw_iadd S0 dX0_overlap_47 ?_
            refine kw_bald (y := nI (kx_run w (kx_run w 0 (T.take (kx_st wd kk i))) (wd (kk.getD i 0)))) S0 hK hP 10 1 rfl rfl (by omega) (by decide) ((hTab _ hp _ hrun).1) dX0_overlap_48 ?_
            refine kw_top (y := nI (kx_run w 0 (T.take (kx_st wd kk (i + 1))))) (by rw [kx_T_next t3 (by omega), kx_run_app]) ?_
            refine lv_istore_n (lv' := [(1, .int (nI (kx_run w 0 (T.take (kx_st wd kk (i + 1)))))), (3, .int (nI (kk.getD i 0))), (2, .int (nI i)), (0, .ref (ad 0))]) hx hb dX0_overlap_49 rfl hl (by decide) rfl (fun ls hl => ?_)
            refine lv_iinc (v := nI (i + 1)) (lv' := [(2, .int (nI (i + 1))), (1, .int (nI (kx_run w 0 (T.take (kx_st wd kk (i + 1)))))), (3, .int (nI (kk.getD i 0))), (0, .ref (ad 0))]) hx hb dX0_overlap_50 hl (k := 2) rfl (nI_1 i) (by decide) rfl (fun ls hl => ?_)
            refine lv_goto (tgt := 24) hx hb dX0_overlap_53 (by decide) ?_
            exact ih (i + 1) (by omega) (by omega) _ _ hP hD hS ls (lv_sub hl [0, 1, 3] rfl)
      exact loop (cN + 2) 0 (by omega) (by omega) _ _ hP hD hS ls (by rw [kx_st_0]; exact lv_sub hl [0, 1, 2] rfl)
    · refine lv_iconst (v := nI 0) hx hb dX0_overlap_14 rfl ?_
      exact W.iret (v := nI 0) hx hb hr (fun t ht hW => ⟨⟨nI 0, ((nI (4 + cN), nI T.length, nI cN, a10, nI w.length, a14), (b1, b2, b3, b4, b5, b8, b9, b12, b13, b15, b16)), rfl, ⟨by have h1 := kx_ov_len w T; rw [show kx_ov w T = 0 by omega], hI0⟩, by rw [ht]; exact hP, hD⟩, hS.F ht⟩) hS.2.2 dX0_overlap_15
set_option maxHeartbeats 4000000 in
set_option maxRecDepth 100000 in
/-- countWithin(x) -/
theorem met_X0_countWithin (l : Launch) (D : va_G) (ad : Nat → Nat) (cI cB : ClassId) (a0 a6 a7 a10 a11 a14 : Int32) (b1 b2 b3 b4 b5 b8 b9 b12 b13 b15 b16 : XA) (T w : List Nat) (hI : kx_Ic a0 a6 a7 a10 a11 a14 b1 b2 b3 b4 b5 b8 b9 b12 b13 b15 b16 T w) (x : Int32) (sz : Nat) : Met l yX0_countWithin (ws_ yX0_countWithin cX0_countWithin 7 (some .int)) ({ frames := 2, cells := 0, slots := 0, locals := 50 }) (kx_Pm D (tys_ cI cB) (XWc ad cI cB a0 a6 a7 a10 a11 a14 b1 b2 b3 b4 b5 b8 b9 b12 b13 b15 b16) sz [.ref (ad 0), .int x]) (va_Qi (fun (r : Int32) (u : XS) => r = nI (kx_cw T w x) ∧ kx_Inv u T w) (kx_B D (fun u : XS => XWs ad cI cB u) (va_A (XWc ad cI cB a0 a6 a7 a10 a11 a14 b1 b2 b3 b4 b5 b8 b9 b12 b13 b15 b16) sz)) (va_A (XWc ad cI cB a0 a6 a7 a10 a11 a14 b1 b2 b3 b4 b5 b8 b9 b12 b13 b15 b16) sz)) 0 0 (va_A (XWc ad cI cB a0 a6 a7 a10 a11 a14 b1 b2 b3 b4 b5 b8 b9 b12 b13 b15 b16) sz) := by
  refine Met.ofW (cc := cX0_countWithin) (maxL := 7) (ret := (some .int)) (by decide) rfl ?_
  intro p e s m args below meth c s₁ B hml hv
  obtain ⟨rfl, hsz, hP, hK, hD0⟩ := hv
  have hx := B.exec
  have hb := B.bytes
  have hr := B.returns
  have hts := atoms_spec (ws := ws_ yX0_countWithin cX0_countWithin 7 (some .int)) B.pre
  have hts : ∀ w ∈ lw_all, w.before _ s = true := fun w h => hts w (List.mem_cons_of_mem _ h)
  have hown : s.vm.findClass RX0 = some m.cls := findClass_of_methodNamed B.named
  have hlocks := B.notSynchronized
  have S0 : CallFix p m c cX0_countWithin 7 s _ lw_all RX0 := ⟨hx, hb, hml, hown, hts⟩
  subst hsz
  have hD := hD0.self (sz := s.heap.size)
  generalize hAe : va_A (XWc ad cI cB a0 a6 a7 a10 a11 a14 b1 b2 b3 b4 b5 b8 b9 b12 b13 b15 b16) s.heap.size = A at hD ⊢
  have hA : ∀ q : Nat, s.heap.size ≤ q → A q := fun q h => by rw [← hAe]; exact Or.inr h
  have hS : va_S A s.heap s.heap [] := va_S.rf
  have hl := lv_entry ([.ref (ad 0), .int x]) (n := 7) (Nat.le_of_ble_eq_true rfl)
  rw [lg_entry_eq]
  generalize (lg_sl ([.ref (ad 0), .int x]) ++ List.replicate (7 - (lg_sl ([.ref (ad 0), .int x])).length) Slot.unset).toArray = ls at hl ⊢
  have hl : lv_has ls 7 [(0, .ref (ad 0)), (1, .int x)] := hl
  have hI0 := hI
  obtain ⟨wd, kk, cN, hT, hPI, hRI⟩ := hI
  have hT0 := hT
  have hcl := hT.c_le
  obtain ⟨t1, t2, t2b, t3, t4, t5, rfl, rfl, rfl, t9, t10, t11⟩ := hT
  have hPI0 := hPI
  obtain ⟨p1, p2, rfl, p4, p5⟩ := hPI
  have hstb : ∀ i, kx_st wd kk i ≤ T.length := fun i => by have h1 := kx_st_le wd kk i; rw [← t3] at h1; exact h1
  obtain ⟨N, hN⟩ : ∃ N : Nat, N = min x.toNatClampNeg T.length := ⟨_, rfl⟩
  have hNT : N ≤ T.length := by omega
  refine lv_aload_n hx hb dX0_countWithin_0 rfl (lv_at hl 0 rfl) ?_
  refine lv_iload_n hx hb dX0_countWithin_1 rfl (lv_at hl 1 rfl) ?_
  refine kw_ro (n := 1) (wc := (XWc ad cI cB (nI (4 + cN)) (nI T.length) (nI cN) a10 (nI w.length) a14 b1 b2 b3 b4 b5 b8 b9 b12 b13 b15 b16)) (ci := 0) (As := [.int x]) (rest := []) S0 hl.1 hK hP [0, 1, 2, 3, 4, 5, 6, 7, 8, 9, 10, 11] rfl rfl rfl (met_X0_clampLength l D ad cI cB (nI (4 + cN)) (nI T.length) (nI cN) a10 (nI w.length) a14 b1 b2 b3 b4 b5 b8 b9 b12 b13 b15 b16 T.length rfl t1 x) (lw_V q140 q142 qs6 q14 q143) rfl rfl (by decide +kernel) ⟨Nat.le_of_ble_eq_true rfl, Nat.le_of_ble_eq_true rfl⟩ rfl rfl (Nat.le_of_ble_eq_true rfl) dX0_countWithin_2 ⟨Nat.zero_le _, Nat.zero_le _⟩ (fun r1 hr1 => ?_)
  refine kw_top (y := nI N) (by rw [hr1, hN]) ?_
  refine lv_istore_n (lv' := [(2, .int (nI N)), (0, .ref (ad 0)), (1, .int x)]) hx hb dX0_countWithin_5 rfl hl (by decide) rfl (fun ls hl => ?_)
  refine lv_aload_n hx hb dX0_countWithin_6 rfl (lv_at hl 1 rfl) ?_
  refine x0_get (v := .int (nI w.length)) S0 hK hP rfl 11 (by decide) q43 rfl dX0_countWithin_7 ?_
  refine kw_if0 (tgt := 17) S0 dX0_countWithin_10 (by decide) (by omega) (fun k1 => ?_) (fun k1 => ?_)
  · refine lv_iconst (v := nI 0) hx hb dX0_countWithin_17 rfl ?_
    exact W.iret (v := nI 0) hx hb hr (fun t ht hW => ⟨⟨nI 0, ((nI (4 + cN), nI T.length, nI cN, a10, nI w.length, a14), (b1, b2, b3, b4, b5, b8, b9, b12, b13, b15, b16)), rfl, ⟨by rw [kx_cw, if_pos k1], hI0⟩, by rw [ht]; exact hP, hD⟩, hS.F ht⟩) hS.2.2 dX0_countWithin_18
  · refine lv_iload_n hx hb dX0_countWithin_13 rfl (lv_at hl 0 rfl) ?_
    refine kw_ifn (tgt := 19) S0 dX0_countWithin_14 (by decide) (by omega) (fun k2 => ?_) (fun k2 => ?_)
    · have hTlen : T.length ≠ 0 := by omega
      have hTn : T ≠ [] := fun z => by rw [z] at hTlen; exact absurd rfl hTlen
      obtain ⟨hkl, h10⟩ := hT0.some_kk hTn
      refine lv_aload_n hx hb dX0_countWithin_19 rfl (lv_at hl 1 rfl) ?_
      refine kw_mv (n := 0) (wc := (XWc ad cI cB (nI (4 + cN)) (nI T.length) (nI cN) a10 (nI w.length) a14 b1 b2 b3 b4 b5 b8 b9 b12 b13 b15 b16)) (wr := []) (ci := 0) (As := []) (rest := []) S0 hl.1 hK hP hD hS hA [0, 1, 2, 3, 4, 5, 6, 7, 8, 9, 10, 11] [] rfl rfl (by decide) (by decide) (by decide) rfl rfl (fun sz => met_X0_prepare l D ad cI cB (nI (4 + cN)) (nI T.length) (nI cN) a10 (nI w.length) a14 b1 b2 b3 b4 b5 b8 b9 b12 b13 b15 b16 (4 + cN) wd (by omega) t9 w (by omega) hPI0 rfl hRI sz) (lw_V q144 q146 qs7 q14 q147) rfl rfl (by decide +kernel) ⟨Nat.le_of_ble_eq_true rfl, Nat.le_of_ble_eq_true rfl⟩ rfl rfl (Nat.le_of_ble_eq_true rfl) dX0_countWithin_20 ⟨Nat.zero_le _, Nat.zero_le _⟩ (fun v H locs hv2 hP hD hS => ?_)
      obtain ⟨e14, e15, e16⟩ := v
      obtain ⟨hv3, hTab⟩ := hv2
      have hP : va_P D vwCl (XWc ad cI cB (nI (4 + cN)) (nI T.length) (nI cN) a10 (nI w.length) e14 b1 b2 b3 b4 b5 b8 b9 b12 b13 e15 e16) H := hP
      have hD : va_D A (XWc ad cI cB (nI (4 + cN)) (nI T.length) (nI cN) a10 (nI w.length) e14 b1 b2 b3 b4 b5 b8 b9 b12 b13 e15 e16) := hD
      have hIv : kx_Inv ((nI (4 + cN), nI T.length, nI cN, a10, nI w.length, e14), (b1, b2, b3, b4, b5, b8, b9, b12, b13, e15, e16)) T w := ⟨wd, kk, cN, hT0, hPI0, Or.inr ⟨hv3, hTab⟩⟩
      refine lv_iconst (v := nI 0) hx hb dX0_countWithin_23 rfl ?_
      refine lv_istore_n (lv' := [(3, .int (nI 0)), (2, .int (nI N)), (0, .ref (ad 0)), (1, .int x)]) hx hb dX0_countWithin_24 rfl hl (by decide) rfl (fun ls hl => ?_)
      refine lv_iconst (v := nI 0) hx hb dX0_countWithin_25 rfl ?_
      refine lv_istore (lv' := [(4, .int (nI 0)), (3, .int (nI 0)), (2, .int (nI N)), (0, .ref (ad 0)), (1, .int x)]) hx hb dX0_countWithin_26 hl (by decide) rfl (fun ls hl => ?_)
      refine lv_iconst (v := nI 0) hx hb dX0_countWithin_28 rfl ?_
      refine lv_istore (lv' := [(5, .int (nI 0)), (4, .int (nI 0)), (3, .int (nI 0)), (2, .int (nI N)), (0, .ref (ad 0)), (1, .int x)]) hx hb dX0_countWithin_29 hl (by decide) rfl (fun ls hl => ?_)
      have loop : ∀ (z i : Nat), i ≤ cN + 1 → cN + 1 < i + z → ∀ (H : Heap) (locs : List Loc), va_P D vwCl (XWc ad cI cB (nI (4 + cN)) (nI T.length) (nI cN) a10 (nI w.length) e14 b1 b2 b3 b4 b5 b8 b9 b12 b13 e15 e16) H → va_D A (XWc ad cI cB (nI (4 + cN)) (nI T.length) (nI cN) a10 (nI w.length) e14 b1 b2 b3 b4 b5 b8 b9 b12 b13 e15 e16) → va_S A s.heap H locs → ∀ (ls : Array Slot), lv_has ls 7 [(5, .int (nI i)), (4, .int (nI (kx_hit w 0 (T.take (min N (kx_st wd kk i)))))), (3, .int (nI (kx_run w 0 (T.take (min N (kx_st wd kk i)))))), (2, .int (nI N)), (0, .ref (ad 0)), (1, .int x)] → W p l e (headSpec (ws_ yX0_countWithin cX0_countWithin 7 (some .int)) ({ frames := 2, cells := 0, slots := 0, locals := 50 })).room s m ([.ref (ad 0), .int x] : List Value).toArray below meth c H locs 0 0 (MQ below (va_Qi (fun (r : Int32) (u : XS) => r = nI (kx_cw T w x) ∧ kx_Inv u T w) (kx_B D (fun u : XS => XWs ad cI cB u) A) A) ([.ref (ad 0), .int x] : List Value).toArray s 0 0 A) (F0 m 31 ls []) := by
        intro z
        induction z with
        | zero => intro i h1 h2; exact absurd h2 (by omega)
        | succ z ih =>
          intro i hi hiz H locs hP hD hS ls hl
          refine lv_iload hx hb dX0_countWithin_31 (lv_at hl 0 rfl) ?_
          refine lv_aload_n hx hb dX0_countWithin_33 rfl (lv_at hl 4 rfl) ?_
          refine x0_get (v := .int (nI cN)) S0 hK hP rfl 7 (by decide) q39 rfl dX0_countWithin_34 ?_
          refine kw_gt (tgt := 112) S0 dX0_countWithin_37 (by decide) (by omega) (by omega) (fun k3 => ?_) (fun k3 => ?_)
          · have est : kx_st wd kk i = T.length := by rw [kx_st_n wd kk (by omega), ← t3]
            refine lv_iload hx hb dX0_countWithin_112 (lv_at hl 1 rfl) ?_
            refine kw_top (y := nI (kx_cw T w x)) (by rw [kx_cw, if_neg k1, est, Nat.min_eq_left hNT, ← hN]) ?_
            exact W.iret (v := nI (kx_cw T w x)) hx hb hr (fun t ht hW => ⟨⟨nI (kx_cw T w x), ((nI (4 + cN), nI T.length, nI cN, a10, nI w.length, e14), (b1, b2, b3, b4, b5, b8, b9, b12, b13, e15, e16)), rfl, ⟨rfl, hIv⟩, by rw [ht]; exact hP, hD⟩, hS.F ht⟩) hS.2.2 dX0_countWithin_114
          · refine lv_aload_n hx hb dX0_countWithin_40 rfl (lv_at hl 4 rfl) ?_
            refine x0_get (v := .ref (ad 9)) S0 hK hP rfl 9 (by decide) q41 rfl dX0_countWithin_41 ?_
            refine lv_iload hx hb dX0_countWithin_44 (lv_at hl 0 rfl) ?_
            refine kw_iald (y := nI (kx_st wd kk i)) S0 hK hP 7 0 rfl rfl (by omega) (by decide) (t11 i k3) dX0_countWithin_46 ?_
            refine lv_iload_n hx hb dX0_countWithin_47 rfl (lv_at hl 3 rfl) ?_
            refine kw_ge (tgt := 112) S0 dX0_countWithin_48 (by decide) (by have := hstb i; omega) (by omega) (fun k4 => ?_) (fun k4 => ?_)
            · refine lv_iload hx hb dX0_countWithin_112 (lv_at hl 1 rfl) ?_
              refine kw_top (y := nI (kx_cw T w x)) (by rw [kx_cw, if_neg k1, Nat.min_eq_left k4, ← hN]) ?_
              exact W.iret (v := nI (kx_cw T w x)) hx hb hr (fun t ht hW => ⟨⟨nI (kx_cw T w x), ((nI (4 + cN), nI T.length, nI cN, a10, nI w.length, e14), (b1, b2, b3, b4, b5, b8, b9, b12, b13, e15, e16)), rfl, ⟨rfl, hIv⟩, by rw [ht]; exact hP, hD⟩, hS.F ht⟩) hS.2.2 dX0_countWithin_114
            · have hrun := kx_run_le w (T.take (min N (kx_st wd kk i))) 0 (Nat.zero_le _)
              refine lv_aload_n hx hb dX0_countWithin_51 rfl (lv_at hl 4 rfl) ?_
              refine lv_iload hx hb dX0_countWithin_52 (lv_at hl 0 rfl) ?_
              refine kw_ro (n := 1) (wc := (XWc ad cI cB (nI (4 + cN)) (nI T.length) (nI cN) a10 (nI w.length) e14 b1 b2 b3 b4 b5 b8 b9 b12 b13 e15 e16)) (ci := 0) (As := [.int (nI i)]) (rest := []) S0 hl.1 hK hP [0, 1, 2, 3, 4, 5, 6, 7, 8, 9, 10, 11] rfl rfl rfl (met_X0_phraseAt l D ad cI cB (nI (4 + cN)) (nI T.length) (nI cN) a10 (nI w.length) e14 b1 b2 b3 b4 b5 b8 b9 b12 b13 e15 e16 kk cN rfl (by omega) t10 h10 i k3) (lw_V q102 q104 qs3 q14 q105) rfl rfl (by decide +kernel) ⟨Nat.le_of_ble_eq_true rfl, Nat.le_of_ble_eq_true rfl⟩ rfl rfl (Nat.le_of_ble_eq_true rfl) dX0_countWithin_54 ⟨Nat.zero_le _, Nat.zero_le _⟩ (fun r2 hr2 => ?_)
              subst hr2
              refine lv_istore (lv' := [(6, .int (nI (kk.getD i 0))), (5, .int (nI i)), (4, .int (nI (kx_hit w 0 (T.take (min N (kx_st wd kk i)))))), (3, .int (nI (kx_run w 0 (T.take (min N (kx_st wd kk i)))))), (2, .int (nI N)), (0, .ref (ad 0)), (1, .int x)]) hx hb dX0_countWithin_57 hl (by decide) rfl (fun ls hl => ?_)
              refine lv_aload_n hx hb dX0_countWithin_59 rfl (lv_at hl 5 rfl) ?_
              refine lv_iload hx hb dX0_countWithin_60 (lv_at hl 0 rfl) ?_
              refine lv_iload_n hx hb dX0_countWithin_62 rfl (lv_at hl 4 rfl) ?_
              refine lv_aload_n hx hb dX0_countWithin_63 rfl (lv_at hl 5 rfl) ?_
              refine x0_get (v := .ref (ad 9)) S0 hK hP rfl 9 (by decide) q41 rfl dX0_countWithin_64 ?_
              refine lv_iload hx hb dX0_countWithin_67 (lv_at hl 1 rfl) ?_
              refine kw_iald (y := nI (kx_st wd kk i)) S0 hK hP 7 0 rfl rfl (by omega) (by decide) (t11 i k3) dX0_countWithin_69 ?_
              refine kw_isub S0 dX0_countWithin_70 (by omega) ?_
              refine kw_ro (n := 2) (wc := (XWc ad cI cB (nI (4 + cN)) (nI T.length) (nI cN) a10 (nI w.length) e14 b1 b2 b3 b4 b5 b8 b9 b12 b13 e15 e16)) (ci := 0) (As := [.int (nI (kk.getD i 0)), .int (nI (N - (kx_st wd kk i)))]) (rest := []) S0 hl.1 hK hP [0, 1, 2, 3, 4, 5, 6, 7, 8, 9, 10, 11] rfl rfl rfl (met_X0_beginning l D ad cI cB (nI (4 + cN)) (nI T.length) (nI cN) a10 (nI w.length) e14 b1 b2 b3 b4 b5 b8 b9 b12 b13 e15 e16 (4 + cN) wd (by omega) t9 (kk.getD i 0) (N - kx_st wd kk i) (t4 i (by omega)) (by omega) (by omega)) (lw_V q106 q108 qs4 q14 q109) rfl rfl (by decide +kernel) ⟨Nat.le_of_ble_eq_true rfl, Nat.le_of_ble_eq_true rfl⟩ rfl rfl (Nat.le_of_ble_eq_true rfl) dX0_countWithin_71 ⟨Nat.zero_le _, Nat.zero_le _⟩ (fun r3 hr3 => ?_)
              obtain ⟨q, rfl, hq, hwq⟩ := hr3
              refine lv_istore (lv' := [(6, .int (nI q)), (5, .int (nI i)), (4, .int (nI (kx_hit w 0 (T.take (min N (kx_st wd kk i)))))), (3, .int (nI (kx_run w 0 (T.take (min N (kx_st wd kk i)))))), (2, .int (nI N)), (0, .ref (ad 0)), (1, .int x)]) hx hb dX0_countWithin_74 hl (by decide) rfl (fun ls hl => ?_)
              refine lv_iload hx hb dX0_countWithin_76 (lv_at hl 2 rfl) ?_
              refine lv_aload_n hx hb dX0_countWithin_78 rfl (lv_at hl 5 rfl) ?_
              refine x0_get (v := .ref (ad 16)) S0 hK hP rfl 16 (by decide) q48 rfl dX0_countWithin_79 ?_
              refine lv_iload hx hb dX0_countWithin_82 (lv_at hl 0 rfl) ?_
              refine lv_bipush (v := nI 11) hx hb dX0_countWithin_84 rfl ?_
              refine kw_imul S0 dX0_countWithin_86 ?_
              refine lv_iload_n hx hb dX0_countWithin_87 rfl (lv_at hl 3 rfl) ?_
              refine kw_iadd S0 dX0_countWithin_88 ?_
              refine kw_bald (y := nI (kx_hit w (kx_run w 0 (T.take (min N (kx_st wd kk i)))) (wd q))) S0 hK hP 11 1 rfl rfl (by omega) (by decide) ((hTab q hq _ hrun).2) dX0_countWithin_89 ?_
              refine kw_iadd S0 dX0_countWithin_90 ?_
              refine kw_top (y := nI (kx_hit w 0 (T.take (min N (kx_st wd kk (i + 1)))))) (by rw [hwq, t3, kx_seg (by omega) (Nat.le_of_lt k4), kx_hit_app, Nat.min_eq_right (Nat.le_of_lt k4)]) ?_
              refine lv_istore (lv' := [(4, .int (nI (kx_hit w 0 (T.take (min N (kx_st wd kk (i + 1))))))), (6, .int (nI q)), (5, .int (nI i)), (3, .int (nI (kx_run w 0 (T.take (min N (kx_st wd kk i)))))), (2, .int (nI N)), (0, .ref (ad 0)), (1, .int x)]) hx hb dX0_countWithin_91 hl (by decide) rfl (fun ls hl => ?_)
              refine lv_aload_n hx hb dX0_countWithin_93 rfl (lv_at hl 5 rfl) ?_
              refine x0_get (v := .ref (ad 15)) S0 hK hP rfl 15 (by decide) q47 rfl dX0_countWithin_94 ?_
              refine lv_iload hx hb dX0_countWithin_97 (lv_at hl 1 rfl) ?_
              refine lv_bipush (v := nI 11) hx hb dX0_countWithin_99 rfl ?_
              refine kw_imul S0 dX0_countWithin_101 ?_
              refine lv_iload_n hx hb dX0_countWithin_102 rfl (lv_at hl 3 rfl) ?_
              refine kw_iadd S0 dX0_countWithin_103 ?_
              refine kw_bald (y := nI (kx_run w (kx_run w 0 (T.take (min N (kx_st wd kk i)))) (wd q))) S0 hK hP 10 1 rfl rfl (by omega) (by decide) ((hTab q hq _ hrun).1) dX0_countWithin_104 ?_
              refine kw_top (y := nI (kx_run w 0 (T.take (min N (kx_st wd kk (i + 1)))))) (by rw [hwq, t3, kx_seg (by omega) (Nat.le_of_lt k4), kx_run_app, Nat.min_eq_right (Nat.le_of_lt k4)]) ?_
              refine lv_istore_n (lv' := [(3, .int (nI (kx_run w 0 (T.take (min N (kx_st wd kk (i + 1))))))), (4, .int (nI (kx_hit w 0 (T.take (min N (kx_st wd kk (i + 1))))))), (6, .int (nI q)), (5, .int (nI i)), (2, .int (nI N)), (0, .ref (ad 0)), (1, .int x)]) hx hb dX0_countWithin_105 rfl hl (by decide) rfl (fun ls hl => ?_)
              refine lv_iinc (v := nI (i + 1)) (lv' := [(5, .int (nI (i + 1))), (3, .int (nI (kx_run w 0 (T.take (min N (kx_st wd kk (i + 1))))))), (4, .int (nI (kx_hit w 0 (T.take (min N (kx_st wd kk (i + 1))))))), (6, .int (nI q)), (2, .int (nI N)), (0, .ref (ad 0)), (1, .int x)]) hx hb dX0_countWithin_106 hl (k := 3) rfl (nI_1 i) (by decide) rfl (fun ls hl => ?_)
              refine lv_goto (tgt := 31) hx hb dX0_countWithin_109 (by decide) ?_
              exact ih (i + 1) (by omega) (by omega) _ _ hP hD hS ls (lv_sub hl [0, 2, 1, 4, 5, 6] rfl)
      exact loop (cN + 2) 0 (by omega) (by omega) _ _ hP hD hS ls (by rw [kx_st_0, Nat.min_zero]; exact lv_sub hl [0, 1, 2, 3, 4, 5] rfl)
    · refine lv_iconst (v := nI 0) hx hb dX0_countWithin_17 rfl ?_
      exact W.iret (v := nI 0) hx hb hr (fun t ht hW => ⟨⟨nI 0, ((nI (4 + cN), nI T.length, nI cN, a10, nI w.length, a14), (b1, b2, b3, b4, b5, b8, b9, b12, b13, b15, b16)), rfl, ⟨by rw [kx_cw, if_neg k1, ← hN, k2, List.take_zero]; rfl, hI0⟩, by rw [ht]; exact hP, hD⟩, hS.F ht⟩) hS.2.2 dX0_countWithin_18
set_option maxHeartbeats 4000000 in
set_option maxRecDepth 100000 in
/-- count() -/
theorem met_X0_count (l : Launch) (D : va_G) (ad : Nat → Nat) (cI cB : ClassId) (a0 a6 a7 a10 a11 a14 : Int32) (b1 b2 b3 b4 b5 b8 b9 b12 b13 b15 b16 : XA) (T w : List Nat) (hI : kx_Ic a0 a6 a7 a10 a11 a14 b1 b2 b3 b4 b5 b8 b9 b12 b13 b15 b16 T w) (sz : Nat) : Met l yX0_count (ws_ yX0_count cX0_count 1 (some .int)) ({ frames := 3, cells := 0, slots := 0, locals := 80 }) (kx_Pm D (tys_ cI cB) (XWc ad cI cB a0 a6 a7 a10 a11 a14 b1 b2 b3 b4 b5 b8 b9 b12 b13 b15 b16) sz [.ref (ad 0)]) (va_Qi (fun (r : Int32) (u : XS) => r = nI (kx_cw T w (nI T.length)) ∧ kx_Inv u T w) (kx_B D (fun u : XS => XWs ad cI cB u) (va_A (XWc ad cI cB a0 a6 a7 a10 a11 a14 b1 b2 b3 b4 b5 b8 b9 b12 b13 b15 b16) sz)) (va_A (XWc ad cI cB a0 a6 a7 a10 a11 a14 b1 b2 b3 b4 b5 b8 b9 b12 b13 b15 b16) sz)) 0 0 (va_A (XWc ad cI cB a0 a6 a7 a10 a11 a14 b1 b2 b3 b4 b5 b8 b9 b12 b13 b15 b16) sz) := by
  refine Met.ofW (cc := cX0_count) (maxL := 1) (ret := (some .int)) (by decide) rfl ?_
  intro p e s m args below meth c s₁ B hml hv
  obtain ⟨rfl, hsz, hP, hK, hD0⟩ := hv
  have hx := B.exec
  have hb := B.bytes
  have hr := B.returns
  have hts := atoms_spec (ws := ws_ yX0_count cX0_count 1 (some .int)) B.pre
  have hts : ∀ w ∈ lw_all, w.before _ s = true := fun w h => hts w (List.mem_cons_of_mem _ h)
  have hown : s.vm.findClass RX0 = some m.cls := findClass_of_methodNamed B.named
  have hlocks := B.notSynchronized
  have S0 : CallFix p m c cX0_count 1 s _ lw_all RX0 := ⟨hx, hb, hml, hown, hts⟩
  subst hsz
  have hD := hD0.self (sz := s.heap.size)
  generalize hAe : va_A (XWc ad cI cB a0 a6 a7 a10 a11 a14 b1 b2 b3 b4 b5 b8 b9 b12 b13 b15 b16) s.heap.size = A at hD ⊢
  have hA : ∀ q : Nat, s.heap.size ≤ q → A q := fun q h => by rw [← hAe]; exact Or.inr h
  have hS : va_S A s.heap s.heap [] := va_S.rf
  have hl := lv_entry ([.ref (ad 0)]) (n := 1) (Nat.le_of_ble_eq_true rfl)
  rw [lg_entry_eq]
  generalize (lg_sl ([.ref (ad 0)]) ++ List.replicate (1 - (lg_sl ([.ref (ad 0)])).length) Slot.unset).toArray = ls at hl ⊢
  have hl : lv_has ls 1 [(0, .ref (ad 0))] := hl
  have hI0 := hI
  have h6 : a6 = nI T.length := by
    obtain ⟨_, _, _, hT, -, -⟩ := hI
    obtain ⟨-, -, -, -, -, -, -, e6, -, -, -, -⟩ := hT
    exact e6
  subst h6
  refine lv_aload_n hx hb dX0_count_0 rfl (lv_at hl 0 rfl) ?_
  refine lv_aload_n hx hb dX0_count_1 rfl (lv_at hl 0 rfl) ?_
  refine x0_get (v := .int (nI T.length)) S0 hK hP rfl 6 (by decide) q38 rfl dX0_count_2 ?_
  refine kw_mi (n := 1) (wc := (XWc ad cI cB a0 (nI T.length) a7 a10 a11 a14 b1 b2 b3 b4 b5 b8 b9 b12 b13 b15 b16)) (wr := []) (ci := 0) (As := [.int (nI T.length)]) (rest := []) S0 hl.1 hK hP hD hS hA [0, 1, 2, 3, 4, 5, 6, 7, 8, 9, 10, 11] [] rfl rfl (by decide) (by decide) (by decide) rfl rfl (fun sz => met_X0_countWithin l D ad cI cB a0 (nI T.length) a7 a10 a11 a14 b1 b2 b3 b4 b5 b8 b9 b12 b13 b15 b16 T w hI0 (nI T.length) sz) (lw_V q136 q137 q138 q14 q139) rfl rfl (by decide +kernel) ⟨Nat.le_of_ble_eq_true rfl, Nat.le_of_ble_eq_true rfl⟩ rfl rfl (Nat.le_of_ble_eq_true rfl) dX0_count_5 ⟨Nat.zero_le _, Nat.zero_le _⟩ (fun r1 v H locs hv2 hP hD hS => ?_)
  exact W.iret (v := r1) hx hb hr (fun t ht hW => ⟨⟨r1, v, rfl, hv2, by rw [ht]; exact hP, hD⟩, hS.F ht⟩) hS.2.2 dX0_count_8
set_option maxHeartbeats 4000000 in
set_option maxRecDepth 100000 in
/-- position(x) -/
theorem met_X0_position (l : Launch) (D : va_G) (ad : Nat → Nat) (cI cB : ClassId) (a0 a6 a7 a10 a11 a14 : Int32) (b1 b2 b3 b4 b5 b8 b9 b12 b13 b15 b16 : XA) (T w : List Nat) (hI : kx_Ic a0 a6 a7 a10 a11 a14 b1 b2 b3 b4 b5 b8 b9 b12 b13 b15 b16 T w) (x : Int32) (sz : Nat) : Met l yX0_position (ws_ yX0_position cX0_position 7 (some .int)) ({ frames := 2, cells := 0, slots := 0, locals := 50 }) (kx_Pm D (tys_ cI cB) (XWc ad cI cB a0 a6 a7 a10 a11 a14 b1 b2 b3 b4 b5 b8 b9 b12 b13 b15 b16) sz [.ref (ad 0), .int x]) (va_Qi (fun (r : Int32) (u : XS) => kx_PosR (kx_oc T w) T.length x r ∧ kx_Inv u T w) (kx_B D (fun u : XS => XWs ad cI cB u) (va_A (XWc ad cI cB a0 a6 a7 a10 a11 a14 b1 b2 b3 b4 b5 b8 b9 b12 b13 b15 b16) sz)) (va_A (XWc ad cI cB a0 a6 a7 a10 a11 a14 b1 b2 b3 b4 b5 b8 b9 b12 b13 b15 b16) sz)) 0 0 (va_A (XWc ad cI cB a0 a6 a7 a10 a11 a14 b1 b2 b3 b4 b5 b8 b9 b12 b13 b15 b16) sz) := by
  refine Met.ofW (cc := cX0_position) (maxL := 7) (ret := (some .int)) (by decide) rfl ?_
  intro p e s m args below meth c s₁ B hml hv
  obtain ⟨rfl, hsz, hP, hK, hD0⟩ := hv
  have hx := B.exec
  have hb := B.bytes
  have hr := B.returns
  have hts := atoms_spec (ws := ws_ yX0_position cX0_position 7 (some .int)) B.pre
  have hts : ∀ w ∈ lw_all, w.before _ s = true := fun w h => hts w (List.mem_cons_of_mem _ h)
  have hown : s.vm.findClass RX0 = some m.cls := findClass_of_methodNamed B.named
  have hlocks := B.notSynchronized
  have S0 : CallFix p m c cX0_position 7 s _ lw_all RX0 := ⟨hx, hb, hml, hown, hts⟩
  subst hsz
  have hD := hD0.self (sz := s.heap.size)
  generalize hAe : va_A (XWc ad cI cB a0 a6 a7 a10 a11 a14 b1 b2 b3 b4 b5 b8 b9 b12 b13 b15 b16) s.heap.size = A at hD ⊢
  have hA : ∀ q : Nat, s.heap.size ≤ q → A q := fun q h => by rw [← hAe]; exact Or.inr h
  have hS : va_S A s.heap s.heap [] := va_S.rf
  have hl := lv_entry ([.ref (ad 0), .int x]) (n := 7) (Nat.le_of_ble_eq_true rfl)
  rw [lg_entry_eq]
  generalize (lg_sl ([.ref (ad 0), .int x]) ++ List.replicate (7 - (lg_sl ([.ref (ad 0), .int x])).length) Slot.unset).toArray = ls at hl ⊢
  have hl : lv_has ls 7 [(0, .ref (ad 0)), (1, .int x)] := hl
  have hI0 := hI
  obtain ⟨wd, kk, cN, hT, hPI, hRI⟩ := hI
  have hT0 := hT
  have hcl := hT.c_le
  obtain ⟨t1, t2, t2b, t3, t4, t5, rfl, rfl, rfl, t9, t10, t11⟩ := hT
  have hPI0 := hPI
  obtain ⟨p1, p2, rfl, p4, p5⟩ := hPI
  have hstb : ∀ i, kx_st wd kk i ≤ T.length := fun i => by have h1 := kx_st_le wd kk i; rw [← t3] at h1; exact h1
  refine lv_iload_n hx hb dX0_position_0 rfl (lv_at hl 1 rfl) ?_
  refine lv_if_lt (tgt := 18) hx hb dX0_position_1 (by decide) (fun k1 => ?_) (fun k1 => ?_)
  · refine lv_bipush (v := (-4)) hx hb dX0_position_18 rfl ?_
    exact W.iret (v := (-4)) hx hb hr (fun t ht hW => ⟨⟨(-4), ((nI (4 + cN), nI T.length, nI cN, a10, nI w.length, a14), (b1, b2, b3, b4, b5, b8, b9, b12, b13, b15, b16)), rfl, ⟨kx_pos_neg k1 (by omega), hI0⟩, by rw [ht]; exact hP, hD⟩, hS.F ht⟩) hS.2.2 dX0_position_20
  · refine lv_aload_n hx hb dX0_position_4 rfl (lv_at hl 0 rfl) ?_
    refine x0_get (v := .int (nI w.length)) S0 hK hP rfl 11 (by decide) q43 rfl dX0_position_5 ?_
    refine kw_if0 (tgt := 18) S0 dX0_position_8 (by decide) (by omega) (fun k2 => ?_) (fun k2 => ?_)
    · refine lv_bipush (v := (-4)) hx hb dX0_position_18 rfl ?_
      exact W.iret (v := (-4)) hx hb hr (fun t ht hW => ⟨⟨(-4), ((nI (4 + cN), nI T.length, nI cN, a10, nI w.length, a14), (b1, b2, b3, b4, b5, b8, b9, b12, b13, b15, b16)), rfl, ⟨kx_pos_w0 k2, hI0⟩, by rw [ht]; exact hP, hD⟩, hS.F ht⟩) hS.2.2 dX0_position_20
    · refine lv_aload_n hx hb dX0_position_11 rfl (lv_at hl 0 rfl) ?_
      refine x0_get (v := .int (nI T.length)) S0 hK hP rfl 6 (by decide) q38 rfl dX0_position_12 ?_
      refine kw_ifn (tgt := 21) S0 dX0_position_15 (by decide) (by omega) (fun k3 => ?_) (fun k3 => ?_)
      · have hTlen := k3
        obtain ⟨N, hN, ex⟩ := nI_of k1
        have hTn : T ≠ [] := fun z => by rw [z] at hTlen; exact absurd rfl hTlen
        obtain ⟨hkl, h10⟩ := hT0.some_kk hTn
        refine lv_aload_n hx hb dX0_position_21 rfl (lv_at hl 0 rfl) ?_
        refine kw_mv (n := 0) (wc := (XWc ad cI cB (nI (4 + cN)) (nI T.length) (nI cN) a10 (nI w.length) a14 b1 b2 b3 b4 b5 b8 b9 b12 b13 b15 b16)) (wr := []) (ci := 0) (As := []) (rest := []) S0 hl.1 hK hP hD hS hA [0, 1, 2, 3, 4, 5, 6, 7, 8, 9, 10, 11] [] rfl rfl (by decide) (by decide) (by decide) rfl rfl (fun sz => met_X0_prepare l D ad cI cB (nI (4 + cN)) (nI T.length) (nI cN) a10 (nI w.length) a14 b1 b2 b3 b4 b5 b8 b9 b12 b13 b15 b16 (4 + cN) wd (by omega) t9 w (by omega) hPI0 rfl hRI sz) (lw_V q144 q146 qs7 q14 q147) rfl rfl (by decide +kernel) ⟨Nat.le_of_ble_eq_true rfl, Nat.le_of_ble_eq_true rfl⟩ rfl rfl (Nat.le_of_ble_eq_true rfl) dX0_position_22 ⟨Nat.zero_le _, Nat.zero_le _⟩ (fun v H locs hv2 hP hD hS => ?_)
        obtain ⟨e14, e15, e16⟩ := v
        obtain ⟨hv3, hTab⟩ := hv2
        have hP : va_P D vwCl (XWc ad cI cB (nI (4 + cN)) (nI T.length) (nI cN) a10 (nI w.length) e14 b1 b2 b3 b4 b5 b8 b9 b12 b13 e15 e16) H := hP
        have hD : va_D A (XWc ad cI cB (nI (4 + cN)) (nI T.length) (nI cN) a10 (nI w.length) e14 b1 b2 b3 b4 b5 b8 b9 b12 b13 e15 e16) := hD
        have hIv : kx_Inv ((nI (4 + cN), nI T.length, nI cN, a10, nI w.length, e14), (b1, b2, b3, b4, b5, b8, b9, b12, b13, e15, e16)) T w := ⟨wd, kk, cN, hT0, hPI0, Or.inr ⟨hv3, hTab⟩⟩
        refine lv_iconst (v := nI 0) hx hb dX0_position_25 rfl ?_
        refine lv_istore_n (lv' := [(2, .int (nI 0)), (0, .ref (ad 0)), (1, .int x)]) hx hb dX0_position_26 rfl hl (by decide) rfl (fun ls hl => ?_)
        refine lv_iload_n hx hb dX0_position_27 rfl (lv_at hl 2 rfl) ?_
        refine kw_top (y := nI N) ex ?_
        refine lv_istore_n (lv' := [(3, .int (nI N)), (2, .int (nI 0)), (0, .ref (ad 0)), (1, .int x)]) hx hb dX0_position_28 rfl hl (by decide) rfl (fun ls hl => ?_)
        refine lv_iconst (v := nI 0) hx hb dX0_position_29 rfl ?_
        refine lv_istore (lv' := [(4, .int (nI 0)), (3, .int (nI N)), (2, .int (nI 0)), (0, .ref (ad 0)), (1, .int x)]) hx hb dX0_position_30 hl (by decide) rfl (fun ls hl => ?_)
        have loop : ∀ (z i lf : Nat), i ≤ cN + 1 → cN + 1 < i + z → kx_hit w 0 (T.take (kx_st wd kk i)) + lf = N → ∀ (H : Heap) (locs : List Loc), va_P D vwCl (XWc ad cI cB (nI (4 + cN)) (nI T.length) (nI cN) a10 (nI w.length) e14 b1 b2 b3 b4 b5 b8 b9 b12 b13 e15 e16) H → va_D A (XWc ad cI cB (nI (4 + cN)) (nI T.length) (nI cN) a10 (nI w.length) e14 b1 b2 b3 b4 b5 b8 b9 b12 b13 e15 e16) → va_S A s.heap H locs → ∀ (ls : Array Slot), lv_has ls 7 [(4, .int (nI i)), (3, .int (nI lf)), (2, .int (nI (kx_run w 0 (T.take (kx_st wd kk i))))), (0, .ref (ad 0)), (1, .int x)] → W p l e (headSpec (ws_ yX0_position cX0_position 7 (some .int)) ({ frames := 2, cells := 0, slots := 0, locals := 50 })).room s m ([.ref (ad 0), .int x] : List Value).toArray below meth c H locs 0 0 (MQ below (va_Qi (fun (r : Int32) (u : XS) => kx_PosR (kx_oc T w) T.length x r ∧ kx_Inv u T w) (kx_B D (fun u : XS => XWs ad cI cB u) A) A) ([.ref (ad 0), .int x] : List Value).toArray s 0 0 A) (F0 m 32 ls []) := by
          intro z
          induction z with
          | zero => intro i lf h1 h2; exact absurd h2 (by omega)
          | succ z ih =>
            intro i lf hi hiz hlf H locs hP hD hS ls hl
            refine lv_iload hx hb dX0_position_32 (lv_at hl 0 rfl) ?_
            refine lv_aload_n hx hb dX0_position_34 rfl (lv_at hl 3 rfl) ?_
            refine x0_get (v := .int (nI cN)) S0 hK hP rfl 7 (by decide) q39 rfl dX0_position_35 ?_
            refine kw_gt (tgt := 115) S0 dX0_position_38 (by decide) (by omega) (by omega) (fun k4 => ?_) (fun k4 => ?_)
            · refine lv_bipush (v := (-4)) hx hb dX0_position_115 rfl ?_
              exact W.iret (v := (-4)) hx hb hr (fun t ht hW => ⟨⟨(-4), ((nI (4 + cN), nI T.length, nI cN, a10, nI w.length, e14), (b1, b2, b3, b4, b5, b8, b9, b12, b13, e15, e16)), rfl, ⟨by rw [kx_T_all t3 (by omega)] at hlf; rw [ex]; exact kx_pos_none (by omega) (by omega) hN (by omega), hIv⟩, by rw [ht]; exact hP, hD⟩, hS.F ht⟩) hS.2.2 dX0_position_117
            · have hrun := kx_run_le w (T.take (kx_st wd kk i)) 0 (Nat.zero_le _)
              have hp := t4 i (by omega)
              have hh1 := kx_hit_le w (wd (kk.getD i 0)) (kx_run w 0 (T.take (kx_st wd kk i)))
              have hh2 := (kx_dict_len t9 (kk.getD i 0) hp).2
              refine lv_aload_n hx hb dX0_position_41 rfl (lv_at hl 3 rfl) ?_
              refine lv_iload hx hb dX0_position_42 (lv_at hl 0 rfl) ?_
              refine kw_ro (n := 1) (wc := (XWc ad cI cB (nI (4 + cN)) (nI T.length) (nI cN) a10 (nI w.length) e14 b1 b2 b3 b4 b5 b8 b9 b12 b13 e15 e16)) (ci := 0) (As := [.int (nI i)]) (rest := []) S0 hl.1 hK hP [0, 1, 2, 3, 4, 5, 6, 7, 8, 9, 10, 11] rfl rfl rfl (met_X0_phraseAt l D ad cI cB (nI (4 + cN)) (nI T.length) (nI cN) a10 (nI w.length) e14 b1 b2 b3 b4 b5 b8 b9 b12 b13 e15 e16 kk cN rfl (by omega) t10 h10 i k4) (lw_V q102 q104 qs3 q14 q105) rfl rfl (by decide +kernel) ⟨Nat.le_of_ble_eq_true rfl, Nat.le_of_ble_eq_true rfl⟩ rfl rfl (Nat.le_of_ble_eq_true rfl) dX0_position_44 ⟨Nat.zero_le _, Nat.zero_le _⟩ (fun r2 hr2 => ?_)
              subst hr2
              refine lv_istore (lv' := [(5, .int (nI (kk.getD i 0))), (4, .int (nI i)), (3, .int (nI lf)), (2, .int (nI (kx_run w 0 (T.take (kx_st wd kk i))))), (0, .ref (ad 0)), (1, .int x)]) hx hb dX0_position_47 hl (by decide) rfl (fun ls hl => ?_)
              refine lv_aload_n hx hb dX0_position_49 rfl (lv_at hl 4 rfl) ?_
              refine x0_get (v := .ref (ad 16)) S0 hK hP rfl 16 (by decide) q48 rfl dX0_position_50 ?_
              refine lv_iload hx hb dX0_position_53 (lv_at hl 0 rfl) ?_
              refine lv_bipush (v := nI 11) hx hb dX0_position_55 rfl ?_
              refine kw_imul S0 dX0_position_57 ?_
              refine lv_iload_n hx hb dX0_position_58 rfl (lv_at hl 3 rfl) ?_
              refine kw_iadd S0 dX0_position_59 ?_
              refine kw_bald (y := nI (kx_hit w (kx_run w 0 (T.take (kx_st wd kk i))) (wd (kk.getD i 0)))) S0 hK hP 11 1 rfl rfl (by omega) (by decide) ((hTab _ hp _ hrun).2) dX0_position_60 ?_
              refine lv_istore (lv' := [(6, .int (nI (kx_hit w (kx_run w 0 (T.take (kx_st wd kk i))) (wd (kk.getD i 0))))), (5, .int (nI (kk.getD i 0))), (4, .int (nI i)), (3, .int (nI lf)), (2, .int (nI (kx_run w 0 (T.take (kx_st wd kk i))))), (0, .ref (ad 0)), (1, .int x)]) hx hb dX0_position_61 hl (by decide) rfl (fun ls hl => ?_)
              refine lv_iload_n hx hb dX0_position_63 rfl (lv_at hl 3 rfl) ?_
              refine lv_iload hx hb dX0_position_64 (lv_at hl 0 rfl) ?_
              refine kw_ge (tgt := 91) S0 dX0_position_66 (by decide) (by omega) (by omega) (fun k5 => ?_) (fun k5 => ?_)
              · refine lv_iload_n hx hb dX0_position_91 rfl (lv_at hl 3 rfl) ?_
                refine lv_iload hx hb dX0_position_92 (lv_at hl 0 rfl) ?_
                refine kw_isub S0 dX0_position_94 (k5) ?_
                refine lv_istore_n (lv' := [(3, .int (nI (lf - (kx_hit w (kx_run w 0 (T.take (kx_st wd kk i))) (wd (kk.getD i 0)))))), (6, .int (nI (kx_hit w (kx_run w 0 (T.take (kx_st wd kk i))) (wd (kk.getD i 0))))), (5, .int (nI (kk.getD i 0))), (4, .int (nI i)), (2, .int (nI (kx_run w 0 (T.take (kx_st wd kk i))))), (0, .ref (ad 0)), (1, .int x)]) hx hb dX0_position_95 rfl hl (by decide) rfl (fun ls hl => ?_)
                refine lv_aload_n hx hb dX0_position_96 rfl (lv_at hl 5 rfl) ?_
                refine x0_get (v := .ref (ad 15)) S0 hK hP rfl 15 (by decide) q47 rfl dX0_position_97 ?_
                refine lv_iload hx hb dX0_position_100 (lv_at hl 2 rfl) ?_
                refine lv_bipush (v := nI 11) hx hb dX0_position_102 rfl ?_
                refine kw_imul S0 dX0_position_104 ?_
                refine lv_iload_n hx hb dX0_position_105 rfl (lv_at hl 4 rfl) ?_
                refine kw_iadd S0 dX0_position_106 ?_
                refine kw_bald (y := nI (kx_run w (kx_run w 0 (T.take (kx_st wd kk i))) (wd (kk.getD i 0)))) S0 hK hP 10 1 rfl rfl (by omega) (by decide) ((hTab _ hp _ hrun).1) dX0_position_107 ?_
                refine kw_top (y := nI (kx_run w 0 (T.take (kx_st wd kk (i + 1))))) (by rw [kx_T_next t3 (by omega), kx_run_app]) ?_
                refine lv_istore_n (lv' := [(2, .int (nI (kx_run w 0 (T.take (kx_st wd kk (i + 1)))))), (3, .int (nI (lf - (kx_hit w (kx_run w 0 (T.take (kx_st wd kk i))) (wd (kk.getD i 0)))))), (6, .int (nI (kx_hit w (kx_run w 0 (T.take (kx_st wd kk i))) (wd (kk.getD i 0))))), (5, .int (nI (kk.getD i 0))), (4, .int (nI i)), (0, .ref (ad 0)), (1, .int x)]) hx hb dX0_position_108 rfl hl (by decide) rfl (fun ls hl => ?_)
                refine lv_iinc (v := nI (i + 1)) (lv' := [(4, .int (nI (i + 1))), (2, .int (nI (kx_run w 0 (T.take (kx_st wd kk (i + 1)))))), (3, .int (nI (lf - (kx_hit w (kx_run w 0 (T.take (kx_st wd kk i))) (wd (kk.getD i 0)))))), (6, .int (nI (kx_hit w (kx_run w 0 (T.take (kx_st wd kk i))) (wd (kk.getD i 0))))), (5, .int (nI (kk.getD i 0))), (0, .ref (ad 0)), (1, .int x)]) hx hb dX0_position_109 hl (k := 4) rfl (nI_1 i) (by decide) rfl (fun ls hl => ?_)
                refine lv_goto (tgt := 32) hx hb dX0_position_112 (by decide) ?_
                exact ih (i + 1) _ (by omega) (by omega) (by rw [kx_T_next t3 (by omega), kx_hit_app]; omega) _ _ hP hD hS ls (lv_sub hl [0, 2, 1, 5, 6] rfl)
              · refine lv_aload_n hx hb dX0_position_69 rfl (lv_at hl 5 rfl) ?_
                refine x0_get (v := .ref (ad 9)) S0 hK hP rfl 9 (by decide) q41 rfl dX0_position_70 ?_
                refine lv_iload hx hb dX0_position_73 (lv_at hl 2 rfl) ?_
                refine kw_iald (y := nI (kx_st wd kk i)) S0 hK hP 7 0 rfl rfl (by omega) (by decide) (t11 i k4) dX0_position_75 ?_
                refine lv_aload_n hx hb dX0_position_76 rfl (lv_at hl 5 rfl) ?_
                refine lv_iload hx hb dX0_position_77 (lv_at hl 1 rfl) ?_
                refine lv_iload_n hx hb dX0_position_79 rfl (lv_at hl 4 rfl) ?_
                refine lv_iload_n hx hb dX0_position_80 rfl (lv_at hl 3 rfl) ?_
                refine kw_ro (n := 3) (wc := (XWc ad cI cB (nI (4 + cN)) (nI T.length) (nI cN) a10 (nI w.length) e14 b1 b2 b3 b4 b5 b8 b9 b12 b13 e15 e16)) (ci := 0) (As := [.int (nI (kk.getD i 0)), .int (nI (kx_run w 0 (T.take (kx_st wd kk i)))), .int (nI lf)]) (rest := [.int (nI (kx_st wd kk i))]) S0 hl.1 hK hP [0, 1, 2, 3, 4, 5, 6, 7, 8, 9, 10, 11] rfl rfl rfl (met_X0_endInside l D ad cI cB (nI (4 + cN)) (nI T.length) (nI cN) a10 (nI w.length) e14 b1 b2 b3 b4 b5 b8 b9 b12 b13 e15 e16 (4 + cN) wd (by omega) t9 w p1 hTab (kk.getD i 0) (kx_run w 0 (T.take (kx_st wd kk i))) lf hp hrun k5) (lw_V q156 q158 qs9 q14 q159) rfl rfl (by decide +kernel) ⟨Nat.le_of_ble_eq_true rfl, Nat.le_of_ble_eq_true rfl⟩ rfl rfl (Nat.le_of_ble_eq_true rfl) dX0_position_81 ⟨Nat.zero_le _, Nat.zero_le _⟩ (fun r3 hr3 => ?_)
                obtain ⟨k, rfl, y1, y2, y3, y4⟩ := hr3
                obtain ⟨hle, hpos⟩ := kx_pos_hit (w := w) (by omega) t3 (by omega) y1 y2 y3 y4 hlf
                refine kw_iadd S0 dX0_position_84 ?_
                refine lv_aload_n hx hb dX0_position_85 rfl (lv_at hl 5 rfl) ?_
                refine x0_get (v := .int (nI w.length)) S0 hK hP rfl 11 (by decide) q43 rfl dX0_position_86 ?_
                refine kw_isub S0 dX0_position_89 (hle) ?_
                exact W.iret (v := nI (kx_st wd kk i + k - w.length)) hx hb hr (fun t ht hW => ⟨⟨nI (kx_st wd kk i + k - w.length), ((nI (4 + cN), nI T.length, nI cN, a10, nI w.length, e14), (b1, b2, b3, b4, b5, b8, b9, b12, b13, e15, e16)), rfl, ⟨by rw [ex]; exact hpos, hIv⟩, by rw [ht]; exact hP, hD⟩, hS.F ht⟩) hS.2.2 dX0_position_90
        exact loop (cN + 2) 0 N (by omega) (by omega) (by rw [kx_st_0, List.take_zero, kx_hit_nil, Nat.zero_add]) _ _ hP hD hS ls (by rw [kx_st_0]; exact lv_sub hl [0, 1, 2, 3, 4] rfl)
      · refine lv_bipush (v := (-4)) hx hb dX0_position_18 rfl ?_
        exact W.iret (v := (-4)) hx hb hr (fun t ht hW => ⟨⟨(-4), ((nI (4 + cN), nI T.length, nI cN, a10, nI w.length, a14), (b1, b2, b3, b4, b5, b8, b9, b12, b13, b15, b16)), rfl, ⟨Or.inr ⟨fun i hi => absurd hi (by omega), rfl⟩, hI0⟩, by rw [ht]; exact hP, hD⟩, hS.F ht⟩) hS.2.2 dX0_position_20
end
section
/-! CONTRACTS of LzwSearcherModel (printed by gen/x1.py) -/
def kx_Mi (u : MS) (T w : List Nat) : Prop := kx_MI u.1.1 u.1.2 u.2.1 u.2.2 T w
def kx_b (b : Bool) : Int32 := if b = true then nI 1 else nI 0
theorem kx_b_cases (b : Bool) : (b = true ∧ kx_b b = nI 1) ∨ (b = false ∧ kx_b b = nI 0) := by
  cases b with
  | true => exact Or.inl ⟨rfl, rfl⟩
  | false => exact Or.inr ⟨rfl, rfl⟩
theorem kx_cnt1 (a lt : Nat) : List.count lt [a] = if a = lt then 1 else 0 := by
  by_cases h : a = lt
  · rw [if_pos h, h]
    simp
  · rw [if_neg h, List.count_cons, List.count_nil, if_neg (by simpa using h)]
theorem kx_gt3 {x : Int32} (h : nI 3 < x) : ¬ x ≤ nI 3 := by
  rw [Int32.le_iff_toInt_le]
  rw [Int32.lt_iff_toInt_lt] at h
  omega
theorem kx_ngt3 {x : Int32} (h : ¬ nI 3 < x) : x ≤ nI 3 := by
  rw [Int32.le_iff_toInt_le]
  rw [Int32.lt_iff_toInt_lt] at h
  omega
theorem kx_le_clamp {y : Int32} {i : Nat} (hi : i < 2 ^ 31) (h : y ≤ nI i) : y.toNatClampNeg ≤ i := by
  rw [Int32.le_iff_toInt_le, nI_toInt hi] at h
  rw [kx_toInt_clamp]
  omega
theorem kx_nle_clamp {y : Int32} {i : Nat} (hi : i < 2 ^ 31) (h : ¬ y ≤ nI i) : i < y.toNatClampNeg := by
  rw [Int32.le_iff_toInt_le, nI_toInt hi] at h
  rw [kx_toInt_clamp]
  omega
theorem kx_lt_toInt {x : Int32} {i : Nat} (hi : i < 2 ^ 31) : x < nI i ↔ ¬ ((i : Nat) : Int) ≤ x.toInt := by
  rw [Int32.lt_iff_toInt_lt, nI_toInt hi]
  omega
theorem kx_mi_app {a1 a3 : Int32} {m0 m2 : XA} {T w : List Nat} {lt : Nat} (h : kx_MI a1 a3 m0 m2 T w) (hT : T.length < 120) (hlt : lt < 4) : kx_MI (nI (T.length + 1)) a3 (upd m0 T.length (nI lt)) m2 (T ++ [lt]) w := by
  obtain ⟨h1, h2, h3, h4, h5⟩ := h
  have elen : (T ++ [lt]).length = T.length + 1 := by rw [List.length_append, List.length_singleton]
  exact ⟨by omega, kx_app4 h2 hlt, by rw [elen], kx_pat12 h4, h5⟩
theorem kx_mi_pat {a1 a3 : Int32} {m0 m2 : XA} {T w : List Nat} {lt : Nat} (h : kx_MI a1 a3 m0 m2 T w) (hT : w.length < 10) (hlt : lt < 4) : kx_MI a1 (nI (w.length + 1)) m0 (upd m2 w.length (nI lt)) T (w ++ [lt]) := by
  obtain ⟨h1, h2, h3, h4, h5, h6, h7, h8⟩ := h
  have elen : (w ++ [lt]).length = w.length + 1 := by rw [List.length_append, List.length_singleton]
  exact ⟨h1, h2, h3, h4, by omega, kx_app4 h6 hlt, by rw [elen], kx_pat12 h8⟩
theorem kx_la_eq {T w : List Nat} {k q : Nat} (hT : T.length ≤ 120) (hT4 : ∀ x, x ∈ T → x < 4) (hw4 : ∀ x, x ∈ w → x < 4) (hk : k < 2 ^ 31) (hq : q < w.length) : kx_la T (nI k) = nI (w.getD q 0) ↔ k < T.length ∧ T.getD k 0 = w.getD q 0 := by
  have hwq := kx_mem_getD hw4 hq
  rcases Nat.lt_or_ge k T.length with z | z
  · have hTk := kx_mem_getD hT4 z
    rw [kx_la_in z (by omega), nI_eq (by omega) (by omega)]
    exact ⟨fun h => ⟨z, h⟩, fun h => h.2⟩
  · have e : kx_la T (nI k) = -4 := by rw [kx_la, if_neg (nI_pos hk), if_pos (nI_le z hk)]
    rw [e]
    refine ⟨fun h => ?_, fun h => absurd h.1 (by omega)⟩
    have h1 := nI_pos (n := w.getD q 0) (by omega)
    rw [← h] at h1
    exact absurd (by decide) h1
theorem kx_std_f {T w : List Nat} {a b q : Nat} (hq : q < b) (hb : b ≤ w.length) (h : ¬ (a + q < T.length ∧ T.getD (a + q) 0 = w.getD q 0)) : kx_std T w a b = false := by
  refine decide_eq_false (fun z => h ?_)
  have h1 : w.take (q + 1) <+: T.drop a := by
    have h2 : w.take (q + 1) <+: w.take b := by
      have h3 := List.take_prefix (q + 1) (w.take b)
      rwa [List.take_take, Nat.min_eq_left (by omega)] at h3
    exact h2.trans z
  exact (kx_pfx_s (by omega)).mp h1 |>.2
set_option maxHeartbeats 4000000 in
set_option maxRecDepth 100000 in
/-- length(): the field -/
theorem met_X1_length (l : Launch) (D : va_G) (ad : Nat → Nat) (cI cB : ClassId) (a1 a3 : Int32) (m0 m2 : XA)  : Met l yX1_length (ws_ yX1_length cX1_length 1 (some .int)) ({ frames := 0, cells := 0, slots := 0, locals := 0 }) (kx_Pr D (tys_ cI cB) (MWc ad cI a1 a3 m0 m2) [.ref (ad 0)]) (vp_Si (fun r => r = a1)) 0 0 (fun _ => False) := by
  refine Met.ofW (cc := cX1_length) (maxL := 1) (ret := (some .int)) (by decide) rfl ?_
  intro p e s m args below meth c s₁ B hml hv
  obtain ⟨rfl, hP, hK⟩ := hv
  have hx := B.exec
  have hb := B.bytes
  have hr := B.returns
  have hts := atoms_spec (ws := ws_ yX1_length cX1_length 1 (some .int)) B.pre
  have hts : ∀ w ∈ lw_all, w.before _ s = true := fun w h => hts w (List.mem_cons_of_mem _ h)
  have hown : s.vm.findClass RX1 = some m.cls := findClass_of_methodNamed B.named
  have hlocks := B.notSynchronized
  have S0 : CallFix p m c cX1_length 1 s _ lw_all RX1 := ⟨hx, hb, hml, hown, hts⟩
  have hl := lv_entry ([.ref (ad 0)]) (n := 1) (Nat.le_of_ble_eq_true rfl)
  rw [lg_entry_eq]
  generalize (lg_sl ([.ref (ad 0)]) ++ List.replicate (1 - (lg_sl ([.ref (ad 0)])).length) Slot.unset).toArray = ls at hl ⊢
  have hl : lv_has ls 1 [(0, .ref (ad 0))] := hl
  refine lv_aload_n hx hb dX1_length_0 rfl (lv_at hl 0 rfl) ?_
  refine x1_get (v := .int a1) S0 hK hP rfl 1 (by decide) q176 rfl dX1_length_1 ?_
  exact W.iret (v := a1) hx hb hr (fun t ht hW => ⟨_, rfl, rfl, ht⟩) (fun q h => absurd h List.not_mem_nil) dX1_length_4
set_option maxHeartbeats 4000000 in
set_option maxRecDepth 100000 in
/-- isLetter(x) -/
theorem met_X1_isLetter (l : Launch) (D : va_G) (ad : Nat → Nat) (cI cB : ClassId) (a1 a3 : Int32) (m0 m2 : XA) (x : Int32) : Met l yX1_isLetter (ws_ yX1_isLetter cX1_isLetter 2 (some .boolean)) ({ frames := 0, cells := 0, slots := 0, locals := 0 }) (kx_Pr D (tys_ cI cB) (MWc ad cI a1 a3 m0 m2) [.ref (ad 0), .int x]) (vp_Si (fun r => (r = nI 0 ∧ (x < 0 ∨ ¬ x ≤ nI 3)) ∨ (r = nI 1 ∧ ¬ x < 0 ∧ x ≤ nI 3))) 0 0 (fun _ => False) := by
  refine Met.ofW (cc := cX1_isLetter) (maxL := 2) (ret := (some .boolean)) (by decide) rfl ?_
  intro p e s m args below meth c s₁ B hml hv
  obtain ⟨rfl, hP, hK⟩ := hv
  have hx := B.exec
  have hb := B.bytes
  have hr := B.returns
  have hts := atoms_spec (ws := ws_ yX1_isLetter cX1_isLetter 2 (some .boolean)) B.pre
  have hts : ∀ w ∈ lw_all, w.before _ s = true := fun w h => hts w (List.mem_cons_of_mem _ h)
  have hown : s.vm.findClass RX1 = some m.cls := findClass_of_methodNamed B.named
  have hlocks := B.notSynchronized
  have S0 : CallFix p m c cX1_isLetter 2 s _ lw_all RX1 := ⟨hx, hb, hml, hown, hts⟩
  have hl := lv_entry ([.ref (ad 0), .int x]) (n := 2) (Nat.le_of_ble_eq_true rfl)
  rw [lg_entry_eq]
  generalize (lg_sl ([.ref (ad 0), .int x]) ++ List.replicate (2 - (lg_sl ([.ref (ad 0), .int x])).length) Slot.unset).toArray = ls at hl ⊢
  have hl : lv_has ls 2 [(0, .ref (ad 0)), (1, .int x)] := hl
  refine lv_iload_n hx hb dX1_isLetter_0 rfl (lv_at hl 1 rfl) ?_
  refine lv_if_lt (tgt := 13) hx hb dX1_isLetter_1 (by decide) (fun k1 => ?_) (fun k1 => ?_)
  · refine lv_iconst (v := nI 0) hx hb dX1_isLetter_13 rfl ?_
    exact W.zret (v := nI 0) hx hb hr rfl (fun t ht hW => ⟨_, rfl, Or.inl ⟨rfl, Or.inl k1⟩, ht⟩) (fun q h => absurd h List.not_mem_nil) dX1_isLetter_14
  · refine lv_iload_n hx hb dX1_isLetter_4 rfl (lv_at hl 1 rfl) ?_
    refine lv_iconst (v := nI 3) hx hb dX1_isLetter_5 rfl ?_
    refine lv_icmp_gt (tgt := 13) hx hb dX1_isLetter_6 (by decide) (fun k2 => ?_) (fun k2 => ?_)
    · refine lv_iconst (v := nI 0) hx hb dX1_isLetter_13 rfl ?_
      exact W.zret (v := nI 0) hx hb hr rfl (fun t ht hW => ⟨_, rfl, Or.inl ⟨rfl, Or.inr (kx_gt3 k2)⟩, ht⟩) (fun q h => absurd h List.not_mem_nil) dX1_isLetter_14
    · refine lv_iconst (v := nI 1) hx hb dX1_isLetter_9 rfl ?_
      refine lv_goto (tgt := 14) hx hb dX1_isLetter_10 (by decide) ?_
      exact W.zret (v := nI 1) hx hb hr rfl (fun t ht hW => ⟨_, rfl, Or.inr ⟨rfl, k1, kx_ngt3 k2⟩, ht⟩) (fun q h => absurd h List.not_mem_nil) dX1_isLetter_14
set_option maxHeartbeats 4000000 in
set_option maxRecDepth 100000 in
/-- append(x) -/
theorem met_X1_append (l : Launch) (D : va_G) (ad : Nat → Nat) (cI cB : ClassId) (a1 a3 : Int32) (m0 m2 : XA) (T w : List Nat) (hI : kx_MI a1 a3 m0 m2 T w) (x : Int32) (sz : Nat) : Met l yX1_append (ws_ yX1_append cX1_append 2 (some .int)) ({ frames := 1, cells := 0, slots := 0, locals := 24 }) (kx_Pm D (tys_ cI cB) (MWc ad cI a1 a3 m0 m2) sz [.ref (ad 0), .int x]) (va_Qi (fun (r : Int32) (u : MS) => r = kx_appR T x ∧ kx_Mi u (kx_appT T x) w) (kx_B D (fun u : MS => MWs ad cI u) (va_A (MWc ad cI a1 a3 m0 m2) sz)) (va_A (MWc ad cI a1 a3 m0 m2) sz)) 0 0 (va_A (MWc ad cI a1 a3 m0 m2) sz) := by
  refine Met.ofW (cc := cX1_append) (maxL := 2) (ret := (some .int)) (by decide) rfl ?_
  intro p e s m args below meth c s₁ B hml hv
  obtain ⟨rfl, hsz, hP, hK, hD0⟩ := hv
  have hx := B.exec
  have hb := B.bytes
  have hr := B.returns
  have hts := atoms_spec (ws := ws_ yX1_append cX1_append 2 (some .int)) B.pre
  have hts : ∀ w ∈ lw_all, w.before _ s = true := fun w h => hts w (List.mem_cons_of_mem _ h)
  have hown : s.vm.findClass RX1 = some m.cls := findClass_of_methodNamed B.named
  have hlocks := B.notSynchronized
  have S0 : CallFix p m c cX1_append 2 s _ lw_all RX1 := ⟨hx, hb, hml, hown, hts⟩
  subst hsz
  have hD := hD0.self (sz := s.heap.size)
  generalize hAe : va_A (MWc ad cI a1 a3 m0 m2) s.heap.size = A at hD ⊢
  have hA : ∀ q : Nat, s.heap.size ≤ q → A q := fun q h => by rw [← hAe]; exact Or.inr h
  have hS : va_S A s.heap s.heap [] := va_S.rf
  have hl := lv_entry ([.ref (ad 0), .int x]) (n := 2) (Nat.le_of_ble_eq_true rfl)
  rw [lg_entry_eq]
  generalize (lg_sl ([.ref (ad 0), .int x]) ++ List.replicate (2 - (lg_sl ([.ref (ad 0), .int x])).length) Slot.unset).toArray = ls at hl ⊢
  have hl : lv_has ls 2 [(0, .ref (ad 0)), (1, .int x)] := hl
  have hI0 := hI
  obtain ⟨t1, t2, rfl, t4, p1, p2, rfl, p4⟩ := hI
  have hIx : kx_Mi ((nI T.length, nI w.length), (m0, m2)) T w := hI0
  refine lv_aload_n hx hb dX1_append_0 rfl (lv_at hl 0 rfl) ?_
  refine lv_iload_n hx hb dX1_append_1 rfl (lv_at hl 1 rfl) ?_
  refine kw_ro (n := 1) (wc := (MWc ad cI (nI T.length) (nI w.length) m0 m2)) (ci := 1) (As := [.int x]) (rest := []) S0 hl.1 hK hP [0, 1, 2] rfl rfl rfl (met_X1_isLetter l D ad cI cB (nI T.length) (nI w.length) m0 m2 x) (lw_V q192 q194 qs10 q15 q195) rfl rfl (by decide +kernel) ⟨Nat.le_of_ble_eq_true rfl, Nat.le_of_ble_eq_true rfl⟩ rfl rfl (Nat.le_of_ble_eq_true rfl) dX1_append_2 ⟨Nat.zero_le _, Nat.zero_le _⟩ (fun r1 hr1 => ?_)
  rcases hr1 with ⟨rfl, hbad⟩ | ⟨rfl, k1, k2⟩
  · refine lv_if_ne (tgt := 10) hx hb dX1_append_5 (by decide) (fun c9 => absurd (nI_0) c9) (fun _ => ?_)
    refine lv_iconst (v := (-1)) hx hb dX1_append_8 rfl ?_
    exact W.iret (v := (-1)) hx hb hr (fun t ht hW => ⟨⟨(-1), ((nI T.length, nI w.length), (m0, m2)), rfl, ⟨by rw [kx_appR, if_pos hbad], by rw [kx_appT, if_pos hbad]; exact hIx⟩, by rw [ht]; exact hP, hD⟩, hS.F ht⟩) hS.2.2 dX1_append_9
  · obtain ⟨lt, hlt3, ex⟩ := nI_of2 (n := 3) (by decide) k1 k2
    have hlt : lt < 4 := by omega
    have hok := kx_okn hlt
    rw [← ex] at hok
    refine lv_if_ne (tgt := 10) hx hb dX1_append_5 (by decide) (fun _ => ?_) (fun c9 => absurd c9 (by decide))
    refine lv_aload_n hx hb dX1_append_10 rfl (lv_at hl 0 rfl) ?_
    refine x1_get (v := .int (nI T.length)) S0 hK hP rfl 1 (by decide) q176 rfl dX1_append_11 ?_
    refine lv_bipush (v := nI 120) hx hb dX1_append_14 rfl ?_
    refine kw_ne (tgt := 22) S0 dX1_append_16 (by decide) (by omega) (by omega) (fun k3 => ?_) (fun k3 => ?_)
    · have k4 : T.length < 120 := by omega
      have eR : kx_appR T x = nI (T.length + 1) := by rw [ex]; exact kx_appR_in hlt k4
      have eT : kx_appT T x = T ++ [lt] := by rw [ex]; exact kx_appT_in hlt k4
      refine lv_aload_n hx hb dX1_append_22 rfl (lv_at hl 0 rfl) ?_
      refine x1_get (v := .ref (ad 1)) S0 hK hP rfl 0 (by decide) q175 rfl dX1_append_23 ?_
      refine lv_aload_n hx hb dX1_append_26 rfl (lv_at hl 0 rfl) ?_
      refine x1_get (v := .int (nI T.length)) S0 hK hP rfl 1 (by decide) q176 rfl dX1_append_27 ?_
      refine lv_iload_n hx hb dX1_append_30 rfl (lv_at hl 1 rfl) ?_
      refine kw_top (y := nI lt) ex ?_
      refine kw_iast S0 hK hP hD hS 1 0 rfl rfl (by omega) (by decide) dX1_append_31 (fun H locs hP hD hS => ?_)
      have hP : va_P D vwCl (MWc ad cI (nI T.length) (nI w.length) (upd m0 T.length (nI lt)) m2) H := hP
      have hD : va_D A (MWc ad cI (nI T.length) (nI w.length) (upd m0 T.length (nI lt)) m2) := hD
      refine lv_aload_n hx hb dX1_append_32 rfl (lv_at hl 0 rfl) ?_
      refine lv_dup hx hb dX1_append_33 rfl ?_
      refine x1_get (v := .int (nI T.length)) S0 hK hP rfl 1 (by decide) q176 rfl dX1_append_34 ?_
      refine lv_iconst (v := nI 1) hx hb dX1_append_37 rfl ?_
      refine kw_iadd S0 dX1_append_38 ?_
      refine x1_put (v := .int (nI (T.length + 1))) S0 hK hP hD hS rfl 1 (by decide) q176 rfl rfl rfl (Nat.le_of_ble_eq_true rfl) dX1_append_39 (fun H locs hP hD hS => ?_)
      have hP : va_P D vwCl (MWc ad cI (nI (T.length + 1)) (nI w.length) (upd m0 T.length (nI lt)) m2) H := hP
      have hD : va_D A (MWc ad cI (nI (T.length + 1)) (nI w.length) (upd m0 T.length (nI lt)) m2) := hD
      refine lv_aload_n hx hb dX1_append_42 rfl (lv_at hl 0 rfl) ?_
      refine x1_get (v := .int (nI (T.length + 1))) S0 hK hP rfl 1 (by decide) q176 rfl dX1_append_43 ?_
      exact W.iret (v := nI (T.length + 1)) hx hb hr (fun t ht hW => ⟨⟨nI (T.length + 1), ((nI (T.length + 1), nI w.length), (upd m0 T.length (nI lt), m2)), rfl, ⟨eR.symm, by rw [eT]; exact kx_mi_app hI0 k4 hlt⟩, by rw [ht]; exact hP, hD⟩, hS.F ht⟩) hS.2.2 dX1_append_46
    · refine lv_bipush (v := (-2)) hx hb dX1_append_19 rfl ?_
      exact W.iret (v := (-2)) hx hb hr (fun t ht hW => ⟨⟨(-2), ((nI T.length, nI w.length), (m0, m2)), rfl, ⟨by rw [kx_appR, if_neg hok, if_pos (by omega)], by rw [kx_appT, if_neg hok, if_pos (by omega)]; exact hIx⟩, by rw [ht]; exact hP, hD⟩, hS.F ht⟩) hS.2.2 dX1_append_21
set_option maxHeartbeats 4000000 in
set_option maxRecDepth 100000 in
/-- pattern(x) -/
theorem met_X1_pattern (l : Launch) (D : va_G) (ad : Nat → Nat) (cI cB : ClassId) (a1 a3 : Int32) (m0 m2 : XA) (T w : List Nat) (hI : kx_MI a1 a3 m0 m2 T w) (x : Int32) (sz : Nat) : Met l yX1_pattern (ws_ yX1_pattern cX1_pattern 2 (some .int)) ({ frames := 1, cells := 0, slots := 0, locals := 24 }) (kx_Pm D (tys_ cI cB) (MWc ad cI a1 a3 m0 m2) sz [.ref (ad 0), .int x]) (va_Qi (fun (r : Int32) (u : MS) => r = kx_patR w x ∧ kx_Mi u T (kx_patW w x)) (kx_B D (fun u : MS => MWs ad cI u) (va_A (MWc ad cI a1 a3 m0 m2) sz)) (va_A (MWc ad cI a1 a3 m0 m2) sz)) 0 0 (va_A (MWc ad cI a1 a3 m0 m2) sz) := by
  refine Met.ofW (cc := cX1_pattern) (maxL := 2) (ret := (some .int)) (by decide) rfl ?_
  intro p e s m args below meth c s₁ B hml hv
  obtain ⟨rfl, hsz, hP, hK, hD0⟩ := hv
  have hx := B.exec
  have hb := B.bytes
  have hr := B.returns
  have hts := atoms_spec (ws := ws_ yX1_pattern cX1_pattern 2 (some .int)) B.pre
  have hts : ∀ w ∈ lw_all, w.before _ s = true := fun w h => hts w (List.mem_cons_of_mem _ h)
  have hown : s.vm.findClass RX1 = some m.cls := findClass_of_methodNamed B.named
  have hlocks := B.notSynchronized
  have S0 : CallFix p m c cX1_pattern 2 s _ lw_all RX1 := ⟨hx, hb, hml, hown, hts⟩
  subst hsz
  have hD := hD0.self (sz := s.heap.size)
  generalize hAe : va_A (MWc ad cI a1 a3 m0 m2) s.heap.size = A at hD ⊢
  have hA : ∀ q : Nat, s.heap.size ≤ q → A q := fun q h => by rw [← hAe]; exact Or.inr h
  have hS : va_S A s.heap s.heap [] := va_S.rf
  have hl := lv_entry ([.ref (ad 0), .int x]) (n := 2) (Nat.le_of_ble_eq_true rfl)
  rw [lg_entry_eq]
  generalize (lg_sl ([.ref (ad 0), .int x]) ++ List.replicate (2 - (lg_sl ([.ref (ad 0), .int x])).length) Slot.unset).toArray = ls at hl ⊢
  have hl : lv_has ls 2 [(0, .ref (ad 0)), (1, .int x)] := hl
  have hI0 := hI
  obtain ⟨t1, t2, rfl, t4, p1, p2, rfl, p4⟩ := hI
  have hIx : kx_Mi ((nI T.length, nI w.length), (m0, m2)) T w := hI0
  refine lv_aload_n hx hb dX1_pattern_0 rfl (lv_at hl 0 rfl) ?_
  refine lv_iload_n hx hb dX1_pattern_1 rfl (lv_at hl 1 rfl) ?_
  refine kw_ro (n := 1) (wc := (MWc ad cI (nI T.length) (nI w.length) m0 m2)) (ci := 1) (As := [.int x]) (rest := []) S0 hl.1 hK hP [0, 1, 2] rfl rfl rfl (met_X1_isLetter l D ad cI cB (nI T.length) (nI w.length) m0 m2 x) (lw_V q192 q194 qs10 q15 q195) rfl rfl (by decide +kernel) ⟨Nat.le_of_ble_eq_true rfl, Nat.le_of_ble_eq_true rfl⟩ rfl rfl (Nat.le_of_ble_eq_true rfl) dX1_pattern_2 ⟨Nat.zero_le _, Nat.zero_le _⟩ (fun r1 hr1 => ?_)
  rcases hr1 with ⟨rfl, hbad⟩ | ⟨rfl, k1, k2⟩
  · refine lv_if_ne (tgt := 10) hx hb dX1_pattern_5 (by decide) (fun c9 => absurd (nI_0) c9) (fun _ => ?_)
    refine lv_iconst (v := (-1)) hx hb dX1_pattern_8 rfl ?_
    exact W.iret (v := (-1)) hx hb hr (fun t ht hW => ⟨⟨(-1), ((nI T.length, nI w.length), (m0, m2)), rfl, ⟨by rw [kx_patR, if_pos hbad], by rw [kx_patW, if_pos hbad]; exact hIx⟩, by rw [ht]; exact hP, hD⟩, hS.F ht⟩) hS.2.2 dX1_pattern_9
  · obtain ⟨lt, hlt3, ex⟩ := nI_of2 (n := 3) (by decide) k1 k2
    have hlt : lt < 4 := by omega
    have hok := kx_okn hlt
    rw [← ex] at hok
    refine lv_if_ne (tgt := 10) hx hb dX1_pattern_5 (by decide) (fun _ => ?_) (fun c9 => absurd c9 (by decide))
    refine lv_aload_n hx hb dX1_pattern_10 rfl (lv_at hl 0 rfl) ?_
    refine x1_get (v := .int (nI w.length)) S0 hK hP rfl 3 (by decide) q178 rfl dX1_pattern_11 ?_
    refine lv_bipush (v := nI 10) hx hb dX1_pattern_14 rfl ?_
    refine kw_ne (tgt := 22) S0 dX1_pattern_16 (by decide) (by omega) (by omega) (fun k3 => ?_) (fun k3 => ?_)
    · have k4 : w.length < 10 := by omega
      have eR : kx_patR w x = nI (w.length + 1) := by rw [ex]; exact kx_patR_in hlt k4
      have eT : kx_patW w x = w ++ [lt] := by rw [ex]; exact kx_patW_in hlt k4
      refine lv_aload_n hx hb dX1_pattern_22 rfl (lv_at hl 0 rfl) ?_
      refine x1_get (v := .ref (ad 2)) S0 hK hP rfl 2 (by decide) q177 rfl dX1_pattern_23 ?_
      refine lv_aload_n hx hb dX1_pattern_26 rfl (lv_at hl 0 rfl) ?_
      refine x1_get (v := .int (nI w.length)) S0 hK hP rfl 3 (by decide) q178 rfl dX1_pattern_27 ?_
      refine lv_iload_n hx hb dX1_pattern_30 rfl (lv_at hl 1 rfl) ?_
      refine kw_top (y := nI lt) ex ?_
      refine kw_iast S0 hK hP hD hS 2 0 rfl rfl (by omega) (by decide) dX1_pattern_31 (fun H locs hP hD hS => ?_)
      have hP : va_P D vwCl (MWc ad cI (nI T.length) (nI w.length) m0 (upd m2 w.length (nI lt))) H := hP
      have hD : va_D A (MWc ad cI (nI T.length) (nI w.length) m0 (upd m2 w.length (nI lt))) := hD
      refine lv_aload_n hx hb dX1_pattern_32 rfl (lv_at hl 0 rfl) ?_
      refine lv_dup hx hb dX1_pattern_33 rfl ?_
      refine x1_get (v := .int (nI w.length)) S0 hK hP rfl 3 (by decide) q178 rfl dX1_pattern_34 ?_
      refine lv_iconst (v := nI 1) hx hb dX1_pattern_37 rfl ?_
      refine kw_iadd S0 dX1_pattern_38 ?_
      refine x1_put (v := .int (nI (w.length + 1))) S0 hK hP hD hS rfl 3 (by decide) q178 rfl rfl rfl (Nat.le_of_ble_eq_true rfl) dX1_pattern_39 (fun H locs hP hD hS => ?_)
      have hP : va_P D vwCl (MWc ad cI (nI T.length) (nI (w.length + 1)) m0 (upd m2 w.length (nI lt))) H := hP
      have hD : va_D A (MWc ad cI (nI T.length) (nI (w.length + 1)) m0 (upd m2 w.length (nI lt))) := hD
      refine lv_aload_n hx hb dX1_pattern_42 rfl (lv_at hl 0 rfl) ?_
      refine x1_get (v := .int (nI (w.length + 1))) S0 hK hP rfl 3 (by decide) q178 rfl dX1_pattern_43 ?_
      exact W.iret (v := nI (w.length + 1)) hx hb hr (fun t ht hW => ⟨⟨nI (w.length + 1), ((nI T.length, nI (w.length + 1)), (m0, upd m2 w.length (nI lt))), rfl, ⟨eR.symm, by rw [eT]; exact kx_mi_pat hI0 k4 hlt⟩, by rw [ht]; exact hP, hD⟩, hS.F ht⟩) hS.2.2 dX1_pattern_46
    · refine lv_bipush (v := (-2)) hx hb dX1_pattern_19 rfl ?_
      exact W.iret (v := (-2)) hx hb hr (fun t ht hW => ⟨⟨(-2), ((nI T.length, nI w.length), (m0, m2)), rfl, ⟨by rw [kx_patR, if_neg hok, if_pos (by omega)], by rw [kx_patW, if_neg hok, if_pos (by omega)]; exact hIx⟩, by rw [ht]; exact hP, hD⟩, hS.F ht⟩) hS.2.2 dX1_pattern_21
set_option maxHeartbeats 4000000 in
set_option maxRecDepth 100000 in
/-- clear() -/
theorem met_X1_clear (l : Launch) (D : va_G) (ad : Nat → Nat) (cI cB : ClassId) (a1 a3 : Int32) (m0 m2 : XA) (T w : List Nat) (hI : kx_MI a1 a3 m0 m2 T w) (sz : Nat) : Met l yX1_clear (ws_ yX1_clear cX1_clear 1 none) ({ frames := 0, cells := 0, slots := 0, locals := 0 }) (kx_Pm D (tys_ cI cB) (MWc ad cI a1 a3 m0 m2) sz [.ref (ad 0)]) (va_Qv (fun (u : MS) => kx_Mi u [] w) (kx_B D (fun u : MS => MWs ad cI u) (va_A (MWc ad cI a1 a3 m0 m2) sz)) (va_A (MWc ad cI a1 a3 m0 m2) sz)) 0 0 (va_A (MWc ad cI a1 a3 m0 m2) sz) := by
  refine Met.ofW (cc := cX1_clear) (maxL := 1) (ret := none) (by decide) rfl ?_
  intro p e s m args below meth c s₁ B hml hv
  obtain ⟨rfl, hsz, hP, hK, hD0⟩ := hv
  have hx := B.exec
  have hb := B.bytes
  have hr := B.returns
  have hts := atoms_spec (ws := ws_ yX1_clear cX1_clear 1 none) B.pre
  have hts : ∀ w ∈ lw_all, w.before _ s = true := fun w h => hts w (List.mem_cons_of_mem _ h)
  have hown : s.vm.findClass RX1 = some m.cls := findClass_of_methodNamed B.named
  have hlocks := B.notSynchronized
  have S0 : CallFix p m c cX1_clear 1 s _ lw_all RX1 := ⟨hx, hb, hml, hown, hts⟩
  subst hsz
  have hD := hD0.self (sz := s.heap.size)
  generalize hAe : va_A (MWc ad cI a1 a3 m0 m2) s.heap.size = A at hD ⊢
  have hA : ∀ q : Nat, s.heap.size ≤ q → A q := fun q h => by rw [← hAe]; exact Or.inr h
  have hS : va_S A s.heap s.heap [] := va_S.rf
  have hl := lv_entry ([.ref (ad 0)]) (n := 1) (Nat.le_of_ble_eq_true rfl)
  rw [lg_entry_eq]
  generalize (lg_sl ([.ref (ad 0)]) ++ List.replicate (1 - (lg_sl ([.ref (ad 0)])).length) Slot.unset).toArray = ls at hl ⊢
  have hl : lv_has ls 1 [(0, .ref (ad 0))] := hl
  have hI0 := hI
  obtain ⟨t1, t2, rfl, t4, p1, p2, rfl, p4⟩ := hI
  have hIx : kx_Mi ((nI T.length, nI w.length), (m0, m2)) T w := hI0
  refine lv_aload_n hx hb dX1_clear_0 rfl (lv_at hl 0 rfl) ?_
  refine lv_iconst (v := nI 0) hx hb dX1_clear_1 rfl ?_
  refine x1_put (v := .int (nI 0)) S0 hK hP hD hS rfl 1 (by decide) q176 rfl rfl rfl (Nat.le_of_ble_eq_true rfl) dX1_clear_2 (fun H locs hP hD hS => ?_)
  have hP : va_P D vwCl (MWc ad cI (nI 0) (nI w.length) m0 m2) H := hP
  have hD : va_D A (MWc ad cI (nI 0) (nI w.length) m0 m2) := hD
  exact W.vret hx hb hr (fun t ht hW => ⟨⟨((nI 0, nI w.length), (m0, m2)), rfl, ⟨by simp, fun x hx => absurd hx List.not_mem_nil, rfl, fun i hi => absurd hi (Nat.not_lt_zero _), p1, p2, rfl, p4⟩, by rw [ht]; exact hP, hD⟩, hS.F ht⟩) hS.2.2 dX1_clear_5
set_option maxHeartbeats 4000000 in
set_option maxRecDepth 100000 in
/-- clearPattern() -/
theorem met_X1_clearPattern (l : Launch) (D : va_G) (ad : Nat → Nat) (cI cB : ClassId) (a1 a3 : Int32) (m0 m2 : XA) (T w : List Nat) (hI : kx_MI a1 a3 m0 m2 T w) (sz : Nat) : Met l yX1_clearPattern (ws_ yX1_clearPattern cX1_clearPattern 1 none) ({ frames := 0, cells := 0, slots := 0, locals := 0 }) (kx_Pm D (tys_ cI cB) (MWc ad cI a1 a3 m0 m2) sz [.ref (ad 0)]) (va_Qv (fun (u : MS) => kx_Mi u T []) (kx_B D (fun u : MS => MWs ad cI u) (va_A (MWc ad cI a1 a3 m0 m2) sz)) (va_A (MWc ad cI a1 a3 m0 m2) sz)) 0 0 (va_A (MWc ad cI a1 a3 m0 m2) sz) := by
  refine Met.ofW (cc := cX1_clearPattern) (maxL := 1) (ret := none) (by decide) rfl ?_
  intro p e s m args below meth c s₁ B hml hv
  obtain ⟨rfl, hsz, hP, hK, hD0⟩ := hv
  have hx := B.exec
  have hb := B.bytes
  have hr := B.returns
  have hts := atoms_spec (ws := ws_ yX1_clearPattern cX1_clearPattern 1 none) B.pre
  have hts : ∀ w ∈ lw_all, w.before _ s = true := fun w h => hts w (List.mem_cons_of_mem _ h)
  have hown : s.vm.findClass RX1 = some m.cls := findClass_of_methodNamed B.named
  have hlocks := B.notSynchronized
  have S0 : CallFix p m c cX1_clearPattern 1 s _ lw_all RX1 := ⟨hx, hb, hml, hown, hts⟩
  subst hsz
  have hD := hD0.self (sz := s.heap.size)
  generalize hAe : va_A (MWc ad cI a1 a3 m0 m2) s.heap.size = A at hD ⊢
  have hA : ∀ q : Nat, s.heap.size ≤ q → A q := fun q h => by rw [← hAe]; exact Or.inr h
  have hS : va_S A s.heap s.heap [] := va_S.rf
  have hl := lv_entry ([.ref (ad 0)]) (n := 1) (Nat.le_of_ble_eq_true rfl)
  rw [lg_entry_eq]
  generalize (lg_sl ([.ref (ad 0)]) ++ List.replicate (1 - (lg_sl ([.ref (ad 0)])).length) Slot.unset).toArray = ls at hl ⊢
  have hl : lv_has ls 1 [(0, .ref (ad 0))] := hl
  have hI0 := hI
  obtain ⟨t1, t2, rfl, t4, p1, p2, rfl, p4⟩ := hI
  have hIx : kx_Mi ((nI T.length, nI w.length), (m0, m2)) T w := hI0
  refine lv_aload_n hx hb dX1_clearPattern_0 rfl (lv_at hl 0 rfl) ?_
  refine lv_iconst (v := nI 0) hx hb dX1_clearPattern_1 rfl ?_
  refine x1_put (v := .int (nI 0)) S0 hK hP hD hS rfl 3 (by decide) q178 rfl rfl rfl (Nat.le_of_ble_eq_true rfl) dX1_clearPattern_2 (fun H locs hP hD hS => ?_)
  have hP : va_P D vwCl (MWc ad cI (nI T.length) (nI 0) m0 m2) H := hP
  have hD : va_D A (MWc ad cI (nI T.length) (nI 0) m0 m2) := hD
  exact W.vret hx hb hr (fun t ht hW => ⟨⟨((nI T.length, nI 0), (m0, m2)), rfl, ⟨t1, t2, rfl, t4, by simp, fun x hx => absurd hx List.not_mem_nil, rfl, fun i hi => absurd hi (Nat.not_lt_zero _)⟩, by rw [ht]; exact hP, hD⟩, hS.F ht⟩) hS.2.2 dX1_clearPattern_5
set_option maxHeartbeats 4000000 in
set_option maxRecDepth 100000 in
/-- letterAt(x) -/
theorem met_X1_letterAt (l : Launch) (D : va_G) (ad : Nat → Nat) (cI cB : ClassId) (a1 a3 : Int32) (m0 m2 : XA) (T w : List Nat) (hI : kx_MI a1 a3 m0 m2 T w) (x : Int32) : Met l yX1_letterAt (ws_ yX1_letterAt cX1_letterAt 2 (some .int)) ({ frames := 0, cells := 0, slots := 0, locals := 0 }) (kx_Pr D (tys_ cI cB) (MWc ad cI a1 a3 m0 m2) [.ref (ad 0), .int x]) (vp_Si (fun r => r = kx_la T x)) 0 0 (fun _ => False) := by
  refine Met.ofW (cc := cX1_letterAt) (maxL := 2) (ret := (some .int)) (by decide) rfl ?_
  intro p e s m args below meth c s₁ B hml hv
  obtain ⟨rfl, hP, hK⟩ := hv
  have hx := B.exec
  have hb := B.bytes
  have hr := B.returns
  have hts := atoms_spec (ws := ws_ yX1_letterAt cX1_letterAt 2 (some .int)) B.pre
  have hts : ∀ w ∈ lw_all, w.before _ s = true := fun w h => hts w (List.mem_cons_of_mem _ h)
  have hown : s.vm.findClass RX1 = some m.cls := findClass_of_methodNamed B.named
  have hlocks := B.notSynchronized
  have S0 : CallFix p m c cX1_letterAt 2 s _ lw_all RX1 := ⟨hx, hb, hml, hown, hts⟩
  have hl := lv_entry ([.ref (ad 0), .int x]) (n := 2) (Nat.le_of_ble_eq_true rfl)
  rw [lg_entry_eq]
  generalize (lg_sl ([.ref (ad 0), .int x]) ++ List.replicate (2 - (lg_sl ([.ref (ad 0), .int x])).length) Slot.unset).toArray = ls at hl ⊢
  have hl : lv_has ls 2 [(0, .ref (ad 0)), (1, .int x)] := hl
  have hI0 := hI
  obtain ⟨t1, t2, rfl, t4, p1, p2, rfl, p4⟩ := hI
  have hIx : kx_Mi ((nI T.length, nI w.length), (m0, m2)) T w := hI0
  refine lv_iload_n hx hb dX1_letterAt_0 rfl (lv_at hl 1 rfl) ?_
  refine lv_if_lt (tgt := 21) hx hb dX1_letterAt_1 (by decide) (fun k1 => ?_) (fun k1 => ?_)
  · refine lv_bipush (v := (-4)) hx hb dX1_letterAt_21 rfl ?_
    exact W.iret (v := (-4)) hx hb hr (fun t ht hW => ⟨_, rfl, by rw [kx_la, if_pos k1], ht⟩) (fun q h => absurd h List.not_mem_nil) dX1_letterAt_23
  · obtain ⟨j, hj, ej⟩ := nI_of k1
    refine lv_iload_n hx hb dX1_letterAt_4 rfl (lv_at hl 1 rfl) ?_
    refine kw_top (y := nI j) ej ?_
    refine lv_aload_n hx hb dX1_letterAt_5 rfl (lv_at hl 0 rfl) ?_
    refine x1_get (v := .int (nI T.length)) S0 hK hP rfl 1 (by decide) q176 rfl dX1_letterAt_6 ?_
    refine kw_ge (tgt := 21) S0 dX1_letterAt_9 (by decide) (hj) (by omega) (fun k2 => ?_) (fun k2 => ?_)
    · refine lv_bipush (v := (-4)) hx hb dX1_letterAt_21 rfl ?_
      exact W.iret (v := (-4)) hx hb hr (fun t ht hW => ⟨_, rfl, by rw [kx_la, if_neg k1, if_pos (by rw [ej]; exact nI_le k2 hj)], ht⟩) (fun q h => absurd h List.not_mem_nil) dX1_letterAt_23
    · refine lv_aload_n hx hb dX1_letterAt_12 rfl (lv_at hl 0 rfl) ?_
      refine x1_get (v := .ref (ad 1)) S0 hK hP rfl 0 (by decide) q175 rfl dX1_letterAt_13 ?_
      refine lv_iload_n hx hb dX1_letterAt_16 rfl (lv_at hl 1 rfl) ?_
      refine kw_top (y := nI j) ej ?_
      refine kw_iald (y := nI (T.getD j 0)) S0 hK hP 1 0 rfl rfl (by omega) (by decide) (t4 j k2) dX1_letterAt_17 ?_
      refine lv_goto (tgt := 23) hx hb dX1_letterAt_18 (by decide) ?_
      exact W.iret (v := nI (T.getD j 0)) hx hb hr (fun t ht hW => ⟨_, rfl, by rw [ej, kx_la_in k2 (by omega)], ht⟩) (fun q h => absurd h List.not_mem_nil) dX1_letterAt_23
set_option maxHeartbeats 4000000 in
set_option maxRecDepth 100000 in
/-- repeat(x, y) -/
theorem met_X1_repeat (l : Launch) (D : va_G) (ad : Nat → Nat) (cI cB : ClassId) (a1 a3 : Int32) (m0 m2 : XA) (T w : List Nat) (hI : kx_MI a1 a3 m0 m2 T w) (x y : Int32) (sz : Nat) : Met l yX1_repeat (ws_ yX1_repeat cX1_repeat 5 (some .int)) ({ frames := 2, cells := 0, slots := 0, locals := 48 }) (kx_Pm D (tys_ cI cB) (MWc ad cI a1 a3 m0 m2) sz [.ref (ad 0), .int x, .int y]) (va_Qi (fun (r : Int32) (u : MS) => r = kx_repR T x y ∧ kx_Mi u (kx_repT T x y) w) (kx_B D (fun u : MS => MWs ad cI u) (va_A (MWc ad cI a1 a3 m0 m2) sz)) (va_A (MWc ad cI a1 a3 m0 m2) sz)) 0 0 (va_A (MWc ad cI a1 a3 m0 m2) sz) := by
  refine Met.ofW (cc := cX1_repeat) (maxL := 5) (ret := (some .int)) (by decide) rfl ?_
  intro p e s m args below meth c s₁ B hml hv
  obtain ⟨rfl, hsz, hP, hK, hD0⟩ := hv
  have hx := B.exec
  have hb := B.bytes
  have hr := B.returns
  have hts := atoms_spec (ws := ws_ yX1_repeat cX1_repeat 5 (some .int)) B.pre
  have hts : ∀ w ∈ lw_all, w.before _ s = true := fun w h => hts w (List.mem_cons_of_mem _ h)
  have hown : s.vm.findClass RX1 = some m.cls := findClass_of_methodNamed B.named
  have hlocks := B.notSynchronized
  have S0 : CallFix p m c cX1_repeat 5 s _ lw_all RX1 := ⟨hx, hb, hml, hown, hts⟩
  subst hsz
  have hD := hD0.self (sz := s.heap.size)
  generalize hAe : va_A (MWc ad cI a1 a3 m0 m2) s.heap.size = A at hD ⊢
  have hA : ∀ q : Nat, s.heap.size ≤ q → A q := fun q h => by rw [← hAe]; exact Or.inr h
  have hS : va_S A s.heap s.heap [] := va_S.rf
  have hl := lv_entry ([.ref (ad 0), .int x, .int y]) (n := 5) (Nat.le_of_ble_eq_true rfl)
  rw [lg_entry_eq]
  generalize (lg_sl ([.ref (ad 0), .int x, .int y]) ++ List.replicate (5 - (lg_sl ([.ref (ad 0), .int x, .int y])).length) Slot.unset).toArray = ls at hl ⊢
  have hl : lv_has ls 5 [(0, .ref (ad 0)), (1, .int x), (2, .int y)] := hl
  have hI0 := hI
  obtain ⟨t1, t2, rfl, t4, p1, p2, rfl, p4⟩ := hI
  have hIx : kx_Mi ((nI T.length, nI w.length), (m0, m2)) T w := hI0
  obtain ⟨K, eK⟩ : ∃ K : Nat, K = y.toNatClampNeg := ⟨_, rfl⟩
  have hK31 : K < 2 ^ 31 := by
    have h1 := Int32.toInt_lt y
    rw [eK, kx_toInt_clamp]
    omega
  refine lv_iload_n hx hb dX1_repeat_0 rfl (lv_at hl 2 rfl) ?_
  have after : ∀ (H : Heap) (locs : List Loc), va_P D vwCl (MWc ad cI (nI T.length) (nI w.length) m0 m2) H → va_D A (MWc ad cI (nI T.length) (nI w.length) m0 m2) → va_S A s.heap H locs → ∀ (ls : Array Slot), lv_has ls 5 [(0, .ref (ad 0)), (1, .int x), (2, .int y)] → W p l e (headSpec (ws_ yX1_repeat cX1_repeat 5 (some .int)) ({ frames := 2, cells := 0, slots := 0, locals := 48 })).room s m ([.ref (ad 0), .int x, .int y] : List Value).toArray below meth c H locs 0 0 (MQ below (va_Qi (fun (r : Int32) (u : MS) => r = kx_repR T x y ∧ kx_Mi u (kx_repT T x y) w) (kx_B D (fun u : MS => MWs ad cI u) A) A) ([.ref (ad 0), .int x, .int y] : List Value).toArray s 0 0 A) (F0 m 9 ls [.int (nI K)]) := by
    intro H locs hP hD hS ls hl
    refine lv_istore_n (lv' := [(3, .int (nI K)), (0, .ref (ad 0)), (1, .int x), (2, .int y)]) hx hb dX1_repeat_9 rfl hl (by decide) rfl (fun ls hl => ?_)
    refine lv_iload_n hx hb dX1_repeat_10 rfl (lv_at hl 2 rfl) ?_
    refine lv_if_lt (tgt := 22) hx hb dX1_repeat_11 (by decide) (fun k1 => ?_) (fun k1 => ?_)
    · refine lv_bipush (v := (-3)) hx hb dX1_repeat_22 rfl ?_
      exact W.iret (v := (-3)) hx hb hr (fun t ht hW => ⟨⟨(-3), ((nI T.length, nI w.length), (m0, m2)), rfl, ⟨by rw [kx_repR, if_pos (Or.inl k1)], by rw [kx_repT, if_pos (Or.inl k1)]; exact hIx⟩, by rw [ht]; exact hP, hD⟩, hS.F ht⟩) hS.2.2 dX1_repeat_24
    · obtain ⟨j, hj, ej⟩ := nI_of k1
      refine lv_iload_n hx hb dX1_repeat_14 rfl (lv_at hl 2 rfl) ?_
      refine kw_top (y := nI j) ej ?_
      refine lv_aload_n hx hb dX1_repeat_15 rfl (lv_at hl 1 rfl) ?_
      refine x1_get (v := .int (nI T.length)) S0 hK hP rfl 1 (by decide) q176 rfl dX1_repeat_16 ?_
      refine kw_lt (tgt := 25) S0 dX1_repeat_19 (by decide) (hj) (by omega) (fun k2 => ?_) (fun k2 => ?_)
      · have hgood : ¬ (x < 0 ∨ nI T.length ≤ x) := fun z => z.elim k1 (fun z => by rw [ej] at z; exact nI_ge k2 (by omega) z)
        refine lv_iload_n hx hb dX1_repeat_25 rfl (lv_at hl 0 rfl) ?_
        refine lv_bipush (v := nI 120) hx hb dX1_repeat_26 rfl ?_
        refine lv_aload_n hx hb dX1_repeat_28 rfl (lv_at hl 1 rfl) ?_
        refine x1_get (v := .int (nI T.length)) S0 hK hP rfl 1 (by decide) q176 rfl dX1_repeat_29 ?_
        refine kw_isub S0 dX1_repeat_32 (t1) ?_
        refine kw_le (tgt := 39) S0 dX1_repeat_33 (by decide) (by omega) (by omega) (fun k3 => ?_) (fun k3 => ?_)
        · have hg3 : ¬ 120 - T.length < y.toNatClampNeg := by omega
          have loop : ∀ (z i : Nat) (na1 na3 : Int32) (nm0 nm2 : XA), i ≤ K → K < i + z → kx_MI na1 na3 nm0 nm2 (kx_ext T j i) w → ∀ (H : Heap) (locs : List Loc), va_P D vwCl (MWc ad cI na1 na3 nm0 nm2) H → va_D A (MWc ad cI na1 na3 nm0 nm2) → va_S A s.heap H locs → ∀ (ls : Array Slot), lv_has ls 5 [(4, .int (nI i)), (3, .int (nI K)), (0, .ref (ad 0)), (1, .int x), (2, .int y)] → W p l e (headSpec (ws_ yX1_repeat cX1_repeat 5 (some .int)) ({ frames := 2, cells := 0, slots := 0, locals := 48 })).room s m ([.ref (ad 0), .int x, .int y] : List Value).toArray below meth c H locs 0 0 (MQ below (va_Qi (fun (r : Int32) (u : MS) => r = kx_repR T x y ∧ kx_Mi u (kx_repT T x y) w) (kx_B D (fun u : MS => MWs ad cI u) A) A) ([.ref (ad 0), .int x, .int y] : List Value).toArray s 0 0 A) (F0 m 42 ls []) := by
            intro z
            induction z with
            | zero => intro i na1 na3 nm0 nm2 h1 h2; exact absurd h2 (by omega)
            | succ z ih =>
              intro i na1 na3 nm0 nm2 hi hiz hIi H locs hP hD hS ls hl
              have hIi0 := hIi
              obtain ⟨-, -, e6, s4, -⟩ := hIi
              have elen := kx_ext_len T j i
              refine lv_iload hx hb dX1_repeat_42 (lv_at hl 0 rfl) ?_
              refine lv_iload_n hx hb dX1_repeat_44 rfl (lv_at hl 1 rfl) ?_
              refine kw_ge (tgt := 68) S0 dX1_repeat_45 (by decide) (by omega) (by omega) (fun k4 => ?_) (fun k4 => ?_)
              · have eiK : i = K := by omega
                refine lv_aload_n hx hb dX1_repeat_68 rfl (lv_at hl 2 rfl) ?_
                refine x1_get (v := .int na1) S0 hK hP rfl 1 (by decide) q176 rfl dX1_repeat_69 ?_
                refine kw_top (y := nI (T.length + K)) (by rw [e6, elen, eiK]) ?_
                exact W.iret (v := nI (T.length + K)) hx hb hr (fun t ht hW => ⟨⟨nI (T.length + K), ((na1, na3), (nm0, nm2)), rfl, ⟨by rw [kx_repR, if_neg hgood, if_neg hg3, eK], by rw [kx_repT, if_neg hgood, if_neg hg3, ej, nI_clamp hj, ← eK, ← eiK]; exact hIi0⟩, by rw [ht]; exact hP, hD⟩, hS.F ht⟩) hS.2.2 dX1_repeat_72
              · refine lv_aload_n hx hb dX1_repeat_48 rfl (lv_at hl 2 rfl) ?_
                refine lv_aload_n hx hb dX1_repeat_49 rfl (lv_at hl 2 rfl) ?_
                refine x1_get (v := .ref (ad 1)) S0 hK hP rfl 0 (by decide) q175 rfl dX1_repeat_50 ?_
                refine lv_iload_n hx hb dX1_repeat_53 rfl (lv_at hl 3 rfl) ?_
                refine kw_top (y := nI j) ej ?_
                refine lv_iload hx hb dX1_repeat_54 (lv_at hl 0 rfl) ?_
                refine kw_iadd S0 dX1_repeat_56 ?_
                refine kw_iald (y := nI ((kx_ext T j i).getD (j + i) 0)) S0 hK hP 1 0 rfl rfl (by omega) (by decide) (s4 (j + i) (by omega)) dX1_repeat_57 ?_
                refine kw_mi (n := 1) (wc := (MWc ad cI na1 na3 nm0 nm2)) (wr := []) (ci := 1) (As := [.int (nI ((kx_ext T j i).getD (j + i) 0))]) (rest := []) S0 hl.1 hK hP hD hS hA [0, 1, 2] [] rfl rfl (by decide) (by decide) (by decide) rfl rfl (fun sz => met_X1_append l D ad cI cB na1 na3 nm0 nm2 (kx_ext T j i) w hIi0 (nI ((kx_ext T j i).getD (j + i) 0)) sz) (lw_V q200 q189 q190 q15 q191) rfl rfl (by decide +kernel) ⟨Nat.le_of_ble_eq_true rfl, Nat.le_of_ble_eq_true rfl⟩ rfl rfl (Nat.le_of_ble_eq_true rfl) dX1_repeat_58 ⟨Nat.zero_le _, Nat.zero_le _⟩ (fun r2 v H locs hv2 hP hD hS => ?_)
                have hv3 := hv2.2
                rw [kx_ext_app t2 k2 (by omega)] at hv3
                obtain ⟨⟨oa1, oa3⟩, ⟨om0, om2⟩⟩ := v
                have hP : va_P D vwCl (MWc ad cI oa1 oa3 om0 om2) H := hP
                have hD : va_D A (MWc ad cI oa1 oa3 om0 om2) := hD
                refine lv_pop hx hb dX1_repeat_61 rfl ?_
                refine lv_iinc (v := nI (i + 1)) (lv' := [(4, .int (nI (i + 1))), (3, .int (nI K)), (0, .ref (ad 0)), (1, .int x), (2, .int y)]) hx hb dX1_repeat_62 hl (k := 0) rfl (nI_1 i) (by decide) rfl (fun ls hl => ?_)
                refine lv_goto (tgt := 42) hx hb dX1_repeat_65 (by decide) ?_
                exact ih (i + 1) oa1 oa3 om0 om2 (by omega) (by omega) hv3 _ _ hP hD hS ls (lv_sub hl [0, 1, 2, 3, 4] rfl)
          refine lv_iconst (v := nI 0) hx hb dX1_repeat_39 rfl ?_
          refine lv_istore (lv' := [(4, .int (nI 0)), (3, .int (nI K)), (0, .ref (ad 0)), (1, .int x), (2, .int y)]) hx hb dX1_repeat_40 hl (by decide) rfl (fun ls hl => ?_)
          exact loop (K + 1) 0 (nI T.length) (nI w.length) m0 m2 (by omega) (by omega) hI0 _ _ hP hD hS ls (lv_sub hl [0, 1, 2, 3, 4] rfl)
        · have hb3 : 120 - T.length < y.toNatClampNeg := by omega
          refine lv_bipush (v := (-2)) hx hb dX1_repeat_36 rfl ?_
          exact W.iret (v := (-2)) hx hb hr (fun t ht hW => ⟨⟨(-2), ((nI T.length, nI w.length), (m0, m2)), rfl, ⟨by rw [kx_repR, if_neg hgood, if_pos hb3], by rw [kx_repT, if_neg hgood, if_pos hb3]; exact hIx⟩, by rw [ht]; exact hP, hD⟩, hS.F ht⟩) hS.2.2 dX1_repeat_38
      · have hbad : x < 0 ∨ nI T.length ≤ x := Or.inr (by rw [ej]; exact nI_le k2 hj)
        refine lv_bipush (v := (-3)) hx hb dX1_repeat_22 rfl ?_
        exact W.iret (v := (-3)) hx hb hr (fun t ht hW => ⟨⟨(-3), ((nI T.length, nI w.length), (m0, m2)), rfl, ⟨by rw [kx_repR, if_pos hbad], by rw [kx_repT, if_pos hbad]; exact hIx⟩, by rw [ht]; exact hP, hD⟩, hS.F ht⟩) hS.2.2 dX1_repeat_24
  refine lv_if_ge (tgt := 8) hx hb dX1_repeat_1 (by decide) (fun k0 => ?_) (fun k0 => ?_)
  · obtain ⟨jy, hjy, ejy⟩ := nI_of (kx_nlt k0)
    have eKy : y = nI K := by rw [eK, ejy, nI_clamp hjy]
    refine lv_iload_n hx hb dX1_repeat_8 rfl (lv_at hl 2 rfl) ?_
    refine kw_top (y := nI K) eKy ?_
    exact after _ _ hP hD hS ls hl
  · refine lv_iconst (v := nI 0) hx hb dX1_repeat_4 rfl ?_
    refine lv_goto (tgt := 9) hx hb dX1_repeat_5 (by decide) ?_
    refine kw_top (y := nI K) (by rw [eK, kx_clamp_neg k0]) ?_
    exact after _ _ hP hD hS ls hl
set_option maxHeartbeats 4000000 in
set_option maxRecDepth 100000 in
/-- stands(a, b) -/
theorem met_X1_stands (l : Launch) (D : va_G) (ad : Nat → Nat) (cI cB : ClassId) (a1 a3 : Int32) (m0 m2 : XA) (T w : List Nat) (hI : kx_MI a1 a3 m0 m2 T w) (a b : Nat) (ha : a ≤ 120) (hbw : b ≤ w.length) : Met l yX1_stands (ws_ yX1_stands cX1_stands 4 (some .boolean)) ({ frames := 1, cells := 0, slots := 0, locals := 24 }) (kx_Pr D (tys_ cI cB) (MWc ad cI a1 a3 m0 m2) [.ref (ad 0), .int (nI a), .int (nI b)]) (vp_Si (fun r => r = kx_b (kx_std T w a b))) 0 0 (fun _ => False) := by
  refine Met.ofW (cc := cX1_stands) (maxL := 4) (ret := (some .boolean)) (by decide) rfl ?_
  intro p e s m args below meth c s₁ B hml hv
  obtain ⟨rfl, hP, hK⟩ := hv
  have hx := B.exec
  have hb := B.bytes
  have hr := B.returns
  have hts := atoms_spec (ws := ws_ yX1_stands cX1_stands 4 (some .boolean)) B.pre
  have hts : ∀ w ∈ lw_all, w.before _ s = true := fun w h => hts w (List.mem_cons_of_mem _ h)
  have hown : s.vm.findClass RX1 = some m.cls := findClass_of_methodNamed B.named
  have hlocks := B.notSynchronized
  have S0 : CallFix p m c cX1_stands 4 s _ lw_all RX1 := ⟨hx, hb, hml, hown, hts⟩
  have hl := lv_entry ([.ref (ad 0), .int (nI a), .int (nI b)]) (n := 4) (Nat.le_of_ble_eq_true rfl)
  rw [lg_entry_eq]
  generalize (lg_sl ([.ref (ad 0), .int (nI a), .int (nI b)]) ++ List.replicate (4 - (lg_sl ([.ref (ad 0), .int (nI a), .int (nI b)])).length) Slot.unset).toArray = ls at hl ⊢
  have hl : lv_has ls 4 [(0, .ref (ad 0)), (1, .int (nI a)), (2, .int (nI b))] := hl
  have hI0 := hI
  obtain ⟨t1, t2, rfl, t4, p1, p2, rfl, p4⟩ := hI
  have hIx : kx_Mi ((nI T.length, nI w.length), (m0, m2)) T w := hI0
  have loop : ∀ (z q : Nat), q ≤ b → b < q + z → w.take q <+: T.drop a → ∀ (ls : Array Slot), lv_has ls 4 [(3, .int (nI q)), (0, .ref (ad 0)), (1, .int (nI a)), (2, .int (nI b))] → W p l e (headSpec (ws_ yX1_stands cX1_stands 4 (some .boolean)) ({ frames := 1, cells := 0, slots := 0, locals := 24 })).room s m ([.ref (ad 0), .int (nI a), .int (nI b)] : List Value).toArray below meth c s.heap [] 0 0 (MQ below (vp_Si (fun r => r = kx_b (kx_std T w a b))) ([.ref (ad 0), .int (nI a), .int (nI b)] : List Value).toArray s 0 0 (fun _ => False)) (F0 m 2 ls []) := by
    intro z
    induction z with
    | zero => intro q h1 h2; exact absurd h2 (by omega)
    | succ z ih =>
      intro q hq hqz hpf ls hl
      refine lv_iload_n hx hb dX1_stands_2 rfl (lv_at hl 0 rfl) ?_
      refine lv_iload_n hx hb dX1_stands_3 rfl (lv_at hl 3 rfl) ?_
      refine kw_ge (tgt := 31) S0 dX1_stands_4 (by decide) (by omega) (by omega) (fun k1 => ?_) (fun k1 => ?_)
      · have eqb : q = b := by omega
        refine lv_iconst (v := nI 1) hx hb dX1_stands_31 rfl ?_
        exact W.zret (v := nI 1) hx hb hr rfl (fun t ht hW => ⟨_, rfl, by rw [kx_std, ← eqb, decide_eq_true hpf]; rfl, ht⟩) (fun q h => absurd h List.not_mem_nil) dX1_stands_32
      · refine lv_aload_n hx hb dX1_stands_7 rfl (lv_at hl 1 rfl) ?_
        refine lv_iload_n hx hb dX1_stands_8 rfl (lv_at hl 2 rfl) ?_
        refine lv_iload_n hx hb dX1_stands_9 rfl (lv_at hl 0 rfl) ?_
        refine kw_iadd S0 dX1_stands_10 ?_
        refine kw_ro (n := 1) (wc := (MWc ad cI (nI T.length) (nI w.length) m0 m2)) (ci := 1) (As := [.int (nI (a + q))]) (rest := []) S0 hl.1 hK hP [0, 1, 2] rfl rfl rfl (met_X1_letterAt l D ad cI cB (nI T.length) (nI w.length) m0 m2 T w hI0 (nI (a + q))) (lw_V q237 q218 q219 q15 q220) rfl rfl (by decide +kernel) ⟨Nat.le_of_ble_eq_true rfl, Nat.le_of_ble_eq_true rfl⟩ rfl rfl (Nat.le_of_ble_eq_true rfl) dX1_stands_11 ⟨Nat.zero_le _, Nat.zero_le _⟩ (fun r1 hr1 => ?_)
        refine lv_aload_n hx hb dX1_stands_14 rfl (lv_at hl 1 rfl) ?_
        refine x1_get (v := .ref (ad 2)) S0 hK hP rfl 2 (by decide) q177 rfl dX1_stands_15 ?_
        refine lv_iload_n hx hb dX1_stands_18 rfl (lv_at hl 0 rfl) ?_
        refine kw_iald (y := nI (w.getD q 0)) S0 hK hP 2 0 rfl rfl (by omega) (by decide) (p4 q (by omega)) dX1_stands_19 ?_
        refine lv_icmp_eq (tgt := 25) hx hb dX1_stands_20 (by decide) (fun k2 => ?_) (fun k2 => ?_)
        · rw [hr1, kx_la_eq t1 t2 p2 (by omega) (by omega)] at k2
          refine lv_iinc (v := nI (q + 1)) (lv' := [(3, .int (nI (q + 1))), (0, .ref (ad 0)), (1, .int (nI a)), (2, .int (nI b))]) hx hb dX1_stands_25 hl (k := 0) rfl (nI_1 q) (by decide) rfl (fun ls hl => ?_)
          refine lv_goto (tgt := 2) hx hb dX1_stands_28 (by decide) ?_
          exact ih (q + 1) (by omega) (by omega) ((kx_pfx_s (by omega)).mpr ⟨hpf, k2⟩) ls (lv_sub hl [0, 1, 2, 3] rfl)
        · rw [hr1, kx_la_eq t1 t2 p2 (by omega) (by omega)] at k2
          refine lv_iconst (v := nI 0) hx hb dX1_stands_23 rfl ?_
          exact W.zret (v := nI 0) hx hb hr rfl (fun t ht hW => ⟨_, rfl, by rw [kx_std_f k1 hbw k2]; rfl, ht⟩) (fun q h => absurd h List.not_mem_nil) dX1_stands_24
  refine lv_iconst (v := nI 0) hx hb dX1_stands_0 rfl ?_
  refine lv_istore_n (lv' := [(3, .int (nI 0)), (0, .ref (ad 0)), (1, .int (nI a)), (2, .int (nI b))]) hx hb dX1_stands_1 rfl hl (by decide) rfl (fun ls hl => ?_)
  exact loop (b + 1) 0 (by omega) (by omega) (by simp) ls (lv_sub hl [0, 1, 2, 3] rfl)
set_option maxHeartbeats 4000000 in
set_option maxRecDepth 100000 in
/-- occurs(a) -/
theorem met_X1_occurs (l : Launch) (D : va_G) (ad : Nat → Nat) (cI cB : ClassId) (a1 a3 : Int32) (m0 m2 : XA) (T w : List Nat) (hI : kx_MI a1 a3 m0 m2 T w) (a : Nat) (ha : a ≤ 120) : Met l yX1_occurs (ws_ yX1_occurs cX1_occurs 2 (some .boolean)) ({ frames := 2, cells := 0, slots := 0, locals := 48 }) (kx_Pr D (tys_ cI cB) (MWc ad cI a1 a3 m0 m2) [.ref (ad 0), .int (nI a)]) (vp_Si (fun r => r = kx_b (kx_oc T w a))) 0 0 (fun _ => False) := by
  refine Met.ofW (cc := cX1_occurs) (maxL := 2) (ret := (some .boolean)) (by decide) rfl ?_
  intro p e s m args below meth c s₁ B hml hv
  obtain ⟨rfl, hP, hK⟩ := hv
  have hx := B.exec
  have hb := B.bytes
  have hr := B.returns
  have hts := atoms_spec (ws := ws_ yX1_occurs cX1_occurs 2 (some .boolean)) B.pre
  have hts : ∀ w ∈ lw_all, w.before _ s = true := fun w h => hts w (List.mem_cons_of_mem _ h)
  have hown : s.vm.findClass RX1 = some m.cls := findClass_of_methodNamed B.named
  have hlocks := B.notSynchronized
  have S0 : CallFix p m c cX1_occurs 2 s _ lw_all RX1 := ⟨hx, hb, hml, hown, hts⟩
  have hl := lv_entry ([.ref (ad 0), .int (nI a)]) (n := 2) (Nat.le_of_ble_eq_true rfl)
  rw [lg_entry_eq]
  generalize (lg_sl ([.ref (ad 0), .int (nI a)]) ++ List.replicate (2 - (lg_sl ([.ref (ad 0), .int (nI a)])).length) Slot.unset).toArray = ls at hl ⊢
  have hl : lv_has ls 2 [(0, .ref (ad 0)), (1, .int (nI a))] := hl
  have hI0 := hI
  obtain ⟨t1, t2, rfl, t4, p1, p2, rfl, p4⟩ := hI
  have hIx : kx_Mi ((nI T.length, nI w.length), (m0, m2)) T w := hI0
  rcases Nat.eq_zero_or_pos w.length with hw0 | hw0
  · have eoc : kx_oc T w a = false := by
      cases hc : kx_oc T w a with
      | false => rfl
      | true => exact absurd (kx_oc_len hc).1 (by omega)
    refine lv_aload_n hx hb dX1_occurs_0 rfl (lv_at hl 0 rfl) ?_
    refine x1_get (v := .int (nI w.length)) S0 hK hP rfl 3 (by decide) q178 rfl dX1_occurs_1 ?_
    refine lv_if_le (tgt := 23) hx hb dX1_occurs_4 (by decide) (fun _ => ?_) (fun c9 => absurd (by rw [hw0]; decide) c9)
    refine lv_iconst (v := nI 0) hx hb dX1_occurs_23 rfl ?_
    exact W.zret (v := nI 0) hx hb hr rfl (fun t ht hW => ⟨_, rfl, by rw [eoc]; rfl, ht⟩) (fun q h => absurd h List.not_mem_nil) dX1_occurs_24
  · refine lv_aload_n hx hb dX1_occurs_0 rfl (lv_at hl 0 rfl) ?_
    refine x1_get (v := .int (nI w.length)) S0 hK hP rfl 3 (by decide) q178 rfl dX1_occurs_1 ?_
    refine lv_if_le (tgt := 23) hx hb dX1_occurs_4 (by decide) (fun c9 => absurd c9 (nI_nle hw0 (by omega))) (fun _ => ?_)
    refine lv_aload_n hx hb dX1_occurs_7 rfl (lv_at hl 0 rfl) ?_
    refine lv_iload_n hx hb dX1_occurs_8 rfl (lv_at hl 1 rfl) ?_
    refine lv_aload_n hx hb dX1_occurs_9 rfl (lv_at hl 0 rfl) ?_
    refine x1_get (v := .int (nI w.length)) S0 hK hP rfl 3 (by decide) q178 rfl dX1_occurs_10 ?_
    refine kw_ro (n := 2) (wc := (MWc ad cI (nI T.length) (nI w.length) m0 m2)) (ci := 1) (As := [.int (nI a), .int (nI w.length)]) (rest := []) S0 hl.1 hK hP [0, 1, 2] rfl rfl rfl (met_X1_stands l D ad cI cB (nI T.length) (nI w.length) m0 m2 T w hI0 a w.length ha (Nat.le_refl _)) (lw_V q233 q235 qs12 q15 q236) rfl rfl (by decide +kernel) ⟨Nat.le_of_ble_eq_true rfl, Nat.le_of_ble_eq_true rfl⟩ rfl rfl (Nat.le_of_ble_eq_true rfl) dX1_occurs_13 ⟨Nat.zero_le _, Nat.zero_le _⟩ (fun r1 hr1 => ?_)
    rw [← kx_std_oc hw0] at hr1
    rcases kx_b_cases (kx_oc T w a) with ⟨hs, eb⟩ | ⟨hs, eb⟩
    · rw [eb] at hr1
      subst hr1
      refine lv_if_eq (tgt := 23) hx hb dX1_occurs_16 (by decide) (fun c9 => absurd c9 (by decide)) (fun _ => ?_)
      refine lv_iconst (v := nI 1) hx hb dX1_occurs_19 rfl ?_
      refine lv_goto (tgt := 24) hx hb dX1_occurs_20 (by decide) ?_
      exact W.zret (v := nI 1) hx hb hr rfl (fun t ht hW => ⟨_, rfl, eb.symm, ht⟩) (fun q h => absurd h List.not_mem_nil) dX1_occurs_24
    · rw [eb] at hr1
      subst hr1
      refine lv_if_eq (tgt := 23) hx hb dX1_occurs_16 (by decide) (fun _ => ?_) (fun c9 => absurd (nI_0) c9)
      refine lv_iconst (v := nI 0) hx hb dX1_occurs_23 rfl ?_
      exact W.zret (v := nI 0) hx hb hr rfl (fun t ht hW => ⟨_, rfl, eb.symm, ht⟩) (fun q h => absurd h List.not_mem_nil) dX1_occurs_24
set_option maxHeartbeats 4000000 in
set_option maxRecDepth 100000 in
/-- countWithin(x) -/
theorem met_X1_countWithin (l : Launch) (D : va_G) (ad : Nat → Nat) (cI cB : ClassId) (a1 a3 : Int32) (m0 m2 : XA) (T w : List Nat) (hI : kx_MI a1 a3 m0 m2 T w) (x : Int32) : Met l yX1_countWithin (ws_ yX1_countWithin cX1_countWithin 4 (some .int)) ({ frames := 3, cells := 0, slots := 0, locals := 72 }) (kx_Pr D (tys_ cI cB) (MWc ad cI a1 a3 m0 m2) [.ref (ad 0), .int x]) (vp_Si (fun r => r = nI (kx_cnt (fun i => kx_oc T w i && decide (((i + w.length : Nat) : Int) ≤ x.toInt)) T.length))) 0 0 (fun _ => False) := by
  refine Met.ofW (cc := cX1_countWithin) (maxL := 4) (ret := (some .int)) (by decide) rfl ?_
  intro p e s m args below meth c s₁ B hml hv
  obtain ⟨rfl, hP, hK⟩ := hv
  have hx := B.exec
  have hb := B.bytes
  have hr := B.returns
  have hts := atoms_spec (ws := ws_ yX1_countWithin cX1_countWithin 4 (some .int)) B.pre
  have hts : ∀ w ∈ lw_all, w.before _ s = true := fun w h => hts w (List.mem_cons_of_mem _ h)
  have hown : s.vm.findClass RX1 = some m.cls := findClass_of_methodNamed B.named
  have hlocks := B.notSynchronized
  have S0 : CallFix p m c cX1_countWithin 4 s _ lw_all RX1 := ⟨hx, hb, hml, hown, hts⟩
  have hl := lv_entry ([.ref (ad 0), .int x]) (n := 4) (Nat.le_of_ble_eq_true rfl)
  rw [lg_entry_eq]
  generalize (lg_sl ([.ref (ad 0), .int x]) ++ List.replicate (4 - (lg_sl ([.ref (ad 0), .int x])).length) Slot.unset).toArray = ls at hl ⊢
  have hl : lv_has ls 4 [(0, .ref (ad 0)), (1, .int x)] := hl
  have hI0 := hI
  obtain ⟨t1, t2, rfl, t4, p1, p2, rfl, p4⟩ := hI
  have hIx : kx_Mi ((nI T.length, nI w.length), (m0, m2)) T w := hI0
  obtain ⟨F, eF⟩ : ∃ F : Nat → Bool, F = (fun i => kx_oc T w i && decide (((i + w.length : Nat) : Int) ≤ x.toInt)) := ⟨_, rfl⟩
  have loop : ∀ (z i cn : Nat), i ≤ T.length → T.length < i + z → cn = kx_cnt F i → ∀ (ls : Array Slot), lv_has ls 4 [(3, .int (nI i)), (2, .int (nI cn)), (0, .ref (ad 0)), (1, .int x)] → W p l e (headSpec (ws_ yX1_countWithin cX1_countWithin 4 (some .int)) ({ frames := 3, cells := 0, slots := 0, locals := 72 })).room s m ([.ref (ad 0), .int x] : List Value).toArray below meth c s.heap [] 0 0 (MQ below (vp_Si (fun r => r = nI (kx_cnt (fun i => kx_oc T w i && decide (((i + w.length : Nat) : Int) ≤ x.toInt)) T.length))) ([.ref (ad 0), .int x] : List Value).toArray s 0 0 (fun _ => False)) (F0 m 4 ls []) := by
    intro z
    induction z with
    | zero => intro i cn h1 h2; exact absurd h2 (by omega)
    | succ z ih =>
      intro i cn hi hiz hcn ls hl
      have eFi : F i = (kx_oc T w i && decide (((i + w.length : Nat) : Int) ≤ x.toInt)) := by rw [eF]
      refine lv_iload_n hx hb dX1_countWithin_4 rfl (lv_at hl 0 rfl) ?_
      refine lv_aload_n hx hb dX1_countWithin_5 rfl (lv_at hl 2 rfl) ?_
      refine x1_get (v := .int (nI T.length)) S0 hK hP rfl 1 (by decide) q176 rfl dX1_countWithin_6 ?_
      refine kw_ge (tgt := 39) S0 dX1_countWithin_9 (by decide) (by omega) (by omega) (fun k1 => ?_) (fun k1 => ?_)
      · have ei : i = T.length := by omega
        refine lv_iload_n hx hb dX1_countWithin_39 rfl (lv_at hl 1 rfl) ?_
        exact W.iret (v := nI cn) hx hb hr (fun t ht hW => ⟨_, rfl, by rw [hcn, ei, eF], ht⟩) (fun q h => absurd h List.not_mem_nil) dX1_countWithin_40
      · refine lv_aload_n hx hb dX1_countWithin_12 rfl (lv_at hl 2 rfl) ?_
        refine lv_iload_n hx hb dX1_countWithin_13 rfl (lv_at hl 0 rfl) ?_
        refine kw_ro (n := 1) (wc := (MWc ad cI (nI T.length) (nI w.length) m0 m2)) (ci := 1) (As := [.int (nI i)]) (rest := []) S0 hl.1 hK hP [0, 1, 2] rfl rfl rfl (met_X1_occurs l D ad cI cB (nI T.length) (nI w.length) m0 m2 T w hI0 i (by omega)) (lw_V q229 q231 qs11 q15 q232) rfl rfl (by decide +kernel) ⟨Nat.le_of_ble_eq_true rfl, Nat.le_of_ble_eq_true rfl⟩ rfl rfl (Nat.le_of_ble_eq_true rfl) dX1_countWithin_14 ⟨Nat.zero_le _, Nat.zero_le _⟩ (fun r1 hr1 => ?_)
        rcases kx_b_cases (kx_oc T w i) with ⟨hs, eb⟩ | ⟨hs, eb⟩
        · rw [eb] at hr1
          subst hr1
          rw [hs, Bool.true_and] at eFi
          refine lv_if_eq (tgt := 33) hx hb dX1_countWithin_17 (by decide) (fun c9 => absurd c9 (by decide)) (fun _ => ?_)
          refine lv_iload_n hx hb dX1_countWithin_20 rfl (lv_at hl 0 rfl) ?_
          refine lv_aload_n hx hb dX1_countWithin_21 rfl (lv_at hl 2 rfl) ?_
          refine x1_get (v := .int (nI w.length)) S0 hK hP rfl 3 (by decide) q178 rfl dX1_countWithin_22 ?_
          refine kw_iadd S0 dX1_countWithin_25 ?_
          refine lv_iload_n hx hb dX1_countWithin_26 rfl (lv_at hl 3 rfl) ?_
          refine lv_icmp_gt (tgt := 33) hx hb dX1_countWithin_27 (by decide) (fun k2 => ?_) (fun k2 => ?_)
          · rw [kx_lt_toInt (by omega)] at k2
            rw [decide_eq_false k2] at eFi
            refine lv_iinc (v := nI (i + 1)) (lv' := [(3, .int (nI (i + 1))), (2, .int (nI cn)), (0, .ref (ad 0)), (1, .int x)]) hx hb dX1_countWithin_33 hl (k := 0) rfl (nI_1 i) (by decide) rfl (fun ls hl => ?_)
            refine lv_goto (tgt := 4) hx hb dX1_countWithin_36 (by decide) ?_
            exact ih (i + 1) cn (by omega) (by omega) (by rw [kx_cnt_s, eFi, if_neg Bool.false_ne_true, Nat.add_zero]; exact hcn) ls (lv_sub hl [0, 1, 2, 3] rfl)
          · rw [kx_lt_toInt (by omega), Decidable.not_not] at k2
            rw [decide_eq_true k2] at eFi
            refine lv_iinc (v := nI (cn + 1)) (lv' := [(2, .int (nI (cn + 1))), (3, .int (nI i)), (0, .ref (ad 0)), (1, .int x)]) hx hb dX1_countWithin_30 hl (k := 1) rfl (nI_1 cn) (by decide) rfl (fun ls hl => ?_)
            refine lv_iinc (v := nI (i + 1)) (lv' := [(3, .int (nI (i + 1))), (2, .int (nI (cn + 1))), (0, .ref (ad 0)), (1, .int x)]) hx hb dX1_countWithin_33 hl (k := 1) rfl (nI_1 i) (by decide) rfl (fun ls hl => ?_)
            refine lv_goto (tgt := 4) hx hb dX1_countWithin_36 (by decide) ?_
            exact ih (i + 1) (cn + 1) (by omega) (by omega) (by rw [kx_cnt_s, eFi, if_pos rfl, hcn]) ls (lv_sub hl [0, 1, 2, 3] rfl)
        · rw [eb] at hr1
          subst hr1
          rw [hs, Bool.false_and] at eFi
          refine lv_if_eq (tgt := 33) hx hb dX1_countWithin_17 (by decide) (fun _ => ?_) (fun c9 => absurd (nI_0) c9)
          refine lv_iinc (v := nI (i + 1)) (lv' := [(3, .int (nI (i + 1))), (2, .int (nI cn)), (0, .ref (ad 0)), (1, .int x)]) hx hb dX1_countWithin_33 hl (k := 0) rfl (nI_1 i) (by decide) rfl (fun ls hl => ?_)
          refine lv_goto (tgt := 4) hx hb dX1_countWithin_36 (by decide) ?_
          exact ih (i + 1) cn (by omega) (by omega) (by rw [kx_cnt_s, eFi, if_neg Bool.false_ne_true, Nat.add_zero]; exact hcn) ls (lv_sub hl [0, 1, 2, 3] rfl)
  refine lv_iconst (v := nI 0) hx hb dX1_countWithin_0 rfl ?_
  refine lv_istore_n (lv' := [(2, .int (nI 0)), (0, .ref (ad 0)), (1, .int x)]) hx hb dX1_countWithin_1 rfl hl (by decide) rfl (fun ls hl => ?_)
  refine lv_iconst (v := nI 0) hx hb dX1_countWithin_2 rfl ?_
  refine lv_istore_n (lv' := [(3, .int (nI 0)), (2, .int (nI 0)), (0, .ref (ad 0)), (1, .int x)]) hx hb dX1_countWithin_3 rfl hl (by decide) rfl (fun ls hl => ?_)
  exact loop (T.length + 1) 0 0 (by omega) (by omega) rfl ls (lv_sub hl [0, 1, 2, 3] rfl)
set_option maxHeartbeats 4000000 in
set_option maxRecDepth 100000 in
/-- count() -/
theorem met_X1_count (l : Launch) (D : va_G) (ad : Nat → Nat) (cI cB : ClassId) (a1 a3 : Int32) (m0 m2 : XA) (T w : List Nat) (hI : kx_MI a1 a3 m0 m2 T w) : Met l yX1_count (ws_ yX1_count cX1_count 1 (some .int)) ({ frames := 4, cells := 0, slots := 0, locals := 100 }) (kx_Pr D (tys_ cI cB) (MWc ad cI a1 a3 m0 m2) [.ref (ad 0)]) (vp_Si (fun r => r = nI (kx_cnt (fun i => kx_oc T w i && decide (((i + w.length : Nat) : Int) ≤ (nI T.length).toInt)) T.length))) 0 0 (fun _ => False) := by
  refine Met.ofW (cc := cX1_count) (maxL := 1) (ret := (some .int)) (by decide) rfl ?_
  intro p e s m args below meth c s₁ B hml hv
  obtain ⟨rfl, hP, hK⟩ := hv
  have hx := B.exec
  have hb := B.bytes
  have hr := B.returns
  have hts := atoms_spec (ws := ws_ yX1_count cX1_count 1 (some .int)) B.pre
  have hts : ∀ w ∈ lw_all, w.before _ s = true := fun w h => hts w (List.mem_cons_of_mem _ h)
  have hown : s.vm.findClass RX1 = some m.cls := findClass_of_methodNamed B.named
  have hlocks := B.notSynchronized
  have S0 : CallFix p m c cX1_count 1 s _ lw_all RX1 := ⟨hx, hb, hml, hown, hts⟩
  have hl := lv_entry ([.ref (ad 0)]) (n := 1) (Nat.le_of_ble_eq_true rfl)
  rw [lg_entry_eq]
  generalize (lg_sl ([.ref (ad 0)]) ++ List.replicate (1 - (lg_sl ([.ref (ad 0)])).length) Slot.unset).toArray = ls at hl ⊢
  have hl : lv_has ls 1 [(0, .ref (ad 0))] := hl
  have hI0 := hI
  obtain ⟨t1, t2, rfl, t4, p1, p2, rfl, p4⟩ := hI
  have hIx : kx_Mi ((nI T.length, nI w.length), (m0, m2)) T w := hI0
  refine lv_aload_n hx hb dX1_count_0 rfl (lv_at hl 0 rfl) ?_
  refine lv_aload_n hx hb dX1_count_1 rfl (lv_at hl 0 rfl) ?_
  refine x1_get (v := .int (nI T.length)) S0 hK hP rfl 1 (by decide) q176 rfl dX1_count_2 ?_
  refine kw_ro (n := 1) (wc := (MWc ad cI (nI T.length) (nI w.length) m0 m2)) (ci := 1) (As := [.int (nI T.length)]) (rest := []) S0 hl.1 hK hP [0, 1, 2] rfl rfl rfl (met_X1_countWithin l D ad cI cB (nI T.length) (nI w.length) m0 m2 T w hI0 (nI T.length)) (lw_V q225 q226 q227 q15 q228) rfl rfl (by decide +kernel) ⟨Nat.le_of_ble_eq_true rfl, Nat.le_of_ble_eq_true rfl⟩ rfl rfl (Nat.le_of_ble_eq_true rfl) dX1_count_5 ⟨Nat.zero_le _, Nat.zero_le _⟩ (fun r1 hr1 => ?_)
  exact W.iret (v := r1) hx hb hr (fun t ht hW => ⟨_, rfl, hr1, ht⟩) (fun q h => absurd h List.not_mem_nil) dX1_count_8
set_option maxHeartbeats 4000000 in
set_option maxRecDepth 100000 in
/-- position(x) -/
theorem met_X1_position (l : Launch) (D : va_G) (ad : Nat → Nat) (cI cB : ClassId) (a1 a3 : Int32) (m0 m2 : XA) (T w : List Nat) (hI : kx_MI a1 a3 m0 m2 T w) (x : Int32) : Met l yX1_position (ws_ yX1_position cX1_position 4 (some .int)) ({ frames := 3, cells := 0, slots := 0, locals := 72 }) (kx_Pr D (tys_ cI cB) (MWc ad cI a1 a3 m0 m2) [.ref (ad 0), .int x]) (vp_Si (fun r => kx_PosR (kx_oc T w) T.length x r)) 0 0 (fun _ => False) := by
  refine Met.ofW (cc := cX1_position) (maxL := 4) (ret := (some .int)) (by decide) rfl ?_
  intro p e s m args below meth c s₁ B hml hv
  obtain ⟨rfl, hP, hK⟩ := hv
  have hx := B.exec
  have hb := B.bytes
  have hr := B.returns
  have hts := atoms_spec (ws := ws_ yX1_position cX1_position 4 (some .int)) B.pre
  have hts : ∀ w ∈ lw_all, w.before _ s = true := fun w h => hts w (List.mem_cons_of_mem _ h)
  have hown : s.vm.findClass RX1 = some m.cls := findClass_of_methodNamed B.named
  have hlocks := B.notSynchronized
  have S0 : CallFix p m c cX1_position 4 s _ lw_all RX1 := ⟨hx, hb, hml, hown, hts⟩
  have hl := lv_entry ([.ref (ad 0), .int x]) (n := 4) (Nat.le_of_ble_eq_true rfl)
  rw [lg_entry_eq]
  generalize (lg_sl ([.ref (ad 0), .int x]) ++ List.replicate (4 - (lg_sl ([.ref (ad 0), .int x])).length) Slot.unset).toArray = ls at hl ⊢
  have hl : lv_has ls 4 [(0, .ref (ad 0)), (1, .int x)] := hl
  have hI0 := hI
  obtain ⟨t1, t2, rfl, t4, p1, p2, rfl, p4⟩ := hI
  have hIx : kx_Mi ((nI T.length, nI w.length), (m0, m2)) T w := hI0
  have loop : ∀ (z i cn : Nat), i ≤ T.length → T.length < i + z → cn = kx_cnt (kx_oc T w) i → (∀ y, y < i → kx_oc T w y = true → x ≠ nI (kx_cnt (kx_oc T w) y)) → ∀ (ls : Array Slot), lv_has ls 4 [(3, .int (nI i)), (2, .int (nI cn)), (0, .ref (ad 0)), (1, .int x)] → W p l e (headSpec (ws_ yX1_position cX1_position 4 (some .int)) ({ frames := 3, cells := 0, slots := 0, locals := 72 })).room s m ([.ref (ad 0), .int x] : List Value).toArray below meth c s.heap [] 0 0 (MQ below (vp_Si (fun r => kx_PosR (kx_oc T w) T.length x r)) ([.ref (ad 0), .int x] : List Value).toArray s 0 0 (fun _ => False)) (F0 m 4 ls []) := by
    intro z
    induction z with
    | zero => intro i cn h1 h2; exact absurd h2 (by omega)
    | succ z ih =>
      intro i cn hi hiz hcn hno ls hl
      refine lv_iload_n hx hb dX1_position_4 rfl (lv_at hl 0 rfl) ?_
      refine lv_aload_n hx hb dX1_position_5 rfl (lv_at hl 2 rfl) ?_
      refine x1_get (v := .int (nI T.length)) S0 hK hP rfl 1 (by decide) q176 rfl dX1_position_6 ?_
      refine kw_ge (tgt := 36) S0 dX1_position_9 (by decide) (by omega) (by omega) (fun k1 => ?_) (fun k1 => ?_)
      · refine lv_bipush (v := (-4)) hx hb dX1_position_36 rfl ?_
        exact W.iret (v := (-4)) hx hb hr (fun t ht hW => ⟨_, rfl, Or.inr ⟨fun y hy ho => hno y (by omega) ho, rfl⟩, ht⟩) (fun q h => absurd h List.not_mem_nil) dX1_position_38
      · refine lv_aload_n hx hb dX1_position_12 rfl (lv_at hl 2 rfl) ?_
        refine lv_iload_n hx hb dX1_position_13 rfl (lv_at hl 0 rfl) ?_
        refine kw_ro (n := 1) (wc := (MWc ad cI (nI T.length) (nI w.length) m0 m2)) (ci := 1) (As := [.int (nI i)]) (rest := []) S0 hl.1 hK hP [0, 1, 2] rfl rfl rfl (met_X1_occurs l D ad cI cB (nI T.length) (nI w.length) m0 m2 T w hI0 i (by omega)) (lw_V q229 q231 qs11 q15 q232) rfl rfl (by decide +kernel) ⟨Nat.le_of_ble_eq_true rfl, Nat.le_of_ble_eq_true rfl⟩ rfl rfl (Nat.le_of_ble_eq_true rfl) dX1_position_14 ⟨Nat.zero_le _, Nat.zero_le _⟩ (fun r1 hr1 => ?_)
        rcases kx_b_cases (kx_oc T w i) with ⟨hs, eb⟩ | ⟨hs, eb⟩
        · rw [eb] at hr1
          subst hr1
          refine lv_if_eq (tgt := 30) hx hb dX1_position_17 (by decide) (fun c9 => absurd c9 (by decide)) (fun _ => ?_)
          refine lv_iload_n hx hb dX1_position_20 rfl (lv_at hl 1 rfl) ?_
          refine lv_iload_n hx hb dX1_position_21 rfl (lv_at hl 3 rfl) ?_
          refine lv_icmp_ne (tgt := 27) hx hb dX1_position_22 (by decide) (fun k2 => ?_) (fun k2 => ?_)
          · refine lv_iinc (v := nI (cn + 1)) (lv' := [(2, .int (nI (cn + 1))), (3, .int (nI i)), (0, .ref (ad 0)), (1, .int x)]) hx hb dX1_position_27 hl (k := 1) rfl (nI_1 cn) (by decide) rfl (fun ls hl => ?_)
            refine lv_iinc (v := nI (i + 1)) (lv' := [(3, .int (nI (i + 1))), (2, .int (nI (cn + 1))), (0, .ref (ad 0)), (1, .int x)]) hx hb dX1_position_30 hl (k := 1) rfl (nI_1 i) (by decide) rfl (fun ls hl => ?_)
            refine lv_goto (tgt := 4) hx hb dX1_position_33 (by decide) ?_
            refine ih (i + 1) (cn + 1) (by omega) (by omega) (by rw [kx_cnt_s, hs, if_pos rfl, hcn]) (fun y hy ho => ?_) ls (lv_sub hl [0, 1, 2, 3] rfl)
            rcases Nat.lt_or_ge y i with y1 | y1
            · exact hno y y1 ho
            · have ey : y = i := by omega
              rw [ey, ← hcn]
              exact fun y2 => k2 y2.symm
          · refine lv_iload_n hx hb dX1_position_25 rfl (lv_at hl 0 rfl) ?_
            exact W.iret (v := nI i) hx hb hr (fun t ht hW => ⟨_, rfl, Or.inl ⟨i, k1, hs, by rw [← hcn]; exact k2.symm, rfl⟩, ht⟩) (fun q h => absurd h List.not_mem_nil) dX1_position_26
        · rw [eb] at hr1
          subst hr1
          refine lv_if_eq (tgt := 30) hx hb dX1_position_17 (by decide) (fun _ => ?_) (fun c9 => absurd (nI_0) c9)
          refine lv_iinc (v := nI (i + 1)) (lv' := [(3, .int (nI (i + 1))), (2, .int (nI cn)), (0, .ref (ad 0)), (1, .int x)]) hx hb dX1_position_30 hl (k := 0) rfl (nI_1 i) (by decide) rfl (fun ls hl => ?_)
          refine lv_goto (tgt := 4) hx hb dX1_position_33 (by decide) ?_
          refine ih (i + 1) cn (by omega) (by omega) (by rw [kx_cnt_s, hs, if_neg Bool.false_ne_true, Nat.add_zero]; exact hcn) (fun y hy ho => ?_) ls (lv_sub hl [0, 1, 2, 3] rfl)
          rcases Nat.lt_or_ge y i with y1 | y1
          · exact hno y y1 ho
          · have ey : y = i := by omega
            rw [ey, hs] at ho
            exact absurd ho Bool.false_ne_true
  refine lv_iconst (v := nI 0) hx hb dX1_position_0 rfl ?_
  refine lv_istore_n (lv' := [(2, .int (nI 0)), (0, .ref (ad 0)), (1, .int x)]) hx hb dX1_position_1 rfl hl (by decide) rfl (fun ls hl => ?_)
  refine lv_iconst (v := nI 0) hx hb dX1_position_2 rfl ?_
  refine lv_istore_n (lv' := [(3, .int (nI 0)), (2, .int (nI 0)), (0, .ref (ad 0)), (1, .int x)]) hx hb dX1_position_3 rfl hl (by decide) rfl (fun ls hl => ?_)
  exact loop (T.length + 1) 0 0 (by omega) (by omega) rfl (fun y hy => absurd hy (Nat.not_lt_zero _)) ls (lv_sub hl [0, 1, 2, 3] rfl)
set_option maxHeartbeats 4000000 in
set_option maxRecDepth 100000 in
/-- frequency(x, y) -/
theorem met_X1_frequency (l : Launch) (D : va_G) (ad : Nat → Nat) (cI cB : ClassId) (a1 a3 : Int32) (m0 m2 : XA) (T w : List Nat) (hI : kx_MI a1 a3 m0 m2 T w) (x y : Int32) : Met l yX1_frequency (ws_ yX1_frequency cX1_frequency 5 (some .int)) ({ frames := 1, cells := 0, slots := 0, locals := 24 }) (kx_Pr D (tys_ cI cB) (MWc ad cI a1 a3 m0 m2) [.ref (ad 0), .int x, .int y]) (vp_Si (fun r => r = kx_frq T x y)) 0 0 (fun _ => False) := by
  refine Met.ofW (cc := cX1_frequency) (maxL := 5) (ret := (some .int)) (by decide) rfl ?_
  intro p e s m args below meth c s₁ B hml hv
  obtain ⟨rfl, hP, hK⟩ := hv
  have hx := B.exec
  have hb := B.bytes
  have hr := B.returns
  have hts := atoms_spec (ws := ws_ yX1_frequency cX1_frequency 5 (some .int)) B.pre
  have hts : ∀ w ∈ lw_all, w.before _ s = true := fun w h => hts w (List.mem_cons_of_mem _ h)
  have hown : s.vm.findClass RX1 = some m.cls := findClass_of_methodNamed B.named
  have hlocks := B.notSynchronized
  have S0 : CallFix p m c cX1_frequency 5 s _ lw_all RX1 := ⟨hx, hb, hml, hown, hts⟩
  have hl := lv_entry ([.ref (ad 0), .int x, .int y]) (n := 5) (Nat.le_of_ble_eq_true rfl)
  rw [lg_entry_eq]
  generalize (lg_sl ([.ref (ad 0), .int x, .int y]) ++ List.replicate (5 - (lg_sl ([.ref (ad 0), .int x, .int y])).length) Slot.unset).toArray = ls at hl ⊢
  have hl : lv_has ls 5 [(0, .ref (ad 0)), (1, .int x), (2, .int y)] := hl
  have hI0 := hI
  obtain ⟨t1, t2, rfl, t4, p1, p2, rfl, p4⟩ := hI
  have hIx : kx_Mi ((nI T.length, nI w.length), (m0, m2)) T w := hI0
  refine lv_aload_n hx hb dX1_frequency_0 rfl (lv_at hl 0 rfl) ?_
  refine lv_iload_n hx hb dX1_frequency_1 rfl (lv_at hl 1 rfl) ?_
  refine kw_ro (n := 1) (wc := (MWc ad cI (nI T.length) (nI w.length) m0 m2)) (ci := 1) (As := [.int x]) (rest := []) S0 hl.1 hK hP [0, 1, 2] rfl rfl rfl (met_X1_isLetter l D ad cI cB (nI T.length) (nI w.length) m0 m2 x) (lw_V q192 q194 qs10 q15 q195) rfl rfl (by decide +kernel) ⟨Nat.le_of_ble_eq_true rfl, Nat.le_of_ble_eq_true rfl⟩ rfl rfl (Nat.le_of_ble_eq_true rfl) dX1_frequency_2 ⟨Nat.zero_le _, Nat.zero_le _⟩ (fun r1 hr1 => ?_)
  rcases hr1 with ⟨rfl, hbad⟩ | ⟨rfl, k1, k2⟩
  · refine lv_if_ne (tgt := 10) hx hb dX1_frequency_5 (by decide) (fun c9 => absurd (nI_0) c9) (fun _ => ?_)
    refine lv_iconst (v := (-1)) hx hb dX1_frequency_8 rfl ?_
    exact W.iret (v := (-1)) hx hb hr (fun t ht hW => ⟨_, rfl, by rw [kx_frq, if_pos hbad], ht⟩) (fun q h => absurd h List.not_mem_nil) dX1_frequency_9
  · obtain ⟨lt, hlt3, ex⟩ := nI_of2 (n := 3) (by decide) k1 k2
    have hlt : lt < 4 := by omega
    have loop : ∀ (z i cn : Nat), i ≤ T.length → T.length < i + z → i ≤ y.toNatClampNeg → cn = (T.take i).count lt → ∀ (ls : Array Slot), lv_has ls 5 [(4, .int (nI i)), (3, .int (nI cn)), (0, .ref (ad 0)), (1, .int x), (2, .int y)] → W p l e (headSpec (ws_ yX1_frequency cX1_frequency 5 (some .int)) ({ frames := 1, cells := 0, slots := 0, locals := 24 })).room s m ([.ref (ad 0), .int x, .int y] : List Value).toArray below meth c s.heap [] 0 0 (MQ below (vp_Si (fun r => r = kx_frq T x y)) ([.ref (ad 0), .int x, .int y] : List Value).toArray s 0 0 (fun _ => False)) (F0 m 15 ls []) := by
      intro z
      induction z with
      | zero => intro i cn h1 h2; exact absurd h2 (by omega)
      | succ z ih =>
        intro i cn hi hiz hiy hcn ls hl
        refine lv_iload hx hb dX1_frequency_15 (lv_at hl 0 rfl) ?_
        refine lv_iload_n hx hb dX1_frequency_17 rfl (lv_at hl 4 rfl) ?_
        refine lv_icmp_ge (tgt := 50) hx hb dX1_frequency_18 (by decide) (fun k3 => ?_) (fun k3 => ?_)
        · have eiy : i = y.toNatClampNeg := by have h1 := kx_le_clamp (by omega) k3; omega
          refine lv_iload_n hx hb dX1_frequency_50 rfl (lv_at hl 1 rfl) ?_
          exact W.iret (v := nI cn) hx hb hr (fun t ht hW => ⟨_, rfl, by rw [kx_frq, if_neg (fun z => z.elim k1 (fun z => z k2)), ex, nI_clamp (by omega), hcn, eiy], ht⟩) (fun q h => absurd h List.not_mem_nil) dX1_frequency_51
        · have hiy2 := kx_nle_clamp (by omega) k3
          refine lv_iload hx hb dX1_frequency_21 (lv_at hl 0 rfl) ?_
          refine lv_aload_n hx hb dX1_frequency_23 rfl (lv_at hl 2 rfl) ?_
          refine x1_get (v := .int (nI T.length)) S0 hK hP rfl 1 (by decide) q176 rfl dX1_frequency_24 ?_
          refine kw_ge (tgt := 50) S0 dX1_frequency_27 (by decide) (by omega) (by omega) (fun k4 => ?_) (fun k4 => ?_)
          · refine lv_iload_n hx hb dX1_frequency_50 rfl (lv_at hl 1 rfl) ?_
            exact W.iret (v := nI cn) hx hb hr (fun t ht hW => ⟨_, rfl, by rw [kx_frq, if_neg (fun z => z.elim k1 (fun z => z k2)), ex, nI_clamp (by omega), hcn, List.take_of_length_le k4, List.take_of_length_le (by omega)], ht⟩) (fun q h => absurd h List.not_mem_nil) dX1_frequency_51
          · have hTi := kx_mem_getD t2 k4
            refine lv_aload_n hx hb dX1_frequency_30 rfl (lv_at hl 2 rfl) ?_
            refine x1_get (v := .ref (ad 1)) S0 hK hP rfl 0 (by decide) q175 rfl dX1_frequency_31 ?_
            refine lv_iload hx hb dX1_frequency_34 (lv_at hl 0 rfl) ?_
            refine kw_iald (y := nI (T.getD i 0)) S0 hK hP 1 0 rfl rfl (by omega) (by decide) (t4 i k4) dX1_frequency_36 ?_
            refine lv_iload_n hx hb dX1_frequency_37 rfl (lv_at hl 3 rfl) ?_
            refine kw_top (y := nI lt) ex ?_
            refine kw_ne (tgt := 44) S0 dX1_frequency_38 (by decide) (by omega) (by omega) (fun k5 => ?_) (fun k5 => ?_)
            · refine lv_iinc (v := nI (i + 1)) (lv' := [(4, .int (nI (i + 1))), (3, .int (nI cn)), (0, .ref (ad 0)), (1, .int x), (2, .int y)]) hx hb dX1_frequency_44 hl (k := 0) rfl (nI_1 i) (by decide) rfl (fun ls hl => ?_)
              refine lv_goto (tgt := 15) hx hb dX1_frequency_47 (by decide) ?_
              exact ih (i + 1) cn (by omega) (by omega) (by omega) (by rw [kx_take_s k4, List.count_append, kx_cnt1, if_neg k5, Nat.add_zero, hcn]) ls (lv_sub hl [0, 1, 2, 3, 4] rfl)
            · refine lv_iinc (v := nI (cn + 1)) (lv' := [(3, .int (nI (cn + 1))), (4, .int (nI i)), (0, .ref (ad 0)), (1, .int x), (2, .int y)]) hx hb dX1_frequency_41 hl (k := 1) rfl (nI_1 cn) (by decide) rfl (fun ls hl => ?_)
              refine lv_iinc (v := nI (i + 1)) (lv' := [(4, .int (nI (i + 1))), (3, .int (nI (cn + 1))), (0, .ref (ad 0)), (1, .int x), (2, .int y)]) hx hb dX1_frequency_44 hl (k := 1) rfl (nI_1 i) (by decide) rfl (fun ls hl => ?_)
              refine lv_goto (tgt := 15) hx hb dX1_frequency_47 (by decide) ?_
              exact ih (i + 1) (cn + 1) (by omega) (by omega) (by omega) (by rw [kx_take_s k4, List.count_append, kx_cnt1, if_pos k5, hcn]) ls (lv_sub hl [0, 1, 2, 3, 4] rfl)
    refine lv_if_ne (tgt := 10) hx hb dX1_frequency_5 (by decide) (fun _ => ?_) (fun c9 => absurd c9 (by decide))
    refine lv_iconst (v := nI 0) hx hb dX1_frequency_10 rfl ?_
    refine lv_istore_n (lv' := [(3, .int (nI 0)), (0, .ref (ad 0)), (1, .int x), (2, .int y)]) hx hb dX1_frequency_11 rfl hl (by decide) rfl (fun ls hl => ?_)
    refine lv_iconst (v := nI 0) hx hb dX1_frequency_12 rfl ?_
    refine lv_istore (lv' := [(4, .int (nI 0)), (3, .int (nI 0)), (0, .ref (ad 0)), (1, .int x), (2, .int y)]) hx hb dX1_frequency_13 hl (by decide) rfl (fun ls hl => ?_)
    exact loop (T.length + 1) 0 0 (by omega) (by omega) (by omega) (by simp) ls (lv_sub hl [0, 1, 2, 3, 4] rfl)
set_option maxHeartbeats 4000000 in
set_option maxRecDepth 100000 in
/-- overlap() -/
theorem met_X1_overlap (l : Launch) (D : va_G) (ad : Nat → Nat) (cI cB : ClassId) (a1 a3 : Int32) (m0 m2 : XA) (T w : List Nat) (hI : kx_MI a1 a3 m0 m2 T w) : Met l yX1_overlap (ws_ yX1_overlap cX1_overlap 3 (some .int)) ({ frames := 2, cells := 0, slots := 0, locals := 48 }) (kx_Pr D (tys_ cI cB) (MWc ad cI a1 a3 m0 m2) [.ref (ad 0)]) (vp_Si (fun r => r = nI (kx_ov w T))) 0 0 (fun _ => False) := by
  refine Met.ofW (cc := cX1_overlap) (maxL := 3) (ret := (some .int)) (by decide) rfl ?_
  intro p e s m args below meth c s₁ B hml hv
  obtain ⟨rfl, hP, hK⟩ := hv
  have hx := B.exec
  have hb := B.bytes
  have hr := B.returns
  have hts := atoms_spec (ws := ws_ yX1_overlap cX1_overlap 3 (some .int)) B.pre
  have hts : ∀ w ∈ lw_all, w.before _ s = true := fun w h => hts w (List.mem_cons_of_mem _ h)
  have hown : s.vm.findClass RX1 = some m.cls := findClass_of_methodNamed B.named
  have hlocks := B.notSynchronized
  have S0 : CallFix p m c cX1_overlap 3 s _ lw_all RX1 := ⟨hx, hb, hml, hown, hts⟩
  have hl := lv_entry ([.ref (ad 0)]) (n := 3) (Nat.le_of_ble_eq_true rfl)
  rw [lg_entry_eq]
  generalize (lg_sl ([.ref (ad 0)]) ++ List.replicate (3 - (lg_sl ([.ref (ad 0)])).length) Slot.unset).toArray = ls at hl ⊢
  have hl : lv_has ls 3 [(0, .ref (ad 0))] := hl
  have hI0 := hI
  obtain ⟨t1, t2, rfl, t4, p1, p2, rfl, p4⟩ := hI
  have hIx : kx_Mi ((nI T.length, nI w.length), (m0, m2)) T w := hI0
  obtain ⟨F, eF⟩ : ∃ F : Nat → Bool, F = fun k => kx_std T w (T.length - k) k := ⟨_, rfl⟩
  have eov : kx_ov w T = kx_best F (min w.length T.length) := by rw [eF]; exact kx_ov_std T w
  have loop : ∀ (z k : Nat), k ≤ min w.length T.length → min w.length T.length < k + z → ∀ (ls : Array Slot), lv_has ls 3 [(2, .int (nI (k + 1))), (1, .int (nI (kx_best F k))), (0, .ref (ad 0))] → W p l e (headSpec (ws_ yX1_overlap cX1_overlap 3 (some .int)) ({ frames := 2, cells := 0, slots := 0, locals := 48 })).room s m ([.ref (ad 0)] : List Value).toArray below meth c s.heap [] 0 0 (MQ below (vp_Si (fun r => r = nI (kx_ov w T))) ([.ref (ad 0)] : List Value).toArray s 0 0 (fun _ => False)) (F0 m 4 ls []) := by
    intro z
    induction z with
    | zero => intro k h1 h2; exact absurd h2 (by omega)
    | succ z ih =>
      intro k hk hkz ls hl
      have eFk : F (k + 1) = kx_std T w (T.length - (k + 1)) (k + 1) := by rw [eF]
      refine lv_iload_n hx hb dX1_overlap_4 rfl (lv_at hl 0 rfl) ?_
      refine lv_aload_n hx hb dX1_overlap_5 rfl (lv_at hl 2 rfl) ?_
      refine x1_get (v := .int (nI w.length)) S0 hK hP rfl 3 (by decide) q178 rfl dX1_overlap_6 ?_
      refine kw_gt (tgt := 42) S0 dX1_overlap_9 (by decide) (by omega) (by omega) (fun k1 => ?_) (fun k1 => ?_)
      · refine lv_iload_n hx hb dX1_overlap_42 rfl (lv_at hl 1 rfl) ?_
        exact W.iret (v := nI (kx_best F k)) hx hb hr (fun t ht hW => ⟨_, rfl, by rw [eov, show min w.length T.length = k by omega], ht⟩) (fun q h => absurd h List.not_mem_nil) dX1_overlap_43
      · refine lv_iload_n hx hb dX1_overlap_12 rfl (lv_at hl 0 rfl) ?_
        refine lv_aload_n hx hb dX1_overlap_13 rfl (lv_at hl 2 rfl) ?_
        refine x1_get (v := .int (nI T.length)) S0 hK hP rfl 1 (by decide) q176 rfl dX1_overlap_14 ?_
        refine kw_gt (tgt := 42) S0 dX1_overlap_17 (by decide) (by omega) (by omega) (fun k2 => ?_) (fun k2 => ?_)
        · refine lv_iload_n hx hb dX1_overlap_42 rfl (lv_at hl 1 rfl) ?_
          exact W.iret (v := nI (kx_best F k)) hx hb hr (fun t ht hW => ⟨_, rfl, by rw [eov, show min w.length T.length = k by omega], ht⟩) (fun q h => absurd h List.not_mem_nil) dX1_overlap_43
        · refine lv_aload_n hx hb dX1_overlap_20 rfl (lv_at hl 2 rfl) ?_
          refine lv_aload_n hx hb dX1_overlap_21 rfl (lv_at hl 2 rfl) ?_
          refine x1_get (v := .int (nI T.length)) S0 hK hP rfl 1 (by decide) q176 rfl dX1_overlap_22 ?_
          refine lv_iload_n hx hb dX1_overlap_25 rfl (lv_at hl 0 rfl) ?_
          refine kw_isub S0 dX1_overlap_26 (by omega) ?_
          refine lv_iload_n hx hb dX1_overlap_27 rfl (lv_at hl 0 rfl) ?_
          refine kw_ro (n := 2) (wc := (MWc ad cI (nI T.length) (nI w.length) m0 m2)) (ci := 1) (As := [.int (nI (T.length - (k + 1))), .int (nI (k + 1))]) (rest := []) S0 hl.1 hK hP [0, 1, 2] rfl rfl rfl (met_X1_stands l D ad cI cB (nI T.length) (nI w.length) m0 m2 T w hI0 (T.length - (k + 1)) (k + 1) (by omega) (by omega)) (lw_V q233 q235 qs12 q15 q236) rfl rfl (by decide +kernel) ⟨Nat.le_of_ble_eq_true rfl, Nat.le_of_ble_eq_true rfl⟩ rfl rfl (Nat.le_of_ble_eq_true rfl) dX1_overlap_28 ⟨Nat.zero_le _, Nat.zero_le _⟩ (fun r1 hr1 => ?_)
          rw [← eFk] at hr1
          rcases kx_b_cases (F (k + 1)) with ⟨hs, eb⟩ | ⟨hs, eb⟩
          · rw [eb] at hr1
            subst hr1
            refine lv_if_eq (tgt := 36) hx hb dX1_overlap_31 (by decide) (fun c9 => absurd c9 (by decide)) (fun _ => ?_)
            refine lv_iload_n hx hb dX1_overlap_34 rfl (lv_at hl 0 rfl) ?_
            refine lv_istore_n (lv' := [(1, .int (nI (k + 1))), (2, .int (nI (k + 1))), (0, .ref (ad 0))]) hx hb dX1_overlap_35 rfl hl (by decide) rfl (fun ls hl => ?_)
            refine lv_iinc (v := nI (k + 1 + 1)) (lv' := [(2, .int (nI (k + 1 + 1))), (1, .int (nI (k + 1))), (0, .ref (ad 0))]) hx hb dX1_overlap_36 hl (k := 1) rfl (nI_1 (k + 1)) (by decide) rfl (fun ls hl => ?_)
            refine lv_goto (tgt := 4) hx hb dX1_overlap_39 (by decide) ?_
            exact ih (k + 1) (by omega) (by omega) ls (by rw [kx_best_s, if_pos hs]; exact lv_sub hl [0, 1, 2] rfl)
          · rw [eb] at hr1
            subst hr1
            refine lv_if_eq (tgt := 36) hx hb dX1_overlap_31 (by decide) (fun _ => ?_) (fun c9 => absurd (nI_0) c9)
            refine lv_iinc (v := nI (k + 1 + 1)) (lv' := [(2, .int (nI (k + 1 + 1))), (1, .int (nI (kx_best F k))), (0, .ref (ad 0))]) hx hb dX1_overlap_36 hl (k := 0) rfl (nI_1 (k + 1)) (by decide) rfl (fun ls hl => ?_)
            refine lv_goto (tgt := 4) hx hb dX1_overlap_39 (by decide) ?_
            exact ih (k + 1) (by omega) (by omega) ls (by rw [kx_best_s, if_neg (by rw [hs]; exact Bool.false_ne_true)]; exact lv_sub hl [0, 1, 2] rfl)
  refine lv_iconst (v := nI 0) hx hb dX1_overlap_0 rfl ?_
  refine lv_istore_n (lv' := [(1, .int (nI 0)), (0, .ref (ad 0))]) hx hb dX1_overlap_1 rfl hl (by decide) rfl (fun ls hl => ?_)
  refine lv_iconst (v := nI 1) hx hb dX1_overlap_2 rfl ?_
  refine lv_istore_n (lv' := [(2, .int (nI 1)), (1, .int (nI 0)), (0, .ref (ad 0))]) hx hb dX1_overlap_3 rfl hl (by decide) rfl (fun ls hl => ?_)
  exact loop (min w.length T.length + 1) 0 (by omega) (by omega) ls (lv_sub hl [0, 1, 2] rfl)
end
section
/-! THE CONSTRUCTORS of both classes (printed by gen/init.py) -/
theorem kx_oneI {D : va_G} {cI cB cA : ClassId} {s : State} (h : va_K D vwCl (tys_ cI cB ++ [(cA, .int)]) s) : cA = cI := by
  have h1 : s.vm.findClass ("[" ++ FieldType.int.toString) = some cI := (h.2 0 (cI, .int) rfl).2
  have h2 : s.vm.findClass ("[" ++ FieldType.int.toString) = some cA := (h.2 2 (cA, .int) rfl).2
  exact Option.some.inj (h2.symm.trans h1)
theorem kx_oneB {D : va_G} {cI cB cA : ClassId} {s : State} (h : va_K D vwCl (tys_ cI cB ++ [(cA, .byte)]) s) : cA = cB := by
  have h1 : s.vm.findClass ("[" ++ FieldType.byte.toString) = some cB := (h.2 1 (cB, .byte) rfl).2
  have h2 : s.vm.findClass ("[" ++ FieldType.byte.toString) = some cA := (h.2 2 (cA, .byte) rfl).2
  exact Option.some.inj (h2.symm.trans h1)
def kx_adf (o q1 q2 q3 q4 q5 q6 q7 q8 q9 q10 q11 : Nat) : Nat → Nat := fun k => match k with
  | 0 => o
  | 1 => q1
  | 2 => q2
  | 3 => q3
  | 4 => q4
  | 5 => q5
  | 8 => q6
  | 9 => q7
  | 12 => q8
  | 13 => q9
  | 15 => q10
  | _ => q11
def kx_kdf (o q1 q2 : Nat) : Nat → Nat := fun k => match k with
  | 0 => o
  | 1 => q1
  | _ => q2
abbrev kx_W0 (o : Nat) : va_W := [(o, .inr (0, [.int 0, .null, .null, .null, .null, .null, .int 0, .int 0, .null, .null, .int 0, .int 0, .null, .null, .int 0, .null, .null]))]
abbrev kx_M0 (o : Nat) : va_W := [(o, .inr (1, [.null, .int 0, .null, .int 0]))]
section KI
variable {p : Program} {l : Launch} {e : Env} {R : Room} {s : State} {m : MethodId} {args : Array Value} {below : List Frame} {meth : Method} {c : Code} {H : Heap} {locs : List Loc} {cells slots : Nat} {Q : State → Prop}
variable {cc : ByteArray} {pc nL : Nat} {ls : Array Slot} {rest st : List Value} {D : va_G} {A : Nat → Prop} {ws : va_W} {H0 : Heap} {own : String} {cI cB : ClassId}
theorem kw_newI (S : CallFix p m c cc nL s args lw_all own) (hK : va_K D vwCl (tys_ cI cB) s) (hP : va_P D vwCl ws H) (hD : va_D A ws) (hS : va_S A H0 H locs) (hA : ∀ q, H0.size ≤ q → A q) (k : Nat) (hk : k < 10000) (hcells : cells + 1 ≤ R.cells) (hslots : slots + k ≤ R.slots) (hdg : decode cc pc = .ok (.newarray .int, 2))
    (kk : ∀ (q : Nat) (H1 : Heap), va_P D vwCl (ws ++ [(q, .inl (cI, k, .inl (fun _ => 0)))]) H1 → va_D A (ws ++ [(q, .inl (cI, k, .inl (fun _ => 0)))]) → va_S A H0 H1 locs → W p l e R s m args below meth c H1 locs (cells + 1) (slots + k) Q (F0 m (pc + 2) ls (.ref q :: rest))) : W p l e R s m args below meth c H locs cells slots Q (F0 m pc ls (.int (nI k) :: rest)) := by
  refine va_newa (atype := .int) (a0 := (k, .inl (fun _ => 0))) (ty := .int) S.1 S.2.1 (S.2.2.2.2 _ q84) rfl hK hP hD hS hA (fun _ => rfl) (nI_pos (by omega)) (nI_clamp (by omega)) (by show k * 4 ≤ _; omega) hcells hslots hdg (fun q cA H1 hK2 hP2 hD2 hS2 => ?_)
  have ec := kx_oneI hK2
  subst ec
  exact kk q H1 hP2 hD2 hS2
theorem kw_newB (S : CallFix p m c cc nL s args lw_all own) (hK : va_K D vwCl (tys_ cI cB) s) (hP : va_P D vwCl ws H) (hD : va_D A ws) (hS : va_S A H0 H locs) (hA : ∀ q, H0.size ≤ q → A q) (k : Nat) (hk : k < 10000) (hcells : cells + 1 ≤ R.cells) (hslots : slots + k ≤ R.slots) (hdg : decode cc pc = .ok (.newarray .byte, 2))
    (kk : ∀ (q : Nat) (H1 : Heap), va_P D vwCl (ws ++ [(q, .inl (cB, k, .inl (fun _ => 0)))]) H1 → va_D A (ws ++ [(q, .inl (cB, k, .inl (fun _ => 0)))]) → va_S A H0 H1 locs → W p l e R s m args below meth c H1 locs (cells + 1) (slots + k) Q (F0 m (pc + 2) ls (.ref q :: rest))) : W p l e R s m args below meth c H locs cells slots Q (F0 m pc ls (.int (nI k) :: rest)) := by
  refine va_newa (atype := .byte) (a0 := (k, .inl (fun _ => 0))) (ty := .byte) S.1 S.2.1 (S.2.2.2.2 _ q85) rfl hK hP hD hS hA (fun _ => rfl) (nI_pos (by omega)) (nI_clamp (by omega)) (by show k * 1 ≤ _; omega) hcells hslots hdg (fun q cA H1 hK2 hP2 hD2 hS2 => ?_)
  have ec := kx_oneB hK2
  subst ec
  exact kk q H1 hP2 hD2 hS2
variable {y : MethodName} {bytes : ByteArray} {maxL n index mc ms : Nat} {rm : Room} {b : Addr} {As : List Value} {wc wr : va_W} {tys : List (ClassId × FieldType)}
/-- a constructor's call -/
theorem kw_init {S0 : Type} {post : S0 → Prop} {wo : S0 → va_W} (S : CallFix p m c cc nL s args lw_all own) (hls : ls.size = nL) (hK : va_K D vwCl tys s) (hP : va_P D vwCl ws H) (hD : va_D A ws) (hS : va_S A s.heap H locs) (hA : ∀ q, s.heap.size ≤ q → A q) (isC isR : List Nat) (hC : isC.map (fun i => ws[i]?) = wc.map some) (hR0 : isR.map (fun i => ws[i]?) = wr.map some) (hnC : va_nd isC = true) (hnR : va_nd isR = true) (hdis : ∀ i ∈ isR, i ∉ isC)
    (hM : ∀ sz, Met l y (ws_ y bytes maxL none) rm (kx_Pm D tys wc sz (.ref b :: As)) (va_Qv post (kx_B D wo (va_A wc sz)) (va_A wc sz)) mc ms (va_A wc sz))
    (hcode : Cond.code y bytes maxL none ∈ lw_all) (hrc : rm.cells = mc) (hrs : rm.slots = ms) (hini : Cond.initialized y.cls ∈ lw_all) (hlk : Cond.methodLink own index y ∈ lw_all) (hin : Cond.instanceMethod y ∈ lw_all) (hy1 : y.name = "<init>")
    (hd : y.cls ≠ "java/lang/invoke/MethodHandle" ∧ y.cls ≠ "java/lang/invoke/VarHandle" ∧ (parseMethodDescriptor y.desc).map (fun d => d.parameters.length) = some n) (hR : rm.frames + 1 ≤ R.frames ∧ 8 + (maxL + 11) + rm.locals ≤ R.locals)
    (hn : As.length = n) (hst : st = As.reverse ++ .ref b :: rest) (hrest : (rest.map fun v => v.category).sum ≤ 8) (hdg : decode cc pc = .ok (.invokespecial index, 3)) (hf : cells + mc ≤ R.cells ∧ slots + ms ≤ R.slots)
    (kk : ∀ (u : S0) (H1 : Heap) (locs1 : List Loc), post u → va_P D vwCl (wr ++ wo u) H1 → va_D A (wr ++ wo u) → va_S A s.heap H1 locs1 → W p l e R s m args below meth c H1 locs1 (cells + mc) (slots + ms) Q (F0 m (pc + 3) ls rest)) :
    W p l e R s m args below meth c H locs cells slots Q (F0 m pc ls st) := by
  have hPc : va_P D vwCl wc H := hP.sub isC (kx_filterMap hC)
  have hDc : va_D A wc := hD.sub isC hnC hC
  have hFc := va_free (wc := wc) hD hS hA isC hC
  have hts := S.2.2.2.2
  refine va_callv (va_runI (As := As) (rest := rest) S (hM H.size) (cwI n hts (lw_meth hcode) rfl hrc hrs (hts _ hini) (hts _ hlk) (hts _ hin) hy1 hd hR) ⟨kx_Pm_blind, fun U hU hW => ⟨rfl, by rw [hU], by rw [hU]; exact hPc, va_K.moved hW.alike hK, hDc.weaken (fun _ _ _ _ => trivial)⟩⟩ rfl hn hls hst (lv_room hrest) hdg hf) hS (fun q _ h => hFc q h) hFc (fun u t H1 locs1 ht hvm hw hB hz hk hS1 => ?_)
  obtain ⟨hP1, hD1⟩ := hB
  rw [ht] at hP1
  obtain ⟨hP2, hD2⟩ := va_join hP hD isC isR hC hR0 hnR hdis hk hFc hP1 hD1
  exact kk u H1 locs1 hw hP2 hD2 hS1
end KI
set_option maxHeartbeats 4000000 in
set_option maxRecDepth 100000 in
/-- the constructor -/
theorem met_X0_init (l : Launch) (D : va_G) (cI cB : ClassId) (o : Nat) (sz : Nat) : Met l yX0_init (ws_ yX0_init cX0_init 1 none) ({ frames := 2, cells := 11, slots := 4519, locals := 48 }) (kx_Pm D (tys_ cI cB) (kx_W0 o) sz [.ref o]) (va_Qv (fun (v : (Nat → Nat) × XS) => v.1 0 = o ∧ kx_Inv v.2 [] []) (kx_B D (fun v : (Nat → Nat) × XS => XWs v.1 cI cB v.2) (va_A (kx_W0 o) sz)) (va_A (kx_W0 o) sz)) 11 4519 (va_A (kx_W0 o) sz) := by
  refine Met.ofW (cc := cX0_init) (maxL := 1) (ret := none) (by decide) rfl ?_
  intro p e s m args below meth c s₁ B hml hv
  obtain ⟨rfl, hsz, hP, hK, hD0⟩ := hv
  have hx := B.exec
  have hb := B.bytes
  have hr := B.returns
  have hts := atoms_spec (ws := ws_ yX0_init cX0_init 1 none) B.pre
  have hts : ∀ w ∈ lw_all, w.before _ s = true := fun w h => hts w (List.mem_cons_of_mem _ h)
  have hown : s.vm.findClass RX0 = some m.cls := findClass_of_methodNamed B.named
  have hlocks := B.notSynchronized
  have hin : meth.name = "<init>" := (name_of_methodNamed B.named B.method).1
  have S0 : CallFix p m c cX0_init 1 s _ lw_all RX0 := ⟨hx, hb, hml, hown, hts⟩
  subst hsz
  have hD := hD0.self (sz := s.heap.size)
  generalize hAe : va_A (kx_W0 o) s.heap.size = A at hD ⊢
  have hA : ∀ q : Nat, s.heap.size ≤ q → A q := fun q h => by rw [← hAe]; exact Or.inr h
  have hS : va_S A s.heap s.heap [] := va_S.rf
  have hl := lv_entry ([.ref o]) (n := 1) (Nat.le_of_ble_eq_true rfl)
  rw [lg_entry_eq]
  generalize (lg_sl ([.ref o]) ++ List.replicate (1 - (lg_sl ([.ref o])).length) Slot.unset).toArray = ls at hl ⊢
  have hl : lv_has ls 1 [(0, .ref o)] := hl
  refine lv_aload_n hx hb dX0_init_0 rfl (lv_at hl 0 rfl) ?_
  refine W.objInit hx hb hown (hts _ q21) (hts _ q22) (hts _ q23) rfl (by rw [hml]; exact hl.1) rfl dX0_init_1 (Nat.le_of_ble_eq_true rfl) (Nat.le_of_ble_eq_true rfl) ?_
  refine W.eq (g2 := F0 m 4 ls []) rfl ?_
  refine lv_aload_n hx hb dX0_init_4 rfl (lv_at hl 0 rfl) ?_
  refine lv_sipush (v := nI 128) hx hb dX0_init_5 rfl ?_
  refine kw_newI S0 hK hP hD hS hA 128 (by decide) (Nat.le_of_ble_eq_true rfl) (Nat.le_of_ble_eq_true rfl) dX0_init_8 (fun q1 H hP hD hS => ?_)
  have hP : va_P D vwCl [(o, .inr (0, [.int 0, .null, .null, .null, .null, .null, .int 0, .int 0, .null, .null, .int 0, .int 0, .null, .null, .int 0, .null, .null])), (q1, .inl (cI, 128, .inl (fun _ => 0)))] H := hP
  have hD : va_D A [(o, .inr (0, [.int 0, .null, .null, .null, .null, .null, .int 0, .int 0, .null, .null, .int 0, .int 0, .null, .null, .int 0, .null, .null])), (q1, .inl (cI, 128, .inl (fun _ => 0)))] := hD
  refine W.widen (k := 1) (n := 128) (Nat.le_of_ble_eq_true rfl) (Nat.le_of_ble_eq_true rfl) ?_
  refine x0_putF (v := .ref q1) S0 hK hP hD hS hin rfl 1 (by decide) q33 rfl rfl rfl rfl (Nat.le_of_ble_eq_true rfl) dX0_init_10 (fun H locs hP hD hS => ?_)
  have hP : va_P D vwCl [(o, .inr (0, [.int 0, .ref q1, .null, .null, .null, .null, .int 0, .int 0, .null, .null, .int 0, .int 0, .null, .null, .int 0, .null, .null])), (q1, .inl (cI, 128, .inl (fun _ => 0)))] H := hP
  have hD : va_D A [(o, .inr (0, [.int 0, .ref q1, .null, .null, .null, .null, .int 0, .int 0, .null, .null, .int 0, .int 0, .null, .null, .int 0, .null, .null])), (q1, .inl (cI, 128, .inl (fun _ => 0)))] := hD
  refine lv_aload_n hx hb dX0_init_13 rfl (lv_at hl 0 rfl) ?_
  refine lv_sipush (v := nI 128) hx hb dX0_init_14 rfl ?_
  refine kw_newI S0 hK hP hD hS hA 128 (by decide) (Nat.le_of_ble_eq_true rfl) (Nat.le_of_ble_eq_true rfl) dX0_init_17 (fun q2 H hP hD hS => ?_)
  have hP : va_P D vwCl [(o, .inr (0, [.int 0, .ref q1, .null, .null, .null, .null, .int 0, .int 0, .null, .null, .int 0, .int 0, .null, .null, .int 0, .null, .null])), (q1, .inl (cI, 128, .inl (fun _ => 0))), (q2, .inl (cI, 128, .inl (fun _ => 0)))] H := hP
  have hD : va_D A [(o, .inr (0, [.int 0, .ref q1, .null, .null, .null, .null, .int 0, .int 0, .null, .null, .int 0, .int 0, .null, .null, .int 0, .null, .null])), (q1, .inl (cI, 128, .inl (fun _ => 0))), (q2, .inl (cI, 128, .inl (fun _ => 0)))] := hD
  refine W.widen (k := 2) (n := 256) (Nat.le_of_ble_eq_true rfl) (Nat.le_of_ble_eq_true rfl) ?_
  refine x0_putF (v := .ref q2) S0 hK hP hD hS hin rfl 2 (by decide) q34 rfl rfl rfl rfl (Nat.le_of_ble_eq_true rfl) dX0_init_19 (fun H locs hP hD hS => ?_)
  have hP : va_P D vwCl [(o, .inr (0, [.int 0, .ref q1, .ref q2, .null, .null, .null, .int 0, .int 0, .null, .null, .int 0, .int 0, .null, .null, .int 0, .null, .null])), (q1, .inl (cI, 128, .inl (fun _ => 0))), (q2, .inl (cI, 128, .inl (fun _ => 0)))] H := hP
  have hD : va_D A [(o, .inr (0, [.int 0, .ref q1, .ref q2, .null, .null, .null, .int 0, .int 0, .null, .null, .int 0, .int 0, .null, .null, .int 0, .null, .null])), (q1, .inl (cI, 128, .inl (fun _ => 0))), (q2, .inl (cI, 128, .inl (fun _ => 0)))] := hD
  refine lv_aload_n hx hb dX0_init_22 rfl (lv_at hl 0 rfl) ?_
  refine lv_sipush (v := nI 128) hx hb dX0_init_23 rfl ?_
  refine kw_newI S0 hK hP hD hS hA 128 (by decide) (Nat.le_of_ble_eq_true rfl) (Nat.le_of_ble_eq_true rfl) dX0_init_26 (fun q3 H hP hD hS => ?_)
  have hP : va_P D vwCl [(o, .inr (0, [.int 0, .ref q1, .ref q2, .null, .null, .null, .int 0, .int 0, .null, .null, .int 0, .int 0, .null, .null, .int 0, .null, .null])), (q1, .inl (cI, 128, .inl (fun _ => 0))), (q2, .inl (cI, 128, .inl (fun _ => 0))), (q3, .inl (cI, 128, .inl (fun _ => 0)))] H := hP
  have hD : va_D A [(o, .inr (0, [.int 0, .ref q1, .ref q2, .null, .null, .null, .int 0, .int 0, .null, .null, .int 0, .int 0, .null, .null, .int 0, .null, .null])), (q1, .inl (cI, 128, .inl (fun _ => 0))), (q2, .inl (cI, 128, .inl (fun _ => 0))), (q3, .inl (cI, 128, .inl (fun _ => 0)))] := hD
  refine W.widen (k := 3) (n := 384) (Nat.le_of_ble_eq_true rfl) (Nat.le_of_ble_eq_true rfl) ?_
  refine x0_putF (v := .ref q3) S0 hK hP hD hS hin rfl 3 (by decide) q35 rfl rfl rfl rfl (Nat.le_of_ble_eq_true rfl) dX0_init_28 (fun H locs hP hD hS => ?_)
  have hP : va_P D vwCl [(o, .inr (0, [.int 0, .ref q1, .ref q2, .ref q3, .null, .null, .int 0, .int 0, .null, .null, .int 0, .int 0, .null, .null, .int 0, .null, .null])), (q1, .inl (cI, 128, .inl (fun _ => 0))), (q2, .inl (cI, 128, .inl (fun _ => 0))), (q3, .inl (cI, 128, .inl (fun _ => 0)))] H := hP
  have hD : va_D A [(o, .inr (0, [.int 0, .ref q1, .ref q2, .ref q3, .null, .null, .int 0, .int 0, .null, .null, .int 0, .int 0, .null, .null, .int 0, .null, .null])), (q1, .inl (cI, 128, .inl (fun _ => 0))), (q2, .inl (cI, 128, .inl (fun _ => 0))), (q3, .inl (cI, 128, .inl (fun _ => 0)))] := hD
  refine lv_aload_n hx hb dX0_init_31 rfl (lv_at hl 0 rfl) ?_
  refine lv_sipush (v := nI 512) hx hb dX0_init_32 rfl ?_
  refine kw_newI S0 hK hP hD hS hA 512 (by decide) (Nat.le_of_ble_eq_true rfl) (Nat.le_of_ble_eq_true rfl) dX0_init_35 (fun q4 H hP hD hS => ?_)
  have hP : va_P D vwCl [(o, .inr (0, [.int 0, .ref q1, .ref q2, .ref q3, .null, .null, .int 0, .int 0, .null, .null, .int 0, .int 0, .null, .null, .int 0, .null, .null])), (q1, .inl (cI, 128, .inl (fun _ => 0))), (q2, .inl (cI, 128, .inl (fun _ => 0))), (q3, .inl (cI, 128, .inl (fun _ => 0))), (q4, .inl (cI, 512, .inl (fun _ => 0)))] H := hP
  have hD : va_D A [(o, .inr (0, [.int 0, .ref q1, .ref q2, .ref q3, .null, .null, .int 0, .int 0, .null, .null, .int 0, .int 0, .null, .null, .int 0, .null, .null])), (q1, .inl (cI, 128, .inl (fun _ => 0))), (q2, .inl (cI, 128, .inl (fun _ => 0))), (q3, .inl (cI, 128, .inl (fun _ => 0))), (q4, .inl (cI, 512, .inl (fun _ => 0)))] := hD
  refine W.widen (k := 4) (n := 896) (Nat.le_of_ble_eq_true rfl) (Nat.le_of_ble_eq_true rfl) ?_
  refine x0_putF (v := .ref q4) S0 hK hP hD hS hin rfl 4 (by decide) q36 rfl rfl rfl rfl (Nat.le_of_ble_eq_true rfl) dX0_init_37 (fun H locs hP hD hS => ?_)
  have hP : va_P D vwCl [(o, .inr (0, [.int 0, .ref q1, .ref q2, .ref q3, .ref q4, .null, .int 0, .int 0, .null, .null, .int 0, .int 0, .null, .null, .int 0, .null, .null])), (q1, .inl (cI, 128, .inl (fun _ => 0))), (q2, .inl (cI, 128, .inl (fun _ => 0))), (q3, .inl (cI, 128, .inl (fun _ => 0))), (q4, .inl (cI, 512, .inl (fun _ => 0)))] H := hP
  have hD : va_D A [(o, .inr (0, [.int 0, .ref q1, .ref q2, .ref q3, .ref q4, .null, .int 0, .int 0, .null, .null, .int 0, .int 0, .null, .null, .int 0, .null, .null])), (q1, .inl (cI, 128, .inl (fun _ => 0))), (q2, .inl (cI, 128, .inl (fun _ => 0))), (q3, .inl (cI, 128, .inl (fun _ => 0))), (q4, .inl (cI, 512, .inl (fun _ => 0)))] := hD
  refine lv_aload_n hx hb dX0_init_40 rfl (lv_at hl 0 rfl) ?_
  refine lv_sipush (v := nI 512) hx hb dX0_init_41 rfl ?_
  refine kw_newI S0 hK hP hD hS hA 512 (by decide) (Nat.le_of_ble_eq_true rfl) (Nat.le_of_ble_eq_true rfl) dX0_init_44 (fun q5 H hP hD hS => ?_)
  have hP : va_P D vwCl [(o, .inr (0, [.int 0, .ref q1, .ref q2, .ref q3, .ref q4, .null, .int 0, .int 0, .null, .null, .int 0, .int 0, .null, .null, .int 0, .null, .null])), (q1, .inl (cI, 128, .inl (fun _ => 0))), (q2, .inl (cI, 128, .inl (fun _ => 0))), (q3, .inl (cI, 128, .inl (fun _ => 0))), (q4, .inl (cI, 512, .inl (fun _ => 0))), (q5, .inl (cI, 512, .inl (fun _ => 0)))] H := hP
  have hD : va_D A [(o, .inr (0, [.int 0, .ref q1, .ref q2, .ref q3, .ref q4, .null, .int 0, .int 0, .null, .null, .int 0, .int 0, .null, .null, .int 0, .null, .null])), (q1, .inl (cI, 128, .inl (fun _ => 0))), (q2, .inl (cI, 128, .inl (fun _ => 0))), (q3, .inl (cI, 128, .inl (fun _ => 0))), (q4, .inl (cI, 512, .inl (fun _ => 0))), (q5, .inl (cI, 512, .inl (fun _ => 0)))] := hD
  refine W.widen (k := 5) (n := 1408) (Nat.le_of_ble_eq_true rfl) (Nat.le_of_ble_eq_true rfl) ?_
  refine x0_putF (v := .ref q5) S0 hK hP hD hS hin rfl 5 (by decide) q37 rfl rfl rfl rfl (Nat.le_of_ble_eq_true rfl) dX0_init_46 (fun H locs hP hD hS => ?_)
  have hP : va_P D vwCl [(o, .inr (0, [.int 0, .ref q1, .ref q2, .ref q3, .ref q4, .ref q5, .int 0, .int 0, .null, .null, .int 0, .int 0, .null, .null, .int 0, .null, .null])), (q1, .inl (cI, 128, .inl (fun _ => 0))), (q2, .inl (cI, 128, .inl (fun _ => 0))), (q3, .inl (cI, 128, .inl (fun _ => 0))), (q4, .inl (cI, 512, .inl (fun _ => 0))), (q5, .inl (cI, 512, .inl (fun _ => 0)))] H := hP
  have hD : va_D A [(o, .inr (0, [.int 0, .ref q1, .ref q2, .ref q3, .ref q4, .ref q5, .int 0, .int 0, .null, .null, .int 0, .int 0, .null, .null, .int 0, .null, .null])), (q1, .inl (cI, 128, .inl (fun _ => 0))), (q2, .inl (cI, 128, .inl (fun _ => 0))), (q3, .inl (cI, 128, .inl (fun _ => 0))), (q4, .inl (cI, 512, .inl (fun _ => 0))), (q5, .inl (cI, 512, .inl (fun _ => 0)))] := hD
  refine lv_aload_n hx hb dX0_init_49 rfl (lv_at hl 0 rfl) ?_
  refine lv_bipush (v := nI 120) hx hb dX0_init_50 rfl ?_
  refine kw_newI S0 hK hP hD hS hA 120 (by decide) (Nat.le_of_ble_eq_true rfl) (Nat.le_of_ble_eq_true rfl) dX0_init_52 (fun q6 H hP hD hS => ?_)
  have hP : va_P D vwCl [(o, .inr (0, [.int 0, .ref q1, .ref q2, .ref q3, .ref q4, .ref q5, .int 0, .int 0, .null, .null, .int 0, .int 0, .null, .null, .int 0, .null, .null])), (q1, .inl (cI, 128, .inl (fun _ => 0))), (q2, .inl (cI, 128, .inl (fun _ => 0))), (q3, .inl (cI, 128, .inl (fun _ => 0))), (q4, .inl (cI, 512, .inl (fun _ => 0))), (q5, .inl (cI, 512, .inl (fun _ => 0))), (q6, .inl (cI, 120, .inl (fun _ => 0)))] H := hP
  have hD : va_D A [(o, .inr (0, [.int 0, .ref q1, .ref q2, .ref q3, .ref q4, .ref q5, .int 0, .int 0, .null, .null, .int 0, .int 0, .null, .null, .int 0, .null, .null])), (q1, .inl (cI, 128, .inl (fun _ => 0))), (q2, .inl (cI, 128, .inl (fun _ => 0))), (q3, .inl (cI, 128, .inl (fun _ => 0))), (q4, .inl (cI, 512, .inl (fun _ => 0))), (q5, .inl (cI, 512, .inl (fun _ => 0))), (q6, .inl (cI, 120, .inl (fun _ => 0)))] := hD
  refine W.widen (k := 6) (n := 1528) (Nat.le_of_ble_eq_true rfl) (Nat.le_of_ble_eq_true rfl) ?_
  refine x0_putF (v := .ref q6) S0 hK hP hD hS hin rfl 8 (by decide) q40 rfl rfl rfl rfl (Nat.le_of_ble_eq_true rfl) dX0_init_54 (fun H locs hP hD hS => ?_)
  have hP : va_P D vwCl [(o, .inr (0, [.int 0, .ref q1, .ref q2, .ref q3, .ref q4, .ref q5, .int 0, .int 0, .ref q6, .null, .int 0, .int 0, .null, .null, .int 0, .null, .null])), (q1, .inl (cI, 128, .inl (fun _ => 0))), (q2, .inl (cI, 128, .inl (fun _ => 0))), (q3, .inl (cI, 128, .inl (fun _ => 0))), (q4, .inl (cI, 512, .inl (fun _ => 0))), (q5, .inl (cI, 512, .inl (fun _ => 0))), (q6, .inl (cI, 120, .inl (fun _ => 0)))] H := hP
  have hD : va_D A [(o, .inr (0, [.int 0, .ref q1, .ref q2, .ref q3, .ref q4, .ref q5, .int 0, .int 0, .ref q6, .null, .int 0, .int 0, .null, .null, .int 0, .null, .null])), (q1, .inl (cI, 128, .inl (fun _ => 0))), (q2, .inl (cI, 128, .inl (fun _ => 0))), (q3, .inl (cI, 128, .inl (fun _ => 0))), (q4, .inl (cI, 512, .inl (fun _ => 0))), (q5, .inl (cI, 512, .inl (fun _ => 0))), (q6, .inl (cI, 120, .inl (fun _ => 0)))] := hD
  refine lv_aload_n hx hb dX0_init_57 rfl (lv_at hl 0 rfl) ?_
  refine lv_bipush (v := nI 121) hx hb dX0_init_58 rfl ?_
  refine kw_newI S0 hK hP hD hS hA 121 (by decide) (Nat.le_of_ble_eq_true rfl) (Nat.le_of_ble_eq_true rfl) dX0_init_60 (fun q7 H hP hD hS => ?_)
  have hP : va_P D vwCl [(o, .inr (0, [.int 0, .ref q1, .ref q2, .ref q3, .ref q4, .ref q5, .int 0, .int 0, .ref q6, .null, .int 0, .int 0, .null, .null, .int 0, .null, .null])), (q1, .inl (cI, 128, .inl (fun _ => 0))), (q2, .inl (cI, 128, .inl (fun _ => 0))), (q3, .inl (cI, 128, .inl (fun _ => 0))), (q4, .inl (cI, 512, .inl (fun _ => 0))), (q5, .inl (cI, 512, .inl (fun _ => 0))), (q6, .inl (cI, 120, .inl (fun _ => 0))), (q7, .inl (cI, 121, .inl (fun _ => 0)))] H := hP
  have hD : va_D A [(o, .inr (0, [.int 0, .ref q1, .ref q2, .ref q3, .ref q4, .ref q5, .int 0, .int 0, .ref q6, .null, .int 0, .int 0, .null, .null, .int 0, .null, .null])), (q1, .inl (cI, 128, .inl (fun _ => 0))), (q2, .inl (cI, 128, .inl (fun _ => 0))), (q3, .inl (cI, 128, .inl (fun _ => 0))), (q4, .inl (cI, 512, .inl (fun _ => 0))), (q5, .inl (cI, 512, .inl (fun _ => 0))), (q6, .inl (cI, 120, .inl (fun _ => 0))), (q7, .inl (cI, 121, .inl (fun _ => 0)))] := hD
  refine W.widen (k := 7) (n := 1649) (Nat.le_of_ble_eq_true rfl) (Nat.le_of_ble_eq_true rfl) ?_
  refine x0_putF (v := .ref q7) S0 hK hP hD hS hin rfl 9 (by decide) q41 rfl rfl rfl rfl (Nat.le_of_ble_eq_true rfl) dX0_init_62 (fun H locs hP hD hS => ?_)
  have hP : va_P D vwCl [(o, .inr (0, [.int 0, .ref q1, .ref q2, .ref q3, .ref q4, .ref q5, .int 0, .int 0, .ref q6, .ref q7, .int 0, .int 0, .null, .null, .int 0, .null, .null])), (q1, .inl (cI, 128, .inl (fun _ => 0))), (q2, .inl (cI, 128, .inl (fun _ => 0))), (q3, .inl (cI, 128, .inl (fun _ => 0))), (q4, .inl (cI, 512, .inl (fun _ => 0))), (q5, .inl (cI, 512, .inl (fun _ => 0))), (q6, .inl (cI, 120, .inl (fun _ => 0))), (q7, .inl (cI, 121, .inl (fun _ => 0)))] H := hP
  have hD : va_D A [(o, .inr (0, [.int 0, .ref q1, .ref q2, .ref q3, .ref q4, .ref q5, .int 0, .int 0, .ref q6, .ref q7, .int 0, .int 0, .null, .null, .int 0, .null, .null])), (q1, .inl (cI, 128, .inl (fun _ => 0))), (q2, .inl (cI, 128, .inl (fun _ => 0))), (q3, .inl (cI, 128, .inl (fun _ => 0))), (q4, .inl (cI, 512, .inl (fun _ => 0))), (q5, .inl (cI, 512, .inl (fun _ => 0))), (q6, .inl (cI, 120, .inl (fun _ => 0))), (q7, .inl (cI, 121, .inl (fun _ => 0)))] := hD
  refine lv_aload_n hx hb dX0_init_65 rfl (lv_at hl 0 rfl) ?_
  refine lv_bipush (v := nI 10) hx hb dX0_init_66 rfl ?_
  refine kw_newI S0 hK hP hD hS hA 10 (by decide) (Nat.le_of_ble_eq_true rfl) (Nat.le_of_ble_eq_true rfl) dX0_init_68 (fun q8 H hP hD hS => ?_)
  have hP : va_P D vwCl [(o, .inr (0, [.int 0, .ref q1, .ref q2, .ref q3, .ref q4, .ref q5, .int 0, .int 0, .ref q6, .ref q7, .int 0, .int 0, .null, .null, .int 0, .null, .null])), (q1, .inl (cI, 128, .inl (fun _ => 0))), (q2, .inl (cI, 128, .inl (fun _ => 0))), (q3, .inl (cI, 128, .inl (fun _ => 0))), (q4, .inl (cI, 512, .inl (fun _ => 0))), (q5, .inl (cI, 512, .inl (fun _ => 0))), (q6, .inl (cI, 120, .inl (fun _ => 0))), (q7, .inl (cI, 121, .inl (fun _ => 0))), (q8, .inl (cI, 10, .inl (fun _ => 0)))] H := hP
  have hD : va_D A [(o, .inr (0, [.int 0, .ref q1, .ref q2, .ref q3, .ref q4, .ref q5, .int 0, .int 0, .ref q6, .ref q7, .int 0, .int 0, .null, .null, .int 0, .null, .null])), (q1, .inl (cI, 128, .inl (fun _ => 0))), (q2, .inl (cI, 128, .inl (fun _ => 0))), (q3, .inl (cI, 128, .inl (fun _ => 0))), (q4, .inl (cI, 512, .inl (fun _ => 0))), (q5, .inl (cI, 512, .inl (fun _ => 0))), (q6, .inl (cI, 120, .inl (fun _ => 0))), (q7, .inl (cI, 121, .inl (fun _ => 0))), (q8, .inl (cI, 10, .inl (fun _ => 0)))] := hD
  refine W.widen (k := 8) (n := 1659) (Nat.le_of_ble_eq_true rfl) (Nat.le_of_ble_eq_true rfl) ?_
  refine x0_putF (v := .ref q8) S0 hK hP hD hS hin rfl 12 (by decide) q44 rfl rfl rfl rfl (Nat.le_of_ble_eq_true rfl) dX0_init_70 (fun H locs hP hD hS => ?_)
  have hP : va_P D vwCl [(o, .inr (0, [.int 0, .ref q1, .ref q2, .ref q3, .ref q4, .ref q5, .int 0, .int 0, .ref q6, .ref q7, .int 0, .int 0, .ref q8, .null, .int 0, .null, .null])), (q1, .inl (cI, 128, .inl (fun _ => 0))), (q2, .inl (cI, 128, .inl (fun _ => 0))), (q3, .inl (cI, 128, .inl (fun _ => 0))), (q4, .inl (cI, 512, .inl (fun _ => 0))), (q5, .inl (cI, 512, .inl (fun _ => 0))), (q6, .inl (cI, 120, .inl (fun _ => 0))), (q7, .inl (cI, 121, .inl (fun _ => 0))), (q8, .inl (cI, 10, .inl (fun _ => 0)))] H := hP
  have hD : va_D A [(o, .inr (0, [.int 0, .ref q1, .ref q2, .ref q3, .ref q4, .ref q5, .int 0, .int 0, .ref q6, .ref q7, .int 0, .int 0, .ref q8, .null, .int 0, .null, .null])), (q1, .inl (cI, 128, .inl (fun _ => 0))), (q2, .inl (cI, 128, .inl (fun _ => 0))), (q3, .inl (cI, 128, .inl (fun _ => 0))), (q4, .inl (cI, 512, .inl (fun _ => 0))), (q5, .inl (cI, 512, .inl (fun _ => 0))), (q6, .inl (cI, 120, .inl (fun _ => 0))), (q7, .inl (cI, 121, .inl (fun _ => 0))), (q8, .inl (cI, 10, .inl (fun _ => 0)))] := hD
  refine lv_aload_n hx hb dX0_init_73 rfl (lv_at hl 0 rfl) ?_
  refine lv_bipush (v := nI 44) hx hb dX0_init_74 rfl ?_
  refine kw_newI S0 hK hP hD hS hA 44 (by decide) (Nat.le_of_ble_eq_true rfl) (Nat.le_of_ble_eq_true rfl) dX0_init_76 (fun q9 H hP hD hS => ?_)
  have hP : va_P D vwCl [(o, .inr (0, [.int 0, .ref q1, .ref q2, .ref q3, .ref q4, .ref q5, .int 0, .int 0, .ref q6, .ref q7, .int 0, .int 0, .ref q8, .null, .int 0, .null, .null])), (q1, .inl (cI, 128, .inl (fun _ => 0))), (q2, .inl (cI, 128, .inl (fun _ => 0))), (q3, .inl (cI, 128, .inl (fun _ => 0))), (q4, .inl (cI, 512, .inl (fun _ => 0))), (q5, .inl (cI, 512, .inl (fun _ => 0))), (q6, .inl (cI, 120, .inl (fun _ => 0))), (q7, .inl (cI, 121, .inl (fun _ => 0))), (q8, .inl (cI, 10, .inl (fun _ => 0))), (q9, .inl (cI, 44, .inl (fun _ => 0)))] H := hP
  have hD : va_D A [(o, .inr (0, [.int 0, .ref q1, .ref q2, .ref q3, .ref q4, .ref q5, .int 0, .int 0, .ref q6, .ref q7, .int 0, .int 0, .ref q8, .null, .int 0, .null, .null])), (q1, .inl (cI, 128, .inl (fun _ => 0))), (q2, .inl (cI, 128, .inl (fun _ => 0))), (q3, .inl (cI, 128, .inl (fun _ => 0))), (q4, .inl (cI, 512, .inl (fun _ => 0))), (q5, .inl (cI, 512, .inl (fun _ => 0))), (q6, .inl (cI, 120, .inl (fun _ => 0))), (q7, .inl (cI, 121, .inl (fun _ => 0))), (q8, .inl (cI, 10, .inl (fun _ => 0))), (q9, .inl (cI, 44, .inl (fun _ => 0)))] := hD
  refine W.widen (k := 9) (n := 1703) (Nat.le_of_ble_eq_true rfl) (Nat.le_of_ble_eq_true rfl) ?_
  refine x0_putF (v := .ref q9) S0 hK hP hD hS hin rfl 13 (by decide) q45 rfl rfl rfl rfl (Nat.le_of_ble_eq_true rfl) dX0_init_78 (fun H locs hP hD hS => ?_)
  have hP : va_P D vwCl [(o, .inr (0, [.int 0, .ref q1, .ref q2, .ref q3, .ref q4, .ref q5, .int 0, .int 0, .ref q6, .ref q7, .int 0, .int 0, .ref q8, .ref q9, .int 0, .null, .null])), (q1, .inl (cI, 128, .inl (fun _ => 0))), (q2, .inl (cI, 128, .inl (fun _ => 0))), (q3, .inl (cI, 128, .inl (fun _ => 0))), (q4, .inl (cI, 512, .inl (fun _ => 0))), (q5, .inl (cI, 512, .inl (fun _ => 0))), (q6, .inl (cI, 120, .inl (fun _ => 0))), (q7, .inl (cI, 121, .inl (fun _ => 0))), (q8, .inl (cI, 10, .inl (fun _ => 0))), (q9, .inl (cI, 44, .inl (fun _ => 0)))] H := hP
  have hD : va_D A [(o, .inr (0, [.int 0, .ref q1, .ref q2, .ref q3, .ref q4, .ref q5, .int 0, .int 0, .ref q6, .ref q7, .int 0, .int 0, .ref q8, .ref q9, .int 0, .null, .null])), (q1, .inl (cI, 128, .inl (fun _ => 0))), (q2, .inl (cI, 128, .inl (fun _ => 0))), (q3, .inl (cI, 128, .inl (fun _ => 0))), (q4, .inl (cI, 512, .inl (fun _ => 0))), (q5, .inl (cI, 512, .inl (fun _ => 0))), (q6, .inl (cI, 120, .inl (fun _ => 0))), (q7, .inl (cI, 121, .inl (fun _ => 0))), (q8, .inl (cI, 10, .inl (fun _ => 0))), (q9, .inl (cI, 44, .inl (fun _ => 0)))] := hD
  refine lv_aload_n hx hb dX0_init_81 rfl (lv_at hl 0 rfl) ?_
  refine lv_sipush (v := nI 1408) hx hb dX0_init_82 rfl ?_
  refine kw_newB S0 hK hP hD hS hA 1408 (by decide) (Nat.le_of_ble_eq_true rfl) (Nat.le_of_ble_eq_true rfl) dX0_init_85 (fun q10 H hP hD hS => ?_)
  have hP : va_P D vwCl [(o, .inr (0, [.int 0, .ref q1, .ref q2, .ref q3, .ref q4, .ref q5, .int 0, .int 0, .ref q6, .ref q7, .int 0, .int 0, .ref q8, .ref q9, .int 0, .null, .null])), (q1, .inl (cI, 128, .inl (fun _ => 0))), (q2, .inl (cI, 128, .inl (fun _ => 0))), (q3, .inl (cI, 128, .inl (fun _ => 0))), (q4, .inl (cI, 512, .inl (fun _ => 0))), (q5, .inl (cI, 512, .inl (fun _ => 0))), (q6, .inl (cI, 120, .inl (fun _ => 0))), (q7, .inl (cI, 121, .inl (fun _ => 0))), (q8, .inl (cI, 10, .inl (fun _ => 0))), (q9, .inl (cI, 44, .inl (fun _ => 0))), (q10, .inl (cB, 1408, .inl (fun _ => 0)))] H := hP
  have hD : va_D A [(o, .inr (0, [.int 0, .ref q1, .ref q2, .ref q3, .ref q4, .ref q5, .int 0, .int 0, .ref q6, .ref q7, .int 0, .int 0, .ref q8, .ref q9, .int 0, .null, .null])), (q1, .inl (cI, 128, .inl (fun _ => 0))), (q2, .inl (cI, 128, .inl (fun _ => 0))), (q3, .inl (cI, 128, .inl (fun _ => 0))), (q4, .inl (cI, 512, .inl (fun _ => 0))), (q5, .inl (cI, 512, .inl (fun _ => 0))), (q6, .inl (cI, 120, .inl (fun _ => 0))), (q7, .inl (cI, 121, .inl (fun _ => 0))), (q8, .inl (cI, 10, .inl (fun _ => 0))), (q9, .inl (cI, 44, .inl (fun _ => 0))), (q10, .inl (cB, 1408, .inl (fun _ => 0)))] := hD
  refine W.widen (k := 10) (n := 3111) (Nat.le_of_ble_eq_true rfl) (Nat.le_of_ble_eq_true rfl) ?_
  refine x0_putF (v := .ref q10) S0 hK hP hD hS hin rfl 15 (by decide) q47 rfl rfl rfl rfl (Nat.le_of_ble_eq_true rfl) dX0_init_87 (fun H locs hP hD hS => ?_)
  have hP : va_P D vwCl [(o, .inr (0, [.int 0, .ref q1, .ref q2, .ref q3, .ref q4, .ref q5, .int 0, .int 0, .ref q6, .ref q7, .int 0, .int 0, .ref q8, .ref q9, .int 0, .ref q10, .null])), (q1, .inl (cI, 128, .inl (fun _ => 0))), (q2, .inl (cI, 128, .inl (fun _ => 0))), (q3, .inl (cI, 128, .inl (fun _ => 0))), (q4, .inl (cI, 512, .inl (fun _ => 0))), (q5, .inl (cI, 512, .inl (fun _ => 0))), (q6, .inl (cI, 120, .inl (fun _ => 0))), (q7, .inl (cI, 121, .inl (fun _ => 0))), (q8, .inl (cI, 10, .inl (fun _ => 0))), (q9, .inl (cI, 44, .inl (fun _ => 0))), (q10, .inl (cB, 1408, .inl (fun _ => 0)))] H := hP
  have hD : va_D A [(o, .inr (0, [.int 0, .ref q1, .ref q2, .ref q3, .ref q4, .ref q5, .int 0, .int 0, .ref q6, .ref q7, .int 0, .int 0, .ref q8, .ref q9, .int 0, .ref q10, .null])), (q1, .inl (cI, 128, .inl (fun _ => 0))), (q2, .inl (cI, 128, .inl (fun _ => 0))), (q3, .inl (cI, 128, .inl (fun _ => 0))), (q4, .inl (cI, 512, .inl (fun _ => 0))), (q5, .inl (cI, 512, .inl (fun _ => 0))), (q6, .inl (cI, 120, .inl (fun _ => 0))), (q7, .inl (cI, 121, .inl (fun _ => 0))), (q8, .inl (cI, 10, .inl (fun _ => 0))), (q9, .inl (cI, 44, .inl (fun _ => 0))), (q10, .inl (cB, 1408, .inl (fun _ => 0)))] := hD
  refine lv_aload_n hx hb dX0_init_90 rfl (lv_at hl 0 rfl) ?_
  refine lv_sipush (v := nI 1408) hx hb dX0_init_91 rfl ?_
  refine kw_newB S0 hK hP hD hS hA 1408 (by decide) (Nat.le_of_ble_eq_true rfl) (Nat.le_of_ble_eq_true rfl) dX0_init_94 (fun q11 H hP hD hS => ?_)
  have hP : va_P D vwCl [(o, .inr (0, [.int 0, .ref q1, .ref q2, .ref q3, .ref q4, .ref q5, .int 0, .int 0, .ref q6, .ref q7, .int 0, .int 0, .ref q8, .ref q9, .int 0, .ref q10, .null])), (q1, .inl (cI, 128, .inl (fun _ => 0))), (q2, .inl (cI, 128, .inl (fun _ => 0))), (q3, .inl (cI, 128, .inl (fun _ => 0))), (q4, .inl (cI, 512, .inl (fun _ => 0))), (q5, .inl (cI, 512, .inl (fun _ => 0))), (q6, .inl (cI, 120, .inl (fun _ => 0))), (q7, .inl (cI, 121, .inl (fun _ => 0))), (q8, .inl (cI, 10, .inl (fun _ => 0))), (q9, .inl (cI, 44, .inl (fun _ => 0))), (q10, .inl (cB, 1408, .inl (fun _ => 0))), (q11, .inl (cB, 1408, .inl (fun _ => 0)))] H := hP
  have hD : va_D A [(o, .inr (0, [.int 0, .ref q1, .ref q2, .ref q3, .ref q4, .ref q5, .int 0, .int 0, .ref q6, .ref q7, .int 0, .int 0, .ref q8, .ref q9, .int 0, .ref q10, .null])), (q1, .inl (cI, 128, .inl (fun _ => 0))), (q2, .inl (cI, 128, .inl (fun _ => 0))), (q3, .inl (cI, 128, .inl (fun _ => 0))), (q4, .inl (cI, 512, .inl (fun _ => 0))), (q5, .inl (cI, 512, .inl (fun _ => 0))), (q6, .inl (cI, 120, .inl (fun _ => 0))), (q7, .inl (cI, 121, .inl (fun _ => 0))), (q8, .inl (cI, 10, .inl (fun _ => 0))), (q9, .inl (cI, 44, .inl (fun _ => 0))), (q10, .inl (cB, 1408, .inl (fun _ => 0))), (q11, .inl (cB, 1408, .inl (fun _ => 0)))] := hD
  refine W.widen (k := 11) (n := 4519) (Nat.le_of_ble_eq_true rfl) (Nat.le_of_ble_eq_true rfl) ?_
  refine x0_putF (v := .ref q11) S0 hK hP hD hS hin rfl 16 (by decide) q48 rfl rfl rfl rfl (Nat.le_of_ble_eq_true rfl) dX0_init_96 (fun H locs hP hD hS => ?_)
  have hP : va_P D vwCl [(o, .inr (0, [.int 0, .ref q1, .ref q2, .ref q3, .ref q4, .ref q5, .int 0, .int 0, .ref q6, .ref q7, .int 0, .int 0, .ref q8, .ref q9, .int 0, .ref q10, .ref q11])), (q1, .inl (cI, 128, .inl (fun _ => 0))), (q2, .inl (cI, 128, .inl (fun _ => 0))), (q3, .inl (cI, 128, .inl (fun _ => 0))), (q4, .inl (cI, 512, .inl (fun _ => 0))), (q5, .inl (cI, 512, .inl (fun _ => 0))), (q6, .inl (cI, 120, .inl (fun _ => 0))), (q7, .inl (cI, 121, .inl (fun _ => 0))), (q8, .inl (cI, 10, .inl (fun _ => 0))), (q9, .inl (cI, 44, .inl (fun _ => 0))), (q10, .inl (cB, 1408, .inl (fun _ => 0))), (q11, .inl (cB, 1408, .inl (fun _ => 0)))] H := hP
  have hD : va_D A [(o, .inr (0, [.int 0, .ref q1, .ref q2, .ref q3, .ref q4, .ref q5, .int 0, .int 0, .ref q6, .ref q7, .int 0, .int 0, .ref q8, .ref q9, .int 0, .ref q10, .ref q11])), (q1, .inl (cI, 128, .inl (fun _ => 0))), (q2, .inl (cI, 128, .inl (fun _ => 0))), (q3, .inl (cI, 128, .inl (fun _ => 0))), (q4, .inl (cI, 512, .inl (fun _ => 0))), (q5, .inl (cI, 512, .inl (fun _ => 0))), (q6, .inl (cI, 120, .inl (fun _ => 0))), (q7, .inl (cI, 121, .inl (fun _ => 0))), (q8, .inl (cI, 10, .inl (fun _ => 0))), (q9, .inl (cI, 44, .inl (fun _ => 0))), (q10, .inl (cB, 1408, .inl (fun _ => 0))), (q11, .inl (cB, 1408, .inl (fun _ => 0)))] := hD
  refine lv_aload_n hx hb dX0_init_99 rfl (lv_at hl 0 rfl) ?_
  have hP : va_P D vwCl (XWc (kx_adf o q1 q2 q3 q4 q5 q6 q7 q8 q9 q10 q11) cI cB 0 0 0 0 0 0 (fun _ => 0) (fun _ => 0) (fun _ => 0) (fun _ => 0) (fun _ => 0) (fun _ => 0) (fun _ => 0) (fun _ => 0) (fun _ => 0) (fun _ => 0) (fun _ => 0)) H := hP
  have hD : va_D A (XWc (kx_adf o q1 q2 q3 q4 q5 q6 q7 q8 q9 q10 q11) cI cB 0 0 0 0 0 0 (fun _ => 0) (fun _ => 0) (fun _ => 0) (fun _ => 0) (fun _ => 0) (fun _ => 0) (fun _ => 0) (fun _ => 0) (fun _ => 0) (fun _ => 0) (fun _ => 0)) := hD
  have hPI : kx_PI 0 (fun _ => 0) (fun _ => 0) [] := ⟨by simp, fun x hx => absurd hx List.not_mem_nil, rfl, fun i hi => absurd hi (Nat.not_lt_zero _), fun h => absurd h (by simp)⟩
  refine kw_mv (n := 0) (wc := (XWc (kx_adf o q1 q2 q3 q4 q5 q6 q7 q8 q9 q10 q11) cI cB 0 0 0 0 0 0 (fun _ => 0) (fun _ => 0) (fun _ => 0) (fun _ => 0) (fun _ => 0) (fun _ => 0) (fun _ => 0) (fun _ => 0) (fun _ => 0) (fun _ => 0) (fun _ => 0))) (wr := []) (ci := 0) (As := []) (rest := []) S0 hl.1 hK hP hD hS hA [0, 1, 2, 3, 4, 5, 6, 7, 8, 9, 10, 11] [] rfl rfl (by decide) (by decide) (by decide) rfl rfl (fun sz => met_X0_start l D (kx_adf o q1 q2 q3 q4 q5 q6 q7 q8 q9 q10 q11) cI cB 0 0 0 0 0 0 (fun _ => 0) (fun _ => 0) (fun _ => 0) (fun _ => 0) (fun _ => 0) (fun _ => 0) (fun _ => 0) (fun _ => 0) (fun _ => 0) (fun _ => 0) (fun _ => 0) [] hPI rfl sz) (lw_V q24 q26 qs0 q14 q27) rfl rfl (by decide +kernel) ⟨Nat.le_of_ble_eq_true rfl, Nat.le_of_ble_eq_true rfl⟩ rfl rfl (Nat.le_of_ble_eq_true rfl) dX0_init_100 ⟨Nat.le_of_ble_eq_true rfl, Nat.le_of_ble_eq_true rfl⟩ (fun v H locs hv hP hD hS => ?_)
  exact W.vret hx hb hr (fun t ht hW => ⟨⟨(kx_adf o q1 q2 q3 q4 q5 q6 q7 q8 q9 q10 q11, v), rfl, ⟨rfl, hv⟩, by rw [ht]; exact hP, hD⟩, hS.F ht⟩) hS.2.2 dX0_init_103
set_option maxHeartbeats 4000000 in
set_option maxRecDepth 100000 in
/-- the constructor -/
theorem met_X1_init (l : Launch) (D : va_G) (cI cB : ClassId) (o : Nat) (sz : Nat) : Met l yX1_init (ws_ yX1_init cX1_init 1 none) ({ frames := 1, cells := 2, slots := 130, locals := 12 }) (kx_Pm D (tys_ cI cB) (kx_M0 o) sz [.ref o]) (va_Qv (fun (v : (Nat → Nat) × MS) => v.1 0 = o ∧ kx_Mi v.2 [] []) (kx_B D (fun v : (Nat → Nat) × MS => MWs v.1 cI v.2) (va_A (kx_M0 o) sz)) (va_A (kx_M0 o) sz)) 2 130 (va_A (kx_M0 o) sz) := by
  refine Met.ofW (cc := cX1_init) (maxL := 1) (ret := none) (by decide) rfl ?_
  intro p e s m args below meth c s₁ B hml hv
  obtain ⟨rfl, hsz, hP, hK, hD0⟩ := hv
  have hx := B.exec
  have hb := B.bytes
  have hr := B.returns
  have hts := atoms_spec (ws := ws_ yX1_init cX1_init 1 none) B.pre
  have hts : ∀ w ∈ lw_all, w.before _ s = true := fun w h => hts w (List.mem_cons_of_mem _ h)
  have hown : s.vm.findClass RX1 = some m.cls := findClass_of_methodNamed B.named
  have hlocks := B.notSynchronized
  have hin : meth.name = "<init>" := (name_of_methodNamed B.named B.method).1
  have S0 : CallFix p m c cX1_init 1 s _ lw_all RX1 := ⟨hx, hb, hml, hown, hts⟩
  subst hsz
  have hD := hD0.self (sz := s.heap.size)
  generalize hAe : va_A (kx_M0 o) s.heap.size = A at hD ⊢
  have hA : ∀ q : Nat, s.heap.size ≤ q → A q := fun q h => by rw [← hAe]; exact Or.inr h
  have hS : va_S A s.heap s.heap [] := va_S.rf
  have hl := lv_entry ([.ref o]) (n := 1) (Nat.le_of_ble_eq_true rfl)
  rw [lg_entry_eq]
  generalize (lg_sl ([.ref o]) ++ List.replicate (1 - (lg_sl ([.ref o])).length) Slot.unset).toArray = ls at hl ⊢
  have hl : lv_has ls 1 [(0, .ref o)] := hl
  refine lv_aload_n hx hb dX1_init_0 rfl (lv_at hl 0 rfl) ?_
  refine W.objInit hx hb hown (hts _ q174) (hts _ q22) (hts _ q23) rfl (by rw [hml]; exact hl.1) rfl dX1_init_1 (Nat.le_of_ble_eq_true rfl) (Nat.le_of_ble_eq_true rfl) ?_
  refine W.eq (g2 := F0 m 4 ls []) rfl ?_
  refine lv_aload_n hx hb dX1_init_4 rfl (lv_at hl 0 rfl) ?_
  refine lv_bipush (v := nI 120) hx hb dX1_init_5 rfl ?_
  refine kw_newI S0 hK hP hD hS hA 120 (by decide) (Nat.le_of_ble_eq_true rfl) (Nat.le_of_ble_eq_true rfl) dX1_init_7 (fun q1 H hP hD hS => ?_)
  have hP : va_P D vwCl [(o, .inr (1, [.null, .int 0, .null, .int 0])), (q1, .inl (cI, 120, .inl (fun _ => 0)))] H := hP
  have hD : va_D A [(o, .inr (1, [.null, .int 0, .null, .int 0])), (q1, .inl (cI, 120, .inl (fun _ => 0)))] := hD
  refine W.widen (k := 1) (n := 120) (Nat.le_of_ble_eq_true rfl) (Nat.le_of_ble_eq_true rfl) ?_
  refine x1_putF (v := .ref q1) S0 hK hP hD hS hin rfl 0 (by decide) q175 rfl rfl rfl rfl (Nat.le_of_ble_eq_true rfl) dX1_init_9 (fun H locs hP hD hS => ?_)
  have hP : va_P D vwCl [(o, .inr (1, [.ref q1, .int 0, .null, .int 0])), (q1, .inl (cI, 120, .inl (fun _ => 0)))] H := hP
  have hD : va_D A [(o, .inr (1, [.ref q1, .int 0, .null, .int 0])), (q1, .inl (cI, 120, .inl (fun _ => 0)))] := hD
  refine lv_aload_n hx hb dX1_init_12 rfl (lv_at hl 0 rfl) ?_
  refine lv_bipush (v := nI 10) hx hb dX1_init_13 rfl ?_
  refine kw_newI S0 hK hP hD hS hA 10 (by decide) (Nat.le_of_ble_eq_true rfl) (Nat.le_of_ble_eq_true rfl) dX1_init_15 (fun q2 H hP hD hS => ?_)
  have hP : va_P D vwCl [(o, .inr (1, [.ref q1, .int 0, .null, .int 0])), (q1, .inl (cI, 120, .inl (fun _ => 0))), (q2, .inl (cI, 10, .inl (fun _ => 0)))] H := hP
  have hD : va_D A [(o, .inr (1, [.ref q1, .int 0, .null, .int 0])), (q1, .inl (cI, 120, .inl (fun _ => 0))), (q2, .inl (cI, 10, .inl (fun _ => 0)))] := hD
  refine W.widen (k := 2) (n := 130) (Nat.le_of_ble_eq_true rfl) (Nat.le_of_ble_eq_true rfl) ?_
  refine x1_putF (v := .ref q2) S0 hK hP hD hS hin rfl 2 (by decide) q177 rfl rfl rfl rfl (Nat.le_of_ble_eq_true rfl) dX1_init_17 (fun H locs hP hD hS => ?_)
  have hP : va_P D vwCl [(o, .inr (1, [.ref q1, .int 0, .ref q2, .int 0])), (q1, .inl (cI, 120, .inl (fun _ => 0))), (q2, .inl (cI, 10, .inl (fun _ => 0)))] H := hP
  have hD : va_D A [(o, .inr (1, [.ref q1, .int 0, .ref q2, .int 0])), (q1, .inl (cI, 120, .inl (fun _ => 0))), (q2, .inl (cI, 10, .inl (fun _ => 0)))] := hD
  have hP : va_P D vwCl (MWs (kx_kdf o q1 q2) cI ((0, 0), ((fun _ => 0), (fun _ => 0)))) H := hP
  have hD : va_D A (MWs (kx_kdf o q1 q2) cI ((0, 0), ((fun _ => 0), (fun _ => 0)))) := hD
  exact W.vret hx hb hr (fun t ht hW => ⟨⟨(kx_kdf o q1 q2, ((0, 0), ((fun _ => 0), (fun _ => 0)))), rfl, ⟨rfl, ⟨by simp, fun x hx => absurd hx List.not_mem_nil, rfl, fun i hi => absurd hi (Nat.not_lt_zero _), by simp, fun x hx => absurd hx List.not_mem_nil, rfl, fun i hi => absurd hi (Nat.not_lt_zero _)⟩⟩, by rw [ht]; exact hP, hD⟩, hS.F ht⟩) hS.2.2 dX1_init_20
end
section
/-! THE CLAIM OUT OF ONE WALK OF THE LAW'S BODY. Your part is whole_start (and what it stands on); all else here is the same for every law, but numbers. -/
def R_law : String := "LzwSearcherLaw"
def lw_P (b : Addr) (xs : List Int32) (args : Array Value) (s : State) : Prop := args = #[.ref b] ∧ s.IntsAt b xs ∧ xs.length ≤ 192 ∧ (Jvm.Cond.and given_1 narrow_1).before args s = true
def lw_Q (_ : Array Value) (s : State) (o : Outcome) (t : State) : Prop := o = .returned (some (.int 1)) ∧ Framed s o t [] 600000 7290000
def lw_Z (below : List Frame) (a : Array Value) (s : State) : State → Prop := fun t => ∃ o, t.status = .running ∧ Ended t below o ∧ lw_Q a s o t
/-- the law's own end, with 1 on the stack, nothing written that was there before, its room as the claim has it -/
theorem lw_ret {p : Program} {l : Launch} {e : Env} {s : State} {m : MethodId} {below : List Frame} {meth : Method} {c : Code} {b : Nat} (hx : p.tables.exec = Jvm.exec) (hb : c.code = code) (hr : meth.sig.returnType = ret) (hlocks : meth.locks = false) {pc : Nat} {H : Heap} {ls : Array Slot} (hdg : decode code pc = .ok (.ireturn, 1)) : W p l e room_1 s m #[Value.ref b] below meth c H [] 600000 7290000 (lw_Z below #[Value.ref b] s) (F0 m pc ls [.int 1]) := by
  intro T hT X
  obtain ⟨fs, hret, hrun, hended, hW, hframe⟩ := X.leave (v := some (.int 1)) (hlocks := hlocks) (fun h => by rw [hr] at h; cases h)
  have hmeth' : T.vm.method? m = some meth := X.method'
  refine ⟨T.setFrames fs, ?_, .returned (some (.int 1)), hrun, hended, rfl, ⟨_, rfl⟩, hW, hframe⟩
  jvm_step X.here [X.here.top, hx, hb, hdg, hmeth', hr, ret, narrow_b1]
  (try refine ⟨rfl, ?_⟩); (try refine ⟨rfl, ?_⟩)
  first | (intro acts; rw [hret _ acts rfl rfl rfl]) | rw [hret _ _ rfl rfl rfl]
  exact Steps.refl _
/-- what holds at the law's entry: the machine, the code, the tables' words (any of lw_tbl by 'hts w (by decide +kernel)'), the script of L ints xs at the cell b, what the Statement gives of the start (any of its parts by flat_of_before) -/
def lw_At (p : Program) (s : State) (m : MethodId) (meth : Method) (c : Code) (b L : Nat) (xs : Nat → Int32) : Prop :=
  p.tables.exec = Jvm.exec ∧ c.code = code ∧ meth.sig.returnType = ret ∧ c.maxLocals = 4 ∧ s.vm.findClass R_law = some m.cls ∧ (∀ w ∈ lw_tbl, w.before #[Value.ref b] s = true) ∧ va_X b L xs s s.heap ∧ b < s.heap.size ∧ meth.locks = false ∧ (Jvm.Cond.and given_1 narrow_1).before #[Value.ref b] s = true
theorem kx_cw_eq (T w : List Nat) (x : Int32) : kx_cnt (fun i => kx_oc T w i && decide (((i + w.length : Nat) : Int) ≤ x.toInt)) T.length = kx_cw T w x := by
  rw [kx_cw]
  rcases Nat.eq_zero_or_pos w.length with h | h
  · rw [if_pos h, kx_cnt_cut (a := 0) T.length (Nat.zero_le _) (fun i _ _ => ?_)]
    · rfl
    · cases hc : kx_oc T w i with
      | false => rfl
      | true => exact absurd (kx_oc_len hc).1 (by omega)
  · rw [if_neg (by omega), kx_within h, kx_toInt_clamp]
theorem kx_law_le {i L : Nat} (hi : i < 2 ^ 30) (hL : L < 2 ^ 30) (h : ¬ nI L - nI 3 < nI i) : i + 3 ≤ L := by
  rw [Int32.lt_iff_toInt_lt, pk_sub_toInt hL (by decide), nI_toInt (by omega)] at h
  omega
section KL
variable {p : Program} {l : Launch} {e : Env} {R : Room} {s : State} {m : MethodId} {args : Array Value} {below : List Frame} {meth : Method} {c : Code} {H : Heap} {locs : List Loc} {cells slots : Nat} {Q : State → Prop}
variable {cc : ByteArray} {pc nL : Nat} {ls : Array Slot} {rest : List Value} {A : Nat → Prop} {H0 : Heap} {own : String} {Ts : List Cond}
theorem kw_sld (S : CallFix p m c cc nL s args Ts own) {b L : Nat} {xs : Nat → Int32} (hX : va_X b L xs s H0) (hbl : b < H0.size) (hbA : ¬ A b) (hS : va_S A H0 H locs) {k : Nat} (hk : k < L) (hL : L < 2 ^ 31) (hdg : decode cc pc = .ok (.iaload, 1))
    (kk : W p l e R s m args below meth c H locs cells slots Q (F0 m (pc + 1) ls (.int (xs k) :: rest))) : W p l e R s m args below meth c H locs cells slots Q (F0 m pc ls (.int (nI k) :: .ref b :: rest)) :=
  va_sld S.1 S.2.1 hX hbl hbA hS (vp_in_nI hk hL) hdg (kw_top (by rw [nI_clamp (Nat.lt_trans hk hL)]) kk)
end KL
set_option maxHeartbeats 4000000 in
set_option maxRecDepth 100000 in
/-- the law's loop at its head: i ints read; both hold the same text and pattern -/
theorem law_loop {p : Program} {l : Launch} {e : Env} {s : State} {m : MethodId} {below : List Frame} {meth : Method} {c : Code} {D : va_G} {cI cB : ClassId} {A : Nat → Prop} {b L : Nat} {xs : Nat → Int32} (xd kd : Nat → Nat) (hL : L ≤ 192) (hx : p.tables.exec = Jvm.exec) (hb : c.code = code) (hr : meth.sig.returnType = ret) (hlocks : meth.locks = false) (hml : c.maxLocals = 4) (hown : s.vm.findClass R_law = some m.cls) (hts : ∀ w ∈ lw_all, w.before #[Value.ref b] s = true) (hA : ∀ q : Nat, s.heap.size ≤ q → A q) (hA2 : ∀ q : Nat, A q → s.heap.size ≤ q) (hX : va_X b L xs s s.heap) (hbl : b < s.heap.size) (hbA : ¬ A b) (hK : va_K D vwCl (tys_ cI cB) s) :
    ∀ (z i : Nat) (T w : List Nat) (u : XS) (v : MS), i ≤ L + 3 → L < i + z → kx_Inv u T w → kx_Mi v T w → ∀ (H : Heap) (locs : List Loc), va_P D vwCl (XWs xd cI cB u ++ MWs kd cI v) H → va_D A (XWs xd cI cB u ++ MWs kd cI v) → va_S A s.heap H locs → ∀ (ls : Array Slot), lv_has ls 4 [(3, .int (nI i)), (0, .ref b), (1, .ref (xd 0)), (2, .ref (kd 0))] → W p l e room_1 s m #[Value.ref b] below meth c H locs 15 4670 (lw_Z below #[Value.ref b] s) (F0 m 18 ls []) := by
  have S0 : CallFix p m c code 4 s #[Value.ref b] lw_all R_law := ⟨hx, hb, hml, hown, hts⟩
  intro z
  induction z with
  | zero =>
    intro i T w u v hi hiz hI hM H locs hP hD hS ls hl
    refine lv_iload_n hx hb dL_law_18 rfl (lv_at hl 0 rfl) ?_
    refine lv_aload_n hx hb dL_law_19 rfl (lv_at hl 1 rfl) ?_
    refine va_slen hx hb hX hbl hbA hS dL_law_20 ?_
    refine kw_top (y := nI L) rfl ?_
    refine lv_iconst (v := nI 3) hx hb dL_law_21 rfl ?_
    refine lv_isub hx hb dL_law_22 ?_
    refine lv_icmp_gt (tgt := 344) hx hb dL_law_23 (by decide) (fun k1 => ?_) (fun k1 => ?_)
    · refine lv_iconst (v := 1) hx hb dL_law_344 rfl ?_
      refine va_forget (fun q hq => hA2 _ (hS.2.2 q hq)) ?_
      refine W.widen (k := 600000) (n := 7290000) (Nat.le_of_ble_eq_true rfl) (Nat.le_of_ble_eq_true rfl) ?_
      exact lw_ret hx hb hr hlocks dL_law_345
    · exact absurd (kx_law_le (by omega) (by omega) k1) (by omega)
  | succ z ih =>
    intro i T w u v hi hiz hI hM H locs hP hD hS ls hl
    refine lv_iload_n hx hb dL_law_18 rfl (lv_at hl 0 rfl) ?_
    refine lv_aload_n hx hb dL_law_19 rfl (lv_at hl 1 rfl) ?_
    refine va_slen hx hb hX hbl hbA hS dL_law_20 ?_
    refine kw_top (y := nI L) rfl ?_
    refine lv_iconst (v := nI 3) hx hb dL_law_21 rfl ?_
    refine lv_isub hx hb dL_law_22 ?_
    refine lv_icmp_gt (tgt := 344) hx hb dL_law_23 (by decide) (fun k1 => ?_) (fun k1 => ?_)
    · refine lv_iconst (v := 1) hx hb dL_law_344 rfl ?_
      refine va_forget (fun q hq => hA2 _ (hS.2.2 q hq)) ?_
      refine W.widen (k := 600000) (n := 7290000) (Nat.le_of_ble_eq_true rfl) (Nat.le_of_ble_eq_true rfl) ?_
      exact lw_ret hx hb hr hlocks dL_law_345
    · have hiL := kx_law_le (by omega) (by omega) k1
      refine lv_aload_n hx hb dL_law_26 rfl (lv_at hl 1 rfl) ?_
      refine lv_iload_n hx hb dL_law_27 rfl (lv_at hl 0 rfl) ?_
      refine kw_sld S0 hX hbl hbA hS (by omega) (by omega) dL_law_28 ?_
      refine lv_bipush (v := nI 15) hx hb dL_law_29 rfl ?_
      obtain ⟨j, hj, ej⟩ := pk_andE (xs i) (m := nI 15) 4 (by decide)
      refine lv_iand hx hb dL_law_31 ?_
      refine kw_top (y := nI j) (ej) ?_
      have next : ∀ (T w : List Nat) (u : XS) (v : MS), kx_Inv u T w → kx_Mi v T w → ∀ (H : Heap) (locs : List Loc), va_P D vwCl (XWs xd cI cB u ++ MWs kd cI v) H → va_D A (XWs xd cI cB u ++ MWs kd cI v) → va_S A s.heap H locs → ∀ (ls : Array Slot), lv_has ls 4 [(3, .int (nI i)), (0, .ref b), (1, .ref (xd 0)), (2, .ref (kd 0))] → W p l e room_1 s m #[Value.ref b] below meth c H locs 15 4670 (lw_Z below #[Value.ref b] s) (F0 m 338 ls []) := by
        intro T w u v hI hM H locs hP hD hS ls hl
        refine lv_iinc (v := nI (i + 3)) (lv' := [(3, .int (nI (i + 3))), (0, .ref b), (1, .ref (xd 0)), (2, .ref (kd 0))]) hx hb dL_law_338 hl (k := 0) rfl (nI_add i 3) (by decide) rfl (fun ls hl => ?_)
        refine lv_goto (tgt := 18) hx hb dL_law_341 (by decide) ?_
        exact ih (i + 3) T w u v (by omega) (by omega) hI hM _ _ hP hD hS ls (lv_sub hl [0, 1, 2, 3] rfl)
      have hjs : j = 0 ∨ j = 1 ∨ j = 2 ∨ j = 3 ∨ j = 4 ∨ j = 5 ∨ j = 6 ∨ j = 7 ∨ j = 8 ∨ j = 9 ∨ j = 10 ∨ j = 11 ∨ 12 ≤ j := by omega
      rcases hjs with rfl | rfl | rfl | rfl | rfl | rfl | rfl | rfl | rfl | rfl | rfl | rfl | hj12
      · refine lv_tableIn (off := 64) (tgt := 96) hx hb dL_law_32 (by decide) (by decide) (by decide) (by decide) ?_
        refine lv_aload_n hx hb dL_law_96 rfl (lv_at hl 2 rfl) ?_
        refine lv_aload_n hx hb dL_law_97 rfl (lv_at hl 1 rfl) ?_
        refine lv_iload_n hx hb dL_law_98 rfl (lv_at hl 0 rfl) ?_
        refine lv_iconst (v := nI 1) hx hb dL_law_99 rfl ?_
        refine kw_iadd S0 dL_law_100 ?_
        refine kw_sld S0 hX hbl hbA hS (by omega) (by omega) dL_law_101 ?_
        refine kw_mi (n := 1) (wc := XWs xd cI cB u) (wr := MWs kd cI v) (ci := 0) (As := [.int (xs (i + 1))]) (rest := []) S0 hl.1 hK hP hD hS hA [0, 1, 2, 3, 4, 5, 6, 7, 8, 9, 10, 11] [12, 13, 14] rfl rfl (by decide) (by decide) (by decide) rfl rfl (fun sz => met_X0_append l D xd cI cB u.1.1 u.1.2.1 u.1.2.2.1 u.1.2.2.2.1 u.1.2.2.2.2.1 u.1.2.2.2.2.2 u.2.1 u.2.2.1 u.2.2.2.1 u.2.2.2.2.1 u.2.2.2.2.2.1 u.2.2.2.2.2.2.1 u.2.2.2.2.2.2.2.1 u.2.2.2.2.2.2.2.2.1 u.2.2.2.2.2.2.2.2.2.1 u.2.2.2.2.2.2.2.2.2.2.1 u.2.2.2.2.2.2.2.2.2.2.2 T w hI (xs (i + 1)) sz) (lw_V q86 q87 q88 q14 q89) rfl rfl (by decide +kernel) ⟨Nat.le_of_ble_eq_true rfl, Nat.le_of_ble_eq_true rfl⟩ rfl rfl (Nat.le_of_ble_eq_true rfl) dL_law_102 ⟨Nat.le_of_ble_eq_true rfl, Nat.le_of_ble_eq_true rfl⟩ (fun r1 u2 H locs hr1 hP hD hS => ?_)
        have hP : va_P D vwCl (XWs xd cI cB u2 ++ MWs kd cI v) H := hP.sub [3, 4, 5, 6, 7, 8, 9, 10, 11, 12, 13, 14, 0, 1, 2] rfl
        have hD : va_D A (XWs xd cI cB u2 ++ MWs kd cI v) := hD.sub [3, 4, 5, 6, 7, 8, 9, 10, 11, 12, 13, 14, 0, 1, 2] (by decide) rfl
        refine lv_aload_n hx hb dL_law_105 rfl (lv_at hl 3 rfl) ?_
        refine lv_aload_n hx hb dL_law_106 rfl (lv_at hl 1 rfl) ?_
        refine lv_iload_n hx hb dL_law_107 rfl (lv_at hl 0 rfl) ?_
        refine lv_iconst (v := nI 1) hx hb dL_law_108 rfl ?_
        refine kw_iadd S0 dL_law_109 ?_
        refine kw_sld S0 hX hbl hbA hS (by omega) (by omega) dL_law_110 ?_
        refine kw_mi (n := 1) (wc := MWs kd cI v) (wr := XWs xd cI cB u2) (ci := 1) (As := [.int (xs (i + 1))]) (rest := [.int r1]) S0 hl.1 hK hP hD hS hA [12, 13, 14] [0, 1, 2, 3, 4, 5, 6, 7, 8, 9, 10, 11] rfl rfl (by decide) (by decide) (by decide) rfl rfl (fun sz => met_X1_append l D kd cI cB v.1.1 v.1.2 v.2.1 v.2.2 T w hM (xs (i + 1)) sz) (lw_V q188 q189 q190 q15 q191) rfl rfl (by decide +kernel) ⟨Nat.le_of_ble_eq_true rfl, Nat.le_of_ble_eq_true rfl⟩ rfl rfl (Nat.le_of_ble_eq_true rfl) dL_law_111 ⟨Nat.le_of_ble_eq_true rfl, Nat.le_of_ble_eq_true rfl⟩ (fun r2 v2 H locs hr2 hP hD hS => ?_)
        have hP : va_P D vwCl (XWs xd cI cB u2 ++ MWs kd cI v2) H := hP
        have hD : va_D A (XWs xd cI cB u2 ++ MWs kd cI v2) := hD
        refine lv_icmp_eq (tgt := 338) hx hb dL_law_114 (by decide) (fun _ => ?_) (fun c9 => absurd (by rw [hr1.1, hr2.1]) c9)
        exact next (kx_appT T (xs (i + 1))) w u2 v2 hr1.2 hr2.2 _ _ hP hD hS ls (lv_sub hl [0, 1, 2, 3] rfl)
      · refine lv_tableIn (off := 87) (tgt := 119) hx hb dL_law_32 (by decide) (by decide) (by decide) (by decide) ?_
        refine lv_aload_n hx hb dL_law_119 rfl (lv_at hl 2 rfl) ?_
        refine lv_aload_n hx hb dL_law_120 rfl (lv_at hl 1 rfl) ?_
        refine lv_iload_n hx hb dL_law_121 rfl (lv_at hl 0 rfl) ?_
        refine lv_iconst (v := nI 1) hx hb dL_law_122 rfl ?_
        refine kw_iadd S0 dL_law_123 ?_
        refine kw_sld S0 hX hbl hbA hS (by omega) (by omega) dL_law_124 ?_
        refine lv_aload_n hx hb dL_law_125 rfl (lv_at hl 1 rfl) ?_
        refine lv_iload_n hx hb dL_law_126 rfl (lv_at hl 0 rfl) ?_
        refine lv_iconst (v := nI 2) hx hb dL_law_127 rfl ?_
        refine kw_iadd S0 dL_law_128 ?_
        refine kw_sld S0 hX hbl hbA hS (by omega) (by omega) dL_law_129 ?_
        refine kw_mi (n := 2) (wc := XWs xd cI cB u) (wr := MWs kd cI v) (ci := 0) (As := [.int (xs (i + 1)), .int (xs (i + 2))]) (rest := []) S0 hl.1 hK hP hD hS hA [0, 1, 2, 3, 4, 5, 6, 7, 8, 9, 10, 11] [12, 13, 14] rfl rfl (by decide) (by decide) (by decide) rfl rfl (fun sz => met_X0_repeat l D xd cI cB u.1.1 u.1.2.1 u.1.2.2.1 u.1.2.2.2.1 u.1.2.2.2.2.1 u.1.2.2.2.2.2 u.2.1 u.2.2.1 u.2.2.2.1 u.2.2.2.2.1 u.2.2.2.2.2.1 u.2.2.2.2.2.2.1 u.2.2.2.2.2.2.2.1 u.2.2.2.2.2.2.2.2.1 u.2.2.2.2.2.2.2.2.2.1 u.2.2.2.2.2.2.2.2.2.2.1 u.2.2.2.2.2.2.2.2.2.2.2 T w hI (xs (i + 1)) (xs (i + 2)) sz) (lw_V q90 q91 q92 q14 q93) rfl rfl (by decide +kernel) ⟨Nat.le_of_ble_eq_true rfl, Nat.le_of_ble_eq_true rfl⟩ rfl rfl (Nat.le_of_ble_eq_true rfl) dL_law_130 ⟨Nat.le_of_ble_eq_true rfl, Nat.le_of_ble_eq_true rfl⟩ (fun r1 u2 H locs hr1 hP hD hS => ?_)
        have hP : va_P D vwCl (XWs xd cI cB u2 ++ MWs kd cI v) H := hP.sub [3, 4, 5, 6, 7, 8, 9, 10, 11, 12, 13, 14, 0, 1, 2] rfl
        have hD : va_D A (XWs xd cI cB u2 ++ MWs kd cI v) := hD.sub [3, 4, 5, 6, 7, 8, 9, 10, 11, 12, 13, 14, 0, 1, 2] (by decide) rfl
        refine lv_aload_n hx hb dL_law_133 rfl (lv_at hl 3 rfl) ?_
        refine lv_aload_n hx hb dL_law_134 rfl (lv_at hl 1 rfl) ?_
        refine lv_iload_n hx hb dL_law_135 rfl (lv_at hl 0 rfl) ?_
        refine lv_iconst (v := nI 1) hx hb dL_law_136 rfl ?_
        refine kw_iadd S0 dL_law_137 ?_
        refine kw_sld S0 hX hbl hbA hS (by omega) (by omega) dL_law_138 ?_
        refine lv_aload_n hx hb dL_law_139 rfl (lv_at hl 1 rfl) ?_
        refine lv_iload_n hx hb dL_law_140 rfl (lv_at hl 0 rfl) ?_
        refine lv_iconst (v := nI 2) hx hb dL_law_141 rfl ?_
        refine kw_iadd S0 dL_law_142 ?_
        refine kw_sld S0 hX hbl hbA hS (by omega) (by omega) dL_law_143 ?_
        refine kw_mi (n := 2) (wc := MWs kd cI v) (wr := XWs xd cI cB u2) (ci := 1) (As := [.int (xs (i + 1)), .int (xs (i + 2))]) (rest := [.int r1]) S0 hl.1 hK hP hD hS hA [12, 13, 14] [0, 1, 2, 3, 4, 5, 6, 7, 8, 9, 10, 11] rfl rfl (by decide) (by decide) (by decide) rfl rfl (fun sz => met_X1_repeat l D kd cI cB v.1.1 v.1.2 v.2.1 v.2.2 T w hM (xs (i + 1)) (xs (i + 2)) sz) (lw_V q196 q197 q198 q15 q199) rfl rfl (by decide +kernel) ⟨Nat.le_of_ble_eq_true rfl, Nat.le_of_ble_eq_true rfl⟩ rfl rfl (Nat.le_of_ble_eq_true rfl) dL_law_144 ⟨Nat.le_of_ble_eq_true rfl, Nat.le_of_ble_eq_true rfl⟩ (fun r2 v2 H locs hr2 hP hD hS => ?_)
        have hP : va_P D vwCl (XWs xd cI cB u2 ++ MWs kd cI v2) H := hP
        have hD : va_D A (XWs xd cI cB u2 ++ MWs kd cI v2) := hD
        refine lv_icmp_eq (tgt := 338) hx hb dL_law_147 (by decide) (fun _ => ?_) (fun c9 => absurd (by rw [hr1.1, hr2.1]) c9)
        exact next (kx_repT T (xs (i + 1)) (xs (i + 2))) w u2 v2 hr1.2 hr2.2 _ _ hP hD hS ls (lv_sub hl [0, 1, 2, 3] rfl)
      · refine lv_tableIn (off := 120) (tgt := 152) hx hb dL_law_32 (by decide) (by decide) (by decide) (by decide) ?_
        refine lv_aload_n hx hb dL_law_152 rfl (lv_at hl 2 rfl) ?_
        refine kw_mv (n := 0) (wc := XWs xd cI cB u) (wr := MWs kd cI v) (ci := 0) (As := []) (rest := []) S0 hl.1 hK hP hD hS hA [0, 1, 2, 3, 4, 5, 6, 7, 8, 9, 10, 11] [12, 13, 14] rfl rfl (by decide) (by decide) (by decide) rfl rfl (fun sz => met_X0_clear l D xd cI cB u.1.1 u.1.2.1 u.1.2.2.1 u.1.2.2.2.1 u.1.2.2.2.2.1 u.1.2.2.2.2.2 u.2.1 u.2.2.1 u.2.2.2.1 u.2.2.2.2.1 u.2.2.2.2.2.1 u.2.2.2.2.2.2.1 u.2.2.2.2.2.2.2.1 u.2.2.2.2.2.2.2.2.1 u.2.2.2.2.2.2.2.2.2.1 u.2.2.2.2.2.2.2.2.2.2.1 u.2.2.2.2.2.2.2.2.2.2.2 T w hI  sz) (lw_V q111 q112 q113 q14 q114) rfl rfl (by decide +kernel) ⟨Nat.le_of_ble_eq_true rfl, Nat.le_of_ble_eq_true rfl⟩ rfl rfl (Nat.le_of_ble_eq_true rfl) dL_law_153 ⟨Nat.le_of_ble_eq_true rfl, Nat.le_of_ble_eq_true rfl⟩ (fun u2 H locs hr1 hP hD hS => ?_)
        have hP : va_P D vwCl (XWs xd cI cB u2 ++ MWs kd cI v) H := hP.sub [3, 4, 5, 6, 7, 8, 9, 10, 11, 12, 13, 14, 0, 1, 2] rfl
        have hD : va_D A (XWs xd cI cB u2 ++ MWs kd cI v) := hD.sub [3, 4, 5, 6, 7, 8, 9, 10, 11, 12, 13, 14, 0, 1, 2] (by decide) rfl
        refine lv_aload_n hx hb dL_law_156 rfl (lv_at hl 3 rfl) ?_
        refine kw_mv (n := 0) (wc := MWs kd cI v) (wr := XWs xd cI cB u2) (ci := 1) (As := []) (rest := []) S0 hl.1 hK hP hD hS hA [12, 13, 14] [0, 1, 2, 3, 4, 5, 6, 7, 8, 9, 10, 11] rfl rfl (by decide) (by decide) (by decide) rfl rfl (fun sz => met_X1_clear l D kd cI cB v.1.1 v.1.2 v.2.1 v.2.2 T w hM  sz) (lw_V q201 q202 q203 q15 q204) rfl rfl (by decide +kernel) ⟨Nat.le_of_ble_eq_true rfl, Nat.le_of_ble_eq_true rfl⟩ rfl rfl (Nat.le_of_ble_eq_true rfl) dL_law_157 ⟨Nat.le_of_ble_eq_true rfl, Nat.le_of_ble_eq_true rfl⟩ (fun v2 H locs hr2 hP hD hS => ?_)
        have hP : va_P D vwCl (XWs xd cI cB u2 ++ MWs kd cI v2) H := hP
        have hD : va_D A (XWs xd cI cB u2 ++ MWs kd cI v2) := hD
        refine lv_goto (tgt := 338) hx hb dL_law_160 (by decide) ?_
        exact next [] w u2 v2 hr1 hr2 _ _ hP hD hS ls (lv_sub hl [0, 1, 2, 3] rfl)
      · refine lv_tableIn (off := 131) (tgt := 163) hx hb dL_law_32 (by decide) (by decide) (by decide) (by decide) ?_
        refine lv_aload_n hx hb dL_law_163 rfl (lv_at hl 2 rfl) ?_
        refine lv_aload_n hx hb dL_law_164 rfl (lv_at hl 1 rfl) ?_
        refine lv_iload_n hx hb dL_law_165 rfl (lv_at hl 0 rfl) ?_
        refine lv_iconst (v := nI 1) hx hb dL_law_166 rfl ?_
        refine kw_iadd S0 dL_law_167 ?_
        refine kw_sld S0 hX hbl hbA hS (by omega) (by omega) dL_law_168 ?_
        refine kw_mi (n := 1) (wc := XWs xd cI cB u) (wr := MWs kd cI v) (ci := 0) (As := [.int (xs (i + 1))]) (rest := []) S0 hl.1 hK hP hD hS hA [0, 1, 2, 3, 4, 5, 6, 7, 8, 9, 10, 11] [12, 13, 14] rfl rfl (by decide) (by decide) (by decide) rfl rfl (fun sz => met_X0_pattern l D xd cI cB u.1.1 u.1.2.1 u.1.2.2.1 u.1.2.2.2.1 u.1.2.2.2.2.1 u.1.2.2.2.2.2 u.2.1 u.2.2.1 u.2.2.2.1 u.2.2.2.2.1 u.2.2.2.2.2.1 u.2.2.2.2.2.2.1 u.2.2.2.2.2.2.2.1 u.2.2.2.2.2.2.2.2.1 u.2.2.2.2.2.2.2.2.2.1 u.2.2.2.2.2.2.2.2.2.2.1 u.2.2.2.2.2.2.2.2.2.2.2 T w hI (xs (i + 1)) sz) (lw_V q115 q116 q117 q14 q118) rfl rfl (by decide +kernel) ⟨Nat.le_of_ble_eq_true rfl, Nat.le_of_ble_eq_true rfl⟩ rfl rfl (Nat.le_of_ble_eq_true rfl) dL_law_169 ⟨Nat.le_of_ble_eq_true rfl, Nat.le_of_ble_eq_true rfl⟩ (fun r1 u2 H locs hr1 hP hD hS => ?_)
        have hP : va_P D vwCl (XWs xd cI cB u2 ++ MWs kd cI v) H := hP.sub [3, 4, 5, 6, 7, 8, 9, 10, 11, 12, 13, 14, 0, 1, 2] rfl
        have hD : va_D A (XWs xd cI cB u2 ++ MWs kd cI v) := hD.sub [3, 4, 5, 6, 7, 8, 9, 10, 11, 12, 13, 14, 0, 1, 2] (by decide) rfl
        refine lv_aload_n hx hb dL_law_172 rfl (lv_at hl 3 rfl) ?_
        refine lv_aload_n hx hb dL_law_173 rfl (lv_at hl 1 rfl) ?_
        refine lv_iload_n hx hb dL_law_174 rfl (lv_at hl 0 rfl) ?_
        refine lv_iconst (v := nI 1) hx hb dL_law_175 rfl ?_
        refine kw_iadd S0 dL_law_176 ?_
        refine kw_sld S0 hX hbl hbA hS (by omega) (by omega) dL_law_177 ?_
        refine kw_mi (n := 1) (wc := MWs kd cI v) (wr := XWs xd cI cB u2) (ci := 1) (As := [.int (xs (i + 1))]) (rest := [.int r1]) S0 hl.1 hK hP hD hS hA [12, 13, 14] [0, 1, 2, 3, 4, 5, 6, 7, 8, 9, 10, 11] rfl rfl (by decide) (by decide) (by decide) rfl rfl (fun sz => met_X1_pattern l D kd cI cB v.1.1 v.1.2 v.2.1 v.2.2 T w hM (xs (i + 1)) sz) (lw_V q205 q206 q207 q15 q208) rfl rfl (by decide +kernel) ⟨Nat.le_of_ble_eq_true rfl, Nat.le_of_ble_eq_true rfl⟩ rfl rfl (Nat.le_of_ble_eq_true rfl) dL_law_178 ⟨Nat.le_of_ble_eq_true rfl, Nat.le_of_ble_eq_true rfl⟩ (fun r2 v2 H locs hr2 hP hD hS => ?_)
        have hP : va_P D vwCl (XWs xd cI cB u2 ++ MWs kd cI v2) H := hP
        have hD : va_D A (XWs xd cI cB u2 ++ MWs kd cI v2) := hD
        refine lv_icmp_eq (tgt := 338) hx hb dL_law_181 (by decide) (fun _ => ?_) (fun c9 => absurd (by rw [hr1.1, hr2.1]) c9)
        exact next T (kx_patW w (xs (i + 1))) u2 v2 hr1.2 hr2.2 _ _ hP hD hS ls (lv_sub hl [0, 1, 2, 3] rfl)
      · refine lv_tableIn (off := 154) (tgt := 186) hx hb dL_law_32 (by decide) (by decide) (by decide) (by decide) ?_
        refine lv_aload_n hx hb dL_law_186 rfl (lv_at hl 2 rfl) ?_
        refine kw_mv (n := 0) (wc := XWs xd cI cB u) (wr := MWs kd cI v) (ci := 0) (As := []) (rest := []) S0 hl.1 hK hP hD hS hA [0, 1, 2, 3, 4, 5, 6, 7, 8, 9, 10, 11] [12, 13, 14] rfl rfl (by decide) (by decide) (by decide) rfl rfl (fun sz => met_X0_clearPattern l D xd cI cB u.1.1 u.1.2.1 u.1.2.2.1 u.1.2.2.2.1 u.1.2.2.2.2.1 u.1.2.2.2.2.2 u.2.1 u.2.2.1 u.2.2.2.1 u.2.2.2.2.1 u.2.2.2.2.2.1 u.2.2.2.2.2.2.1 u.2.2.2.2.2.2.2.1 u.2.2.2.2.2.2.2.2.1 u.2.2.2.2.2.2.2.2.2.1 u.2.2.2.2.2.2.2.2.2.2.1 u.2.2.2.2.2.2.2.2.2.2.2 T w hI  sz) (lw_V q123 q124 q125 q14 q126) rfl rfl (by decide +kernel) ⟨Nat.le_of_ble_eq_true rfl, Nat.le_of_ble_eq_true rfl⟩ rfl rfl (Nat.le_of_ble_eq_true rfl) dL_law_187 ⟨Nat.le_of_ble_eq_true rfl, Nat.le_of_ble_eq_true rfl⟩ (fun u2 H locs hr1 hP hD hS => ?_)
        have hP : va_P D vwCl (XWs xd cI cB u2 ++ MWs kd cI v) H := hP.sub [3, 4, 5, 6, 7, 8, 9, 10, 11, 12, 13, 14, 0, 1, 2] rfl
        have hD : va_D A (XWs xd cI cB u2 ++ MWs kd cI v) := hD.sub [3, 4, 5, 6, 7, 8, 9, 10, 11, 12, 13, 14, 0, 1, 2] (by decide) rfl
        refine lv_aload_n hx hb dL_law_190 rfl (lv_at hl 3 rfl) ?_
        refine kw_mv (n := 0) (wc := MWs kd cI v) (wr := XWs xd cI cB u2) (ci := 1) (As := []) (rest := []) S0 hl.1 hK hP hD hS hA [12, 13, 14] [0, 1, 2, 3, 4, 5, 6, 7, 8, 9, 10, 11] rfl rfl (by decide) (by decide) (by decide) rfl rfl (fun sz => met_X1_clearPattern l D kd cI cB v.1.1 v.1.2 v.2.1 v.2.2 T w hM  sz) (lw_V q209 q210 q211 q15 q212) rfl rfl (by decide +kernel) ⟨Nat.le_of_ble_eq_true rfl, Nat.le_of_ble_eq_true rfl⟩ rfl rfl (Nat.le_of_ble_eq_true rfl) dL_law_191 ⟨Nat.le_of_ble_eq_true rfl, Nat.le_of_ble_eq_true rfl⟩ (fun v2 H locs hr2 hP hD hS => ?_)
        have hP : va_P D vwCl (XWs xd cI cB u2 ++ MWs kd cI v2) H := hP
        have hD : va_D A (XWs xd cI cB u2 ++ MWs kd cI v2) := hD
        refine lv_goto (tgt := 338) hx hb dL_law_194 (by decide) ?_
        exact next T [] u2 v2 hr1 hr2 _ _ hP hD hS ls (lv_sub hl [0, 1, 2, 3] rfl)
      · refine lv_tableIn (off := 165) (tgt := 197) hx hb dL_law_32 (by decide) (by decide) (by decide) (by decide) ?_
        refine lv_aload_n hx hb dL_law_197 rfl (lv_at hl 2 rfl) ?_
        refine kw_ro (n := 0) (wc := XWs xd cI cB u) (ci := 0) (As := []) (rest := []) S0 hl.1 hK hP [0, 1, 2, 3, 4, 5, 6, 7, 8, 9, 10, 11] rfl rfl rfl (met_X0_length l D xd cI cB u.1.1 u.1.2.1 u.1.2.2.1 u.1.2.2.2.1 u.1.2.2.2.2.1 u.1.2.2.2.2.2 u.2.1 u.2.2.1 u.2.2.2.1 u.2.2.2.2.1 u.2.2.2.2.2.1 u.2.2.2.2.2.2.1 u.2.2.2.2.2.2.2.1 u.2.2.2.2.2.2.2.2.1 u.2.2.2.2.2.2.2.2.2.1 u.2.2.2.2.2.2.2.2.2.2.1 u.2.2.2.2.2.2.2.2.2.2.2 ) (lw_V q127 q128 q129 q14 q130) rfl rfl (by decide +kernel) ⟨Nat.le_of_ble_eq_true rfl, Nat.le_of_ble_eq_true rfl⟩ rfl rfl (Nat.le_of_ble_eq_true rfl) dL_law_198 ⟨Nat.le_of_ble_eq_true rfl, Nat.le_of_ble_eq_true rfl⟩ (fun r1 hr1 => ?_)
        refine lv_aload_n hx hb dL_law_201 rfl (lv_at hl 3 rfl) ?_
        refine kw_ro (n := 0) (wc := MWs kd cI v) (ci := 1) (As := []) (rest := [.int r1]) S0 hl.1 hK hP [12, 13, 14] rfl rfl rfl (met_X1_length l D kd cI cB v.1.1 v.1.2 v.2.1 v.2.2 ) (lw_V q213 q214 q215 q15 q216) rfl rfl (by decide +kernel) ⟨Nat.le_of_ble_eq_true rfl, Nat.le_of_ble_eq_true rfl⟩ rfl rfl (Nat.le_of_ble_eq_true rfl) dL_law_202 ⟨Nat.le_of_ble_eq_true rfl, Nat.le_of_ble_eq_true rfl⟩ (fun r2 hr2 => ?_)
        have e1 : u.1.2.1 = nI T.length := by
          obtain ⟨_, _, _, hT, -, -⟩ := hI
          obtain ⟨-, -, -, -, -, -, -, e6, -, -, -, -⟩ := hT
          exact e6
        have e2 : v.1.1 = nI T.length := hM.2.2.1
        refine lv_icmp_eq (tgt := 338) hx hb dL_law_205 (by decide) (fun _ => ?_) (fun c9 => absurd (by rw [hr1, hr2, e1, e2]) c9)
        exact next T w u v hI hM _ _ hP hD hS ls (lv_sub hl [0, 1, 2, 3] rfl)
      · refine lv_tableIn (off := 178) (tgt := 210) hx hb dL_law_32 (by decide) (by decide) (by decide) (by decide) ?_
        refine lv_aload_n hx hb dL_law_210 rfl (lv_at hl 2 rfl) ?_
        refine lv_aload_n hx hb dL_law_211 rfl (lv_at hl 1 rfl) ?_
        refine lv_iload_n hx hb dL_law_212 rfl (lv_at hl 0 rfl) ?_
        refine lv_iconst (v := nI 1) hx hb dL_law_213 rfl ?_
        refine kw_iadd S0 dL_law_214 ?_
        refine kw_sld S0 hX hbl hbA hS (by omega) (by omega) dL_law_215 ?_
        obtain ⟨wd, kk, cN, hT, hPI, hRI⟩ := hI
        refine kw_ro (n := 1) (wc := XWs xd cI cB u) (ci := 0) (As := [.int (xs (i + 1))]) (rest := []) S0 hl.1 hK hP [0, 1, 2, 3, 4, 5, 6, 7, 8, 9, 10, 11] rfl rfl rfl (met_X0_letterAt l D xd cI cB u.1.1 u.1.2.1 u.1.2.2.1 u.1.2.2.2.1 u.1.2.2.2.2.1 u.1.2.2.2.2.2 u.2.1 u.2.2.1 u.2.2.2.1 u.2.2.2.2.1 u.2.2.2.2.2.1 u.2.2.2.2.2.2.1 u.2.2.2.2.2.2.2.1 u.2.2.2.2.2.2.2.2.1 u.2.2.2.2.2.2.2.2.2.1 u.2.2.2.2.2.2.2.2.2.2.1 u.2.2.2.2.2.2.2.2.2.2.2 T wd kk cN hT (xs (i + 1))) (lw_V q131 q95 q96 q14 q97) rfl rfl (by decide +kernel) ⟨Nat.le_of_ble_eq_true rfl, Nat.le_of_ble_eq_true rfl⟩ rfl rfl (Nat.le_of_ble_eq_true rfl) dL_law_216 ⟨Nat.le_of_ble_eq_true rfl, Nat.le_of_ble_eq_true rfl⟩ (fun r1 hr1 => ?_)
        refine lv_aload_n hx hb dL_law_219 rfl (lv_at hl 3 rfl) ?_
        refine lv_aload_n hx hb dL_law_220 rfl (lv_at hl 1 rfl) ?_
        refine lv_iload_n hx hb dL_law_221 rfl (lv_at hl 0 rfl) ?_
        refine lv_iconst (v := nI 1) hx hb dL_law_222 rfl ?_
        refine kw_iadd S0 dL_law_223 ?_
        refine kw_sld S0 hX hbl hbA hS (by omega) (by omega) dL_law_224 ?_
        refine kw_ro (n := 1) (wc := MWs kd cI v) (ci := 1) (As := [.int (xs (i + 1))]) (rest := [.int r1]) S0 hl.1 hK hP [12, 13, 14] rfl rfl rfl (met_X1_letterAt l D kd cI cB v.1.1 v.1.2 v.2.1 v.2.2 T w hM (xs (i + 1))) (lw_V q217 q218 q219 q15 q220) rfl rfl (by decide +kernel) ⟨Nat.le_of_ble_eq_true rfl, Nat.le_of_ble_eq_true rfl⟩ rfl rfl (Nat.le_of_ble_eq_true rfl) dL_law_225 ⟨Nat.le_of_ble_eq_true rfl, Nat.le_of_ble_eq_true rfl⟩ (fun r2 hr2 => ?_)
        refine lv_icmp_eq (tgt := 338) hx hb dL_law_228 (by decide) (fun _ => ?_) (fun c9 => absurd (by rw [hr1, hr2]) c9)
        exact next T w u v ⟨wd, kk, cN, hT, hPI, hRI⟩ hM _ _ hP hD hS ls (lv_sub hl [0, 1, 2, 3] rfl)
      · refine lv_tableIn (off := 201) (tgt := 233) hx hb dL_law_32 (by decide) (by decide) (by decide) (by decide) ?_
        refine lv_aload_n hx hb dL_law_233 rfl (lv_at hl 2 rfl) ?_
        refine kw_mi (n := 0) (wc := XWs xd cI cB u) (wr := MWs kd cI v) (ci := 0) (As := []) (rest := []) S0 hl.1 hK hP hD hS hA [0, 1, 2, 3, 4, 5, 6, 7, 8, 9, 10, 11] [12, 13, 14] rfl rfl (by decide) (by decide) (by decide) rfl rfl (fun sz => met_X0_count l D xd cI cB u.1.1 u.1.2.1 u.1.2.2.1 u.1.2.2.2.1 u.1.2.2.2.2.1 u.1.2.2.2.2.2 u.2.1 u.2.2.1 u.2.2.2.1 u.2.2.2.2.1 u.2.2.2.2.2.1 u.2.2.2.2.2.2.1 u.2.2.2.2.2.2.2.1 u.2.2.2.2.2.2.2.2.1 u.2.2.2.2.2.2.2.2.2.1 u.2.2.2.2.2.2.2.2.2.2.1 u.2.2.2.2.2.2.2.2.2.2.2 T w hI  sz) (lw_V q132 q133 q134 q14 q135) rfl rfl (by decide +kernel) ⟨Nat.le_of_ble_eq_true rfl, Nat.le_of_ble_eq_true rfl⟩ rfl rfl (Nat.le_of_ble_eq_true rfl) dL_law_234 ⟨Nat.le_of_ble_eq_true rfl, Nat.le_of_ble_eq_true rfl⟩ (fun r1 u2 H locs hr1 hP hD hS => ?_)
        have hP : va_P D vwCl (XWs xd cI cB u2 ++ MWs kd cI v) H := hP.sub [3, 4, 5, 6, 7, 8, 9, 10, 11, 12, 13, 14, 0, 1, 2] rfl
        have hD : va_D A (XWs xd cI cB u2 ++ MWs kd cI v) := hD.sub [3, 4, 5, 6, 7, 8, 9, 10, 11, 12, 13, 14, 0, 1, 2] (by decide) rfl
        refine lv_aload_n hx hb dL_law_237 rfl (lv_at hl 3 rfl) ?_
        refine kw_ro (n := 0) (wc := MWs kd cI v) (ci := 1) (As := []) (rest := [.int r1]) S0 hl.1 hK hP [12, 13, 14] rfl rfl rfl (met_X1_count l D kd cI cB v.1.1 v.1.2 v.2.1 v.2.2 T w hM ) (lw_V q221 q222 q223 q15 q224) rfl rfl (by decide +kernel) ⟨Nat.le_of_ble_eq_true rfl, Nat.le_of_ble_eq_true rfl⟩ rfl rfl (Nat.le_of_ble_eq_true rfl) dL_law_238 ⟨Nat.le_of_ble_eq_true rfl, Nat.le_of_ble_eq_true rfl⟩ (fun r2 hr2 => ?_)
        refine lv_icmp_eq (tgt := 338) hx hb dL_law_241 (by decide) (fun _ => ?_) (fun c9 => absurd (by rw [hr1.1, hr2, kx_cw_eq]) c9)
        exact next T w u2 v hr1.2 hM _ _ hP hD hS ls (lv_sub hl [0, 1, 2, 3] rfl)
      · refine lv_tableIn (off := 214) (tgt := 246) hx hb dL_law_32 (by decide) (by decide) (by decide) (by decide) ?_
        refine lv_aload_n hx hb dL_law_246 rfl (lv_at hl 2 rfl) ?_
        refine lv_aload_n hx hb dL_law_247 rfl (lv_at hl 1 rfl) ?_
        refine lv_iload_n hx hb dL_law_248 rfl (lv_at hl 0 rfl) ?_
        refine lv_iconst (v := nI 1) hx hb dL_law_249 rfl ?_
        refine kw_iadd S0 dL_law_250 ?_
        refine kw_sld S0 hX hbl hbA hS (by omega) (by omega) dL_law_251 ?_
        refine kw_mi (n := 1) (wc := XWs xd cI cB u) (wr := MWs kd cI v) (ci := 0) (As := [.int (xs (i + 1))]) (rest := []) S0 hl.1 hK hP hD hS hA [0, 1, 2, 3, 4, 5, 6, 7, 8, 9, 10, 11] [12, 13, 14] rfl rfl (by decide) (by decide) (by decide) rfl rfl (fun sz => met_X0_position l D xd cI cB u.1.1 u.1.2.1 u.1.2.2.1 u.1.2.2.2.1 u.1.2.2.2.2.1 u.1.2.2.2.2.2 u.2.1 u.2.2.1 u.2.2.2.1 u.2.2.2.2.1 u.2.2.2.2.2.1 u.2.2.2.2.2.2.1 u.2.2.2.2.2.2.2.1 u.2.2.2.2.2.2.2.2.1 u.2.2.2.2.2.2.2.2.2.1 u.2.2.2.2.2.2.2.2.2.2.1 u.2.2.2.2.2.2.2.2.2.2.2 T w hI (xs (i + 1)) sz) (lw_V q152 q153 q154 q14 q155) rfl rfl (by decide +kernel) ⟨Nat.le_of_ble_eq_true rfl, Nat.le_of_ble_eq_true rfl⟩ rfl rfl (Nat.le_of_ble_eq_true rfl) dL_law_252 ⟨Nat.le_of_ble_eq_true rfl, Nat.le_of_ble_eq_true rfl⟩ (fun r1 u2 H locs hr1 hP hD hS => ?_)
        have hP : va_P D vwCl (XWs xd cI cB u2 ++ MWs kd cI v) H := hP.sub [3, 4, 5, 6, 7, 8, 9, 10, 11, 12, 13, 14, 0, 1, 2] rfl
        have hD : va_D A (XWs xd cI cB u2 ++ MWs kd cI v) := hD.sub [3, 4, 5, 6, 7, 8, 9, 10, 11, 12, 13, 14, 0, 1, 2] (by decide) rfl
        refine lv_aload_n hx hb dL_law_255 rfl (lv_at hl 3 rfl) ?_
        refine lv_aload_n hx hb dL_law_256 rfl (lv_at hl 1 rfl) ?_
        refine lv_iload_n hx hb dL_law_257 rfl (lv_at hl 0 rfl) ?_
        refine lv_iconst (v := nI 1) hx hb dL_law_258 rfl ?_
        refine kw_iadd S0 dL_law_259 ?_
        refine kw_sld S0 hX hbl hbA hS (by omega) (by omega) dL_law_260 ?_
        refine kw_ro (n := 1) (wc := MWs kd cI v) (ci := 1) (As := [.int (xs (i + 1))]) (rest := [.int r1]) S0 hl.1 hK hP [12, 13, 14] rfl rfl rfl (met_X1_position l D kd cI cB v.1.1 v.1.2 v.2.1 v.2.2 T w hM (xs (i + 1))) (lw_V q238 q239 q240 q15 q241) rfl rfl (by decide +kernel) ⟨Nat.le_of_ble_eq_true rfl, Nat.le_of_ble_eq_true rfl⟩ rfl rfl (Nat.le_of_ble_eq_true rfl) dL_law_261 ⟨Nat.le_of_ble_eq_true rfl, Nat.le_of_ble_eq_true rfl⟩ (fun r2 hr2 => ?_)
        refine lv_icmp_eq (tgt := 338) hx hb dL_law_264 (by decide) (fun _ => ?_) (fun c9 => absurd (kx_PosR_eq (by have h1 := hM.1; omega) hr1.1 hr2) c9)
        exact next T w u2 v hr1.2 hM _ _ hP hD hS ls (lv_sub hl [0, 1, 2, 3] rfl)
      · refine lv_tableIn (off := 237) (tgt := 269) hx hb dL_law_32 (by decide) (by decide) (by decide) (by decide) ?_
        refine lv_aload_n hx hb dL_law_269 rfl (lv_at hl 2 rfl) ?_
        refine lv_aload_n hx hb dL_law_270 rfl (lv_at hl 1 rfl) ?_
        refine lv_iload_n hx hb dL_law_271 rfl (lv_at hl 0 rfl) ?_
        refine lv_iconst (v := nI 1) hx hb dL_law_272 rfl ?_
        refine kw_iadd S0 dL_law_273 ?_
        refine kw_sld S0 hX hbl hbA hS (by omega) (by omega) dL_law_274 ?_
        refine lv_aload_n hx hb dL_law_275 rfl (lv_at hl 1 rfl) ?_
        refine lv_iload_n hx hb dL_law_276 rfl (lv_at hl 0 rfl) ?_
        refine lv_iconst (v := nI 2) hx hb dL_law_277 rfl ?_
        refine kw_iadd S0 dL_law_278 ?_
        refine kw_sld S0 hX hbl hbA hS (by omega) (by omega) dL_law_279 ?_
        obtain ⟨wd, kk, cN, hT, hPI, hRI⟩ := hI
        refine kw_ro (n := 2) (wc := XWs xd cI cB u) (ci := 0) (As := [.int (xs (i + 1)), .int (xs (i + 2))]) (rest := []) S0 hl.1 hK hP [0, 1, 2, 3, 4, 5, 6, 7, 8, 9, 10, 11] rfl rfl rfl (met_X0_frequency l D xd cI cB u.1.1 u.1.2.1 u.1.2.2.1 u.1.2.2.2.1 u.1.2.2.2.2.1 u.1.2.2.2.2.2 u.2.1 u.2.2.1 u.2.2.2.1 u.2.2.2.2.1 u.2.2.2.2.2.1 u.2.2.2.2.2.2.1 u.2.2.2.2.2.2.2.1 u.2.2.2.2.2.2.2.2.1 u.2.2.2.2.2.2.2.2.2.1 u.2.2.2.2.2.2.2.2.2.2.1 u.2.2.2.2.2.2.2.2.2.2.2 T wd kk cN hT (xs (i + 1)) (xs (i + 2))) (lw_V q160 q161 q162 q14 q163) rfl rfl (by decide +kernel) ⟨Nat.le_of_ble_eq_true rfl, Nat.le_of_ble_eq_true rfl⟩ rfl rfl (Nat.le_of_ble_eq_true rfl) dL_law_280 ⟨Nat.le_of_ble_eq_true rfl, Nat.le_of_ble_eq_true rfl⟩ (fun r1 hr1 => ?_)
        refine lv_aload_n hx hb dL_law_283 rfl (lv_at hl 3 rfl) ?_
        refine lv_aload_n hx hb dL_law_284 rfl (lv_at hl 1 rfl) ?_
        refine lv_iload_n hx hb dL_law_285 rfl (lv_at hl 0 rfl) ?_
        refine lv_iconst (v := nI 1) hx hb dL_law_286 rfl ?_
        refine kw_iadd S0 dL_law_287 ?_
        refine kw_sld S0 hX hbl hbA hS (by omega) (by omega) dL_law_288 ?_
        refine lv_aload_n hx hb dL_law_289 rfl (lv_at hl 1 rfl) ?_
        refine lv_iload_n hx hb dL_law_290 rfl (lv_at hl 0 rfl) ?_
        refine lv_iconst (v := nI 2) hx hb dL_law_291 rfl ?_
        refine kw_iadd S0 dL_law_292 ?_
        refine kw_sld S0 hX hbl hbA hS (by omega) (by omega) dL_law_293 ?_
        refine kw_ro (n := 2) (wc := MWs kd cI v) (ci := 1) (As := [.int (xs (i + 1)), .int (xs (i + 2))]) (rest := [.int r1]) S0 hl.1 hK hP [12, 13, 14] rfl rfl rfl (met_X1_frequency l D kd cI cB v.1.1 v.1.2 v.2.1 v.2.2 T w hM (xs (i + 1)) (xs (i + 2))) (lw_V q242 q243 q244 q15 q245) rfl rfl (by decide +kernel) ⟨Nat.le_of_ble_eq_true rfl, Nat.le_of_ble_eq_true rfl⟩ rfl rfl (Nat.le_of_ble_eq_true rfl) dL_law_294 ⟨Nat.le_of_ble_eq_true rfl, Nat.le_of_ble_eq_true rfl⟩ (fun r2 hr2 => ?_)
        refine lv_icmp_eq (tgt := 338) hx hb dL_law_297 (by decide) (fun _ => ?_) (fun c9 => absurd (by rw [hr1, hr2]) c9)
        exact next T w u v ⟨wd, kk, cN, hT, hPI, hRI⟩ hM _ _ hP hD hS ls (lv_sub hl [0, 1, 2, 3] rfl)
      · refine lv_tableIn (off := 270) (tgt := 302) hx hb dL_law_32 (by decide) (by decide) (by decide) (by decide) ?_
        refine lv_aload_n hx hb dL_law_302 rfl (lv_at hl 2 rfl) ?_
        refine kw_mi (n := 0) (wc := XWs xd cI cB u) (wr := MWs kd cI v) (ci := 0) (As := []) (rest := []) S0 hl.1 hK hP hD hS hA [0, 1, 2, 3, 4, 5, 6, 7, 8, 9, 10, 11] [12, 13, 14] rfl rfl (by decide) (by decide) (by decide) rfl rfl (fun sz => met_X0_overlap l D xd cI cB u.1.1 u.1.2.1 u.1.2.2.1 u.1.2.2.2.1 u.1.2.2.2.2.1 u.1.2.2.2.2.2 u.2.1 u.2.2.1 u.2.2.2.1 u.2.2.2.2.1 u.2.2.2.2.2.1 u.2.2.2.2.2.2.1 u.2.2.2.2.2.2.2.1 u.2.2.2.2.2.2.2.2.1 u.2.2.2.2.2.2.2.2.2.1 u.2.2.2.2.2.2.2.2.2.2.1 u.2.2.2.2.2.2.2.2.2.2.2 T w hI  sz) (lw_V q164 q165 q166 q14 q167) rfl rfl (by decide +kernel) ⟨Nat.le_of_ble_eq_true rfl, Nat.le_of_ble_eq_true rfl⟩ rfl rfl (Nat.le_of_ble_eq_true rfl) dL_law_303 ⟨Nat.le_of_ble_eq_true rfl, Nat.le_of_ble_eq_true rfl⟩ (fun r1 u2 H locs hr1 hP hD hS => ?_)
        have hP : va_P D vwCl (XWs xd cI cB u2 ++ MWs kd cI v) H := hP.sub [3, 4, 5, 6, 7, 8, 9, 10, 11, 12, 13, 14, 0, 1, 2] rfl
        have hD : va_D A (XWs xd cI cB u2 ++ MWs kd cI v) := hD.sub [3, 4, 5, 6, 7, 8, 9, 10, 11, 12, 13, 14, 0, 1, 2] (by decide) rfl
        refine lv_aload_n hx hb dL_law_306 rfl (lv_at hl 3 rfl) ?_
        refine kw_ro (n := 0) (wc := MWs kd cI v) (ci := 1) (As := []) (rest := [.int r1]) S0 hl.1 hK hP [12, 13, 14] rfl rfl rfl (met_X1_overlap l D kd cI cB v.1.1 v.1.2 v.2.1 v.2.2 T w hM ) (lw_V q246 q247 q248 q15 q249) rfl rfl (by decide +kernel) ⟨Nat.le_of_ble_eq_true rfl, Nat.le_of_ble_eq_true rfl⟩ rfl rfl (Nat.le_of_ble_eq_true rfl) dL_law_307 ⟨Nat.le_of_ble_eq_true rfl, Nat.le_of_ble_eq_true rfl⟩ (fun r2 hr2 => ?_)
        refine lv_icmp_eq (tgt := 338) hx hb dL_law_310 (by decide) (fun _ => ?_) (fun c9 => absurd (by rw [hr1.1, hr2]) c9)
        exact next T w u2 v hr1.2 hM _ _ hP hD hS ls (lv_sub hl [0, 1, 2, 3] rfl)
      · refine lv_tableIn (off := 283) (tgt := 315) hx hb dL_law_32 (by decide) (by decide) (by decide) (by decide) ?_
        refine lv_aload_n hx hb dL_law_315 rfl (lv_at hl 2 rfl) ?_
        refine lv_aload_n hx hb dL_law_316 rfl (lv_at hl 1 rfl) ?_
        refine lv_iload_n hx hb dL_law_317 rfl (lv_at hl 0 rfl) ?_
        refine lv_iconst (v := nI 1) hx hb dL_law_318 rfl ?_
        refine kw_iadd S0 dL_law_319 ?_
        refine kw_sld S0 hX hbl hbA hS (by omega) (by omega) dL_law_320 ?_
        refine kw_mi (n := 1) (wc := XWs xd cI cB u) (wr := MWs kd cI v) (ci := 0) (As := [.int (xs (i + 1))]) (rest := []) S0 hl.1 hK hP hD hS hA [0, 1, 2, 3, 4, 5, 6, 7, 8, 9, 10, 11] [12, 13, 14] rfl rfl (by decide) (by decide) (by decide) rfl rfl (fun sz => met_X0_countWithin l D xd cI cB u.1.1 u.1.2.1 u.1.2.2.1 u.1.2.2.2.1 u.1.2.2.2.2.1 u.1.2.2.2.2.2 u.2.1 u.2.2.1 u.2.2.2.1 u.2.2.2.2.1 u.2.2.2.2.2.1 u.2.2.2.2.2.2.1 u.2.2.2.2.2.2.2.1 u.2.2.2.2.2.2.2.2.1 u.2.2.2.2.2.2.2.2.2.1 u.2.2.2.2.2.2.2.2.2.2.1 u.2.2.2.2.2.2.2.2.2.2.2 T w hI (xs (i + 1)) sz) (lw_V q168 q137 q138 q14 q139) rfl rfl (by decide +kernel) ⟨Nat.le_of_ble_eq_true rfl, Nat.le_of_ble_eq_true rfl⟩ rfl rfl (Nat.le_of_ble_eq_true rfl) dL_law_321 ⟨Nat.le_of_ble_eq_true rfl, Nat.le_of_ble_eq_true rfl⟩ (fun r1 u2 H locs hr1 hP hD hS => ?_)
        have hP : va_P D vwCl (XWs xd cI cB u2 ++ MWs kd cI v) H := hP.sub [3, 4, 5, 6, 7, 8, 9, 10, 11, 12, 13, 14, 0, 1, 2] rfl
        have hD : va_D A (XWs xd cI cB u2 ++ MWs kd cI v) := hD.sub [3, 4, 5, 6, 7, 8, 9, 10, 11, 12, 13, 14, 0, 1, 2] (by decide) rfl
        refine lv_aload_n hx hb dL_law_324 rfl (lv_at hl 3 rfl) ?_
        refine lv_aload_n hx hb dL_law_325 rfl (lv_at hl 1 rfl) ?_
        refine lv_iload_n hx hb dL_law_326 rfl (lv_at hl 0 rfl) ?_
        refine lv_iconst (v := nI 1) hx hb dL_law_327 rfl ?_
        refine kw_iadd S0 dL_law_328 ?_
        refine kw_sld S0 hX hbl hbA hS (by omega) (by omega) dL_law_329 ?_
        refine kw_ro (n := 1) (wc := MWs kd cI v) (ci := 1) (As := [.int (xs (i + 1))]) (rest := [.int r1]) S0 hl.1 hK hP [12, 13, 14] rfl rfl rfl (met_X1_countWithin l D kd cI cB v.1.1 v.1.2 v.2.1 v.2.2 T w hM (xs (i + 1))) (lw_V q250 q226 q227 q15 q228) rfl rfl (by decide +kernel) ⟨Nat.le_of_ble_eq_true rfl, Nat.le_of_ble_eq_true rfl⟩ rfl rfl (Nat.le_of_ble_eq_true rfl) dL_law_330 ⟨Nat.le_of_ble_eq_true rfl, Nat.le_of_ble_eq_true rfl⟩ (fun r2 hr2 => ?_)
        refine lv_icmp_eq (tgt := 338) hx hb dL_law_333 (by decide) (fun _ => ?_) (fun c9 => absurd (by rw [hr1.1, hr2, kx_cw_eq]) c9)
        exact next T w u2 v hr1.2 hM _ _ hP hD hS ls (lv_sub hl [0, 1, 2, 3] rfl)
      · refine lv_tableOut (tgt := 338) hx hb dL_law_32 (Or.inr (by rw [nI_toInt (by omega)]; omega)) (by decide) ?_
        exact next T w u v hI hM _ _ hP hD hS ls hl
end
section
set_option maxHeartbeats 4000000 in
set_option maxRecDepth 100000 in
/-- from the entry, for every script of at most 192 ints, the law comes to its end with true -/
theorem whole_start {p : Program} {e : Env} {s : State} {m : MethodId} {below : List Frame} {meth : Method} {c : Code} (l : Launch) {b L : Nat} {xs : Nat → Int32} (hL : L ≤ 192) (C0 : lw_At p s m meth c b L xs) : W p l e room_1 s m #[Value.ref b] below meth c s.heap [] 0 0 (lw_Z below #[Value.ref b] s) (entryFrame m ([Value.ref b] : List Value).toArray 4) := by
  obtain ⟨hx, hb, hr, hml, hown, hts0, hX, hbl, hlocks, hgv⟩ := C0
  have hts : ∀ w ∈ lw_all, w.before #[Value.ref b] s = true := fun w h => hts0 w (lw_all_tbl h)
  have S0 : CallFix p m c code 4 s #[Value.ref b] lw_all R_law := ⟨hx, hb, hml, hown, hts⟩
  obtain ⟨c0_, iS0, hKn0⟩ := u_known (C := RX0) (T := TX0) (N := 17) (n := 17) hts0 (fun w h => lw_all_tbl (in_X0 w h)) (hts0 _ (lw_all_tbl q17))
  obtain ⟨c1_, iS1, hKn1⟩ := u_known (C := RX1) (T := TX1) (N := 4) (n := 4) hts0 (fun w h => lw_all_tbl (in_X1 w h)) (hts0 _ (lw_all_tbl q170))
  obtain ⟨D, hD0, hD1⟩ : ∃ D : va_G, u_Kn s RX0 TX0 17 (D.1 0) (D.2 0) ∧ u_Kn s RX1 TX1 4 (D.1 1) (D.2 1) := ⟨(fun k => if k = 0 then c0_ else c1_, fun k => if k = 0 then iS0 else iS1), hKn0, hKn1⟩
  obtain ⟨cI, kI, compI, hI1, hI2, hI3⟩ := Cond.arrayClass_spec (hts _ q84)
  obtain ⟨cB, kB, compB, hB1, hB2, hB3⟩ := Cond.arrayClass_spec (hts _ q85)
  have hK : va_K D vwCl (tys_ cI cB) s := by
    refine ⟨fun k q hq => ?_, fun k q hq => ?_⟩
    · match k, hq with
      | 0, hq => cases hq; exact hD0
      | 1, hq => cases hq; exact hD1
      | k + 2, hq => simp [vwCl] at hq
    · match k, hq with
      | 0, hq => cases hq; exact ⟨fun _ _ => ⟨fun k h => (by cases h), kI, hI2, compI, hI3⟩, hI1⟩
      | 1, hq => cases hq; exact ⟨fun _ _ => ⟨fun k h => (by cases h), kB, hB2, compB, hB3⟩, hB1⟩
      | k + 2, hq => simp at hq
  obtain ⟨A, eA⟩ : ∃ A : Nat → Prop, A = fun q => s.heap.size ≤ q := ⟨_, rfl⟩
  have hA : ∀ q : Nat, s.heap.size ≤ q → A q := fun q h => by rw [eA]; exact h
  have hA2 : ∀ q : Nat, A q → s.heap.size ≤ q := fun q h => by rw [eA] at h; exact h
  have hbA : ¬ A b := fun h => absurd (hA2 b h) (Nat.not_le_of_lt hbl)
  have hP : va_P D vwCl [] s.heap := fun k q h => by simp at h
  have hD : va_D A [] := ⟨fun i j p q h => by simp at h, fun k q h => by simp at h⟩
  have hS : va_S A s.heap s.heap [] := va_S.rf
  have hl := lv_entry ([.ref b]) (n := 4) (Nat.le_of_ble_eq_true rfl)
  rw [lg_entry_eq]
  generalize (lg_sl ([.ref b]) ++ List.replicate (4 - (lg_sl ([.ref b])).length) Slot.unset).toArray = ls at hl ⊢
  have hl : lv_has ls 4 [(0, .ref b)] := hl
  refine va_new (ci := 0) (fs := [.int 0, .null, .null, .null, .null, .null, .int 0, .int 0, .null, .null, .int 0, .int 0, .null, .null, .int 0, .null, .null]) (C := RX0) (T := TX0) (N := 17) hx hb hts in_X0 tyX0 tyX0_ok hown (hts _ q16) (hts _ q17) (hts _ q14) hK hP hD hS hA rfl (fun j hj => by rcases (show j = 0 ∨ j = 1 ∨ j = 2 ∨ j = 3 ∨ j = 4 ∨ j = 5 ∨ j = 6 ∨ j = 7 ∨ j = 8 ∨ j = 9 ∨ j = 10 ∨ j = 11 ∨ j = 12 ∨ j = 13 ∨ j = 14 ∨ j = 15 ∨ j = 16 by omega) with rfl | rfl | rfl | rfl | rfl | rfl | rfl | rfl | rfl | rfl | rfl | rfl | rfl | rfl | rfl | rfl | rfl <;> rfl) (Nat.le_of_ble_eq_true rfl) (Nat.le_of_ble_eq_true rfl) dL_law_0 (fun o H hP hD hS => ?_)
  have hP : va_P D vwCl (kx_W0 o) H := hP
  have hD : va_D A (kx_W0 o) := hD
  refine W.widen (k := 1) (n := 17) (Nat.le_of_ble_eq_true rfl) (Nat.le_of_ble_eq_true rfl) ?_
  refine lv_dup hx hb dL_law_3 rfl ?_
  refine kw_init (n := 0) (wc := kx_W0 o) (wr := []) (As := []) (rest := [.ref o]) S0 hl.1 hK hP hD hS hA [0] [] rfl rfl (by decide) (by decide) (by decide) (fun sz => met_X0_init l D cI cB o sz) q20 rfl rfl q14 q18 q19 rfl (by decide +kernel) ⟨Nat.le_of_ble_eq_true rfl, Nat.le_of_ble_eq_true rfl⟩ rfl rfl (Nat.le_of_ble_eq_true rfl) dL_law_4 ⟨Nat.le_of_ble_eq_true rfl, Nat.le_of_ble_eq_true rfl⟩ (fun uu H locs hu hP hD hS => ?_)
  obtain ⟨xd, u⟩ := uu
  obtain ⟨ho, hI⟩ := hu
  have ho : xd 0 = o := ho
  have hPx : va_P D vwCl (XWs xd cI cB u) H := hP
  have hDx : va_D A (XWs xd cI cB u) := hD
  subst ho
  have hP := hPx
  have hD := hDx
  refine W.widen (k := 12) (n := 4536) (Nat.le_of_ble_eq_true rfl) (Nat.le_of_ble_eq_true rfl) ?_
  refine lv_astore_n (lv' := [(1, .ref (xd 0)), (0, .ref b)]) hx hb dL_law_7 rfl hl (by decide) rfl (fun ls hl => ?_)
  refine va_new (ci := 1) (fs := [.null, .int 0, .null, .int 0]) (C := RX1) (T := TX1) (N := 4) hx hb hts in_X1 tyX1 tyX1_ok hown (hts _ q169) (hts _ q170) (hts _ q15) hK hP hD hS hA rfl (fun j hj => by rcases (show j = 0 ∨ j = 1 ∨ j = 2 ∨ j = 3 by omega) with rfl | rfl | rfl | rfl <;> rfl) (Nat.le_of_ble_eq_true rfl) (Nat.le_of_ble_eq_true rfl) dL_law_8 (fun o H hP hD hS => ?_)
  have hP : va_P D vwCl (XWs xd cI cB u ++ kx_M0 o) H := hP
  have hD : va_D A (XWs xd cI cB u ++ kx_M0 o) := hD
  refine W.widen (k := 13) (n := 4540) (Nat.le_of_ble_eq_true rfl) (Nat.le_of_ble_eq_true rfl) ?_
  refine lv_dup hx hb dL_law_11 rfl ?_
  refine kw_init (n := 0) (wc := kx_M0 o) (wr := XWs xd cI cB u) (As := []) (rest := [.ref o]) S0 hl.1 hK hP hD hS hA [12] [0, 1, 2, 3, 4, 5, 6, 7, 8, 9, 10, 11] rfl rfl (by decide) (by decide) (by decide) (fun sz => met_X1_init l D cI cB o sz) q173 rfl rfl q15 q171 q172 rfl (by decide +kernel) ⟨Nat.le_of_ble_eq_true rfl, Nat.le_of_ble_eq_true rfl⟩ rfl rfl (Nat.le_of_ble_eq_true rfl) dL_law_12 ⟨Nat.le_of_ble_eq_true rfl, Nat.le_of_ble_eq_true rfl⟩ (fun uu H locs hu hP hD hS => ?_)
  obtain ⟨kd, v⟩ := uu
  obtain ⟨ho, hM⟩ := hu
  have ho : kd 0 = o := ho
  have hPx : va_P D vwCl (XWs xd cI cB u ++ MWs kd cI v) H := hP
  have hDx : va_D A (XWs xd cI cB u ++ MWs kd cI v) := hD
  subst ho
  have hP := hPx
  have hD := hDx
  refine W.widen (k := 15) (n := 4670) (Nat.le_of_ble_eq_true rfl) (Nat.le_of_ble_eq_true rfl) ?_
  refine lv_astore_n (lv' := [(2, .ref (kd 0)), (1, .ref (xd 0)), (0, .ref b)]) hx hb dL_law_15 rfl hl (by decide) rfl (fun ls hl => ?_)
  refine lv_iconst (v := nI 0) hx hb dL_law_16 rfl ?_
  refine lv_istore_n (lv' := [(3, .int (nI 0)), (2, .ref (kd 0)), (1, .ref (xd 0)), (0, .ref b)]) hx hb dL_law_17 rfl hl (by decide) rfl (fun ls hl => ?_)
  exact law_loop xd kd hL hx hb hr hlocks hml hown hts hA hA2 hX hbl hbA hK (L + 1) 0 [] [] u v (by omega) (by omega) hI hM _ _ hP hD hS ls (lv_sub hl [0, 3, 2, 1] rfl)
set_option maxHeartbeats 4000000 in
theorem lw_walk (l : Launch) (b : Addr) (xs : List Int32) : MetFree l x (headSpec (Jvm.Cond.code x code maxLocals ret :: tables_1) room_1) (lw_P b xs) (fun _ _ _ _ _ => True) lw_Q := by
  refine MetFree.of_bodyS (code := code) (maxLocals := maxLocals) (ret := ret) (by decide) ?_ ?_
  · intro args s m h hn
    obtain ⟨meth, c, h1, h2, h3, h4, h5, h6, -, -⟩ := Cond.code_spec hn (atoms_spec (ws := Jvm.Cond.code x code maxLocals ret :: tables_1) h _ List.mem_cons_self)
    exact ⟨meth, c, h1, h2, h3, h4, h5, h6⟩
  · intro p e s m args below meth c s₁ B hml0 hP _
    obtain ⟨rfl, hx, hbd, hgv⟩ := hP
    obtain ⟨scr, harrAt, hlist, hof, hsmall⟩ := hx
    obtain ⟨hcb, hkn, -, -⟩ := State.arrayAt?_spec harrAt
    have hown : s.vm.findClass R_law = some m.cls := findClass_of_methodNamed B.named
    have hts0 : ∀ c ∈ (Jvm.Cond.code x code maxLocals ret :: tables_1), c.before #[Value.ref b] s = true := atoms_spec (ws := Jvm.Cond.code x code maxLocals ret :: tables_1) B.pre
    have hts : ∀ w ∈ lw_tbl, w.before #[Value.ref b] s = true := k2_hts_sels lw_privs (fun w hw => hts0 w (List.mem_cons_of_mem _ hw)) lw_privs_ok
    have hml : c.maxLocals = 4 := B.maxLocals_eq (hts0 _ List.mem_cons_self)
    have X₀ : Stand p l e room_1 s m #[Value.ref b] below meth c s₁ [] 0 0 := Stand.of_body B
    have hh0 : s₁.heap = s.heap := by rw [B.state]; rfl
    have hsz : scr.slots.size = xs.length := by rw [← Array.length_toList, hlist, List.length_map]
    have hval : ∀ j : Nat, j < xs.length → scr.slots[j]? = some (.int (xs.getD j 0)) := fun j hj => by
      rw [← Array.getElem?_toList, hlist]
      simp [hj]
    have hbl : b < s.heap.size := (Array.getElem?_eq_some_iff.mp hcb).1
    have hX : va_X b xs.length (fun j => xs.getD j 0) s s.heap := ⟨scr, hcb, hof, hkn, hsz, hval⟩
    have K : W p l e room_1 s m #[Value.ref b] below meth c s₁.heap [] 0 0 (lw_Z below #[Value.ref b] s) (entryFrame m ([Value.ref b] : List Value).toArray 4) := by
      rw [hh0]
      exact whole_start l hbd ⟨B.exec, B.bytes, B.returns, hml, hown, hts, hX, hbl, B.notSynchronized, hgv⟩
    obtain ⟨t, a1, o, b1, b2, b3⟩ := K s₁ rfl X₀
    exact ⟨t, o, a1, b1, b2, b3⟩
theorem lw_pre_spec {args : Array Value} {s : State} (h : (Jvm.Cond.and given_1 narrow_1).before args s = true) (hr : rest_1_c.before args s = true) : ∃ (b : Addr) (xs : List Int32), lw_P b xs args s := by
  have hs := flat_of_before _ h
  have hq := flat_of_before _ hr
  have hc : (Cond.count 1).before args s = true := hs _ (by decide +kernel)
  have harr : (Cond.arrayOf (.arg 0) .int).before args s = true := hs _ (by decide +kernel)
  have hle : (Cond.le (.length (.arg 0)) (.int 192)).before args s = true := hs _ (by decide +kernel)
  have hlen : (Cond.isInt (.length (.arg 0))).before args s = true := hq _ (by decide +kernel)
  have hall : (Cond.all (.arg 0) (.isInt (.elem (.arg 0) (.index 0)))).before args s = true := hq _ (by decide +kernel)
  obtain ⟨b, xs, hb, hx⟩ := State.ints_of_pre rfl harr hlen hall
  have hsm : xs.length < 2 ^ 31 := hx.choose_spec.2.2.2
  have hev : (Term.length (.arg 0)).eval args s none [] s = some (.int xs.length.toInt32) := hx.length_eval hb
  have hv := Cond.le_ints hev (show (Term.int 192).eval args s none [] s = some (.int 192) from rfl)
  have hd : xs.length.toInt32 ≤ 192 := by
    simpa [Cond.before, Cond.holds, hv] using hle
  have hN : xs.length ≤ 192 := (Int32.ofNat_le_ofNat hsm (by decide)).mp (show Int32.ofNat xs.length ≤ Int32.ofNat 192 from hd)
  exact ⟨b, xs, Cond.one_arg hc (show args[0]? = some (.ref b) from hb), hx, hN, h⟩
theorem lw_comes (l : Launch) : Comes l x (Jvm.Cond.code x code maxLocals ret :: tables_1) room_1 (fun tb e args s => Calls_1 tb e args s ∧ rest_1 tb e args s ∧ Pre_1 tb e args s)
    (fun _ _ args s o t => lw_Q args s o t) := by
  intro p e ha hc hk s m args below hf hfit hheap happ hpre
  obtain ⟨b, xs, hP⟩ := lw_pre_spec hpre.2.2 hpre.2.1
  obtain ⟨k, o, h1, h2, h3, hQ⟩ := lw_walk l b xs p e ha hc hk s m args below hf ((Spec.applies_iff_loose hf).mp happ).1 hP trivial
  exact ⟨k, o, h1, h2, h3, hQ⟩
theorem lw_frame {s t : State} {o : Outcome} {args : Array Value} (h : Framed s o t [] 600000 7290000) :
    Framed s o t (fieldLocs frame_1_writes args s ++ arrayLocs frame_1_arrays args s ++ staticLocs frame_1_statics s) 600000 7290000 := h
theorem lw_limb (L : Cond) (hL : ∀ (args : Array Value) (s t : State), L.after args s (.returned (some (.int 1))) t = true) :
    ArmFor flags0 classFile x code maxLocals ret World_1 tables_1 room_1 Calls_1 rest_1 Pre_1
      (fun tb e a s o t => postC L tb e a s o t ∧ Framed s o t (fieldLocs frame_1_writes a s ++ arrayLocs frame_1_arrays a s ++ staticLocs frame_1_statics s) 600000 7290000) := by
  intro l _ _ _ p e ha hc hk s m args below hf hfit hheap happ hpre
  obtain ⟨k, o, h1, h2, h3, rfl, hF⟩ := lw_comes l p e ha hc hk s m args below hf hfit hheap happ hpre
  exact ⟨k, _, h1, h2, h3, hL args s _, lw_frame hF⟩
theorem i_vc : Claimed_1_1 ∧ Claimed_1_2 := ⟨lw_limb limb_1_1 (fun args s t => by simp [limb_1_1, Cond.after, Cond.holds, Cond.value]), lw_limb limb_1_2 (fun args s t => Cond.after_iff.mpr (by
  first | (rw [show limb_1_2 = Cond.eq .result (.int 1) from rfl, Cond.eq_ints (x := 1) (y := 1) rfl rfl]; simp; done) | (simp [limb_1_2, Cond.value, Term.eval]; done)))⟩
end
