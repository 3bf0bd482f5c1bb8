section
-- ===== PART A: goes FIRST, ahead of the names: the tables' words, and 'selects' of the private methods out of them =====
/-- a private method of a class that the tables say can be made, by its rows of tables_1 -/
def lw_okq (q : MethodName × Nat) : Prop := (q.1.cls ≠ "java/lang/invoke/MethodHandle" ∧ q.1.cls ≠ "java/lang/invoke/VarHandle") ∧ Cond.instantiable q.1.cls q.2 ∈ tables_1 ∧ Cond.privateMethod q.1 ∈ tables_1 ∧ Cond.instanceMethod q.1 ∈ tables_1
set_option maxRecDepth 100000
theorem lw_t1 {w : Cond} (h : w ∈ tables_1_1) : w ∈ tables_1 := List.mem_append_left _ h
theorem lw_t2 {w : Cond} (h : w ∈ tables_1_2) : w ∈ tables_1 := List.mem_append_right _ h
theorem lw_p0 : lw_okq (⟨"Q15DspCompiler", "isNumber", "(I)Z"⟩, 19) := ⟨⟨by decide +kernel, by decide +kernel⟩, lw_t1 (List.mem_of_getElem? (i := 4) rfl), lw_t1 (List.mem_of_getElem? (i := 76) rfl), lw_t1 (List.mem_of_getElem? (i := 77) rfl)⟩
theorem lw_p1 : lw_okq (⟨"Q15DspCompiler", "compile", "()V"⟩, 19) := ⟨⟨by decide +kernel, by decide +kernel⟩, lw_t1 (List.mem_of_getElem? (i := 4) rfl), lw_t1 (List.mem_of_getElem? (i := 96) rfl), lw_t1 (List.mem_of_getElem? (i := 97) rfl)⟩
theorem lw_p2 : lw_okq (⟨"Q15DspCompiler", "orderNodes", "()Z"⟩, 19) := ⟨⟨by decide +kernel, by decide +kernel⟩, lw_t1 (List.mem_of_getElem? (i := 4) rfl), lw_t1 (List.mem_of_getElem? (i := 100) rfl), lw_t1 (List.mem_of_getElem? (i := 101) rfl)⟩
theorem lw_p3 : lw_okq (⟨"Q15DspCompiler", "namedBy", "(I)I"⟩, 19) := ⟨⟨by decide +kernel, by decide +kernel⟩, lw_t1 (List.mem_of_getElem? (i := 4) rfl), lw_t1 (List.mem_of_getElem? (i := 104) rfl), lw_t1 (List.mem_of_getElem? (i := 105) rfl)⟩
theorem lw_p4 : lw_okq (⟨"Q15DspCompiler", "copy", "(II)V"⟩, 19) := ⟨⟨by decide +kernel, by decide +kernel⟩, lw_t1 (List.mem_of_getElem? (i := 4) rfl), lw_t1 (List.mem_of_getElem? (i := 108) rfl), lw_t1 (List.mem_of_getElem? (i := 109) rfl)⟩
theorem lw_p5 : lw_okq (⟨"Q15DspCompiler", "load", "(I)V"⟩, 19) := ⟨⟨by decide +kernel, by decide +kernel⟩, lw_t1 (List.mem_of_getElem? (i := 4) rfl), lw_t1 (List.mem_of_getElem? (i := 112) rfl), lw_t1 (List.mem_of_getElem? (i := 113) rfl)⟩
theorem lw_p6 : lw_okq (⟨"Q15DspCompiler", "write", "(III)V"⟩, 19) := ⟨⟨by decide +kernel, by decide +kernel⟩, lw_t1 (List.mem_of_getElem? (i := 4) rfl), lw_t1 (List.mem_of_getElem? (i := 116) rfl), lw_t1 (List.mem_of_getElem? (i := 117) rfl)⟩
theorem lw_p7 : lw_okq (⟨"Q15DspCompiler", "store", "(I)V"⟩, 19) := ⟨⟨by decide +kernel, by decide +kernel⟩, lw_t1 (List.mem_of_getElem? (i := 4) rfl), lw_t1 (List.mem_of_getElem? (i := 120) rfl), lw_t1 (List.mem_of_getElem? (i := 121) rfl)⟩
theorem lw_p8 : lw_okq (⟨"Q15DspCompiler", "compileNode", "(I)V"⟩, 19) := ⟨⟨by decide +kernel, by decide +kernel⟩, lw_t1 (List.mem_of_getElem? (i := 4) rfl), lw_t1 (List.mem_of_getElem? (i := 124) rfl), lw_t1 (List.mem_of_getElem? (i := 125) rfl)⟩
theorem lw_p9 : lw_okq (⟨"Q15DspCompiler", "compileSum", "(I)V"⟩, 19) := ⟨⟨by decide +kernel, by decide +kernel⟩, lw_t1 (List.mem_of_getElem? (i := 4) rfl), lw_t1 (List.mem_of_getElem? (i := 128) rfl), lw_t1 (List.mem_of_getElem? (i := 129) rfl)⟩
theorem lw_p10 : lw_okq (⟨"Q15DspCompiler", "cellFor", "(I)I"⟩, 19) := ⟨⟨by decide +kernel, by decide +kernel⟩, lw_t1 (List.mem_of_getElem? (i := 4) rfl), lw_t1 (List.mem_of_getElem? (i := 132) rfl), lw_t1 (List.mem_of_getElem? (i := 133) rfl)⟩
theorem lw_p11 : lw_okq (⟨"Q15DspCompiler", "compileTwo", "(I)V"⟩, 19) := ⟨⟨by decide +kernel, by decide +kernel⟩, lw_t1 (List.mem_of_getElem? (i := 4) rfl), lw_t1 (List.mem_of_getElem? (i := 136) rfl), lw_t1 (List.mem_of_getElem? (i := 137) rfl)⟩
theorem lw_p12 : lw_okq (⟨"Q15DspCompiler", "compileOne", "(I)V"⟩, 19) := ⟨⟨by decide +kernel, by decide +kernel⟩, lw_t1 (List.mem_of_getElem? (i := 4) rfl), lw_t1 (List.mem_of_getElem? (i := 140) rfl), lw_t1 (List.mem_of_getElem? (i := 141) rfl)⟩
theorem lw_p13 : lw_okq (⟨"Q15DspCompiler", "saturated", "(J)J"⟩, 19) := ⟨⟨by decide +kernel, by decide +kernel⟩, lw_t1 (List.mem_of_getElem? (i := 4) rfl), lw_t1 (List.mem_of_getElem? (i := 148) rfl), lw_t1 (List.mem_of_getElem? (i := 149) rfl)⟩
theorem lw_p14 : lw_okq (⟨"Q15DspCompiler", "perform", "(I)V"⟩, 19) := ⟨⟨by decide +kernel, by decide +kernel⟩, lw_t1 (List.mem_of_getElem? (i := 4) rfl), lw_t1 (List.mem_of_getElem? (i := 154) rfl), lw_t1 (List.mem_of_getElem? (i := 155) rfl)⟩
theorem lw_p15 : lw_okq (⟨"Q15DspCompiler", "performSpecial", "(III)V"⟩, 19) := ⟨⟨by decide +kernel, by decide +kernel⟩, lw_t1 (List.mem_of_getElem? (i := 4) rfl), lw_t1 (List.mem_of_getElem? (i := 158) rfl), lw_t1 (List.mem_of_getElem? (i := 159) rfl)⟩
def lw_privs_1 : List (MethodName × Nat) := [(⟨"Q15DspCompiler", "isNumber", "(I)Z"⟩, 19), (⟨"Q15DspCompiler", "compile", "()V"⟩, 19), (⟨"Q15DspCompiler", "orderNodes", "()Z"⟩, 19), (⟨"Q15DspCompiler", "namedBy", "(I)I"⟩, 19), (⟨"Q15DspCompiler", "copy", "(II)V"⟩, 19), (⟨"Q15DspCompiler", "load", "(I)V"⟩, 19), (⟨"Q15DspCompiler", "write", "(III)V"⟩, 19), (⟨"Q15DspCompiler", "store", "(I)V"⟩, 19), (⟨"Q15DspCompiler", "compileNode", "(I)V"⟩, 19), (⟨"Q15DspCompiler", "compileSum", "(I)V"⟩, 19), (⟨"Q15DspCompiler", "cellFor", "(I)I"⟩, 19), (⟨"Q15DspCompiler", "compileTwo", "(I)V"⟩, 19), (⟨"Q15DspCompiler", "compileOne", "(I)V"⟩, 19), (⟨"Q15DspCompiler", "saturated", "(J)J"⟩, 19), (⟨"Q15DspCompiler", "perform", "(I)V"⟩, 19), (⟨"Q15DspCompiler", "performSpecial", "(III)V"⟩, 19)]
theorem lw_r1 : ∀ q ∈ lw_privs_1, lw_okq q := List.forall_mem_cons.mpr ⟨lw_p0, List.forall_mem_cons.mpr ⟨lw_p1, List.forall_mem_cons.mpr ⟨lw_p2, List.forall_mem_cons.mpr ⟨lw_p3, List.forall_mem_cons.mpr ⟨lw_p4, List.forall_mem_cons.mpr ⟨lw_p5, List.forall_mem_cons.mpr ⟨lw_p6, List.forall_mem_cons.mpr ⟨lw_p7, List.forall_mem_cons.mpr ⟨lw_p8, List.forall_mem_cons.mpr ⟨lw_p9, List.forall_mem_cons.mpr ⟨lw_p10, List.forall_mem_cons.mpr ⟨lw_p11, List.forall_mem_cons.mpr ⟨lw_p12, List.forall_mem_cons.mpr ⟨lw_p13, List.forall_mem_cons.mpr ⟨lw_p14, List.forall_mem_cons.mpr ⟨lw_p15, fun _ h => absurd h List.not_mem_nil⟩⟩⟩⟩⟩⟩⟩⟩⟩⟩⟩⟩⟩⟩⟩⟩
theorem lw_p16 : lw_okq (⟨"Q15DspCompilerModel", "fits", "(III)Z"⟩, 11) := ⟨⟨by decide +kernel, by decide +kernel⟩, lw_t1 (List.mem_of_getElem? (i := 181) rfl), lw_t1 (List.mem_of_getElem? (i := 225) rfl), lw_t1 (List.mem_of_getElem? (i := 226) rfl)⟩
theorem lw_p17 : lw_okq (⟨"Q15DspCompilerModel", "isValue", "(I)Z"⟩, 11) := ⟨⟨by decide +kernel, by decide +kernel⟩, lw_t1 (List.mem_of_getElem? (i := 181) rfl), lw_t1 (List.mem_of_getElem? (i := 229) rfl), lw_t1 (List.mem_of_getElem? (i := 230) rfl)⟩
theorem lw_p18 : lw_okq (⟨"Q15DspCompilerModel", "isName", "(I)Z"⟩, 11) := ⟨⟨by decide +kernel, by decide +kernel⟩, lw_t1 (List.mem_of_getElem? (i := 181) rfl), lw_t1 (List.mem_of_getElem? (i := 233) rfl), lw_t1 (List.mem_of_getElem? (i := 234) rfl)⟩
theorem lw_p19 : lw_okq (⟨"Q15DspCompilerModel", "namedBy", "(I)I"⟩, 11) := ⟨⟨by decide +kernel, by decide +kernel⟩, lw_t1 (List.mem_of_getElem? (i := 181) rfl), lw_t2 (List.mem_of_getElem? (i := 13) rfl), lw_t2 (List.mem_of_getElem? (i := 14) rfl)⟩
theorem lw_p20 : lw_okq (⟨"Q15DspCompilerModel", "worth", "(II)I"⟩, 11) := ⟨⟨by decide +kernel, by decide +kernel⟩, lw_t1 (List.mem_of_getElem? (i := 181) rfl), lw_t2 (List.mem_of_getElem? (i := 22) rfl), lw_t2 (List.mem_of_getElem? (i := 23) rfl)⟩
theorem lw_p21 : lw_okq (⟨"Q15DspCompilerModel", "sat", "(J)I"⟩, 11) := ⟨⟨by decide +kernel, by decide +kernel⟩, lw_t1 (List.mem_of_getElem? (i := 181) rfl), lw_t2 (List.mem_of_getElem? (i := 26) rfl), lw_t2 (List.mem_of_getElem? (i := 27) rfl)⟩
theorem lw_p22 : lw_okq (⟨"Q15DspCompilerModel", "sumOf", "(I)I"⟩, 11) := ⟨⟨by decide +kernel, by decide +kernel⟩, lw_t1 (List.mem_of_getElem? (i := 181) rfl), lw_t2 (List.mem_of_getElem? (i := 32) rfl), lw_t2 (List.mem_of_getElem? (i := 33) rfl)⟩
theorem lw_p23 : lw_okq (⟨"Q15DspCompilerModel", "nowAt", "(I)I"⟩, 11) := ⟨⟨by decide +kernel, by decide +kernel⟩, lw_t1 (List.mem_of_getElem? (i := 181) rfl), lw_t2 (List.mem_of_getElem? (i := 37) rfl), lw_t2 (List.mem_of_getElem? (i := 38) rfl)⟩
def lw_privs_2 : List (MethodName × Nat) := [(⟨"Q15DspCompilerModel", "fits", "(III)Z"⟩, 11), (⟨"Q15DspCompilerModel", "isValue", "(I)Z"⟩, 11), (⟨"Q15DspCompilerModel", "isName", "(I)Z"⟩, 11), (⟨"Q15DspCompilerModel", "namedBy", "(I)I"⟩, 11), (⟨"Q15DspCompilerModel", "worth", "(II)I"⟩, 11), (⟨"Q15DspCompilerModel", "sat", "(J)I"⟩, 11), (⟨"Q15DspCompilerModel", "sumOf", "(I)I"⟩, 11), (⟨"Q15DspCompilerModel", "nowAt", "(I)I"⟩, 11)]
theorem lw_r2 : ∀ q ∈ lw_privs_2, lw_okq q := List.forall_mem_cons.mpr ⟨lw_p16, List.forall_mem_cons.mpr ⟨lw_p17, List.forall_mem_cons.mpr ⟨lw_p18, List.forall_mem_cons.mpr ⟨lw_p19, List.forall_mem_cons.mpr ⟨lw_p20, List.forall_mem_cons.mpr ⟨lw_p21, List.forall_mem_cons.mpr ⟨lw_p22, List.forall_mem_cons.mpr ⟨lw_p23, fun _ h => absurd h List.not_mem_nil⟩⟩⟩⟩⟩⟩⟩⟩
def lw_privs : List (MethodName × Nat) := lw_privs_1 ++ (lw_privs_2)
def lw_tbl : List Cond := k2_sels lw_privs ++ tables_1
theorem lw_privs_ok : ∀ q ∈ lw_privs, lw_okq q := by
  show ∀ q ∈ lw_privs_1 ++ (lw_privs_2), lw_okq q
  exact List.forall_mem_append.mpr ⟨lw_r1, lw_r2⟩
-- ===== ONE list of words for every method: the tables' words that hold all through a run =====
def lw_all : List Cond := lw_tbl.filter goodWord
/-- a word of the tables by its place: claim/WORDS.tsv -/
theorem lw_w {w : Cond} (i : Nat) (h : lw_tbl[i]? = some w) (g : goodWord w = true) : w ∈ lw_all := List.mem_filter.mpr ⟨List.mem_of_getElem? h, g⟩
theorem lw_all_tbl {w : Cond} (h : w ∈ lw_all) : w ∈ lw_tbl := (List.mem_filter.mp h).1
theorem lw_self : GoodIn lw_all lw_all := fun w h => ⟨h, good_of_word (List.mem_filter.mp h).2⟩
/-- a class's field words, by their places -/
theorem lw_in (ws : List Cond) (ps : List Nat) (hp : ws = ps.filterMap (fun i => lw_tbl[i]?)) (hg : ws.all goodWord = true) : ∀ w ∈ ws, w ∈ lw_all := by
  intro w h
  have h1 := List.all_eq_true.mp hg w h
  rw [hp] at h
  obtain ⟨i, -, hi⟩ := List.mem_filterMap.mp h
  exact lw_w i hi h1
/-- the words of a contract for the method y with code b, L locals, answer r -/
abbrev ws_ (y : MethodName) (b : ByteArray) (L : Nat) (r : Option FieldType) : List Cond := Cond.code y b L r :: lw_all
theorem lw_meth {y : MethodName} {b : ByteArray} {L : Nat} {r : Option FieldType} (h : Cond.code y b L r ∈ lw_all) : GoodIn lw_all (ws_ y b L r) := by
  intro w hw
  rcases List.mem_cons.mp hw with e | e
  · rw [e]
    exact lw_self _ h
  · exact lw_self _ e
theorem lw_app {a c : List Cond} (ha : ∀ w ∈ a, w ∈ lw_all) (hc : GoodIn lw_all c) : GoodIn lw_all (a ++ c) := by
  intro w hw
  rcases List.mem_append.mp hw with e | e
  · exact lw_self w (ha w e)
  · exact hc w e
/-- what a call through an object asks: cwV n hts (lw_V ..) -/
theorem lw_V {own : String} {idx : Nat} {C : String} {y : MethodName} {b : ByteArray} {L : Nat} {r : Option FieldType} (h1 : Cond.methodLink own idx y ∈ lw_all) (h2 : Cond.instanceMethod y ∈ lw_all) (h3 : Cond.selects C y y ∈ lw_all) (h4 : Cond.initialized C ∈ lw_all) (h5 : Cond.code y b L r ∈ lw_all) : GoodIn lw_all (wsV own idx C y (ws_ y b L r)) := by
  refine lw_app ?_ (lw_meth h5)
  intro w hw
  simp only [List.mem_cons, List.not_mem_nil, or_false] at hw
  rcases hw with e | e | e | e
  · rw [e]; exact h1
  · rw [e]; exact h2
  · rw [e]; exact h3
  · rw [e]; exact h4
/-- what a static call asks: va_cwS n hts (lw_S ..) -/
theorem lw_S {own : String} {idx : Nat} {y : MethodName} {b : ByteArray} {L : Nat} {r : Option FieldType} (h1 : Cond.methodLink own idx y ∈ lw_all) (h2 : Cond.static y ∈ lw_all) (h3 : Cond.initialized y.cls ∈ lw_all) (h4 : Cond.code y b L r ∈ lw_all) : GoodIn lw_all (va_wsS own idx y (ws_ y b L r)) := by
  refine lw_app ?_ (lw_meth h4)
  intro w hw
  simp only [List.mem_cons, List.not_mem_nil, or_false] at hw
  rcases hw with e | e | e
  · rw [e]; exact h1
  · rw [e]; exact h2
  · rw [e]; exact h3
/-- the words of a contract for a method WITH HANDLERS (hh: its table) -/
abbrev wsW_ (y : MethodName) (b : ByteArray) (L : Nat) (r : Option FieldType) (hh : List (Nat × Nat × Nat × Nat)) : List Cond := Cond.codeWith y b L r hh :: lw_all
theorem lw_methW {y : MethodName} {b : ByteArray} {L : Nat} {r : Option FieldType} {hh : List (Nat × Nat × Nat × Nat)} (h : Cond.codeWith y b L r hh ∈ lw_all) : GoodIn lw_all (wsW_ y b L r hh) := by
  intro w hw
  rcases List.mem_cons.mp hw with e | e
  · rw [e]
    exact lw_self _ h
  · exact lw_self _ e
/-- any list of words by their places (lw_in), good -/
theorem lw_good {ws : List Cond} (h : ∀ w ∈ ws, w ∈ lw_all) : GoodIn lw_all ws := fun w hw => lw_self w (h w hw)
/-- what a call of a method with handlers asks: vx_cwVW n hts (lw_VW ..), vx_cwSW n hts (lw_SW ..) -/
theorem lw_VW {own : String} {idx : Nat} {C : String} {y : MethodName} {b : ByteArray} {L : Nat} {r : Option FieldType} {hh : List (Nat × Nat × Nat × Nat)} (h1 : Cond.methodLink own idx y ∈ lw_all) (h2 : Cond.instanceMethod y ∈ lw_all) (h3 : Cond.selects C y y ∈ lw_all) (h4 : Cond.initialized C ∈ lw_all) (h5 : Cond.codeWith y b L r hh ∈ lw_all) : GoodIn lw_all (wsV own idx C y (wsW_ y b L r hh)) := by
  refine lw_app ?_ (lw_methW h5)
  intro w hw
  simp only [List.mem_cons, List.not_mem_nil, or_false] at hw
  rcases hw with e | e | e | e
  · rw [e]; exact h1
  · rw [e]; exact h2
  · rw [e]; exact h3
  · rw [e]; exact h4
theorem lw_SW {own : String} {idx : Nat} {y : MethodName} {b : ByteArray} {L : Nat} {r : Option FieldType} {hh : List (Nat × Nat × Nat × Nat)} (h1 : Cond.methodLink own idx y ∈ lw_all) (h2 : Cond.static y ∈ lw_all) (h3 : Cond.initialized y.cls ∈ lw_all) (h4 : Cond.codeWith y b L r hh ∈ lw_all) : GoodIn lw_all (va_wsS own idx y (wsW_ y b L r hh)) := by
  refine lw_app ?_ (lw_methW h4)
  intro w hw
  simp only [List.mem_cons, List.not_mem_nil, or_false] at hw
  rcases hw with e | e | e
  · rw [e]; exact h1
  · rw [e]; exact h2
  · rw [e]; exact h3
/-- a word by its place in its run of the tables -/
theorem lw_at {r : List Cond} (hr : ∀ w ∈ r, w ∈ lw_tbl) {w : Cond} (i : Nat) (h : r[i]? = some w) : w ∈ lw_tbl := hr w (List.mem_of_getElem? h)
theorem lw_g {w : Cond} (h : w ∈ lw_tbl) (g : goodWord w = true) : w ∈ lw_all := List.mem_filter.mpr ⟨h, g⟩
theorem lw_ms : ∀ w ∈ k2_sels lw_privs, w ∈ lw_tbl := fun w h => show w ∈ k2_sels lw_privs ++ tables_1 from List.mem_append_left _ h
theorem lw_m1 : ∀ w ∈ tables_1_1, w ∈ lw_tbl := fun w h => show w ∈ k2_sels lw_privs ++ tables_1 from List.mem_append_right (k2_sels lw_privs) (show w ∈ tables_1 from List.mem_append_left _ h)
theorem lw_m2 : ∀ w ∈ tables_1_2, w ∈ lw_tbl := fun w h => show w ∈ k2_sels lw_privs ++ tables_1 from List.mem_append_right (k2_sels lw_privs) (show w ∈ tables_1 from List.mem_append_right _ h)
theorem qs0 : (Cond.selects "Q15DspCompiler" ⟨"Q15DspCompiler", "isNumber", "(I)Z"⟩ ⟨"Q15DspCompiler", "isNumber", "(I)Z"⟩) ∈ lw_all := lw_g (lw_at lw_ms 0 rfl) rfl
theorem qs1 : (Cond.selects "Q15DspCompiler" ⟨"Q15DspCompiler", "compile", "()V"⟩ ⟨"Q15DspCompiler", "compile", "()V"⟩) ∈ lw_all := lw_g (lw_at lw_ms 1 rfl) rfl
theorem qs2 : (Cond.selects "Q15DspCompiler" ⟨"Q15DspCompiler", "orderNodes", "()Z"⟩ ⟨"Q15DspCompiler", "orderNodes", "()Z"⟩) ∈ lw_all := lw_g (lw_at lw_ms 2 rfl) rfl
theorem qs3 : (Cond.selects "Q15DspCompiler" ⟨"Q15DspCompiler", "namedBy", "(I)I"⟩ ⟨"Q15DspCompiler", "namedBy", "(I)I"⟩) ∈ lw_all := lw_g (lw_at lw_ms 3 rfl) rfl
theorem qs4 : (Cond.selects "Q15DspCompiler" ⟨"Q15DspCompiler", "copy", "(II)V"⟩ ⟨"Q15DspCompiler", "copy", "(II)V"⟩) ∈ lw_all := lw_g (lw_at lw_ms 4 rfl) rfl
theorem qs5 : (Cond.selects "Q15DspCompiler" ⟨"Q15DspCompiler", "load", "(I)V"⟩ ⟨"Q15DspCompiler", "load", "(I)V"⟩) ∈ lw_all := lw_g (lw_at lw_ms 5 rfl) rfl
theorem qs6 : (Cond.selects "Q15DspCompiler" ⟨"Q15DspCompiler", "write", "(III)V"⟩ ⟨"Q15DspCompiler", "write", "(III)V"⟩) ∈ lw_all := lw_g (lw_at lw_ms 6 rfl) rfl
theorem qs7 : (Cond.selects "Q15DspCompiler" ⟨"Q15DspCompiler", "store", "(I)V"⟩ ⟨"Q15DspCompiler", "store", "(I)V"⟩) ∈ lw_all := lw_g (lw_at lw_ms 7 rfl) rfl
theorem qs8 : (Cond.selects "Q15DspCompiler" ⟨"Q15DspCompiler", "compileNode", "(I)V"⟩ ⟨"Q15DspCompiler", "compileNode", "(I)V"⟩) ∈ lw_all := lw_g (lw_at lw_ms 8 rfl) rfl
theorem qs9 : (Cond.selects "Q15DspCompiler" ⟨"Q15DspCompiler", "compileSum", "(I)V"⟩ ⟨"Q15DspCompiler", "compileSum", "(I)V"⟩) ∈ lw_all := lw_g (lw_at lw_ms 9 rfl) rfl
theorem qs10 : (Cond.selects "Q15DspCompiler" ⟨"Q15DspCompiler", "cellFor", "(I)I"⟩ ⟨"Q15DspCompiler", "cellFor", "(I)I"⟩) ∈ lw_all := lw_g (lw_at lw_ms 10 rfl) rfl
theorem qs11 : (Cond.selects "Q15DspCompiler" ⟨"Q15DspCompiler", "compileTwo", "(I)V"⟩ ⟨"Q15DspCompiler", "compileTwo", "(I)V"⟩) ∈ lw_all := lw_g (lw_at lw_ms 11 rfl) rfl
theorem qs12 : (Cond.selects "Q15DspCompiler" ⟨"Q15DspCompiler", "compileOne", "(I)V"⟩ ⟨"Q15DspCompiler", "compileOne", "(I)V"⟩) ∈ lw_all := lw_g (lw_at lw_ms 12 rfl) rfl
theorem qs13 : (Cond.selects "Q15DspCompiler" ⟨"Q15DspCompiler", "saturated", "(J)J"⟩ ⟨"Q15DspCompiler", "saturated", "(J)J"⟩) ∈ lw_all := lw_g (lw_at lw_ms 13 rfl) rfl
theorem qs14 : (Cond.selects "Q15DspCompiler" ⟨"Q15DspCompiler", "perform", "(I)V"⟩ ⟨"Q15DspCompiler", "perform", "(I)V"⟩) ∈ lw_all := lw_g (lw_at lw_ms 14 rfl) rfl
theorem qs15 : (Cond.selects "Q15DspCompiler" ⟨"Q15DspCompiler", "performSpecial", "(III)V"⟩ ⟨"Q15DspCompiler", "performSpecial", "(III)V"⟩) ∈ lw_all := lw_g (lw_at lw_ms 15 rfl) rfl
theorem qs16 : (Cond.selects "Q15DspCompilerModel" ⟨"Q15DspCompilerModel", "fits", "(III)Z"⟩ ⟨"Q15DspCompilerModel", "fits", "(III)Z"⟩) ∈ lw_all := lw_g (lw_at lw_ms 16 rfl) rfl
theorem qs17 : (Cond.selects "Q15DspCompilerModel" ⟨"Q15DspCompilerModel", "isValue", "(I)Z"⟩ ⟨"Q15DspCompilerModel", "isValue", "(I)Z"⟩) ∈ lw_all := lw_g (lw_at lw_ms 17 rfl) rfl
theorem qs18 : (Cond.selects "Q15DspCompilerModel" ⟨"Q15DspCompilerModel", "isName", "(I)Z"⟩ ⟨"Q15DspCompilerModel", "isName", "(I)Z"⟩) ∈ lw_all := lw_g (lw_at lw_ms 18 rfl) rfl
theorem qs19 : (Cond.selects "Q15DspCompilerModel" ⟨"Q15DspCompilerModel", "namedBy", "(I)I"⟩ ⟨"Q15DspCompilerModel", "namedBy", "(I)I"⟩) ∈ lw_all := lw_g (lw_at lw_ms 19 rfl) rfl
theorem qs20 : (Cond.selects "Q15DspCompilerModel" ⟨"Q15DspCompilerModel", "worth", "(II)I"⟩ ⟨"Q15DspCompilerModel", "worth", "(II)I"⟩) ∈ lw_all := lw_g (lw_at lw_ms 20 rfl) rfl
theorem qs21 : (Cond.selects "Q15DspCompilerModel" ⟨"Q15DspCompilerModel", "sat", "(J)I"⟩ ⟨"Q15DspCompilerModel", "sat", "(J)I"⟩) ∈ lw_all := lw_g (lw_at lw_ms 21 rfl) rfl
theorem qs22 : (Cond.selects "Q15DspCompilerModel" ⟨"Q15DspCompilerModel", "sumOf", "(I)I"⟩ ⟨"Q15DspCompilerModel", "sumOf", "(I)I"⟩) ∈ lw_all := lw_g (lw_at lw_ms 22 rfl) rfl
theorem qs23 : (Cond.selects "Q15DspCompilerModel" ⟨"Q15DspCompilerModel", "nowAt", "(I)I"⟩ ⟨"Q15DspCompilerModel", "nowAt", "(I)I"⟩) ∈ lw_all := lw_g (lw_at lw_ms 23 rfl) rfl
end
section
/-! Q15DspCompiler -/
set_option maxRecDepth 100000
def RX0 : String := "Q15DspCompiler"
def TX0 : u_T := fun k => match k with
  | 0 => ("Q15DspCompiler", "nodeCount", "I", false)
  | 1 => ("Q15DspCompiler", "kind", "[B", true)
  | 2 => ("Q15DspCompiler", "first", "[I", true)
  | 3 => ("Q15DspCompiler", "second", "[B", true)
  | 4 => ("Q15DspCompiler", "tapCount", "[B", true)
  | 5 => ("Q15DspCompiler", "tapNode", "[B", true)
  | 6 => ("Q15DspCompiler", "tapFactor", "[I", true)
  | 7 => ("Q15DspCompiler", "compiled", "Z", false)
  | 8 => ("Q15DspCompiler", "isSound", "Z", false)
  | 9 => ("Q15DspCompiler", "placed", "I", false)
  | 10 => ("Q15DspCompiler", "order", "[B", true)
  | 11 => ("Q15DspCompiler", "codeEnd", "I", false)
  | 12 => ("Q15DspCompiler", "operation", "[B", true)
  | 13 => ("Q15DspCompiler", "operand", "[I", true)
  | 14 => ("Q15DspCompiler", "cellOf", "[B", true)
  | 15 => ("Q15DspCompiler", "heldCell", "I", false)
  | 16 => ("Q15DspCompiler", "cells", "[I", true)
  | 17 => ("Q15DspCompiler", "accumulator", "J", false)
  | _ => ("Q15DspCompiler", "sampleCount", "I", false)
def tyX0 : Nat → FieldType := fun k => match k with
  | 0 => .int
  | 1 => .array .byte
  | 2 => .array .int
  | 3 => .array .byte
  | 4 => .array .byte
  | 5 => .array .byte
  | 6 => .array .int
  | 7 => .boolean
  | 8 => .boolean
  | 9 => .int
  | 10 => .array .byte
  | 11 => .int
  | 12 => .array .byte
  | 13 => .array .int
  | 14 => .array .byte
  | 15 => .int
  | 16 => .array .int
  | 17 => .long
  | _ => .int
abbrev wsX00 : List Cond := u_ws RX0 TX0 19
set_option maxRecDepth 100000 in
theorem nmX0 : ∀ a, a < 19 → ∀ b, b < 19 → a ≠ b → (TX0 a).2.1 ≠ (TX0 b).2.1 := by decide +kernel
set_option maxRecDepth 100000 in
theorem tyX0_ok : ∀ k, k < 19 → parseFieldDescriptor (TX0 k).2.2.1 = some (tyX0 k) := by decide +kernel
abbrev cX0_init : ByteArray := prog_1_method_1_code
def yX0_init : MethodName := ⟨RX0, "<init>", "()V"⟩
theorem dX0_init_0 : decode cX0_init 0 = .ok (.aload_n 0, 1) := by decide +kernel
theorem dX0_init_1 : decode cX0_init 1 = .ok (.invokespecial 1, 3) := by decide +kernel
theorem dX0_init_4 : decode cX0_init 4 = .ok (.aload_n 0, 1) := by decide +kernel
theorem dX0_init_5 : decode cX0_init 5 = .ok (.bipush 20, 2) := by decide +kernel
theorem dX0_init_7 : decode cX0_init 7 = .ok (.newarray .byte, 2) := by decide +kernel
theorem dX0_init_9 : decode cX0_init 9 = .ok (.putfield 7, 3) := by decide +kernel
theorem dX0_init_12 : decode cX0_init 12 = .ok (.aload_n 0, 1) := by decide +kernel
theorem dX0_init_13 : decode cX0_init 13 = .ok (.bipush 20, 2) := by decide +kernel
theorem dX0_init_15 : decode cX0_init 15 = .ok (.newarray .int, 2) := by decide +kernel
theorem dX0_init_17 : decode cX0_init 17 = .ok (.putfield 13, 3) := by decide +kernel
theorem dX0_init_20 : decode cX0_init 20 = .ok (.aload_n 0, 1) := by decide +kernel
theorem dX0_init_21 : decode cX0_init 21 = .ok (.bipush 20, 2) := by decide +kernel
theorem dX0_init_23 : decode cX0_init 23 = .ok (.newarray .byte, 2) := by decide +kernel
theorem dX0_init_25 : decode cX0_init 25 = .ok (.putfield 17, 3) := by decide +kernel
theorem dX0_init_28 : decode cX0_init 28 = .ok (.aload_n 0, 1) := by decide +kernel
theorem dX0_init_29 : decode cX0_init 29 = .ok (.bipush 20, 2) := by decide +kernel
theorem dX0_init_31 : decode cX0_init 31 = .ok (.newarray .byte, 2) := by decide +kernel
theorem dX0_init_33 : decode cX0_init 33 = .ok (.putfield 20, 3) := by decide +kernel
theorem dX0_init_36 : decode cX0_init 36 = .ok (.aload_n 0, 1) := by decide +kernel
theorem dX0_init_37 : decode cX0_init 37 = .ok (.bipush 120, 2) := by decide +kernel
theorem dX0_init_39 : decode cX0_init 39 = .ok (.newarray .byte, 2) := by decide +kernel
theorem dX0_init_41 : decode cX0_init 41 = .ok (.putfield 23, 3) := by decide +kernel
theorem dX0_init_44 : decode cX0_init 44 = .ok (.aload_n 0, 1) := by decide +kernel
theorem dX0_init_45 : decode cX0_init 45 = .ok (.bipush 120, 2) := by decide +kernel
theorem dX0_init_47 : decode cX0_init 47 = .ok (.newarray .int, 2) := by decide +kernel
theorem dX0_init_49 : decode cX0_init 49 = .ok (.putfield 26, 3) := by decide +kernel
theorem dX0_init_52 : decode cX0_init 52 = .ok (.aload_n 0, 1) := by decide +kernel
theorem dX0_init_53 : decode cX0_init 53 = .ok (.bipush 20, 2) := by decide +kernel
theorem dX0_init_55 : decode cX0_init 55 = .ok (.newarray .byte, 2) := by decide +kernel
theorem dX0_init_57 : decode cX0_init 57 = .ok (.putfield 29, 3) := by decide +kernel
theorem dX0_init_60 : decode cX0_init 60 = .ok (.aload_n 0, 1) := by decide +kernel
theorem dX0_init_61 : decode cX0_init 61 = .ok (.sipush 300, 3) := by decide +kernel
theorem dX0_init_64 : decode cX0_init 64 = .ok (.newarray .byte, 2) := by decide +kernel
theorem dX0_init_66 : decode cX0_init 66 = .ok (.putfield 32, 3) := by decide +kernel
theorem dX0_init_69 : decode cX0_init 69 = .ok (.aload_n 0, 1) := by decide +kernel
theorem dX0_init_70 : decode cX0_init 70 = .ok (.sipush 300, 3) := by decide +kernel
theorem dX0_init_73 : decode cX0_init 73 = .ok (.newarray .int, 2) := by decide +kernel
theorem dX0_init_75 : decode cX0_init 75 = .ok (.putfield 35, 3) := by decide +kernel
theorem dX0_init_78 : decode cX0_init 78 = .ok (.aload_n 0, 1) := by decide +kernel
theorem dX0_init_79 : decode cX0_init 79 = .ok (.sipush 300, 3) := by decide +kernel
theorem dX0_init_82 : decode cX0_init 82 = .ok (.newarray .byte, 2) := by decide +kernel
theorem dX0_init_84 : decode cX0_init 84 = .ok (.putfield 38, 3) := by decide +kernel
theorem dX0_init_87 : decode cX0_init 87 = .ok (.aload_n 0, 1) := by decide +kernel
theorem dX0_init_88 : decode cX0_init 88 = .ok (.bipush 42, 2) := by decide +kernel
theorem dX0_init_90 : decode cX0_init 90 = .ok (.newarray .int, 2) := by decide +kernel
theorem dX0_init_92 : decode cX0_init 92 = .ok (.putfield 41, 3) := by decide +kernel
theorem dX0_init_95 : decode cX0_init 95 = .ok (.aload_n 0, 1) := by decide +kernel
theorem dX0_init_96 : decode cX0_init 96 = .ok (.iconst (-1), 1) := by decide +kernel
theorem dX0_init_97 : decode cX0_init 97 = .ok (.putfield 44, 3) := by decide +kernel
theorem dX0_init_100 : decode cX0_init 100 = .ok (.return_, 1) := by decide +kernel
abbrev cX0_node : ByteArray := prog_1_method_2_code
def yX0_node : MethodName := ⟨RX0, "node", "(III)I"⟩
theorem dX0_node_0 : decode cX0_node 0 = .ok (.aload_n 0, 1) := by decide +kernel
theorem dX0_node_1 : decode cX0_node 1 = .ok (.getfield 48, 3) := by decide +kernel
theorem dX0_node_4 : decode cX0_node 4 = .ok (.bipush 20, 2) := by decide +kernel
theorem dX0_node_6 : decode cX0_node 6 = .ok (.if_icmp .lt 6, 3) := by decide +kernel
theorem dX0_node_9 : decode cX0_node 9 = .ok (.bipush (-2), 2) := by decide +kernel
theorem dX0_node_11 : decode cX0_node 11 = .ok (.ireturn, 1) := by decide +kernel
theorem dX0_node_12 : decode cX0_node 12 = .ok (.iload_n 1, 1) := by decide +kernel
theorem dX0_node_13 : decode cX0_node 13 = .ok (.ifCond .lt 9, 3) := by decide +kernel
theorem dX0_node_16 : decode cX0_node 16 = .ok (.iload_n 1, 1) := by decide +kernel
theorem dX0_node_17 : decode cX0_node 17 = .ok (.bipush 10, 2) := by decide +kernel
theorem dX0_node_19 : decode cX0_node 19 = .ok (.if_icmp .le 5, 3) := by decide +kernel
theorem dX0_node_22 : decode cX0_node 22 = .ok (.iconst (-1), 1) := by decide +kernel
theorem dX0_node_23 : decode cX0_node 23 = .ok (.ireturn, 1) := by decide +kernel
theorem dX0_node_24 : decode cX0_node 24 = .ok (.iload_n 1, 1) := by decide +kernel
theorem dX0_node_25 : decode cX0_node 25 = .ok (.iconst 1, 1) := by decide +kernel
theorem dX0_node_26 : decode cX0_node 26 = .ok (.if_icmp .ne 19, 3) := by decide +kernel
theorem dX0_node_29 : decode cX0_node 29 = .ok (.iload_n 2, 1) := by decide +kernel
theorem dX0_node_30 : decode cX0_node 30 = .ok (.sipush (-32768), 3) := by decide +kernel
theorem dX0_node_33 : decode cX0_node 33 = .ok (.if_icmp .lt 10, 3) := by decide +kernel
theorem dX0_node_36 : decode cX0_node 36 = .ok (.iload_n 2, 1) := by decide +kernel
theorem dX0_node_37 : decode cX0_node 37 = .ok (.sipush 32767, 3) := by decide +kernel
theorem dX0_node_40 : decode cX0_node 40 = .ok (.if_icmp .le 5, 3) := by decide +kernel
theorem dX0_node_43 : decode cX0_node 43 = .ok (.iconst (-1), 1) := by decide +kernel
theorem dX0_node_44 : decode cX0_node 44 = .ok (.ireturn, 1) := by decide +kernel
theorem dX0_node_45 : decode cX0_node 45 = .ok (.iload_n 1, 1) := by decide +kernel
theorem dX0_node_46 : decode cX0_node 46 = .ok (.iconst 2, 1) := by decide +kernel
theorem dX0_node_47 : decode cX0_node 47 = .ok (.if_icmp .lt 19, 3) := by decide +kernel
theorem dX0_node_50 : decode cX0_node 50 = .ok (.iload_n 1, 1) := by decide +kernel
theorem dX0_node_51 : decode cX0_node 51 = .ok (.bipush 9, 2) := by decide +kernel
theorem dX0_node_53 : decode cX0_node 53 = .ok (.if_icmp .gt 13, 3) := by decide +kernel
theorem dX0_node_56 : decode cX0_node 56 = .ok (.aload_n 0, 1) := by decide +kernel
theorem dX0_node_57 : decode cX0_node 57 = .ok (.iload_n 2, 1) := by decide +kernel
theorem dX0_node_58 : decode cX0_node 58 = .ok (.invokevirtual 51, 3) := by decide +kernel
theorem dX0_node_61 : decode cX0_node 61 = .ok (.ifCond .ne 5, 3) := by decide +kernel
theorem dX0_node_64 : decode cX0_node 64 = .ok (.iconst (-1), 1) := by decide +kernel
theorem dX0_node_65 : decode cX0_node 65 = .ok (.ireturn, 1) := by decide +kernel
theorem dX0_node_66 : decode cX0_node 66 = .ok (.iload_n 1, 1) := by decide +kernel
theorem dX0_node_67 : decode cX0_node 67 = .ok (.iconst 3, 1) := by decide +kernel
theorem dX0_node_68 : decode cX0_node 68 = .ok (.if_icmp .lt 18, 3) := by decide +kernel
theorem dX0_node_71 : decode cX0_node 71 = .ok (.iload_n 1, 1) := by decide +kernel
theorem dX0_node_72 : decode cX0_node 72 = .ok (.iconst 5, 1) := by decide +kernel
theorem dX0_node_73 : decode cX0_node 73 = .ok (.if_icmp .gt 13, 3) := by decide +kernel
theorem dX0_node_76 : decode cX0_node 76 = .ok (.aload_n 0, 1) := by decide +kernel
theorem dX0_node_77 : decode cX0_node 77 = .ok (.iload_n 3, 1) := by decide +kernel
theorem dX0_node_78 : decode cX0_node 78 = .ok (.invokevirtual 51, 3) := by decide +kernel
theorem dX0_node_81 : decode cX0_node 81 = .ok (.ifCond .ne 5, 3) := by decide +kernel
theorem dX0_node_84 : decode cX0_node 84 = .ok (.iconst (-1), 1) := by decide +kernel
theorem dX0_node_85 : decode cX0_node 85 = .ok (.ireturn, 1) := by decide +kernel
theorem dX0_node_86 : decode cX0_node 86 = .ok (.iload_n 1, 1) := by decide +kernel
theorem dX0_node_87 : decode cX0_node 87 = .ok (.bipush 8, 2) := by decide +kernel
theorem dX0_node_89 : decode cX0_node 89 = .ok (.if_icmp .ne 15, 3) := by decide +kernel
theorem dX0_node_92 : decode cX0_node 92 = .ok (.iload_n 3, 1) := by decide +kernel
theorem dX0_node_93 : decode cX0_node 93 = .ok (.ifCond .lt 9, 3) := by decide +kernel
theorem dX0_node_96 : decode cX0_node 96 = .ok (.iload_n 3, 1) := by decide +kernel
theorem dX0_node_97 : decode cX0_node 97 = .ok (.bipush 7, 2) := by decide +kernel
theorem dX0_node_99 : decode cX0_node 99 = .ok (.if_icmp .le 5, 3) := by decide +kernel
theorem dX0_node_102 : decode cX0_node 102 = .ok (.iconst (-1), 1) := by decide +kernel
theorem dX0_node_103 : decode cX0_node 103 = .ok (.ireturn, 1) := by decide +kernel
theorem dX0_node_104 : decode cX0_node 104 = .ok (.iload_n 1, 1) := by decide +kernel
theorem dX0_node_105 : decode cX0_node 105 = .ok (.bipush 9, 2) := by decide +kernel
theorem dX0_node_107 : decode cX0_node 107 = .ok (.if_icmp .ne 15, 3) := by decide +kernel
theorem dX0_node_110 : decode cX0_node 110 = .ok (.iload_n 3, 1) := by decide +kernel
theorem dX0_node_111 : decode cX0_node 111 = .ok (.ifCond .lt 9, 3) := by decide +kernel
theorem dX0_node_114 : decode cX0_node 114 = .ok (.iload_n 3, 1) := by decide +kernel
theorem dX0_node_115 : decode cX0_node 115 = .ok (.bipush 15, 2) := by decide +kernel
theorem dX0_node_117 : decode cX0_node 117 = .ok (.if_icmp .le 5, 3) := by decide +kernel
theorem dX0_node_120 : decode cX0_node 120 = .ok (.iconst (-1), 1) := by decide +kernel
theorem dX0_node_121 : decode cX0_node 121 = .ok (.ireturn, 1) := by decide +kernel
theorem dX0_node_122 : decode cX0_node 122 = .ok (.aload_n 0, 1) := by decide +kernel
theorem dX0_node_123 : decode cX0_node 123 = .ok (.getfield 48, 3) := by decide +kernel
theorem dX0_node_126 : decode cX0_node 126 = .ok (.istore 4, 2) := by decide +kernel
theorem dX0_node_128 : decode cX0_node 128 = .ok (.aload_n 0, 1) := by decide +kernel
theorem dX0_node_129 : decode cX0_node 129 = .ok (.getfield 7, 3) := by decide +kernel
theorem dX0_node_132 : decode cX0_node 132 = .ok (.iload 4, 2) := by decide +kernel
theorem dX0_node_134 : decode cX0_node 134 = .ok (.iload_n 1, 1) := by decide +kernel
theorem dX0_node_135 : decode cX0_node 135 = .ok (.i2b, 1) := by decide +kernel
theorem dX0_node_136 : decode cX0_node 136 = .ok (.bastore, 1) := by decide +kernel
theorem dX0_node_137 : decode cX0_node 137 = .ok (.aload_n 0, 1) := by decide +kernel
theorem dX0_node_138 : decode cX0_node 138 = .ok (.getfield 13, 3) := by decide +kernel
theorem dX0_node_141 : decode cX0_node 141 = .ok (.iload 4, 2) := by decide +kernel
theorem dX0_node_143 : decode cX0_node 143 = .ok (.iload_n 2, 1) := by decide +kernel
theorem dX0_node_144 : decode cX0_node 144 = .ok (.iastore, 1) := by decide +kernel
theorem dX0_node_145 : decode cX0_node 145 = .ok (.aload_n 0, 1) := by decide +kernel
theorem dX0_node_146 : decode cX0_node 146 = .ok (.getfield 17, 3) := by decide +kernel
theorem dX0_node_149 : decode cX0_node 149 = .ok (.iload 4, 2) := by decide +kernel
theorem dX0_node_151 : decode cX0_node 151 = .ok (.iload_n 3, 1) := by decide +kernel
theorem dX0_node_152 : decode cX0_node 152 = .ok (.i2b, 1) := by decide +kernel
theorem dX0_node_153 : decode cX0_node 153 = .ok (.bastore, 1) := by decide +kernel
theorem dX0_node_154 : decode cX0_node 154 = .ok (.aload_n 0, 1) := by decide +kernel
theorem dX0_node_155 : decode cX0_node 155 = .ok (.getfield 20, 3) := by decide +kernel
theorem dX0_node_158 : decode cX0_node 158 = .ok (.iload 4, 2) := by decide +kernel
theorem dX0_node_160 : decode cX0_node 160 = .ok (.iconst 0, 1) := by decide +kernel
theorem dX0_node_161 : decode cX0_node 161 = .ok (.bastore, 1) := by decide +kernel
theorem dX0_node_162 : decode cX0_node 162 = .ok (.aload_n 0, 1) := by decide +kernel
theorem dX0_node_163 : decode cX0_node 163 = .ok (.dup, 1) := by decide +kernel
theorem dX0_node_164 : decode cX0_node 164 = .ok (.getfield 48, 3) := by decide +kernel
theorem dX0_node_167 : decode cX0_node 167 = .ok (.iconst 1, 1) := by decide +kernel
theorem dX0_node_168 : decode cX0_node 168 = .ok (.iadd, 1) := by decide +kernel
theorem dX0_node_169 : decode cX0_node 169 = .ok (.putfield 48, 3) := by decide +kernel
theorem dX0_node_172 : decode cX0_node 172 = .ok (.aload_n 0, 1) := by decide +kernel
theorem dX0_node_173 : decode cX0_node 173 = .ok (.iconst 0, 1) := by decide +kernel
theorem dX0_node_174 : decode cX0_node 174 = .ok (.putfield 55, 3) := by decide +kernel
theorem dX0_node_177 : decode cX0_node 177 = .ok (.aload_n 0, 1) := by decide +kernel
theorem dX0_node_178 : decode cX0_node 178 = .ok (.invokevirtual 59, 3) := by decide +kernel
theorem dX0_node_181 : decode cX0_node 181 = .ok (.iload 4, 2) := by decide +kernel
theorem dX0_node_183 : decode cX0_node 183 = .ok (.ireturn, 1) := by decide +kernel
abbrev cX0_isNumber : ByteArray := prog_1_method_5_code
def yX0_isNumber : MethodName := ⟨RX0, "isNumber", "(I)Z"⟩
theorem dX0_isNumber_0 : decode cX0_isNumber 0 = .ok (.iload_n 1, 1) := by decide +kernel
theorem dX0_isNumber_1 : decode cX0_isNumber 1 = .ok (.ifCond .lt 13, 3) := by decide +kernel
theorem dX0_isNumber_4 : decode cX0_isNumber 4 = .ok (.iload_n 1, 1) := by decide +kernel
theorem dX0_isNumber_5 : decode cX0_isNumber 5 = .ok (.bipush 19, 2) := by decide +kernel
theorem dX0_isNumber_7 : decode cX0_isNumber 7 = .ok (.if_icmp .gt 7, 3) := by decide +kernel
theorem dX0_isNumber_10 : decode cX0_isNumber 10 = .ok (.iconst 1, 1) := by decide +kernel
theorem dX0_isNumber_11 : decode cX0_isNumber 11 = .ok (.goto 4, 3) := by decide +kernel
theorem dX0_isNumber_14 : decode cX0_isNumber 14 = .ok (.iconst 0, 1) := by decide +kernel
theorem dX0_isNumber_15 : decode cX0_isNumber 15 = .ok (.ireturn, 1) := by decide +kernel
abbrev cX0_restart : ByteArray := prog_1_method_11_code
def yX0_restart : MethodName := ⟨RX0, "restart", "()V"⟩
theorem dX0_restart_0 : decode cX0_restart 0 = .ok (.iconst 0, 1) := by decide +kernel
theorem dX0_restart_1 : decode cX0_restart 1 = .ok (.istore_n 1, 1) := by decide +kernel
theorem dX0_restart_2 : decode cX0_restart 2 = .ok (.iload_n 1, 1) := by decide +kernel
theorem dX0_restart_3 : decode cX0_restart 3 = .ok (.bipush 42, 2) := by decide +kernel
theorem dX0_restart_5 : decode cX0_restart 5 = .ok (.if_icmp .ge 16, 3) := by decide +kernel
theorem dX0_restart_8 : decode cX0_restart 8 = .ok (.aload_n 0, 1) := by decide +kernel
theorem dX0_restart_9 : decode cX0_restart 9 = .ok (.getfield 41, 3) := by decide +kernel
theorem dX0_restart_12 : decode cX0_restart 12 = .ok (.iload_n 1, 1) := by decide +kernel
theorem dX0_restart_13 : decode cX0_restart 13 = .ok (.iconst 0, 1) := by decide +kernel
theorem dX0_restart_14 : decode cX0_restart 14 = .ok (.iastore, 1) := by decide +kernel
theorem dX0_restart_15 : decode cX0_restart 15 = .ok (.iinc 1 1, 3) := by decide +kernel
theorem dX0_restart_18 : decode cX0_restart 18 = .ok (.goto (-16), 3) := by decide +kernel
theorem dX0_restart_21 : decode cX0_restart 21 = .ok (.aload_n 0, 1) := by decide +kernel
theorem dX0_restart_22 : decode cX0_restart 22 = .ok (.iconst 0, 1) := by decide +kernel
theorem dX0_restart_23 : decode cX0_restart 23 = .ok (.putfield 79, 3) := by decide +kernel
theorem dX0_restart_26 : decode cX0_restart 26 = .ok (.return_, 1) := by decide +kernel
abbrev cX0_tap : ByteArray := prog_1_method_3_code
def yX0_tap : MethodName := ⟨RX0, "tap", "(III)I"⟩
theorem dX0_tap_0 : decode cX0_tap 0 = .ok (.iload_n 1, 1) := by decide +kernel
theorem dX0_tap_1 : decode cX0_tap 1 = .ok (.ifCond .lt 22, 3) := by decide +kernel
theorem dX0_tap_4 : decode cX0_tap 4 = .ok (.iload_n 1, 1) := by decide +kernel
theorem dX0_tap_5 : decode cX0_tap 5 = .ok (.aload_n 0, 1) := by decide +kernel
theorem dX0_tap_6 : decode cX0_tap 6 = .ok (.getfield 48, 3) := by decide +kernel
theorem dX0_tap_9 : decode cX0_tap 9 = .ok (.if_icmp .ge 14, 3) := by decide +kernel
theorem dX0_tap_12 : decode cX0_tap 12 = .ok (.aload_n 0, 1) := by decide +kernel
theorem dX0_tap_13 : decode cX0_tap 13 = .ok (.getfield 7, 3) := by decide +kernel
theorem dX0_tap_16 : decode cX0_tap 16 = .ok (.iload_n 1, 1) := by decide +kernel
theorem dX0_tap_17 : decode cX0_tap 17 = .ok (.baload, 1) := by decide +kernel
theorem dX0_tap_18 : decode cX0_tap 18 = .ok (.bipush 10, 2) := by decide +kernel
theorem dX0_tap_20 : decode cX0_tap 20 = .ok (.if_icmp .eq 5, 3) := by decide +kernel
theorem dX0_tap_23 : decode cX0_tap 23 = .ok (.iconst (-1), 1) := by decide +kernel
theorem dX0_tap_24 : decode cX0_tap 24 = .ok (.ireturn, 1) := by decide +kernel
theorem dX0_tap_25 : decode cX0_tap 25 = .ok (.aload_n 0, 1) := by decide +kernel
theorem dX0_tap_26 : decode cX0_tap 26 = .ok (.iload_n 2, 1) := by decide +kernel
theorem dX0_tap_27 : decode cX0_tap 27 = .ok (.invokevirtual 51, 3) := by decide +kernel
theorem dX0_tap_30 : decode cX0_tap 30 = .ok (.ifCond .eq 17, 3) := by decide +kernel
theorem dX0_tap_33 : decode cX0_tap 33 = .ok (.iload_n 3, 1) := by decide +kernel
theorem dX0_tap_34 : decode cX0_tap 34 = .ok (.sipush (-32768), 3) := by decide +kernel
theorem dX0_tap_37 : decode cX0_tap 37 = .ok (.if_icmp .lt 10, 3) := by decide +kernel
theorem dX0_tap_40 : decode cX0_tap 40 = .ok (.iload_n 3, 1) := by decide +kernel
theorem dX0_tap_41 : decode cX0_tap 41 = .ok (.sipush 32767, 3) := by decide +kernel
theorem dX0_tap_44 : decode cX0_tap 44 = .ok (.if_icmp .le 5, 3) := by decide +kernel
theorem dX0_tap_47 : decode cX0_tap 47 = .ok (.iconst (-1), 1) := by decide +kernel
theorem dX0_tap_48 : decode cX0_tap 48 = .ok (.ireturn, 1) := by decide +kernel
theorem dX0_tap_49 : decode cX0_tap 49 = .ok (.aload_n 0, 1) := by decide +kernel
theorem dX0_tap_50 : decode cX0_tap 50 = .ok (.getfield 20, 3) := by decide +kernel
theorem dX0_tap_53 : decode cX0_tap 53 = .ok (.iload_n 1, 1) := by decide +kernel
theorem dX0_tap_54 : decode cX0_tap 54 = .ok (.baload, 1) := by decide +kernel
theorem dX0_tap_55 : decode cX0_tap 55 = .ok (.bipush 6, 2) := by decide +kernel
theorem dX0_tap_57 : decode cX0_tap 57 = .ok (.if_icmp .lt 6, 3) := by decide +kernel
theorem dX0_tap_60 : decode cX0_tap 60 = .ok (.bipush (-2), 2) := by decide +kernel
theorem dX0_tap_62 : decode cX0_tap 62 = .ok (.ireturn, 1) := by decide +kernel
theorem dX0_tap_63 : decode cX0_tap 63 = .ok (.bipush 6, 2) := by decide +kernel
theorem dX0_tap_65 : decode cX0_tap 65 = .ok (.iload_n 1, 1) := by decide +kernel
theorem dX0_tap_66 : decode cX0_tap 66 = .ok (.imul, 1) := by decide +kernel
theorem dX0_tap_67 : decode cX0_tap 67 = .ok (.aload_n 0, 1) := by decide +kernel
theorem dX0_tap_68 : decode cX0_tap 68 = .ok (.getfield 20, 3) := by decide +kernel
theorem dX0_tap_71 : decode cX0_tap 71 = .ok (.iload_n 1, 1) := by decide +kernel
theorem dX0_tap_72 : decode cX0_tap 72 = .ok (.baload, 1) := by decide +kernel
theorem dX0_tap_73 : decode cX0_tap 73 = .ok (.iadd, 1) := by decide +kernel
theorem dX0_tap_74 : decode cX0_tap 74 = .ok (.istore 4, 2) := by decide +kernel
theorem dX0_tap_76 : decode cX0_tap 76 = .ok (.aload_n 0, 1) := by decide +kernel
theorem dX0_tap_77 : decode cX0_tap 77 = .ok (.getfield 23, 3) := by decide +kernel
theorem dX0_tap_80 : decode cX0_tap 80 = .ok (.iload 4, 2) := by decide +kernel
theorem dX0_tap_82 : decode cX0_tap 82 = .ok (.iload_n 2, 1) := by decide +kernel
theorem dX0_tap_83 : decode cX0_tap 83 = .ok (.i2b, 1) := by decide +kernel
theorem dX0_tap_84 : decode cX0_tap 84 = .ok (.bastore, 1) := by decide +kernel
theorem dX0_tap_85 : decode cX0_tap 85 = .ok (.aload_n 0, 1) := by decide +kernel
theorem dX0_tap_86 : decode cX0_tap 86 = .ok (.getfield 26, 3) := by decide +kernel
theorem dX0_tap_89 : decode cX0_tap 89 = .ok (.iload 4, 2) := by decide +kernel
theorem dX0_tap_91 : decode cX0_tap 91 = .ok (.iload_n 3, 1) := by decide +kernel
theorem dX0_tap_92 : decode cX0_tap 92 = .ok (.iastore, 1) := by decide +kernel
theorem dX0_tap_93 : decode cX0_tap 93 = .ok (.aload_n 0, 1) := by decide +kernel
theorem dX0_tap_94 : decode cX0_tap 94 = .ok (.getfield 20, 3) := by decide +kernel
theorem dX0_tap_97 : decode cX0_tap 97 = .ok (.iload_n 1, 1) := by decide +kernel
theorem dX0_tap_98 : decode cX0_tap 98 = .ok (.dup2, 1) := by decide +kernel
theorem dX0_tap_99 : decode cX0_tap 99 = .ok (.baload, 1) := by decide +kernel
theorem dX0_tap_100 : decode cX0_tap 100 = .ok (.iconst 1, 1) := by decide +kernel
theorem dX0_tap_101 : decode cX0_tap 101 = .ok (.iadd, 1) := by decide +kernel
theorem dX0_tap_102 : decode cX0_tap 102 = .ok (.i2b, 1) := by decide +kernel
theorem dX0_tap_103 : decode cX0_tap 103 = .ok (.bastore, 1) := by decide +kernel
theorem dX0_tap_104 : decode cX0_tap 104 = .ok (.aload_n 0, 1) := by decide +kernel
theorem dX0_tap_105 : decode cX0_tap 105 = .ok (.iconst 0, 1) := by decide +kernel
theorem dX0_tap_106 : decode cX0_tap 106 = .ok (.putfield 55, 3) := by decide +kernel
theorem dX0_tap_109 : decode cX0_tap 109 = .ok (.aload_n 0, 1) := by decide +kernel
theorem dX0_tap_110 : decode cX0_tap 110 = .ok (.invokevirtual 59, 3) := by decide +kernel
theorem dX0_tap_113 : decode cX0_tap 113 = .ok (.aload_n 0, 1) := by decide +kernel
theorem dX0_tap_114 : decode cX0_tap 114 = .ok (.getfield 20, 3) := by decide +kernel
theorem dX0_tap_117 : decode cX0_tap 117 = .ok (.iload_n 1, 1) := by decide +kernel
theorem dX0_tap_118 : decode cX0_tap 118 = .ok (.baload, 1) := by decide +kernel
theorem dX0_tap_119 : decode cX0_tap 119 = .ok (.ireturn, 1) := by decide +kernel
abbrev cX0_nodes : ByteArray := prog_1_method_4_code
def yX0_nodes : MethodName := ⟨RX0, "nodes", "()I"⟩
theorem dX0_nodes_0 : decode cX0_nodes 0 = .ok (.aload_n 0, 1) := by decide +kernel
theorem dX0_nodes_1 : decode cX0_nodes 1 = .ok (.getfield 48, 3) := by decide +kernel
theorem dX0_nodes_4 : decode cX0_nodes 4 = .ok (.ireturn, 1) := by decide +kernel
abbrev cX0_sound : ByteArray := prog_1_method_6_code
def yX0_sound : MethodName := ⟨RX0, "sound", "()Z"⟩
theorem dX0_sound_0 : decode cX0_sound 0 = .ok (.aload_n 0, 1) := by decide +kernel
theorem dX0_sound_1 : decode cX0_sound 1 = .ok (.invokevirtual 62, 3) := by decide +kernel
theorem dX0_sound_4 : decode cX0_sound 4 = .ok (.aload_n 0, 1) := by decide +kernel
theorem dX0_sound_5 : decode cX0_sound 5 = .ok (.getfield 65, 3) := by decide +kernel
theorem dX0_sound_8 : decode cX0_sound 8 = .ok (.ireturn, 1) := by decide +kernel
abbrev cX0_compile : ByteArray := prog_1_method_18_code
def yX0_compile : MethodName := ⟨RX0, "compile", "()V"⟩
theorem dX0_compile_0 : decode cX0_compile 0 = .ok (.aload_n 0, 1) := by decide +kernel
theorem dX0_compile_1 : decode cX0_compile 1 = .ok (.getfield 55, 3) := by decide +kernel
theorem dX0_compile_4 : decode cX0_compile 4 = .ok (.ifCond .eq 4, 3) := by decide +kernel
theorem dX0_compile_7 : decode cX0_compile 7 = .ok (.return_, 1) := by decide +kernel
theorem dX0_compile_8 : decode cX0_compile 8 = .ok (.aload_n 0, 1) := by decide +kernel
theorem dX0_compile_9 : decode cX0_compile 9 = .ok (.iconst 1, 1) := by decide +kernel
theorem dX0_compile_10 : decode cX0_compile 10 = .ok (.putfield 55, 3) := by decide +kernel
theorem dX0_compile_13 : decode cX0_compile 13 = .ok (.aload_n 0, 1) := by decide +kernel
theorem dX0_compile_14 : decode cX0_compile 14 = .ok (.iconst 0, 1) := by decide +kernel
theorem dX0_compile_15 : decode cX0_compile 15 = .ok (.putfield 72, 3) := by decide +kernel
theorem dX0_compile_18 : decode cX0_compile 18 = .ok (.aload_n 0, 1) := by decide +kernel
theorem dX0_compile_19 : decode cX0_compile 19 = .ok (.iconst (-1), 1) := by decide +kernel
theorem dX0_compile_20 : decode cX0_compile 20 = .ok (.putfield 44, 3) := by decide +kernel
theorem dX0_compile_23 : decode cX0_compile 23 = .ok (.aload_n 0, 1) := by decide +kernel
theorem dX0_compile_24 : decode cX0_compile 24 = .ok (.aload_n 0, 1) := by decide +kernel
theorem dX0_compile_25 : decode cX0_compile 25 = .ok (.invokevirtual 106, 3) := by decide +kernel
theorem dX0_compile_28 : decode cX0_compile 28 = .ok (.putfield 65, 3) := by decide +kernel
theorem dX0_compile_31 : decode cX0_compile 31 = .ok (.aload_n 0, 1) := by decide +kernel
theorem dX0_compile_32 : decode cX0_compile 32 = .ok (.getfield 65, 3) := by decide +kernel
theorem dX0_compile_35 : decode cX0_compile 35 = .ok (.ifCond .ne 4, 3) := by decide +kernel
theorem dX0_compile_38 : decode cX0_compile 38 = .ok (.return_, 1) := by decide +kernel
theorem dX0_compile_39 : decode cX0_compile 39 = .ok (.iconst 0, 1) := by decide +kernel
theorem dX0_compile_40 : decode cX0_compile 40 = .ok (.istore_n 1, 1) := by decide +kernel
theorem dX0_compile_41 : decode cX0_compile 41 = .ok (.iload_n 1, 1) := by decide +kernel
theorem dX0_compile_42 : decode cX0_compile 42 = .ok (.aload_n 0, 1) := by decide +kernel
theorem dX0_compile_43 : decode cX0_compile 43 = .ok (.getfield 48, 3) := by decide +kernel
theorem dX0_compile_46 : decode cX0_compile 46 = .ok (.if_icmp .ge 28, 3) := by decide +kernel
theorem dX0_compile_49 : decode cX0_compile 49 = .ok (.aload_n 0, 1) := by decide +kernel
theorem dX0_compile_50 : decode cX0_compile 50 = .ok (.getfield 7, 3) := by decide +kernel
theorem dX0_compile_53 : decode cX0_compile 53 = .ok (.iload_n 1, 1) := by decide +kernel
theorem dX0_compile_54 : decode cX0_compile 54 = .ok (.baload, 1) := by decide +kernel
theorem dX0_compile_55 : decode cX0_compile 55 = .ok (.iconst 2, 1) := by decide +kernel
theorem dX0_compile_56 : decode cX0_compile 56 = .ok (.if_icmp .ne 12, 3) := by decide +kernel
theorem dX0_compile_59 : decode cX0_compile 59 = .ok (.aload_n 0, 1) := by decide +kernel
theorem dX0_compile_60 : decode cX0_compile 60 = .ok (.bipush 20, 2) := by decide +kernel
theorem dX0_compile_62 : decode cX0_compile 62 = .ok (.iload_n 1, 1) := by decide +kernel
theorem dX0_compile_63 : decode cX0_compile 63 = .ok (.iadd, 1) := by decide +kernel
theorem dX0_compile_64 : decode cX0_compile 64 = .ok (.iload_n 1, 1) := by decide +kernel
theorem dX0_compile_65 : decode cX0_compile 65 = .ok (.invokevirtual 110, 3) := by decide +kernel
theorem dX0_compile_68 : decode cX0_compile 68 = .ok (.iinc 1 1, 3) := by decide +kernel
theorem dX0_compile_71 : decode cX0_compile 71 = .ok (.goto (-30), 3) := by decide +kernel
theorem dX0_compile_74 : decode cX0_compile 74 = .ok (.iconst 0, 1) := by decide +kernel
theorem dX0_compile_75 : decode cX0_compile 75 = .ok (.istore_n 1, 1) := by decide +kernel
theorem dX0_compile_76 : decode cX0_compile 76 = .ok (.iload_n 1, 1) := by decide +kernel
theorem dX0_compile_77 : decode cX0_compile 77 = .ok (.aload_n 0, 1) := by decide +kernel
theorem dX0_compile_78 : decode cX0_compile 78 = .ok (.getfield 99, 3) := by decide +kernel
theorem dX0_compile_81 : decode cX0_compile 81 = .ok (.if_icmp .ge 19, 3) := by decide +kernel
theorem dX0_compile_84 : decode cX0_compile 84 = .ok (.aload_n 0, 1) := by decide +kernel
theorem dX0_compile_85 : decode cX0_compile 85 = .ok (.aload_n 0, 1) := by decide +kernel
theorem dX0_compile_86 : decode cX0_compile 86 = .ok (.getfield 29, 3) := by decide +kernel
theorem dX0_compile_89 : decode cX0_compile 89 = .ok (.iload_n 1, 1) := by decide +kernel
theorem dX0_compile_90 : decode cX0_compile 90 = .ok (.baload, 1) := by decide +kernel
theorem dX0_compile_91 : decode cX0_compile 91 = .ok (.invokevirtual 114, 3) := by decide +kernel
theorem dX0_compile_94 : decode cX0_compile 94 = .ok (.iinc 1 1, 3) := by decide +kernel
theorem dX0_compile_97 : decode cX0_compile 97 = .ok (.goto (-21), 3) := by decide +kernel
theorem dX0_compile_100 : decode cX0_compile 100 = .ok (.iconst 0, 1) := by decide +kernel
theorem dX0_compile_101 : decode cX0_compile 101 = .ok (.istore_n 1, 1) := by decide +kernel
theorem dX0_compile_102 : decode cX0_compile 102 = .ok (.iload_n 1, 1) := by decide +kernel
theorem dX0_compile_103 : decode cX0_compile 103 = .ok (.aload_n 0, 1) := by decide +kernel
theorem dX0_compile_104 : decode cX0_compile 104 = .ok (.getfield 48, 3) := by decide +kernel
theorem dX0_compile_107 : decode cX0_compile 107 = .ok (.if_icmp .ge 39, 3) := by decide +kernel
theorem dX0_compile_110 : decode cX0_compile 110 = .ok (.aload_n 0, 1) := by decide +kernel
theorem dX0_compile_111 : decode cX0_compile 111 = .ok (.aload_n 0, 1) := by decide +kernel
theorem dX0_compile_112 : decode cX0_compile 112 = .ok (.getfield 13, 3) := by decide +kernel
theorem dX0_compile_115 : decode cX0_compile 115 = .ok (.iload_n 1, 1) := by decide +kernel
theorem dX0_compile_116 : decode cX0_compile 116 = .ok (.iaload, 1) := by decide +kernel
theorem dX0_compile_117 : decode cX0_compile 117 = .ok (.invokevirtual 117, 3) := by decide +kernel
theorem dX0_compile_120 : decode cX0_compile 120 = .ok (.istore_n 2, 1) := by decide +kernel
theorem dX0_compile_121 : decode cX0_compile 121 = .ok (.aload_n 0, 1) := by decide +kernel
theorem dX0_compile_122 : decode cX0_compile 122 = .ok (.getfield 7, 3) := by decide +kernel
theorem dX0_compile_125 : decode cX0_compile 125 = .ok (.iload_n 1, 1) := by decide +kernel
theorem dX0_compile_126 : decode cX0_compile 126 = .ok (.baload, 1) := by decide +kernel
theorem dX0_compile_127 : decode cX0_compile 127 = .ok (.iconst 2, 1) := by decide +kernel
theorem dX0_compile_128 : decode cX0_compile 128 = .ok (.if_icmp .ne 12, 3) := by decide +kernel
theorem dX0_compile_131 : decode cX0_compile 131 = .ok (.aload_n 0, 1) := by decide +kernel
theorem dX0_compile_132 : decode cX0_compile 132 = .ok (.iload_n 2, 1) := by decide +kernel
theorem dX0_compile_133 : decode cX0_compile 133 = .ok (.bipush 20, 2) := by decide +kernel
theorem dX0_compile_135 : decode cX0_compile 135 = .ok (.iload_n 1, 1) := by decide +kernel
theorem dX0_compile_136 : decode cX0_compile 136 = .ok (.iadd, 1) := by decide +kernel
theorem dX0_compile_137 : decode cX0_compile 137 = .ok (.invokevirtual 110, 3) := by decide +kernel
theorem dX0_compile_140 : decode cX0_compile 140 = .ok (.iinc 1 1, 3) := by decide +kernel
theorem dX0_compile_143 : decode cX0_compile 143 = .ok (.goto (-41), 3) := by decide +kernel
theorem dX0_compile_146 : decode cX0_compile 146 = .ok (.return_, 1) := by decide +kernel
abbrev cX0_orderNodes : ByteArray := prog_1_method_17_code
def yX0_orderNodes : MethodName := ⟨RX0, "orderNodes", "()Z"⟩
theorem dX0_orderNodes_0 : decode cX0_orderNodes 0 = .ok (.aload_n 0, 1) := by decide +kernel
theorem dX0_orderNodes_1 : decode cX0_orderNodes 1 = .ok (.iconst 0, 1) := by decide +kernel
theorem dX0_orderNodes_2 : decode cX0_orderNodes 2 = .ok (.putfield 99, 3) := by decide +kernel
theorem dX0_orderNodes_5 : decode cX0_orderNodes 5 = .ok (.iconst 0, 1) := by decide +kernel
theorem dX0_orderNodes_6 : decode cX0_orderNodes 6 = .ok (.istore_n 1, 1) := by decide +kernel
theorem dX0_orderNodes_7 : decode cX0_orderNodes 7 = .ok (.iconst 0, 1) := by decide +kernel
theorem dX0_orderNodes_8 : decode cX0_orderNodes 8 = .ok (.istore_n 2, 1) := by decide +kernel
theorem dX0_orderNodes_9 : decode cX0_orderNodes 9 = .ok (.iconst 0, 1) := by decide +kernel
theorem dX0_orderNodes_10 : decode cX0_orderNodes 10 = .ok (.istore_n 3, 1) := by decide +kernel
theorem dX0_orderNodes_11 : decode cX0_orderNodes 11 = .ok (.iload_n 3, 1) := by decide +kernel
theorem dX0_orderNodes_12 : decode cX0_orderNodes 12 = .ok (.aload_n 0, 1) := by decide +kernel
theorem dX0_orderNodes_13 : decode cX0_orderNodes 13 = .ok (.getfield 48, 3) := by decide +kernel
theorem dX0_orderNodes_16 : decode cX0_orderNodes 16 = .ok (.if_icmp .ge 22, 3) := by decide +kernel
theorem dX0_orderNodes_19 : decode cX0_orderNodes 19 = .ok (.aload_n 0, 1) := by decide +kernel
theorem dX0_orderNodes_20 : decode cX0_orderNodes 20 = .ok (.getfield 7, 3) := by decide +kernel
theorem dX0_orderNodes_23 : decode cX0_orderNodes 23 = .ok (.iload_n 3, 1) := by decide +kernel
theorem dX0_orderNodes_24 : decode cX0_orderNodes 24 = .ok (.baload, 1) := by decide +kernel
theorem dX0_orderNodes_25 : decode cX0_orderNodes 25 = .ok (.iconst 2, 1) := by decide +kernel
theorem dX0_orderNodes_26 : decode cX0_orderNodes 26 = .ok (.if_icmp .ne 6, 3) := by decide +kernel
theorem dX0_orderNodes_29 : decode cX0_orderNodes 29 = .ok (.iinc 2 1, 3) := by decide +kernel
theorem dX0_orderNodes_32 : decode cX0_orderNodes 32 = .ok (.iinc 3 1, 3) := by decide +kernel
theorem dX0_orderNodes_35 : decode cX0_orderNodes 35 = .ok (.goto (-24), 3) := by decide +kernel
theorem dX0_orderNodes_38 : decode cX0_orderNodes 38 = .ok (.iconst 0, 1) := by decide +kernel
theorem dX0_orderNodes_39 : decode cX0_orderNodes 39 = .ok (.istore_n 3, 1) := by decide +kernel
theorem dX0_orderNodes_40 : decode cX0_orderNodes 40 = .ok (.iload_n 3, 1) := by decide +kernel
theorem dX0_orderNodes_41 : decode cX0_orderNodes 41 = .ok (.aload_n 0, 1) := by decide +kernel
theorem dX0_orderNodes_42 : decode cX0_orderNodes 42 = .ok (.getfield 48, 3) := by decide +kernel
theorem dX0_orderNodes_45 : decode cX0_orderNodes 45 = .ok (.if_icmp .ge 95, 3) := by decide +kernel
theorem dX0_orderNodes_48 : decode cX0_orderNodes 48 = .ok (.iconst 0, 1) := by decide +kernel
theorem dX0_orderNodes_49 : decode cX0_orderNodes 49 = .ok (.istore 4, 2) := by decide +kernel
theorem dX0_orderNodes_51 : decode cX0_orderNodes 51 = .ok (.iload 4, 2) := by decide +kernel
theorem dX0_orderNodes_53 : decode cX0_orderNodes 53 = .ok (.aload_n 0, 1) := by decide +kernel
theorem dX0_orderNodes_54 : decode cX0_orderNodes 54 = .ok (.getfield 48, 3) := by decide +kernel
theorem dX0_orderNodes_57 : decode cX0_orderNodes 57 = .ok (.if_icmp .ge 77, 3) := by decide +kernel
theorem dX0_orderNodes_60 : decode cX0_orderNodes 60 = .ok (.aload_n 0, 1) := by decide +kernel
theorem dX0_orderNodes_61 : decode cX0_orderNodes 61 = .ok (.getfield 7, 3) := by decide +kernel
theorem dX0_orderNodes_64 : decode cX0_orderNodes 64 = .ok (.iload 4, 2) := by decide +kernel
theorem dX0_orderNodes_66 : decode cX0_orderNodes 66 = .ok (.baload, 1) := by decide +kernel
theorem dX0_orderNodes_67 : decode cX0_orderNodes 67 = .ok (.iconst 2, 1) := by decide +kernel
theorem dX0_orderNodes_68 : decode cX0_orderNodes 68 = .ok (.if_icmp .eq 60, 3) := by decide +kernel
theorem dX0_orderNodes_71 : decode cX0_orderNodes 71 = .ok (.iload_n 1, 1) := by decide +kernel
theorem dX0_orderNodes_72 : decode cX0_orderNodes 72 = .ok (.iload 4, 2) := by decide +kernel
theorem dX0_orderNodes_74 : decode cX0_orderNodes 74 = .ok (.ishr, 1) := by decide +kernel
theorem dX0_orderNodes_75 : decode cX0_orderNodes 75 = .ok (.iconst 1, 1) := by decide +kernel
theorem dX0_orderNodes_76 : decode cX0_orderNodes 76 = .ok (.iand, 1) := by decide +kernel
theorem dX0_orderNodes_77 : decode cX0_orderNodes 77 = .ok (.ifCond .eq 6, 3) := by decide +kernel
theorem dX0_orderNodes_80 : decode cX0_orderNodes 80 = .ok (.goto 48, 3) := by decide +kernel
theorem dX0_orderNodes_83 : decode cX0_orderNodes 83 = .ok (.aload_n 0, 1) := by decide +kernel
theorem dX0_orderNodes_84 : decode cX0_orderNodes 84 = .ok (.iload 4, 2) := by decide +kernel
theorem dX0_orderNodes_86 : decode cX0_orderNodes 86 = .ok (.invokevirtual 102, 3) := by decide +kernel
theorem dX0_orderNodes_89 : decode cX0_orderNodes 89 = .ok (.iload_n 1, 1) := by decide +kernel
theorem dX0_orderNodes_90 : decode cX0_orderNodes 90 = .ok (.iconst (-1), 1) := by decide +kernel
theorem dX0_orderNodes_91 : decode cX0_orderNodes 91 = .ok (.ixor, 1) := by decide +kernel
theorem dX0_orderNodes_92 : decode cX0_orderNodes 92 = .ok (.iand, 1) := by decide +kernel
theorem dX0_orderNodes_93 : decode cX0_orderNodes 93 = .ok (.ifCond .eq 6, 3) := by decide +kernel
theorem dX0_orderNodes_96 : decode cX0_orderNodes 96 = .ok (.goto 32, 3) := by decide +kernel
theorem dX0_orderNodes_99 : decode cX0_orderNodes 99 = .ok (.iload_n 1, 1) := by decide +kernel
theorem dX0_orderNodes_100 : decode cX0_orderNodes 100 = .ok (.iconst 1, 1) := by decide +kernel
theorem dX0_orderNodes_101 : decode cX0_orderNodes 101 = .ok (.iload 4, 2) := by decide +kernel
theorem dX0_orderNodes_103 : decode cX0_orderNodes 103 = .ok (.ishl, 1) := by decide +kernel
theorem dX0_orderNodes_104 : decode cX0_orderNodes 104 = .ok (.ior, 1) := by decide +kernel
theorem dX0_orderNodes_105 : decode cX0_orderNodes 105 = .ok (.istore_n 1, 1) := by decide +kernel
theorem dX0_orderNodes_106 : decode cX0_orderNodes 106 = .ok (.aload_n 0, 1) := by decide +kernel
theorem dX0_orderNodes_107 : decode cX0_orderNodes 107 = .ok (.getfield 29, 3) := by decide +kernel
theorem dX0_orderNodes_110 : decode cX0_orderNodes 110 = .ok (.aload_n 0, 1) := by decide +kernel
theorem dX0_orderNodes_111 : decode cX0_orderNodes 111 = .ok (.getfield 99, 3) := by decide +kernel
theorem dX0_orderNodes_114 : decode cX0_orderNodes 114 = .ok (.iload 4, 2) := by decide +kernel
theorem dX0_orderNodes_116 : decode cX0_orderNodes 116 = .ok (.i2b, 1) := by decide +kernel
theorem dX0_orderNodes_117 : decode cX0_orderNodes 117 = .ok (.bastore, 1) := by decide +kernel
theorem dX0_orderNodes_118 : decode cX0_orderNodes 118 = .ok (.aload_n 0, 1) := by decide +kernel
theorem dX0_orderNodes_119 : decode cX0_orderNodes 119 = .ok (.dup, 1) := by decide +kernel
theorem dX0_orderNodes_120 : decode cX0_orderNodes 120 = .ok (.getfield 99, 3) := by decide +kernel
theorem dX0_orderNodes_123 : decode cX0_orderNodes 123 = .ok (.iconst 1, 1) := by decide +kernel
theorem dX0_orderNodes_124 : decode cX0_orderNodes 124 = .ok (.iadd, 1) := by decide +kernel
theorem dX0_orderNodes_125 : decode cX0_orderNodes 125 = .ok (.putfield 99, 3) := by decide +kernel
theorem dX0_orderNodes_128 : decode cX0_orderNodes 128 = .ok (.iinc 4 1, 3) := by decide +kernel
theorem dX0_orderNodes_131 : decode cX0_orderNodes 131 = .ok (.goto (-80), 3) := by decide +kernel
theorem dX0_orderNodes_134 : decode cX0_orderNodes 134 = .ok (.iinc 3 1, 3) := by decide +kernel
theorem dX0_orderNodes_137 : decode cX0_orderNodes 137 = .ok (.goto (-97), 3) := by decide +kernel
theorem dX0_orderNodes_140 : decode cX0_orderNodes 140 = .ok (.aload_n 0, 1) := by decide +kernel
theorem dX0_orderNodes_141 : decode cX0_orderNodes 141 = .ok (.getfield 99, 3) := by decide +kernel
theorem dX0_orderNodes_144 : decode cX0_orderNodes 144 = .ok (.iload_n 2, 1) := by decide +kernel
theorem dX0_orderNodes_145 : decode cX0_orderNodes 145 = .ok (.iadd, 1) := by decide +kernel
theorem dX0_orderNodes_146 : decode cX0_orderNodes 146 = .ok (.aload_n 0, 1) := by decide +kernel
theorem dX0_orderNodes_147 : decode cX0_orderNodes 147 = .ok (.getfield 48, 3) := by decide +kernel
theorem dX0_orderNodes_150 : decode cX0_orderNodes 150 = .ok (.if_icmp .ne 7, 3) := by decide +kernel
theorem dX0_orderNodes_153 : decode cX0_orderNodes 153 = .ok (.iconst 1, 1) := by decide +kernel
theorem dX0_orderNodes_154 : decode cX0_orderNodes 154 = .ok (.goto 4, 3) := by decide +kernel
theorem dX0_orderNodes_157 : decode cX0_orderNodes 157 = .ok (.iconst 0, 1) := by decide +kernel
theorem dX0_orderNodes_158 : decode cX0_orderNodes 158 = .ok (.ireturn, 1) := by decide +kernel
abbrev cX0_namedBy : ByteArray := prog_1_method_16_code
def yX0_namedBy : MethodName := ⟨RX0, "namedBy", "(I)I"⟩
theorem dX0_namedBy_0 : decode cX0_namedBy 0 = .ok (.aload_n 0, 1) := by decide +kernel
theorem dX0_namedBy_1 : decode cX0_namedBy 1 = .ok (.getfield 7, 3) := by decide +kernel
theorem dX0_namedBy_4 : decode cX0_namedBy 4 = .ok (.iload_n 1, 1) := by decide +kernel
theorem dX0_namedBy_5 : decode cX0_namedBy 5 = .ok (.baload, 1) := by decide +kernel
theorem dX0_namedBy_6 : decode cX0_namedBy 6 = .ok (.istore_n 2, 1) := by decide +kernel
theorem dX0_namedBy_7 : decode cX0_namedBy 7 = .ok (.iconst 0, 1) := by decide +kernel
theorem dX0_namedBy_8 : decode cX0_namedBy 8 = .ok (.istore_n 3, 1) := by decide +kernel
theorem dX0_namedBy_9 : decode cX0_namedBy 9 = .ok (.iload_n 2, 1) := by decide +kernel
theorem dX0_namedBy_10 : decode cX0_namedBy 10 = .ok (.iconst 3, 1) := by decide +kernel
theorem dX0_namedBy_11 : decode cX0_namedBy 11 = .ok (.if_icmp .lt 20, 3) := by decide +kernel
theorem dX0_namedBy_14 : decode cX0_namedBy 14 = .ok (.iload_n 2, 1) := by decide +kernel
theorem dX0_namedBy_15 : decode cX0_namedBy 15 = .ok (.bipush 9, 2) := by decide +kernel
theorem dX0_namedBy_17 : decode cX0_namedBy 17 = .ok (.if_icmp .gt 14, 3) := by decide +kernel
theorem dX0_namedBy_20 : decode cX0_namedBy 20 = .ok (.iload_n 3, 1) := by decide +kernel
theorem dX0_namedBy_21 : decode cX0_namedBy 21 = .ok (.iconst 1, 1) := by decide +kernel
theorem dX0_namedBy_22 : decode cX0_namedBy 22 = .ok (.aload_n 0, 1) := by decide +kernel
theorem dX0_namedBy_23 : decode cX0_namedBy 23 = .ok (.getfield 13, 3) := by decide +kernel
theorem dX0_namedBy_26 : decode cX0_namedBy 26 = .ok (.iload_n 1, 1) := by decide +kernel
theorem dX0_namedBy_27 : decode cX0_namedBy 27 = .ok (.iaload, 1) := by decide +kernel
theorem dX0_namedBy_28 : decode cX0_namedBy 28 = .ok (.ishl, 1) := by decide +kernel
theorem dX0_namedBy_29 : decode cX0_namedBy 29 = .ok (.ior, 1) := by decide +kernel
theorem dX0_namedBy_30 : decode cX0_namedBy 30 = .ok (.istore_n 3, 1) := by decide +kernel
theorem dX0_namedBy_31 : decode cX0_namedBy 31 = .ok (.iload_n 2, 1) := by decide +kernel
theorem dX0_namedBy_32 : decode cX0_namedBy 32 = .ok (.iconst 3, 1) := by decide +kernel
theorem dX0_namedBy_33 : decode cX0_namedBy 33 = .ok (.if_icmp .lt 19, 3) := by decide +kernel
theorem dX0_namedBy_36 : decode cX0_namedBy 36 = .ok (.iload_n 2, 1) := by decide +kernel
theorem dX0_namedBy_37 : decode cX0_namedBy 37 = .ok (.iconst 5, 1) := by decide +kernel
theorem dX0_namedBy_38 : decode cX0_namedBy 38 = .ok (.if_icmp .gt 14, 3) := by decide +kernel
theorem dX0_namedBy_41 : decode cX0_namedBy 41 = .ok (.iload_n 3, 1) := by decide +kernel
theorem dX0_namedBy_42 : decode cX0_namedBy 42 = .ok (.iconst 1, 1) := by decide +kernel
theorem dX0_namedBy_43 : decode cX0_namedBy 43 = .ok (.aload_n 0, 1) := by decide +kernel
theorem dX0_namedBy_44 : decode cX0_namedBy 44 = .ok (.getfield 17, 3) := by decide +kernel
theorem dX0_namedBy_47 : decode cX0_namedBy 47 = .ok (.iload_n 1, 1) := by decide +kernel
theorem dX0_namedBy_48 : decode cX0_namedBy 48 = .ok (.baload, 1) := by decide +kernel
theorem dX0_namedBy_49 : decode cX0_namedBy 49 = .ok (.ishl, 1) := by decide +kernel
theorem dX0_namedBy_50 : decode cX0_namedBy 50 = .ok (.ior, 1) := by decide +kernel
theorem dX0_namedBy_51 : decode cX0_namedBy 51 = .ok (.istore_n 3, 1) := by decide +kernel
theorem dX0_namedBy_52 : decode cX0_namedBy 52 = .ok (.iload_n 2, 1) := by decide +kernel
theorem dX0_namedBy_53 : decode cX0_namedBy 53 = .ok (.bipush 10, 2) := by decide +kernel
theorem dX0_namedBy_55 : decode cX0_namedBy 55 = .ok (.if_icmp .ne 40, 3) := by decide +kernel
theorem dX0_namedBy_58 : decode cX0_namedBy 58 = .ok (.iconst 0, 1) := by decide +kernel
theorem dX0_namedBy_59 : decode cX0_namedBy 59 = .ok (.istore 4, 2) := by decide +kernel
theorem dX0_namedBy_61 : decode cX0_namedBy 61 = .ok (.iload 4, 2) := by decide +kernel
theorem dX0_namedBy_63 : decode cX0_namedBy 63 = .ok (.aload_n 0, 1) := by decide +kernel
theorem dX0_namedBy_64 : decode cX0_namedBy 64 = .ok (.getfield 20, 3) := by decide +kernel
theorem dX0_namedBy_67 : decode cX0_namedBy 67 = .ok (.iload_n 1, 1) := by decide +kernel
theorem dX0_namedBy_68 : decode cX0_namedBy 68 = .ok (.baload, 1) := by decide +kernel
theorem dX0_namedBy_69 : decode cX0_namedBy 69 = .ok (.if_icmp .ge 26, 3) := by decide +kernel
theorem dX0_namedBy_72 : decode cX0_namedBy 72 = .ok (.iload_n 3, 1) := by decide +kernel
theorem dX0_namedBy_73 : decode cX0_namedBy 73 = .ok (.iconst 1, 1) := by decide +kernel
theorem dX0_namedBy_74 : decode cX0_namedBy 74 = .ok (.aload_n 0, 1) := by decide +kernel
theorem dX0_namedBy_75 : decode cX0_namedBy 75 = .ok (.getfield 23, 3) := by decide +kernel
theorem dX0_namedBy_78 : decode cX0_namedBy 78 = .ok (.bipush 6, 2) := by decide +kernel
theorem dX0_namedBy_80 : decode cX0_namedBy 80 = .ok (.iload_n 1, 1) := by decide +kernel
theorem dX0_namedBy_81 : decode cX0_namedBy 81 = .ok (.imul, 1) := by decide +kernel
theorem dX0_namedBy_82 : decode cX0_namedBy 82 = .ok (.iload 4, 2) := by decide +kernel
theorem dX0_namedBy_84 : decode cX0_namedBy 84 = .ok (.iadd, 1) := by decide +kernel
theorem dX0_namedBy_85 : decode cX0_namedBy 85 = .ok (.baload, 1) := by decide +kernel
theorem dX0_namedBy_86 : decode cX0_namedBy 86 = .ok (.ishl, 1) := by decide +kernel
theorem dX0_namedBy_87 : decode cX0_namedBy 87 = .ok (.ior, 1) := by decide +kernel
theorem dX0_namedBy_88 : decode cX0_namedBy 88 = .ok (.istore_n 3, 1) := by decide +kernel
theorem dX0_namedBy_89 : decode cX0_namedBy 89 = .ok (.iinc 4 1, 3) := by decide +kernel
theorem dX0_namedBy_92 : decode cX0_namedBy 92 = .ok (.goto (-31), 3) := by decide +kernel
theorem dX0_namedBy_95 : decode cX0_namedBy 95 = .ok (.iconst 0, 1) := by decide +kernel
theorem dX0_namedBy_96 : decode cX0_namedBy 96 = .ok (.istore 4, 2) := by decide +kernel
theorem dX0_namedBy_98 : decode cX0_namedBy 98 = .ok (.iload 4, 2) := by decide +kernel
theorem dX0_namedBy_100 : decode cX0_namedBy 100 = .ok (.bipush 20, 2) := by decide +kernel
theorem dX0_namedBy_102 : decode cX0_namedBy 102 = .ok (.if_icmp .ge 38, 3) := by decide +kernel
theorem dX0_namedBy_105 : decode cX0_namedBy 105 = .ok (.iload 4, 2) := by decide +kernel
theorem dX0_namedBy_107 : decode cX0_namedBy 107 = .ok (.aload_n 0, 1) := by decide +kernel
theorem dX0_namedBy_108 : decode cX0_namedBy 108 = .ok (.getfield 48, 3) := by decide +kernel
theorem dX0_namedBy_111 : decode cX0_namedBy 111 = .ok (.if_icmp .ge 14, 3) := by decide +kernel
theorem dX0_namedBy_114 : decode cX0_namedBy 114 = .ok (.aload_n 0, 1) := by decide +kernel
theorem dX0_namedBy_115 : decode cX0_namedBy 115 = .ok (.getfield 7, 3) := by decide +kernel
theorem dX0_namedBy_118 : decode cX0_namedBy 118 = .ok (.iload 4, 2) := by decide +kernel
theorem dX0_namedBy_120 : decode cX0_namedBy 120 = .ok (.baload, 1) := by decide +kernel
theorem dX0_namedBy_121 : decode cX0_namedBy 121 = .ok (.iconst 2, 1) := by decide +kernel
theorem dX0_namedBy_122 : decode cX0_namedBy 122 = .ok (.if_icmp .ne 12, 3) := by decide +kernel
theorem dX0_namedBy_125 : decode cX0_namedBy 125 = .ok (.iload_n 3, 1) := by decide +kernel
theorem dX0_namedBy_126 : decode cX0_namedBy 126 = .ok (.iconst 1, 1) := by decide +kernel
theorem dX0_namedBy_127 : decode cX0_namedBy 127 = .ok (.iload 4, 2) := by decide +kernel
theorem dX0_namedBy_129 : decode cX0_namedBy 129 = .ok (.ishl, 1) := by decide +kernel
theorem dX0_namedBy_130 : decode cX0_namedBy 130 = .ok (.iconst (-1), 1) := by decide +kernel
theorem dX0_namedBy_131 : decode cX0_namedBy 131 = .ok (.ixor, 1) := by decide +kernel
theorem dX0_namedBy_132 : decode cX0_namedBy 132 = .ok (.iand, 1) := by decide +kernel
theorem dX0_namedBy_133 : decode cX0_namedBy 133 = .ok (.istore_n 3, 1) := by decide +kernel
theorem dX0_namedBy_134 : decode cX0_namedBy 134 = .ok (.iinc 4 1, 3) := by decide +kernel
theorem dX0_namedBy_137 : decode cX0_namedBy 137 = .ok (.goto (-39), 3) := by decide +kernel
theorem dX0_namedBy_140 : decode cX0_namedBy 140 = .ok (.iload_n 3, 1) := by decide +kernel
theorem dX0_namedBy_141 : decode cX0_namedBy 141 = .ok (.ireturn, 1) := by decide +kernel
end
section
set_option maxRecDepth 100000
abbrev cX0_copy : ByteArray := prog_1_method_23_code
def yX0_copy : MethodName := ⟨RX0, "copy", "(II)V"⟩
theorem dX0_copy_0 : decode cX0_copy 0 = .ok (.aload_n 0, 1) := by decide +kernel
theorem dX0_copy_1 : decode cX0_copy 1 = .ok (.iload_n 1, 1) := by decide +kernel
theorem dX0_copy_2 : decode cX0_copy 2 = .ok (.invokevirtual 123, 3) := by decide +kernel
theorem dX0_copy_5 : decode cX0_copy 5 = .ok (.aload_n 0, 1) := by decide +kernel
theorem dX0_copy_6 : decode cX0_copy 6 = .ok (.iload_n 2, 1) := by decide +kernel
theorem dX0_copy_7 : decode cX0_copy 7 = .ok (.invokevirtual 126, 3) := by decide +kernel
theorem dX0_copy_10 : decode cX0_copy 10 = .ok (.return_, 1) := by decide +kernel
abbrev cX0_load : ByteArray := prog_1_method_21_code
def yX0_load : MethodName := ⟨RX0, "load", "(I)V"⟩
theorem dX0_load_0 : decode cX0_load 0 = .ok (.aload_n 0, 1) := by decide +kernel
theorem dX0_load_1 : decode cX0_load 1 = .ok (.getfield 44, 3) := by decide +kernel
theorem dX0_load_4 : decode cX0_load 4 = .ok (.iload_n 1, 1) := by decide +kernel
theorem dX0_load_5 : decode cX0_load 5 = .ok (.if_icmp .ne 4, 3) := by decide +kernel
theorem dX0_load_8 : decode cX0_load 8 = .ok (.return_, 1) := by decide +kernel
theorem dX0_load_9 : decode cX0_load 9 = .ok (.aload_n 0, 1) := by decide +kernel
theorem dX0_load_10 : decode cX0_load 10 = .ok (.iconst 0, 1) := by decide +kernel
theorem dX0_load_11 : decode cX0_load 11 = .ok (.iload_n 1, 1) := by decide +kernel
theorem dX0_load_12 : decode cX0_load 12 = .ok (.iconst 0, 1) := by decide +kernel
theorem dX0_load_13 : decode cX0_load 13 = .ok (.invokevirtual 120, 3) := by decide +kernel
theorem dX0_load_16 : decode cX0_load 16 = .ok (.return_, 1) := by decide +kernel
abbrev cX0_write : ByteArray := prog_1_method_20_code
def yX0_write : MethodName := ⟨RX0, "write", "(III)V"⟩
theorem dX0_write_0 : decode cX0_write 0 = .ok (.aload_n 0, 1) := by decide +kernel
theorem dX0_write_1 : decode cX0_write 1 = .ok (.getfield 32, 3) := by decide +kernel
theorem dX0_write_4 : decode cX0_write 4 = .ok (.aload_n 0, 1) := by decide +kernel
theorem dX0_write_5 : decode cX0_write 5 = .ok (.getfield 72, 3) := by decide +kernel
theorem dX0_write_8 : decode cX0_write 8 = .ok (.iload_n 1, 1) := by decide +kernel
theorem dX0_write_9 : decode cX0_write 9 = .ok (.i2b, 1) := by decide +kernel
theorem dX0_write_10 : decode cX0_write 10 = .ok (.bastore, 1) := by decide +kernel
theorem dX0_write_11 : decode cX0_write 11 = .ok (.aload_n 0, 1) := by decide +kernel
theorem dX0_write_12 : decode cX0_write 12 = .ok (.getfield 38, 3) := by decide +kernel
theorem dX0_write_15 : decode cX0_write 15 = .ok (.aload_n 0, 1) := by decide +kernel
theorem dX0_write_16 : decode cX0_write 16 = .ok (.getfield 72, 3) := by decide +kernel
theorem dX0_write_19 : decode cX0_write 19 = .ok (.iload_n 2, 1) := by decide +kernel
theorem dX0_write_20 : decode cX0_write 20 = .ok (.i2b, 1) := by decide +kernel
theorem dX0_write_21 : decode cX0_write 21 = .ok (.bastore, 1) := by decide +kernel
theorem dX0_write_22 : decode cX0_write 22 = .ok (.aload_n 0, 1) := by decide +kernel
theorem dX0_write_23 : decode cX0_write 23 = .ok (.getfield 35, 3) := by decide +kernel
theorem dX0_write_26 : decode cX0_write 26 = .ok (.aload_n 0, 1) := by decide +kernel
theorem dX0_write_27 : decode cX0_write 27 = .ok (.getfield 72, 3) := by decide +kernel
theorem dX0_write_30 : decode cX0_write 30 = .ok (.iload_n 3, 1) := by decide +kernel
theorem dX0_write_31 : decode cX0_write 31 = .ok (.iastore, 1) := by decide +kernel
theorem dX0_write_32 : decode cX0_write 32 = .ok (.aload_n 0, 1) := by decide +kernel
theorem dX0_write_33 : decode cX0_write 33 = .ok (.dup, 1) := by decide +kernel
theorem dX0_write_34 : decode cX0_write 34 = .ok (.getfield 72, 3) := by decide +kernel
theorem dX0_write_37 : decode cX0_write 37 = .ok (.iconst 1, 1) := by decide +kernel
theorem dX0_write_38 : decode cX0_write 38 = .ok (.iadd, 1) := by decide +kernel
theorem dX0_write_39 : decode cX0_write 39 = .ok (.putfield 72, 3) := by decide +kernel
theorem dX0_write_42 : decode cX0_write 42 = .ok (.aload_n 0, 1) := by decide +kernel
theorem dX0_write_43 : decode cX0_write 43 = .ok (.iconst (-1), 1) := by decide +kernel
theorem dX0_write_44 : decode cX0_write 44 = .ok (.putfield 44, 3) := by decide +kernel
theorem dX0_write_47 : decode cX0_write 47 = .ok (.return_, 1) := by decide +kernel
abbrev cX0_store : ByteArray := prog_1_method_22_code
def yX0_store : MethodName := ⟨RX0, "store", "(I)V"⟩
theorem dX0_store_0 : decode cX0_store 0 = .ok (.aload_n 0, 1) := by decide +kernel
theorem dX0_store_1 : decode cX0_store 1 = .ok (.iconst 2, 1) := by decide +kernel
theorem dX0_store_2 : decode cX0_store 2 = .ok (.iload_n 1, 1) := by decide +kernel
theorem dX0_store_3 : decode cX0_store 3 = .ok (.iconst 0, 1) := by decide +kernel
theorem dX0_store_4 : decode cX0_store 4 = .ok (.invokevirtual 120, 3) := by decide +kernel
theorem dX0_store_7 : decode cX0_store 7 = .ok (.aload_n 0, 1) := by decide +kernel
theorem dX0_store_8 : decode cX0_store 8 = .ok (.iload_n 1, 1) := by decide +kernel
theorem dX0_store_9 : decode cX0_store 9 = .ok (.putfield 44, 3) := by decide +kernel
theorem dX0_store_12 : decode cX0_store 12 = .ok (.return_, 1) := by decide +kernel
abbrev cX0_compileNode : ByteArray := prog_1_method_24_code
def yX0_compileNode : MethodName := ⟨RX0, "compileNode", "(I)V"⟩
theorem dX0_compileNode_0 : decode cX0_compileNode 0 = .ok (.aload_n 0, 1) := by decide +kernel
theorem dX0_compileNode_1 : decode cX0_compileNode 1 = .ok (.getfield 7, 3) := by decide +kernel
theorem dX0_compileNode_4 : decode cX0_compileNode 4 = .ok (.iload_n 1, 1) := by decide +kernel
theorem dX0_compileNode_5 : decode cX0_compileNode 5 = .ok (.baload, 1) := by decide +kernel
theorem dX0_compileNode_6 : decode cX0_compileNode 6 = .ok (.istore_n 2, 1) := by decide +kernel
theorem dX0_compileNode_7 : decode cX0_compileNode 7 = .ok (.iload_n 2, 1) := by decide +kernel
theorem dX0_compileNode_8 : decode cX0_compileNode 8 = .ok (.ifCond .ne 12, 3) := by decide +kernel
theorem dX0_compileNode_11 : decode cX0_compileNode 11 = .ok (.aload_n 0, 1) := by decide +kernel
theorem dX0_compileNode_12 : decode cX0_compileNode 12 = .ok (.bipush 41, 2) := by decide +kernel
theorem dX0_compileNode_14 : decode cX0_compileNode 14 = .ok (.invokevirtual 123, 3) := by decide +kernel
theorem dX0_compileNode_17 : decode cX0_compileNode 17 = .ok (.goto 56, 3) := by decide +kernel
theorem dX0_compileNode_20 : decode cX0_compileNode 20 = .ok (.iload_n 2, 1) := by decide +kernel
theorem dX0_compileNode_21 : decode cX0_compileNode 21 = .ok (.iconst 1, 1) := by decide +kernel
theorem dX0_compileNode_22 : decode cX0_compileNode 22 = .ok (.if_icmp .ne 19, 3) := by decide +kernel
theorem dX0_compileNode_25 : decode cX0_compileNode 25 = .ok (.aload_n 0, 1) := by decide +kernel
theorem dX0_compileNode_26 : decode cX0_compileNode 26 = .ok (.iconst 1, 1) := by decide +kernel
theorem dX0_compileNode_27 : decode cX0_compileNode 27 = .ok (.bipush 40, 2) := by decide +kernel
theorem dX0_compileNode_29 : decode cX0_compileNode 29 = .ok (.aload_n 0, 1) := by decide +kernel
theorem dX0_compileNode_30 : decode cX0_compileNode 30 = .ok (.getfield 13, 3) := by decide +kernel
theorem dX0_compileNode_33 : decode cX0_compileNode 33 = .ok (.iload_n 1, 1) := by decide +kernel
theorem dX0_compileNode_34 : decode cX0_compileNode 34 = .ok (.iaload, 1) := by decide +kernel
theorem dX0_compileNode_35 : decode cX0_compileNode 35 = .ok (.invokevirtual 120, 3) := by decide +kernel
theorem dX0_compileNode_38 : decode cX0_compileNode 38 = .ok (.goto 35, 3) := by decide +kernel
theorem dX0_compileNode_41 : decode cX0_compileNode 41 = .ok (.iload_n 2, 1) := by decide +kernel
theorem dX0_compileNode_42 : decode cX0_compileNode 42 = .ok (.bipush 10, 2) := by decide +kernel
theorem dX0_compileNode_44 : decode cX0_compileNode 44 = .ok (.if_icmp .ne 11, 3) := by decide +kernel
theorem dX0_compileNode_47 : decode cX0_compileNode 47 = .ok (.aload_n 0, 1) := by decide +kernel
theorem dX0_compileNode_48 : decode cX0_compileNode 48 = .ok (.iload_n 1, 1) := by decide +kernel
theorem dX0_compileNode_49 : decode cX0_compileNode 49 = .ok (.invokevirtual 129, 3) := by decide +kernel
theorem dX0_compileNode_52 : decode cX0_compileNode 52 = .ok (.goto 21, 3) := by decide +kernel
theorem dX0_compileNode_55 : decode cX0_compileNode 55 = .ok (.iload_n 2, 1) := by decide +kernel
theorem dX0_compileNode_56 : decode cX0_compileNode 56 = .ok (.iconst 5, 1) := by decide +kernel
theorem dX0_compileNode_57 : decode cX0_compileNode 57 = .ok (.if_icmp .gt 11, 3) := by decide +kernel
theorem dX0_compileNode_60 : decode cX0_compileNode 60 = .ok (.aload_n 0, 1) := by decide +kernel
theorem dX0_compileNode_61 : decode cX0_compileNode 61 = .ok (.iload_n 1, 1) := by decide +kernel
theorem dX0_compileNode_62 : decode cX0_compileNode 62 = .ok (.invokevirtual 132, 3) := by decide +kernel
theorem dX0_compileNode_65 : decode cX0_compileNode 65 = .ok (.goto 8, 3) := by decide +kernel
theorem dX0_compileNode_68 : decode cX0_compileNode 68 = .ok (.aload_n 0, 1) := by decide +kernel
theorem dX0_compileNode_69 : decode cX0_compileNode 69 = .ok (.iload_n 1, 1) := by decide +kernel
theorem dX0_compileNode_70 : decode cX0_compileNode 70 = .ok (.invokevirtual 135, 3) := by decide +kernel
theorem dX0_compileNode_73 : decode cX0_compileNode 73 = .ok (.aload_n 0, 1) := by decide +kernel
theorem dX0_compileNode_74 : decode cX0_compileNode 74 = .ok (.iload_n 1, 1) := by decide +kernel
theorem dX0_compileNode_75 : decode cX0_compileNode 75 = .ok (.invokevirtual 126, 3) := by decide +kernel
theorem dX0_compileNode_78 : decode cX0_compileNode 78 = .ok (.return_, 1) := by decide +kernel
abbrev cX0_compileSum : ByteArray := prog_1_method_27_code
def yX0_compileSum : MethodName := ⟨RX0, "compileSum", "(I)V"⟩
theorem dX0_compileSum_0 : decode cX0_compileSum 0 = .ok (.aload_n 0, 1) := by decide +kernel
theorem dX0_compileSum_1 : decode cX0_compileSum 1 = .ok (.iconst 1, 1) := by decide +kernel
theorem dX0_compileSum_2 : decode cX0_compileSum 2 = .ok (.bipush 40, 2) := by decide +kernel
theorem dX0_compileSum_4 : decode cX0_compileSum 4 = .ok (.iconst 0, 1) := by decide +kernel
theorem dX0_compileSum_5 : decode cX0_compileSum 5 = .ok (.invokevirtual 120, 3) := by decide +kernel
theorem dX0_compileSum_8 : decode cX0_compileSum 8 = .ok (.iconst 0, 1) := by decide +kernel
theorem dX0_compileSum_9 : decode cX0_compileSum 9 = .ok (.istore_n 2, 1) := by decide +kernel
theorem dX0_compileSum_10 : decode cX0_compileSum 10 = .ok (.iload_n 2, 1) := by decide +kernel
theorem dX0_compileSum_11 : decode cX0_compileSum 11 = .ok (.aload_n 0, 1) := by decide +kernel
theorem dX0_compileSum_12 : decode cX0_compileSum 12 = .ok (.getfield 20, 3) := by decide +kernel
theorem dX0_compileSum_15 : decode cX0_compileSum 15 = .ok (.iload_n 1, 1) := by decide +kernel
theorem dX0_compileSum_16 : decode cX0_compileSum 16 = .ok (.baload, 1) := by decide +kernel
theorem dX0_compileSum_17 : decode cX0_compileSum 17 = .ok (.if_icmp .ge 42, 3) := by decide +kernel
theorem dX0_compileSum_20 : decode cX0_compileSum 20 = .ok (.bipush 6, 2) := by decide +kernel
theorem dX0_compileSum_22 : decode cX0_compileSum 22 = .ok (.iload_n 1, 1) := by decide +kernel
theorem dX0_compileSum_23 : decode cX0_compileSum 23 = .ok (.imul, 1) := by decide +kernel
theorem dX0_compileSum_24 : decode cX0_compileSum 24 = .ok (.iload_n 2, 1) := by decide +kernel
theorem dX0_compileSum_25 : decode cX0_compileSum 25 = .ok (.iadd, 1) := by decide +kernel
theorem dX0_compileSum_26 : decode cX0_compileSum 26 = .ok (.istore_n 3, 1) := by decide +kernel
theorem dX0_compileSum_27 : decode cX0_compileSum 27 = .ok (.aload_n 0, 1) := by decide +kernel
theorem dX0_compileSum_28 : decode cX0_compileSum 28 = .ok (.aload_n 0, 1) := by decide +kernel
theorem dX0_compileSum_29 : decode cX0_compileSum 29 = .ok (.getfield 23, 3) := by decide +kernel
theorem dX0_compileSum_32 : decode cX0_compileSum 32 = .ok (.iload_n 3, 1) := by decide +kernel
theorem dX0_compileSum_33 : decode cX0_compileSum 33 = .ok (.baload, 1) := by decide +kernel
theorem dX0_compileSum_34 : decode cX0_compileSum 34 = .ok (.invokevirtual 117, 3) := by decide +kernel
theorem dX0_compileSum_37 : decode cX0_compileSum 37 = .ok (.istore 4, 2) := by decide +kernel
theorem dX0_compileSum_39 : decode cX0_compileSum 39 = .ok (.aload_n 0, 1) := by decide +kernel
theorem dX0_compileSum_40 : decode cX0_compileSum 40 = .ok (.bipush 10, 2) := by decide +kernel
theorem dX0_compileSum_42 : decode cX0_compileSum 42 = .ok (.iload 4, 2) := by decide +kernel
theorem dX0_compileSum_44 : decode cX0_compileSum 44 = .ok (.aload_n 0, 1) := by decide +kernel
theorem dX0_compileSum_45 : decode cX0_compileSum 45 = .ok (.getfield 26, 3) := by decide +kernel
theorem dX0_compileSum_48 : decode cX0_compileSum 48 = .ok (.iload_n 3, 1) := by decide +kernel
theorem dX0_compileSum_49 : decode cX0_compileSum 49 = .ok (.iaload, 1) := by decide +kernel
theorem dX0_compileSum_50 : decode cX0_compileSum 50 = .ok (.invokevirtual 120, 3) := by decide +kernel
theorem dX0_compileSum_53 : decode cX0_compileSum 53 = .ok (.iinc 2 1, 3) := by decide +kernel
theorem dX0_compileSum_56 : decode cX0_compileSum 56 = .ok (.goto (-46), 3) := by decide +kernel
theorem dX0_compileSum_59 : decode cX0_compileSum 59 = .ok (.aload_n 0, 1) := by decide +kernel
theorem dX0_compileSum_60 : decode cX0_compileSum 60 = .ok (.bipush 11, 2) := by decide +kernel
theorem dX0_compileSum_62 : decode cX0_compileSum 62 = .ok (.bipush 40, 2) := by decide +kernel
theorem dX0_compileSum_64 : decode cX0_compileSum 64 = .ok (.iconst 0, 1) := by decide +kernel
theorem dX0_compileSum_65 : decode cX0_compileSum 65 = .ok (.invokevirtual 120, 3) := by decide +kernel
theorem dX0_compileSum_68 : decode cX0_compileSum 68 = .ok (.aload_n 0, 1) := by decide +kernel
theorem dX0_compileSum_69 : decode cX0_compileSum 69 = .ok (.bipush 12, 2) := by decide +kernel
theorem dX0_compileSum_71 : decode cX0_compileSum 71 = .ok (.bipush 40, 2) := by decide +kernel
theorem dX0_compileSum_73 : decode cX0_compileSum 73 = .ok (.iconst 0, 1) := by decide +kernel
theorem dX0_compileSum_74 : decode cX0_compileSum 74 = .ok (.invokevirtual 120, 3) := by decide +kernel
theorem dX0_compileSum_77 : decode cX0_compileSum 77 = .ok (.return_, 1) := by decide +kernel
abbrev cX0_cellFor : ByteArray := prog_1_method_19_code
def yX0_cellFor : MethodName := ⟨RX0, "cellFor", "(I)I"⟩
theorem dX0_cellFor_0 : decode cX0_cellFor 0 = .ok (.iload_n 1, 1) := by decide +kernel
theorem dX0_cellFor_1 : decode cX0_cellFor 1 = .ok (.aload_n 0, 1) := by decide +kernel
theorem dX0_cellFor_2 : decode cX0_cellFor 2 = .ok (.getfield 48, 3) := by decide +kernel
theorem dX0_cellFor_5 : decode cX0_cellFor 5 = .ok (.if_icmp .ge 7, 3) := by decide +kernel
theorem dX0_cellFor_8 : decode cX0_cellFor 8 = .ok (.iload_n 1, 1) := by decide +kernel
theorem dX0_cellFor_9 : decode cX0_cellFor 9 = .ok (.goto 5, 3) := by decide +kernel
theorem dX0_cellFor_12 : decode cX0_cellFor 12 = .ok (.bipush 40, 2) := by decide +kernel
theorem dX0_cellFor_14 : decode cX0_cellFor 14 = .ok (.ireturn, 1) := by decide +kernel
abbrev cX0_compileTwo : ByteArray := prog_1_method_25_code
def yX0_compileTwo : MethodName := ⟨RX0, "compileTwo", "(I)V"⟩
theorem dX0_compileTwo_0 : decode cX0_compileTwo 0 = .ok (.aload_n 0, 1) := by decide +kernel
theorem dX0_compileTwo_1 : decode cX0_compileTwo 1 = .ok (.getfield 7, 3) := by decide +kernel
theorem dX0_compileTwo_4 : decode cX0_compileTwo 4 = .ok (.iload_n 1, 1) := by decide +kernel
theorem dX0_compileTwo_5 : decode cX0_compileTwo 5 = .ok (.baload, 1) := by decide +kernel
theorem dX0_compileTwo_6 : decode cX0_compileTwo 6 = .ok (.istore_n 2, 1) := by decide +kernel
theorem dX0_compileTwo_7 : decode cX0_compileTwo 7 = .ok (.aload_n 0, 1) := by decide +kernel
theorem dX0_compileTwo_8 : decode cX0_compileTwo 8 = .ok (.aload_n 0, 1) := by decide +kernel
theorem dX0_compileTwo_9 : decode cX0_compileTwo 9 = .ok (.getfield 13, 3) := by decide +kernel
theorem dX0_compileTwo_12 : decode cX0_compileTwo 12 = .ok (.iload_n 1, 1) := by decide +kernel
theorem dX0_compileTwo_13 : decode cX0_compileTwo 13 = .ok (.iaload, 1) := by decide +kernel
theorem dX0_compileTwo_14 : decode cX0_compileTwo 14 = .ok (.invokevirtual 117, 3) := by decide +kernel
theorem dX0_compileTwo_17 : decode cX0_compileTwo 17 = .ok (.istore_n 3, 1) := by decide +kernel
theorem dX0_compileTwo_18 : decode cX0_compileTwo 18 = .ok (.aload_n 0, 1) := by decide +kernel
theorem dX0_compileTwo_19 : decode cX0_compileTwo 19 = .ok (.aload_n 0, 1) := by decide +kernel
theorem dX0_compileTwo_20 : decode cX0_compileTwo 20 = .ok (.getfield 17, 3) := by decide +kernel
theorem dX0_compileTwo_23 : decode cX0_compileTwo 23 = .ok (.iload_n 1, 1) := by decide +kernel
theorem dX0_compileTwo_24 : decode cX0_compileTwo 24 = .ok (.baload, 1) := by decide +kernel
theorem dX0_compileTwo_25 : decode cX0_compileTwo 25 = .ok (.invokevirtual 117, 3) := by decide +kernel
theorem dX0_compileTwo_28 : decode cX0_compileTwo 28 = .ok (.istore 4, 2) := by decide +kernel
theorem dX0_compileTwo_30 : decode cX0_compileTwo 30 = .ok (.aload_n 0, 1) := by decide +kernel
theorem dX0_compileTwo_31 : decode cX0_compileTwo 31 = .ok (.iload_n 3, 1) := by decide +kernel
theorem dX0_compileTwo_32 : decode cX0_compileTwo 32 = .ok (.invokevirtual 123, 3) := by decide +kernel
theorem dX0_compileTwo_35 : decode cX0_compileTwo 35 = .ok (.aload_n 0, 1) := by decide +kernel
theorem dX0_compileTwo_36 : decode cX0_compileTwo 36 = .ok (.iload_n 2, 1) := by decide +kernel
theorem dX0_compileTwo_37 : decode cX0_compileTwo 37 = .ok (.iconst 3, 1) := by decide +kernel
theorem dX0_compileTwo_38 : decode cX0_compileTwo 38 = .ok (.if_icmp .ne 7, 3) := by decide +kernel
theorem dX0_compileTwo_41 : decode cX0_compileTwo 41 = .ok (.iconst 3, 1) := by decide +kernel
theorem dX0_compileTwo_42 : decode cX0_compileTwo 42 = .ok (.goto 13, 3) := by decide +kernel
theorem dX0_compileTwo_45 : decode cX0_compileTwo 45 = .ok (.iload_n 2, 1) := by decide +kernel
theorem dX0_compileTwo_46 : decode cX0_compileTwo 46 = .ok (.iconst 4, 1) := by decide +kernel
theorem dX0_compileTwo_47 : decode cX0_compileTwo 47 = .ok (.if_icmp .ne 7, 3) := by decide +kernel
theorem dX0_compileTwo_50 : decode cX0_compileTwo 50 = .ok (.iconst 4, 1) := by decide +kernel
theorem dX0_compileTwo_51 : decode cX0_compileTwo 51 = .ok (.goto 4, 3) := by decide +kernel
theorem dX0_compileTwo_54 : decode cX0_compileTwo 54 = .ok (.iconst 5, 1) := by decide +kernel
theorem dX0_compileTwo_55 : decode cX0_compileTwo 55 = .ok (.iload 4, 2) := by decide +kernel
theorem dX0_compileTwo_57 : decode cX0_compileTwo 57 = .ok (.iconst 0, 1) := by decide +kernel
theorem dX0_compileTwo_58 : decode cX0_compileTwo 58 = .ok (.invokevirtual 120, 3) := by decide +kernel
theorem dX0_compileTwo_61 : decode cX0_compileTwo 61 = .ok (.iload_n 2, 1) := by decide +kernel
theorem dX0_compileTwo_62 : decode cX0_compileTwo 62 = .ok (.iconst 5, 1) := by decide +kernel
theorem dX0_compileTwo_63 : decode cX0_compileTwo 63 = .ok (.if_icmp .eq 12, 3) := by decide +kernel
theorem dX0_compileTwo_66 : decode cX0_compileTwo 66 = .ok (.aload_n 0, 1) := by decide +kernel
theorem dX0_compileTwo_67 : decode cX0_compileTwo 67 = .ok (.bipush 12, 2) := by decide +kernel
theorem dX0_compileTwo_69 : decode cX0_compileTwo 69 = .ok (.bipush 40, 2) := by decide +kernel
theorem dX0_compileTwo_71 : decode cX0_compileTwo 71 = .ok (.iconst 0, 1) := by decide +kernel
theorem dX0_compileTwo_72 : decode cX0_compileTwo 72 = .ok (.invokevirtual 120, 3) := by decide +kernel
theorem dX0_compileTwo_75 : decode cX0_compileTwo 75 = .ok (.return_, 1) := by decide +kernel
abbrev cX0_compileOne : ByteArray := prog_1_method_26_code
def yX0_compileOne : MethodName := ⟨RX0, "compileOne", "(I)V"⟩
theorem dX0_compileOne_0 : decode cX0_compileOne 0 = .ok (.aload_n 0, 1) := by decide +kernel
theorem dX0_compileOne_1 : decode cX0_compileOne 1 = .ok (.getfield 7, 3) := by decide +kernel
theorem dX0_compileOne_4 : decode cX0_compileOne 4 = .ok (.iload_n 1, 1) := by decide +kernel
theorem dX0_compileOne_5 : decode cX0_compileOne 5 = .ok (.baload, 1) := by decide +kernel
theorem dX0_compileOne_6 : decode cX0_compileOne 6 = .ok (.istore_n 2, 1) := by decide +kernel
theorem dX0_compileOne_7 : decode cX0_compileOne 7 = .ok (.aload_n 0, 1) := by decide +kernel
theorem dX0_compileOne_8 : decode cX0_compileOne 8 = .ok (.aload_n 0, 1) := by decide +kernel
theorem dX0_compileOne_9 : decode cX0_compileOne 9 = .ok (.getfield 13, 3) := by decide +kernel
theorem dX0_compileOne_12 : decode cX0_compileOne 12 = .ok (.iload_n 1, 1) := by decide +kernel
theorem dX0_compileOne_13 : decode cX0_compileOne 13 = .ok (.iaload, 1) := by decide +kernel
theorem dX0_compileOne_14 : decode cX0_compileOne 14 = .ok (.invokevirtual 117, 3) := by decide +kernel
theorem dX0_compileOne_17 : decode cX0_compileOne 17 = .ok (.istore_n 3, 1) := by decide +kernel
theorem dX0_compileOne_18 : decode cX0_compileOne 18 = .ok (.aload_n 0, 1) := by decide +kernel
theorem dX0_compileOne_19 : decode cX0_compileOne 19 = .ok (.iload_n 3, 1) := by decide +kernel
theorem dX0_compileOne_20 : decode cX0_compileOne 20 = .ok (.invokevirtual 123, 3) := by decide +kernel
theorem dX0_compileOne_23 : decode cX0_compileOne 23 = .ok (.iload_n 2, 1) := by decide +kernel
theorem dX0_compileOne_24 : decode cX0_compileOne 24 = .ok (.bipush 6, 2) := by decide +kernel
theorem dX0_compileOne_26 : decode cX0_compileOne 26 = .ok (.if_icmp .ne 15, 3) := by decide +kernel
theorem dX0_compileOne_29 : decode cX0_compileOne 29 = .ok (.aload_n 0, 1) := by decide +kernel
theorem dX0_compileOne_30 : decode cX0_compileOne 30 = .ok (.bipush 6, 2) := by decide +kernel
theorem dX0_compileOne_32 : decode cX0_compileOne 32 = .ok (.bipush 40, 2) := by decide +kernel
theorem dX0_compileOne_34 : decode cX0_compileOne 34 = .ok (.iconst 0, 1) := by decide +kernel
theorem dX0_compileOne_35 : decode cX0_compileOne 35 = .ok (.invokevirtual 120, 3) := by decide +kernel
theorem dX0_compileOne_38 : decode cX0_compileOne 38 = .ok (.goto 46, 3) := by decide +kernel
theorem dX0_compileOne_41 : decode cX0_compileOne 41 = .ok (.iload_n 2, 1) := by decide +kernel
theorem dX0_compileOne_42 : decode cX0_compileOne 42 = .ok (.bipush 7, 2) := by decide +kernel
theorem dX0_compileOne_44 : decode cX0_compileOne 44 = .ok (.if_icmp .ne 15, 3) := by decide +kernel
theorem dX0_compileOne_47 : decode cX0_compileOne 47 = .ok (.aload_n 0, 1) := by decide +kernel
theorem dX0_compileOne_48 : decode cX0_compileOne 48 = .ok (.bipush 7, 2) := by decide +kernel
theorem dX0_compileOne_50 : decode cX0_compileOne 50 = .ok (.bipush 40, 2) := by decide +kernel
theorem dX0_compileOne_52 : decode cX0_compileOne 52 = .ok (.iconst 0, 1) := by decide +kernel
theorem dX0_compileOne_53 : decode cX0_compileOne 53 = .ok (.invokevirtual 120, 3) := by decide +kernel
theorem dX0_compileOne_56 : decode cX0_compileOne 56 = .ok (.goto 28, 3) := by decide +kernel
theorem dX0_compileOne_59 : decode cX0_compileOne 59 = .ok (.aload_n 0, 1) := by decide +kernel
theorem dX0_compileOne_60 : decode cX0_compileOne 60 = .ok (.iload_n 2, 1) := by decide +kernel
theorem dX0_compileOne_61 : decode cX0_compileOne 61 = .ok (.bipush 8, 2) := by decide +kernel
theorem dX0_compileOne_63 : decode cX0_compileOne 63 = .ok (.if_icmp .ne 8, 3) := by decide +kernel
theorem dX0_compileOne_66 : decode cX0_compileOne 66 = .ok (.bipush 8, 2) := by decide +kernel
theorem dX0_compileOne_68 : decode cX0_compileOne 68 = .ok (.goto 5, 3) := by decide +kernel
theorem dX0_compileOne_71 : decode cX0_compileOne 71 = .ok (.bipush 9, 2) := by decide +kernel
theorem dX0_compileOne_73 : decode cX0_compileOne 73 = .ok (.bipush 40, 2) := by decide +kernel
theorem dX0_compileOne_75 : decode cX0_compileOne 75 = .ok (.aload_n 0, 1) := by decide +kernel
theorem dX0_compileOne_76 : decode cX0_compileOne 76 = .ok (.getfield 17, 3) := by decide +kernel
theorem dX0_compileOne_79 : decode cX0_compileOne 79 = .ok (.iload_n 1, 1) := by decide +kernel
theorem dX0_compileOne_80 : decode cX0_compileOne 80 = .ok (.baload, 1) := by decide +kernel
theorem dX0_compileOne_81 : decode cX0_compileOne 81 = .ok (.invokevirtual 120, 3) := by decide +kernel
theorem dX0_compileOne_84 : decode cX0_compileOne 84 = .ok (.iload_n 2, 1) := by decide +kernel
theorem dX0_compileOne_85 : decode cX0_compileOne 85 = .ok (.bipush 9, 2) := by decide +kernel
theorem dX0_compileOne_87 : decode cX0_compileOne 87 = .ok (.if_icmp .eq 12, 3) := by decide +kernel
theorem dX0_compileOne_90 : decode cX0_compileOne 90 = .ok (.aload_n 0, 1) := by decide +kernel
theorem dX0_compileOne_91 : decode cX0_compileOne 91 = .ok (.bipush 12, 2) := by decide +kernel
theorem dX0_compileOne_93 : decode cX0_compileOne 93 = .ok (.bipush 40, 2) := by decide +kernel
theorem dX0_compileOne_95 : decode cX0_compileOne 95 = .ok (.iconst 0, 1) := by decide +kernel
theorem dX0_compileOne_96 : decode cX0_compileOne 96 = .ok (.invokevirtual 120, 3) := by decide +kernel
theorem dX0_compileOne_99 : decode cX0_compileOne 99 = .ok (.return_, 1) := by decide +kernel
abbrev cX0_feed : ByteArray := prog_1_method_7_code
def yX0_feed : MethodName := ⟨RX0, "feed", "(I)Z"⟩
theorem dX0_feed_0 : decode cX0_feed 0 = .ok (.aload_n 0, 1) := by decide +kernel
theorem dX0_feed_1 : decode cX0_feed 1 = .ok (.invokevirtual 62, 3) := by decide +kernel
theorem dX0_feed_4 : decode cX0_feed 4 = .ok (.aload_n 0, 1) := by decide +kernel
theorem dX0_feed_5 : decode cX0_feed 5 = .ok (.getfield 65, 3) := by decide +kernel
theorem dX0_feed_8 : decode cX0_feed 8 = .ok (.ifCond .ne 5, 3) := by decide +kernel
theorem dX0_feed_11 : decode cX0_feed 11 = .ok (.iconst 0, 1) := by decide +kernel
theorem dX0_feed_12 : decode cX0_feed 12 = .ok (.ireturn, 1) := by decide +kernel
theorem dX0_feed_13 : decode cX0_feed 13 = .ok (.aload_n 0, 1) := by decide +kernel
theorem dX0_feed_14 : decode cX0_feed 14 = .ok (.getfield 41, 3) := by decide +kernel
theorem dX0_feed_17 : decode cX0_feed 17 = .ok (.bipush 41, 2) := by decide +kernel
theorem dX0_feed_19 : decode cX0_feed 19 = .ok (.aload_n 0, 1) := by decide +kernel
theorem dX0_feed_20 : decode cX0_feed 20 = .ok (.iload_n 1, 1) := by decide +kernel
theorem dX0_feed_21 : decode cX0_feed 21 = .ok (.i2l, 1) := by decide +kernel
theorem dX0_feed_22 : decode cX0_feed 22 = .ok (.invokevirtual 68, 3) := by decide +kernel
theorem dX0_feed_25 : decode cX0_feed 25 = .ok (.l2i, 1) := by decide +kernel
theorem dX0_feed_26 : decode cX0_feed 26 = .ok (.iastore, 1) := by decide +kernel
theorem dX0_feed_27 : decode cX0_feed 27 = .ok (.iconst 0, 1) := by decide +kernel
theorem dX0_feed_28 : decode cX0_feed 28 = .ok (.istore_n 2, 1) := by decide +kernel
theorem dX0_feed_29 : decode cX0_feed 29 = .ok (.iload_n 2, 1) := by decide +kernel
theorem dX0_feed_30 : decode cX0_feed 30 = .ok (.aload_n 0, 1) := by decide +kernel
theorem dX0_feed_31 : decode cX0_feed 31 = .ok (.getfield 72, 3) := by decide +kernel
theorem dX0_feed_34 : decode cX0_feed 34 = .ok (.if_icmp .ge 14, 3) := by decide +kernel
theorem dX0_feed_37 : decode cX0_feed 37 = .ok (.aload_n 0, 1) := by decide +kernel
theorem dX0_feed_38 : decode cX0_feed 38 = .ok (.iload_n 2, 1) := by decide +kernel
theorem dX0_feed_39 : decode cX0_feed 39 = .ok (.invokevirtual 75, 3) := by decide +kernel
theorem dX0_feed_42 : decode cX0_feed 42 = .ok (.iinc 2 1, 3) := by decide +kernel
theorem dX0_feed_45 : decode cX0_feed 45 = .ok (.goto (-16), 3) := by decide +kernel
theorem dX0_feed_48 : decode cX0_feed 48 = .ok (.aload_n 0, 1) := by decide +kernel
theorem dX0_feed_49 : decode cX0_feed 49 = .ok (.dup, 1) := by decide +kernel
theorem dX0_feed_50 : decode cX0_feed 50 = .ok (.getfield 79, 3) := by decide +kernel
theorem dX0_feed_53 : decode cX0_feed 53 = .ok (.iconst 1, 1) := by decide +kernel
theorem dX0_feed_54 : decode cX0_feed 54 = .ok (.iadd, 1) := by decide +kernel
theorem dX0_feed_55 : decode cX0_feed 55 = .ok (.putfield 79, 3) := by decide +kernel
theorem dX0_feed_58 : decode cX0_feed 58 = .ok (.iconst 1, 1) := by decide +kernel
theorem dX0_feed_59 : decode cX0_feed 59 = .ok (.ireturn, 1) := by decide +kernel
abbrev cX0_saturated : ByteArray := prog_1_method_13_code
def yX0_saturated : MethodName := ⟨RX0, "saturated", "(J)J"⟩
theorem dX0_saturated_0 : decode cX0_saturated 0 = .ok (.lload_n 1, 1) := by decide +kernel
theorem dX0_saturated_1 : decode cX0_saturated 1 = .ok (.ldc2_w 85, 3) := by decide +kernel
theorem dX0_saturated_4 : decode cX0_saturated 4 = .ok (.lcmp, 1) := by decide +kernel
theorem dX0_saturated_5 : decode cX0_saturated 5 = .ok (.ifCond .le 7, 3) := by decide +kernel
theorem dX0_saturated_8 : decode cX0_saturated 8 = .ok (.ldc2_w 85, 3) := by decide +kernel
theorem dX0_saturated_11 : decode cX0_saturated 11 = .ok (.lreturn, 1) := by decide +kernel
theorem dX0_saturated_12 : decode cX0_saturated 12 = .ok (.lload_n 1, 1) := by decide +kernel
theorem dX0_saturated_13 : decode cX0_saturated 13 = .ok (.ldc2_w 87, 3) := by decide +kernel
theorem dX0_saturated_16 : decode cX0_saturated 16 = .ok (.lcmp, 1) := by decide +kernel
theorem dX0_saturated_17 : decode cX0_saturated 17 = .ok (.ifCond .ge 9, 3) := by decide +kernel
theorem dX0_saturated_20 : decode cX0_saturated 20 = .ok (.ldc2_w 87, 3) := by decide +kernel
theorem dX0_saturated_23 : decode cX0_saturated 23 = .ok (.goto 4, 3) := by decide +kernel
theorem dX0_saturated_26 : decode cX0_saturated 26 = .ok (.lload_n 1, 1) := by decide +kernel
theorem dX0_saturated_27 : decode cX0_saturated 27 = .ok (.lreturn, 1) := by decide +kernel
abbrev cX0_perform : ByteArray := prog_1_method_14_code
def yX0_perform : MethodName := ⟨RX0, "perform", "(I)V"⟩
theorem dX0_perform_0 : decode cX0_perform 0 = .ok (.aload_n 0, 1) := by decide +kernel
theorem dX0_perform_1 : decode cX0_perform 1 = .ok (.getfield 32, 3) := by decide +kernel
theorem dX0_perform_4 : decode cX0_perform 4 = .ok (.iload_n 1, 1) := by decide +kernel
theorem dX0_perform_5 : decode cX0_perform 5 = .ok (.baload, 1) := by decide +kernel
theorem dX0_perform_6 : decode cX0_perform 6 = .ok (.istore_n 2, 1) := by decide +kernel
theorem dX0_perform_7 : decode cX0_perform 7 = .ok (.aload_n 0, 1) := by decide +kernel
theorem dX0_perform_8 : decode cX0_perform 8 = .ok (.getfield 41, 3) := by decide +kernel
theorem dX0_perform_11 : decode cX0_perform 11 = .ok (.aload_n 0, 1) := by decide +kernel
theorem dX0_perform_12 : decode cX0_perform 12 = .ok (.getfield 38, 3) := by decide +kernel
theorem dX0_perform_15 : decode cX0_perform 15 = .ok (.iload_n 1, 1) := by decide +kernel
theorem dX0_perform_16 : decode cX0_perform 16 = .ok (.baload, 1) := by decide +kernel
theorem dX0_perform_17 : decode cX0_perform 17 = .ok (.iaload, 1) := by decide +kernel
theorem dX0_perform_18 : decode cX0_perform 18 = .ok (.istore_n 3, 1) := by decide +kernel
theorem dX0_perform_19 : decode cX0_perform 19 = .ok (.aload_n 0, 1) := by decide +kernel
theorem dX0_perform_20 : decode cX0_perform 20 = .ok (.getfield 35, 3) := by decide +kernel
theorem dX0_perform_23 : decode cX0_perform 23 = .ok (.iload_n 1, 1) := by decide +kernel
theorem dX0_perform_24 : decode cX0_perform 24 = .ok (.iaload, 1) := by decide +kernel
theorem dX0_perform_25 : decode cX0_perform 25 = .ok (.istore 4, 2) := by decide +kernel
theorem dX0_perform_27 : decode cX0_perform 27 = .ok (.iload_n 2, 1) := by decide +kernel
theorem dX0_perform_28 : decode cX0_perform 28 = .ok (.ifCond .ne 12, 3) := by decide +kernel
theorem dX0_perform_31 : decode cX0_perform 31 = .ok (.aload_n 0, 1) := by decide +kernel
theorem dX0_perform_32 : decode cX0_perform 32 = .ok (.iload_n 3, 1) := by decide +kernel
theorem dX0_perform_33 : decode cX0_perform 33 = .ok (.i2l, 1) := by decide +kernel
theorem dX0_perform_34 : decode cX0_perform 34 = .ok (.putfield 89, 3) := by decide +kernel
theorem dX0_perform_37 : decode cX0_perform 37 = .ok (.goto 133, 3) := by decide +kernel
theorem dX0_perform_40 : decode cX0_perform 40 = .ok (.iload_n 2, 1) := by decide +kernel
theorem dX0_perform_41 : decode cX0_perform 41 = .ok (.iconst 1, 1) := by decide +kernel
theorem dX0_perform_42 : decode cX0_perform 42 = .ok (.if_icmp .ne 13, 3) := by decide +kernel
theorem dX0_perform_45 : decode cX0_perform 45 = .ok (.aload_n 0, 1) := by decide +kernel
theorem dX0_perform_46 : decode cX0_perform 46 = .ok (.iload 4, 2) := by decide +kernel
theorem dX0_perform_48 : decode cX0_perform 48 = .ok (.i2l, 1) := by decide +kernel
theorem dX0_perform_49 : decode cX0_perform 49 = .ok (.putfield 89, 3) := by decide +kernel
theorem dX0_perform_52 : decode cX0_perform 52 = .ok (.goto 118, 3) := by decide +kernel
theorem dX0_perform_55 : decode cX0_perform 55 = .ok (.iload_n 2, 1) := by decide +kernel
theorem dX0_perform_56 : decode cX0_perform 56 = .ok (.iconst 2, 1) := by decide +kernel
theorem dX0_perform_57 : decode cX0_perform 57 = .ok (.if_icmp .ne 22, 3) := by decide +kernel
theorem dX0_perform_60 : decode cX0_perform 60 = .ok (.aload_n 0, 1) := by decide +kernel
theorem dX0_perform_61 : decode cX0_perform 61 = .ok (.getfield 41, 3) := by decide +kernel
theorem dX0_perform_64 : decode cX0_perform 64 = .ok (.aload_n 0, 1) := by decide +kernel
theorem dX0_perform_65 : decode cX0_perform 65 = .ok (.getfield 38, 3) := by decide +kernel
theorem dX0_perform_68 : decode cX0_perform 68 = .ok (.iload_n 1, 1) := by decide +kernel
theorem dX0_perform_69 : decode cX0_perform 69 = .ok (.baload, 1) := by decide +kernel
theorem dX0_perform_70 : decode cX0_perform 70 = .ok (.aload_n 0, 1) := by decide +kernel
theorem dX0_perform_71 : decode cX0_perform 71 = .ok (.getfield 89, 3) := by decide +kernel
theorem dX0_perform_74 : decode cX0_perform 74 = .ok (.l2i, 1) := by decide +kernel
theorem dX0_perform_75 : decode cX0_perform 75 = .ok (.iastore, 1) := by decide +kernel
theorem dX0_perform_76 : decode cX0_perform 76 = .ok (.goto 94, 3) := by decide +kernel
theorem dX0_perform_79 : decode cX0_perform 79 = .ok (.iload_n 2, 1) := by decide +kernel
theorem dX0_perform_80 : decode cX0_perform 80 = .ok (.iconst 3, 1) := by decide +kernel
theorem dX0_perform_81 : decode cX0_perform 81 = .ok (.if_icmp .ne 17, 3) := by decide +kernel
theorem dX0_perform_84 : decode cX0_perform 84 = .ok (.aload_n 0, 1) := by decide +kernel
theorem dX0_perform_85 : decode cX0_perform 85 = .ok (.dup, 1) := by decide +kernel
theorem dX0_perform_86 : decode cX0_perform 86 = .ok (.getfield 89, 3) := by decide +kernel
theorem dX0_perform_89 : decode cX0_perform 89 = .ok (.iload_n 3, 1) := by decide +kernel
theorem dX0_perform_90 : decode cX0_perform 90 = .ok (.i2l, 1) := by decide +kernel
theorem dX0_perform_91 : decode cX0_perform 91 = .ok (.ladd, 1) := by decide +kernel
theorem dX0_perform_92 : decode cX0_perform 92 = .ok (.putfield 89, 3) := by decide +kernel
theorem dX0_perform_95 : decode cX0_perform 95 = .ok (.goto 75, 3) := by decide +kernel
theorem dX0_perform_98 : decode cX0_perform 98 = .ok (.iload_n 2, 1) := by decide +kernel
theorem dX0_perform_99 : decode cX0_perform 99 = .ok (.iconst 4, 1) := by decide +kernel
theorem dX0_perform_100 : decode cX0_perform 100 = .ok (.if_icmp .ne 17, 3) := by decide +kernel
theorem dX0_perform_103 : decode cX0_perform 103 = .ok (.aload_n 0, 1) := by decide +kernel
theorem dX0_perform_104 : decode cX0_perform 104 = .ok (.dup, 1) := by decide +kernel
theorem dX0_perform_105 : decode cX0_perform 105 = .ok (.getfield 89, 3) := by decide +kernel
theorem dX0_perform_108 : decode cX0_perform 108 = .ok (.iload_n 3, 1) := by decide +kernel
theorem dX0_perform_109 : decode cX0_perform 109 = .ok (.i2l, 1) := by decide +kernel
theorem dX0_perform_110 : decode cX0_perform 110 = .ok (.lsub, 1) := by decide +kernel
theorem dX0_perform_111 : decode cX0_perform 111 = .ok (.putfield 89, 3) := by decide +kernel
theorem dX0_perform_114 : decode cX0_perform 114 = .ok (.goto 56, 3) := by decide +kernel
theorem dX0_perform_117 : decode cX0_perform 117 = .ok (.iload_n 2, 1) := by decide +kernel
theorem dX0_perform_118 : decode cX0_perform 118 = .ok (.bipush 10, 2) := by decide +kernel
theorem dX0_perform_120 : decode cX0_perform 120 = .ok (.if_icmp .ne 21, 3) := by decide +kernel
theorem dX0_perform_123 : decode cX0_perform 123 = .ok (.aload_n 0, 1) := by decide +kernel
theorem dX0_perform_124 : decode cX0_perform 124 = .ok (.dup, 1) := by decide +kernel
theorem dX0_perform_125 : decode cX0_perform 125 = .ok (.getfield 89, 3) := by decide +kernel
theorem dX0_perform_128 : decode cX0_perform 128 = .ok (.iload 4, 2) := by decide +kernel
theorem dX0_perform_130 : decode cX0_perform 130 = .ok (.i2l, 1) := by decide +kernel
theorem dX0_perform_131 : decode cX0_perform 131 = .ok (.iload_n 3, 1) := by decide +kernel
theorem dX0_perform_132 : decode cX0_perform 132 = .ok (.i2l, 1) := by decide +kernel
theorem dX0_perform_133 : decode cX0_perform 133 = .ok (.lmul, 1) := by decide +kernel
theorem dX0_perform_134 : decode cX0_perform 134 = .ok (.ladd, 1) := by decide +kernel
theorem dX0_perform_135 : decode cX0_perform 135 = .ok (.putfield 89, 3) := by decide +kernel
theorem dX0_perform_138 : decode cX0_perform 138 = .ok (.goto 32, 3) := by decide +kernel
theorem dX0_perform_141 : decode cX0_perform 141 = .ok (.iload_n 2, 1) := by decide +kernel
theorem dX0_perform_142 : decode cX0_perform 142 = .ok (.bipush 12, 2) := by decide +kernel
theorem dX0_perform_144 : decode cX0_perform 144 = .ok (.if_icmp .ne 18, 3) := by decide +kernel
theorem dX0_perform_147 : decode cX0_perform 147 = .ok (.aload_n 0, 1) := by decide +kernel
theorem dX0_perform_148 : decode cX0_perform 148 = .ok (.aload_n 0, 1) := by decide +kernel
theorem dX0_perform_149 : decode cX0_perform 149 = .ok (.aload_n 0, 1) := by decide +kernel
theorem dX0_perform_150 : decode cX0_perform 150 = .ok (.getfield 89, 3) := by decide +kernel
theorem dX0_perform_153 : decode cX0_perform 153 = .ok (.invokevirtual 68, 3) := by decide +kernel
theorem dX0_perform_156 : decode cX0_perform 156 = .ok (.putfield 89, 3) := by decide +kernel
theorem dX0_perform_159 : decode cX0_perform 159 = .ok (.goto 11, 3) := by decide +kernel
theorem dX0_perform_162 : decode cX0_perform 162 = .ok (.aload_n 0, 1) := by decide +kernel
theorem dX0_perform_163 : decode cX0_perform 163 = .ok (.iload_n 2, 1) := by decide +kernel
theorem dX0_perform_164 : decode cX0_perform 164 = .ok (.iload_n 3, 1) := by decide +kernel
theorem dX0_perform_165 : decode cX0_perform 165 = .ok (.iload 4, 2) := by decide +kernel
theorem dX0_perform_167 : decode cX0_perform 167 = .ok (.invokevirtual 93, 3) := by decide +kernel
theorem dX0_perform_170 : decode cX0_perform 170 = .ok (.return_, 1) := by decide +kernel
abbrev cX0_performSpecial : ByteArray := prog_1_method_15_code
def yX0_performSpecial : MethodName := ⟨RX0, "performSpecial", "(III)V"⟩
theorem dX0_performSpecial_0 : decode cX0_performSpecial 0 = .ok (.iload_n 1, 1) := by decide +kernel
theorem dX0_performSpecial_1 : decode cX0_performSpecial 1 = .ok (.iconst 5, 1) := by decide +kernel
theorem dX0_performSpecial_2 : decode cX0_performSpecial 2 = .ok (.if_icmp .ne 29, 3) := by decide +kernel
theorem dX0_performSpecial_5 : decode cX0_performSpecial 5 = .ok (.aload_n 0, 1) := by decide +kernel
theorem dX0_performSpecial_6 : decode cX0_performSpecial 6 = .ok (.iload_n 2, 1) := by decide +kernel
theorem dX0_performSpecial_7 : decode cX0_performSpecial 7 = .ok (.i2l, 1) := by decide +kernel
theorem dX0_performSpecial_8 : decode cX0_performSpecial 8 = .ok (.aload_n 0, 1) := by decide +kernel
theorem dX0_performSpecial_9 : decode cX0_performSpecial 9 = .ok (.getfield 89, 3) := by decide +kernel
theorem dX0_performSpecial_12 : decode cX0_performSpecial 12 = .ok (.lcmp, 1) := by decide +kernel
theorem dX0_performSpecial_13 : decode cX0_performSpecial 13 = .ok (.ifCond .le 8, 3) := by decide +kernel
theorem dX0_performSpecial_16 : decode cX0_performSpecial 16 = .ok (.iload_n 2, 1) := by decide +kernel
theorem dX0_performSpecial_17 : decode cX0_performSpecial 17 = .ok (.i2l, 1) := by decide +kernel
theorem dX0_performSpecial_18 : decode cX0_performSpecial 18 = .ok (.goto 7, 3) := by decide +kernel
theorem dX0_performSpecial_21 : decode cX0_performSpecial 21 = .ok (.aload_n 0, 1) := by decide +kernel
theorem dX0_performSpecial_22 : decode cX0_performSpecial 22 = .ok (.getfield 89, 3) := by decide +kernel
theorem dX0_performSpecial_25 : decode cX0_performSpecial 25 = .ok (.putfield 89, 3) := by decide +kernel
theorem dX0_performSpecial_28 : decode cX0_performSpecial 28 = .ok (.goto 108, 3) := by decide +kernel
theorem dX0_performSpecial_31 : decode cX0_performSpecial 31 = .ok (.iload_n 1, 1) := by decide +kernel
theorem dX0_performSpecial_32 : decode cX0_performSpecial 32 = .ok (.bipush 6, 2) := by decide +kernel
theorem dX0_performSpecial_34 : decode cX0_performSpecial 34 = .ok (.if_icmp .ne 15, 3) := by decide +kernel
theorem dX0_performSpecial_37 : decode cX0_performSpecial 37 = .ok (.aload_n 0, 1) := by decide +kernel
theorem dX0_performSpecial_38 : decode cX0_performSpecial 38 = .ok (.aload_n 0, 1) := by decide +kernel
theorem dX0_performSpecial_39 : decode cX0_performSpecial 39 = .ok (.getfield 89, 3) := by decide +kernel
theorem dX0_performSpecial_42 : decode cX0_performSpecial 42 = .ok (.lneg, 1) := by decide +kernel
theorem dX0_performSpecial_43 : decode cX0_performSpecial 43 = .ok (.putfield 89, 3) := by decide +kernel
theorem dX0_performSpecial_46 : decode cX0_performSpecial 46 = .ok (.goto 90, 3) := by decide +kernel
theorem dX0_performSpecial_49 : decode cX0_performSpecial 49 = .ok (.iload_n 1, 1) := by decide +kernel
theorem dX0_performSpecial_50 : decode cX0_performSpecial 50 = .ok (.bipush 7, 2) := by decide +kernel
theorem dX0_performSpecial_52 : decode cX0_performSpecial 52 = .ok (.if_icmp .ne 31, 3) := by decide +kernel
theorem dX0_performSpecial_55 : decode cX0_performSpecial 55 = .ok (.aload_n 0, 1) := by decide +kernel
theorem dX0_performSpecial_56 : decode cX0_performSpecial 56 = .ok (.aload_n 0, 1) := by decide +kernel
theorem dX0_performSpecial_57 : decode cX0_performSpecial 57 = .ok (.getfield 89, 3) := by decide +kernel
theorem dX0_performSpecial_60 : decode cX0_performSpecial 60 = .ok (.lconst 0, 1) := by decide +kernel
theorem dX0_performSpecial_61 : decode cX0_performSpecial 61 = .ok (.lcmp, 1) := by decide +kernel
theorem dX0_performSpecial_62 : decode cX0_performSpecial 62 = .ok (.ifCond .ge 11, 3) := by decide +kernel
theorem dX0_performSpecial_65 : decode cX0_performSpecial 65 = .ok (.aload_n 0, 1) := by decide +kernel
theorem dX0_performSpecial_66 : decode cX0_performSpecial 66 = .ok (.getfield 89, 3) := by decide +kernel
theorem dX0_performSpecial_69 : decode cX0_performSpecial 69 = .ok (.lneg, 1) := by decide +kernel
theorem dX0_performSpecial_70 : decode cX0_performSpecial 70 = .ok (.goto 7, 3) := by decide +kernel
theorem dX0_performSpecial_73 : decode cX0_performSpecial 73 = .ok (.aload_n 0, 1) := by decide +kernel
theorem dX0_performSpecial_74 : decode cX0_performSpecial 74 = .ok (.getfield 89, 3) := by decide +kernel
theorem dX0_performSpecial_77 : decode cX0_performSpecial 77 = .ok (.putfield 89, 3) := by decide +kernel
theorem dX0_performSpecial_80 : decode cX0_performSpecial 80 = .ok (.goto 56, 3) := by decide +kernel
theorem dX0_performSpecial_83 : decode cX0_performSpecial 83 = .ok (.iload_n 1, 1) := by decide +kernel
theorem dX0_performSpecial_84 : decode cX0_performSpecial 84 = .ok (.bipush 8, 2) := by decide +kernel
theorem dX0_performSpecial_86 : decode cX0_performSpecial 86 = .ok (.if_icmp .ne 16, 3) := by decide +kernel
theorem dX0_performSpecial_89 : decode cX0_performSpecial 89 = .ok (.aload_n 0, 1) := by decide +kernel
theorem dX0_performSpecial_90 : decode cX0_performSpecial 90 = .ok (.dup, 1) := by decide +kernel
theorem dX0_performSpecial_91 : decode cX0_performSpecial 91 = .ok (.getfield 89, 3) := by decide +kernel
theorem dX0_performSpecial_94 : decode cX0_performSpecial 94 = .ok (.iload_n 3, 1) := by decide +kernel
theorem dX0_performSpecial_95 : decode cX0_performSpecial 95 = .ok (.lshl, 1) := by decide +kernel
theorem dX0_performSpecial_96 : decode cX0_performSpecial 96 = .ok (.putfield 89, 3) := by decide +kernel
theorem dX0_performSpecial_99 : decode cX0_performSpecial 99 = .ok (.goto 37, 3) := by decide +kernel
theorem dX0_performSpecial_102 : decode cX0_performSpecial 102 = .ok (.iload_n 1, 1) := by decide +kernel
theorem dX0_performSpecial_103 : decode cX0_performSpecial 103 = .ok (.bipush 9, 2) := by decide +kernel
theorem dX0_performSpecial_105 : decode cX0_performSpecial 105 = .ok (.if_icmp .ne 16, 3) := by decide +kernel
theorem dX0_performSpecial_108 : decode cX0_performSpecial 108 = .ok (.aload_n 0, 1) := by decide +kernel
theorem dX0_performSpecial_109 : decode cX0_performSpecial 109 = .ok (.dup, 1) := by decide +kernel
theorem dX0_performSpecial_110 : decode cX0_performSpecial 110 = .ok (.getfield 89, 3) := by decide +kernel
theorem dX0_performSpecial_113 : decode cX0_performSpecial 113 = .ok (.iload_n 3, 1) := by decide +kernel
theorem dX0_performSpecial_114 : decode cX0_performSpecial 114 = .ok (.lshr, 1) := by decide +kernel
theorem dX0_performSpecial_115 : decode cX0_performSpecial 115 = .ok (.putfield 89, 3) := by decide +kernel
theorem dX0_performSpecial_118 : decode cX0_performSpecial 118 = .ok (.goto 18, 3) := by decide +kernel
theorem dX0_performSpecial_121 : decode cX0_performSpecial 121 = .ok (.aload_n 0, 1) := by decide +kernel
theorem dX0_performSpecial_122 : decode cX0_performSpecial 122 = .ok (.aload_n 0, 1) := by decide +kernel
theorem dX0_performSpecial_123 : decode cX0_performSpecial 123 = .ok (.getfield 89, 3) := by decide +kernel
theorem dX0_performSpecial_126 : decode cX0_performSpecial 126 = .ok (.ldc2_w 97, 3) := by decide +kernel
theorem dX0_performSpecial_129 : decode cX0_performSpecial 129 = .ok (.ladd, 1) := by decide +kernel
theorem dX0_performSpecial_130 : decode cX0_performSpecial 130 = .ok (.bipush 15, 2) := by decide +kernel
theorem dX0_performSpecial_132 : decode cX0_performSpecial 132 = .ok (.lshr, 1) := by decide +kernel
theorem dX0_performSpecial_133 : decode cX0_performSpecial 133 = .ok (.putfield 89, 3) := by decide +kernel
theorem dX0_performSpecial_136 : decode cX0_performSpecial 136 = .ok (.return_, 1) := by decide +kernel
abbrev cX0_repeat : ByteArray := prog_1_method_8_code
def yX0_repeat : MethodName := ⟨RX0, "repeat", "(II)I"⟩
theorem dX0_repeat_0 : decode cX0_repeat 0 = .ok (.iload_n 2, 1) := by decide +kernel
theorem dX0_repeat_1 : decode cX0_repeat 1 = .ok (.ifCond .ge 7, 3) := by decide +kernel
theorem dX0_repeat_4 : decode cX0_repeat 4 = .ok (.iconst 0, 1) := by decide +kernel
theorem dX0_repeat_5 : decode cX0_repeat 5 = .ok (.goto 15, 3) := by decide +kernel
theorem dX0_repeat_8 : decode cX0_repeat 8 = .ok (.iload_n 2, 1) := by decide +kernel
theorem dX0_repeat_9 : decode cX0_repeat 9 = .ok (.bipush 40, 2) := by decide +kernel
theorem dX0_repeat_11 : decode cX0_repeat 11 = .ok (.if_icmp .le 8, 3) := by decide +kernel
theorem dX0_repeat_14 : decode cX0_repeat 14 = .ok (.bipush 40, 2) := by decide +kernel
theorem dX0_repeat_16 : decode cX0_repeat 16 = .ok (.goto 4, 3) := by decide +kernel
theorem dX0_repeat_19 : decode cX0_repeat 19 = .ok (.iload_n 2, 1) := by decide +kernel
theorem dX0_repeat_20 : decode cX0_repeat 20 = .ok (.istore_n 3, 1) := by decide +kernel
theorem dX0_repeat_21 : decode cX0_repeat 21 = .ok (.iconst 0, 1) := by decide +kernel
theorem dX0_repeat_22 : decode cX0_repeat 22 = .ok (.istore 4, 2) := by decide +kernel
theorem dX0_repeat_24 : decode cX0_repeat 24 = .ok (.iconst 0, 1) := by decide +kernel
theorem dX0_repeat_25 : decode cX0_repeat 25 = .ok (.istore 5, 2) := by decide +kernel
theorem dX0_repeat_27 : decode cX0_repeat 27 = .ok (.iload 5, 2) := by decide +kernel
theorem dX0_repeat_29 : decode cX0_repeat 29 = .ok (.iload_n 3, 1) := by decide +kernel
theorem dX0_repeat_30 : decode cX0_repeat 30 = .ok (.if_icmp .ge 20, 3) := by decide +kernel
theorem dX0_repeat_33 : decode cX0_repeat 33 = .ok (.aload_n 0, 1) := by decide +kernel
theorem dX0_repeat_34 : decode cX0_repeat 34 = .ok (.iload_n 1, 1) := by decide +kernel
theorem dX0_repeat_35 : decode cX0_repeat 35 = .ok (.invokevirtual 82, 3) := by decide +kernel
theorem dX0_repeat_38 : decode cX0_repeat 38 = .ok (.ifCond .eq 6, 3) := by decide +kernel
theorem dX0_repeat_41 : decode cX0_repeat 41 = .ok (.iinc 4 1, 3) := by decide +kernel
theorem dX0_repeat_44 : decode cX0_repeat 44 = .ok (.iinc 5 1, 3) := by decide +kernel
theorem dX0_repeat_47 : decode cX0_repeat 47 = .ok (.goto (-20), 3) := by decide +kernel
theorem dX0_repeat_50 : decode cX0_repeat 50 = .ok (.iload 4, 2) := by decide +kernel
theorem dX0_repeat_52 : decode cX0_repeat 52 = .ok (.ireturn, 1) := by decide +kernel
abbrev cX0_value : ByteArray := prog_1_method_9_code
def yX0_value : MethodName := ⟨RX0, "value", "(I)I"⟩
theorem dX0_value_0 : decode cX0_value 0 = .ok (.iload_n 1, 1) := by decide +kernel
theorem dX0_value_1 : decode cX0_value 1 = .ok (.ifCond .lt 18, 3) := by decide +kernel
theorem dX0_value_4 : decode cX0_value 4 = .ok (.iload_n 1, 1) := by decide +kernel
theorem dX0_value_5 : decode cX0_value 5 = .ok (.aload_n 0, 1) := by decide +kernel
theorem dX0_value_6 : decode cX0_value 6 = .ok (.getfield 48, 3) := by decide +kernel
theorem dX0_value_9 : decode cX0_value 9 = .ok (.if_icmp .ge 10, 3) := by decide +kernel
theorem dX0_value_12 : decode cX0_value 12 = .ok (.aload_n 0, 1) := by decide +kernel
theorem dX0_value_13 : decode cX0_value 13 = .ok (.getfield 79, 3) := by decide +kernel
theorem dX0_value_16 : decode cX0_value 16 = .ok (.ifCond .ne 5, 3) := by decide +kernel
theorem dX0_value_19 : decode cX0_value 19 = .ok (.iconst 0, 1) := by decide +kernel
theorem dX0_value_20 : decode cX0_value 20 = .ok (.ireturn, 1) := by decide +kernel
theorem dX0_value_21 : decode cX0_value 21 = .ok (.aload_n 0, 1) := by decide +kernel
theorem dX0_value_22 : decode cX0_value 22 = .ok (.getfield 41, 3) := by decide +kernel
theorem dX0_value_25 : decode cX0_value 25 = .ok (.iload_n 1, 1) := by decide +kernel
theorem dX0_value_26 : decode cX0_value 26 = .ok (.iaload, 1) := by decide +kernel
theorem dX0_value_27 : decode cX0_value 27 = .ok (.ireturn, 1) := by decide +kernel
abbrev cX0_samples : ByteArray := prog_1_method_10_code
def yX0_samples : MethodName := ⟨RX0, "samples", "()I"⟩
theorem dX0_samples_0 : decode cX0_samples 0 = .ok (.aload_n 0, 1) := by decide +kernel
theorem dX0_samples_1 : decode cX0_samples 1 = .ok (.getfield 79, 3) := by decide +kernel
theorem dX0_samples_4 : decode cX0_samples 4 = .ok (.ireturn, 1) := by decide +kernel
abbrev cX0_clear : ByteArray := prog_1_method_12_code
def yX0_clear : MethodName := ⟨RX0, "clear", "()I"⟩
theorem dX0_clear_0 : decode cX0_clear 0 = .ok (.aload_n 0, 1) := by decide +kernel
theorem dX0_clear_1 : decode cX0_clear 1 = .ok (.getfield 48, 3) := by decide +kernel
theorem dX0_clear_4 : decode cX0_clear 4 = .ok (.istore_n 1, 1) := by decide +kernel
theorem dX0_clear_5 : decode cX0_clear 5 = .ok (.aload_n 0, 1) := by decide +kernel
theorem dX0_clear_6 : decode cX0_clear 6 = .ok (.iconst 0, 1) := by decide +kernel
theorem dX0_clear_7 : decode cX0_clear 7 = .ok (.putfield 48, 3) := by decide +kernel
theorem dX0_clear_10 : decode cX0_clear 10 = .ok (.aload_n 0, 1) := by decide +kernel
theorem dX0_clear_11 : decode cX0_clear 11 = .ok (.iconst 0, 1) := by decide +kernel
theorem dX0_clear_12 : decode cX0_clear 12 = .ok (.putfield 55, 3) := by decide +kernel
theorem dX0_clear_15 : decode cX0_clear 15 = .ok (.aload_n 0, 1) := by decide +kernel
theorem dX0_clear_16 : decode cX0_clear 16 = .ok (.invokevirtual 59, 3) := by decide +kernel
theorem dX0_clear_19 : decode cX0_clear 19 = .ok (.iload_n 1, 1) := by decide +kernel
theorem dX0_clear_20 : decode cX0_clear 20 = .ok (.ireturn, 1) := by decide +kernel
theorem q25 : (Jvm.Cond.initialized "Q15DspCompiler") ∈ lw_all := lw_g (lw_at lw_m1 1 rfl) rfl
theorem q28 : (Jvm.Cond.instantiable "Q15DspCompiler" (19 : Nat)) ∈ lw_all := lw_g (lw_at lw_m1 4 rfl) rfl
theorem q30 : (Jvm.Cond.instanceMethod ({ cls := "Q15DspCompiler", name := "<init>", desc := "()V" } : Jvm.MethodName)) ∈ lw_all := lw_g (lw_at lw_m1 6 rfl) rfl
theorem q31 : (Jvm.Cond.code ({ cls := "Q15DspCompiler", name := "<init>", desc := "()V" } : Jvm.MethodName) prog_1_method_1_code (1 : Nat) (Option.none : Option Jvm.ClassFile.FieldType)) ∈ lw_all := lw_g (lw_at lw_m1 7 rfl) rfl
theorem q32 : (Jvm.Cond.methodLink "Q15DspCompiler" (1 : Nat) ({ cls := "java/lang/Object", name := "<init>", desc := "()V" } : Jvm.MethodName)) ∈ lw_all := lw_g (lw_at lw_m1 8 rfl) rfl
theorem q35 : (Jvm.Cond.fieldLink "Q15DspCompiler" (48 : Nat) "Q15DspCompiler" "nodeCount" "I") ∈ lw_all := lw_g (lw_at lw_m1 11 rfl) rfl
theorem q36 : (Jvm.Cond.fieldLink "Q15DspCompiler" (7 : Nat) "Q15DspCompiler" "kind" "[B") ∈ lw_all := lw_g (lw_at lw_m1 12 rfl) rfl
theorem q37 : (Jvm.Cond.fieldLink "Q15DspCompiler" (13 : Nat) "Q15DspCompiler" "first" "[I") ∈ lw_all := lw_g (lw_at lw_m1 13 rfl) rfl
theorem q38 : (Jvm.Cond.fieldLink "Q15DspCompiler" (17 : Nat) "Q15DspCompiler" "second" "[B") ∈ lw_all := lw_g (lw_at lw_m1 14 rfl) rfl
theorem q39 : (Jvm.Cond.fieldLink "Q15DspCompiler" (20 : Nat) "Q15DspCompiler" "tapCount" "[B") ∈ lw_all := lw_g (lw_at lw_m1 15 rfl) rfl
theorem q40 : (Jvm.Cond.fieldLink "Q15DspCompiler" (23 : Nat) "Q15DspCompiler" "tapNode" "[B") ∈ lw_all := lw_g (lw_at lw_m1 16 rfl) rfl
theorem q41 : (Jvm.Cond.fieldLink "Q15DspCompiler" (26 : Nat) "Q15DspCompiler" "tapFactor" "[I") ∈ lw_all := lw_g (lw_at lw_m1 17 rfl) rfl
theorem q42 : (Jvm.Cond.fieldLink "Q15DspCompiler" (55 : Nat) "Q15DspCompiler" "compiled" "Z") ∈ lw_all := lw_g (lw_at lw_m1 18 rfl) rfl
theorem q43 : (Jvm.Cond.fieldLink "Q15DspCompiler" (65 : Nat) "Q15DspCompiler" "isSound" "Z") ∈ lw_all := lw_g (lw_at lw_m1 19 rfl) rfl
theorem q44 : (Jvm.Cond.fieldLink "Q15DspCompiler" (99 : Nat) "Q15DspCompiler" "placed" "I") ∈ lw_all := lw_g (lw_at lw_m1 20 rfl) rfl
theorem q45 : (Jvm.Cond.fieldLink "Q15DspCompiler" (29 : Nat) "Q15DspCompiler" "order" "[B") ∈ lw_all := lw_g (lw_at lw_m1 21 rfl) rfl
theorem q46 : (Jvm.Cond.fieldLink "Q15DspCompiler" (72 : Nat) "Q15DspCompiler" "codeEnd" "I") ∈ lw_all := lw_g (lw_at lw_m1 22 rfl) rfl
theorem q47 : (Jvm.Cond.fieldLink "Q15DspCompiler" (32 : Nat) "Q15DspCompiler" "operation" "[B") ∈ lw_all := lw_g (lw_at lw_m1 23 rfl) rfl
theorem q48 : (Jvm.Cond.fieldLink "Q15DspCompiler" (35 : Nat) "Q15DspCompiler" "operand" "[I") ∈ lw_all := lw_g (lw_at lw_m1 24 rfl) rfl
theorem q49 : (Jvm.Cond.fieldLink "Q15DspCompiler" (38 : Nat) "Q15DspCompiler" "cellOf" "[B") ∈ lw_all := lw_g (lw_at lw_m1 25 rfl) rfl
theorem q50 : (Jvm.Cond.fieldLink "Q15DspCompiler" (44 : Nat) "Q15DspCompiler" "heldCell" "I") ∈ lw_all := lw_g (lw_at lw_m1 26 rfl) rfl
theorem q51 : (Jvm.Cond.fieldLink "Q15DspCompiler" (41 : Nat) "Q15DspCompiler" "cells" "[I") ∈ lw_all := lw_g (lw_at lw_m1 27 rfl) rfl
theorem q52 : (Jvm.Cond.fieldLink "Q15DspCompiler" (89 : Nat) "Q15DspCompiler" "accumulator" "J") ∈ lw_all := lw_g (lw_at lw_m1 28 rfl) rfl
theorem q53 : (Jvm.Cond.fieldLink "Q15DspCompiler" (79 : Nat) "Q15DspCompiler" "sampleCount" "I") ∈ lw_all := lw_g (lw_at lw_m1 29 rfl) rfl
theorem q54 : (Jvm.Cond.lays "Q15DspCompiler" "Q15DspCompiler" "nodeCount" "I") ∈ lw_all := lw_g (lw_at lw_m1 30 rfl) rfl
theorem q55 : (Jvm.Cond.soleField "Q15DspCompiler" "nodeCount") ∈ lw_all := lw_g (lw_at lw_m1 31 rfl) rfl
theorem q56 : (Jvm.Cond.laysFinal "Q15DspCompiler" "Q15DspCompiler" "kind" "[B") ∈ lw_all := lw_g (lw_at lw_m1 32 rfl) rfl
theorem q57 : (Jvm.Cond.soleField "Q15DspCompiler" "kind") ∈ lw_all := lw_g (lw_at lw_m1 33 rfl) rfl
theorem q58 : (Jvm.Cond.laysFinal "Q15DspCompiler" "Q15DspCompiler" "first" "[I") ∈ lw_all := lw_g (lw_at lw_m1 34 rfl) rfl
theorem q59 : (Jvm.Cond.soleField "Q15DspCompiler" "first") ∈ lw_all := lw_g (lw_at lw_m1 35 rfl) rfl
theorem q60 : (Jvm.Cond.laysFinal "Q15DspCompiler" "Q15DspCompiler" "second" "[B") ∈ lw_all := lw_g (lw_at lw_m1 36 rfl) rfl
theorem q61 : (Jvm.Cond.soleField "Q15DspCompiler" "second") ∈ lw_all := lw_g (lw_at lw_m1 37 rfl) rfl
theorem q62 : (Jvm.Cond.laysFinal "Q15DspCompiler" "Q15DspCompiler" "tapCount" "[B") ∈ lw_all := lw_g (lw_at lw_m1 38 rfl) rfl
theorem q63 : (Jvm.Cond.soleField "Q15DspCompiler" "tapCount") ∈ lw_all := lw_g (lw_at lw_m1 39 rfl) rfl
theorem q64 : (Jvm.Cond.laysFinal "Q15DspCompiler" "Q15DspCompiler" "tapNode" "[B") ∈ lw_all := lw_g (lw_at lw_m1 40 rfl) rfl
theorem q65 : (Jvm.Cond.soleField "Q15DspCompiler" "tapNode") ∈ lw_all := lw_g (lw_at lw_m1 41 rfl) rfl
theorem q66 : (Jvm.Cond.laysFinal "Q15DspCompiler" "Q15DspCompiler" "tapFactor" "[I") ∈ lw_all := lw_g (lw_at lw_m1 42 rfl) rfl
theorem q67 : (Jvm.Cond.soleField "Q15DspCompiler" "tapFactor") ∈ lw_all := lw_g (lw_at lw_m1 43 rfl) rfl
theorem q68 : (Jvm.Cond.lays "Q15DspCompiler" "Q15DspCompiler" "compiled" "Z") ∈ lw_all := lw_g (lw_at lw_m1 44 rfl) rfl
theorem q69 : (Jvm.Cond.soleField "Q15DspCompiler" "compiled") ∈ lw_all := lw_g (lw_at lw_m1 45 rfl) rfl
theorem q70 : (Jvm.Cond.lays "Q15DspCompiler" "Q15DspCompiler" "isSound" "Z") ∈ lw_all := lw_g (lw_at lw_m1 46 rfl) rfl
theorem q71 : (Jvm.Cond.soleField "Q15DspCompiler" "isSound") ∈ lw_all := lw_g (lw_at lw_m1 47 rfl) rfl
theorem q72 : (Jvm.Cond.lays "Q15DspCompiler" "Q15DspCompiler" "placed" "I") ∈ lw_all := lw_g (lw_at lw_m1 48 rfl) rfl
theorem q73 : (Jvm.Cond.soleField "Q15DspCompiler" "placed") ∈ lw_all := lw_g (lw_at lw_m1 49 rfl) rfl
theorem q74 : (Jvm.Cond.laysFinal "Q15DspCompiler" "Q15DspCompiler" "order" "[B") ∈ lw_all := lw_g (lw_at lw_m1 50 rfl) rfl
theorem q75 : (Jvm.Cond.soleField "Q15DspCompiler" "order") ∈ lw_all := lw_g (lw_at lw_m1 51 rfl) rfl
theorem q76 : (Jvm.Cond.lays "Q15DspCompiler" "Q15DspCompiler" "codeEnd" "I") ∈ lw_all := lw_g (lw_at lw_m1 52 rfl) rfl
theorem q77 : (Jvm.Cond.soleField "Q15DspCompiler" "codeEnd") ∈ lw_all := lw_g (lw_at lw_m1 53 rfl) rfl
theorem q78 : (Jvm.Cond.laysFinal "Q15DspCompiler" "Q15DspCompiler" "operation" "[B") ∈ lw_all := lw_g (lw_at lw_m1 54 rfl) rfl
theorem q79 : (Jvm.Cond.soleField "Q15DspCompiler" "operation") ∈ lw_all := lw_g (lw_at lw_m1 55 rfl) rfl
theorem q80 : (Jvm.Cond.laysFinal "Q15DspCompiler" "Q15DspCompiler" "operand" "[I") ∈ lw_all := lw_g (lw_at lw_m1 56 rfl) rfl
theorem q81 : (Jvm.Cond.soleField "Q15DspCompiler" "operand") ∈ lw_all := lw_g (lw_at lw_m1 57 rfl) rfl
theorem q82 : (Jvm.Cond.laysFinal "Q15DspCompiler" "Q15DspCompiler" "cellOf" "[B") ∈ lw_all := lw_g (lw_at lw_m1 58 rfl) rfl
theorem q83 : (Jvm.Cond.soleField "Q15DspCompiler" "cellOf") ∈ lw_all := lw_g (lw_at lw_m1 59 rfl) rfl
theorem q84 : (Jvm.Cond.lays "Q15DspCompiler" "Q15DspCompiler" "heldCell" "I") ∈ lw_all := lw_g (lw_at lw_m1 60 rfl) rfl
theorem q85 : (Jvm.Cond.soleField "Q15DspCompiler" "heldCell") ∈ lw_all := lw_g (lw_at lw_m1 61 rfl) rfl
theorem q86 : (Jvm.Cond.laysFinal "Q15DspCompiler" "Q15DspCompiler" "cells" "[I") ∈ lw_all := lw_g (lw_at lw_m1 62 rfl) rfl
theorem q87 : (Jvm.Cond.soleField "Q15DspCompiler" "cells") ∈ lw_all := lw_g (lw_at lw_m1 63 rfl) rfl
theorem q88 : (Jvm.Cond.lays "Q15DspCompiler" "Q15DspCompiler" "accumulator" "J") ∈ lw_all := lw_g (lw_at lw_m1 64 rfl) rfl
theorem q89 : (Jvm.Cond.soleField "Q15DspCompiler" "accumulator") ∈ lw_all := lw_g (lw_at lw_m1 65 rfl) rfl
theorem q90 : (Jvm.Cond.lays "Q15DspCompiler" "Q15DspCompiler" "sampleCount" "I") ∈ lw_all := lw_g (lw_at lw_m1 66 rfl) rfl
theorem q91 : (Jvm.Cond.soleField "Q15DspCompiler" "sampleCount") ∈ lw_all := lw_g (lw_at lw_m1 67 rfl) rfl
theorem q92 : (Jvm.Cond.superclass "Q15DspCompiler" "java/lang/Object") ∈ lw_all := lw_g (lw_at lw_m1 68 rfl) rfl
theorem q96 : (Jvm.Cond.instanceMethod ({ cls := "Q15DspCompiler", name := "node", desc := "(III)I" } : Jvm.MethodName)) ∈ lw_all := lw_g (lw_at lw_m1 72 rfl) rfl
theorem q97 : (Jvm.Cond.selects "Q15DspCompiler" ({ cls := "Q15DspCompiler", name := "node", desc := "(III)I" } : Jvm.MethodName) ({ cls := "Q15DspCompiler", name := "node", desc := "(III)I" } : Jvm.MethodName)) ∈ lw_all := lw_g (lw_at lw_m1 73 rfl) rfl
theorem q98 : (Jvm.Cond.code ({ cls := "Q15DspCompiler", name := "node", desc := "(III)I" } : Jvm.MethodName) prog_1_method_2_code (5 : Nat) (Option.some Jvm.ClassFile.FieldType.int)) ∈ lw_all := lw_g (lw_at lw_m1 74 rfl) rfl
theorem q99 : (Jvm.Cond.methodLink "Q15DspCompiler" (51 : Nat) ({ cls := "Q15DspCompiler", name := "isNumber", desc := "(I)Z" } : Jvm.MethodName)) ∈ lw_all := lw_g (lw_at lw_m1 75 rfl) rfl
theorem q100 : (Jvm.Cond.privateMethod ({ cls := "Q15DspCompiler", name := "isNumber", desc := "(I)Z" } : Jvm.MethodName)) ∈ lw_tbl := lw_at lw_m1 76 rfl
theorem q101 : (Jvm.Cond.instanceMethod ({ cls := "Q15DspCompiler", name := "isNumber", desc := "(I)Z" } : Jvm.MethodName)) ∈ lw_all := lw_g (lw_at lw_m1 77 rfl) rfl
theorem q102 : (Jvm.Cond.code ({ cls := "Q15DspCompiler", name := "isNumber", desc := "(I)Z" } : Jvm.MethodName) prog_1_method_5_code (2 : Nat) (Option.some Jvm.ClassFile.FieldType.boolean)) ∈ lw_all := lw_g (lw_at lw_m1 78 rfl) rfl
theorem q103 : (Jvm.Cond.methodLink "Q15DspCompiler" (59 : Nat) ({ cls := "Q15DspCompiler", name := "restart", desc := "()V" } : Jvm.MethodName)) ∈ lw_all := lw_g (lw_at lw_m1 79 rfl) rfl
theorem q104 : (Jvm.Cond.instanceMethod ({ cls := "Q15DspCompiler", name := "restart", desc := "()V" } : Jvm.MethodName)) ∈ lw_all := lw_g (lw_at lw_m1 80 rfl) rfl
theorem q105 : (Jvm.Cond.selects "Q15DspCompiler" ({ cls := "Q15DspCompiler", name := "restart", desc := "()V" } : Jvm.MethodName) ({ cls := "Q15DspCompiler", name := "restart", desc := "()V" } : Jvm.MethodName)) ∈ lw_all := lw_g (lw_at lw_m1 81 rfl) rfl
theorem q106 : (Jvm.Cond.code ({ cls := "Q15DspCompiler", name := "restart", desc := "()V" } : Jvm.MethodName) prog_1_method_11_code (2 : Nat) (Option.none : Option Jvm.ClassFile.FieldType)) ∈ lw_all := lw_g (lw_at lw_m1 82 rfl) rfl
theorem q108 : (Jvm.Cond.instanceMethod ({ cls := "Q15DspCompiler", name := "tap", desc := "(III)I" } : Jvm.MethodName)) ∈ lw_all := lw_g (lw_at lw_m1 84 rfl) rfl
theorem q109 : (Jvm.Cond.selects "Q15DspCompiler" ({ cls := "Q15DspCompiler", name := "tap", desc := "(III)I" } : Jvm.MethodName) ({ cls := "Q15DspCompiler", name := "tap", desc := "(III)I" } : Jvm.MethodName)) ∈ lw_all := lw_g (lw_at lw_m1 85 rfl) rfl
theorem q110 : (Jvm.Cond.code ({ cls := "Q15DspCompiler", name := "tap", desc := "(III)I" } : Jvm.MethodName) prog_1_method_3_code (5 : Nat) (Option.some Jvm.ClassFile.FieldType.int)) ∈ lw_all := lw_g (lw_at lw_m1 86 rfl) rfl
theorem q112 : (Jvm.Cond.instanceMethod ({ cls := "Q15DspCompiler", name := "nodes", desc := "()I" } : Jvm.MethodName)) ∈ lw_all := lw_g (lw_at lw_m1 88 rfl) rfl
theorem q113 : (Jvm.Cond.selects "Q15DspCompiler" ({ cls := "Q15DspCompiler", name := "nodes", desc := "()I" } : Jvm.MethodName) ({ cls := "Q15DspCompiler", name := "nodes", desc := "()I" } : Jvm.MethodName)) ∈ lw_all := lw_g (lw_at lw_m1 89 rfl) rfl
theorem q114 : (Jvm.Cond.code ({ cls := "Q15DspCompiler", name := "nodes", desc := "()I" } : Jvm.MethodName) prog_1_method_4_code (1 : Nat) (Option.some Jvm.ClassFile.FieldType.int)) ∈ lw_all := lw_g (lw_at lw_m1 90 rfl) rfl
theorem q116 : (Jvm.Cond.instanceMethod ({ cls := "Q15DspCompiler", name := "sound", desc := "()Z" } : Jvm.MethodName)) ∈ lw_all := lw_g (lw_at lw_m1 92 rfl) rfl
theorem q117 : (Jvm.Cond.selects "Q15DspCompiler" ({ cls := "Q15DspCompiler", name := "sound", desc := "()Z" } : Jvm.MethodName) ({ cls := "Q15DspCompiler", name := "sound", desc := "()Z" } : Jvm.MethodName)) ∈ lw_all := lw_g (lw_at lw_m1 93 rfl) rfl
theorem q118 : (Jvm.Cond.code ({ cls := "Q15DspCompiler", name := "sound", desc := "()Z" } : Jvm.MethodName) prog_1_method_6_code (1 : Nat) (Option.some Jvm.ClassFile.FieldType.boolean)) ∈ lw_all := lw_g (lw_at lw_m1 94 rfl) rfl
theorem q119 : (Jvm.Cond.methodLink "Q15DspCompiler" (62 : Nat) ({ cls := "Q15DspCompiler", name := "compile", desc := "()V" } : Jvm.MethodName)) ∈ lw_all := lw_g (lw_at lw_m1 95 rfl) rfl
theorem q120 : (Jvm.Cond.privateMethod ({ cls := "Q15DspCompiler", name := "compile", desc := "()V" } : Jvm.MethodName)) ∈ lw_tbl := lw_at lw_m1 96 rfl
theorem q121 : (Jvm.Cond.instanceMethod ({ cls := "Q15DspCompiler", name := "compile", desc := "()V" } : Jvm.MethodName)) ∈ lw_all := lw_g (lw_at lw_m1 97 rfl) rfl
theorem q122 : (Jvm.Cond.code ({ cls := "Q15DspCompiler", name := "compile", desc := "()V" } : Jvm.MethodName) prog_1_method_18_code (3 : Nat) (Option.none : Option Jvm.ClassFile.FieldType)) ∈ lw_all := lw_g (lw_at lw_m1 98 rfl) rfl
theorem q123 : (Jvm.Cond.methodLink "Q15DspCompiler" (106 : Nat) ({ cls := "Q15DspCompiler", name := "orderNodes", desc := "()Z" } : Jvm.MethodName)) ∈ lw_all := lw_g (lw_at lw_m1 99 rfl) rfl
theorem q124 : (Jvm.Cond.privateMethod ({ cls := "Q15DspCompiler", name := "orderNodes", desc := "()Z" } : Jvm.MethodName)) ∈ lw_tbl := lw_at lw_m1 100 rfl
theorem q125 : (Jvm.Cond.instanceMethod ({ cls := "Q15DspCompiler", name := "orderNodes", desc := "()Z" } : Jvm.MethodName)) ∈ lw_all := lw_g (lw_at lw_m1 101 rfl) rfl
theorem q126 : (Jvm.Cond.code ({ cls := "Q15DspCompiler", name := "orderNodes", desc := "()Z" } : Jvm.MethodName) prog_1_method_17_code (5 : Nat) (Option.some Jvm.ClassFile.FieldType.boolean)) ∈ lw_all := lw_g (lw_at lw_m1 102 rfl) rfl
theorem q127 : (Jvm.Cond.methodLink "Q15DspCompiler" (102 : Nat) ({ cls := "Q15DspCompiler", name := "namedBy", desc := "(I)I" } : Jvm.MethodName)) ∈ lw_all := lw_g (lw_at lw_m1 103 rfl) rfl
theorem q128 : (Jvm.Cond.privateMethod ({ cls := "Q15DspCompiler", name := "namedBy", desc := "(I)I" } : Jvm.MethodName)) ∈ lw_tbl := lw_at lw_m1 104 rfl
theorem q129 : (Jvm.Cond.instanceMethod ({ cls := "Q15DspCompiler", name := "namedBy", desc := "(I)I" } : Jvm.MethodName)) ∈ lw_all := lw_g (lw_at lw_m1 105 rfl) rfl
theorem q130 : (Jvm.Cond.code ({ cls := "Q15DspCompiler", name := "namedBy", desc := "(I)I" } : Jvm.MethodName) prog_1_method_16_code (5 : Nat) (Option.some Jvm.ClassFile.FieldType.int)) ∈ lw_all := lw_g (lw_at lw_m1 106 rfl) rfl
theorem q131 : (Jvm.Cond.methodLink "Q15DspCompiler" (110 : Nat) ({ cls := "Q15DspCompiler", name := "copy", desc := "(II)V" } : Jvm.MethodName)) ∈ lw_all := lw_g (lw_at lw_m1 107 rfl) rfl
theorem q132 : (Jvm.Cond.privateMethod ({ cls := "Q15DspCompiler", name := "copy", desc := "(II)V" } : Jvm.MethodName)) ∈ lw_tbl := lw_at lw_m1 108 rfl
theorem q133 : (Jvm.Cond.instanceMethod ({ cls := "Q15DspCompiler", name := "copy", desc := "(II)V" } : Jvm.MethodName)) ∈ lw_all := lw_g (lw_at lw_m1 109 rfl) rfl
theorem q134 : (Jvm.Cond.code ({ cls := "Q15DspCompiler", name := "copy", desc := "(II)V" } : Jvm.MethodName) prog_1_method_23_code (3 : Nat) (Option.none : Option Jvm.ClassFile.FieldType)) ∈ lw_all := lw_g (lw_at lw_m1 110 rfl) rfl
theorem q135 : (Jvm.Cond.methodLink "Q15DspCompiler" (123 : Nat) ({ cls := "Q15DspCompiler", name := "load", desc := "(I)V" } : Jvm.MethodName)) ∈ lw_all := lw_g (lw_at lw_m1 111 rfl) rfl
theorem q136 : (Jvm.Cond.privateMethod ({ cls := "Q15DspCompiler", name := "load", desc := "(I)V" } : Jvm.MethodName)) ∈ lw_tbl := lw_at lw_m1 112 rfl
theorem q137 : (Jvm.Cond.instanceMethod ({ cls := "Q15DspCompiler", name := "load", desc := "(I)V" } : Jvm.MethodName)) ∈ lw_all := lw_g (lw_at lw_m1 113 rfl) rfl
theorem q138 : (Jvm.Cond.code ({ cls := "Q15DspCompiler", name := "load", desc := "(I)V" } : Jvm.MethodName) prog_1_method_21_code (2 : Nat) (Option.none : Option Jvm.ClassFile.FieldType)) ∈ lw_all := lw_g (lw_at lw_m1 114 rfl) rfl
theorem q139 : (Jvm.Cond.methodLink "Q15DspCompiler" (120 : Nat) ({ cls := "Q15DspCompiler", name := "write", desc := "(III)V" } : Jvm.MethodName)) ∈ lw_all := lw_g (lw_at lw_m1 115 rfl) rfl
theorem q140 : (Jvm.Cond.privateMethod ({ cls := "Q15DspCompiler", name := "write", desc := "(III)V" } : Jvm.MethodName)) ∈ lw_tbl := lw_at lw_m1 116 rfl
theorem q141 : (Jvm.Cond.instanceMethod ({ cls := "Q15DspCompiler", name := "write", desc := "(III)V" } : Jvm.MethodName)) ∈ lw_all := lw_g (lw_at lw_m1 117 rfl) rfl
theorem q142 : (Jvm.Cond.code ({ cls := "Q15DspCompiler", name := "write", desc := "(III)V" } : Jvm.MethodName) prog_1_method_20_code (4 : Nat) (Option.none : Option Jvm.ClassFile.FieldType)) ∈ lw_all := lw_g (lw_at lw_m1 118 rfl) rfl
theorem q143 : (Jvm.Cond.methodLink "Q15DspCompiler" (126 : Nat) ({ cls := "Q15DspCompiler", name := "store", desc := "(I)V" } : Jvm.MethodName)) ∈ lw_all := lw_g (lw_at lw_m1 119 rfl) rfl
theorem q144 : (Jvm.Cond.privateMethod ({ cls := "Q15DspCompiler", name := "store", desc := "(I)V" } : Jvm.MethodName)) ∈ lw_tbl := lw_at lw_m1 120 rfl
theorem q145 : (Jvm.Cond.instanceMethod ({ cls := "Q15DspCompiler", name := "store", desc := "(I)V" } : Jvm.MethodName)) ∈ lw_all := lw_g (lw_at lw_m1 121 rfl) rfl
theorem q146 : (Jvm.Cond.code ({ cls := "Q15DspCompiler", name := "store", desc := "(I)V" } : Jvm.MethodName) prog_1_method_22_code (2 : Nat) (Option.none : Option Jvm.ClassFile.FieldType)) ∈ lw_all := lw_g (lw_at lw_m1 122 rfl) rfl
theorem q147 : (Jvm.Cond.methodLink "Q15DspCompiler" (114 : Nat) ({ cls := "Q15DspCompiler", name := "compileNode", desc := "(I)V" } : Jvm.MethodName)) ∈ lw_all := lw_g (lw_at lw_m1 123 rfl) rfl
theorem q148 : (Jvm.Cond.privateMethod ({ cls := "Q15DspCompiler", name := "compileNode", desc := "(I)V" } : Jvm.MethodName)) ∈ lw_tbl := lw_at lw_m1 124 rfl
theorem q149 : (Jvm.Cond.instanceMethod ({ cls := "Q15DspCompiler", name := "compileNode", desc := "(I)V" } : Jvm.MethodName)) ∈ lw_all := lw_g (lw_at lw_m1 125 rfl) rfl
theorem q150 : (Jvm.Cond.code ({ cls := "Q15DspCompiler", name := "compileNode", desc := "(I)V" } : Jvm.MethodName) prog_1_method_24_code (3 : Nat) (Option.none : Option Jvm.ClassFile.FieldType)) ∈ lw_all := lw_g (lw_at lw_m1 126 rfl) rfl
theorem q151 : (Jvm.Cond.methodLink "Q15DspCompiler" (129 : Nat) ({ cls := "Q15DspCompiler", name := "compileSum", desc := "(I)V" } : Jvm.MethodName)) ∈ lw_all := lw_g (lw_at lw_m1 127 rfl) rfl
theorem q152 : (Jvm.Cond.privateMethod ({ cls := "Q15DspCompiler", name := "compileSum", desc := "(I)V" } : Jvm.MethodName)) ∈ lw_tbl := lw_at lw_m1 128 rfl
theorem q153 : (Jvm.Cond.instanceMethod ({ cls := "Q15DspCompiler", name := "compileSum", desc := "(I)V" } : Jvm.MethodName)) ∈ lw_all := lw_g (lw_at lw_m1 129 rfl) rfl
theorem q154 : (Jvm.Cond.code ({ cls := "Q15DspCompiler", name := "compileSum", desc := "(I)V" } : Jvm.MethodName) prog_1_method_27_code (5 : Nat) (Option.none : Option Jvm.ClassFile.FieldType)) ∈ lw_all := lw_g (lw_at lw_m1 130 rfl) rfl
theorem q155 : (Jvm.Cond.methodLink "Q15DspCompiler" (117 : Nat) ({ cls := "Q15DspCompiler", name := "cellFor", desc := "(I)I" } : Jvm.MethodName)) ∈ lw_all := lw_g (lw_at lw_m1 131 rfl) rfl
theorem q156 : (Jvm.Cond.privateMethod ({ cls := "Q15DspCompiler", name := "cellFor", desc := "(I)I" } : Jvm.MethodName)) ∈ lw_tbl := lw_at lw_m1 132 rfl
theorem q157 : (Jvm.Cond.instanceMethod ({ cls := "Q15DspCompiler", name := "cellFor", desc := "(I)I" } : Jvm.MethodName)) ∈ lw_all := lw_g (lw_at lw_m1 133 rfl) rfl
theorem q158 : (Jvm.Cond.code ({ cls := "Q15DspCompiler", name := "cellFor", desc := "(I)I" } : Jvm.MethodName) prog_1_method_19_code (2 : Nat) (Option.some Jvm.ClassFile.FieldType.int)) ∈ lw_all := lw_g (lw_at lw_m1 134 rfl) rfl
theorem q159 : (Jvm.Cond.methodLink "Q15DspCompiler" (132 : Nat) ({ cls := "Q15DspCompiler", name := "compileTwo", desc := "(I)V" } : Jvm.MethodName)) ∈ lw_all := lw_g (lw_at lw_m1 135 rfl) rfl
theorem q160 : (Jvm.Cond.privateMethod ({ cls := "Q15DspCompiler", name := "compileTwo", desc := "(I)V" } : Jvm.MethodName)) ∈ lw_tbl := lw_at lw_m1 136 rfl
theorem q161 : (Jvm.Cond.instanceMethod ({ cls := "Q15DspCompiler", name := "compileTwo", desc := "(I)V" } : Jvm.MethodName)) ∈ lw_all := lw_g (lw_at lw_m1 137 rfl) rfl
theorem q162 : (Jvm.Cond.code ({ cls := "Q15DspCompiler", name := "compileTwo", desc := "(I)V" } : Jvm.MethodName) prog_1_method_25_code (5 : Nat) (Option.none : Option Jvm.ClassFile.FieldType)) ∈ lw_all := lw_g (lw_at lw_m1 138 rfl) rfl
theorem q163 : (Jvm.Cond.methodLink "Q15DspCompiler" (135 : Nat) ({ cls := "Q15DspCompiler", name := "compileOne", desc := "(I)V" } : Jvm.MethodName)) ∈ lw_all := lw_g (lw_at lw_m1 139 rfl) rfl
theorem q164 : (Jvm.Cond.privateMethod ({ cls := "Q15DspCompiler", name := "compileOne", desc := "(I)V" } : Jvm.MethodName)) ∈ lw_tbl := lw_at lw_m1 140 rfl
theorem q165 : (Jvm.Cond.instanceMethod ({ cls := "Q15DspCompiler", name := "compileOne", desc := "(I)V" } : Jvm.MethodName)) ∈ lw_all := lw_g (lw_at lw_m1 141 rfl) rfl
theorem q166 : (Jvm.Cond.code ({ cls := "Q15DspCompiler", name := "compileOne", desc := "(I)V" } : Jvm.MethodName) prog_1_method_26_code (4 : Nat) (Option.none : Option Jvm.ClassFile.FieldType)) ∈ lw_all := lw_g (lw_at lw_m1 142 rfl) rfl
theorem q168 : (Jvm.Cond.instanceMethod ({ cls := "Q15DspCompiler", name := "feed", desc := "(I)Z" } : Jvm.MethodName)) ∈ lw_all := lw_g (lw_at lw_m1 144 rfl) rfl
theorem q169 : (Jvm.Cond.selects "Q15DspCompiler" ({ cls := "Q15DspCompiler", name := "feed", desc := "(I)Z" } : Jvm.MethodName) ({ cls := "Q15DspCompiler", name := "feed", desc := "(I)Z" } : Jvm.MethodName)) ∈ lw_all := lw_g (lw_at lw_m1 145 rfl) rfl
theorem q170 : (Jvm.Cond.code ({ cls := "Q15DspCompiler", name := "feed", desc := "(I)Z" } : Jvm.MethodName) prog_1_method_7_code (3 : Nat) (Option.some Jvm.ClassFile.FieldType.boolean)) ∈ lw_all := lw_g (lw_at lw_m1 146 rfl) rfl
theorem q171 : (Jvm.Cond.methodLink "Q15DspCompiler" (68 : Nat) ({ cls := "Q15DspCompiler", name := "saturated", desc := "(J)J" } : Jvm.MethodName)) ∈ lw_all := lw_g (lw_at lw_m1 147 rfl) rfl
theorem q172 : (Jvm.Cond.privateMethod ({ cls := "Q15DspCompiler", name := "saturated", desc := "(J)J" } : Jvm.MethodName)) ∈ lw_tbl := lw_at lw_m1 148 rfl
theorem q173 : (Jvm.Cond.instanceMethod ({ cls := "Q15DspCompiler", name := "saturated", desc := "(J)J" } : Jvm.MethodName)) ∈ lw_all := lw_g (lw_at lw_m1 149 rfl) rfl
theorem q174 : (Jvm.Cond.code ({ cls := "Q15DspCompiler", name := "saturated", desc := "(J)J" } : Jvm.MethodName) prog_1_method_13_code (3 : Nat) (Option.some Jvm.ClassFile.FieldType.long)) ∈ lw_all := lw_g (lw_at lw_m1 150 rfl) rfl
theorem q175 : (Jvm.Cond.constantLong "Q15DspCompiler" (85 : Nat) (32767 : Int64)) ∈ lw_all := lw_g (lw_at lw_m1 151 rfl) rfl
theorem q176 : (Jvm.Cond.constantLong "Q15DspCompiler" (87 : Nat) (-32768 : Int64)) ∈ lw_all := lw_g (lw_at lw_m1 152 rfl) rfl
theorem q177 : (Jvm.Cond.methodLink "Q15DspCompiler" (75 : Nat) ({ cls := "Q15DspCompiler", name := "perform", desc := "(I)V" } : Jvm.MethodName)) ∈ lw_all := lw_g (lw_at lw_m1 153 rfl) rfl
theorem q178 : (Jvm.Cond.privateMethod ({ cls := "Q15DspCompiler", name := "perform", desc := "(I)V" } : Jvm.MethodName)) ∈ lw_tbl := lw_at lw_m1 154 rfl
theorem q179 : (Jvm.Cond.instanceMethod ({ cls := "Q15DspCompiler", name := "perform", desc := "(I)V" } : Jvm.MethodName)) ∈ lw_all := lw_g (lw_at lw_m1 155 rfl) rfl
theorem q180 : (Jvm.Cond.code ({ cls := "Q15DspCompiler", name := "perform", desc := "(I)V" } : Jvm.MethodName) prog_1_method_14_code (5 : Nat) (Option.none : Option Jvm.ClassFile.FieldType)) ∈ lw_all := lw_g (lw_at lw_m1 156 rfl) rfl
theorem q181 : (Jvm.Cond.methodLink "Q15DspCompiler" (93 : Nat) ({ cls := "Q15DspCompiler", name := "performSpecial", desc := "(III)V" } : Jvm.MethodName)) ∈ lw_all := lw_g (lw_at lw_m1 157 rfl) rfl
theorem q182 : (Jvm.Cond.privateMethod ({ cls := "Q15DspCompiler", name := "performSpecial", desc := "(III)V" } : Jvm.MethodName)) ∈ lw_tbl := lw_at lw_m1 158 rfl
theorem q183 : (Jvm.Cond.instanceMethod ({ cls := "Q15DspCompiler", name := "performSpecial", desc := "(III)V" } : Jvm.MethodName)) ∈ lw_all := lw_g (lw_at lw_m1 159 rfl) rfl
theorem q184 : (Jvm.Cond.code ({ cls := "Q15DspCompiler", name := "performSpecial", desc := "(III)V" } : Jvm.MethodName) prog_1_method_15_code (4 : Nat) (Option.none : Option Jvm.ClassFile.FieldType)) ∈ lw_all := lw_g (lw_at lw_m1 160 rfl) rfl
theorem q185 : (Jvm.Cond.constantLong "Q15DspCompiler" (97 : Nat) (16384 : Int64)) ∈ lw_all := lw_g (lw_at lw_m1 161 rfl) rfl
theorem q187 : (Jvm.Cond.instanceMethod ({ cls := "Q15DspCompiler", name := "repeat", desc := "(II)I" } : Jvm.MethodName)) ∈ lw_all := lw_g (lw_at lw_m1 163 rfl) rfl
theorem q188 : (Jvm.Cond.selects "Q15DspCompiler" ({ cls := "Q15DspCompiler", name := "repeat", desc := "(II)I" } : Jvm.MethodName) ({ cls := "Q15DspCompiler", name := "repeat", desc := "(II)I" } : Jvm.MethodName)) ∈ lw_all := lw_g (lw_at lw_m1 164 rfl) rfl
theorem q189 : (Jvm.Cond.code ({ cls := "Q15DspCompiler", name := "repeat", desc := "(II)I" } : Jvm.MethodName) prog_1_method_8_code (6 : Nat) (Option.some Jvm.ClassFile.FieldType.int)) ∈ lw_all := lw_g (lw_at lw_m1 165 rfl) rfl
theorem q190 : (Jvm.Cond.methodLink "Q15DspCompiler" (82 : Nat) ({ cls := "Q15DspCompiler", name := "feed", desc := "(I)Z" } : Jvm.MethodName)) ∈ lw_all := lw_g (lw_at lw_m1 166 rfl) rfl
theorem q192 : (Jvm.Cond.instanceMethod ({ cls := "Q15DspCompiler", name := "value", desc := "(I)I" } : Jvm.MethodName)) ∈ lw_all := lw_g (lw_at lw_m1 168 rfl) rfl
theorem q193 : (Jvm.Cond.selects "Q15DspCompiler" ({ cls := "Q15DspCompiler", name := "value", desc := "(I)I" } : Jvm.MethodName) ({ cls := "Q15DspCompiler", name := "value", desc := "(I)I" } : Jvm.MethodName)) ∈ lw_all := lw_g (lw_at lw_m1 169 rfl) rfl
theorem q194 : (Jvm.Cond.code ({ cls := "Q15DspCompiler", name := "value", desc := "(I)I" } : Jvm.MethodName) prog_1_method_9_code (2 : Nat) (Option.some Jvm.ClassFile.FieldType.int)) ∈ lw_all := lw_g (lw_at lw_m1 170 rfl) rfl
theorem q196 : (Jvm.Cond.instanceMethod ({ cls := "Q15DspCompiler", name := "samples", desc := "()I" } : Jvm.MethodName)) ∈ lw_all := lw_g (lw_at lw_m1 172 rfl) rfl
theorem q197 : (Jvm.Cond.selects "Q15DspCompiler" ({ cls := "Q15DspCompiler", name := "samples", desc := "()I" } : Jvm.MethodName) ({ cls := "Q15DspCompiler", name := "samples", desc := "()I" } : Jvm.MethodName)) ∈ lw_all := lw_g (lw_at lw_m1 173 rfl) rfl
theorem q198 : (Jvm.Cond.code ({ cls := "Q15DspCompiler", name := "samples", desc := "()I" } : Jvm.MethodName) prog_1_method_10_code (1 : Nat) (Option.some Jvm.ClassFile.FieldType.int)) ∈ lw_all := lw_g (lw_at lw_m1 174 rfl) rfl
theorem q201 : (Jvm.Cond.instanceMethod ({ cls := "Q15DspCompiler", name := "clear", desc := "()I" } : Jvm.MethodName)) ∈ lw_all := lw_g (lw_at lw_m1 177 rfl) rfl
theorem q202 : (Jvm.Cond.selects "Q15DspCompiler" ({ cls := "Q15DspCompiler", name := "clear", desc := "()I" } : Jvm.MethodName) ({ cls := "Q15DspCompiler", name := "clear", desc := "()I" } : Jvm.MethodName)) ∈ lw_all := lw_g (lw_at lw_m1 178 rfl) rfl
theorem q203 : (Jvm.Cond.code ({ cls := "Q15DspCompiler", name := "clear", desc := "()I" } : Jvm.MethodName) prog_1_method_12_code (2 : Nat) (Option.some Jvm.ClassFile.FieldType.int)) ∈ lw_all := lw_g (lw_at lw_m1 179 rfl) rfl
theorem in_X0 : ∀ w ∈ wsX00, w ∈ lw_all := lw_in wsX00 [54, 56, 58, 60, 62, 64, 66, 68, 70, 72, 74, 76, 78, 80, 82, 84, 86, 88, 90] (by decide +kernel) (by decide +kernel)
end
section
/-! Q15DspCompilerModel -/
set_option maxRecDepth 100000
def RX1 : String := "Q15DspCompilerModel"
def TX1 : u_T := fun k => match k with
  | 0 => ("Q15DspCompilerModel", "n", "I", false)
  | 1 => ("Q15DspCompilerModel", "kind", "[I", false)
  | 2 => ("Q15DspCompilerModel", "a", "[I", false)
  | 3 => ("Q15DspCompilerModel", "b", "[I", false)
  | 4 => ("Q15DspCompilerModel", "taps", "[I", false)
  | 5 => ("Q15DspCompilerModel", "tapNode", "[I", false)
  | 6 => ("Q15DspCompilerModel", "tapFactor", "[I", false)
  | 7 => ("Q15DspCompilerModel", "now", "[I", false)
  | 8 => ("Q15DspCompilerModel", "before", "[I", false)
  | 9 => ("Q15DspCompilerModel", "samples", "I", false)
  | _ => ("Q15DspCompilerModel", "named", "[I", false)
def tyX1 : Nat → FieldType := fun k => match k with
  | 0 => .int
  | 1 => .array .int
  | 2 => .array .int
  | 3 => .array .int
  | 4 => .array .int
  | 5 => .array .int
  | 6 => .array .int
  | 7 => .array .int
  | 8 => .array .int
  | 9 => .int
  | _ => .array .int
abbrev wsX10 : List Cond := u_ws RX1 TX1 11
theorem nmX1 : ∀ a, a < 11 → ∀ b, b < 11 → a ≠ b → (TX1 a).2.1 ≠ (TX1 b).2.1 := by decide +kernel
theorem tyX1_ok : ∀ k, k < 11 → parseFieldDescriptor (TX1 k).2.2.1 = some (tyX1 k) := by decide +kernel
abbrev cX1_init : ByteArray := prog_3_method_1_code
def yX1_init : MethodName := ⟨RX1, "<init>", "()V"⟩
theorem dX1_init_0 : decode cX1_init 0 = .ok (.aload_n 0, 1) := by decide +kernel
theorem dX1_init_1 : decode cX1_init 1 = .ok (.invokespecial 1, 3) := by decide +kernel
theorem dX1_init_4 : decode cX1_init 4 = .ok (.aload_n 0, 1) := by decide +kernel
theorem dX1_init_5 : decode cX1_init 5 = .ok (.iconst 0, 1) := by decide +kernel
theorem dX1_init_6 : decode cX1_init 6 = .ok (.putfield 7, 3) := by decide +kernel
theorem dX1_init_9 : decode cX1_init 9 = .ok (.aload_n 0, 1) := by decide +kernel
theorem dX1_init_10 : decode cX1_init 10 = .ok (.bipush 20, 2) := by decide +kernel
theorem dX1_init_12 : decode cX1_init 12 = .ok (.newarray .int, 2) := by decide +kernel
theorem dX1_init_14 : decode cX1_init 14 = .ok (.putfield 13, 3) := by decide +kernel
theorem dX1_init_17 : decode cX1_init 17 = .ok (.aload_n 0, 1) := by decide +kernel
theorem dX1_init_18 : decode cX1_init 18 = .ok (.bipush 20, 2) := by decide +kernel
theorem dX1_init_20 : decode cX1_init 20 = .ok (.newarray .int, 2) := by decide +kernel
theorem dX1_init_22 : decode cX1_init 22 = .ok (.putfield 17, 3) := by decide +kernel
theorem dX1_init_25 : decode cX1_init 25 = .ok (.aload_n 0, 1) := by decide +kernel
theorem dX1_init_26 : decode cX1_init 26 = .ok (.bipush 20, 2) := by decide +kernel
theorem dX1_init_28 : decode cX1_init 28 = .ok (.newarray .int, 2) := by decide +kernel
theorem dX1_init_30 : decode cX1_init 30 = .ok (.putfield 20, 3) := by decide +kernel
theorem dX1_init_33 : decode cX1_init 33 = .ok (.aload_n 0, 1) := by decide +kernel
theorem dX1_init_34 : decode cX1_init 34 = .ok (.bipush 20, 2) := by decide +kernel
theorem dX1_init_36 : decode cX1_init 36 = .ok (.newarray .int, 2) := by decide +kernel
theorem dX1_init_38 : decode cX1_init 38 = .ok (.putfield 23, 3) := by decide +kernel
theorem dX1_init_41 : decode cX1_init 41 = .ok (.aload_n 0, 1) := by decide +kernel
theorem dX1_init_42 : decode cX1_init 42 = .ok (.bipush 120, 2) := by decide +kernel
theorem dX1_init_44 : decode cX1_init 44 = .ok (.newarray .int, 2) := by decide +kernel
theorem dX1_init_46 : decode cX1_init 46 = .ok (.putfield 26, 3) := by decide +kernel
theorem dX1_init_49 : decode cX1_init 49 = .ok (.aload_n 0, 1) := by decide +kernel
theorem dX1_init_50 : decode cX1_init 50 = .ok (.bipush 120, 2) := by decide +kernel
theorem dX1_init_52 : decode cX1_init 52 = .ok (.newarray .int, 2) := by decide +kernel
theorem dX1_init_54 : decode cX1_init 54 = .ok (.putfield 29, 3) := by decide +kernel
theorem dX1_init_57 : decode cX1_init 57 = .ok (.aload_n 0, 1) := by decide +kernel
theorem dX1_init_58 : decode cX1_init 58 = .ok (.bipush 20, 2) := by decide +kernel
theorem dX1_init_60 : decode cX1_init 60 = .ok (.newarray .int, 2) := by decide +kernel
theorem dX1_init_62 : decode cX1_init 62 = .ok (.putfield 32, 3) := by decide +kernel
theorem dX1_init_65 : decode cX1_init 65 = .ok (.aload_n 0, 1) := by decide +kernel
theorem dX1_init_66 : decode cX1_init 66 = .ok (.bipush 20, 2) := by decide +kernel
theorem dX1_init_68 : decode cX1_init 68 = .ok (.newarray .int, 2) := by decide +kernel
theorem dX1_init_70 : decode cX1_init 70 = .ok (.putfield 35, 3) := by decide +kernel
theorem dX1_init_73 : decode cX1_init 73 = .ok (.aload_n 0, 1) := by decide +kernel
theorem dX1_init_74 : decode cX1_init 74 = .ok (.iconst 0, 1) := by decide +kernel
theorem dX1_init_75 : decode cX1_init 75 = .ok (.putfield 38, 3) := by decide +kernel
theorem dX1_init_78 : decode cX1_init 78 = .ok (.aload_n 0, 1) := by decide +kernel
theorem dX1_init_79 : decode cX1_init 79 = .ok (.bipush 20, 2) := by decide +kernel
theorem dX1_init_81 : decode cX1_init 81 = .ok (.newarray .int, 2) := by decide +kernel
theorem dX1_init_83 : decode cX1_init 83 = .ok (.putfield 41, 3) := by decide +kernel
theorem dX1_init_86 : decode cX1_init 86 = .ok (.return_, 1) := by decide +kernel
abbrev cX1_node : ByteArray := prog_3_method_5_code
def yX1_node : MethodName := ⟨RX1, "node", "(III)I"⟩
theorem dX1_node_0 : decode cX1_node 0 = .ok (.aload_n 0, 1) := by decide +kernel
theorem dX1_node_1 : decode cX1_node 1 = .ok (.getfield 7, 3) := by decide +kernel
theorem dX1_node_4 : decode cX1_node 4 = .ok (.bipush 20, 2) := by decide +kernel
theorem dX1_node_6 : decode cX1_node 6 = .ok (.if_icmp .ne 6, 3) := by decide +kernel
theorem dX1_node_9 : decode cX1_node 9 = .ok (.bipush (-2), 2) := by decide +kernel
theorem dX1_node_11 : decode cX1_node 11 = .ok (.ireturn, 1) := by decide +kernel
theorem dX1_node_12 : decode cX1_node 12 = .ok (.aload_n 0, 1) := by decide +kernel
theorem dX1_node_13 : decode cX1_node 13 = .ok (.iload_n 1, 1) := by decide +kernel
theorem dX1_node_14 : decode cX1_node 14 = .ok (.iload_n 2, 1) := by decide +kernel
theorem dX1_node_15 : decode cX1_node 15 = .ok (.iload_n 3, 1) := by decide +kernel
theorem dX1_node_16 : decode cX1_node 16 = .ok (.invokevirtual 51, 3) := by decide +kernel
theorem dX1_node_19 : decode cX1_node 19 = .ok (.ifCond .ne 5, 3) := by decide +kernel
theorem dX1_node_22 : decode cX1_node 22 = .ok (.iconst (-1), 1) := by decide +kernel
theorem dX1_node_23 : decode cX1_node 23 = .ok (.ireturn, 1) := by decide +kernel
theorem dX1_node_24 : decode cX1_node 24 = .ok (.aload_n 0, 1) := by decide +kernel
theorem dX1_node_25 : decode cX1_node 25 = .ok (.getfield 13, 3) := by decide +kernel
theorem dX1_node_28 : decode cX1_node 28 = .ok (.aload_n 0, 1) := by decide +kernel
theorem dX1_node_29 : decode cX1_node 29 = .ok (.getfield 7, 3) := by decide +kernel
theorem dX1_node_32 : decode cX1_node 32 = .ok (.iload_n 1, 1) := by decide +kernel
theorem dX1_node_33 : decode cX1_node 33 = .ok (.iastore, 1) := by decide +kernel
theorem dX1_node_34 : decode cX1_node 34 = .ok (.aload_n 0, 1) := by decide +kernel
theorem dX1_node_35 : decode cX1_node 35 = .ok (.getfield 17, 3) := by decide +kernel
theorem dX1_node_38 : decode cX1_node 38 = .ok (.aload_n 0, 1) := by decide +kernel
theorem dX1_node_39 : decode cX1_node 39 = .ok (.getfield 7, 3) := by decide +kernel
theorem dX1_node_42 : decode cX1_node 42 = .ok (.iload_n 2, 1) := by decide +kernel
theorem dX1_node_43 : decode cX1_node 43 = .ok (.iastore, 1) := by decide +kernel
theorem dX1_node_44 : decode cX1_node 44 = .ok (.aload_n 0, 1) := by decide +kernel
theorem dX1_node_45 : decode cX1_node 45 = .ok (.getfield 20, 3) := by decide +kernel
theorem dX1_node_48 : decode cX1_node 48 = .ok (.aload_n 0, 1) := by decide +kernel
theorem dX1_node_49 : decode cX1_node 49 = .ok (.getfield 7, 3) := by decide +kernel
theorem dX1_node_52 : decode cX1_node 52 = .ok (.iload_n 3, 1) := by decide +kernel
theorem dX1_node_53 : decode cX1_node 53 = .ok (.iastore, 1) := by decide +kernel
theorem dX1_node_54 : decode cX1_node 54 = .ok (.aload_n 0, 1) := by decide +kernel
theorem dX1_node_55 : decode cX1_node 55 = .ok (.getfield 23, 3) := by decide +kernel
theorem dX1_node_58 : decode cX1_node 58 = .ok (.aload_n 0, 1) := by decide +kernel
theorem dX1_node_59 : decode cX1_node 59 = .ok (.getfield 7, 3) := by decide +kernel
theorem dX1_node_62 : decode cX1_node 62 = .ok (.iconst 0, 1) := by decide +kernel
theorem dX1_node_63 : decode cX1_node 63 = .ok (.iastore, 1) := by decide +kernel
theorem dX1_node_64 : decode cX1_node 64 = .ok (.aload_n 0, 1) := by decide +kernel
theorem dX1_node_65 : decode cX1_node 65 = .ok (.dup, 1) := by decide +kernel
theorem dX1_node_66 : decode cX1_node 66 = .ok (.getfield 7, 3) := by decide +kernel
theorem dX1_node_69 : decode cX1_node 69 = .ok (.iconst 1, 1) := by decide +kernel
theorem dX1_node_70 : decode cX1_node 70 = .ok (.iadd, 1) := by decide +kernel
theorem dX1_node_71 : decode cX1_node 71 = .ok (.putfield 7, 3) := by decide +kernel
theorem dX1_node_74 : decode cX1_node 74 = .ok (.aload_n 0, 1) := by decide +kernel
theorem dX1_node_75 : decode cX1_node 75 = .ok (.invokevirtual 55, 3) := by decide +kernel
theorem dX1_node_78 : decode cX1_node 78 = .ok (.aload_n 0, 1) := by decide +kernel
theorem dX1_node_79 : decode cX1_node 79 = .ok (.getfield 7, 3) := by decide +kernel
theorem dX1_node_82 : decode cX1_node 82 = .ok (.iconst 1, 1) := by decide +kernel
theorem dX1_node_83 : decode cX1_node 83 = .ok (.isub, 1) := by decide +kernel
theorem dX1_node_84 : decode cX1_node 84 = .ok (.ireturn, 1) := by decide +kernel
abbrev cX1_fits : ByteArray := prog_3_method_4_code
def yX1_fits : MethodName := ⟨RX1, "fits", "(III)Z"⟩
theorem dX1_fits_0 : decode cX1_fits 0 = .ok (.iload_n 1, 1) := by decide +kernel
theorem dX1_fits_1 : decode cX1_fits 1 = .ok (.ifCond .lt 9, 3) := by decide +kernel
theorem dX1_fits_4 : decode cX1_fits 4 = .ok (.iload_n 1, 1) := by decide +kernel
theorem dX1_fits_5 : decode cX1_fits 5 = .ok (.bipush 10, 2) := by decide +kernel
theorem dX1_fits_7 : decode cX1_fits 7 = .ok (.if_icmp .le 5, 3) := by decide +kernel
theorem dX1_fits_10 : decode cX1_fits 10 = .ok (.iconst 0, 1) := by decide +kernel
theorem dX1_fits_11 : decode cX1_fits 11 = .ok (.ireturn, 1) := by decide +kernel
theorem dX1_fits_12 : decode cX1_fits 12 = .ok (.iload_n 1, 1) := by decide +kernel
theorem dX1_fits_13 : decode cX1_fits 13 = .ok (.iconst 1, 1) := by decide +kernel
theorem dX1_fits_14 : decode cX1_fits 14 = .ok (.if_icmp .ne 9, 3) := by decide +kernel
theorem dX1_fits_17 : decode cX1_fits 17 = .ok (.aload_n 0, 1) := by decide +kernel
theorem dX1_fits_18 : decode cX1_fits 18 = .ok (.iload_n 2, 1) := by decide +kernel
theorem dX1_fits_19 : decode cX1_fits 19 = .ok (.invokevirtual 44, 3) := by decide +kernel
theorem dX1_fits_22 : decode cX1_fits 22 = .ok (.ireturn, 1) := by decide +kernel
theorem dX1_fits_23 : decode cX1_fits 23 = .ok (.iload_n 1, 1) := by decide +kernel
theorem dX1_fits_24 : decode cX1_fits 24 = .ok (.iconst 2, 1) := by decide +kernel
theorem dX1_fits_25 : decode cX1_fits 25 = .ok (.if_icmp .lt 19, 3) := by decide +kernel
theorem dX1_fits_28 : decode cX1_fits 28 = .ok (.iload_n 1, 1) := by decide +kernel
theorem dX1_fits_29 : decode cX1_fits 29 = .ok (.bipush 9, 2) := by decide +kernel
theorem dX1_fits_31 : decode cX1_fits 31 = .ok (.if_icmp .gt 13, 3) := by decide +kernel
theorem dX1_fits_34 : decode cX1_fits 34 = .ok (.aload_n 0, 1) := by decide +kernel
theorem dX1_fits_35 : decode cX1_fits 35 = .ok (.iload_n 2, 1) := by decide +kernel
theorem dX1_fits_36 : decode cX1_fits 36 = .ok (.invokevirtual 48, 3) := by decide +kernel
theorem dX1_fits_39 : decode cX1_fits 39 = .ok (.ifCond .ne 5, 3) := by decide +kernel
theorem dX1_fits_42 : decode cX1_fits 42 = .ok (.iconst 0, 1) := by decide +kernel
theorem dX1_fits_43 : decode cX1_fits 43 = .ok (.ireturn, 1) := by decide +kernel
theorem dX1_fits_44 : decode cX1_fits 44 = .ok (.iload_n 1, 1) := by decide +kernel
theorem dX1_fits_45 : decode cX1_fits 45 = .ok (.iconst 3, 1) := by decide +kernel
theorem dX1_fits_46 : decode cX1_fits 46 = .ok (.if_icmp .lt 14, 3) := by decide +kernel
theorem dX1_fits_49 : decode cX1_fits 49 = .ok (.iload_n 1, 1) := by decide +kernel
theorem dX1_fits_50 : decode cX1_fits 50 = .ok (.iconst 5, 1) := by decide +kernel
theorem dX1_fits_51 : decode cX1_fits 51 = .ok (.if_icmp .gt 9, 3) := by decide +kernel
theorem dX1_fits_54 : decode cX1_fits 54 = .ok (.aload_n 0, 1) := by decide +kernel
theorem dX1_fits_55 : decode cX1_fits 55 = .ok (.iload_n 3, 1) := by decide +kernel
theorem dX1_fits_56 : decode cX1_fits 56 = .ok (.invokevirtual 48, 3) := by decide +kernel
theorem dX1_fits_59 : decode cX1_fits 59 = .ok (.ireturn, 1) := by decide +kernel
theorem dX1_fits_60 : decode cX1_fits 60 = .ok (.iload_n 1, 1) := by decide +kernel
theorem dX1_fits_61 : decode cX1_fits 61 = .ok (.bipush 8, 2) := by decide +kernel
theorem dX1_fits_63 : decode cX1_fits 63 = .ok (.if_icmp .ne 19, 3) := by decide +kernel
theorem dX1_fits_66 : decode cX1_fits 66 = .ok (.iload_n 3, 1) := by decide +kernel
theorem dX1_fits_67 : decode cX1_fits 67 = .ok (.ifCond .lt 13, 3) := by decide +kernel
theorem dX1_fits_70 : decode cX1_fits 70 = .ok (.iload_n 3, 1) := by decide +kernel
theorem dX1_fits_71 : decode cX1_fits 71 = .ok (.bipush 7, 2) := by decide +kernel
theorem dX1_fits_73 : decode cX1_fits 73 = .ok (.if_icmp .gt 7, 3) := by decide +kernel
theorem dX1_fits_76 : decode cX1_fits 76 = .ok (.iconst 1, 1) := by decide +kernel
theorem dX1_fits_77 : decode cX1_fits 77 = .ok (.goto 4, 3) := by decide +kernel
theorem dX1_fits_80 : decode cX1_fits 80 = .ok (.iconst 0, 1) := by decide +kernel
theorem dX1_fits_81 : decode cX1_fits 81 = .ok (.ireturn, 1) := by decide +kernel
theorem dX1_fits_82 : decode cX1_fits 82 = .ok (.iload_n 1, 1) := by decide +kernel
theorem dX1_fits_83 : decode cX1_fits 83 = .ok (.bipush 9, 2) := by decide +kernel
theorem dX1_fits_85 : decode cX1_fits 85 = .ok (.if_icmp .ne 13, 3) := by decide +kernel
theorem dX1_fits_88 : decode cX1_fits 88 = .ok (.iload_n 3, 1) := by decide +kernel
theorem dX1_fits_89 : decode cX1_fits 89 = .ok (.ifCond .lt 13, 3) := by decide +kernel
theorem dX1_fits_92 : decode cX1_fits 92 = .ok (.iload_n 3, 1) := by decide +kernel
theorem dX1_fits_93 : decode cX1_fits 93 = .ok (.bipush 15, 2) := by decide +kernel
theorem dX1_fits_95 : decode cX1_fits 95 = .ok (.if_icmp .gt 7, 3) := by decide +kernel
theorem dX1_fits_98 : decode cX1_fits 98 = .ok (.iconst 1, 1) := by decide +kernel
theorem dX1_fits_99 : decode cX1_fits 99 = .ok (.goto 4, 3) := by decide +kernel
theorem dX1_fits_102 : decode cX1_fits 102 = .ok (.iconst 0, 1) := by decide +kernel
theorem dX1_fits_103 : decode cX1_fits 103 = .ok (.ireturn, 1) := by decide +kernel
abbrev cX1_isValue : ByteArray := prog_3_method_3_code
def yX1_isValue : MethodName := ⟨RX1, "isValue", "(I)Z"⟩
theorem dX1_isValue_0 : decode cX1_isValue 0 = .ok (.iload_n 1, 1) := by decide +kernel
theorem dX1_isValue_1 : decode cX1_isValue 1 = .ok (.sipush (-32768), 3) := by decide +kernel
theorem dX1_isValue_4 : decode cX1_isValue 4 = .ok (.if_icmp .lt 14, 3) := by decide +kernel
theorem dX1_isValue_7 : decode cX1_isValue 7 = .ok (.iload_n 1, 1) := by decide +kernel
theorem dX1_isValue_8 : decode cX1_isValue 8 = .ok (.sipush 32767, 3) := by decide +kernel
theorem dX1_isValue_11 : decode cX1_isValue 11 = .ok (.if_icmp .gt 7, 3) := by decide +kernel
theorem dX1_isValue_14 : decode cX1_isValue 14 = .ok (.iconst 1, 1) := by decide +kernel
theorem dX1_isValue_15 : decode cX1_isValue 15 = .ok (.goto 4, 3) := by decide +kernel
theorem dX1_isValue_18 : decode cX1_isValue 18 = .ok (.iconst 0, 1) := by decide +kernel
theorem dX1_isValue_19 : decode cX1_isValue 19 = .ok (.ireturn, 1) := by decide +kernel
abbrev cX1_isName : ByteArray := prog_3_method_2_code
def yX1_isName : MethodName := ⟨RX1, "isName", "(I)Z"⟩
theorem dX1_isName_0 : decode cX1_isName 0 = .ok (.iload_n 1, 1) := by decide +kernel
theorem dX1_isName_1 : decode cX1_isName 1 = .ok (.ifCond .lt 13, 3) := by decide +kernel
theorem dX1_isName_4 : decode cX1_isName 4 = .ok (.iload_n 1, 1) := by decide +kernel
theorem dX1_isName_5 : decode cX1_isName 5 = .ok (.bipush 19, 2) := by decide +kernel
theorem dX1_isName_7 : decode cX1_isName 7 = .ok (.if_icmp .gt 7, 3) := by decide +kernel
theorem dX1_isName_10 : decode cX1_isName 10 = .ok (.iconst 1, 1) := by decide +kernel
theorem dX1_isName_11 : decode cX1_isName 11 = .ok (.goto 4, 3) := by decide +kernel
theorem dX1_isName_14 : decode cX1_isName 14 = .ok (.iconst 0, 1) := by decide +kernel
theorem dX1_isName_15 : decode cX1_isName 15 = .ok (.ireturn, 1) := by decide +kernel
abbrev cX1_restart : ByteArray := prog_3_method_18_code
def yX1_restart : MethodName := ⟨RX1, "restart", "()V"⟩
theorem dX1_restart_0 : decode cX1_restart 0 = .ok (.aload_n 0, 1) := by decide +kernel
theorem dX1_restart_1 : decode cX1_restart 1 = .ok (.iconst 0, 1) := by decide +kernel
theorem dX1_restart_2 : decode cX1_restart 2 = .ok (.putfield 38, 3) := by decide +kernel
theorem dX1_restart_5 : decode cX1_restart 5 = .ok (.iconst 0, 1) := by decide +kernel
theorem dX1_restart_6 : decode cX1_restart 6 = .ok (.istore_n 1, 1) := by decide +kernel
theorem dX1_restart_7 : decode cX1_restart 7 = .ok (.iload_n 1, 1) := by decide +kernel
theorem dX1_restart_8 : decode cX1_restart 8 = .ok (.bipush 20, 2) := by decide +kernel
theorem dX1_restart_10 : decode cX1_restart 10 = .ok (.if_icmp .ge 16, 3) := by decide +kernel
theorem dX1_restart_13 : decode cX1_restart 13 = .ok (.aload_n 0, 1) := by decide +kernel
theorem dX1_restart_14 : decode cX1_restart 14 = .ok (.getfield 32, 3) := by decide +kernel
theorem dX1_restart_17 : decode cX1_restart 17 = .ok (.iload_n 1, 1) := by decide +kernel
theorem dX1_restart_18 : decode cX1_restart 18 = .ok (.iconst 0, 1) := by decide +kernel
theorem dX1_restart_19 : decode cX1_restart 19 = .ok (.iastore, 1) := by decide +kernel
theorem dX1_restart_20 : decode cX1_restart 20 = .ok (.iinc 1 1, 3) := by decide +kernel
theorem dX1_restart_23 : decode cX1_restart 23 = .ok (.goto (-16), 3) := by decide +kernel
theorem dX1_restart_26 : decode cX1_restart 26 = .ok (.return_, 1) := by decide +kernel
abbrev cX1_tap : ByteArray := prog_3_method_6_code
def yX1_tap : MethodName := ⟨RX1, "tap", "(III)I"⟩
theorem dX1_tap_0 : decode cX1_tap 0 = .ok (.iload_n 1, 1) := by decide +kernel
theorem dX1_tap_1 : decode cX1_tap 1 = .ok (.ifCond .lt 38, 3) := by decide +kernel
theorem dX1_tap_4 : decode cX1_tap 4 = .ok (.iload_n 1, 1) := by decide +kernel
theorem dX1_tap_5 : decode cX1_tap 5 = .ok (.aload_n 0, 1) := by decide +kernel
theorem dX1_tap_6 : decode cX1_tap 6 = .ok (.getfield 7, 3) := by decide +kernel
theorem dX1_tap_9 : decode cX1_tap 9 = .ok (.if_icmp .ge 30, 3) := by decide +kernel
theorem dX1_tap_12 : decode cX1_tap 12 = .ok (.aload_n 0, 1) := by decide +kernel
theorem dX1_tap_13 : decode cX1_tap 13 = .ok (.getfield 13, 3) := by decide +kernel
theorem dX1_tap_16 : decode cX1_tap 16 = .ok (.iload_n 1, 1) := by decide +kernel
theorem dX1_tap_17 : decode cX1_tap 17 = .ok (.iaload, 1) := by decide +kernel
theorem dX1_tap_18 : decode cX1_tap 18 = .ok (.bipush 10, 2) := by decide +kernel
theorem dX1_tap_20 : decode cX1_tap 20 = .ok (.if_icmp .ne 19, 3) := by decide +kernel
theorem dX1_tap_23 : decode cX1_tap 23 = .ok (.aload_n 0, 1) := by decide +kernel
theorem dX1_tap_24 : decode cX1_tap 24 = .ok (.iload_n 2, 1) := by decide +kernel
theorem dX1_tap_25 : decode cX1_tap 25 = .ok (.invokevirtual 48, 3) := by decide +kernel
theorem dX1_tap_28 : decode cX1_tap 28 = .ok (.ifCond .eq 11, 3) := by decide +kernel
theorem dX1_tap_31 : decode cX1_tap 31 = .ok (.aload_n 0, 1) := by decide +kernel
theorem dX1_tap_32 : decode cX1_tap 32 = .ok (.iload_n 3, 1) := by decide +kernel
theorem dX1_tap_33 : decode cX1_tap 33 = .ok (.invokevirtual 44, 3) := by decide +kernel
theorem dX1_tap_36 : decode cX1_tap 36 = .ok (.ifCond .ne 5, 3) := by decide +kernel
theorem dX1_tap_39 : decode cX1_tap 39 = .ok (.iconst (-1), 1) := by decide +kernel
theorem dX1_tap_40 : decode cX1_tap 40 = .ok (.ireturn, 1) := by decide +kernel
theorem dX1_tap_41 : decode cX1_tap 41 = .ok (.aload_n 0, 1) := by decide +kernel
theorem dX1_tap_42 : decode cX1_tap 42 = .ok (.getfield 23, 3) := by decide +kernel
theorem dX1_tap_45 : decode cX1_tap 45 = .ok (.iload_n 1, 1) := by decide +kernel
theorem dX1_tap_46 : decode cX1_tap 46 = .ok (.iaload, 1) := by decide +kernel
theorem dX1_tap_47 : decode cX1_tap 47 = .ok (.bipush 6, 2) := by decide +kernel
theorem dX1_tap_49 : decode cX1_tap 49 = .ok (.if_icmp .ne 6, 3) := by decide +kernel
theorem dX1_tap_52 : decode cX1_tap 52 = .ok (.bipush (-2), 2) := by decide +kernel
theorem dX1_tap_54 : decode cX1_tap 54 = .ok (.ireturn, 1) := by decide +kernel
theorem dX1_tap_55 : decode cX1_tap 55 = .ok (.aload_n 0, 1) := by decide +kernel
theorem dX1_tap_56 : decode cX1_tap 56 = .ok (.getfield 26, 3) := by decide +kernel
theorem dX1_tap_59 : decode cX1_tap 59 = .ok (.bipush 6, 2) := by decide +kernel
theorem dX1_tap_61 : decode cX1_tap 61 = .ok (.iload_n 1, 1) := by decide +kernel
theorem dX1_tap_62 : decode cX1_tap 62 = .ok (.imul, 1) := by decide +kernel
theorem dX1_tap_63 : decode cX1_tap 63 = .ok (.aload_n 0, 1) := by decide +kernel
theorem dX1_tap_64 : decode cX1_tap 64 = .ok (.getfield 23, 3) := by decide +kernel
theorem dX1_tap_67 : decode cX1_tap 67 = .ok (.iload_n 1, 1) := by decide +kernel
theorem dX1_tap_68 : decode cX1_tap 68 = .ok (.iaload, 1) := by decide +kernel
theorem dX1_tap_69 : decode cX1_tap 69 = .ok (.iadd, 1) := by decide +kernel
theorem dX1_tap_70 : decode cX1_tap 70 = .ok (.iload_n 2, 1) := by decide +kernel
theorem dX1_tap_71 : decode cX1_tap 71 = .ok (.iastore, 1) := by decide +kernel
theorem dX1_tap_72 : decode cX1_tap 72 = .ok (.aload_n 0, 1) := by decide +kernel
theorem dX1_tap_73 : decode cX1_tap 73 = .ok (.getfield 29, 3) := by decide +kernel
theorem dX1_tap_76 : decode cX1_tap 76 = .ok (.bipush 6, 2) := by decide +kernel
theorem dX1_tap_78 : decode cX1_tap 78 = .ok (.iload_n 1, 1) := by decide +kernel
theorem dX1_tap_79 : decode cX1_tap 79 = .ok (.imul, 1) := by decide +kernel
theorem dX1_tap_80 : decode cX1_tap 80 = .ok (.aload_n 0, 1) := by decide +kernel
theorem dX1_tap_81 : decode cX1_tap 81 = .ok (.getfield 23, 3) := by decide +kernel
theorem dX1_tap_84 : decode cX1_tap 84 = .ok (.iload_n 1, 1) := by decide +kernel
theorem dX1_tap_85 : decode cX1_tap 85 = .ok (.iaload, 1) := by decide +kernel
theorem dX1_tap_86 : decode cX1_tap 86 = .ok (.iadd, 1) := by decide +kernel
theorem dX1_tap_87 : decode cX1_tap 87 = .ok (.iload_n 3, 1) := by decide +kernel
theorem dX1_tap_88 : decode cX1_tap 88 = .ok (.iastore, 1) := by decide +kernel
theorem dX1_tap_89 : decode cX1_tap 89 = .ok (.aload_n 0, 1) := by decide +kernel
theorem dX1_tap_90 : decode cX1_tap 90 = .ok (.getfield 23, 3) := by decide +kernel
theorem dX1_tap_93 : decode cX1_tap 93 = .ok (.iload_n 1, 1) := by decide +kernel
theorem dX1_tap_94 : decode cX1_tap 94 = .ok (.dup2, 1) := by decide +kernel
theorem dX1_tap_95 : decode cX1_tap 95 = .ok (.iaload, 1) := by decide +kernel
theorem dX1_tap_96 : decode cX1_tap 96 = .ok (.iconst 1, 1) := by decide +kernel
theorem dX1_tap_97 : decode cX1_tap 97 = .ok (.iadd, 1) := by decide +kernel
theorem dX1_tap_98 : decode cX1_tap 98 = .ok (.iastore, 1) := by decide +kernel
theorem dX1_tap_99 : decode cX1_tap 99 = .ok (.aload_n 0, 1) := by decide +kernel
theorem dX1_tap_100 : decode cX1_tap 100 = .ok (.invokevirtual 55, 3) := by decide +kernel
theorem dX1_tap_103 : decode cX1_tap 103 = .ok (.aload_n 0, 1) := by decide +kernel
theorem dX1_tap_104 : decode cX1_tap 104 = .ok (.getfield 23, 3) := by decide +kernel
theorem dX1_tap_107 : decode cX1_tap 107 = .ok (.iload_n 1, 1) := by decide +kernel
theorem dX1_tap_108 : decode cX1_tap 108 = .ok (.iaload, 1) := by decide +kernel
theorem dX1_tap_109 : decode cX1_tap 109 = .ok (.ireturn, 1) := by decide +kernel
abbrev cX1_nodes : ByteArray := prog_3_method_7_code
def yX1_nodes : MethodName := ⟨RX1, "nodes", "()I"⟩
theorem dX1_nodes_0 : decode cX1_nodes 0 = .ok (.aload_n 0, 1) := by decide +kernel
theorem dX1_nodes_1 : decode cX1_nodes 1 = .ok (.getfield 7, 3) := by decide +kernel
theorem dX1_nodes_4 : decode cX1_nodes 4 = .ok (.ireturn, 1) := by decide +kernel
abbrev cX1_sound : ByteArray := prog_3_method_9_code
def yX1_sound : MethodName := ⟨RX1, "sound", "()Z"⟩
theorem dX1_sound_0 : decode cX1_sound 0 = .ok (.iconst 0, 1) := by decide +kernel
theorem dX1_sound_1 : decode cX1_sound 1 = .ok (.istore_n 1, 1) := by decide +kernel
theorem dX1_sound_2 : decode cX1_sound 2 = .ok (.iload_n 1, 1) := by decide +kernel
theorem dX1_sound_3 : decode cX1_sound 3 = .ok (.aload_n 0, 1) := by decide +kernel
theorem dX1_sound_4 : decode cX1_sound 4 = .ok (.getfield 7, 3) := by decide +kernel
theorem dX1_sound_7 : decode cX1_sound 7 = .ok (.if_icmp .ge 20, 3) := by decide +kernel
theorem dX1_sound_10 : decode cX1_sound 10 = .ok (.aload_n 0, 1) := by decide +kernel
theorem dX1_sound_11 : decode cX1_sound 11 = .ok (.getfield 41, 3) := by decide +kernel
theorem dX1_sound_14 : decode cX1_sound 14 = .ok (.iload_n 1, 1) := by decide +kernel
theorem dX1_sound_15 : decode cX1_sound 15 = .ok (.aload_n 0, 1) := by decide +kernel
theorem dX1_sound_16 : decode cX1_sound 16 = .ok (.iload_n 1, 1) := by decide +kernel
theorem dX1_sound_17 : decode cX1_sound 17 = .ok (.invokevirtual 58, 3) := by decide +kernel
theorem dX1_sound_20 : decode cX1_sound 20 = .ok (.iastore, 1) := by decide +kernel
theorem dX1_sound_21 : decode cX1_sound 21 = .ok (.iinc 1 1, 3) := by decide +kernel
theorem dX1_sound_24 : decode cX1_sound 24 = .ok (.goto (-22), 3) := by decide +kernel
theorem dX1_sound_27 : decode cX1_sound 27 = .ok (.iconst 0, 1) := by decide +kernel
theorem dX1_sound_28 : decode cX1_sound 28 = .ok (.istore_n 1, 1) := by decide +kernel
theorem dX1_sound_29 : decode cX1_sound 29 = .ok (.iload_n 1, 1) := by decide +kernel
theorem dX1_sound_30 : decode cX1_sound 30 = .ok (.aload_n 0, 1) := by decide +kernel
theorem dX1_sound_31 : decode cX1_sound 31 = .ok (.getfield 7, 3) := by decide +kernel
theorem dX1_sound_34 : decode cX1_sound 34 = .ok (.if_icmp .ge 58, 3) := by decide +kernel
theorem dX1_sound_37 : decode cX1_sound 37 = .ok (.iconst 0, 1) := by decide +kernel
theorem dX1_sound_38 : decode cX1_sound 38 = .ok (.istore_n 2, 1) := by decide +kernel
theorem dX1_sound_39 : decode cX1_sound 39 = .ok (.iload_n 2, 1) := by decide +kernel
theorem dX1_sound_40 : decode cX1_sound 40 = .ok (.aload_n 0, 1) := by decide +kernel
theorem dX1_sound_41 : decode cX1_sound 41 = .ok (.getfield 7, 3) := by decide +kernel
theorem dX1_sound_44 : decode cX1_sound 44 = .ok (.if_icmp .ge 42, 3) := by decide +kernel
theorem dX1_sound_47 : decode cX1_sound 47 = .ok (.aload_n 0, 1) := by decide +kernel
theorem dX1_sound_48 : decode cX1_sound 48 = .ok (.getfield 41, 3) := by decide +kernel
theorem dX1_sound_51 : decode cX1_sound 51 = .ok (.iload_n 2, 1) := by decide +kernel
theorem dX1_sound_52 : decode cX1_sound 52 = .ok (.iaload, 1) := by decide +kernel
theorem dX1_sound_53 : decode cX1_sound 53 = .ok (.iload_n 1, 1) := by decide +kernel
theorem dX1_sound_54 : decode cX1_sound 54 = .ok (.ishr, 1) := by decide +kernel
theorem dX1_sound_55 : decode cX1_sound 55 = .ok (.iconst 1, 1) := by decide +kernel
theorem dX1_sound_56 : decode cX1_sound 56 = .ok (.iand, 1) := by decide +kernel
theorem dX1_sound_57 : decode cX1_sound 57 = .ok (.iconst 1, 1) := by decide +kernel
theorem dX1_sound_58 : decode cX1_sound 58 = .ok (.if_icmp .ne 22, 3) := by decide +kernel
theorem dX1_sound_61 : decode cX1_sound 61 = .ok (.aload_n 0, 1) := by decide +kernel
theorem dX1_sound_62 : decode cX1_sound 62 = .ok (.getfield 41, 3) := by decide +kernel
theorem dX1_sound_65 : decode cX1_sound 65 = .ok (.iload_n 2, 1) := by decide +kernel
theorem dX1_sound_66 : decode cX1_sound 66 = .ok (.aload_n 0, 1) := by decide +kernel
theorem dX1_sound_67 : decode cX1_sound 67 = .ok (.getfield 41, 3) := by decide +kernel
theorem dX1_sound_70 : decode cX1_sound 70 = .ok (.iload_n 2, 1) := by decide +kernel
theorem dX1_sound_71 : decode cX1_sound 71 = .ok (.iaload, 1) := by decide +kernel
theorem dX1_sound_72 : decode cX1_sound 72 = .ok (.aload_n 0, 1) := by decide +kernel
theorem dX1_sound_73 : decode cX1_sound 73 = .ok (.getfield 41, 3) := by decide +kernel
theorem dX1_sound_76 : decode cX1_sound 76 = .ok (.iload_n 1, 1) := by decide +kernel
theorem dX1_sound_77 : decode cX1_sound 77 = .ok (.iaload, 1) := by decide +kernel
theorem dX1_sound_78 : decode cX1_sound 78 = .ok (.ior, 1) := by decide +kernel
theorem dX1_sound_79 : decode cX1_sound 79 = .ok (.iastore, 1) := by decide +kernel
theorem dX1_sound_80 : decode cX1_sound 80 = .ok (.iinc 2 1, 3) := by decide +kernel
theorem dX1_sound_83 : decode cX1_sound 83 = .ok (.goto (-44), 3) := by decide +kernel
theorem dX1_sound_86 : decode cX1_sound 86 = .ok (.iinc 1 1, 3) := by decide +kernel
theorem dX1_sound_89 : decode cX1_sound 89 = .ok (.goto (-60), 3) := by decide +kernel
theorem dX1_sound_92 : decode cX1_sound 92 = .ok (.iconst 0, 1) := by decide +kernel
theorem dX1_sound_93 : decode cX1_sound 93 = .ok (.istore_n 1, 1) := by decide +kernel
theorem dX1_sound_94 : decode cX1_sound 94 = .ok (.iload_n 1, 1) := by decide +kernel
theorem dX1_sound_95 : decode cX1_sound 95 = .ok (.aload_n 0, 1) := by decide +kernel
theorem dX1_sound_96 : decode cX1_sound 96 = .ok (.getfield 7, 3) := by decide +kernel
theorem dX1_sound_99 : decode cX1_sound 99 = .ok (.if_icmp .ge 25, 3) := by decide +kernel
theorem dX1_sound_102 : decode cX1_sound 102 = .ok (.aload_n 0, 1) := by decide +kernel
theorem dX1_sound_103 : decode cX1_sound 103 = .ok (.getfield 41, 3) := by decide +kernel
theorem dX1_sound_106 : decode cX1_sound 106 = .ok (.iload_n 1, 1) := by decide +kernel
theorem dX1_sound_107 : decode cX1_sound 107 = .ok (.iaload, 1) := by decide +kernel
theorem dX1_sound_108 : decode cX1_sound 108 = .ok (.iload_n 1, 1) := by decide +kernel
theorem dX1_sound_109 : decode cX1_sound 109 = .ok (.ishr, 1) := by decide +kernel
theorem dX1_sound_110 : decode cX1_sound 110 = .ok (.iconst 1, 1) := by decide +kernel
theorem dX1_sound_111 : decode cX1_sound 111 = .ok (.iand, 1) := by decide +kernel
theorem dX1_sound_112 : decode cX1_sound 112 = .ok (.iconst 1, 1) := by decide +kernel
theorem dX1_sound_113 : decode cX1_sound 113 = .ok (.if_icmp .ne 5, 3) := by decide +kernel
theorem dX1_sound_116 : decode cX1_sound 116 = .ok (.iconst 0, 1) := by decide +kernel
theorem dX1_sound_117 : decode cX1_sound 117 = .ok (.ireturn, 1) := by decide +kernel
theorem dX1_sound_118 : decode cX1_sound 118 = .ok (.iinc 1 1, 3) := by decide +kernel
theorem dX1_sound_121 : decode cX1_sound 121 = .ok (.goto (-27), 3) := by decide +kernel
theorem dX1_sound_124 : decode cX1_sound 124 = .ok (.iconst 1, 1) := by decide +kernel
theorem dX1_sound_125 : decode cX1_sound 125 = .ok (.ireturn, 1) := by decide +kernel
abbrev cX1_namedBy : ByteArray := prog_3_method_8_code
def yX1_namedBy : MethodName := ⟨RX1, "namedBy", "(I)I"⟩
theorem dX1_namedBy_0 : decode cX1_namedBy 0 = .ok (.iconst 0, 1) := by decide +kernel
theorem dX1_namedBy_1 : decode cX1_namedBy 1 = .ok (.istore_n 2, 1) := by decide +kernel
theorem dX1_namedBy_2 : decode cX1_namedBy 2 = .ok (.aload_n 0, 1) := by decide +kernel
theorem dX1_namedBy_3 : decode cX1_namedBy 3 = .ok (.getfield 13, 3) := by decide +kernel
theorem dX1_namedBy_6 : decode cX1_namedBy 6 = .ok (.iload_n 1, 1) := by decide +kernel
theorem dX1_namedBy_7 : decode cX1_namedBy 7 = .ok (.iaload, 1) := by decide +kernel
theorem dX1_namedBy_8 : decode cX1_namedBy 8 = .ok (.iconst 3, 1) := by decide +kernel
theorem dX1_namedBy_9 : decode cX1_namedBy 9 = .ok (.if_icmp .lt 23, 3) := by decide +kernel
theorem dX1_namedBy_12 : decode cX1_namedBy 12 = .ok (.aload_n 0, 1) := by decide +kernel
theorem dX1_namedBy_13 : decode cX1_namedBy 13 = .ok (.getfield 13, 3) := by decide +kernel
theorem dX1_namedBy_16 : decode cX1_namedBy 16 = .ok (.iload_n 1, 1) := by decide +kernel
theorem dX1_namedBy_17 : decode cX1_namedBy 17 = .ok (.iaload, 1) := by decide +kernel
theorem dX1_namedBy_18 : decode cX1_namedBy 18 = .ok (.bipush 9, 2) := by decide +kernel
theorem dX1_namedBy_20 : decode cX1_namedBy 20 = .ok (.if_icmp .gt 12, 3) := by decide +kernel
theorem dX1_namedBy_23 : decode cX1_namedBy 23 = .ok (.iconst 1, 1) := by decide +kernel
theorem dX1_namedBy_24 : decode cX1_namedBy 24 = .ok (.aload_n 0, 1) := by decide +kernel
theorem dX1_namedBy_25 : decode cX1_namedBy 25 = .ok (.getfield 17, 3) := by decide +kernel
theorem dX1_namedBy_28 : decode cX1_namedBy 28 = .ok (.iload_n 1, 1) := by decide +kernel
theorem dX1_namedBy_29 : decode cX1_namedBy 29 = .ok (.iaload, 1) := by decide +kernel
theorem dX1_namedBy_30 : decode cX1_namedBy 30 = .ok (.ishl, 1) := by decide +kernel
theorem dX1_namedBy_31 : decode cX1_namedBy 31 = .ok (.istore_n 2, 1) := by decide +kernel
theorem dX1_namedBy_32 : decode cX1_namedBy 32 = .ok (.aload_n 0, 1) := by decide +kernel
theorem dX1_namedBy_33 : decode cX1_namedBy 33 = .ok (.getfield 13, 3) := by decide +kernel
theorem dX1_namedBy_36 : decode cX1_namedBy 36 = .ok (.iload_n 1, 1) := by decide +kernel
theorem dX1_namedBy_37 : decode cX1_namedBy 37 = .ok (.iaload, 1) := by decide +kernel
theorem dX1_namedBy_38 : decode cX1_namedBy 38 = .ok (.iconst 3, 1) := by decide +kernel
theorem dX1_namedBy_39 : decode cX1_namedBy 39 = .ok (.if_icmp .lt 24, 3) := by decide +kernel
theorem dX1_namedBy_42 : decode cX1_namedBy 42 = .ok (.aload_n 0, 1) := by decide +kernel
theorem dX1_namedBy_43 : decode cX1_namedBy 43 = .ok (.getfield 13, 3) := by decide +kernel
theorem dX1_namedBy_46 : decode cX1_namedBy 46 = .ok (.iload_n 1, 1) := by decide +kernel
theorem dX1_namedBy_47 : decode cX1_namedBy 47 = .ok (.iaload, 1) := by decide +kernel
theorem dX1_namedBy_48 : decode cX1_namedBy 48 = .ok (.iconst 5, 1) := by decide +kernel
theorem dX1_namedBy_49 : decode cX1_namedBy 49 = .ok (.if_icmp .gt 14, 3) := by decide +kernel
theorem dX1_namedBy_52 : decode cX1_namedBy 52 = .ok (.iload_n 2, 1) := by decide +kernel
theorem dX1_namedBy_53 : decode cX1_namedBy 53 = .ok (.iconst 1, 1) := by decide +kernel
theorem dX1_namedBy_54 : decode cX1_namedBy 54 = .ok (.aload_n 0, 1) := by decide +kernel
theorem dX1_namedBy_55 : decode cX1_namedBy 55 = .ok (.getfield 20, 3) := by decide +kernel
theorem dX1_namedBy_58 : decode cX1_namedBy 58 = .ok (.iload_n 1, 1) := by decide +kernel
theorem dX1_namedBy_59 : decode cX1_namedBy 59 = .ok (.iaload, 1) := by decide +kernel
theorem dX1_namedBy_60 : decode cX1_namedBy 60 = .ok (.ishl, 1) := by decide +kernel
theorem dX1_namedBy_61 : decode cX1_namedBy 61 = .ok (.ior, 1) := by decide +kernel
theorem dX1_namedBy_62 : decode cX1_namedBy 62 = .ok (.istore_n 2, 1) := by decide +kernel
theorem dX1_namedBy_63 : decode cX1_namedBy 63 = .ok (.iconst 0, 1) := by decide +kernel
theorem dX1_namedBy_64 : decode cX1_namedBy 64 = .ok (.istore_n 3, 1) := by decide +kernel
theorem dX1_namedBy_65 : decode cX1_namedBy 65 = .ok (.iload_n 3, 1) := by decide +kernel
theorem dX1_namedBy_66 : decode cX1_namedBy 66 = .ok (.aload_n 0, 1) := by decide +kernel
theorem dX1_namedBy_67 : decode cX1_namedBy 67 = .ok (.getfield 23, 3) := by decide +kernel
theorem dX1_namedBy_70 : decode cX1_namedBy 70 = .ok (.iload_n 1, 1) := by decide +kernel
theorem dX1_namedBy_71 : decode cX1_namedBy 71 = .ok (.iaload, 1) := by decide +kernel
theorem dX1_namedBy_72 : decode cX1_namedBy 72 = .ok (.if_icmp .ge 25, 3) := by decide +kernel
theorem dX1_namedBy_75 : decode cX1_namedBy 75 = .ok (.iload_n 2, 1) := by decide +kernel
theorem dX1_namedBy_76 : decode cX1_namedBy 76 = .ok (.iconst 1, 1) := by decide +kernel
theorem dX1_namedBy_77 : decode cX1_namedBy 77 = .ok (.aload_n 0, 1) := by decide +kernel
theorem dX1_namedBy_78 : decode cX1_namedBy 78 = .ok (.getfield 26, 3) := by decide +kernel
theorem dX1_namedBy_81 : decode cX1_namedBy 81 = .ok (.bipush 6, 2) := by decide +kernel
theorem dX1_namedBy_83 : decode cX1_namedBy 83 = .ok (.iload_n 1, 1) := by decide +kernel
theorem dX1_namedBy_84 : decode cX1_namedBy 84 = .ok (.imul, 1) := by decide +kernel
theorem dX1_namedBy_85 : decode cX1_namedBy 85 = .ok (.iload_n 3, 1) := by decide +kernel
theorem dX1_namedBy_86 : decode cX1_namedBy 86 = .ok (.iadd, 1) := by decide +kernel
theorem dX1_namedBy_87 : decode cX1_namedBy 87 = .ok (.iaload, 1) := by decide +kernel
theorem dX1_namedBy_88 : decode cX1_namedBy 88 = .ok (.ishl, 1) := by decide +kernel
theorem dX1_namedBy_89 : decode cX1_namedBy 89 = .ok (.ior, 1) := by decide +kernel
theorem dX1_namedBy_90 : decode cX1_namedBy 90 = .ok (.istore_n 2, 1) := by decide +kernel
theorem dX1_namedBy_91 : decode cX1_namedBy 91 = .ok (.iinc 3 1, 3) := by decide +kernel
theorem dX1_namedBy_94 : decode cX1_namedBy 94 = .ok (.goto (-29), 3) := by decide +kernel
theorem dX1_namedBy_97 : decode cX1_namedBy 97 = .ok (.iload_n 2, 1) := by decide +kernel
theorem dX1_namedBy_98 : decode cX1_namedBy 98 = .ok (.iconst 1, 1) := by decide +kernel
theorem dX1_namedBy_99 : decode cX1_namedBy 99 = .ok (.aload_n 0, 1) := by decide +kernel
theorem dX1_namedBy_100 : decode cX1_namedBy 100 = .ok (.getfield 7, 3) := by decide +kernel
theorem dX1_namedBy_103 : decode cX1_namedBy 103 = .ok (.ishl, 1) := by decide +kernel
theorem dX1_namedBy_104 : decode cX1_namedBy 104 = .ok (.iconst 1, 1) := by decide +kernel
theorem dX1_namedBy_105 : decode cX1_namedBy 105 = .ok (.isub, 1) := by decide +kernel
theorem dX1_namedBy_106 : decode cX1_namedBy 106 = .ok (.iand, 1) := by decide +kernel
theorem dX1_namedBy_107 : decode cX1_namedBy 107 = .ok (.ireturn, 1) := by decide +kernel
end
section
set_option maxRecDepth 100000
abbrev cX1_feed : ByteArray := prog_3_method_14_code
def yX1_feed : MethodName := ⟨RX1, "feed", "(I)Z"⟩
theorem dX1_feed_0 : decode cX1_feed 0 = .ok (.aload_n 0, 1) := by decide +kernel
theorem dX1_feed_1 : decode cX1_feed 1 = .ok (.invokevirtual 78, 3) := by decide +kernel
theorem dX1_feed_4 : decode cX1_feed 4 = .ok (.ifCond .ne 5, 3) := by decide +kernel
theorem dX1_feed_7 : decode cX1_feed 7 = .ok (.iconst 0, 1) := by decide +kernel
theorem dX1_feed_8 : decode cX1_feed 8 = .ok (.ireturn, 1) := by decide +kernel
theorem dX1_feed_9 : decode cX1_feed 9 = .ok (.iconst 0, 1) := by decide +kernel
theorem dX1_feed_10 : decode cX1_feed 10 = .ok (.istore_n 2, 1) := by decide +kernel
theorem dX1_feed_11 : decode cX1_feed 11 = .ok (.iload_n 2, 1) := by decide +kernel
theorem dX1_feed_12 : decode cX1_feed 12 = .ok (.aload_n 0, 1) := by decide +kernel
theorem dX1_feed_13 : decode cX1_feed 13 = .ok (.getfield 7, 3) := by decide +kernel
theorem dX1_feed_16 : decode cX1_feed 16 = .ok (.if_icmp .ge 21, 3) := by decide +kernel
theorem dX1_feed_19 : decode cX1_feed 19 = .ok (.aload_n 0, 1) := by decide +kernel
theorem dX1_feed_20 : decode cX1_feed 20 = .ok (.getfield 35, 3) := by decide +kernel
theorem dX1_feed_23 : decode cX1_feed 23 = .ok (.iload_n 2, 1) := by decide +kernel
theorem dX1_feed_24 : decode cX1_feed 24 = .ok (.aload_n 0, 1) := by decide +kernel
theorem dX1_feed_25 : decode cX1_feed 25 = .ok (.getfield 32, 3) := by decide +kernel
theorem dX1_feed_28 : decode cX1_feed 28 = .ok (.iload_n 2, 1) := by decide +kernel
theorem dX1_feed_29 : decode cX1_feed 29 = .ok (.iaload, 1) := by decide +kernel
theorem dX1_feed_30 : decode cX1_feed 30 = .ok (.iastore, 1) := by decide +kernel
theorem dX1_feed_31 : decode cX1_feed 31 = .ok (.iinc 2 1, 3) := by decide +kernel
theorem dX1_feed_34 : decode cX1_feed 34 = .ok (.goto (-23), 3) := by decide +kernel
theorem dX1_feed_37 : decode cX1_feed 37 = .ok (.iconst 0, 1) := by decide +kernel
theorem dX1_feed_38 : decode cX1_feed 38 = .ok (.istore_n 2, 1) := by decide +kernel
theorem dX1_feed_39 : decode cX1_feed 39 = .ok (.iload_n 2, 1) := by decide +kernel
theorem dX1_feed_40 : decode cX1_feed 40 = .ok (.bipush 20, 2) := by decide +kernel
theorem dX1_feed_42 : decode cX1_feed 42 = .ok (.if_icmp .ge 37, 3) := by decide +kernel
theorem dX1_feed_45 : decode cX1_feed 45 = .ok (.iconst 0, 1) := by decide +kernel
theorem dX1_feed_46 : decode cX1_feed 46 = .ok (.istore_n 3, 1) := by decide +kernel
theorem dX1_feed_47 : decode cX1_feed 47 = .ok (.iload_n 3, 1) := by decide +kernel
theorem dX1_feed_48 : decode cX1_feed 48 = .ok (.aload_n 0, 1) := by decide +kernel
theorem dX1_feed_49 : decode cX1_feed 49 = .ok (.getfield 7, 3) := by decide +kernel
theorem dX1_feed_52 : decode cX1_feed 52 = .ok (.if_icmp .ge 21, 3) := by decide +kernel
theorem dX1_feed_55 : decode cX1_feed 55 = .ok (.aload_n 0, 1) := by decide +kernel
theorem dX1_feed_56 : decode cX1_feed 56 = .ok (.getfield 32, 3) := by decide +kernel
theorem dX1_feed_59 : decode cX1_feed 59 = .ok (.iload_n 3, 1) := by decide +kernel
theorem dX1_feed_60 : decode cX1_feed 60 = .ok (.aload_n 0, 1) := by decide +kernel
theorem dX1_feed_61 : decode cX1_feed 61 = .ok (.iload_n 3, 1) := by decide +kernel
theorem dX1_feed_62 : decode cX1_feed 62 = .ok (.iload_n 1, 1) := by decide +kernel
theorem dX1_feed_63 : decode cX1_feed 63 = .ok (.invokevirtual 82, 3) := by decide +kernel
theorem dX1_feed_66 : decode cX1_feed 66 = .ok (.iastore, 1) := by decide +kernel
theorem dX1_feed_67 : decode cX1_feed 67 = .ok (.iinc 3 1, 3) := by decide +kernel
theorem dX1_feed_70 : decode cX1_feed 70 = .ok (.goto (-23), 3) := by decide +kernel
theorem dX1_feed_73 : decode cX1_feed 73 = .ok (.iinc 2 1, 3) := by decide +kernel
theorem dX1_feed_76 : decode cX1_feed 76 = .ok (.goto (-37), 3) := by decide +kernel
theorem dX1_feed_79 : decode cX1_feed 79 = .ok (.aload_n 0, 1) := by decide +kernel
theorem dX1_feed_80 : decode cX1_feed 80 = .ok (.dup, 1) := by decide +kernel
theorem dX1_feed_81 : decode cX1_feed 81 = .ok (.getfield 38, 3) := by decide +kernel
theorem dX1_feed_84 : decode cX1_feed 84 = .ok (.iconst 1, 1) := by decide +kernel
theorem dX1_feed_85 : decode cX1_feed 85 = .ok (.iadd, 1) := by decide +kernel
theorem dX1_feed_86 : decode cX1_feed 86 = .ok (.putfield 38, 3) := by decide +kernel
theorem dX1_feed_89 : decode cX1_feed 89 = .ok (.iconst 1, 1) := by decide +kernel
theorem dX1_feed_90 : decode cX1_feed 90 = .ok (.ireturn, 1) := by decide +kernel
abbrev cX1_worth : ByteArray := prog_3_method_13_code
def yX1_worth : MethodName := ⟨RX1, "worth", "(II)I"⟩
theorem dX1_worth_0 : decode cX1_worth 0 = .ok (.aload_n 0, 1) := by decide +kernel
theorem dX1_worth_1 : decode cX1_worth 1 = .ok (.getfield 13, 3) := by decide +kernel
theorem dX1_worth_4 : decode cX1_worth 4 = .ok (.iload_n 1, 1) := by decide +kernel
theorem dX1_worth_5 : decode cX1_worth 5 = .ok (.iaload, 1) := by decide +kernel
theorem dX1_worth_6 : decode cX1_worth 6 = .ok (.ifCond .ne 10, 3) := by decide +kernel
theorem dX1_worth_9 : decode cX1_worth 9 = .ok (.aload_n 0, 1) := by decide +kernel
theorem dX1_worth_10 : decode cX1_worth 10 = .ok (.iload_n 2, 1) := by decide +kernel
theorem dX1_worth_11 : decode cX1_worth 11 = .ok (.i2l, 1) := by decide +kernel
theorem dX1_worth_12 : decode cX1_worth 12 = .ok (.invokevirtual 71, 3) := by decide +kernel
theorem dX1_worth_15 : decode cX1_worth 15 = .ok (.ireturn, 1) := by decide +kernel
theorem dX1_worth_16 : decode cX1_worth 16 = .ok (.aload_n 0, 1) := by decide +kernel
theorem dX1_worth_17 : decode cX1_worth 17 = .ok (.getfield 13, 3) := by decide +kernel
theorem dX1_worth_20 : decode cX1_worth 20 = .ok (.iload_n 1, 1) := by decide +kernel
theorem dX1_worth_21 : decode cX1_worth 21 = .ok (.iaload, 1) := by decide +kernel
theorem dX1_worth_22 : decode cX1_worth 22 = .ok (.iconst 1, 1) := by decide +kernel
theorem dX1_worth_23 : decode cX1_worth 23 = .ok (.if_icmp .ne 10, 3) := by decide +kernel
theorem dX1_worth_26 : decode cX1_worth 26 = .ok (.aload_n 0, 1) := by decide +kernel
theorem dX1_worth_27 : decode cX1_worth 27 = .ok (.getfield 17, 3) := by decide +kernel
theorem dX1_worth_30 : decode cX1_worth 30 = .ok (.iload_n 1, 1) := by decide +kernel
theorem dX1_worth_31 : decode cX1_worth 31 = .ok (.iaload, 1) := by decide +kernel
theorem dX1_worth_32 : decode cX1_worth 32 = .ok (.ireturn, 1) := by decide +kernel
theorem dX1_worth_33 : decode cX1_worth 33 = .ok (.aload_n 0, 1) := by decide +kernel
theorem dX1_worth_34 : decode cX1_worth 34 = .ok (.getfield 13, 3) := by decide +kernel
theorem dX1_worth_37 : decode cX1_worth 37 = .ok (.iload_n 1, 1) := by decide +kernel
theorem dX1_worth_38 : decode cX1_worth 38 = .ok (.iaload, 1) := by decide +kernel
theorem dX1_worth_39 : decode cX1_worth 39 = .ok (.bipush 10, 2) := by decide +kernel
theorem dX1_worth_41 : decode cX1_worth 41 = .ok (.if_icmp .ne 9, 3) := by decide +kernel
theorem dX1_worth_44 : decode cX1_worth 44 = .ok (.aload_n 0, 1) := by decide +kernel
theorem dX1_worth_45 : decode cX1_worth 45 = .ok (.iload_n 1, 1) := by decide +kernel
theorem dX1_worth_46 : decode cX1_worth 46 = .ok (.invokevirtual 75, 3) := by decide +kernel
theorem dX1_worth_49 : decode cX1_worth 49 = .ok (.ireturn, 1) := by decide +kernel
theorem dX1_worth_50 : decode cX1_worth 50 = .ok (.aload_n 0, 1) := by decide +kernel
theorem dX1_worth_51 : decode cX1_worth 51 = .ok (.getfield 13, 3) := by decide +kernel
theorem dX1_worth_54 : decode cX1_worth 54 = .ok (.iload_n 1, 1) := by decide +kernel
theorem dX1_worth_55 : decode cX1_worth 55 = .ok (.iaload, 1) := by decide +kernel
theorem dX1_worth_56 : decode cX1_worth 56 = .ok (.iconst 2, 1) := by decide +kernel
theorem dX1_worth_57 : decode cX1_worth 57 = .ok (.if_icmp .ne 39, 3) := by decide +kernel
theorem dX1_worth_60 : decode cX1_worth 60 = .ok (.aload_n 0, 1) := by decide +kernel
theorem dX1_worth_61 : decode cX1_worth 61 = .ok (.getfield 38, 3) := by decide +kernel
theorem dX1_worth_64 : decode cX1_worth 64 = .ok (.ifCond .eq 16, 3) := by decide +kernel
theorem dX1_worth_67 : decode cX1_worth 67 = .ok (.aload_n 0, 1) := by decide +kernel
theorem dX1_worth_68 : decode cX1_worth 68 = .ok (.getfield 17, 3) := by decide +kernel
theorem dX1_worth_71 : decode cX1_worth 71 = .ok (.iload_n 1, 1) := by decide +kernel
theorem dX1_worth_72 : decode cX1_worth 72 = .ok (.iaload, 1) := by decide +kernel
theorem dX1_worth_73 : decode cX1_worth 73 = .ok (.aload_n 0, 1) := by decide +kernel
theorem dX1_worth_74 : decode cX1_worth 74 = .ok (.getfield 7, 3) := by decide +kernel
theorem dX1_worth_77 : decode cX1_worth 77 = .ok (.if_icmp .lt 7, 3) := by decide +kernel
theorem dX1_worth_80 : decode cX1_worth 80 = .ok (.iconst 0, 1) := by decide +kernel
theorem dX1_worth_81 : decode cX1_worth 81 = .ok (.goto 14, 3) := by decide +kernel
theorem dX1_worth_84 : decode cX1_worth 84 = .ok (.aload_n 0, 1) := by decide +kernel
theorem dX1_worth_85 : decode cX1_worth 85 = .ok (.getfield 35, 3) := by decide +kernel
theorem dX1_worth_88 : decode cX1_worth 88 = .ok (.aload_n 0, 1) := by decide +kernel
theorem dX1_worth_89 : decode cX1_worth 89 = .ok (.getfield 17, 3) := by decide +kernel
theorem dX1_worth_92 : decode cX1_worth 92 = .ok (.iload_n 1, 1) := by decide +kernel
theorem dX1_worth_93 : decode cX1_worth 93 = .ok (.iaload, 1) := by decide +kernel
theorem dX1_worth_94 : decode cX1_worth 94 = .ok (.iaload, 1) := by decide +kernel
theorem dX1_worth_95 : decode cX1_worth 95 = .ok (.ireturn, 1) := by decide +kernel
theorem dX1_worth_96 : decode cX1_worth 96 = .ok (.aload_n 0, 1) := by decide +kernel
theorem dX1_worth_97 : decode cX1_worth 97 = .ok (.aload_n 0, 1) := by decide +kernel
theorem dX1_worth_98 : decode cX1_worth 98 = .ok (.getfield 17, 3) := by decide +kernel
theorem dX1_worth_101 : decode cX1_worth 101 = .ok (.iload_n 1, 1) := by decide +kernel
theorem dX1_worth_102 : decode cX1_worth 102 = .ok (.iaload, 1) := by decide +kernel
theorem dX1_worth_103 : decode cX1_worth 103 = .ok (.invokevirtual 68, 3) := by decide +kernel
theorem dX1_worth_106 : decode cX1_worth 106 = .ok (.istore_n 3, 1) := by decide +kernel
theorem dX1_worth_107 : decode cX1_worth 107 = .ok (.aload_n 0, 1) := by decide +kernel
theorem dX1_worth_108 : decode cX1_worth 108 = .ok (.getfield 13, 3) := by decide +kernel
theorem dX1_worth_111 : decode cX1_worth 111 = .ok (.iload_n 1, 1) := by decide +kernel
theorem dX1_worth_112 : decode cX1_worth 112 = .ok (.iaload, 1) := by decide +kernel
theorem dX1_worth_113 : decode cX1_worth 113 = .ok (.bipush 6, 2) := by decide +kernel
theorem dX1_worth_115 : decode cX1_worth 115 = .ok (.if_icmp .ne 11, 3) := by decide +kernel
theorem dX1_worth_118 : decode cX1_worth 118 = .ok (.aload_n 0, 1) := by decide +kernel
theorem dX1_worth_119 : decode cX1_worth 119 = .ok (.iload_n 3, 1) := by decide +kernel
theorem dX1_worth_120 : decode cX1_worth 120 = .ok (.ineg, 1) := by decide +kernel
theorem dX1_worth_121 : decode cX1_worth 121 = .ok (.i2l, 1) := by decide +kernel
theorem dX1_worth_122 : decode cX1_worth 122 = .ok (.invokevirtual 71, 3) := by decide +kernel
theorem dX1_worth_125 : decode cX1_worth 125 = .ok (.ireturn, 1) := by decide +kernel
theorem dX1_worth_126 : decode cX1_worth 126 = .ok (.aload_n 0, 1) := by decide +kernel
theorem dX1_worth_127 : decode cX1_worth 127 = .ok (.getfield 13, 3) := by decide +kernel
theorem dX1_worth_130 : decode cX1_worth 130 = .ok (.iload_n 1, 1) := by decide +kernel
theorem dX1_worth_131 : decode cX1_worth 131 = .ok (.iaload, 1) := by decide +kernel
theorem dX1_worth_132 : decode cX1_worth 132 = .ok (.bipush 7, 2) := by decide +kernel
theorem dX1_worth_134 : decode cX1_worth 134 = .ok (.if_icmp .ne 20, 3) := by decide +kernel
theorem dX1_worth_137 : decode cX1_worth 137 = .ok (.aload_n 0, 1) := by decide +kernel
theorem dX1_worth_138 : decode cX1_worth 138 = .ok (.iload_n 3, 1) := by decide +kernel
theorem dX1_worth_139 : decode cX1_worth 139 = .ok (.ifCond .ge 9, 3) := by decide +kernel
theorem dX1_worth_142 : decode cX1_worth 142 = .ok (.iload_n 3, 1) := by decide +kernel
theorem dX1_worth_143 : decode cX1_worth 143 = .ok (.ineg, 1) := by decide +kernel
theorem dX1_worth_144 : decode cX1_worth 144 = .ok (.i2l, 1) := by decide +kernel
theorem dX1_worth_145 : decode cX1_worth 145 = .ok (.goto 5, 3) := by decide +kernel
theorem dX1_worth_148 : decode cX1_worth 148 = .ok (.iload_n 3, 1) := by decide +kernel
theorem dX1_worth_149 : decode cX1_worth 149 = .ok (.i2l, 1) := by decide +kernel
theorem dX1_worth_150 : decode cX1_worth 150 = .ok (.invokevirtual 71, 3) := by decide +kernel
theorem dX1_worth_153 : decode cX1_worth 153 = .ok (.ireturn, 1) := by decide +kernel
theorem dX1_worth_154 : decode cX1_worth 154 = .ok (.aload_n 0, 1) := by decide +kernel
theorem dX1_worth_155 : decode cX1_worth 155 = .ok (.getfield 13, 3) := by decide +kernel
theorem dX1_worth_158 : decode cX1_worth 158 = .ok (.iload_n 1, 1) := by decide +kernel
theorem dX1_worth_159 : decode cX1_worth 159 = .ok (.iaload, 1) := by decide +kernel
theorem dX1_worth_160 : decode cX1_worth 160 = .ok (.bipush 8, 2) := by decide +kernel
theorem dX1_worth_162 : decode cX1_worth 162 = .ok (.if_icmp .ne 17, 3) := by decide +kernel
theorem dX1_worth_165 : decode cX1_worth 165 = .ok (.aload_n 0, 1) := by decide +kernel
theorem dX1_worth_166 : decode cX1_worth 166 = .ok (.iload_n 3, 1) := by decide +kernel
theorem dX1_worth_167 : decode cX1_worth 167 = .ok (.aload_n 0, 1) := by decide +kernel
theorem dX1_worth_168 : decode cX1_worth 168 = .ok (.getfield 20, 3) := by decide +kernel
theorem dX1_worth_171 : decode cX1_worth 171 = .ok (.iload_n 1, 1) := by decide +kernel
theorem dX1_worth_172 : decode cX1_worth 172 = .ok (.iaload, 1) := by decide +kernel
theorem dX1_worth_173 : decode cX1_worth 173 = .ok (.ishl, 1) := by decide +kernel
theorem dX1_worth_174 : decode cX1_worth 174 = .ok (.i2l, 1) := by decide +kernel
theorem dX1_worth_175 : decode cX1_worth 175 = .ok (.invokevirtual 71, 3) := by decide +kernel
theorem dX1_worth_178 : decode cX1_worth 178 = .ok (.ireturn, 1) := by decide +kernel
theorem dX1_worth_179 : decode cX1_worth 179 = .ok (.aload_n 0, 1) := by decide +kernel
theorem dX1_worth_180 : decode cX1_worth 180 = .ok (.getfield 13, 3) := by decide +kernel
theorem dX1_worth_183 : decode cX1_worth 183 = .ok (.iload_n 1, 1) := by decide +kernel
theorem dX1_worth_184 : decode cX1_worth 184 = .ok (.iaload, 1) := by decide +kernel
theorem dX1_worth_185 : decode cX1_worth 185 = .ok (.bipush 9, 2) := by decide +kernel
theorem dX1_worth_187 : decode cX1_worth 187 = .ok (.if_icmp .ne 12, 3) := by decide +kernel
theorem dX1_worth_190 : decode cX1_worth 190 = .ok (.iload_n 3, 1) := by decide +kernel
theorem dX1_worth_191 : decode cX1_worth 191 = .ok (.aload_n 0, 1) := by decide +kernel
theorem dX1_worth_192 : decode cX1_worth 192 = .ok (.getfield 20, 3) := by decide +kernel
theorem dX1_worth_195 : decode cX1_worth 195 = .ok (.iload_n 1, 1) := by decide +kernel
theorem dX1_worth_196 : decode cX1_worth 196 = .ok (.iaload, 1) := by decide +kernel
theorem dX1_worth_197 : decode cX1_worth 197 = .ok (.ishr, 1) := by decide +kernel
theorem dX1_worth_198 : decode cX1_worth 198 = .ok (.ireturn, 1) := by decide +kernel
theorem dX1_worth_199 : decode cX1_worth 199 = .ok (.aload_n 0, 1) := by decide +kernel
theorem dX1_worth_200 : decode cX1_worth 200 = .ok (.aload_n 0, 1) := by decide +kernel
theorem dX1_worth_201 : decode cX1_worth 201 = .ok (.getfield 20, 3) := by decide +kernel
theorem dX1_worth_204 : decode cX1_worth 204 = .ok (.iload_n 1, 1) := by decide +kernel
theorem dX1_worth_205 : decode cX1_worth 205 = .ok (.iaload, 1) := by decide +kernel
theorem dX1_worth_206 : decode cX1_worth 206 = .ok (.invokevirtual 68, 3) := by decide +kernel
theorem dX1_worth_209 : decode cX1_worth 209 = .ok (.istore 4, 2) := by decide +kernel
theorem dX1_worth_211 : decode cX1_worth 211 = .ok (.aload_n 0, 1) := by decide +kernel
theorem dX1_worth_212 : decode cX1_worth 212 = .ok (.getfield 13, 3) := by decide +kernel
theorem dX1_worth_215 : decode cX1_worth 215 = .ok (.iload_n 1, 1) := by decide +kernel
theorem dX1_worth_216 : decode cX1_worth 216 = .ok (.iaload, 1) := by decide +kernel
theorem dX1_worth_217 : decode cX1_worth 217 = .ok (.iconst 3, 1) := by decide +kernel
theorem dX1_worth_218 : decode cX1_worth 218 = .ok (.if_icmp .ne 13, 3) := by decide +kernel
theorem dX1_worth_221 : decode cX1_worth 221 = .ok (.aload_n 0, 1) := by decide +kernel
theorem dX1_worth_222 : decode cX1_worth 222 = .ok (.iload_n 3, 1) := by decide +kernel
theorem dX1_worth_223 : decode cX1_worth 223 = .ok (.iload 4, 2) := by decide +kernel
theorem dX1_worth_225 : decode cX1_worth 225 = .ok (.iadd, 1) := by decide +kernel
theorem dX1_worth_226 : decode cX1_worth 226 = .ok (.i2l, 1) := by decide +kernel
theorem dX1_worth_227 : decode cX1_worth 227 = .ok (.invokevirtual 71, 3) := by decide +kernel
theorem dX1_worth_230 : decode cX1_worth 230 = .ok (.ireturn, 1) := by decide +kernel
theorem dX1_worth_231 : decode cX1_worth 231 = .ok (.aload_n 0, 1) := by decide +kernel
theorem dX1_worth_232 : decode cX1_worth 232 = .ok (.getfield 13, 3) := by decide +kernel
theorem dX1_worth_235 : decode cX1_worth 235 = .ok (.iload_n 1, 1) := by decide +kernel
theorem dX1_worth_236 : decode cX1_worth 236 = .ok (.iaload, 1) := by decide +kernel
theorem dX1_worth_237 : decode cX1_worth 237 = .ok (.iconst 4, 1) := by decide +kernel
theorem dX1_worth_238 : decode cX1_worth 238 = .ok (.if_icmp .ne 13, 3) := by decide +kernel
theorem dX1_worth_241 : decode cX1_worth 241 = .ok (.aload_n 0, 1) := by decide +kernel
theorem dX1_worth_242 : decode cX1_worth 242 = .ok (.iload_n 3, 1) := by decide +kernel
theorem dX1_worth_243 : decode cX1_worth 243 = .ok (.iload 4, 2) := by decide +kernel
theorem dX1_worth_245 : decode cX1_worth 245 = .ok (.isub, 1) := by decide +kernel
theorem dX1_worth_246 : decode cX1_worth 246 = .ok (.i2l, 1) := by decide +kernel
theorem dX1_worth_247 : decode cX1_worth 247 = .ok (.invokevirtual 71, 3) := by decide +kernel
theorem dX1_worth_250 : decode cX1_worth 250 = .ok (.ireturn, 1) := by decide +kernel
theorem dX1_worth_251 : decode cX1_worth 251 = .ok (.iload_n 3, 1) := by decide +kernel
theorem dX1_worth_252 : decode cX1_worth 252 = .ok (.iload 4, 2) := by decide +kernel
theorem dX1_worth_254 : decode cX1_worth 254 = .ok (.if_icmp .le 7, 3) := by decide +kernel
theorem dX1_worth_257 : decode cX1_worth 257 = .ok (.iload_n 3, 1) := by decide +kernel
theorem dX1_worth_258 : decode cX1_worth 258 = .ok (.goto 5, 3) := by decide +kernel
theorem dX1_worth_261 : decode cX1_worth 261 = .ok (.iload 4, 2) := by decide +kernel
theorem dX1_worth_263 : decode cX1_worth 263 = .ok (.ireturn, 1) := by decide +kernel
abbrev cX1_sat : ByteArray := prog_3_method_10_code
def yX1_sat : MethodName := ⟨RX1, "sat", "(J)I"⟩
theorem dX1_sat_0 : decode cX1_sat 0 = .ok (.lload_n 1, 1) := by decide +kernel
theorem dX1_sat_1 : decode cX1_sat 1 = .ok (.ldc2_w 62, 3) := by decide +kernel
theorem dX1_sat_4 : decode cX1_sat 4 = .ok (.lcmp, 1) := by decide +kernel
theorem dX1_sat_5 : decode cX1_sat 5 = .ok (.ifCond .le 9, 3) := by decide +kernel
theorem dX1_sat_8 : decode cX1_sat 8 = .ok (.sipush 32767, 3) := by decide +kernel
theorem dX1_sat_11 : decode cX1_sat 11 = .ok (.goto 19, 3) := by decide +kernel
theorem dX1_sat_14 : decode cX1_sat 14 = .ok (.lload_n 1, 1) := by decide +kernel
theorem dX1_sat_15 : decode cX1_sat 15 = .ok (.ldc2_w 64, 3) := by decide +kernel
theorem dX1_sat_18 : decode cX1_sat 18 = .ok (.lcmp, 1) := by decide +kernel
theorem dX1_sat_19 : decode cX1_sat 19 = .ok (.ifCond .ge 9, 3) := by decide +kernel
theorem dX1_sat_22 : decode cX1_sat 22 = .ok (.sipush (-32768), 3) := by decide +kernel
theorem dX1_sat_25 : decode cX1_sat 25 = .ok (.goto 5, 3) := by decide +kernel
theorem dX1_sat_28 : decode cX1_sat 28 = .ok (.lload_n 1, 1) := by decide +kernel
theorem dX1_sat_29 : decode cX1_sat 29 = .ok (.l2i, 1) := by decide +kernel
theorem dX1_sat_30 : decode cX1_sat 30 = .ok (.ireturn, 1) := by decide +kernel
abbrev cX1_sumOf : ByteArray := prog_3_method_12_code
def yX1_sumOf : MethodName := ⟨RX1, "sumOf", "(I)I"⟩
theorem dX1_sumOf_0 : decode cX1_sumOf 0 = .ok (.ldc2_w 66, 3) := by decide +kernel
theorem dX1_sumOf_3 : decode cX1_sumOf 3 = .ok (.lstore_n 2, 1) := by decide +kernel
theorem dX1_sumOf_4 : decode cX1_sumOf 4 = .ok (.iconst 0, 1) := by decide +kernel
theorem dX1_sumOf_5 : decode cX1_sumOf 5 = .ok (.istore 4, 2) := by decide +kernel
theorem dX1_sumOf_7 : decode cX1_sumOf 7 = .ok (.iload 4, 2) := by decide +kernel
theorem dX1_sumOf_9 : decode cX1_sumOf 9 = .ok (.aload_n 0, 1) := by decide +kernel
theorem dX1_sumOf_10 : decode cX1_sumOf 10 = .ok (.getfield 23, 3) := by decide +kernel
theorem dX1_sumOf_13 : decode cX1_sumOf 13 = .ok (.iload_n 1, 1) := by decide +kernel
theorem dX1_sumOf_14 : decode cX1_sumOf 14 = .ok (.iaload, 1) := by decide +kernel
theorem dX1_sumOf_15 : decode cX1_sumOf 15 = .ok (.if_icmp .ge 47, 3) := by decide +kernel
theorem dX1_sumOf_18 : decode cX1_sumOf 18 = .ok (.aload_n 0, 1) := by decide +kernel
theorem dX1_sumOf_19 : decode cX1_sumOf 19 = .ok (.aload_n 0, 1) := by decide +kernel
theorem dX1_sumOf_20 : decode cX1_sumOf 20 = .ok (.getfield 26, 3) := by decide +kernel
theorem dX1_sumOf_23 : decode cX1_sumOf 23 = .ok (.bipush 6, 2) := by decide +kernel
theorem dX1_sumOf_25 : decode cX1_sumOf 25 = .ok (.iload_n 1, 1) := by decide +kernel
theorem dX1_sumOf_26 : decode cX1_sumOf 26 = .ok (.imul, 1) := by decide +kernel
theorem dX1_sumOf_27 : decode cX1_sumOf 27 = .ok (.iload 4, 2) := by decide +kernel
theorem dX1_sumOf_29 : decode cX1_sumOf 29 = .ok (.iadd, 1) := by decide +kernel
theorem dX1_sumOf_30 : decode cX1_sumOf 30 = .ok (.iaload, 1) := by decide +kernel
theorem dX1_sumOf_31 : decode cX1_sumOf 31 = .ok (.invokevirtual 68, 3) := by decide +kernel
theorem dX1_sumOf_34 : decode cX1_sumOf 34 = .ok (.istore 5, 2) := by decide +kernel
theorem dX1_sumOf_36 : decode cX1_sumOf 36 = .ok (.lload_n 2, 1) := by decide +kernel
theorem dX1_sumOf_37 : decode cX1_sumOf 37 = .ok (.aload_n 0, 1) := by decide +kernel
theorem dX1_sumOf_38 : decode cX1_sumOf 38 = .ok (.getfield 29, 3) := by decide +kernel
theorem dX1_sumOf_41 : decode cX1_sumOf 41 = .ok (.bipush 6, 2) := by decide +kernel
theorem dX1_sumOf_43 : decode cX1_sumOf 43 = .ok (.iload_n 1, 1) := by decide +kernel
theorem dX1_sumOf_44 : decode cX1_sumOf 44 = .ok (.imul, 1) := by decide +kernel
theorem dX1_sumOf_45 : decode cX1_sumOf 45 = .ok (.iload 4, 2) := by decide +kernel
theorem dX1_sumOf_47 : decode cX1_sumOf 47 = .ok (.iadd, 1) := by decide +kernel
theorem dX1_sumOf_48 : decode cX1_sumOf 48 = .ok (.iaload, 1) := by decide +kernel
theorem dX1_sumOf_49 : decode cX1_sumOf 49 = .ok (.i2l, 1) := by decide +kernel
theorem dX1_sumOf_50 : decode cX1_sumOf 50 = .ok (.iload 5, 2) := by decide +kernel
theorem dX1_sumOf_52 : decode cX1_sumOf 52 = .ok (.i2l, 1) := by decide +kernel
theorem dX1_sumOf_53 : decode cX1_sumOf 53 = .ok (.lmul, 1) := by decide +kernel
theorem dX1_sumOf_54 : decode cX1_sumOf 54 = .ok (.ladd, 1) := by decide +kernel
theorem dX1_sumOf_55 : decode cX1_sumOf 55 = .ok (.lstore_n 2, 1) := by decide +kernel
theorem dX1_sumOf_56 : decode cX1_sumOf 56 = .ok (.iinc 4 1, 3) := by decide +kernel
theorem dX1_sumOf_59 : decode cX1_sumOf 59 = .ok (.goto (-52), 3) := by decide +kernel
theorem dX1_sumOf_62 : decode cX1_sumOf 62 = .ok (.aload_n 0, 1) := by decide +kernel
theorem dX1_sumOf_63 : decode cX1_sumOf 63 = .ok (.lload_n 2, 1) := by decide +kernel
theorem dX1_sumOf_64 : decode cX1_sumOf 64 = .ok (.bipush 15, 2) := by decide +kernel
theorem dX1_sumOf_66 : decode cX1_sumOf 66 = .ok (.lshr, 1) := by decide +kernel
theorem dX1_sumOf_67 : decode cX1_sumOf 67 = .ok (.invokevirtual 71, 3) := by decide +kernel
theorem dX1_sumOf_70 : decode cX1_sumOf 70 = .ok (.ireturn, 1) := by decide +kernel
abbrev cX1_nowAt : ByteArray := prog_3_method_11_code
def yX1_nowAt : MethodName := ⟨RX1, "nowAt", "(I)I"⟩
theorem dX1_nowAt_0 : decode cX1_nowAt 0 = .ok (.iload_n 1, 1) := by decide +kernel
theorem dX1_nowAt_1 : decode cX1_nowAt 1 = .ok (.aload_n 0, 1) := by decide +kernel
theorem dX1_nowAt_2 : decode cX1_nowAt 2 = .ok (.getfield 7, 3) := by decide +kernel
theorem dX1_nowAt_5 : decode cX1_nowAt 5 = .ok (.if_icmp .ge 12, 3) := by decide +kernel
theorem dX1_nowAt_8 : decode cX1_nowAt 8 = .ok (.aload_n 0, 1) := by decide +kernel
theorem dX1_nowAt_9 : decode cX1_nowAt 9 = .ok (.getfield 32, 3) := by decide +kernel
theorem dX1_nowAt_12 : decode cX1_nowAt 12 = .ok (.iload_n 1, 1) := by decide +kernel
theorem dX1_nowAt_13 : decode cX1_nowAt 13 = .ok (.iaload, 1) := by decide +kernel
theorem dX1_nowAt_14 : decode cX1_nowAt 14 = .ok (.goto 4, 3) := by decide +kernel
theorem dX1_nowAt_17 : decode cX1_nowAt 17 = .ok (.iconst 0, 1) := by decide +kernel
theorem dX1_nowAt_18 : decode cX1_nowAt 18 = .ok (.ireturn, 1) := by decide +kernel
abbrev cX1_repeat : ByteArray := prog_3_method_15_code
def yX1_repeat : MethodName := ⟨RX1, "repeat", "(II)I"⟩
theorem dX1_repeat_0 : decode cX1_repeat 0 = .ok (.iload_n 2, 1) := by decide +kernel
theorem dX1_repeat_1 : decode cX1_repeat 1 = .ok (.ifCond .ge 7, 3) := by decide +kernel
theorem dX1_repeat_4 : decode cX1_repeat 4 = .ok (.iconst 0, 1) := by decide +kernel
theorem dX1_repeat_5 : decode cX1_repeat 5 = .ok (.goto 15, 3) := by decide +kernel
theorem dX1_repeat_8 : decode cX1_repeat 8 = .ok (.iload_n 2, 1) := by decide +kernel
theorem dX1_repeat_9 : decode cX1_repeat 9 = .ok (.bipush 40, 2) := by decide +kernel
theorem dX1_repeat_11 : decode cX1_repeat 11 = .ok (.if_icmp .le 8, 3) := by decide +kernel
theorem dX1_repeat_14 : decode cX1_repeat 14 = .ok (.bipush 40, 2) := by decide +kernel
theorem dX1_repeat_16 : decode cX1_repeat 16 = .ok (.goto 4, 3) := by decide +kernel
theorem dX1_repeat_19 : decode cX1_repeat 19 = .ok (.iload_n 2, 1) := by decide +kernel
theorem dX1_repeat_20 : decode cX1_repeat 20 = .ok (.istore_n 3, 1) := by decide +kernel
theorem dX1_repeat_21 : decode cX1_repeat 21 = .ok (.iconst 0, 1) := by decide +kernel
theorem dX1_repeat_22 : decode cX1_repeat 22 = .ok (.istore 4, 2) := by decide +kernel
theorem dX1_repeat_24 : decode cX1_repeat 24 = .ok (.iconst 0, 1) := by decide +kernel
theorem dX1_repeat_25 : decode cX1_repeat 25 = .ok (.istore 5, 2) := by decide +kernel
theorem dX1_repeat_27 : decode cX1_repeat 27 = .ok (.iload 5, 2) := by decide +kernel
theorem dX1_repeat_29 : decode cX1_repeat 29 = .ok (.iload_n 3, 1) := by decide +kernel
theorem dX1_repeat_30 : decode cX1_repeat 30 = .ok (.if_icmp .ge 20, 3) := by decide +kernel
theorem dX1_repeat_33 : decode cX1_repeat 33 = .ok (.aload_n 0, 1) := by decide +kernel
theorem dX1_repeat_34 : decode cX1_repeat 34 = .ok (.iload_n 1, 1) := by decide +kernel
theorem dX1_repeat_35 : decode cX1_repeat 35 = .ok (.invokevirtual 86, 3) := by decide +kernel
theorem dX1_repeat_38 : decode cX1_repeat 38 = .ok (.ifCond .eq 6, 3) := by decide +kernel
theorem dX1_repeat_41 : decode cX1_repeat 41 = .ok (.iinc 4 1, 3) := by decide +kernel
theorem dX1_repeat_44 : decode cX1_repeat 44 = .ok (.iinc 5 1, 3) := by decide +kernel
theorem dX1_repeat_47 : decode cX1_repeat 47 = .ok (.goto (-20), 3) := by decide +kernel
theorem dX1_repeat_50 : decode cX1_repeat 50 = .ok (.iload 4, 2) := by decide +kernel
theorem dX1_repeat_52 : decode cX1_repeat 52 = .ok (.ireturn, 1) := by decide +kernel
abbrev cX1_value : ByteArray := prog_3_method_16_code
def yX1_value : MethodName := ⟨RX1, "value", "(I)I"⟩
theorem dX1_value_0 : decode cX1_value 0 = .ok (.iload_n 1, 1) := by decide +kernel
theorem dX1_value_1 : decode cX1_value 1 = .ok (.ifCond .lt 18, 3) := by decide +kernel
theorem dX1_value_4 : decode cX1_value 4 = .ok (.iload_n 1, 1) := by decide +kernel
theorem dX1_value_5 : decode cX1_value 5 = .ok (.aload_n 0, 1) := by decide +kernel
theorem dX1_value_6 : decode cX1_value 6 = .ok (.getfield 7, 3) := by decide +kernel
theorem dX1_value_9 : decode cX1_value 9 = .ok (.if_icmp .ge 10, 3) := by decide +kernel
theorem dX1_value_12 : decode cX1_value 12 = .ok (.aload_n 0, 1) := by decide +kernel
theorem dX1_value_13 : decode cX1_value 13 = .ok (.getfield 38, 3) := by decide +kernel
theorem dX1_value_16 : decode cX1_value 16 = .ok (.ifCond .ne 7, 3) := by decide +kernel
theorem dX1_value_19 : decode cX1_value 19 = .ok (.iconst 0, 1) := by decide +kernel
theorem dX1_value_20 : decode cX1_value 20 = .ok (.goto 9, 3) := by decide +kernel
theorem dX1_value_23 : decode cX1_value 23 = .ok (.aload_n 0, 1) := by decide +kernel
theorem dX1_value_24 : decode cX1_value 24 = .ok (.getfield 32, 3) := by decide +kernel
theorem dX1_value_27 : decode cX1_value 27 = .ok (.iload_n 1, 1) := by decide +kernel
theorem dX1_value_28 : decode cX1_value 28 = .ok (.iaload, 1) := by decide +kernel
theorem dX1_value_29 : decode cX1_value 29 = .ok (.ireturn, 1) := by decide +kernel
abbrev cX1_samples : ByteArray := prog_3_method_17_code
def yX1_samples : MethodName := ⟨RX1, "samples", "()I"⟩
theorem dX1_samples_0 : decode cX1_samples 0 = .ok (.aload_n 0, 1) := by decide +kernel
theorem dX1_samples_1 : decode cX1_samples 1 = .ok (.getfield 38, 3) := by decide +kernel
theorem dX1_samples_4 : decode cX1_samples 4 = .ok (.ireturn, 1) := by decide +kernel
abbrev cX1_clear : ByteArray := prog_3_method_19_code
def yX1_clear : MethodName := ⟨RX1, "clear", "()I"⟩
theorem dX1_clear_0 : decode cX1_clear 0 = .ok (.aload_n 0, 1) := by decide +kernel
theorem dX1_clear_1 : decode cX1_clear 1 = .ok (.getfield 7, 3) := by decide +kernel
theorem dX1_clear_4 : decode cX1_clear 4 = .ok (.istore_n 1, 1) := by decide +kernel
theorem dX1_clear_5 : decode cX1_clear 5 = .ok (.aload_n 0, 1) := by decide +kernel
theorem dX1_clear_6 : decode cX1_clear 6 = .ok (.iconst 0, 1) := by decide +kernel
theorem dX1_clear_7 : decode cX1_clear 7 = .ok (.putfield 7, 3) := by decide +kernel
theorem dX1_clear_10 : decode cX1_clear 10 = .ok (.aload_n 0, 1) := by decide +kernel
theorem dX1_clear_11 : decode cX1_clear 11 = .ok (.invokevirtual 55, 3) := by decide +kernel
theorem dX1_clear_14 : decode cX1_clear 14 = .ok (.iload_n 1, 1) := by decide +kernel
theorem dX1_clear_15 : decode cX1_clear 15 = .ok (.ireturn, 1) := by decide +kernel
theorem q26 : (Jvm.Cond.initialized "Q15DspCompilerModel") ∈ lw_all := lw_g (lw_at lw_m1 2 rfl) rfl
theorem q205 : (Jvm.Cond.instantiable "Q15DspCompilerModel" (11 : Nat)) ∈ lw_all := lw_g (lw_at lw_m1 181 rfl) rfl
theorem q207 : (Jvm.Cond.instanceMethod ({ cls := "Q15DspCompilerModel", name := "<init>", desc := "()V" } : Jvm.MethodName)) ∈ lw_all := lw_g (lw_at lw_m1 183 rfl) rfl
theorem q208 : (Jvm.Cond.code ({ cls := "Q15DspCompilerModel", name := "<init>", desc := "()V" } : Jvm.MethodName) prog_3_method_1_code (1 : Nat) (Option.none : Option Jvm.ClassFile.FieldType)) ∈ lw_all := lw_g (lw_at lw_m1 184 rfl) rfl
theorem q209 : (Jvm.Cond.methodLink "Q15DspCompilerModel" (1 : Nat) ({ cls := "java/lang/Object", name := "<init>", desc := "()V" } : Jvm.MethodName)) ∈ lw_all := lw_g (lw_at lw_m1 185 rfl) rfl
theorem q210 : (Jvm.Cond.fieldLink "Q15DspCompilerModel" (7 : Nat) "Q15DspCompilerModel" "n" "I") ∈ lw_all := lw_g (lw_at lw_m1 186 rfl) rfl
theorem q211 : (Jvm.Cond.fieldLink "Q15DspCompilerModel" (13 : Nat) "Q15DspCompilerModel" "kind" "[I") ∈ lw_all := lw_g (lw_at lw_m1 187 rfl) rfl
theorem q212 : (Jvm.Cond.fieldLink "Q15DspCompilerModel" (17 : Nat) "Q15DspCompilerModel" "a" "[I") ∈ lw_all := lw_g (lw_at lw_m1 188 rfl) rfl
theorem q213 : (Jvm.Cond.fieldLink "Q15DspCompilerModel" (20 : Nat) "Q15DspCompilerModel" "b" "[I") ∈ lw_all := lw_g (lw_at lw_m1 189 rfl) rfl
theorem q214 : (Jvm.Cond.fieldLink "Q15DspCompilerModel" (23 : Nat) "Q15DspCompilerModel" "taps" "[I") ∈ lw_all := lw_g (lw_at lw_m1 190 rfl) rfl
theorem q215 : (Jvm.Cond.fieldLink "Q15DspCompilerModel" (26 : Nat) "Q15DspCompilerModel" "tapNode" "[I") ∈ lw_all := lw_g (lw_at lw_m1 191 rfl) rfl
theorem q216 : (Jvm.Cond.fieldLink "Q15DspCompilerModel" (29 : Nat) "Q15DspCompilerModel" "tapFactor" "[I") ∈ lw_all := lw_g (lw_at lw_m1 192 rfl) rfl
theorem q217 : (Jvm.Cond.fieldLink "Q15DspCompilerModel" (32 : Nat) "Q15DspCompilerModel" "now" "[I") ∈ lw_all := lw_g (lw_at lw_m1 193 rfl) rfl
theorem q218 : (Jvm.Cond.fieldLink "Q15DspCompilerModel" (35 : Nat) "Q15DspCompilerModel" "before" "[I") ∈ lw_all := lw_g (lw_at lw_m1 194 rfl) rfl
theorem q219 : (Jvm.Cond.fieldLink "Q15DspCompilerModel" (38 : Nat) "Q15DspCompilerModel" "samples" "I") ∈ lw_all := lw_g (lw_at lw_m1 195 rfl) rfl
theorem q220 : (Jvm.Cond.fieldLink "Q15DspCompilerModel" (41 : Nat) "Q15DspCompilerModel" "named" "[I") ∈ lw_all := lw_g (lw_at lw_m1 196 rfl) rfl
theorem q221 : (Jvm.Cond.lays "Q15DspCompilerModel" "Q15DspCompilerModel" "n" "I") ∈ lw_all := lw_g (lw_at lw_m1 197 rfl) rfl
theorem q222 : (Jvm.Cond.soleField "Q15DspCompilerModel" "n") ∈ lw_all := lw_g (lw_at lw_m1 198 rfl) rfl
theorem q223 : (Jvm.Cond.lays "Q15DspCompilerModel" "Q15DspCompilerModel" "kind" "[I") ∈ lw_all := lw_g (lw_at lw_m1 199 rfl) rfl
theorem q224 : (Jvm.Cond.soleField "Q15DspCompilerModel" "kind") ∈ lw_all := lw_g (lw_at lw_m1 200 rfl) rfl
theorem q225 : (Jvm.Cond.lays "Q15DspCompilerModel" "Q15DspCompilerModel" "a" "[I") ∈ lw_all := lw_g (lw_at lw_m1 201 rfl) rfl
theorem q226 : (Jvm.Cond.soleField "Q15DspCompilerModel" "a") ∈ lw_all := lw_g (lw_at lw_m1 202 rfl) rfl
theorem q227 : (Jvm.Cond.lays "Q15DspCompilerModel" "Q15DspCompilerModel" "b" "[I") ∈ lw_all := lw_g (lw_at lw_m1 203 rfl) rfl
theorem q228 : (Jvm.Cond.soleField "Q15DspCompilerModel" "b") ∈ lw_all := lw_g (lw_at lw_m1 204 rfl) rfl
theorem q229 : (Jvm.Cond.lays "Q15DspCompilerModel" "Q15DspCompilerModel" "taps" "[I") ∈ lw_all := lw_g (lw_at lw_m1 205 rfl) rfl
theorem q230 : (Jvm.Cond.soleField "Q15DspCompilerModel" "taps") ∈ lw_all := lw_g (lw_at lw_m1 206 rfl) rfl
theorem q231 : (Jvm.Cond.lays "Q15DspCompilerModel" "Q15DspCompilerModel" "tapNode" "[I") ∈ lw_all := lw_g (lw_at lw_m1 207 rfl) rfl
theorem q232 : (Jvm.Cond.soleField "Q15DspCompilerModel" "tapNode") ∈ lw_all := lw_g (lw_at lw_m1 208 rfl) rfl
theorem q233 : (Jvm.Cond.lays "Q15DspCompilerModel" "Q15DspCompilerModel" "tapFactor" "[I") ∈ lw_all := lw_g (lw_at lw_m1 209 rfl) rfl
theorem q234 : (Jvm.Cond.soleField "Q15DspCompilerModel" "tapFactor") ∈ lw_all := lw_g (lw_at lw_m1 210 rfl) rfl
theorem q235 : (Jvm.Cond.lays "Q15DspCompilerModel" "Q15DspCompilerModel" "now" "[I") ∈ lw_all := lw_g (lw_at lw_m1 211 rfl) rfl
theorem q236 : (Jvm.Cond.soleField "Q15DspCompilerModel" "now") ∈ lw_all := lw_g (lw_at lw_m1 212 rfl) rfl
theorem q237 : (Jvm.Cond.lays "Q15DspCompilerModel" "Q15DspCompilerModel" "before" "[I") ∈ lw_all := lw_g (lw_at lw_m1 213 rfl) rfl
theorem q238 : (Jvm.Cond.soleField "Q15DspCompilerModel" "before") ∈ lw_all := lw_g (lw_at lw_m1 214 rfl) rfl
theorem q239 : (Jvm.Cond.lays "Q15DspCompilerModel" "Q15DspCompilerModel" "samples" "I") ∈ lw_all := lw_g (lw_at lw_m1 215 rfl) rfl
theorem q240 : (Jvm.Cond.soleField "Q15DspCompilerModel" "samples") ∈ lw_all := lw_g (lw_at lw_m1 216 rfl) rfl
theorem q241 : (Jvm.Cond.lays "Q15DspCompilerModel" "Q15DspCompilerModel" "named" "[I") ∈ lw_all := lw_g (lw_at lw_m1 217 rfl) rfl
theorem q242 : (Jvm.Cond.soleField "Q15DspCompilerModel" "named") ∈ lw_all := lw_g (lw_at lw_m1 218 rfl) rfl
theorem q243 : (Jvm.Cond.superclass "Q15DspCompilerModel" "java/lang/Object") ∈ lw_all := lw_g (lw_at lw_m1 219 rfl) rfl
theorem q245 : (Jvm.Cond.instanceMethod ({ cls := "Q15DspCompilerModel", name := "node", desc := "(III)I" } : Jvm.MethodName)) ∈ lw_all := lw_g (lw_at lw_m1 221 rfl) rfl
theorem q246 : (Jvm.Cond.selects "Q15DspCompilerModel" ({ cls := "Q15DspCompilerModel", name := "node", desc := "(III)I" } : Jvm.MethodName) ({ cls := "Q15DspCompilerModel", name := "node", desc := "(III)I" } : Jvm.MethodName)) ∈ lw_all := lw_g (lw_at lw_m1 222 rfl) rfl
theorem q247 : (Jvm.Cond.code ({ cls := "Q15DspCompilerModel", name := "node", desc := "(III)I" } : Jvm.MethodName) prog_3_method_5_code (4 : Nat) (Option.some Jvm.ClassFile.FieldType.int)) ∈ lw_all := lw_g (lw_at lw_m1 223 rfl) rfl
theorem q248 : (Jvm.Cond.methodLink "Q15DspCompilerModel" (51 : Nat) ({ cls := "Q15DspCompilerModel", name := "fits", desc := "(III)Z" } : Jvm.MethodName)) ∈ lw_all := lw_g (lw_at lw_m1 224 rfl) rfl
theorem q249 : (Jvm.Cond.privateMethod ({ cls := "Q15DspCompilerModel", name := "fits", desc := "(III)Z" } : Jvm.MethodName)) ∈ lw_tbl := lw_at lw_m1 225 rfl
theorem q250 : (Jvm.Cond.instanceMethod ({ cls := "Q15DspCompilerModel", name := "fits", desc := "(III)Z" } : Jvm.MethodName)) ∈ lw_all := lw_g (lw_at lw_m1 226 rfl) rfl
theorem q251 : (Jvm.Cond.code ({ cls := "Q15DspCompilerModel", name := "fits", desc := "(III)Z" } : Jvm.MethodName) prog_3_method_4_code (4 : Nat) (Option.some Jvm.ClassFile.FieldType.boolean)) ∈ lw_all := lw_g (lw_at lw_m1 227 rfl) rfl
theorem q252 : (Jvm.Cond.methodLink "Q15DspCompilerModel" (44 : Nat) ({ cls := "Q15DspCompilerModel", name := "isValue", desc := "(I)Z" } : Jvm.MethodName)) ∈ lw_all := lw_g (lw_at lw_m1 228 rfl) rfl
theorem q253 : (Jvm.Cond.privateMethod ({ cls := "Q15DspCompilerModel", name := "isValue", desc := "(I)Z" } : Jvm.MethodName)) ∈ lw_tbl := lw_at lw_m1 229 rfl
theorem q254 : (Jvm.Cond.instanceMethod ({ cls := "Q15DspCompilerModel", name := "isValue", desc := "(I)Z" } : Jvm.MethodName)) ∈ lw_all := lw_g (lw_at lw_m1 230 rfl) rfl
theorem q255 : (Jvm.Cond.code ({ cls := "Q15DspCompilerModel", name := "isValue", desc := "(I)Z" } : Jvm.MethodName) prog_3_method_3_code (2 : Nat) (Option.some Jvm.ClassFile.FieldType.boolean)) ∈ lw_all := lw_g (lw_at lw_m1 231 rfl) rfl
theorem q256 : (Jvm.Cond.methodLink "Q15DspCompilerModel" (48 : Nat) ({ cls := "Q15DspCompilerModel", name := "isName", desc := "(I)Z" } : Jvm.MethodName)) ∈ lw_all := lw_g (lw_at lw_m1 232 rfl) rfl
theorem q257 : (Jvm.Cond.privateMethod ({ cls := "Q15DspCompilerModel", name := "isName", desc := "(I)Z" } : Jvm.MethodName)) ∈ lw_tbl := lw_at lw_m1 233 rfl
theorem q258 : (Jvm.Cond.instanceMethod ({ cls := "Q15DspCompilerModel", name := "isName", desc := "(I)Z" } : Jvm.MethodName)) ∈ lw_all := lw_g (lw_at lw_m1 234 rfl) rfl
theorem q259 : (Jvm.Cond.code ({ cls := "Q15DspCompilerModel", name := "isName", desc := "(I)Z" } : Jvm.MethodName) prog_3_method_2_code (2 : Nat) (Option.some Jvm.ClassFile.FieldType.boolean)) ∈ lw_all := lw_g (lw_at lw_m1 235 rfl) rfl
theorem q260 : (Jvm.Cond.methodLink "Q15DspCompilerModel" (55 : Nat) ({ cls := "Q15DspCompilerModel", name := "restart", desc := "()V" } : Jvm.MethodName)) ∈ lw_all := lw_g (lw_at lw_m1 236 rfl) rfl
theorem q261 : (Jvm.Cond.instanceMethod ({ cls := "Q15DspCompilerModel", name := "restart", desc := "()V" } : Jvm.MethodName)) ∈ lw_all := lw_g (lw_at lw_m1 237 rfl) rfl
theorem q262 : (Jvm.Cond.selects "Q15DspCompilerModel" ({ cls := "Q15DspCompilerModel", name := "restart", desc := "()V" } : Jvm.MethodName) ({ cls := "Q15DspCompilerModel", name := "restart", desc := "()V" } : Jvm.MethodName)) ∈ lw_all := lw_g (lw_at lw_m1 238 rfl) rfl
theorem q263 : (Jvm.Cond.code ({ cls := "Q15DspCompilerModel", name := "restart", desc := "()V" } : Jvm.MethodName) prog_3_method_18_code (2 : Nat) (Option.none : Option Jvm.ClassFile.FieldType)) ∈ lw_all := lw_g (lw_at lw_m1 239 rfl) rfl
theorem q265 : (Jvm.Cond.instanceMethod ({ cls := "Q15DspCompilerModel", name := "tap", desc := "(III)I" } : Jvm.MethodName)) ∈ lw_all := lw_g (lw_at lw_m2 1 rfl) rfl
theorem q266 : (Jvm.Cond.selects "Q15DspCompilerModel" ({ cls := "Q15DspCompilerModel", name := "tap", desc := "(III)I" } : Jvm.MethodName) ({ cls := "Q15DspCompilerModel", name := "tap", desc := "(III)I" } : Jvm.MethodName)) ∈ lw_all := lw_g (lw_at lw_m2 2 rfl) rfl
theorem q267 : (Jvm.Cond.code ({ cls := "Q15DspCompilerModel", name := "tap", desc := "(III)I" } : Jvm.MethodName) prog_3_method_6_code (4 : Nat) (Option.some Jvm.ClassFile.FieldType.int)) ∈ lw_all := lw_g (lw_at lw_m2 3 rfl) rfl
theorem q269 : (Jvm.Cond.instanceMethod ({ cls := "Q15DspCompilerModel", name := "nodes", desc := "()I" } : Jvm.MethodName)) ∈ lw_all := lw_g (lw_at lw_m2 5 rfl) rfl
theorem q270 : (Jvm.Cond.selects "Q15DspCompilerModel" ({ cls := "Q15DspCompilerModel", name := "nodes", desc := "()I" } : Jvm.MethodName) ({ cls := "Q15DspCompilerModel", name := "nodes", desc := "()I" } : Jvm.MethodName)) ∈ lw_all := lw_g (lw_at lw_m2 6 rfl) rfl
theorem q271 : (Jvm.Cond.code ({ cls := "Q15DspCompilerModel", name := "nodes", desc := "()I" } : Jvm.MethodName) prog_3_method_7_code (1 : Nat) (Option.some Jvm.ClassFile.FieldType.int)) ∈ lw_all := lw_g (lw_at lw_m2 7 rfl) rfl
theorem q273 : (Jvm.Cond.instanceMethod ({ cls := "Q15DspCompilerModel", name := "sound", desc := "()Z" } : Jvm.MethodName)) ∈ lw_all := lw_g (lw_at lw_m2 9 rfl) rfl
theorem q274 : (Jvm.Cond.selects "Q15DspCompilerModel" ({ cls := "Q15DspCompilerModel", name := "sound", desc := "()Z" } : Jvm.MethodName) ({ cls := "Q15DspCompilerModel", name := "sound", desc := "()Z" } : Jvm.MethodName)) ∈ lw_all := lw_g (lw_at lw_m2 10 rfl) rfl
theorem q275 : (Jvm.Cond.code ({ cls := "Q15DspCompilerModel", name := "sound", desc := "()Z" } : Jvm.MethodName) prog_3_method_9_code (3 : Nat) (Option.some Jvm.ClassFile.FieldType.boolean)) ∈ lw_all := lw_g (lw_at lw_m2 11 rfl) rfl
theorem q276 : (Jvm.Cond.methodLink "Q15DspCompilerModel" (58 : Nat) ({ cls := "Q15DspCompilerModel", name := "namedBy", desc := "(I)I" } : Jvm.MethodName)) ∈ lw_all := lw_g (lw_at lw_m2 12 rfl) rfl
theorem q277 : (Jvm.Cond.privateMethod ({ cls := "Q15DspCompilerModel", name := "namedBy", desc := "(I)I" } : Jvm.MethodName)) ∈ lw_tbl := lw_at lw_m2 13 rfl
theorem q278 : (Jvm.Cond.instanceMethod ({ cls := "Q15DspCompilerModel", name := "namedBy", desc := "(I)I" } : Jvm.MethodName)) ∈ lw_all := lw_g (lw_at lw_m2 14 rfl) rfl
theorem q279 : (Jvm.Cond.code ({ cls := "Q15DspCompilerModel", name := "namedBy", desc := "(I)I" } : Jvm.MethodName) prog_3_method_8_code (4 : Nat) (Option.some Jvm.ClassFile.FieldType.int)) ∈ lw_all := lw_g (lw_at lw_m2 15 rfl) rfl
theorem q281 : (Jvm.Cond.instanceMethod ({ cls := "Q15DspCompilerModel", name := "feed", desc := "(I)Z" } : Jvm.MethodName)) ∈ lw_all := lw_g (lw_at lw_m2 17 rfl) rfl
theorem q282 : (Jvm.Cond.selects "Q15DspCompilerModel" ({ cls := "Q15DspCompilerModel", name := "feed", desc := "(I)Z" } : Jvm.MethodName) ({ cls := "Q15DspCompilerModel", name := "feed", desc := "(I)Z" } : Jvm.MethodName)) ∈ lw_all := lw_g (lw_at lw_m2 18 rfl) rfl
theorem q283 : (Jvm.Cond.code ({ cls := "Q15DspCompilerModel", name := "feed", desc := "(I)Z" } : Jvm.MethodName) prog_3_method_14_code (4 : Nat) (Option.some Jvm.ClassFile.FieldType.boolean)) ∈ lw_all := lw_g (lw_at lw_m2 19 rfl) rfl
theorem q284 : (Jvm.Cond.methodLink "Q15DspCompilerModel" (78 : Nat) ({ cls := "Q15DspCompilerModel", name := "sound", desc := "()Z" } : Jvm.MethodName)) ∈ lw_all := lw_g (lw_at lw_m2 20 rfl) rfl
theorem q285 : (Jvm.Cond.methodLink "Q15DspCompilerModel" (82 : Nat) ({ cls := "Q15DspCompilerModel", name := "worth", desc := "(II)I" } : Jvm.MethodName)) ∈ lw_all := lw_g (lw_at lw_m2 21 rfl) rfl
theorem q286 : (Jvm.Cond.privateMethod ({ cls := "Q15DspCompilerModel", name := "worth", desc := "(II)I" } : Jvm.MethodName)) ∈ lw_tbl := lw_at lw_m2 22 rfl
theorem q287 : (Jvm.Cond.instanceMethod ({ cls := "Q15DspCompilerModel", name := "worth", desc := "(II)I" } : Jvm.MethodName)) ∈ lw_all := lw_g (lw_at lw_m2 23 rfl) rfl
theorem q288 : (Jvm.Cond.code ({ cls := "Q15DspCompilerModel", name := "worth", desc := "(II)I" } : Jvm.MethodName) prog_3_method_13_code (5 : Nat) (Option.some Jvm.ClassFile.FieldType.int)) ∈ lw_all := lw_g (lw_at lw_m2 24 rfl) rfl
theorem q289 : (Jvm.Cond.methodLink "Q15DspCompilerModel" (71 : Nat) ({ cls := "Q15DspCompilerModel", name := "sat", desc := "(J)I" } : Jvm.MethodName)) ∈ lw_all := lw_g (lw_at lw_m2 25 rfl) rfl
theorem q290 : (Jvm.Cond.privateMethod ({ cls := "Q15DspCompilerModel", name := "sat", desc := "(J)I" } : Jvm.MethodName)) ∈ lw_tbl := lw_at lw_m2 26 rfl
theorem q291 : (Jvm.Cond.instanceMethod ({ cls := "Q15DspCompilerModel", name := "sat", desc := "(J)I" } : Jvm.MethodName)) ∈ lw_all := lw_g (lw_at lw_m2 27 rfl) rfl
theorem q292 : (Jvm.Cond.code ({ cls := "Q15DspCompilerModel", name := "sat", desc := "(J)I" } : Jvm.MethodName) prog_3_method_10_code (3 : Nat) (Option.some Jvm.ClassFile.FieldType.int)) ∈ lw_all := lw_g (lw_at lw_m2 28 rfl) rfl
theorem q293 : (Jvm.Cond.constantLong "Q15DspCompilerModel" (62 : Nat) (32767 : Int64)) ∈ lw_all := lw_g (lw_at lw_m2 29 rfl) rfl
theorem q294 : (Jvm.Cond.constantLong "Q15DspCompilerModel" (64 : Nat) (-32768 : Int64)) ∈ lw_all := lw_g (lw_at lw_m2 30 rfl) rfl
theorem q295 : (Jvm.Cond.methodLink "Q15DspCompilerModel" (75 : Nat) ({ cls := "Q15DspCompilerModel", name := "sumOf", desc := "(I)I" } : Jvm.MethodName)) ∈ lw_all := lw_g (lw_at lw_m2 31 rfl) rfl
theorem q296 : (Jvm.Cond.privateMethod ({ cls := "Q15DspCompilerModel", name := "sumOf", desc := "(I)I" } : Jvm.MethodName)) ∈ lw_tbl := lw_at lw_m2 32 rfl
theorem q297 : (Jvm.Cond.instanceMethod ({ cls := "Q15DspCompilerModel", name := "sumOf", desc := "(I)I" } : Jvm.MethodName)) ∈ lw_all := lw_g (lw_at lw_m2 33 rfl) rfl
theorem q298 : (Jvm.Cond.code ({ cls := "Q15DspCompilerModel", name := "sumOf", desc := "(I)I" } : Jvm.MethodName) prog_3_method_12_code (6 : Nat) (Option.some Jvm.ClassFile.FieldType.int)) ∈ lw_all := lw_g (lw_at lw_m2 34 rfl) rfl
theorem q299 : (Jvm.Cond.constantLong "Q15DspCompilerModel" (66 : Nat) (16384 : Int64)) ∈ lw_all := lw_g (lw_at lw_m2 35 rfl) rfl
theorem q300 : (Jvm.Cond.methodLink "Q15DspCompilerModel" (68 : Nat) ({ cls := "Q15DspCompilerModel", name := "nowAt", desc := "(I)I" } : Jvm.MethodName)) ∈ lw_all := lw_g (lw_at lw_m2 36 rfl) rfl
theorem q301 : (Jvm.Cond.privateMethod ({ cls := "Q15DspCompilerModel", name := "nowAt", desc := "(I)I" } : Jvm.MethodName)) ∈ lw_tbl := lw_at lw_m2 37 rfl
theorem q302 : (Jvm.Cond.instanceMethod ({ cls := "Q15DspCompilerModel", name := "nowAt", desc := "(I)I" } : Jvm.MethodName)) ∈ lw_all := lw_g (lw_at lw_m2 38 rfl) rfl
theorem q303 : (Jvm.Cond.code ({ cls := "Q15DspCompilerModel", name := "nowAt", desc := "(I)I" } : Jvm.MethodName) prog_3_method_11_code (2 : Nat) (Option.some Jvm.ClassFile.FieldType.int)) ∈ lw_all := lw_g (lw_at lw_m2 39 rfl) rfl
theorem q305 : (Jvm.Cond.instanceMethod ({ cls := "Q15DspCompilerModel", name := "repeat", desc := "(II)I" } : Jvm.MethodName)) ∈ lw_all := lw_g (lw_at lw_m2 41 rfl) rfl
theorem q306 : (Jvm.Cond.selects "Q15DspCompilerModel" ({ cls := "Q15DspCompilerModel", name := "repeat", desc := "(II)I" } : Jvm.MethodName) ({ cls := "Q15DspCompilerModel", name := "repeat", desc := "(II)I" } : Jvm.MethodName)) ∈ lw_all := lw_g (lw_at lw_m2 42 rfl) rfl
theorem q307 : (Jvm.Cond.code ({ cls := "Q15DspCompilerModel", name := "repeat", desc := "(II)I" } : Jvm.MethodName) prog_3_method_15_code (6 : Nat) (Option.some Jvm.ClassFile.FieldType.int)) ∈ lw_all := lw_g (lw_at lw_m2 43 rfl) rfl
theorem q308 : (Jvm.Cond.methodLink "Q15DspCompilerModel" (86 : Nat) ({ cls := "Q15DspCompilerModel", name := "feed", desc := "(I)Z" } : Jvm.MethodName)) ∈ lw_all := lw_g (lw_at lw_m2 44 rfl) rfl
theorem q310 : (Jvm.Cond.instanceMethod ({ cls := "Q15DspCompilerModel", name := "value", desc := "(I)I" } : Jvm.MethodName)) ∈ lw_all := lw_g (lw_at lw_m2 46 rfl) rfl
theorem q311 : (Jvm.Cond.selects "Q15DspCompilerModel" ({ cls := "Q15DspCompilerModel", name := "value", desc := "(I)I" } : Jvm.MethodName) ({ cls := "Q15DspCompilerModel", name := "value", desc := "(I)I" } : Jvm.MethodName)) ∈ lw_all := lw_g (lw_at lw_m2 47 rfl) rfl
theorem q312 : (Jvm.Cond.code ({ cls := "Q15DspCompilerModel", name := "value", desc := "(I)I" } : Jvm.MethodName) prog_3_method_16_code (2 : Nat) (Option.some Jvm.ClassFile.FieldType.int)) ∈ lw_all := lw_g (lw_at lw_m2 48 rfl) rfl
theorem q314 : (Jvm.Cond.instanceMethod ({ cls := "Q15DspCompilerModel", name := "samples", desc := "()I" } : Jvm.MethodName)) ∈ lw_all := lw_g (lw_at lw_m2 50 rfl) rfl
theorem q315 : (Jvm.Cond.selects "Q15DspCompilerModel" ({ cls := "Q15DspCompilerModel", name := "samples", desc := "()I" } : Jvm.MethodName) ({ cls := "Q15DspCompilerModel", name := "samples", desc := "()I" } : Jvm.MethodName)) ∈ lw_all := lw_g (lw_at lw_m2 51 rfl) rfl
theorem q316 : (Jvm.Cond.code ({ cls := "Q15DspCompilerModel", name := "samples", desc := "()I" } : Jvm.MethodName) prog_3_method_17_code (1 : Nat) (Option.some Jvm.ClassFile.FieldType.int)) ∈ lw_all := lw_g (lw_at lw_m2 52 rfl) rfl
theorem q319 : (Jvm.Cond.instanceMethod ({ cls := "Q15DspCompilerModel", name := "clear", desc := "()I" } : Jvm.MethodName)) ∈ lw_all := lw_g (lw_at lw_m2 55 rfl) rfl
theorem q320 : (Jvm.Cond.selects "Q15DspCompilerModel" ({ cls := "Q15DspCompilerModel", name := "clear", desc := "()I" } : Jvm.MethodName) ({ cls := "Q15DspCompilerModel", name := "clear", desc := "()I" } : Jvm.MethodName)) ∈ lw_all := lw_g (lw_at lw_m2 56 rfl) rfl
theorem q321 : (Jvm.Cond.code ({ cls := "Q15DspCompilerModel", name := "clear", desc := "()I" } : Jvm.MethodName) prog_3_method_19_code (2 : Nat) (Option.some Jvm.ClassFile.FieldType.int)) ∈ lw_all := lw_g (lw_at lw_m2 57 rfl) rfl
theorem in_X1 : ∀ w ∈ wsX10, w ∈ lw_all := lw_in wsX10 [221, 223, 225, 227, 229, 231, 233, 235, 237, 239, 241] (by decide +kernel) (by decide +kernel)
end
section
/-! the law's own entry -/
set_option maxRecDepth 100000
abbrev cL_law : ByteArray := code
theorem dL_law_0 : decode cL_law 0 = .ok (.new 7, 3) := by decide +kernel
theorem dL_law_3 : decode cL_law 3 = .ok (.dup, 1) := by decide +kernel
theorem dL_law_4 : decode cL_law 4 = .ok (.invokespecial 9, 3) := by decide +kernel
theorem dL_law_7 : decode cL_law 7 = .ok (.astore_n 1, 1) := by decide +kernel
theorem dL_law_8 : decode cL_law 8 = .ok (.new 10, 3) := by decide +kernel
theorem dL_law_11 : decode cL_law 11 = .ok (.dup, 1) := by decide +kernel
theorem dL_law_12 : decode cL_law 12 = .ok (.invokespecial 12, 3) := by decide +kernel
theorem dL_law_15 : decode cL_law 15 = .ok (.astore_n 2, 1) := by decide +kernel
theorem dL_law_16 : decode cL_law 16 = .ok (.iconst 0, 1) := by decide +kernel
theorem dL_law_17 : decode cL_law 17 = .ok (.istore_n 3, 1) := by decide +kernel
theorem dL_law_18 : decode cL_law 18 = .ok (.iload_n 3, 1) := by decide +kernel
theorem dL_law_19 : decode cL_law 19 = .ok (.aload_n 0, 1) := by decide +kernel
theorem dL_law_20 : decode cL_law 20 = .ok (.arraylength, 1) := by decide +kernel
theorem dL_law_21 : decode cL_law 21 = .ok (.iconst 4, 1) := by decide +kernel
theorem dL_law_22 : decode cL_law 22 = .ok (.isub, 1) := by decide +kernel
theorem dL_law_23 : decode cL_law 23 = .ok (.if_icmp .gt 299, 3) := by decide +kernel
theorem dL_law_26 : decode cL_law 26 = .ok (.aload_n 0, 1) := by decide +kernel
theorem dL_law_27 : decode cL_law 27 = .ok (.iload_n 3, 1) := by decide +kernel
theorem dL_law_28 : decode cL_law 28 = .ok (.iaload, 1) := by decide +kernel
theorem dL_law_29 : decode cL_law 29 = .ok (.bipush 15, 2) := by decide +kernel
theorem dL_law_31 : decode cL_law 31 = .ok (.iand, 1) := by decide +kernel
theorem dL_law_32 : decode cL_law 32 = .ok (.tableswitch 284 0 9 #[56, 99, 142, 155, 168, 191, 224, 247, 260, 271], 56) := by decide +kernel
theorem dL_law_88 : decode cL_law 88 = .ok (.aload_n 1, 1) := by decide +kernel
theorem dL_law_89 : decode cL_law 89 = .ok (.aload_n 0, 1) := by decide +kernel
theorem dL_law_90 : decode cL_law 90 = .ok (.iload_n 3, 1) := by decide +kernel
theorem dL_law_91 : decode cL_law 91 = .ok (.iconst 1, 1) := by decide +kernel
theorem dL_law_92 : decode cL_law 92 = .ok (.iadd, 1) := by decide +kernel
theorem dL_law_93 : decode cL_law 93 = .ok (.iaload, 1) := by decide +kernel
theorem dL_law_94 : decode cL_law 94 = .ok (.aload_n 0, 1) := by decide +kernel
theorem dL_law_95 : decode cL_law 95 = .ok (.iload_n 3, 1) := by decide +kernel
theorem dL_law_96 : decode cL_law 96 = .ok (.iconst 2, 1) := by decide +kernel
theorem dL_law_97 : decode cL_law 97 = .ok (.iadd, 1) := by decide +kernel
theorem dL_law_98 : decode cL_law 98 = .ok (.iaload, 1) := by decide +kernel
theorem dL_law_99 : decode cL_law 99 = .ok (.aload_n 0, 1) := by decide +kernel
theorem dL_law_100 : decode cL_law 100 = .ok (.iload_n 3, 1) := by decide +kernel
theorem dL_law_101 : decode cL_law 101 = .ok (.iconst 3, 1) := by decide +kernel
theorem dL_law_102 : decode cL_law 102 = .ok (.iadd, 1) := by decide +kernel
theorem dL_law_103 : decode cL_law 103 = .ok (.iaload, 1) := by decide +kernel
theorem dL_law_104 : decode cL_law 104 = .ok (.invokevirtual 13, 3) := by decide +kernel
theorem dL_law_107 : decode cL_law 107 = .ok (.aload_n 2, 1) := by decide +kernel
theorem dL_law_108 : decode cL_law 108 = .ok (.aload_n 0, 1) := by decide +kernel
theorem dL_law_109 : decode cL_law 109 = .ok (.iload_n 3, 1) := by decide +kernel
theorem dL_law_110 : decode cL_law 110 = .ok (.iconst 1, 1) := by decide +kernel
theorem dL_law_111 : decode cL_law 111 = .ok (.iadd, 1) := by decide +kernel
theorem dL_law_112 : decode cL_law 112 = .ok (.iaload, 1) := by decide +kernel
theorem dL_law_113 : decode cL_law 113 = .ok (.aload_n 0, 1) := by decide +kernel
theorem dL_law_114 : decode cL_law 114 = .ok (.iload_n 3, 1) := by decide +kernel
theorem dL_law_115 : decode cL_law 115 = .ok (.iconst 2, 1) := by decide +kernel
theorem dL_law_116 : decode cL_law 116 = .ok (.iadd, 1) := by decide +kernel
theorem dL_law_117 : decode cL_law 117 = .ok (.iaload, 1) := by decide +kernel
theorem dL_law_118 : decode cL_law 118 = .ok (.aload_n 0, 1) := by decide +kernel
theorem dL_law_119 : decode cL_law 119 = .ok (.iload_n 3, 1) := by decide +kernel
theorem dL_law_120 : decode cL_law 120 = .ok (.iconst 3, 1) := by decide +kernel
theorem dL_law_121 : decode cL_law 121 = .ok (.iadd, 1) := by decide +kernel
theorem dL_law_122 : decode cL_law 122 = .ok (.iaload, 1) := by decide +kernel
theorem dL_law_123 : decode cL_law 123 = .ok (.invokevirtual 17, 3) := by decide +kernel
theorem dL_law_126 : decode cL_law 126 = .ok (.if_icmp .eq 190, 3) := by decide +kernel
theorem dL_law_129 : decode cL_law 129 = .ok (.iconst 0, 1) := by decide +kernel
theorem dL_law_130 : decode cL_law 130 = .ok (.ireturn, 1) := by decide +kernel
theorem dL_law_131 : decode cL_law 131 = .ok (.aload_n 1, 1) := by decide +kernel
theorem dL_law_132 : decode cL_law 132 = .ok (.aload_n 0, 1) := by decide +kernel
theorem dL_law_133 : decode cL_law 133 = .ok (.iload_n 3, 1) := by decide +kernel
theorem dL_law_134 : decode cL_law 134 = .ok (.iconst 1, 1) := by decide +kernel
theorem dL_law_135 : decode cL_law 135 = .ok (.iadd, 1) := by decide +kernel
theorem dL_law_136 : decode cL_law 136 = .ok (.iaload, 1) := by decide +kernel
theorem dL_law_137 : decode cL_law 137 = .ok (.aload_n 0, 1) := by decide +kernel
theorem dL_law_138 : decode cL_law 138 = .ok (.iload_n 3, 1) := by decide +kernel
theorem dL_law_139 : decode cL_law 139 = .ok (.iconst 2, 1) := by decide +kernel
theorem dL_law_140 : decode cL_law 140 = .ok (.iadd, 1) := by decide +kernel
theorem dL_law_141 : decode cL_law 141 = .ok (.iaload, 1) := by decide +kernel
theorem dL_law_142 : decode cL_law 142 = .ok (.aload_n 0, 1) := by decide +kernel
theorem dL_law_143 : decode cL_law 143 = .ok (.iload_n 3, 1) := by decide +kernel
theorem dL_law_144 : decode cL_law 144 = .ok (.iconst 3, 1) := by decide +kernel
theorem dL_law_145 : decode cL_law 145 = .ok (.iadd, 1) := by decide +kernel
theorem dL_law_146 : decode cL_law 146 = .ok (.iaload, 1) := by decide +kernel
theorem dL_law_147 : decode cL_law 147 = .ok (.invokevirtual 18, 3) := by decide +kernel
theorem dL_law_150 : decode cL_law 150 = .ok (.aload_n 2, 1) := by decide +kernel
theorem dL_law_151 : decode cL_law 151 = .ok (.aload_n 0, 1) := by decide +kernel
theorem dL_law_152 : decode cL_law 152 = .ok (.iload_n 3, 1) := by decide +kernel
theorem dL_law_153 : decode cL_law 153 = .ok (.iconst 1, 1) := by decide +kernel
theorem dL_law_154 : decode cL_law 154 = .ok (.iadd, 1) := by decide +kernel
theorem dL_law_155 : decode cL_law 155 = .ok (.iaload, 1) := by decide +kernel
theorem dL_law_156 : decode cL_law 156 = .ok (.aload_n 0, 1) := by decide +kernel
theorem dL_law_157 : decode cL_law 157 = .ok (.iload_n 3, 1) := by decide +kernel
theorem dL_law_158 : decode cL_law 158 = .ok (.iconst 2, 1) := by decide +kernel
theorem dL_law_159 : decode cL_law 159 = .ok (.iadd, 1) := by decide +kernel
theorem dL_law_160 : decode cL_law 160 = .ok (.iaload, 1) := by decide +kernel
theorem dL_law_161 : decode cL_law 161 = .ok (.aload_n 0, 1) := by decide +kernel
theorem dL_law_162 : decode cL_law 162 = .ok (.iload_n 3, 1) := by decide +kernel
theorem dL_law_163 : decode cL_law 163 = .ok (.iconst 3, 1) := by decide +kernel
theorem dL_law_164 : decode cL_law 164 = .ok (.iadd, 1) := by decide +kernel
theorem dL_law_165 : decode cL_law 165 = .ok (.iaload, 1) := by decide +kernel
theorem dL_law_166 : decode cL_law 166 = .ok (.invokevirtual 21, 3) := by decide +kernel
theorem dL_law_169 : decode cL_law 169 = .ok (.if_icmp .eq 147, 3) := by decide +kernel
theorem dL_law_172 : decode cL_law 172 = .ok (.iconst 0, 1) := by decide +kernel
theorem dL_law_173 : decode cL_law 173 = .ok (.ireturn, 1) := by decide +kernel
theorem dL_law_174 : decode cL_law 174 = .ok (.aload_n 1, 1) := by decide +kernel
theorem dL_law_175 : decode cL_law 175 = .ok (.invokevirtual 22, 3) := by decide +kernel
theorem dL_law_178 : decode cL_law 178 = .ok (.aload_n 2, 1) := by decide +kernel
theorem dL_law_179 : decode cL_law 179 = .ok (.invokevirtual 26, 3) := by decide +kernel
theorem dL_law_182 : decode cL_law 182 = .ok (.if_icmp .eq 134, 3) := by decide +kernel
theorem dL_law_185 : decode cL_law 185 = .ok (.iconst 0, 1) := by decide +kernel
theorem dL_law_186 : decode cL_law 186 = .ok (.ireturn, 1) := by decide +kernel
theorem dL_law_187 : decode cL_law 187 = .ok (.aload_n 1, 1) := by decide +kernel
theorem dL_law_188 : decode cL_law 188 = .ok (.invokevirtual 27, 3) := by decide +kernel
theorem dL_law_191 : decode cL_law 191 = .ok (.aload_n 2, 1) := by decide +kernel
theorem dL_law_192 : decode cL_law 192 = .ok (.invokevirtual 31, 3) := by decide +kernel
theorem dL_law_195 : decode cL_law 195 = .ok (.if_icmp .eq 121, 3) := by decide +kernel
theorem dL_law_198 : decode cL_law 198 = .ok (.iconst 0, 1) := by decide +kernel
theorem dL_law_199 : decode cL_law 199 = .ok (.ireturn, 1) := by decide +kernel
theorem dL_law_200 : decode cL_law 200 = .ok (.aload_n 1, 1) := by decide +kernel
theorem dL_law_201 : decode cL_law 201 = .ok (.aload_n 0, 1) := by decide +kernel
theorem dL_law_202 : decode cL_law 202 = .ok (.iload_n 3, 1) := by decide +kernel
theorem dL_law_203 : decode cL_law 203 = .ok (.iconst 1, 1) := by decide +kernel
theorem dL_law_204 : decode cL_law 204 = .ok (.iadd, 1) := by decide +kernel
theorem dL_law_205 : decode cL_law 205 = .ok (.iaload, 1) := by decide +kernel
theorem dL_law_206 : decode cL_law 206 = .ok (.invokevirtual 32, 3) := by decide +kernel
theorem dL_law_209 : decode cL_law 209 = .ok (.aload_n 2, 1) := by decide +kernel
theorem dL_law_210 : decode cL_law 210 = .ok (.aload_n 0, 1) := by decide +kernel
theorem dL_law_211 : decode cL_law 211 = .ok (.iload_n 3, 1) := by decide +kernel
theorem dL_law_212 : decode cL_law 212 = .ok (.iconst 1, 1) := by decide +kernel
theorem dL_law_213 : decode cL_law 213 = .ok (.iadd, 1) := by decide +kernel
theorem dL_law_214 : decode cL_law 214 = .ok (.iaload, 1) := by decide +kernel
theorem dL_law_215 : decode cL_law 215 = .ok (.invokevirtual 36, 3) := by decide +kernel
theorem dL_law_218 : decode cL_law 218 = .ok (.if_icmp .eq 98, 3) := by decide +kernel
theorem dL_law_221 : decode cL_law 221 = .ok (.iconst 0, 1) := by decide +kernel
theorem dL_law_222 : decode cL_law 222 = .ok (.ireturn, 1) := by decide +kernel
theorem dL_law_223 : decode cL_law 223 = .ok (.aload_n 1, 1) := by decide +kernel
theorem dL_law_224 : decode cL_law 224 = .ok (.aload_n 0, 1) := by decide +kernel
theorem dL_law_225 : decode cL_law 225 = .ok (.iload_n 3, 1) := by decide +kernel
theorem dL_law_226 : decode cL_law 226 = .ok (.iconst 1, 1) := by decide +kernel
theorem dL_law_227 : decode cL_law 227 = .ok (.iadd, 1) := by decide +kernel
theorem dL_law_228 : decode cL_law 228 = .ok (.iaload, 1) := by decide +kernel
theorem dL_law_229 : decode cL_law 229 = .ok (.aload_n 0, 1) := by decide +kernel
theorem dL_law_230 : decode cL_law 230 = .ok (.iload_n 3, 1) := by decide +kernel
theorem dL_law_231 : decode cL_law 231 = .ok (.iconst 2, 1) := by decide +kernel
theorem dL_law_232 : decode cL_law 232 = .ok (.iadd, 1) := by decide +kernel
theorem dL_law_233 : decode cL_law 233 = .ok (.iaload, 1) := by decide +kernel
theorem dL_law_234 : decode cL_law 234 = .ok (.invokevirtual 37, 3) := by decide +kernel
theorem dL_law_237 : decode cL_law 237 = .ok (.aload_n 2, 1) := by decide +kernel
theorem dL_law_238 : decode cL_law 238 = .ok (.aload_n 0, 1) := by decide +kernel
theorem dL_law_239 : decode cL_law 239 = .ok (.iload_n 3, 1) := by decide +kernel
theorem dL_law_240 : decode cL_law 240 = .ok (.iconst 1, 1) := by decide +kernel
theorem dL_law_241 : decode cL_law 241 = .ok (.iadd, 1) := by decide +kernel
theorem dL_law_242 : decode cL_law 242 = .ok (.iaload, 1) := by decide +kernel
theorem dL_law_243 : decode cL_law 243 = .ok (.aload_n 0, 1) := by decide +kernel
theorem dL_law_244 : decode cL_law 244 = .ok (.iload_n 3, 1) := by decide +kernel
theorem dL_law_245 : decode cL_law 245 = .ok (.iconst 2, 1) := by decide +kernel
theorem dL_law_246 : decode cL_law 246 = .ok (.iadd, 1) := by decide +kernel
theorem dL_law_247 : decode cL_law 247 = .ok (.iaload, 1) := by decide +kernel
theorem dL_law_248 : decode cL_law 248 = .ok (.invokevirtual 41, 3) := by decide +kernel
theorem dL_law_251 : decode cL_law 251 = .ok (.if_icmp .eq 65, 3) := by decide +kernel
theorem dL_law_254 : decode cL_law 254 = .ok (.iconst 0, 1) := by decide +kernel
theorem dL_law_255 : decode cL_law 255 = .ok (.ireturn, 1) := by decide +kernel
theorem dL_law_256 : decode cL_law 256 = .ok (.aload_n 1, 1) := by decide +kernel
theorem dL_law_257 : decode cL_law 257 = .ok (.aload_n 0, 1) := by decide +kernel
theorem dL_law_258 : decode cL_law 258 = .ok (.iload_n 3, 1) := by decide +kernel
theorem dL_law_259 : decode cL_law 259 = .ok (.iconst 1, 1) := by decide +kernel
theorem dL_law_260 : decode cL_law 260 = .ok (.iadd, 1) := by decide +kernel
theorem dL_law_261 : decode cL_law 261 = .ok (.iaload, 1) := by decide +kernel
theorem dL_law_262 : decode cL_law 262 = .ok (.invokevirtual 42, 3) := by decide +kernel
theorem dL_law_265 : decode cL_law 265 = .ok (.aload_n 2, 1) := by decide +kernel
theorem dL_law_266 : decode cL_law 266 = .ok (.aload_n 0, 1) := by decide +kernel
theorem dL_law_267 : decode cL_law 267 = .ok (.iload_n 3, 1) := by decide +kernel
theorem dL_law_268 : decode cL_law 268 = .ok (.iconst 1, 1) := by decide +kernel
theorem dL_law_269 : decode cL_law 269 = .ok (.iadd, 1) := by decide +kernel
theorem dL_law_270 : decode cL_law 270 = .ok (.iaload, 1) := by decide +kernel
theorem dL_law_271 : decode cL_law 271 = .ok (.invokevirtual 46, 3) := by decide +kernel
theorem dL_law_274 : decode cL_law 274 = .ok (.if_icmp .eq 42, 3) := by decide +kernel
theorem dL_law_277 : decode cL_law 277 = .ok (.iconst 0, 1) := by decide +kernel
theorem dL_law_278 : decode cL_law 278 = .ok (.ireturn, 1) := by decide +kernel
theorem dL_law_279 : decode cL_law 279 = .ok (.aload_n 1, 1) := by decide +kernel
theorem dL_law_280 : decode cL_law 280 = .ok (.invokevirtual 47, 3) := by decide +kernel
theorem dL_law_283 : decode cL_law 283 = .ok (.aload_n 2, 1) := by decide +kernel
theorem dL_law_284 : decode cL_law 284 = .ok (.invokevirtual 50, 3) := by decide +kernel
theorem dL_law_287 : decode cL_law 287 = .ok (.if_icmp .eq 29, 3) := by decide +kernel
theorem dL_law_290 : decode cL_law 290 = .ok (.iconst 0, 1) := by decide +kernel
theorem dL_law_291 : decode cL_law 291 = .ok (.ireturn, 1) := by decide +kernel
theorem dL_law_292 : decode cL_law 292 = .ok (.aload_n 1, 1) := by decide +kernel
theorem dL_law_293 : decode cL_law 293 = .ok (.invokevirtual 51, 3) := by decide +kernel
theorem dL_law_296 : decode cL_law 296 = .ok (.aload_n 2, 1) := by decide +kernel
theorem dL_law_297 : decode cL_law 297 = .ok (.invokevirtual 54, 3) := by decide +kernel
theorem dL_law_300 : decode cL_law 300 = .ok (.goto 16, 3) := by decide +kernel
theorem dL_law_303 : decode cL_law 303 = .ok (.aload_n 1, 1) := by decide +kernel
theorem dL_law_304 : decode cL_law 304 = .ok (.invokevirtual 55, 3) := by decide +kernel
theorem dL_law_307 : decode cL_law 307 = .ok (.aload_n 2, 1) := by decide +kernel
theorem dL_law_308 : decode cL_law 308 = .ok (.invokevirtual 58, 3) := by decide +kernel
theorem dL_law_311 : decode cL_law 311 = .ok (.if_icmp .eq 5, 3) := by decide +kernel
theorem dL_law_314 : decode cL_law 314 = .ok (.iconst 0, 1) := by decide +kernel
theorem dL_law_315 : decode cL_law 315 = .ok (.ireturn, 1) := by decide +kernel
theorem dL_law_316 : decode cL_law 316 = .ok (.iinc 3 4, 3) := by decide +kernel
theorem dL_law_319 : decode cL_law 319 = .ok (.goto (-301), 3) := by decide +kernel
theorem dL_law_322 : decode cL_law 322 = .ok (.iconst 1, 1) := by decide +kernel
theorem dL_law_323 : decode cL_law 323 = .ok (.ireturn, 1) := by decide +kernel

/-! java/lang/Object -/
set_option maxRecDepth 100000
def RJ0 : String := "java/lang/Object"
abbrev cJ0_init : ByteArray := object_method_1_code
def yJ0_init : MethodName := ⟨RJ0, "<init>", "()V"⟩
theorem dJ0_init_0 : decode cJ0_init 0 = .ok (.return_, 1) := by decide +kernel
theorem q33 : (Jvm.Cond.instanceMethod ({ cls := "java/lang/Object", name := "<init>", desc := "()V" } : Jvm.MethodName)) ∈ lw_all := lw_g (lw_at lw_m1 9 rfl) rfl
theorem q34 : (Jvm.Cond.code ({ cls := "java/lang/Object", name := "<init>", desc := "()V" } : Jvm.MethodName) object_method_1_code (1 : Nat) (Option.none : Option Jvm.ClassFile.FieldType)) ∈ lw_all := lw_g (lw_at lw_m1 10 rfl) rfl

theorem q24 : (Jvm.Cond.initialized "Q15DspCompilerLaw") ∈ lw_all := lw_g (lw_at lw_m1 0 rfl) rfl
set_option maxRecDepth 100000
theorem q27 : (Jvm.Cond.classLink "Q15DspCompilerLaw" (7 : Nat) "Q15DspCompiler") ∈ lw_all := lw_g (lw_at lw_m1 3 rfl) rfl
theorem q29 : (Jvm.Cond.methodLink "Q15DspCompilerLaw" (9 : Nat) ({ cls := "Q15DspCompiler", name := "<init>", desc := "()V" } : Jvm.MethodName)) ∈ lw_all := lw_g (lw_at lw_m1 5 rfl) rfl
theorem q95 : (Jvm.Cond.methodLink "Q15DspCompilerLaw" (13 : Nat) ({ cls := "Q15DspCompiler", name := "node", desc := "(III)I" } : Jvm.MethodName)) ∈ lw_all := lw_g (lw_at lw_m1 71 rfl) rfl
theorem q107 : (Jvm.Cond.methodLink "Q15DspCompilerLaw" (18 : Nat) ({ cls := "Q15DspCompiler", name := "tap", desc := "(III)I" } : Jvm.MethodName)) ∈ lw_all := lw_g (lw_at lw_m1 83 rfl) rfl
theorem q111 : (Jvm.Cond.methodLink "Q15DspCompilerLaw" (22 : Nat) ({ cls := "Q15DspCompiler", name := "nodes", desc := "()I" } : Jvm.MethodName)) ∈ lw_all := lw_g (lw_at lw_m1 87 rfl) rfl
theorem q115 : (Jvm.Cond.methodLink "Q15DspCompilerLaw" (27 : Nat) ({ cls := "Q15DspCompiler", name := "sound", desc := "()Z" } : Jvm.MethodName)) ∈ lw_all := lw_g (lw_at lw_m1 91 rfl) rfl
theorem q167 : (Jvm.Cond.methodLink "Q15DspCompilerLaw" (32 : Nat) ({ cls := "Q15DspCompiler", name := "feed", desc := "(I)Z" } : Jvm.MethodName)) ∈ lw_all := lw_g (lw_at lw_m1 143 rfl) rfl
theorem q186 : (Jvm.Cond.methodLink "Q15DspCompilerLaw" (37 : Nat) ({ cls := "Q15DspCompiler", name := "repeat", desc := "(II)I" } : Jvm.MethodName)) ∈ lw_all := lw_g (lw_at lw_m1 162 rfl) rfl
theorem q191 : (Jvm.Cond.methodLink "Q15DspCompilerLaw" (42 : Nat) ({ cls := "Q15DspCompiler", name := "value", desc := "(I)I" } : Jvm.MethodName)) ∈ lw_all := lw_g (lw_at lw_m1 167 rfl) rfl
theorem q195 : (Jvm.Cond.methodLink "Q15DspCompilerLaw" (47 : Nat) ({ cls := "Q15DspCompiler", name := "samples", desc := "()I" } : Jvm.MethodName)) ∈ lw_all := lw_g (lw_at lw_m1 171 rfl) rfl
theorem q199 : (Jvm.Cond.methodLink "Q15DspCompilerLaw" (51 : Nat) ({ cls := "Q15DspCompiler", name := "restart", desc := "()V" } : Jvm.MethodName)) ∈ lw_all := lw_g (lw_at lw_m1 175 rfl) rfl
theorem q200 : (Jvm.Cond.methodLink "Q15DspCompilerLaw" (55 : Nat) ({ cls := "Q15DspCompiler", name := "clear", desc := "()I" } : Jvm.MethodName)) ∈ lw_all := lw_g (lw_at lw_m1 176 rfl) rfl
theorem q204 : (Jvm.Cond.classLink "Q15DspCompilerLaw" (10 : Nat) "Q15DspCompilerModel") ∈ lw_all := lw_g (lw_at lw_m1 180 rfl) rfl
theorem q206 : (Jvm.Cond.methodLink "Q15DspCompilerLaw" (12 : Nat) ({ cls := "Q15DspCompilerModel", name := "<init>", desc := "()V" } : Jvm.MethodName)) ∈ lw_all := lw_g (lw_at lw_m1 182 rfl) rfl
theorem q244 : (Jvm.Cond.methodLink "Q15DspCompilerLaw" (17 : Nat) ({ cls := "Q15DspCompilerModel", name := "node", desc := "(III)I" } : Jvm.MethodName)) ∈ lw_all := lw_g (lw_at lw_m1 220 rfl) rfl
theorem q264 : (Jvm.Cond.methodLink "Q15DspCompilerLaw" (21 : Nat) ({ cls := "Q15DspCompilerModel", name := "tap", desc := "(III)I" } : Jvm.MethodName)) ∈ lw_all := lw_g (lw_at lw_m2 0 rfl) rfl
theorem q268 : (Jvm.Cond.methodLink "Q15DspCompilerLaw" (26 : Nat) ({ cls := "Q15DspCompilerModel", name := "nodes", desc := "()I" } : Jvm.MethodName)) ∈ lw_all := lw_g (lw_at lw_m2 4 rfl) rfl
theorem q272 : (Jvm.Cond.methodLink "Q15DspCompilerLaw" (31 : Nat) ({ cls := "Q15DspCompilerModel", name := "sound", desc := "()Z" } : Jvm.MethodName)) ∈ lw_all := lw_g (lw_at lw_m2 8 rfl) rfl
theorem q280 : (Jvm.Cond.methodLink "Q15DspCompilerLaw" (36 : Nat) ({ cls := "Q15DspCompilerModel", name := "feed", desc := "(I)Z" } : Jvm.MethodName)) ∈ lw_all := lw_g (lw_at lw_m2 16 rfl) rfl
theorem q304 : (Jvm.Cond.methodLink "Q15DspCompilerLaw" (41 : Nat) ({ cls := "Q15DspCompilerModel", name := "repeat", desc := "(II)I" } : Jvm.MethodName)) ∈ lw_all := lw_g (lw_at lw_m2 40 rfl) rfl
theorem q309 : (Jvm.Cond.methodLink "Q15DspCompilerLaw" (46 : Nat) ({ cls := "Q15DspCompilerModel", name := "value", desc := "(I)I" } : Jvm.MethodName)) ∈ lw_all := lw_g (lw_at lw_m2 45 rfl) rfl
theorem q313 : (Jvm.Cond.methodLink "Q15DspCompilerLaw" (50 : Nat) ({ cls := "Q15DspCompilerModel", name := "samples", desc := "()I" } : Jvm.MethodName)) ∈ lw_all := lw_g (lw_at lw_m2 49 rfl) rfl
theorem q317 : (Jvm.Cond.methodLink "Q15DspCompilerLaw" (54 : Nat) ({ cls := "Q15DspCompilerModel", name := "restart", desc := "()V" } : Jvm.MethodName)) ∈ lw_all := lw_g (lw_at lw_m2 53 rfl) rfl
theorem q318 : (Jvm.Cond.methodLink "Q15DspCompilerLaw" (58 : Nat) ({ cls := "Q15DspCompilerModel", name := "clear", desc := "()I" } : Jvm.MethodName)) ∈ lw_all := lw_g (lw_at lw_m2 54 rfl) rfl

theorem q93 : (Jvm.Cond.arrayClass Jvm.ClassFile.FieldType.byte) ∈ lw_all := lw_g (lw_at lw_m1 69 rfl) rfl
set_option maxRecDepth 100000
theorem q94 : (Jvm.Cond.arrayClass Jvm.ClassFile.FieldType.int) ∈ lw_all := lw_g (lw_at lw_m1 70 rfl) rfl
end
section
/-! MY ROWS: pictures, the two worlds, a row a field, a row an array, a method's start, calls and ends -/
set_option maxRecDepth 100000
/-- a graph: count, kind, first, second, tapCount, tapNode, tapFactor -/
abbrev XG : Type := Nat × (Nat → Int32) × (Nat → Int32) × (Nat → Int32) × (Nat → Int32) × (Nat → Int32) × (Nat → Int32)
/-- the code: codeEnd, operation, operand, cellOf, heldCell -/
abbrev XC : Type := Nat × (Nat → Int32) × (Nat → Int32) × (Nat → Int32) × Int32
/-- the machine: cells, accumulator -/
abbrev XM : Type := (Nat → Int32) × Int64
/-- the order: placed, order -/
abbrev XO : Type := Nat × (Nat → Int32)
def bI (b : Bool) : Int32 := cond b 1 0
theorem bI_nar (b : Bool) : narrow .boolean (.int (bI b)) = .int (bI b) := by cases b <;> rfl
theorem bI_fit (b : Bool) : fits .boolean (.int (bI b)) = true := by cases b <;> rfl
abbrev vwCl : List vw_C := [(RX0, TX0, 19), (RX1, TX1, 11)]
abbrev wX (h : Nat) (ad : Nat → Nat) (cd : Nat → ClassId) (G : XG) (F : Bool × Bool) (O : XO) (C : XC) (M : XM) (k : Nat) : va_W := [(h, .inr (0, [.int (nI G.1), .ref (ad 1), .ref (ad 2), .ref (ad 3), .ref (ad 4), .ref (ad 5), .ref (ad 6), .int (bI F.1), .int (bI F.2), .int (nI O.1), .ref (ad 10), .int (nI C.1), .ref (ad 12), .ref (ad 13), .ref (ad 14), .int C.2.2.2.2, .ref (ad 16), .long M.2, .int (nI k)])), (ad 1, .inl (cd 1, 20, .inl G.2.1)), (ad 2, .inl (cd 2, 20, .inl G.2.2.1)), (ad 3, .inl (cd 3, 20, .inl G.2.2.2.1)), (ad 4, .inl (cd 4, 20, .inl G.2.2.2.2.1)), (ad 5, .inl (cd 5, 120, .inl G.2.2.2.2.2.1)), (ad 6, .inl (cd 6, 120, .inl G.2.2.2.2.2.2)), (ad 10, .inl (cd 10, 20, .inl O.2)), (ad 12, .inl (cd 12, 300, .inl C.2.1)), (ad 13, .inl (cd 13, 300, .inl C.2.2.1)), (ad 14, .inl (cd 14, 300, .inl C.2.2.2.1)), (ad 16, .inl (cd 16, 42, .inl M.1))]
abbrev tX (cd : Nat → ClassId) : List (ClassId × FieldType) := [(cd 1, .byte), (cd 2, .int), (cd 3, .byte), (cd 4, .byte), (cd 5, .byte), (cd 6, .int), (cd 10, .byte), (cd 12, .byte), (cd 13, .int), (cd 14, .byte), (cd 16, .int)]
abbrev wM (h : Nat) (ad : Nat → Nat) (cd : Nat → ClassId) (G : XG) (nw bf nd : Nat → Int32) (k : Nat) : va_W := [(h, .inr (1, [.int (nI G.1), .ref (ad 1), .ref (ad 2), .ref (ad 3), .ref (ad 4), .ref (ad 5), .ref (ad 6), .ref (ad 7), .ref (ad 8), .int (nI k), .ref (ad 10)])), (ad 1, .inl (cd 1, 20, .inl G.2.1)), (ad 2, .inl (cd 2, 20, .inl G.2.2.1)), (ad 3, .inl (cd 3, 20, .inl G.2.2.2.1)), (ad 4, .inl (cd 4, 20, .inl G.2.2.2.2.1)), (ad 5, .inl (cd 5, 120, .inl G.2.2.2.2.2.1)), (ad 6, .inl (cd 6, 120, .inl G.2.2.2.2.2.2)), (ad 7, .inl (cd 7, 20, .inl nw)), (ad 8, .inl (cd 8, 20, .inl bf)), (ad 10, .inl (cd 10, 20, .inl nd))]
abbrev tM (cd : Nat → ClassId) : List (ClassId × FieldType) := [(cd 1, .int), (cd 2, .int), (cd 3, .int), (cd 4, .int), (cd 5, .int), (cd 6, .int), (cd 7, .int), (cd 8, .int), (cd 10, .int)]
/-- contracts over one world: ws before, ws' u behind, nothing made -/
abbrev zz_Pc (D : va_G) (cl : List vw_C) (tys : List (ClassId × FieldType)) (ws : va_W) (sz : Nat) (av : List Value) : Array Value → State → Prop := va_Pc av (fun U => U.heap.size = sz ∧ va_P D cl ws U.heap ∧ va_K D cl tys U ∧ va_D (fun _ => True) ws)
abbrev zz_B (D : va_G) (cl : List vw_C) (tys : List (ClassId × FieldType)) {S : Type} (ws' : S → va_W) (A : Nat → Prop) : S → State → Prop := fun u t => va_P D cl (ws' u) t.heap ∧ va_K D cl tys t ∧ va_D A (ws' u)
abbrev MetV (l : Launch) (y : MethodName) (cc : ByteArray) (L : Nat) (rm : Room) (D : va_G) (cl : List vw_C) (tys : List (ClassId × FieldType)) (ws : va_W) (sz : Nat) (av : List Value) {S : Type} (post : S → Prop) (ws' : S → va_W) : Prop :=
  Met l y (ws_ y cc L none) rm (zz_Pc D cl tys ws sz av) (va_Qv post (zz_B D cl tys ws' (va_A ws sz)) (va_A ws sz)) 0 0 (va_A ws sz)
abbrev MetI (l : Launch) (y : MethodName) (cc : ByteArray) (L : Nat) (ty : FieldType) (rm : Room) (D : va_G) (cl : List vw_C) (tys : List (ClassId × FieldType)) (ws : va_W) (sz : Nat) (av : List Value) {S : Type} (post : Int32 → S → Prop) (ws' : S → va_W) : Prop :=
  Met l y (ws_ y cc L (some ty)) rm (zz_Pc D cl tys ws sz av) (va_Qi post (zz_B D cl tys ws' (va_A ws sz)) (va_A ws sz)) 0 0 (va_A ws sz)
abbrev MetL (l : Launch) (y : MethodName) (cc : ByteArray) (L : Nat) (rm : Room) (D : va_G) (cl : List vw_C) (tys : List (ClassId × FieldType)) (ws : va_W) (sz : Nat) (av : List Value) {S : Type} (post : Int64 → S → Prop) (ws' : S → va_W) : Prop :=
  Met l y (ws_ y cc L (some .long)) rm (zz_Pc D cl tys ws sz av) (va_Ql post (zz_B D cl tys ws' (va_A ws sz)) (va_A ws sz)) 0 0 (va_A ws sz)
section ZZ
variable {p : Program} {l : Launch} {e : Env} {R : Room} {s : State} {m : MethodId} {args : Array Value} {below : List Frame} {meth : Method} {c : Code} {H : Heap} {locs : List Loc} {cells slots : Nat} {Q : State → Prop}
variable {cc : ByteArray} {pc nL : Nat} {ls : Array Slot} {rest : List Value} {D : va_G} {cl : List vw_C} {A : Nat → Prop} {tys : List (ClassId × FieldType)} {ws : va_W} {H0 : Heap}
/-- a method's start: what its body may take -/
abbrev zz_body (l : Launch) (cc : ByteArray) (L : Nat) (ret : Option FieldType) (rm : Room) (own : String) (D : va_G) (cl : List vw_C) (tys : List (ClassId × FieldType)) (ws : va_W) (av : List Value) (Qc : (Nat → Prop) → Array Value → State → Outcome → State → Prop) : Prop :=
  ∀ (p : Program) (e : Env) (s : State) (m : MethodId) (below : List Frame) (meth : Method) (c : Code) (Q : State → Prop) (A : Nat → Prop) (ls : Array Slot) (args : Array Value),
    p.tables.exec = Jvm.exec → c.code = cc → meth.sig.returnType = ret → c.maxLocals = L → s.vm.findClass own = some m.cls → (∀ w ∈ lw_all, w.before args s = true) → meth.locks = false → (∀ q : Nat, s.heap.size ≤ q → A q) → va_K D cl tys s → va_P D cl ws s.heap → va_D A ws → va_S A s.heap s.heap [] → lv_has ls L (lv_args 0 av) → Q = MQ below (Qc A) args s 0 0 A → W p l e rm s m args below meth c s.heap [] 0 0 Q (F0 m 0 ls [])
theorem zz_start {y : MethodName} {L : Nat} {ret : Option FieldType} {rm : Room} {av : List Value} {sz : Nat} {own : String} (Qc : (Nat → Prop) → Array Value → State → Outcome → State → Prop) (hy : plainName y.cls = true) (ho : y.cls = own) (hlen : (lg_sl av).length ≤ L) (body : zz_body l cc L ret rm own D cl tys ws av Qc) :
    Met l y (ws_ y cc L ret) rm (zz_Pc D cl tys ws sz av) (Qc (va_A ws sz)) 0 0 (va_A ws sz) := by
  refine Met.ofW (cc := cc) (maxL := L) (ret := ret) hy rfl ?_
  intro p e s m args below meth c s₁ B hml hv
  obtain ⟨rfl, hsz, hP, hK, hD0⟩ := hv
  have hts := atoms_spec (ws := ws_ y cc L ret) B.pre
  have hts : ∀ w ∈ lw_all, w.before _ s = true := fun w h => hts w (List.mem_cons_of_mem _ h)
  have hown : s.vm.findClass own = some m.cls := by rw [← ho]; exact findClass_of_methodNamed B.named
  subst hsz
  have hl := lv_entry av (n := L) hlen
  rw [lg_entry_eq]
  exact body p e s m below meth c _ (va_A ws s.heap.size) _ _ B.exec B.bytes B.returns hml hown hts B.notSynchronized (fun q h => Or.inr h) hK hP hD0.self va_S.rf hl rfl
theorem zz_startV {y : MethodName} {L : Nat} {rm : Room} {av : List Value} {sz : Nat} {own : String} {S : Type} {post : S → Prop} {ws' : S → va_W} (hy : plainName y.cls = true) (ho : y.cls = own) (hlen : (lg_sl av).length ≤ L) (body : zz_body l cc L none rm own D cl tys ws av (fun A => va_Qv post (zz_B D cl tys ws' A) A)) :
    MetV l y cc L rm D cl tys ws sz av post ws' := zz_start (fun A => va_Qv post (zz_B D cl tys ws' A) A) hy ho hlen body
theorem zz_startI {y : MethodName} {L : Nat} {ty : FieldType} {rm : Room} {av : List Value} {sz : Nat} {own : String} {S : Type} {post : Int32 → S → Prop} {ws' : S → va_W} (hy : plainName y.cls = true) (ho : y.cls = own) (hlen : (lg_sl av).length ≤ L) (body : zz_body l cc L (some ty) rm own D cl tys ws av (fun A => va_Qi post (zz_B D cl tys ws' A) A)) :
    MetI l y cc L ty rm D cl tys ws sz av post ws' := zz_start (fun A => va_Qi post (zz_B D cl tys ws' A) A) hy ho hlen body
theorem zz_startL {y : MethodName} {L : Nat} {rm : Room} {av : List Value} {sz : Nat} {own : String} {S : Type} {post : Int64 → S → Prop} {ws' : S → va_W} (hy : plainName y.cls = true) (ho : y.cls = own) (hlen : (lg_sl av).length ≤ L) (body : zz_body l cc L (some .long) rm own D cl tys ws av (fun A => va_Ql post (zz_B D cl tys ws' A) A)) :
    MetL l y cc L rm D cl tys ws sz av post ws' := zz_start (fun A => va_Ql post (zz_B D cl tys ws' A) A) hy ho hlen body
/-- ends -/
theorem zz_vret {S : Type} {post : S → Prop} {ws' : S → va_W} (hx : p.tables.exec = Jvm.exec) (hb : c.code = cc) (hr : meth.sig.returnType = none) (hlocks : meth.locks = false) (hK : va_K D cl tys s) (hQ : Q = MQ below (va_Qv post (zz_B D cl tys ws' A) A) args s cells slots A) (hS : va_S A s.heap H locs) (u : S) (hP : va_P D cl (ws' u) H) (hD : va_D A (ws' u)) (hdg : decode cc pc = .ok (.return_, 1)) (hw : post u) : W p l e R s m args below meth c H locs cells slots Q (F0 m pc ls []) := by
  subst hQ
  exact W.vret hx hb hr (fun t ht hW => ⟨⟨u, rfl, hw, by rw [ht]; exact hP, va_K.moved hW.alike hK, hD⟩, hS.F ht⟩) hS.2.2 hdg hlocks
theorem zz_iret {S : Type} {post : Int32 → S → Prop} {ws' : S → va_W} {v : Int32} (hx : p.tables.exec = Jvm.exec) (hb : c.code = cc) (hr : meth.sig.returnType = some .int) (hlocks : meth.locks = false) (hK : va_K D cl tys s) (hQ : Q = MQ below (va_Qi post (zz_B D cl tys ws' A) A) args s cells slots A) (hS : va_S A s.heap H locs) (u : S) (hP : va_P D cl (ws' u) H) (hD : va_D A (ws' u)) (hdg : decode cc pc = .ok (.ireturn, 1)) (hw : post v u) : W p l e R s m args below meth c H locs cells slots Q (F0 m pc ls [.int v]) := by
  subst hQ
  exact W.iret hx hb hr (fun t ht hW => ⟨⟨v, u, rfl, hw, by rw [ht]; exact hP, va_K.moved hW.alike hK, hD⟩, hS.F ht⟩) hS.2.2 hdg hlocks
theorem zz_zret {S : Type} {post : Int32 → S → Prop} {ws' : S → va_W} {v : Int32} (hx : p.tables.exec = Jvm.exec) (hb : c.code = cc) (hr : meth.sig.returnType = some .boolean) (hlocks : meth.locks = false) (hK : va_K D cl tys s) (hQ : Q = MQ below (va_Qi post (zz_B D cl tys ws' A) A) args s cells slots A) (hS : va_S A s.heap H locs) (u : S) (hP : va_P D cl (ws' u) H) (hD : va_D A (ws' u)) (hdg : decode cc pc = .ok (.ireturn, 1)) (hn : narrow .boolean (.int v) = .int v) (hw : post v u) : W p l e R s m args below meth c H locs cells slots Q (F0 m pc ls [.int v]) := by
  subst hQ
  exact W.zret hx hb hr hn (fun t ht hW => ⟨⟨v, u, rfl, hw, by rw [ht]; exact hP, va_K.moved hW.alike hK, hD⟩, hS.F ht⟩) hS.2.2 hdg hlocks
theorem zz_lret {S : Type} {post : Int64 → S → Prop} {ws' : S → va_W} {v : Int64} (hx : p.tables.exec = Jvm.exec) (hb : c.code = cc) (hr : meth.sig.returnType = some .long) (hlocks : meth.locks = false) (hK : va_K D cl tys s) (hQ : Q = MQ below (va_Ql post (zz_B D cl tys ws' A) A) args s cells slots A) (hS : va_S A s.heap H locs) (u : S) (hP : va_P D cl (ws' u) H) (hD : va_D A (ws' u)) (hdg : decode cc pc = .ok (.lreturn, 1)) (hw : post v u) : W p l e R s m args below meth c H locs cells slots Q (F0 m pc ls [.long v]) := by
  subst hQ
  exact W.lret hx hb hr (fun t ht hW => ⟨⟨v, u, rfl, hw, by rw [ht]; exact hP, va_K.moved hW.alike hK, hD⟩, hS.F ht⟩) hS.2.2 hdg hlocks
theorem zz_callv {S : Type} {post : S → Prop} {ws' : S → va_W} {y : MethodName} {bytes : ByteArray} {maxL n index : Nat} {ret : Option FieldType} {wsy : List Cond} {rm : Room} {own C : String} {b ci N : Nat} {As : List Value} {st : List Value} {T : u_T} {fs : List Value}
    (S0 : CallFix p m c cc nL s args lw_all own) (hK : va_K D cl tys s) (hP : va_P D cl ws H) (hD : va_D A ws) (hS : va_S A H0 H locs) (hA : ∀ q, H0.size ≤ q → A q) (he : ws[0]? = some (b, .inr (ci, fs))) (hc : cl[ci]? = some (C, T, N))
    (hM : Met l y wsy rm (zz_Pc D cl tys ws H.size (.ref b :: As)) (va_Qv post (zz_B D cl tys ws' (va_A ws H.size)) (va_A ws H.size)) 0 0 (va_A ws H.size))
    (cw : CallW R s args own C index y bytes maxL ret wsy rm 0 0 n) (hn : As.length = n) (hsize : ls.size = nL) (hst : st = As.reverse ++ .ref b :: rest) (hr : (rest.map fun v => v.category).sum ≤ 8) (hdg : decode cc pc = .ok (.invokevirtual index, 3)) (hf : cells ≤ R.cells ∧ slots ≤ R.slots)
    (kk : ∀ (u : S) (H1 : Heap) (locs1 : List Loc), post u → va_P D cl (ws' u) H1 → va_D A (ws' u) → va_S A H0 H1 locs1 → W p l e R s m args below meth c H1 locs1 cells slots Q (F0 m (pc + 3) ls (rest))) : W p l e R s m args below meth c H locs cells slots Q (F0 m pc ls st) := by
  have hFc : ∀ q, va_A ws H.size q → A q := fun q h => by
    rcases h with ⟨k, x, h⟩ | h
    · exact hD.2 k (q, x) h
    · exact hA q (Nat.le_trans hS.1 h)
  refine va_callv (va_runV (As := As) (rest := rest) S0 hM cw ⟨fun a U g mk q => ?_, va_recv hK hP hc he, fun U hU hW => ⟨rfl, by rw [hU], by rw [hU]; exact hP, va_K.moved hW.alike hK, hD.weaken (fun _ _ _ _ => trivial)⟩⟩ rfl hn hsize hst (lv_room hr) hdg hf) hS (fun q _ h => hFc q h) hFc (fun u t H1 locs1 ht hvm hw hB hz1 hk1 hS1 => ?_)
  · obtain ⟨q0, q1, qP, qK, qD⟩ := q
    exact ⟨q0, q1, qP, va_K.moved (u := U) (U := U.calling g mk a) (Vm.Alike.refl U.vm) qK, qD⟩
  · obtain ⟨hP1, hK1, hD1⟩ := hB
    rw [ht] at hP1
    exact kk u H1 locs1 hw hP1 (hD1.weaken (fun _ _ _ h => hFc _ h)) hS1
theorem zz_calli {S : Type} {post : Int32 → S → Prop} {ws' : S → va_W} {y : MethodName} {bytes : ByteArray} {maxL n index : Nat} {ret : Option FieldType} {wsy : List Cond} {rm : Room} {own C : String} {b ci N : Nat} {As : List Value} {st : List Value} {T : u_T} {fs : List Value}
    (S0 : CallFix p m c cc nL s args lw_all own) (hK : va_K D cl tys s) (hP : va_P D cl ws H) (hD : va_D A ws) (hS : va_S A H0 H locs) (hA : ∀ q, H0.size ≤ q → A q) (he : ws[0]? = some (b, .inr (ci, fs))) (hc : cl[ci]? = some (C, T, N))
    (hM : Met l y wsy rm (zz_Pc D cl tys ws H.size (.ref b :: As)) (va_Qi post (zz_B D cl tys ws' (va_A ws H.size)) (va_A ws H.size)) 0 0 (va_A ws H.size))
    (cw : CallW R s args own C index y bytes maxL ret wsy rm 0 0 n) (hn : As.length = n) (hsize : ls.size = nL) (hst : st = As.reverse ++ .ref b :: rest) (hr : (rest.map fun v => v.category).sum ≤ 8) (hdg : decode cc pc = .ok (.invokevirtual index, 3)) (hf : cells ≤ R.cells ∧ slots ≤ R.slots)
    (kk : ∀ (r : Int32) (u : S) (H1 : Heap) (locs1 : List Loc), post r u → va_P D cl (ws' u) H1 → va_D A (ws' u) → va_S A H0 H1 locs1 → W p l e R s m args below meth c H1 locs1 cells slots Q (F0 m (pc + 3) ls (.int r :: rest))) : W p l e R s m args below meth c H locs cells slots Q (F0 m pc ls st) := by
  have hFc : ∀ q, va_A ws H.size q → A q := fun q h => by
    rcases h with ⟨k, x, h⟩ | h
    · exact hD.2 k (q, x) h
    · exact hA q (Nat.le_trans hS.1 h)
  refine va_calli (va_runV (As := As) (rest := rest) S0 hM cw ⟨fun a U g mk q => ?_, va_recv hK hP hc he, fun U hU hW => ⟨rfl, by rw [hU], by rw [hU]; exact hP, va_K.moved hW.alike hK, hD.weaken (fun _ _ _ _ => trivial)⟩⟩ rfl hn hsize hst (lv_room hr) hdg hf) hS (fun q _ h => hFc q h) hFc (fun r u t H1 locs1 ht hvm hw hB hz1 hk1 hS1 => ?_)
  · obtain ⟨q0, q1, qP, qK, qD⟩ := q
    exact ⟨q0, q1, qP, va_K.moved (u := U) (U := U.calling g mk a) (Vm.Alike.refl U.vm) qK, qD⟩
  · obtain ⟨hP1, hK1, hD1⟩ := hB
    rw [ht] at hP1
    exact kk r u H1 locs1 hw hP1 (hD1.weaken (fun _ _ _ h => hFc _ h)) hS1
theorem zz_calll {S : Type} {post : Int64 → S → Prop} {ws' : S → va_W} {y : MethodName} {bytes : ByteArray} {maxL n index : Nat} {ret : Option FieldType} {wsy : List Cond} {rm : Room} {own C : String} {b ci N : Nat} {As : List Value} {st : List Value} {T : u_T} {fs : List Value}
    (S0 : CallFix p m c cc nL s args lw_all own) (hK : va_K D cl tys s) (hP : va_P D cl ws H) (hD : va_D A ws) (hS : va_S A H0 H locs) (hA : ∀ q, H0.size ≤ q → A q) (he : ws[0]? = some (b, .inr (ci, fs))) (hc : cl[ci]? = some (C, T, N))
    (hM : Met l y wsy rm (zz_Pc D cl tys ws H.size (.ref b :: As)) (va_Ql post (zz_B D cl tys ws' (va_A ws H.size)) (va_A ws H.size)) 0 0 (va_A ws H.size))
    (cw : CallW R s args own C index y bytes maxL ret wsy rm 0 0 n) (hn : As.length = n) (hsize : ls.size = nL) (hst : st = As.reverse ++ .ref b :: rest) (hr : (rest.map fun v => v.category).sum ≤ 8) (hdg : decode cc pc = .ok (.invokevirtual index, 3)) (hf : cells ≤ R.cells ∧ slots ≤ R.slots)
    (kk : ∀ (r : Int64) (u : S) (H1 : Heap) (locs1 : List Loc), post r u → va_P D cl (ws' u) H1 → va_D A (ws' u) → va_S A H0 H1 locs1 → W p l e R s m args below meth c H1 locs1 cells slots Q (F0 m (pc + 3) ls (.long r :: rest))) : W p l e R s m args below meth c H locs cells slots Q (F0 m pc ls st) := by
  have hFc : ∀ q, va_A ws H.size q → A q := fun q h => by
    rcases h with ⟨k, x, h⟩ | h
    · exact hD.2 k (q, x) h
    · exact hA q (Nat.le_trans hS.1 h)
  refine va_calll (va_runV (As := As) (rest := rest) S0 hM cw ⟨fun a U g mk q => ?_, va_recv hK hP hc he, fun U hU hW => ⟨rfl, by rw [hU], by rw [hU]; exact hP, va_K.moved hW.alike hK, hD.weaken (fun _ _ _ _ => trivial)⟩⟩ rfl hn hsize hst (lv_room hr) hdg hf) hS (fun q _ h => hFc q h) hFc (fun r u t H1 locs1 ht hvm hw hB hz1 hk1 hS1 => ?_)
  · obtain ⟨q0, q1, qP, qK, qD⟩ := q
    exact ⟨q0, q1, qP, va_K.moved (u := U) (U := U.calling g mk a) (Vm.Alike.refl U.vm) qK, qD⟩
  · obtain ⟨hP1, hK1, hD1⟩ := hB
    rw [ht] at hP1
    exact kk r u H1 locs1 hw hP1 (hD1.weaken (fun _ _ _ h => hFc _ h)) hS1
end ZZ
section XR
variable {p : Program} {l : Launch} {e : Env} {R : Room} {s : State} {m : MethodId} {args : Array Value} {below : List Frame} {meth : Method} {c : Code} {H : Heap} {locs : List Loc} {cells slots : Nat} {Q : State → Prop}
variable {cc : ByteArray} {pc : Nat} {ls : Array Slot} {rest : List Value} {D : va_G} {A : Nat → Prop} {H0 : Heap} {h : Nat} {ad : Nat → Nat} {cd : Nat → ClassId} {G : XG} {F : Bool × Bool} {O : XO} {C : XC} {M : XM} {k : Nat}
theorem xg_0 (hx : p.tables.exec = Jvm.exec) (hb : c.code = cc) (hts : ∀ w ∈ lw_all, w.before args s = true) (hown : s.vm.findClass RX0 = some m.cls) (hK : va_K D vwCl (tX cd) s) (hP : va_P D vwCl (wX h ad cd G F O C M k) H) (hdg : decode cc pc = .ok (.getfield 48, 3)) (kk : W p l e R s m args below meth c H locs cells slots Q (F0 m (pc + 3) ls (.int (nI G.1) :: rest))) : W p l e R s m args below meth c H locs cells slots Q (F0 m pc ls (.ref h :: rest)) := va_get (D := D) (ci := 0) (C := RX0) (T := TX0) (N := 19) hx hb hts in_X0 hown hK hP 0 rfl rfl 0 (by decide) (hts _ q35) (fun _ h9 => h9) rfl hdg kk
theorem xg_1 (hx : p.tables.exec = Jvm.exec) (hb : c.code = cc) (hts : ∀ w ∈ lw_all, w.before args s = true) (hown : s.vm.findClass RX0 = some m.cls) (hK : va_K D vwCl (tX cd) s) (hP : va_P D vwCl (wX h ad cd G F O C M k) H) (hdg : decode cc pc = .ok (.getfield 7, 3)) (kk : W p l e R s m args below meth c H locs cells slots Q (F0 m (pc + 3) ls (.ref (ad 1) :: rest))) : W p l e R s m args below meth c H locs cells slots Q (F0 m pc ls (.ref h :: rest)) := va_get (D := D) (ci := 0) (C := RX0) (T := TX0) (N := 19) hx hb hts in_X0 hown hK hP 0 rfl rfl 1 (by decide) (hts _ q36) (fun _ h9 => h9) rfl hdg kk
theorem xg_2 (hx : p.tables.exec = Jvm.exec) (hb : c.code = cc) (hts : ∀ w ∈ lw_all, w.before args s = true) (hown : s.vm.findClass RX0 = some m.cls) (hK : va_K D vwCl (tX cd) s) (hP : va_P D vwCl (wX h ad cd G F O C M k) H) (hdg : decode cc pc = .ok (.getfield 13, 3)) (kk : W p l e R s m args below meth c H locs cells slots Q (F0 m (pc + 3) ls (.ref (ad 2) :: rest))) : W p l e R s m args below meth c H locs cells slots Q (F0 m pc ls (.ref h :: rest)) := va_get (D := D) (ci := 0) (C := RX0) (T := TX0) (N := 19) hx hb hts in_X0 hown hK hP 0 rfl rfl 2 (by decide) (hts _ q37) (fun _ h9 => h9) rfl hdg kk
theorem xg_3 (hx : p.tables.exec = Jvm.exec) (hb : c.code = cc) (hts : ∀ w ∈ lw_all, w.before args s = true) (hown : s.vm.findClass RX0 = some m.cls) (hK : va_K D vwCl (tX cd) s) (hP : va_P D vwCl (wX h ad cd G F O C M k) H) (hdg : decode cc pc = .ok (.getfield 17, 3)) (kk : W p l e R s m args below meth c H locs cells slots Q (F0 m (pc + 3) ls (.ref (ad 3) :: rest))) : W p l e R s m args below meth c H locs cells slots Q (F0 m pc ls (.ref h :: rest)) := va_get (D := D) (ci := 0) (C := RX0) (T := TX0) (N := 19) hx hb hts in_X0 hown hK hP 0 rfl rfl 3 (by decide) (hts _ q38) (fun _ h9 => h9) rfl hdg kk
theorem xg_4 (hx : p.tables.exec = Jvm.exec) (hb : c.code = cc) (hts : ∀ w ∈ lw_all, w.before args s = true) (hown : s.vm.findClass RX0 = some m.cls) (hK : va_K D vwCl (tX cd) s) (hP : va_P D vwCl (wX h ad cd G F O C M k) H) (hdg : decode cc pc = .ok (.getfield 20, 3)) (kk : W p l e R s m args below meth c H locs cells slots Q (F0 m (pc + 3) ls (.ref (ad 4) :: rest))) : W p l e R s m args below meth c H locs cells slots Q (F0 m pc ls (.ref h :: rest)) := va_get (D := D) (ci := 0) (C := RX0) (T := TX0) (N := 19) hx hb hts in_X0 hown hK hP 0 rfl rfl 4 (by decide) (hts _ q39) (fun _ h9 => h9) rfl hdg kk
theorem xg_5 (hx : p.tables.exec = Jvm.exec) (hb : c.code = cc) (hts : ∀ w ∈ lw_all, w.before args s = true) (hown : s.vm.findClass RX0 = some m.cls) (hK : va_K D vwCl (tX cd) s) (hP : va_P D vwCl (wX h ad cd G F O C M k) H) (hdg : decode cc pc = .ok (.getfield 23, 3)) (kk : W p l e R s m args below meth c H locs cells slots Q (F0 m (pc + 3) ls (.ref (ad 5) :: rest))) : W p l e R s m args below meth c H locs cells slots Q (F0 m pc ls (.ref h :: rest)) := va_get (D := D) (ci := 0) (C := RX0) (T := TX0) (N := 19) hx hb hts in_X0 hown hK hP 0 rfl rfl 5 (by decide) (hts _ q40) (fun _ h9 => h9) rfl hdg kk
theorem xg_6 (hx : p.tables.exec = Jvm.exec) (hb : c.code = cc) (hts : ∀ w ∈ lw_all, w.before args s = true) (hown : s.vm.findClass RX0 = some m.cls) (hK : va_K D vwCl (tX cd) s) (hP : va_P D vwCl (wX h ad cd G F O C M k) H) (hdg : decode cc pc = .ok (.getfield 26, 3)) (kk : W p l e R s m args below meth c H locs cells slots Q (F0 m (pc + 3) ls (.ref (ad 6) :: rest))) : W p l e R s m args below meth c H locs cells slots Q (F0 m pc ls (.ref h :: rest)) := va_get (D := D) (ci := 0) (C := RX0) (T := TX0) (N := 19) hx hb hts in_X0 hown hK hP 0 rfl rfl 6 (by decide) (hts _ q41) (fun _ h9 => h9) rfl hdg kk
theorem xg_7 (hx : p.tables.exec = Jvm.exec) (hb : c.code = cc) (hts : ∀ w ∈ lw_all, w.before args s = true) (hown : s.vm.findClass RX0 = some m.cls) (hK : va_K D vwCl (tX cd) s) (hP : va_P D vwCl (wX h ad cd G F O C M k) H) (hdg : decode cc pc = .ok (.getfield 55, 3)) (kk : W p l e R s m args below meth c H locs cells slots Q (F0 m (pc + 3) ls (.int (bI F.1) :: rest))) : W p l e R s m args below meth c H locs cells slots Q (F0 m pc ls (.ref h :: rest)) := va_get (D := D) (ci := 0) (C := RX0) (T := TX0) (N := 19) hx hb hts in_X0 hown hK hP 0 rfl rfl 7 (by decide) (hts _ q42) (fun _ h9 => h9) rfl hdg kk
theorem xg_8 (hx : p.tables.exec = Jvm.exec) (hb : c.code = cc) (hts : ∀ w ∈ lw_all, w.before args s = true) (hown : s.vm.findClass RX0 = some m.cls) (hK : va_K D vwCl (tX cd) s) (hP : va_P D vwCl (wX h ad cd G F O C M k) H) (hdg : decode cc pc = .ok (.getfield 65, 3)) (kk : W p l e R s m args below meth c H locs cells slots Q (F0 m (pc + 3) ls (.int (bI F.2) :: rest))) : W p l e R s m args below meth c H locs cells slots Q (F0 m pc ls (.ref h :: rest)) := va_get (D := D) (ci := 0) (C := RX0) (T := TX0) (N := 19) hx hb hts in_X0 hown hK hP 0 rfl rfl 8 (by decide) (hts _ q43) (fun _ h9 => h9) rfl hdg kk
theorem xg_9 (hx : p.tables.exec = Jvm.exec) (hb : c.code = cc) (hts : ∀ w ∈ lw_all, w.before args s = true) (hown : s.vm.findClass RX0 = some m.cls) (hK : va_K D vwCl (tX cd) s) (hP : va_P D vwCl (wX h ad cd G F O C M k) H) (hdg : decode cc pc = .ok (.getfield 99, 3)) (kk : W p l e R s m args below meth c H locs cells slots Q (F0 m (pc + 3) ls (.int (nI O.1) :: rest))) : W p l e R s m args below meth c H locs cells slots Q (F0 m pc ls (.ref h :: rest)) := va_get (D := D) (ci := 0) (C := RX0) (T := TX0) (N := 19) hx hb hts in_X0 hown hK hP 0 rfl rfl 9 (by decide) (hts _ q44) (fun _ h9 => h9) rfl hdg kk
theorem xg_10 (hx : p.tables.exec = Jvm.exec) (hb : c.code = cc) (hts : ∀ w ∈ lw_all, w.before args s = true) (hown : s.vm.findClass RX0 = some m.cls) (hK : va_K D vwCl (tX cd) s) (hP : va_P D vwCl (wX h ad cd G F O C M k) H) (hdg : decode cc pc = .ok (.getfield 29, 3)) (kk : W p l e R s m args below meth c H locs cells slots Q (F0 m (pc + 3) ls (.ref (ad 10) :: rest))) : W p l e R s m args below meth c H locs cells slots Q (F0 m pc ls (.ref h :: rest)) := va_get (D := D) (ci := 0) (C := RX0) (T := TX0) (N := 19) hx hb hts in_X0 hown hK hP 0 rfl rfl 10 (by decide) (hts _ q45) (fun _ h9 => h9) rfl hdg kk
theorem xg_11 (hx : p.tables.exec = Jvm.exec) (hb : c.code = cc) (hts : ∀ w ∈ lw_all, w.before args s = true) (hown : s.vm.findClass RX0 = some m.cls) (hK : va_K D vwCl (tX cd) s) (hP : va_P D vwCl (wX h ad cd G F O C M k) H) (hdg : decode cc pc = .ok (.getfield 72, 3)) (kk : W p l e R s m args below meth c H locs cells slots Q (F0 m (pc + 3) ls (.int (nI C.1) :: rest))) : W p l e R s m args below meth c H locs cells slots Q (F0 m pc ls (.ref h :: rest)) := va_get (D := D) (ci := 0) (C := RX0) (T := TX0) (N := 19) hx hb hts in_X0 hown hK hP 0 rfl rfl 11 (by decide) (hts _ q46) (fun _ h9 => h9) rfl hdg kk
theorem xg_12 (hx : p.tables.exec = Jvm.exec) (hb : c.code = cc) (hts : ∀ w ∈ lw_all, w.before args s = true) (hown : s.vm.findClass RX0 = some m.cls) (hK : va_K D vwCl (tX cd) s) (hP : va_P D vwCl (wX h ad cd G F O C M k) H) (hdg : decode cc pc = .ok (.getfield 32, 3)) (kk : W p l e R s m args below meth c H locs cells slots Q (F0 m (pc + 3) ls (.ref (ad 12) :: rest))) : W p l e R s m args below meth c H locs cells slots Q (F0 m pc ls (.ref h :: rest)) := va_get (D := D) (ci := 0) (C := RX0) (T := TX0) (N := 19) hx hb hts in_X0 hown hK hP 0 rfl rfl 12 (by decide) (hts _ q47) (fun _ h9 => h9) rfl hdg kk
theorem xg_13 (hx : p.tables.exec = Jvm.exec) (hb : c.code = cc) (hts : ∀ w ∈ lw_all, w.before args s = true) (hown : s.vm.findClass RX0 = some m.cls) (hK : va_K D vwCl (tX cd) s) (hP : va_P D vwCl (wX h ad cd G F O C M k) H) (hdg : decode cc pc = .ok (.getfield 35, 3)) (kk : W p l e R s m args below meth c H locs cells slots Q (F0 m (pc + 3) ls (.ref (ad 13) :: rest))) : W p l e R s m args below meth c H locs cells slots Q (F0 m pc ls (.ref h :: rest)) := va_get (D := D) (ci := 0) (C := RX0) (T := TX0) (N := 19) hx hb hts in_X0 hown hK hP 0 rfl rfl 13 (by decide) (hts _ q48) (fun _ h9 => h9) rfl hdg kk
theorem xg_14 (hx : p.tables.exec = Jvm.exec) (hb : c.code = cc) (hts : ∀ w ∈ lw_all, w.before args s = true) (hown : s.vm.findClass RX0 = some m.cls) (hK : va_K D vwCl (tX cd) s) (hP : va_P D vwCl (wX h ad cd G F O C M k) H) (hdg : decode cc pc = .ok (.getfield 38, 3)) (kk : W p l e R s m args below meth c H locs cells slots Q (F0 m (pc + 3) ls (.ref (ad 14) :: rest))) : W p l e R s m args below meth c H locs cells slots Q (F0 m pc ls (.ref h :: rest)) := va_get (D := D) (ci := 0) (C := RX0) (T := TX0) (N := 19) hx hb hts in_X0 hown hK hP 0 rfl rfl 14 (by decide) (hts _ q49) (fun _ h9 => h9) rfl hdg kk
theorem xg_15 (hx : p.tables.exec = Jvm.exec) (hb : c.code = cc) (hts : ∀ w ∈ lw_all, w.before args s = true) (hown : s.vm.findClass RX0 = some m.cls) (hK : va_K D vwCl (tX cd) s) (hP : va_P D vwCl (wX h ad cd G F O C M k) H) (hdg : decode cc pc = .ok (.getfield 44, 3)) (kk : W p l e R s m args below meth c H locs cells slots Q (F0 m (pc + 3) ls (.int C.2.2.2.2 :: rest))) : W p l e R s m args below meth c H locs cells slots Q (F0 m pc ls (.ref h :: rest)) := va_get (D := D) (ci := 0) (C := RX0) (T := TX0) (N := 19) hx hb hts in_X0 hown hK hP 0 rfl rfl 15 (by decide) (hts _ q50) (fun _ h9 => h9) rfl hdg kk
theorem xg_16 (hx : p.tables.exec = Jvm.exec) (hb : c.code = cc) (hts : ∀ w ∈ lw_all, w.before args s = true) (hown : s.vm.findClass RX0 = some m.cls) (hK : va_K D vwCl (tX cd) s) (hP : va_P D vwCl (wX h ad cd G F O C M k) H) (hdg : decode cc pc = .ok (.getfield 41, 3)) (kk : W p l e R s m args below meth c H locs cells slots Q (F0 m (pc + 3) ls (.ref (ad 16) :: rest))) : W p l e R s m args below meth c H locs cells slots Q (F0 m pc ls (.ref h :: rest)) := va_get (D := D) (ci := 0) (C := RX0) (T := TX0) (N := 19) hx hb hts in_X0 hown hK hP 0 rfl rfl 16 (by decide) (hts _ q51) (fun _ h9 => h9) rfl hdg kk
theorem xg_17 (hx : p.tables.exec = Jvm.exec) (hb : c.code = cc) (hts : ∀ w ∈ lw_all, w.before args s = true) (hown : s.vm.findClass RX0 = some m.cls) (hK : va_K D vwCl (tX cd) s) (hP : va_P D vwCl (wX h ad cd G F O C M k) H) (hdg : decode cc pc = .ok (.getfield 89, 3)) (kk : W p l e R s m args below meth c H locs cells slots Q (F0 m (pc + 3) ls (.long M.2 :: rest))) : W p l e R s m args below meth c H locs cells slots Q (F0 m pc ls (.ref h :: rest)) := va_get (D := D) (ci := 0) (C := RX0) (T := TX0) (N := 19) hx hb hts in_X0 hown hK hP 0 rfl rfl 17 (by decide) (hts _ q52) (fun _ h9 => h9) rfl hdg kk
theorem xg_18 (hx : p.tables.exec = Jvm.exec) (hb : c.code = cc) (hts : ∀ w ∈ lw_all, w.before args s = true) (hown : s.vm.findClass RX0 = some m.cls) (hK : va_K D vwCl (tX cd) s) (hP : va_P D vwCl (wX h ad cd G F O C M k) H) (hdg : decode cc pc = .ok (.getfield 79, 3)) (kk : W p l e R s m args below meth c H locs cells slots Q (F0 m (pc + 3) ls (.int (nI k) :: rest))) : W p l e R s m args below meth c H locs cells slots Q (F0 m pc ls (.ref h :: rest)) := va_get (D := D) (ci := 0) (C := RX0) (T := TX0) (N := 19) hx hb hts in_X0 hown hK hP 0 rfl rfl 18 (by decide) (hts _ q53) (fun _ h9 => h9) rfl hdg kk
theorem xp_0 (hx : p.tables.exec = Jvm.exec) (hb : c.code = cc) (hts : ∀ w ∈ lw_all, w.before args s = true) (hown : s.vm.findClass RX0 = some m.cls) (hK : va_K D vwCl (tX cd) s) (hP : va_P D vwCl (wX h ad cd G F O C M k) H) (hD : va_D A (wX h ad cd G F O C M k)) (hS : va_S A H0 H locs) (n' : Nat) {v : Int32} (hv : v = nI n') (hdg : decode cc pc = .ok (.putfield 48, 3)) (kk : ∀ (H1 : Heap) (locs1 : List Loc), va_P D vwCl (wX h ad cd (n', G.2) F O C M k) H1 → va_D A (wX h ad cd (n', G.2) F O C M k) → va_S A H0 H1 locs1 → W p l e R s m args below meth c H1 locs1 cells slots Q (F0 m (pc + 3) ls rest)) : W p l e R s m args below meth c H locs cells slots Q (F0 m pc ls (.int v :: .ref h :: rest)) := by
  subst hv
  exact va_put (D := D) (ci := 0) (ty := .int) (C := RX0) (T := TX0) (N := 19) hx hb hts in_X0 tyX0 tyX0_ok nmX0 hown hK hP hD hS 0 rfl rfl 0 (by decide) (hts _ q35) (fun _ h9 => h9) rfl (by decide +kernel) rfl rfl (Nat.le_of_ble_eq_true rfl) hdg (fun H1 locs1 a1 a2 a3 => kk H1 locs1 a1 a2 a3)
theorem xp_7 (hx : p.tables.exec = Jvm.exec) (hb : c.code = cc) (hts : ∀ w ∈ lw_all, w.before args s = true) (hown : s.vm.findClass RX0 = some m.cls) (hK : va_K D vwCl (tX cd) s) (hP : va_P D vwCl (wX h ad cd G F O C M k) H) (hD : va_D A (wX h ad cd G F O C M k)) (hS : va_S A H0 H locs) (b' : Bool) {v : Int32} (hv : v = bI b') (hdg : decode cc pc = .ok (.putfield 55, 3)) (kk : ∀ (H1 : Heap) (locs1 : List Loc), va_P D vwCl (wX h ad cd G (b', F.2) O C M k) H1 → va_D A (wX h ad cd G (b', F.2) O C M k) → va_S A H0 H1 locs1 → W p l e R s m args below meth c H1 locs1 cells slots Q (F0 m (pc + 3) ls rest)) : W p l e R s m args below meth c H locs cells slots Q (F0 m pc ls (.int v :: .ref h :: rest)) := by
  subst hv
  exact va_put (D := D) (ci := 0) (ty := .boolean) (C := RX0) (T := TX0) (N := 19) hx hb hts in_X0 tyX0 tyX0_ok nmX0 hown hK hP hD hS 0 rfl rfl 7 (by decide) (hts _ q42) (fun _ h9 => h9) rfl (by decide +kernel) (bI_nar _) (bI_fit _) (Nat.le_of_ble_eq_true rfl) hdg (fun H1 locs1 a1 a2 a3 => kk H1 locs1 a1 a2 a3)
theorem xp_8 (hx : p.tables.exec = Jvm.exec) (hb : c.code = cc) (hts : ∀ w ∈ lw_all, w.before args s = true) (hown : s.vm.findClass RX0 = some m.cls) (hK : va_K D vwCl (tX cd) s) (hP : va_P D vwCl (wX h ad cd G F O C M k) H) (hD : va_D A (wX h ad cd G F O C M k)) (hS : va_S A H0 H locs) (b' : Bool) {v : Int32} (hv : v = bI b') (hdg : decode cc pc = .ok (.putfield 65, 3)) (kk : ∀ (H1 : Heap) (locs1 : List Loc), va_P D vwCl (wX h ad cd G (F.1, b') O C M k) H1 → va_D A (wX h ad cd G (F.1, b') O C M k) → va_S A H0 H1 locs1 → W p l e R s m args below meth c H1 locs1 cells slots Q (F0 m (pc + 3) ls rest)) : W p l e R s m args below meth c H locs cells slots Q (F0 m pc ls (.int v :: .ref h :: rest)) := by
  subst hv
  exact va_put (D := D) (ci := 0) (ty := .boolean) (C := RX0) (T := TX0) (N := 19) hx hb hts in_X0 tyX0 tyX0_ok nmX0 hown hK hP hD hS 0 rfl rfl 8 (by decide) (hts _ q43) (fun _ h9 => h9) rfl (by decide +kernel) (bI_nar _) (bI_fit _) (Nat.le_of_ble_eq_true rfl) hdg (fun H1 locs1 a1 a2 a3 => kk H1 locs1 a1 a2 a3)
theorem xp_9 (hx : p.tables.exec = Jvm.exec) (hb : c.code = cc) (hts : ∀ w ∈ lw_all, w.before args s = true) (hown : s.vm.findClass RX0 = some m.cls) (hK : va_K D vwCl (tX cd) s) (hP : va_P D vwCl (wX h ad cd G F O C M k) H) (hD : va_D A (wX h ad cd G F O C M k)) (hS : va_S A H0 H locs) (n' : Nat) {v : Int32} (hv : v = nI n') (hdg : decode cc pc = .ok (.putfield 99, 3)) (kk : ∀ (H1 : Heap) (locs1 : List Loc), va_P D vwCl (wX h ad cd G F (n', O.2) C M k) H1 → va_D A (wX h ad cd G F (n', O.2) C M k) → va_S A H0 H1 locs1 → W p l e R s m args below meth c H1 locs1 cells slots Q (F0 m (pc + 3) ls rest)) : W p l e R s m args below meth c H locs cells slots Q (F0 m pc ls (.int v :: .ref h :: rest)) := by
  subst hv
  exact va_put (D := D) (ci := 0) (ty := .int) (C := RX0) (T := TX0) (N := 19) hx hb hts in_X0 tyX0 tyX0_ok nmX0 hown hK hP hD hS 0 rfl rfl 9 (by decide) (hts _ q44) (fun _ h9 => h9) rfl (by decide +kernel) rfl rfl (Nat.le_of_ble_eq_true rfl) hdg (fun H1 locs1 a1 a2 a3 => kk H1 locs1 a1 a2 a3)
theorem xp_11 (hx : p.tables.exec = Jvm.exec) (hb : c.code = cc) (hts : ∀ w ∈ lw_all, w.before args s = true) (hown : s.vm.findClass RX0 = some m.cls) (hK : va_K D vwCl (tX cd) s) (hP : va_P D vwCl (wX h ad cd G F O C M k) H) (hD : va_D A (wX h ad cd G F O C M k)) (hS : va_S A H0 H locs) (n' : Nat) {v : Int32} (hv : v = nI n') (hdg : decode cc pc = .ok (.putfield 72, 3)) (kk : ∀ (H1 : Heap) (locs1 : List Loc), va_P D vwCl (wX h ad cd G F O (n', C.2) M k) H1 → va_D A (wX h ad cd G F O (n', C.2) M k) → va_S A H0 H1 locs1 → W p l e R s m args below meth c H1 locs1 cells slots Q (F0 m (pc + 3) ls rest)) : W p l e R s m args below meth c H locs cells slots Q (F0 m pc ls (.int v :: .ref h :: rest)) := by
  subst hv
  exact va_put (D := D) (ci := 0) (ty := .int) (C := RX0) (T := TX0) (N := 19) hx hb hts in_X0 tyX0 tyX0_ok nmX0 hown hK hP hD hS 0 rfl rfl 11 (by decide) (hts _ q46) (fun _ h9 => h9) rfl (by decide +kernel) rfl rfl (Nat.le_of_ble_eq_true rfl) hdg (fun H1 locs1 a1 a2 a3 => kk H1 locs1 a1 a2 a3)
theorem xp_15 (hx : p.tables.exec = Jvm.exec) (hb : c.code = cc) (hts : ∀ w ∈ lw_all, w.before args s = true) (hown : s.vm.findClass RX0 = some m.cls) (hK : va_K D vwCl (tX cd) s) (hP : va_P D vwCl (wX h ad cd G F O C M k) H) (hD : va_D A (wX h ad cd G F O C M k)) (hS : va_S A H0 H locs) {v : Int32} (hdg : decode cc pc = .ok (.putfield 44, 3)) (kk : ∀ (H1 : Heap) (locs1 : List Loc), va_P D vwCl (wX h ad cd G F O (C.1, C.2.1, C.2.2.1, C.2.2.2.1, v) M k) H1 → va_D A (wX h ad cd G F O (C.1, C.2.1, C.2.2.1, C.2.2.2.1, v) M k) → va_S A H0 H1 locs1 → W p l e R s m args below meth c H1 locs1 cells slots Q (F0 m (pc + 3) ls rest)) : W p l e R s m args below meth c H locs cells slots Q (F0 m pc ls (.int v :: .ref h :: rest)) := by
  exact va_put (D := D) (ci := 0) (ty := .int) (C := RX0) (T := TX0) (N := 19) hx hb hts in_X0 tyX0 tyX0_ok nmX0 hown hK hP hD hS 0 rfl rfl 15 (by decide) (hts _ q50) (fun _ h9 => h9) rfl (by decide +kernel) rfl rfl (Nat.le_of_ble_eq_true rfl) hdg (fun H1 locs1 a1 a2 a3 => kk H1 locs1 a1 a2 a3)
theorem xp_17 (hx : p.tables.exec = Jvm.exec) (hb : c.code = cc) (hts : ∀ w ∈ lw_all, w.before args s = true) (hown : s.vm.findClass RX0 = some m.cls) (hK : va_K D vwCl (tX cd) s) (hP : va_P D vwCl (wX h ad cd G F O C M k) H) (hD : va_D A (wX h ad cd G F O C M k)) (hS : va_S A H0 H locs) {v : Int64} (hdg : decode cc pc = .ok (.putfield 89, 3)) (kk : ∀ (H1 : Heap) (locs1 : List Loc), va_P D vwCl (wX h ad cd G F O C (M.1, v) k) H1 → va_D A (wX h ad cd G F O C (M.1, v) k) → va_S A H0 H1 locs1 → W p l e R s m args below meth c H1 locs1 cells slots Q (F0 m (pc + 3) ls rest)) : W p l e R s m args below meth c H locs cells slots Q (F0 m pc ls (.long v :: .ref h :: rest)) := by
  exact va_put (D := D) (ci := 0) (ty := .long) (C := RX0) (T := TX0) (N := 19) hx hb hts in_X0 tyX0 tyX0_ok nmX0 hown hK hP hD hS 0 rfl rfl 17 (by decide) (hts _ q52) (fun _ h9 => h9) rfl (by decide +kernel) rfl rfl (Nat.le_of_ble_eq_true rfl) hdg (fun H1 locs1 a1 a2 a3 => kk H1 locs1 a1 a2 a3)
theorem xp_18 (hx : p.tables.exec = Jvm.exec) (hb : c.code = cc) (hts : ∀ w ∈ lw_all, w.before args s = true) (hown : s.vm.findClass RX0 = some m.cls) (hK : va_K D vwCl (tX cd) s) (hP : va_P D vwCl (wX h ad cd G F O C M k) H) (hD : va_D A (wX h ad cd G F O C M k)) (hS : va_S A H0 H locs) (n' : Nat) {v : Int32} (hv : v = nI n') (hdg : decode cc pc = .ok (.putfield 79, 3)) (kk : ∀ (H1 : Heap) (locs1 : List Loc), va_P D vwCl (wX h ad cd G F O C M n') H1 → va_D A (wX h ad cd G F O C M n') → va_S A H0 H1 locs1 → W p l e R s m args below meth c H1 locs1 cells slots Q (F0 m (pc + 3) ls rest)) : W p l e R s m args below meth c H locs cells slots Q (F0 m pc ls (.int v :: .ref h :: rest)) := by
  subst hv
  exact va_put (D := D) (ci := 0) (ty := .int) (C := RX0) (T := TX0) (N := 19) hx hb hts in_X0 tyX0 tyX0_ok nmX0 hown hK hP hD hS 0 rfl rfl 18 (by decide) (hts _ q53) (fun _ h9 => h9) rfl (by decide +kernel) rfl rfl (Nat.le_of_ble_eq_true rfl) hdg (fun H1 locs1 a1 a2 a3 => kk H1 locs1 a1 a2 a3)
theorem xl_1 (hx : p.tables.exec = Jvm.exec) (hb : c.code = cc) (hK : va_K D vwCl (tX cd) s) (hP : va_P D vwCl (wX h ad cd G F O C M k) H) (j : Nat) (hj : j < 20) {i : Int32} (hi : i = nI j) (hdg : decode cc pc = .ok (.baload, 1)) (kk : W p l e R s m args below meth c H locs cells slots Q (F0 m (pc + 1) ls (.int (G.2.1 j) :: rest))) : W p l e R s m args below meth c H locs cells slots Q (F0 m pc ls (.int i :: .ref (ad 1) :: rest)) := by
  subst hi
  refine va_bald hx hb hK hP 1 0 rfl rfl (vp_in_nI hj (by decide)) hdg ?_
  rw [nI_clamp (by omega)]
  exact kk
theorem xs_1 (hx : p.tables.exec = Jvm.exec) (hb : c.code = cc) (hK : va_K D vwCl (tX cd) s) (hP : va_P D vwCl (wX h ad cd G F O C M k) H) (hD : va_D A (wX h ad cd G F O C M k)) (hS : va_S A H0 H locs) (j : Nat) (hj : j < 20) {i x : Int32} (hi : i = nI j) (v' : Int32) (hv : vp_nar .byte x = v') (hdg : decode cc pc = .ok (.bastore, 1)) (kk : ∀ (H1 : Heap) (locs1 : List Loc), va_P D vwCl (wX h ad cd (G.1, upd G.2.1 j v', G.2.2) F O C M k) H1 → va_D A (wX h ad cd (G.1, upd G.2.1 j v', G.2.2) F O C M k) → va_S A H0 H1 locs1 → W p l e R s m args below meth c H1 locs1 cells slots Q (F0 m (pc + 1) ls rest)) : W p l e R s m args below meth c H locs cells slots Q (F0 m pc ls (.int x :: .int i :: .ref (ad 1) :: rest)) := by
  subst hi
  subst hv
  refine va_bast hx hb hK hP hD hS 1 0 rfl rfl (vp_in_nI hj (by decide)) hdg (fun H1 locs1 a1 a2 a3 => ?_)
  rw [nI_clamp (by omega)] at a1 a2
  exact kk H1 locs1 a1 a2 a3
theorem xl_2 (hx : p.tables.exec = Jvm.exec) (hb : c.code = cc) (hK : va_K D vwCl (tX cd) s) (hP : va_P D vwCl (wX h ad cd G F O C M k) H) (j : Nat) (hj : j < 20) {i : Int32} (hi : i = nI j) (hdg : decode cc pc = .ok (.iaload, 1)) (kk : W p l e R s m args below meth c H locs cells slots Q (F0 m (pc + 1) ls (.int (G.2.2.1 j) :: rest))) : W p l e R s m args below meth c H locs cells slots Q (F0 m pc ls (.int i :: .ref (ad 2) :: rest)) := by
  subst hi
  refine va_iald hx hb hK hP 2 1 rfl rfl (vp_in_nI hj (by decide)) hdg ?_
  rw [nI_clamp (by omega)]
  exact kk
theorem xs_2 (hx : p.tables.exec = Jvm.exec) (hb : c.code = cc) (hK : va_K D vwCl (tX cd) s) (hP : va_P D vwCl (wX h ad cd G F O C M k) H) (hD : va_D A (wX h ad cd G F O C M k)) (hS : va_S A H0 H locs) (j : Nat) (hj : j < 20) {i v' : Int32} (hi : i = nI j) (hdg : decode cc pc = .ok (.iastore, 1)) (kk : ∀ (H1 : Heap) (locs1 : List Loc), va_P D vwCl (wX h ad cd (G.1, G.2.1, upd G.2.2.1 j v', G.2.2.2) F O C M k) H1 → va_D A (wX h ad cd (G.1, G.2.1, upd G.2.2.1 j v', G.2.2.2) F O C M k) → va_S A H0 H1 locs1 → W p l e R s m args below meth c H1 locs1 cells slots Q (F0 m (pc + 1) ls rest)) : W p l e R s m args below meth c H locs cells slots Q (F0 m pc ls (.int v' :: .int i :: .ref (ad 2) :: rest)) := by
  subst hi
  refine va_iast hx hb hK hP hD hS 2 1 rfl rfl (vp_in_nI hj (by decide)) hdg (fun H1 locs1 a1 a2 a3 => ?_)
  rw [nI_clamp (by omega)] at a1 a2
  exact kk H1 locs1 a1 a2 a3
theorem xl_3 (hx : p.tables.exec = Jvm.exec) (hb : c.code = cc) (hK : va_K D vwCl (tX cd) s) (hP : va_P D vwCl (wX h ad cd G F O C M k) H) (j : Nat) (hj : j < 20) {i : Int32} (hi : i = nI j) (hdg : decode cc pc = .ok (.baload, 1)) (kk : W p l e R s m args below meth c H locs cells slots Q (F0 m (pc + 1) ls (.int (G.2.2.2.1 j) :: rest))) : W p l e R s m args below meth c H locs cells slots Q (F0 m pc ls (.int i :: .ref (ad 3) :: rest)) := by
  subst hi
  refine va_bald hx hb hK hP 3 2 rfl rfl (vp_in_nI hj (by decide)) hdg ?_
  rw [nI_clamp (by omega)]
  exact kk
theorem xs_3 (hx : p.tables.exec = Jvm.exec) (hb : c.code = cc) (hK : va_K D vwCl (tX cd) s) (hP : va_P D vwCl (wX h ad cd G F O C M k) H) (hD : va_D A (wX h ad cd G F O C M k)) (hS : va_S A H0 H locs) (j : Nat) (hj : j < 20) {i x : Int32} (hi : i = nI j) (v' : Int32) (hv : vp_nar .byte x = v') (hdg : decode cc pc = .ok (.bastore, 1)) (kk : ∀ (H1 : Heap) (locs1 : List Loc), va_P D vwCl (wX h ad cd (G.1, G.2.1, G.2.2.1, upd G.2.2.2.1 j v', G.2.2.2.2) F O C M k) H1 → va_D A (wX h ad cd (G.1, G.2.1, G.2.2.1, upd G.2.2.2.1 j v', G.2.2.2.2) F O C M k) → va_S A H0 H1 locs1 → W p l e R s m args below meth c H1 locs1 cells slots Q (F0 m (pc + 1) ls rest)) : W p l e R s m args below meth c H locs cells slots Q (F0 m pc ls (.int x :: .int i :: .ref (ad 3) :: rest)) := by
  subst hi
  subst hv
  refine va_bast hx hb hK hP hD hS 3 2 rfl rfl (vp_in_nI hj (by decide)) hdg (fun H1 locs1 a1 a2 a3 => ?_)
  rw [nI_clamp (by omega)] at a1 a2
  exact kk H1 locs1 a1 a2 a3
theorem xl_4 (hx : p.tables.exec = Jvm.exec) (hb : c.code = cc) (hK : va_K D vwCl (tX cd) s) (hP : va_P D vwCl (wX h ad cd G F O C M k) H) (j : Nat) (hj : j < 20) {i : Int32} (hi : i = nI j) (hdg : decode cc pc = .ok (.baload, 1)) (kk : W p l e R s m args below meth c H locs cells slots Q (F0 m (pc + 1) ls (.int (G.2.2.2.2.1 j) :: rest))) : W p l e R s m args below meth c H locs cells slots Q (F0 m pc ls (.int i :: .ref (ad 4) :: rest)) := by
  subst hi
  refine va_bald hx hb hK hP 4 3 rfl rfl (vp_in_nI hj (by decide)) hdg ?_
  rw [nI_clamp (by omega)]
  exact kk
theorem xs_4 (hx : p.tables.exec = Jvm.exec) (hb : c.code = cc) (hK : va_K D vwCl (tX cd) s) (hP : va_P D vwCl (wX h ad cd G F O C M k) H) (hD : va_D A (wX h ad cd G F O C M k)) (hS : va_S A H0 H locs) (j : Nat) (hj : j < 20) {i x : Int32} (hi : i = nI j) (v' : Int32) (hv : vp_nar .byte x = v') (hdg : decode cc pc = .ok (.bastore, 1)) (kk : ∀ (H1 : Heap) (locs1 : List Loc), va_P D vwCl (wX h ad cd (G.1, G.2.1, G.2.2.1, G.2.2.2.1, upd G.2.2.2.2.1 j v', G.2.2.2.2.2) F O C M k) H1 → va_D A (wX h ad cd (G.1, G.2.1, G.2.2.1, G.2.2.2.1, upd G.2.2.2.2.1 j v', G.2.2.2.2.2) F O C M k) → va_S A H0 H1 locs1 → W p l e R s m args below meth c H1 locs1 cells slots Q (F0 m (pc + 1) ls rest)) : W p l e R s m args below meth c H locs cells slots Q (F0 m pc ls (.int x :: .int i :: .ref (ad 4) :: rest)) := by
  subst hi
  subst hv
  refine va_bast hx hb hK hP hD hS 4 3 rfl rfl (vp_in_nI hj (by decide)) hdg (fun H1 locs1 a1 a2 a3 => ?_)
  rw [nI_clamp (by omega)] at a1 a2
  exact kk H1 locs1 a1 a2 a3
theorem xl_5 (hx : p.tables.exec = Jvm.exec) (hb : c.code = cc) (hK : va_K D vwCl (tX cd) s) (hP : va_P D vwCl (wX h ad cd G F O C M k) H) (j : Nat) (hj : j < 120) {i : Int32} (hi : i = nI j) (hdg : decode cc pc = .ok (.baload, 1)) (kk : W p l e R s m args below meth c H locs cells slots Q (F0 m (pc + 1) ls (.int (G.2.2.2.2.2.1 j) :: rest))) : W p l e R s m args below meth c H locs cells slots Q (F0 m pc ls (.int i :: .ref (ad 5) :: rest)) := by
  subst hi
  refine va_bald hx hb hK hP 5 4 rfl rfl (vp_in_nI hj (by decide)) hdg ?_
  rw [nI_clamp (by omega)]
  exact kk
theorem xs_5 (hx : p.tables.exec = Jvm.exec) (hb : c.code = cc) (hK : va_K D vwCl (tX cd) s) (hP : va_P D vwCl (wX h ad cd G F O C M k) H) (hD : va_D A (wX h ad cd G F O C M k)) (hS : va_S A H0 H locs) (j : Nat) (hj : j < 120) {i x : Int32} (hi : i = nI j) (v' : Int32) (hv : vp_nar .byte x = v') (hdg : decode cc pc = .ok (.bastore, 1)) (kk : ∀ (H1 : Heap) (locs1 : List Loc), va_P D vwCl (wX h ad cd (G.1, G.2.1, G.2.2.1, G.2.2.2.1, G.2.2.2.2.1, upd G.2.2.2.2.2.1 j v', G.2.2.2.2.2.2) F O C M k) H1 → va_D A (wX h ad cd (G.1, G.2.1, G.2.2.1, G.2.2.2.1, G.2.2.2.2.1, upd G.2.2.2.2.2.1 j v', G.2.2.2.2.2.2) F O C M k) → va_S A H0 H1 locs1 → W p l e R s m args below meth c H1 locs1 cells slots Q (F0 m (pc + 1) ls rest)) : W p l e R s m args below meth c H locs cells slots Q (F0 m pc ls (.int x :: .int i :: .ref (ad 5) :: rest)) := by
  subst hi
  subst hv
  refine va_bast hx hb hK hP hD hS 5 4 rfl rfl (vp_in_nI hj (by decide)) hdg (fun H1 locs1 a1 a2 a3 => ?_)
  rw [nI_clamp (by omega)] at a1 a2
  exact kk H1 locs1 a1 a2 a3
theorem xl_6 (hx : p.tables.exec = Jvm.exec) (hb : c.code = cc) (hK : va_K D vwCl (tX cd) s) (hP : va_P D vwCl (wX h ad cd G F O C M k) H) (j : Nat) (hj : j < 120) {i : Int32} (hi : i = nI j) (hdg : decode cc pc = .ok (.iaload, 1)) (kk : W p l e R s m args below meth c H locs cells slots Q (F0 m (pc + 1) ls (.int (G.2.2.2.2.2.2 j) :: rest))) : W p l e R s m args below meth c H locs cells slots Q (F0 m pc ls (.int i :: .ref (ad 6) :: rest)) := by
  subst hi
  refine va_iald hx hb hK hP 6 5 rfl rfl (vp_in_nI hj (by decide)) hdg ?_
  rw [nI_clamp (by omega)]
  exact kk
theorem xs_6 (hx : p.tables.exec = Jvm.exec) (hb : c.code = cc) (hK : va_K D vwCl (tX cd) s) (hP : va_P D vwCl (wX h ad cd G F O C M k) H) (hD : va_D A (wX h ad cd G F O C M k)) (hS : va_S A H0 H locs) (j : Nat) (hj : j < 120) {i v' : Int32} (hi : i = nI j) (hdg : decode cc pc = .ok (.iastore, 1)) (kk : ∀ (H1 : Heap) (locs1 : List Loc), va_P D vwCl (wX h ad cd (G.1, G.2.1, G.2.2.1, G.2.2.2.1, G.2.2.2.2.1, G.2.2.2.2.2.1, upd G.2.2.2.2.2.2 j v') F O C M k) H1 → va_D A (wX h ad cd (G.1, G.2.1, G.2.2.1, G.2.2.2.1, G.2.2.2.2.1, G.2.2.2.2.2.1, upd G.2.2.2.2.2.2 j v') F O C M k) → va_S A H0 H1 locs1 → W p l e R s m args below meth c H1 locs1 cells slots Q (F0 m (pc + 1) ls rest)) : W p l e R s m args below meth c H locs cells slots Q (F0 m pc ls (.int v' :: .int i :: .ref (ad 6) :: rest)) := by
  subst hi
  refine va_iast hx hb hK hP hD hS 6 5 rfl rfl (vp_in_nI hj (by decide)) hdg (fun H1 locs1 a1 a2 a3 => ?_)
  rw [nI_clamp (by omega)] at a1 a2
  exact kk H1 locs1 a1 a2 a3
theorem xl_10 (hx : p.tables.exec = Jvm.exec) (hb : c.code = cc) (hK : va_K D vwCl (tX cd) s) (hP : va_P D vwCl (wX h ad cd G F O C M k) H) (j : Nat) (hj : j < 20) {i : Int32} (hi : i = nI j) (hdg : decode cc pc = .ok (.baload, 1)) (kk : W p l e R s m args below meth c H locs cells slots Q (F0 m (pc + 1) ls (.int (O.2 j) :: rest))) : W p l e R s m args below meth c H locs cells slots Q (F0 m pc ls (.int i :: .ref (ad 10) :: rest)) := by
  subst hi
  refine va_bald hx hb hK hP 7 6 rfl rfl (vp_in_nI hj (by decide)) hdg ?_
  rw [nI_clamp (by omega)]
  exact kk
theorem xs_10 (hx : p.tables.exec = Jvm.exec) (hb : c.code = cc) (hK : va_K D vwCl (tX cd) s) (hP : va_P D vwCl (wX h ad cd G F O C M k) H) (hD : va_D A (wX h ad cd G F O C M k)) (hS : va_S A H0 H locs) (j : Nat) (hj : j < 20) {i x : Int32} (hi : i = nI j) (v' : Int32) (hv : vp_nar .byte x = v') (hdg : decode cc pc = .ok (.bastore, 1)) (kk : ∀ (H1 : Heap) (locs1 : List Loc), va_P D vwCl (wX h ad cd G F (O.1, upd O.2 j v') C M k) H1 → va_D A (wX h ad cd G F (O.1, upd O.2 j v') C M k) → va_S A H0 H1 locs1 → W p l e R s m args below meth c H1 locs1 cells slots Q (F0 m (pc + 1) ls rest)) : W p l e R s m args below meth c H locs cells slots Q (F0 m pc ls (.int x :: .int i :: .ref (ad 10) :: rest)) := by
  subst hi
  subst hv
  refine va_bast hx hb hK hP hD hS 7 6 rfl rfl (vp_in_nI hj (by decide)) hdg (fun H1 locs1 a1 a2 a3 => ?_)
  rw [nI_clamp (by omega)] at a1 a2
  exact kk H1 locs1 a1 a2 a3
theorem xl_12 (hx : p.tables.exec = Jvm.exec) (hb : c.code = cc) (hK : va_K D vwCl (tX cd) s) (hP : va_P D vwCl (wX h ad cd G F O C M k) H) (j : Nat) (hj : j < 300) {i : Int32} (hi : i = nI j) (hdg : decode cc pc = .ok (.baload, 1)) (kk : W p l e R s m args below meth c H locs cells slots Q (F0 m (pc + 1) ls (.int (C.2.1 j) :: rest))) : W p l e R s m args below meth c H locs cells slots Q (F0 m pc ls (.int i :: .ref (ad 12) :: rest)) := by
  subst hi
  refine va_bald hx hb hK hP 8 7 rfl rfl (vp_in_nI hj (by decide)) hdg ?_
  rw [nI_clamp (by omega)]
  exact kk
theorem xs_12 (hx : p.tables.exec = Jvm.exec) (hb : c.code = cc) (hK : va_K D vwCl (tX cd) s) (hP : va_P D vwCl (wX h ad cd G F O C M k) H) (hD : va_D A (wX h ad cd G F O C M k)) (hS : va_S A H0 H locs) (j : Nat) (hj : j < 300) {i x : Int32} (hi : i = nI j) (v' : Int32) (hv : vp_nar .byte x = v') (hdg : decode cc pc = .ok (.bastore, 1)) (kk : ∀ (H1 : Heap) (locs1 : List Loc), va_P D vwCl (wX h ad cd G F O (C.1, upd C.2.1 j v', C.2.2) M k) H1 → va_D A (wX h ad cd G F O (C.1, upd C.2.1 j v', C.2.2) M k) → va_S A H0 H1 locs1 → W p l e R s m args below meth c H1 locs1 cells slots Q (F0 m (pc + 1) ls rest)) : W p l e R s m args below meth c H locs cells slots Q (F0 m pc ls (.int x :: .int i :: .ref (ad 12) :: rest)) := by
  subst hi
  subst hv
  refine va_bast hx hb hK hP hD hS 8 7 rfl rfl (vp_in_nI hj (by decide)) hdg (fun H1 locs1 a1 a2 a3 => ?_)
  rw [nI_clamp (by omega)] at a1 a2
  exact kk H1 locs1 a1 a2 a3
theorem xl_13 (hx : p.tables.exec = Jvm.exec) (hb : c.code = cc) (hK : va_K D vwCl (tX cd) s) (hP : va_P D vwCl (wX h ad cd G F O C M k) H) (j : Nat) (hj : j < 300) {i : Int32} (hi : i = nI j) (hdg : decode cc pc = .ok (.iaload, 1)) (kk : W p l e R s m args below meth c H locs cells slots Q (F0 m (pc + 1) ls (.int (C.2.2.1 j) :: rest))) : W p l e R s m args below meth c H locs cells slots Q (F0 m pc ls (.int i :: .ref (ad 13) :: rest)) := by
  subst hi
  refine va_iald hx hb hK hP 9 8 rfl rfl (vp_in_nI hj (by decide)) hdg ?_
  rw [nI_clamp (by omega)]
  exact kk
theorem xs_13 (hx : p.tables.exec = Jvm.exec) (hb : c.code = cc) (hK : va_K D vwCl (tX cd) s) (hP : va_P D vwCl (wX h ad cd G F O C M k) H) (hD : va_D A (wX h ad cd G F O C M k)) (hS : va_S A H0 H locs) (j : Nat) (hj : j < 300) {i v' : Int32} (hi : i = nI j) (hdg : decode cc pc = .ok (.iastore, 1)) (kk : ∀ (H1 : Heap) (locs1 : List Loc), va_P D vwCl (wX h ad cd G F O (C.1, C.2.1, upd C.2.2.1 j v', C.2.2.2) M k) H1 → va_D A (wX h ad cd G F O (C.1, C.2.1, upd C.2.2.1 j v', C.2.2.2) M k) → va_S A H0 H1 locs1 → W p l e R s m args below meth c H1 locs1 cells slots Q (F0 m (pc + 1) ls rest)) : W p l e R s m args below meth c H locs cells slots Q (F0 m pc ls (.int v' :: .int i :: .ref (ad 13) :: rest)) := by
  subst hi
  refine va_iast hx hb hK hP hD hS 9 8 rfl rfl (vp_in_nI hj (by decide)) hdg (fun H1 locs1 a1 a2 a3 => ?_)
  rw [nI_clamp (by omega)] at a1 a2
  exact kk H1 locs1 a1 a2 a3
theorem xl_14 (hx : p.tables.exec = Jvm.exec) (hb : c.code = cc) (hK : va_K D vwCl (tX cd) s) (hP : va_P D vwCl (wX h ad cd G F O C M k) H) (j : Nat) (hj : j < 300) {i : Int32} (hi : i = nI j) (hdg : decode cc pc = .ok (.baload, 1)) (kk : W p l e R s m args below meth c H locs cells slots Q (F0 m (pc + 1) ls (.int (C.2.2.2.1 j) :: rest))) : W p l e R s m args below meth c H locs cells slots Q (F0 m pc ls (.int i :: .ref (ad 14) :: rest)) := by
  subst hi
  refine va_bald hx hb hK hP 10 9 rfl rfl (vp_in_nI hj (by decide)) hdg ?_
  rw [nI_clamp (by omega)]
  exact kk
theorem xs_14 (hx : p.tables.exec = Jvm.exec) (hb : c.code = cc) (hK : va_K D vwCl (tX cd) s) (hP : va_P D vwCl (wX h ad cd G F O C M k) H) (hD : va_D A (wX h ad cd G F O C M k)) (hS : va_S A H0 H locs) (j : Nat) (hj : j < 300) {i x : Int32} (hi : i = nI j) (v' : Int32) (hv : vp_nar .byte x = v') (hdg : decode cc pc = .ok (.bastore, 1)) (kk : ∀ (H1 : Heap) (locs1 : List Loc), va_P D vwCl (wX h ad cd G F O (C.1, C.2.1, C.2.2.1, upd C.2.2.2.1 j v', C.2.2.2.2) M k) H1 → va_D A (wX h ad cd G F O (C.1, C.2.1, C.2.2.1, upd C.2.2.2.1 j v', C.2.2.2.2) M k) → va_S A H0 H1 locs1 → W p l e R s m args below meth c H1 locs1 cells slots Q (F0 m (pc + 1) ls rest)) : W p l e R s m args below meth c H locs cells slots Q (F0 m pc ls (.int x :: .int i :: .ref (ad 14) :: rest)) := by
  subst hi
  subst hv
  refine va_bast hx hb hK hP hD hS 10 9 rfl rfl (vp_in_nI hj (by decide)) hdg (fun H1 locs1 a1 a2 a3 => ?_)
  rw [nI_clamp (by omega)] at a1 a2
  exact kk H1 locs1 a1 a2 a3
theorem xl_16 (hx : p.tables.exec = Jvm.exec) (hb : c.code = cc) (hK : va_K D vwCl (tX cd) s) (hP : va_P D vwCl (wX h ad cd G F O C M k) H) (j : Nat) (hj : j < 42) {i : Int32} (hi : i = nI j) (hdg : decode cc pc = .ok (.iaload, 1)) (kk : W p l e R s m args below meth c H locs cells slots Q (F0 m (pc + 1) ls (.int (M.1 j) :: rest))) : W p l e R s m args below meth c H locs cells slots Q (F0 m pc ls (.int i :: .ref (ad 16) :: rest)) := by
  subst hi
  refine va_iald hx hb hK hP 11 10 rfl rfl (vp_in_nI hj (by decide)) hdg ?_
  rw [nI_clamp (by omega)]
  exact kk
theorem xs_16 (hx : p.tables.exec = Jvm.exec) (hb : c.code = cc) (hK : va_K D vwCl (tX cd) s) (hP : va_P D vwCl (wX h ad cd G F O C M k) H) (hD : va_D A (wX h ad cd G F O C M k)) (hS : va_S A H0 H locs) (j : Nat) (hj : j < 42) {i v' : Int32} (hi : i = nI j) (hdg : decode cc pc = .ok (.iastore, 1)) (kk : ∀ (H1 : Heap) (locs1 : List Loc), va_P D vwCl (wX h ad cd G F O C (upd M.1 j v', M.2) k) H1 → va_D A (wX h ad cd G F O C (upd M.1 j v', M.2) k) → va_S A H0 H1 locs1 → W p l e R s m args below meth c H1 locs1 cells slots Q (F0 m (pc + 1) ls rest)) : W p l e R s m args below meth c H locs cells slots Q (F0 m pc ls (.int v' :: .int i :: .ref (ad 16) :: rest)) := by
  subst hi
  refine va_iast hx hb hK hP hD hS 11 10 rfl rfl (vp_in_nI hj (by decide)) hdg (fun H1 locs1 a1 a2 a3 => ?_)
  rw [nI_clamp (by omega)] at a1 a2
  exact kk H1 locs1 a1 a2 a3
end XR
section MR
variable {p : Program} {l : Launch} {e : Env} {R : Room} {s : State} {m : MethodId} {args : Array Value} {below : List Frame} {meth : Method} {c : Code} {H : Heap} {locs : List Loc} {cells slots : Nat} {Q : State → Prop}
variable {cc : ByteArray} {pc : Nat} {ls : Array Slot} {rest : List Value} {D : va_G} {A : Nat → Prop} {H0 : Heap} {h : Nat} {ad : Nat → Nat} {cd : Nat → ClassId} {G : XG} {nw bf nd : Nat → Int32} {k : Nat}
theorem mg_0 (hx : p.tables.exec = Jvm.exec) (hb : c.code = cc) (hts : ∀ w ∈ lw_all, w.before args s = true) (hown : s.vm.findClass RX1 = some m.cls) (hK : va_K D vwCl (tM cd) s) (hP : va_P D vwCl (wM h ad cd G nw bf nd k) H) (hdg : decode cc pc = .ok (.getfield 7, 3)) (kk : W p l e R s m args below meth c H locs cells slots Q (F0 m (pc + 3) ls (.int (nI G.1) :: rest))) : W p l e R s m args below meth c H locs cells slots Q (F0 m pc ls (.ref h :: rest)) := va_get (D := D) (ci := 1) (C := RX1) (T := TX1) (N := 11) hx hb hts in_X1 hown hK hP 0 rfl rfl 0 (by decide) (hts _ q210) (fun _ h9 => h9) rfl hdg kk
theorem mg_1 (hx : p.tables.exec = Jvm.exec) (hb : c.code = cc) (hts : ∀ w ∈ lw_all, w.before args s = true) (hown : s.vm.findClass RX1 = some m.cls) (hK : va_K D vwCl (tM cd) s) (hP : va_P D vwCl (wM h ad cd G nw bf nd k) H) (hdg : decode cc pc = .ok (.getfield 13, 3)) (kk : W p l e R s m args below meth c H locs cells slots Q (F0 m (pc + 3) ls (.ref (ad 1) :: rest))) : W p l e R s m args below meth c H locs cells slots Q (F0 m pc ls (.ref h :: rest)) := va_get (D := D) (ci := 1) (C := RX1) (T := TX1) (N := 11) hx hb hts in_X1 hown hK hP 0 rfl rfl 1 (by decide) (hts _ q211) (fun _ h9 => h9) rfl hdg kk
theorem mg_2 (hx : p.tables.exec = Jvm.exec) (hb : c.code = cc) (hts : ∀ w ∈ lw_all, w.before args s = true) (hown : s.vm.findClass RX1 = some m.cls) (hK : va_K D vwCl (tM cd) s) (hP : va_P D vwCl (wM h ad cd G nw bf nd k) H) (hdg : decode cc pc = .ok (.getfield 17, 3)) (kk : W p l e R s m args below meth c H locs cells slots Q (F0 m (pc + 3) ls (.ref (ad 2) :: rest))) : W p l e R s m args below meth c H locs cells slots Q (F0 m pc ls (.ref h :: rest)) := va_get (D := D) (ci := 1) (C := RX1) (T := TX1) (N := 11) hx hb hts in_X1 hown hK hP 0 rfl rfl 2 (by decide) (hts _ q212) (fun _ h9 => h9) rfl hdg kk
theorem mg_3 (hx : p.tables.exec = Jvm.exec) (hb : c.code = cc) (hts : ∀ w ∈ lw_all, w.before args s = true) (hown : s.vm.findClass RX1 = some m.cls) (hK : va_K D vwCl (tM cd) s) (hP : va_P D vwCl (wM h ad cd G nw bf nd k) H) (hdg : decode cc pc = .ok (.getfield 20, 3)) (kk : W p l e R s m args below meth c H locs cells slots Q (F0 m (pc + 3) ls (.ref (ad 3) :: rest))) : W p l e R s m args below meth c H locs cells slots Q (F0 m pc ls (.ref h :: rest)) := va_get (D := D) (ci := 1) (C := RX1) (T := TX1) (N := 11) hx hb hts in_X1 hown hK hP 0 rfl rfl 3 (by decide) (hts _ q213) (fun _ h9 => h9) rfl hdg kk
theorem mg_4 (hx : p.tables.exec = Jvm.exec) (hb : c.code = cc) (hts : ∀ w ∈ lw_all, w.before args s = true) (hown : s.vm.findClass RX1 = some m.cls) (hK : va_K D vwCl (tM cd) s) (hP : va_P D vwCl (wM h ad cd G nw bf nd k) H) (hdg : decode cc pc = .ok (.getfield 23, 3)) (kk : W p l e R s m args below meth c H locs cells slots Q (F0 m (pc + 3) ls (.ref (ad 4) :: rest))) : W p l e R s m args below meth c H locs cells slots Q (F0 m pc ls (.ref h :: rest)) := va_get (D := D) (ci := 1) (C := RX1) (T := TX1) (N := 11) hx hb hts in_X1 hown hK hP 0 rfl rfl 4 (by decide) (hts _ q214) (fun _ h9 => h9) rfl hdg kk
theorem mg_5 (hx : p.tables.exec = Jvm.exec) (hb : c.code = cc) (hts : ∀ w ∈ lw_all, w.before args s = true) (hown : s.vm.findClass RX1 = some m.cls) (hK : va_K D vwCl (tM cd) s) (hP : va_P D vwCl (wM h ad cd G nw bf nd k) H) (hdg : decode cc pc = .ok (.getfield 26, 3)) (kk : W p l e R s m args below meth c H locs cells slots Q (F0 m (pc + 3) ls (.ref (ad 5) :: rest))) : W p l e R s m args below meth c H locs cells slots Q (F0 m pc ls (.ref h :: rest)) := va_get (D := D) (ci := 1) (C := RX1) (T := TX1) (N := 11) hx hb hts in_X1 hown hK hP 0 rfl rfl 5 (by decide) (hts _ q215) (fun _ h9 => h9) rfl hdg kk
theorem mg_6 (hx : p.tables.exec = Jvm.exec) (hb : c.code = cc) (hts : ∀ w ∈ lw_all, w.before args s = true) (hown : s.vm.findClass RX1 = some m.cls) (hK : va_K D vwCl (tM cd) s) (hP : va_P D vwCl (wM h ad cd G nw bf nd k) H) (hdg : decode cc pc = .ok (.getfield 29, 3)) (kk : W p l e R s m args below meth c H locs cells slots Q (F0 m (pc + 3) ls (.ref (ad 6) :: rest))) : W p l e R s m args below meth c H locs cells slots Q (F0 m pc ls (.ref h :: rest)) := va_get (D := D) (ci := 1) (C := RX1) (T := TX1) (N := 11) hx hb hts in_X1 hown hK hP 0 rfl rfl 6 (by decide) (hts _ q216) (fun _ h9 => h9) rfl hdg kk
theorem mg_7 (hx : p.tables.exec = Jvm.exec) (hb : c.code = cc) (hts : ∀ w ∈ lw_all, w.before args s = true) (hown : s.vm.findClass RX1 = some m.cls) (hK : va_K D vwCl (tM cd) s) (hP : va_P D vwCl (wM h ad cd G nw bf nd k) H) (hdg : decode cc pc = .ok (.getfield 32, 3)) (kk : W p l e R s m args below meth c H locs cells slots Q (F0 m (pc + 3) ls (.ref (ad 7) :: rest))) : W p l e R s m args below meth c H locs cells slots Q (F0 m pc ls (.ref h :: rest)) := va_get (D := D) (ci := 1) (C := RX1) (T := TX1) (N := 11) hx hb hts in_X1 hown hK hP 0 rfl rfl 7 (by decide) (hts _ q217) (fun _ h9 => h9) rfl hdg kk
theorem mg_8 (hx : p.tables.exec = Jvm.exec) (hb : c.code = cc) (hts : ∀ w ∈ lw_all, w.before args s = true) (hown : s.vm.findClass RX1 = some m.cls) (hK : va_K D vwCl (tM cd) s) (hP : va_P D vwCl (wM h ad cd G nw bf nd k) H) (hdg : decode cc pc = .ok (.getfield 35, 3)) (kk : W p l e R s m args below meth c H locs cells slots Q (F0 m (pc + 3) ls (.ref (ad 8) :: rest))) : W p l e R s m args below meth c H locs cells slots Q (F0 m pc ls (.ref h :: rest)) := va_get (D := D) (ci := 1) (C := RX1) (T := TX1) (N := 11) hx hb hts in_X1 hown hK hP 0 rfl rfl 8 (by decide) (hts _ q218) (fun _ h9 => h9) rfl hdg kk
theorem mg_9 (hx : p.tables.exec = Jvm.exec) (hb : c.code = cc) (hts : ∀ w ∈ lw_all, w.before args s = true) (hown : s.vm.findClass RX1 = some m.cls) (hK : va_K D vwCl (tM cd) s) (hP : va_P D vwCl (wM h ad cd G nw bf nd k) H) (hdg : decode cc pc = .ok (.getfield 38, 3)) (kk : W p l e R s m args below meth c H locs cells slots Q (F0 m (pc + 3) ls (.int (nI k) :: rest))) : W p l e R s m args below meth c H locs cells slots Q (F0 m pc ls (.ref h :: rest)) := va_get (D := D) (ci := 1) (C := RX1) (T := TX1) (N := 11) hx hb hts in_X1 hown hK hP 0 rfl rfl 9 (by decide) (hts _ q219) (fun _ h9 => h9) rfl hdg kk
theorem mg_10 (hx : p.tables.exec = Jvm.exec) (hb : c.code = cc) (hts : ∀ w ∈ lw_all, w.before args s = true) (hown : s.vm.findClass RX1 = some m.cls) (hK : va_K D vwCl (tM cd) s) (hP : va_P D vwCl (wM h ad cd G nw bf nd k) H) (hdg : decode cc pc = .ok (.getfield 41, 3)) (kk : W p l e R s m args below meth c H locs cells slots Q (F0 m (pc + 3) ls (.ref (ad 10) :: rest))) : W p l e R s m args below meth c H locs cells slots Q (F0 m pc ls (.ref h :: rest)) := va_get (D := D) (ci := 1) (C := RX1) (T := TX1) (N := 11) hx hb hts in_X1 hown hK hP 0 rfl rfl 10 (by decide) (hts _ q220) (fun _ h9 => h9) rfl hdg kk
theorem mp_0 (hx : p.tables.exec = Jvm.exec) (hb : c.code = cc) (hts : ∀ w ∈ lw_all, w.before args s = true) (hown : s.vm.findClass RX1 = some m.cls) (hK : va_K D vwCl (tM cd) s) (hP : va_P D vwCl (wM h ad cd G nw bf nd k) H) (hD : va_D A (wM h ad cd G nw bf nd k)) (hS : va_S A H0 H locs) (n' : Nat) {v : Int32} (hv : v = nI n') (hdg : decode cc pc = .ok (.putfield 7, 3)) (kk : ∀ (H1 : Heap) (locs1 : List Loc), va_P D vwCl (wM h ad cd (n', G.2) nw bf nd k) H1 → va_D A (wM h ad cd (n', G.2) nw bf nd k) → va_S A H0 H1 locs1 → W p l e R s m args below meth c H1 locs1 cells slots Q (F0 m (pc + 3) ls rest)) : W p l e R s m args below meth c H locs cells slots Q (F0 m pc ls (.int v :: .ref h :: rest)) := by
  subst hv
  exact va_put (D := D) (ci := 1) (ty := .int) (C := RX1) (T := TX1) (N := 11) hx hb hts in_X1 tyX1 tyX1_ok nmX1 hown hK hP hD hS 0 rfl rfl 0 (by decide) (hts _ q210) (fun _ h9 => h9) rfl (by decide +kernel) rfl rfl (Nat.le_of_ble_eq_true rfl) hdg (fun H1 locs1 a1 a2 a3 => kk H1 locs1 a1 a2 a3)
theorem mp_9 (hx : p.tables.exec = Jvm.exec) (hb : c.code = cc) (hts : ∀ w ∈ lw_all, w.before args s = true) (hown : s.vm.findClass RX1 = some m.cls) (hK : va_K D vwCl (tM cd) s) (hP : va_P D vwCl (wM h ad cd G nw bf nd k) H) (hD : va_D A (wM h ad cd G nw bf nd k)) (hS : va_S A H0 H locs) (n' : Nat) {v : Int32} (hv : v = nI n') (hdg : decode cc pc = .ok (.putfield 38, 3)) (kk : ∀ (H1 : Heap) (locs1 : List Loc), va_P D vwCl (wM h ad cd G nw bf nd n') H1 → va_D A (wM h ad cd G nw bf nd n') → va_S A H0 H1 locs1 → W p l e R s m args below meth c H1 locs1 cells slots Q (F0 m (pc + 3) ls rest)) : W p l e R s m args below meth c H locs cells slots Q (F0 m pc ls (.int v :: .ref h :: rest)) := by
  subst hv
  exact va_put (D := D) (ci := 1) (ty := .int) (C := RX1) (T := TX1) (N := 11) hx hb hts in_X1 tyX1 tyX1_ok nmX1 hown hK hP hD hS 0 rfl rfl 9 (by decide) (hts _ q219) (fun _ h9 => h9) rfl (by decide +kernel) rfl rfl (Nat.le_of_ble_eq_true rfl) hdg (fun H1 locs1 a1 a2 a3 => kk H1 locs1 a1 a2 a3)
theorem ml_1 (hx : p.tables.exec = Jvm.exec) (hb : c.code = cc) (hK : va_K D vwCl (tM cd) s) (hP : va_P D vwCl (wM h ad cd G nw bf nd k) H) (j : Nat) (hj : j < 20) {i : Int32} (hi : i = nI j) (hdg : decode cc pc = .ok (.iaload, 1)) (kk : W p l e R s m args below meth c H locs cells slots Q (F0 m (pc + 1) ls (.int (G.2.1 j) :: rest))) : W p l e R s m args below meth c H locs cells slots Q (F0 m pc ls (.int i :: .ref (ad 1) :: rest)) := by
  subst hi
  refine va_iald hx hb hK hP 1 0 rfl rfl (vp_in_nI hj (by decide)) hdg ?_
  rw [nI_clamp (by omega)]
  exact kk
theorem ms_1 (hx : p.tables.exec = Jvm.exec) (hb : c.code = cc) (hK : va_K D vwCl (tM cd) s) (hP : va_P D vwCl (wM h ad cd G nw bf nd k) H) (hD : va_D A (wM h ad cd G nw bf nd k)) (hS : va_S A H0 H locs) (j : Nat) (hj : j < 20) {i v' : Int32} (hi : i = nI j) (hdg : decode cc pc = .ok (.iastore, 1)) (kk : ∀ (H1 : Heap) (locs1 : List Loc), va_P D vwCl (wM h ad cd (G.1, upd G.2.1 j v', G.2.2) nw bf nd k) H1 → va_D A (wM h ad cd (G.1, upd G.2.1 j v', G.2.2) nw bf nd k) → va_S A H0 H1 locs1 → W p l e R s m args below meth c H1 locs1 cells slots Q (F0 m (pc + 1) ls rest)) : W p l e R s m args below meth c H locs cells slots Q (F0 m pc ls (.int v' :: .int i :: .ref (ad 1) :: rest)) := by
  subst hi
  refine va_iast hx hb hK hP hD hS 1 0 rfl rfl (vp_in_nI hj (by decide)) hdg (fun H1 locs1 a1 a2 a3 => ?_)
  rw [nI_clamp (by omega)] at a1 a2
  exact kk H1 locs1 a1 a2 a3
theorem ml_2 (hx : p.tables.exec = Jvm.exec) (hb : c.code = cc) (hK : va_K D vwCl (tM cd) s) (hP : va_P D vwCl (wM h ad cd G nw bf nd k) H) (j : Nat) (hj : j < 20) {i : Int32} (hi : i = nI j) (hdg : decode cc pc = .ok (.iaload, 1)) (kk : W p l e R s m args below meth c H locs cells slots Q (F0 m (pc + 1) ls (.int (G.2.2.1 j) :: rest))) : W p l e R s m args below meth c H locs cells slots Q (F0 m pc ls (.int i :: .ref (ad 2) :: rest)) := by
  subst hi
  refine va_iald hx hb hK hP 2 1 rfl rfl (vp_in_nI hj (by decide)) hdg ?_
  rw [nI_clamp (by omega)]
  exact kk
theorem ms_2 (hx : p.tables.exec = Jvm.exec) (hb : c.code = cc) (hK : va_K D vwCl (tM cd) s) (hP : va_P D vwCl (wM h ad cd G nw bf nd k) H) (hD : va_D A (wM h ad cd G nw bf nd k)) (hS : va_S A H0 H locs) (j : Nat) (hj : j < 20) {i v' : Int32} (hi : i = nI j) (hdg : decode cc pc = .ok (.iastore, 1)) (kk : ∀ (H1 : Heap) (locs1 : List Loc), va_P D vwCl (wM h ad cd (G.1, G.2.1, upd G.2.2.1 j v', G.2.2.2) nw bf nd k) H1 → va_D A (wM h ad cd (G.1, G.2.1, upd G.2.2.1 j v', G.2.2.2) nw bf nd k) → va_S A H0 H1 locs1 → W p l e R s m args below meth c H1 locs1 cells slots Q (F0 m (pc + 1) ls rest)) : W p l e R s m args below meth c H locs cells slots Q (F0 m pc ls (.int v' :: .int i :: .ref (ad 2) :: rest)) := by
  subst hi
  refine va_iast hx hb hK hP hD hS 2 1 rfl rfl (vp_in_nI hj (by decide)) hdg (fun H1 locs1 a1 a2 a3 => ?_)
  rw [nI_clamp (by omega)] at a1 a2
  exact kk H1 locs1 a1 a2 a3
theorem ml_3 (hx : p.tables.exec = Jvm.exec) (hb : c.code = cc) (hK : va_K D vwCl (tM cd) s) (hP : va_P D vwCl (wM h ad cd G nw bf nd k) H) (j : Nat) (hj : j < 20) {i : Int32} (hi : i = nI j) (hdg : decode cc pc = .ok (.iaload, 1)) (kk : W p l e R s m args below meth c H locs cells slots Q (F0 m (pc + 1) ls (.int (G.2.2.2.1 j) :: rest))) : W p l e R s m args below meth c H locs cells slots Q (F0 m pc ls (.int i :: .ref (ad 3) :: rest)) := by
  subst hi
  refine va_iald hx hb hK hP 3 2 rfl rfl (vp_in_nI hj (by decide)) hdg ?_
  rw [nI_clamp (by omega)]
  exact kk
theorem ms_3 (hx : p.tables.exec = Jvm.exec) (hb : c.code = cc) (hK : va_K D vwCl (tM cd) s) (hP : va_P D vwCl (wM h ad cd G nw bf nd k) H) (hD : va_D A (wM h ad cd G nw bf nd k)) (hS : va_S A H0 H locs) (j : Nat) (hj : j < 20) {i v' : Int32} (hi : i = nI j) (hdg : decode cc pc = .ok (.iastore, 1)) (kk : ∀ (H1 : Heap) (locs1 : List Loc), va_P D vwCl (wM h ad cd (G.1, G.2.1, G.2.2.1, upd G.2.2.2.1 j v', G.2.2.2.2) nw bf nd k) H1 → va_D A (wM h ad cd (G.1, G.2.1, G.2.2.1, upd G.2.2.2.1 j v', G.2.2.2.2) nw bf nd k) → va_S A H0 H1 locs1 → W p l e R s m args below meth c H1 locs1 cells slots Q (F0 m (pc + 1) ls rest)) : W p l e R s m args below meth c H locs cells slots Q (F0 m pc ls (.int v' :: .int i :: .ref (ad 3) :: rest)) := by
  subst hi
  refine va_iast hx hb hK hP hD hS 3 2 rfl rfl (vp_in_nI hj (by decide)) hdg (fun H1 locs1 a1 a2 a3 => ?_)
  rw [nI_clamp (by omega)] at a1 a2
  exact kk H1 locs1 a1 a2 a3
theorem ml_4 (hx : p.tables.exec = Jvm.exec) (hb : c.code = cc) (hK : va_K D vwCl (tM cd) s) (hP : va_P D vwCl (wM h ad cd G nw bf nd k) H) (j : Nat) (hj : j < 20) {i : Int32} (hi : i = nI j) (hdg : decode cc pc = .ok (.iaload, 1)) (kk : W p l e R s m args below meth c H locs cells slots Q (F0 m (pc + 1) ls (.int (G.2.2.2.2.1 j) :: rest))) : W p l e R s m args below meth c H locs cells slots Q (F0 m pc ls (.int i :: .ref (ad 4) :: rest)) := by
  subst hi
  refine va_iald hx hb hK hP 4 3 rfl rfl (vp_in_nI hj (by decide)) hdg ?_
  rw [nI_clamp (by omega)]
  exact kk
theorem ms_4 (hx : p.tables.exec = Jvm.exec) (hb : c.code = cc) (hK : va_K D vwCl (tM cd) s) (hP : va_P D vwCl (wM h ad cd G nw bf nd k) H) (hD : va_D A (wM h ad cd G nw bf nd k)) (hS : va_S A H0 H locs) (j : Nat) (hj : j < 20) {i v' : Int32} (hi : i = nI j) (hdg : decode cc pc = .ok (.iastore, 1)) (kk : ∀ (H1 : Heap) (locs1 : List Loc), va_P D vwCl (wM h ad cd (G.1, G.2.1, G.2.2.1, G.2.2.2.1, upd G.2.2.2.2.1 j v', G.2.2.2.2.2) nw bf nd k) H1 → va_D A (wM h ad cd (G.1, G.2.1, G.2.2.1, G.2.2.2.1, upd G.2.2.2.2.1 j v', G.2.2.2.2.2) nw bf nd k) → va_S A H0 H1 locs1 → W p l e R s m args below meth c H1 locs1 cells slots Q (F0 m (pc + 1) ls rest)) : W p l e R s m args below meth c H locs cells slots Q (F0 m pc ls (.int v' :: .int i :: .ref (ad 4) :: rest)) := by
  subst hi
  refine va_iast hx hb hK hP hD hS 4 3 rfl rfl (vp_in_nI hj (by decide)) hdg (fun H1 locs1 a1 a2 a3 => ?_)
  rw [nI_clamp (by omega)] at a1 a2
  exact kk H1 locs1 a1 a2 a3
theorem ml_5 (hx : p.tables.exec = Jvm.exec) (hb : c.code = cc) (hK : va_K D vwCl (tM cd) s) (hP : va_P D vwCl (wM h ad cd G nw bf nd k) H) (j : Nat) (hj : j < 120) {i : Int32} (hi : i = nI j) (hdg : decode cc pc = .ok (.iaload, 1)) (kk : W p l e R s m args below meth c H locs cells slots Q (F0 m (pc + 1) ls (.int (G.2.2.2.2.2.1 j) :: rest))) : W p l e R s m args below meth c H locs cells slots Q (F0 m pc ls (.int i :: .ref (ad 5) :: rest)) := by
  subst hi
  refine va_iald hx hb hK hP 5 4 rfl rfl (vp_in_nI hj (by decide)) hdg ?_
  rw [nI_clamp (by omega)]
  exact kk
theorem ms_5 (hx : p.tables.exec = Jvm.exec) (hb : c.code = cc) (hK : va_K D vwCl (tM cd) s) (hP : va_P D vwCl (wM h ad cd G nw bf nd k) H) (hD : va_D A (wM h ad cd G nw bf nd k)) (hS : va_S A H0 H locs) (j : Nat) (hj : j < 120) {i v' : Int32} (hi : i = nI j) (hdg : decode cc pc = .ok (.iastore, 1)) (kk : ∀ (H1 : Heap) (locs1 : List Loc), va_P D vwCl (wM h ad cd (G.1, G.2.1, G.2.2.1, G.2.2.2.1, G.2.2.2.2.1, upd G.2.2.2.2.2.1 j v', G.2.2.2.2.2.2) nw bf nd k) H1 → va_D A (wM h ad cd (G.1, G.2.1, G.2.2.1, G.2.2.2.1, G.2.2.2.2.1, upd G.2.2.2.2.2.1 j v', G.2.2.2.2.2.2) nw bf nd k) → va_S A H0 H1 locs1 → W p l e R s m args below meth c H1 locs1 cells slots Q (F0 m (pc + 1) ls rest)) : W p l e R s m args below meth c H locs cells slots Q (F0 m pc ls (.int v' :: .int i :: .ref (ad 5) :: rest)) := by
  subst hi
  refine va_iast hx hb hK hP hD hS 5 4 rfl rfl (vp_in_nI hj (by decide)) hdg (fun H1 locs1 a1 a2 a3 => ?_)
  rw [nI_clamp (by omega)] at a1 a2
  exact kk H1 locs1 a1 a2 a3
theorem ml_6 (hx : p.tables.exec = Jvm.exec) (hb : c.code = cc) (hK : va_K D vwCl (tM cd) s) (hP : va_P D vwCl (wM h ad cd G nw bf nd k) H) (j : Nat) (hj : j < 120) {i : Int32} (hi : i = nI j) (hdg : decode cc pc = .ok (.iaload, 1)) (kk : W p l e R s m args below meth c H locs cells slots Q (F0 m (pc + 1) ls (.int (G.2.2.2.2.2.2 j) :: rest))) : W p l e R s m args below meth c H locs cells slots Q (F0 m pc ls (.int i :: .ref (ad 6) :: rest)) := by
  subst hi
  refine va_iald hx hb hK hP 6 5 rfl rfl (vp_in_nI hj (by decide)) hdg ?_
  rw [nI_clamp (by omega)]
  exact kk
theorem ms_6 (hx : p.tables.exec = Jvm.exec) (hb : c.code = cc) (hK : va_K D vwCl (tM cd) s) (hP : va_P D vwCl (wM h ad cd G nw bf nd k) H) (hD : va_D A (wM h ad cd G nw bf nd k)) (hS : va_S A H0 H locs) (j : Nat) (hj : j < 120) {i v' : Int32} (hi : i = nI j) (hdg : decode cc pc = .ok (.iastore, 1)) (kk : ∀ (H1 : Heap) (locs1 : List Loc), va_P D vwCl (wM h ad cd (G.1, G.2.1, G.2.2.1, G.2.2.2.1, G.2.2.2.2.1, G.2.2.2.2.2.1, upd G.2.2.2.2.2.2 j v') nw bf nd k) H1 → va_D A (wM h ad cd (G.1, G.2.1, G.2.2.1, G.2.2.2.1, G.2.2.2.2.1, G.2.2.2.2.2.1, upd G.2.2.2.2.2.2 j v') nw bf nd k) → va_S A H0 H1 locs1 → W p l e R s m args below meth c H1 locs1 cells slots Q (F0 m (pc + 1) ls rest)) : W p l e R s m args below meth c H locs cells slots Q (F0 m pc ls (.int v' :: .int i :: .ref (ad 6) :: rest)) := by
  subst hi
  refine va_iast hx hb hK hP hD hS 6 5 rfl rfl (vp_in_nI hj (by decide)) hdg (fun H1 locs1 a1 a2 a3 => ?_)
  rw [nI_clamp (by omega)] at a1 a2
  exact kk H1 locs1 a1 a2 a3
theorem ml_7 (hx : p.tables.exec = Jvm.exec) (hb : c.code = cc) (hK : va_K D vwCl (tM cd) s) (hP : va_P D vwCl (wM h ad cd G nw bf nd k) H) (j : Nat) (hj : j < 20) {i : Int32} (hi : i = nI j) (hdg : decode cc pc = .ok (.iaload, 1)) (kk : W p l e R s m args below meth c H locs cells slots Q (F0 m (pc + 1) ls (.int (nw j) :: rest))) : W p l e R s m args below meth c H locs cells slots Q (F0 m pc ls (.int i :: .ref (ad 7) :: rest)) := by
  subst hi
  refine va_iald hx hb hK hP 7 6 rfl rfl (vp_in_nI hj (by decide)) hdg ?_
  rw [nI_clamp (by omega)]
  exact kk
theorem ms_7 (hx : p.tables.exec = Jvm.exec) (hb : c.code = cc) (hK : va_K D vwCl (tM cd) s) (hP : va_P D vwCl (wM h ad cd G nw bf nd k) H) (hD : va_D A (wM h ad cd G nw bf nd k)) (hS : va_S A H0 H locs) (j : Nat) (hj : j < 20) {i v' : Int32} (hi : i = nI j) (hdg : decode cc pc = .ok (.iastore, 1)) (kk : ∀ (H1 : Heap) (locs1 : List Loc), va_P D vwCl (wM h ad cd G (upd nw j v') bf nd k) H1 → va_D A (wM h ad cd G (upd nw j v') bf nd k) → va_S A H0 H1 locs1 → W p l e R s m args below meth c H1 locs1 cells slots Q (F0 m (pc + 1) ls rest)) : W p l e R s m args below meth c H locs cells slots Q (F0 m pc ls (.int v' :: .int i :: .ref (ad 7) :: rest)) := by
  subst hi
  refine va_iast hx hb hK hP hD hS 7 6 rfl rfl (vp_in_nI hj (by decide)) hdg (fun H1 locs1 a1 a2 a3 => ?_)
  rw [nI_clamp (by omega)] at a1 a2
  exact kk H1 locs1 a1 a2 a3
theorem ml_8 (hx : p.tables.exec = Jvm.exec) (hb : c.code = cc) (hK : va_K D vwCl (tM cd) s) (hP : va_P D vwCl (wM h ad cd G nw bf nd k) H) (j : Nat) (hj : j < 20) {i : Int32} (hi : i = nI j) (hdg : decode cc pc = .ok (.iaload, 1)) (kk : W p l e R s m args below meth c H locs cells slots Q (F0 m (pc + 1) ls (.int (bf j) :: rest))) : W p l e R s m args below meth c H locs cells slots Q (F0 m pc ls (.int i :: .ref (ad 8) :: rest)) := by
  subst hi
  refine va_iald hx hb hK hP 8 7 rfl rfl (vp_in_nI hj (by decide)) hdg ?_
  rw [nI_clamp (by omega)]
  exact kk
theorem ms_8 (hx : p.tables.exec = Jvm.exec) (hb : c.code = cc) (hK : va_K D vwCl (tM cd) s) (hP : va_P D vwCl (wM h ad cd G nw bf nd k) H) (hD : va_D A (wM h ad cd G nw bf nd k)) (hS : va_S A H0 H locs) (j : Nat) (hj : j < 20) {i v' : Int32} (hi : i = nI j) (hdg : decode cc pc = .ok (.iastore, 1)) (kk : ∀ (H1 : Heap) (locs1 : List Loc), va_P D vwCl (wM h ad cd G nw (upd bf j v') nd k) H1 → va_D A (wM h ad cd G nw (upd bf j v') nd k) → va_S A H0 H1 locs1 → W p l e R s m args below meth c H1 locs1 cells slots Q (F0 m (pc + 1) ls rest)) : W p l e R s m args below meth c H locs cells slots Q (F0 m pc ls (.int v' :: .int i :: .ref (ad 8) :: rest)) := by
  subst hi
  refine va_iast hx hb hK hP hD hS 8 7 rfl rfl (vp_in_nI hj (by decide)) hdg (fun H1 locs1 a1 a2 a3 => ?_)
  rw [nI_clamp (by omega)] at a1 a2
  exact kk H1 locs1 a1 a2 a3
theorem ml_10 (hx : p.tables.exec = Jvm.exec) (hb : c.code = cc) (hK : va_K D vwCl (tM cd) s) (hP : va_P D vwCl (wM h ad cd G nw bf nd k) H) (j : Nat) (hj : j < 20) {i : Int32} (hi : i = nI j) (hdg : decode cc pc = .ok (.iaload, 1)) (kk : W p l e R s m args below meth c H locs cells slots Q (F0 m (pc + 1) ls (.int (nd j) :: rest))) : W p l e R s m args below meth c H locs cells slots Q (F0 m pc ls (.int i :: .ref (ad 10) :: rest)) := by
  subst hi
  refine va_iald hx hb hK hP 9 8 rfl rfl (vp_in_nI hj (by decide)) hdg ?_
  rw [nI_clamp (by omega)]
  exact kk
theorem ms_10 (hx : p.tables.exec = Jvm.exec) (hb : c.code = cc) (hK : va_K D vwCl (tM cd) s) (hP : va_P D vwCl (wM h ad cd G nw bf nd k) H) (hD : va_D A (wM h ad cd G nw bf nd k)) (hS : va_S A H0 H locs) (j : Nat) (hj : j < 20) {i v' : Int32} (hi : i = nI j) (hdg : decode cc pc = .ok (.iastore, 1)) (kk : ∀ (H1 : Heap) (locs1 : List Loc), va_P D vwCl (wM h ad cd G nw bf (upd nd j v') k) H1 → va_D A (wM h ad cd G nw bf (upd nd j v') k) → va_S A H0 H1 locs1 → W p l e R s m args below meth c H1 locs1 cells slots Q (F0 m (pc + 1) ls rest)) : W p l e R s m args below meth c H locs cells slots Q (F0 m pc ls (.int v' :: .int i :: .ref (ad 10) :: rest)) := by
  subst hi
  refine va_iast hx hb hK hP hD hS 9 8 rfl rfl (vp_in_nI hj (by decide)) hdg (fun H1 locs1 a1 a2 a3 => ?_)
  rw [nI_clamp (by omega)] at a1 a2
  exact kk H1 locs1 a1 a2 a3
end MR
end
section
/-! what the methods compute, as plain functions: they mirror the branches of the bytecode -/
set_option maxRecDepth 100000
def b8 (x : Int32) : Int32 := x.toInt8.toInt32
def isNo (a : Int32) : Int32 := if a < 0 then 0 else if 19 < a then 0 else 1
def sat64 (v : Int64) : Int64 := if lg_cmp v 32767 ≤ 0 then (if 0 ≤ lg_cmp v (-32768) then v else -32768) else 32767
def cellF (G : XG) (a : Int32) : Int32 := if nI G.1 ≤ a then 40 else a
def cWr (C : XC) (o q v : Int32) : XC := (C.1 + 1, upd C.2.1 C.1 (b8 o), upd C.2.2.1 C.1 v, upd C.2.2.2.1 C.1 (b8 q), -1)
def cLd (C : XC) (q : Int32) : XC := if C.2.2.2.2 = q then C else cWr C 0 q 0
def cSt (C : XC) (q : Int32) : XC := ((cWr C 2 q 0).1, (cWr C 2 q 0).2.1, (cWr C 2 q 0).2.2.1, (cWr C 2 q 0).2.2.2.1, q)
def cCp (C : XC) (a b : Int32) : XC := cSt (cLd C a) b
def cTwoA (G : XG) (i : Nat) (C : XC) (o : Int32) : XC := cWr (cLd C (cellF G (G.2.2.1 i))) o (cellF G (G.2.2.2.1 i)) 0
def cTwo (G : XG) (i : Nat) (C : XC) : XC :=
  if G.2.1 i = 5 then cTwoA G i C (if G.2.1 i = 3 then 3 else if G.2.1 i = 4 then 4 else 5)
  else cWr (cTwoA G i C (if G.2.1 i = 3 then 3 else if G.2.1 i = 4 then 4 else 5)) 12 40 0
def cOneA (G : XG) (i : Nat) (C : XC) : XC :=
  if G.2.1 i = 6 then cWr (cLd C (cellF G (G.2.2.1 i))) 6 40 0
  else if G.2.1 i = 7 then cWr (cLd C (cellF G (G.2.2.1 i))) 7 40 0
  else cWr (cLd C (cellF G (G.2.2.1 i))) (if G.2.1 i = 8 then 8 else 9) 40 (G.2.2.2.1 i)
def cOne (G : XG) (i : Nat) (C : XC) : XC := if G.2.1 i = 9 then cOneA G i C else cWr (cOneA G i C) 12 40 0
def cTap (G : XG) (i : Nat) (C : XC) : Nat → XC
  | 0 => cWr C 1 40 0
  | t + 1 => cWr (cTap G i C t) 10 (cellF G (G.2.2.2.2.2.1 (6 * i + t))) (G.2.2.2.2.2.2 (6 * i + t))
def cSum (G : XG) (i : Nat) (C : XC) : XC := cWr (cWr (cTap G i C (G.2.2.2.2.1 i).toNatClampNeg) 11 40 0) 12 40 0
def cBody (G : XG) (i : Nat) (C : XC) : XC :=
  if G.2.1 i = 0 then cLd C 41 else if G.2.1 i = 1 then cWr C 1 40 (G.2.2.1 i) else if G.2.1 i = 10 then cSum G i C else if 5 < G.2.1 i then cOne G i C else cTwo G i C
def cNode (G : XG) (i : Nat) (C : XC) : XC := cSt (cBody G i C) (nI i)
def zf (f : Nat → Int32) (n : Nat) : Nat → Int32 := fun j => if j < n then 0 else f j
theorem zf_0 (f : Nat → Int32) : zf f 0 = f := by funext j; simp [zf]
theorem zf_s (f : Nat → Int32) (i : Nat) : upd (zf f i) i 0 = zf f (i + 1) := by
  funext j
  unfold upd zf
  by_cases h : j = i
  · subst h
    rw [if_pos rfl, if_pos (Nat.lt_succ_self j)]
  · rw [if_neg h]
    by_cases h2 : j < i
    · rw [if_pos h2, if_pos (Nat.lt_succ_of_lt h2)]
    · rw [if_neg h2, if_neg (by omega)]
def spc (op x v : Int32) (a : Int64) : Int64 :=
  if op = 5 then (if lg_cmp x.toInt64 a ≤ 0 then a else x.toInt64)
  else if op = 6 then -a
  else if op = 7 then (if 0 ≤ lg_cmp a 0 then a else -a)
  else if op = 8 then a <<< (v.toInt64 &&& 63)
  else if op = 9 then a >>> (v.toInt64 &&& 63)
  else (a + 16384) >>> ((15 : Int32).toInt64 &&& 63)
def pfo (o : Int32) (ix : Nat) (v : Int32) (M : XM) : XM :=
  if o = 0 then (M.1, (M.1 ix).toInt64)
  else if o = 1 then (M.1, v.toInt64)
  else if o = 2 then (upd M.1 ix M.2.toInt32, M.2)
  else if o = 3 then (M.1, M.2 + (M.1 ix).toInt64)
  else if o = 4 then (M.1, M.2 - (M.1 ix).toInt64)
  else if o = 10 then (M.1, M.2 + v.toInt64 * (M.1 ix).toInt64)
  else if o = 12 then (M.1, sat64 M.2)
  else (M.1, spc o (M.1 ix) v M.2)
def runC (C : XC) (M : XM) : Nat → XM
  | 0 => M
  | j + 1 => pfo (C.2.1 j) (C.2.2.2.1 j).toNatClampNeg (C.2.2.1 j) (runC C M j)
/-- a node's arguments are fit -/
def nok (k a b : Int32) : Prop := 0 ≤ k ∧ k ≤ 10 ∧ (k = 1 → -32768 ≤ a ∧ a ≤ 32767) ∧ (2 ≤ k → k ≤ 9 → 0 ≤ a ∧ a ≤ 19) ∧ (3 ≤ k → k ≤ 5 → 0 ≤ b ∧ b ≤ 19) ∧ (k = 8 → 0 ≤ b ∧ b ≤ 7) ∧ (k = 9 → 0 ≤ b ∧ b ≤ 15)
def gAdd (G : XG) (k a b : Int32) : XG := (G.1 + 1, upd G.2.1 G.1 k, upd G.2.2.1 G.1 a, upd G.2.2.2.1 G.1 b, upd G.2.2.2.2.1 G.1 0, G.2.2.2.2.2.1, G.2.2.2.2.2.2)
def tin (a q : Int32) : Prop := 0 ≤ a ∧ a ≤ 19 ∧ -32768 ≤ q ∧ q ≤ 32767
def tok (G : XG) (sm a q : Int32) : Prop := ∃ i, i < G.1 ∧ sm = nI i ∧ G.2.1 i = 10 ∧ tin a q
def gTap (G : XG) (i T : Nat) (a q : Int32) : XG := (G.1, G.2.1, G.2.2.1, G.2.2.2.1, upd G.2.2.2.2.1 i (nI (T + 1)), upd G.2.2.2.2.2.1 (6 * i + T) a, upd G.2.2.2.2.2.2 (6 * i + T) q)
/-- a graph that node and tap can have made -/
def gok (G : XG) : Prop := G.1 ≤ 20 ∧ ∀ i, i < G.1 → nok (G.2.1 i) (G.2.2.1 i) (G.2.2.2.1 i) ∧ ∃ T, T ≤ 6 ∧ G.2.2.2.2.1 i = nI T ∧ (G.2.1 i = 10 ∨ T = 0) ∧ ∀ t, t < T → ∃ a, a < 20 ∧ G.2.2.2.2.2.1 (6 * i + t) = nI a
/-- the nodes that a node names, as the component has it -/
def nbX1 (G : XG) (i : Nat) : Int32 := if G.2.1 i < 3 then 0 else if 9 < G.2.1 i then 0 else 0 ||| ((1 : Int32) <<< (G.2.2.1 i &&& 31))
def nbX2 (G : XG) (i : Nat) : Int32 := if G.2.1 i < 3 then nbX1 G i else if 5 < G.2.1 i then nbX1 G i else nbX1 G i ||| ((1 : Int32) <<< (G.2.2.2.1 i &&& 31))
def tpO (G : XG) (i : Nat) (v : Int32) : Nat → Int32
  | 0 => v
  | t + 1 => tpO G i v t ||| ((1 : Int32) <<< (G.2.2.2.2.2.1 (6 * i + t) &&& 31))
def nbX3 (G : XG) (i : Nat) : Int32 := if G.2.1 i = 10 then tpO G i (nbX2 G i) (G.2.2.2.2.1 i).toNatClampNeg else nbX2 G i
def mskX (G : XG) (v : Int32) : Nat → Int32
  | 0 => v
  | j + 1 => if nI G.1 ≤ nI j then mskX G v j &&& (((1 : Int32) <<< (nI j &&& 31)) ^^^ (-1)) else if G.2.1 j = 2 then mskX G v j &&& (((1 : Int32) <<< (nI j &&& 31)) ^^^ (-1)) else mskX G v j
def nbX (G : XG) (i : Nat) : Int32 := mskX G (nbX3 G i) 20
/-- the component's order -/
def dlN (G : XG) : Nat → Nat
  | 0 => 0
  | i + 1 => if G.2.1 i = 2 then dlN G i + 1 else dlN G i
abbrev OT : Type := Int32 × Nat × (Nat → Int32)
def oOne (G : XG) (i : Nat) (T : OT) : OT :=
  if G.2.1 i = 2 then T else if (T.1 >>> (nI i &&& 31)) &&& 1 = 0 then (if nbX G i &&& (T.1 ^^^ (-1)) = 0 then (T.1 ||| ((1 : Int32) <<< (nI i &&& 31)), T.2.1 + 1, upd T.2.2 T.2.1 (b8 (nI i))) else T) else T
def oSw (G : XG) (T : OT) : Nat → OT
  | 0 => T
  | i + 1 => oOne G i (oSw G T i)
def oRd (G : XG) (T : OT) : Nat → OT
  | 0 => T
  | r + 1 => oSw G (oRd G T r) G.1
/-- the three runs of compile -/
def cP1 (G : XG) (C : XC) : Nat → XC
  | 0 => C
  | i + 1 => if G.2.1 i = 2 then cCp (cP1 G C i) (20 + nI i) (nI i) else cP1 G C i
def cP2 (G : XG) (od : Nat → Int32) (C : XC) : Nat → XC
  | 0 => C
  | q + 1 => cNode G (od q).toNatClampNeg (cP2 G od C q)
def cP3 (G : XG) (C : XC) : Nat → XC
  | 0 => C
  | i + 1 => if G.2.1 i = 2 then cCp (cP3 G C i) (cellF G (G.2.2.1 i)) (20 + nI i) else cP3 G C i
/-- the model's -/
def isVal (a : Int32) : Int32 := if a < -32768 then 0 else if 32767 < a then 0 else 1
def satI (v : Int64) : Int32 := if lg_cmp v 32767 ≤ 0 then (if 0 ≤ lg_cmp v (-32768) then v.toInt32 else -32768) else 32767
def nwA (G : XG) (nw : Nat → Int32) (a : Int32) : Int32 := if nI G.1 ≤ a then 0 else nw a.toNatClampNeg
def smM (G : XG) (nw : Nat → Int32) (i : Nat) : Nat → Int64
  | 0 => 16384
  | t + 1 => smM G nw i t + (G.2.2.2.2.2.2 (6 * i + t)).toInt64 * (nwA G nw (G.2.2.2.2.2.1 (6 * i + t))).toInt64
def suM (G : XG) (nw : Nat → Int32) (i : Nat) : Int32 := satI (smM G nw i (G.2.2.2.2.1 i).toNatClampNeg >>> ((15 : Int32).toInt64 &&& 63))
def wth (G : XG) (nw bf : Nat → Int32) (k : Nat) (i : Nat) (x : Int32) : Int32 :=
  if G.2.1 i = 0 then satI x.toInt64
  else if G.2.1 i = 1 then G.2.2.1 i
  else if G.2.1 i = 10 then suM G nw i
  else if G.2.1 i = 2 then (if nI k = 0 then 0 else if G.2.2.1 i < nI G.1 then bf (G.2.2.1 i).toNatClampNeg else 0)
  else if G.2.1 i = 6 then satI (-(nwA G nw (G.2.2.1 i))).toInt64
  else if G.2.1 i = 7 then (if 0 ≤ nwA G nw (G.2.2.1 i) then satI (nwA G nw (G.2.2.1 i)).toInt64 else satI (-(nwA G nw (G.2.2.1 i))).toInt64)
  else if G.2.1 i = 8 then satI (nwA G nw (G.2.2.1 i) <<< (G.2.2.2.1 i &&& 31)).toInt64
  else if G.2.1 i = 9 then nwA G nw (G.2.2.1 i) >>> (G.2.2.2.1 i &&& 31)
  else if G.2.1 i = 3 then satI (nwA G nw (G.2.2.1 i) + nwA G nw (G.2.2.2.1 i)).toInt64
  else if G.2.1 i = 4 then satI (nwA G nw (G.2.2.1 i) - nwA G nw (G.2.2.2.1 i)).toInt64
  else if nwA G nw (G.2.2.1 i) ≤ nwA G nw (G.2.2.2.1 i) then nwA G nw (G.2.2.2.1 i) else nwA G nw (G.2.2.1 i)
def nbM1 (G : XG) (i : Nat) : Int32 := if G.2.1 i < 3 then 0 else if 9 < G.2.1 i then 0 else (1 : Int32) <<< (G.2.2.1 i &&& 31)
def nbM2 (G : XG) (i : Nat) : Int32 := if G.2.1 i < 3 then nbM1 G i else if 5 < G.2.1 i then nbM1 G i else nbM1 G i ||| ((1 : Int32) <<< (G.2.2.2.1 i &&& 31))
def nbM (G : XG) (i : Nat) : Int32 := tpO G i (nbM2 G i) (G.2.2.2.2.1 i).toNatClampNeg &&& (((1 : Int32) <<< (nI G.1 &&& 31)) - 1)
def ndA (G : XG) (nd : Nat → Int32) : Nat → (Nat → Int32)
  | 0 => nd
  | i + 1 => upd (ndA G nd i) i (nbM G i)
def wsI (q : Nat) (nd : Nat → Int32) : Nat → (Nat → Int32)
  | 0 => nd
  | i + 1 => if (wsI q nd i i >>> (nI q &&& 31)) &&& 1 = 1 then upd (wsI q nd i) i (wsI q nd i i ||| wsI q nd i q) else wsI q nd i
def wsO (n : Nat) (nd : Nat → Int32) : Nat → (Nat → Int32)
  | 0 => nd
  | q + 1 => wsI q (wsO n nd q) n
def ndF (G : XG) (nd : Nat → Int32) : Nat → Int32 := wsO G.1 (ndA G nd G.1) G.1
def cpF (f g : Nat → Int32) : Nat → (Nat → Int32)
  | 0 => g
  | i + 1 => upd (cpF f g i) i (f i)
def rdI (G : XG) (bf : Nat → Int32) (k : Nat) (x : Int32) (nw : Nat → Int32) : Nat → (Nat → Int32)
  | 0 => nw
  | i + 1 => upd (rdI G bf k x nw i) i (wth G (rdI G bf k x nw i) bf k i x)
def rdO (G : XG) (bf : Nat → Int32) (k : Nat) (x : Int32) (nw : Nat → Int32) : Nat → (Nat → Int32)
  | 0 => nw
  | r + 1 => rdI G bf k x (rdO G bf k x nw r) G.1
/-- an index in range, out of the two tests that the code makes -/
theorem pk_ixn {x : Int32} {n N : Nat} (hn : n ≤ N) (h1 : ¬ x < 0) (h2 : ¬ nI n ≤ x) (hN : N < 2 ^ 31 := by decide) : ∃ j : Nat, j < n ∧ x = nI j := by
  rcases pk_ix x (n := n) (by omega) with h | h | h
  · exact absurd h h1
  · exact absurd h h2
  · exact h
end
section
/-! the component: leaves -/
set_option maxRecDepth 100000
abbrev rmX0_isNumber : Room := { frames := 0, cells := 0, slots := 0, locals := 0 }
theorem cw_X0_isNumber {R : Room} {s : State} {args : Array Value} (hts : ∀ w ∈ lw_all, w.before args s = true) (hR : rmX0_isNumber.frames + 1 ≤ R.frames ∧ 8 + (2 + 11) + rmX0_isNumber.locals ≤ R.locals) : CallW R s args RX0 RX0 51 yX0_isNumber cX0_isNumber 2 (some .boolean) (ws_ yX0_isNumber cX0_isNumber 2 (some .boolean)) rmX0_isNumber 0 0 1 := cwV 1 hts (lw_V q99 q101 qs0 q25 q102) rfl rfl rfl (by decide +kernel) hR
set_option maxHeartbeats 4000000 in
/-- isNumber(a) -/
theorem metX0_isNumber (l : Launch) {D : va_G} {h : Nat} {ad : Nat → Nat} {cd : Nat → ClassId} {G : XG} {F : Bool × Bool} {O : XO} {C : XC} {M : XM} {k : Nat} (sz : Nat) (a : Int32) : MetI l yX0_isNumber cX0_isNumber 2 .boolean rmX0_isNumber D vwCl (tX cd) (wX h ad cd G F O C M k) sz [.ref h, .int a] (fun r (_ : Unit) => r = isNo a) (fun _ => wX h ad cd G F O C M k) := by
  refine zz_startI (own := RX0) (by decide) rfl (Nat.le_of_ble_eq_true rfl) ?_
  intro p e s m below meth c Q A ls args hx hb hr hml hown hts hlocks hA hK hP hD hS hl hQ
  have hl : lv_has ls 2 [(0, .ref h), (1, .int a)] := hl
  refine lv_iload_n hx hb dX0_isNumber_0 rfl (lv_at hl 1 rfl) ?_
  refine lv_if_lt (tgt := 14) hx hb dX0_isNumber_1 (by decide) (fun c_1 => ?_) (fun c_1 => ?_)
  · refine lv_iconst (v := 0) hx hb dX0_isNumber_14 (by decide) ?_
    exact zz_zret hx hb hr hlocks hK hQ hS (()) hP hD dX0_isNumber_15 (rfl) (by simp only [isNo, if_pos c_1])
  · refine lv_iload_n hx hb dX0_isNumber_4 rfl (lv_at hl 1 rfl) ?_
    refine lv_bipush (v := 19) hx hb dX0_isNumber_5 (by decide) ?_
    refine lv_icmp_gt (tgt := 14) hx hb dX0_isNumber_7 (by decide) (fun c_7 => ?_) (fun c_7 => ?_)
    · refine lv_iconst (v := 0) hx hb dX0_isNumber_14 (by decide) ?_
      exact zz_zret hx hb hr hlocks hK hQ hS (()) hP hD dX0_isNumber_15 (rfl) (by simp only [isNo, if_neg c_1, if_pos c_7])
    · refine lv_iconst (v := 1) hx hb dX0_isNumber_10 (by decide) ?_
      refine lv_goto (tgt := 15) hx hb dX0_isNumber_11 (by decide) ?_
      exact zz_zret hx hb hr hlocks hK hQ hS (()) hP hD dX0_isNumber_15 (rfl) (by simp only [isNo, if_neg c_1, if_neg c_7])
abbrev rmX0_saturated : Room := { frames := 0, cells := 0, slots := 0, locals := 0 }
theorem cw_X0_saturated {R : Room} {s : State} {args : Array Value} (hts : ∀ w ∈ lw_all, w.before args s = true) (hR : rmX0_saturated.frames + 1 ≤ R.frames ∧ 8 + (3 + 11) + rmX0_saturated.locals ≤ R.locals) : CallW R s args RX0 RX0 68 yX0_saturated cX0_saturated 3 (some .long) (ws_ yX0_saturated cX0_saturated 3 (some .long)) rmX0_saturated 0 0 1 := cwV 1 hts (lw_V q171 q173 qs13 q25 q174) rfl rfl rfl (by decide +kernel) hR
set_option maxHeartbeats 4000000 in
/-- saturated(v) -/
theorem metX0_saturated (l : Launch) {D : va_G} {h : Nat} {ad : Nat → Nat} {cd : Nat → ClassId} {G : XG} {F : Bool × Bool} {O : XO} {C : XC} {M : XM} {k : Nat} (sz : Nat) (v : Int64) : MetL l yX0_saturated cX0_saturated 3 rmX0_saturated D vwCl (tX cd) (wX h ad cd G F O C M k) sz [.ref h, .long v] (fun r (_ : Unit) => r = sat64 v) (fun _ => wX h ad cd G F O C M k) := by
  refine zz_startL (own := RX0) (by decide) rfl (Nat.le_of_ble_eq_true rfl) ?_
  intro p e s m below meth c Q A ls args hx hb hr hml hown hts hlocks hA hK hP hD hS hl hQ
  have hl : lv_has ls 3 [(0, .ref h), (1, .long v)] := hl
  refine lv_lload_n hx hb dX0_saturated_0 rfl (lv_at hl 1 rfl) ?_
  refine lv_ldc2 hx hb hown (hts _ q175) dX0_saturated_1 ?_
  refine W.lcmp hx hb dX0_saturated_4 ?_
  refine lv_if_le (tgt := 12) hx hb dX0_saturated_5 (by decide) (fun c_5 => ?_) (fun c_5 => ?_)
  · refine lv_lload_n hx hb dX0_saturated_12 rfl (lv_at hl 1 rfl) ?_
    refine lv_ldc2 hx hb hown (hts _ q176) dX0_saturated_13 ?_
    refine W.lcmp hx hb dX0_saturated_16 ?_
    refine lv_if_ge (tgt := 26) hx hb dX0_saturated_17 (by decide) (fun c_17 => ?_) (fun c_17 => ?_)
    · refine lv_lload_n hx hb dX0_saturated_26 rfl (lv_at hl 1 rfl) ?_
      exact zz_lret hx hb hr hlocks hK hQ hS (()) hP hD dX0_saturated_27 (by simp only [sat64, if_pos c_5, if_pos c_17])
    · refine lv_ldc2 hx hb hown (hts _ q176) dX0_saturated_20 ?_
      refine lv_goto (tgt := 27) hx hb dX0_saturated_23 (by decide) ?_
      exact zz_lret hx hb hr hlocks hK hQ hS (()) hP hD dX0_saturated_27 (by simp only [sat64, if_pos c_5, if_neg c_17])
  · refine lv_ldc2 hx hb hown (hts _ q175) dX0_saturated_8 ?_
    exact zz_lret hx hb hr hlocks hK hQ hS (()) hP hD dX0_saturated_11 (by simp only [sat64, if_neg c_5])
abbrev rmX0_cellFor : Room := { frames := 0, cells := 0, slots := 0, locals := 0 }
theorem cw_X0_cellFor {R : Room} {s : State} {args : Array Value} (hts : ∀ w ∈ lw_all, w.before args s = true) (hR : rmX0_cellFor.frames + 1 ≤ R.frames ∧ 8 + (2 + 11) + rmX0_cellFor.locals ≤ R.locals) : CallW R s args RX0 RX0 117 yX0_cellFor cX0_cellFor 2 (some .int) (ws_ yX0_cellFor cX0_cellFor 2 (some .int)) rmX0_cellFor 0 0 1 := cwV 1 hts (lw_V q155 q157 qs10 q25 q158) rfl rfl rfl (by decide +kernel) hR
set_option maxHeartbeats 4000000 in
/-- cellFor(a) -/
theorem metX0_cellFor (l : Launch) {D : va_G} {h : Nat} {ad : Nat → Nat} {cd : Nat → ClassId} {G : XG} {F : Bool × Bool} {O : XO} {C : XC} {M : XM} {k : Nat} (sz : Nat) (a : Int32) : MetI l yX0_cellFor cX0_cellFor 2 .int rmX0_cellFor D vwCl (tX cd) (wX h ad cd G F O C M k) sz [.ref h, .int a] (fun r (_ : Unit) => r = cellF G a) (fun _ => wX h ad cd G F O C M k) := by
  refine zz_startI (own := RX0) (by decide) rfl (Nat.le_of_ble_eq_true rfl) ?_
  intro p e s m below meth c Q A ls args hx hb hr hml hown hts hlocks hA hK hP hD hS hl hQ
  have hl : lv_has ls 2 [(0, .ref h), (1, .int a)] := hl
  refine lv_iload_n hx hb dX0_cellFor_0 rfl (lv_at hl 1 rfl) ?_
  refine lv_aload_n hx hb dX0_cellFor_1 rfl (lv_at hl 0 rfl) ?_
  refine xg_0 hx hb hts hown hK hP dX0_cellFor_2 ?_
  refine lv_icmp_ge (tgt := 12) hx hb dX0_cellFor_5 (by decide) (fun c_5 => ?_) (fun c_5 => ?_)
  · refine lv_bipush (v := 40) hx hb dX0_cellFor_12 (by decide) ?_
    exact zz_iret hx hb hr hlocks hK hQ hS (()) hP hD dX0_cellFor_14 (by simp only [cellF, if_pos c_5])
  · refine lv_iload_n hx hb dX0_cellFor_8 rfl (lv_at hl 1 rfl) ?_
    refine lv_goto (tgt := 14) hx hb dX0_cellFor_9 (by decide) ?_
    exact zz_iret hx hb hr hlocks hK hQ hS (()) hP hD dX0_cellFor_14 (by simp only [cellF, if_neg c_5])
abbrev rmX0_nodes : Room := { frames := 0, cells := 0, slots := 0, locals := 0 }
set_option maxHeartbeats 4000000 in
/-- nodes() -/
theorem metX0_nodes (l : Launch) {D : va_G} {h : Nat} {ad : Nat → Nat} {cd : Nat → ClassId} {G : XG} {F : Bool × Bool} {O : XO} {C : XC} {M : XM} {k : Nat} (sz : Nat) : MetI l yX0_nodes cX0_nodes 1 .int rmX0_nodes D vwCl (tX cd) (wX h ad cd G F O C M k) sz [.ref h] (fun r (_ : Unit) => r = nI G.1) (fun _ => wX h ad cd G F O C M k) := by
  refine zz_startI (own := RX0) (by decide) rfl (Nat.le_of_ble_eq_true rfl) ?_
  intro p e s m below meth c Q A ls args hx hb hr hml hown hts hlocks hA hK hP hD hS hl hQ
  have hl : lv_has ls 1 [(0, .ref h)] := hl
  refine lv_aload_n hx hb dX0_nodes_0 rfl (lv_at hl 0 rfl) ?_
  refine xg_0 hx hb hts hown hK hP dX0_nodes_1 ?_
  exact zz_iret hx hb hr hlocks hK hQ hS (()) hP hD dX0_nodes_4 (rfl)
abbrev rmX0_samples : Room := { frames := 0, cells := 0, slots := 0, locals := 0 }
set_option maxHeartbeats 4000000 in
/-- samples() -/
theorem metX0_samples (l : Launch) {D : va_G} {h : Nat} {ad : Nat → Nat} {cd : Nat → ClassId} {G : XG} {F : Bool × Bool} {O : XO} {C : XC} {M : XM} {k : Nat} (sz : Nat) : MetI l yX0_samples cX0_samples 1 .int rmX0_samples D vwCl (tX cd) (wX h ad cd G F O C M k) sz [.ref h] (fun r (_ : Unit) => r = nI k) (fun _ => wX h ad cd G F O C M k) := by
  refine zz_startI (own := RX0) (by decide) rfl (Nat.le_of_ble_eq_true rfl) ?_
  intro p e s m below meth c Q A ls args hx hb hr hml hown hts hlocks hA hK hP hD hS hl hQ
  have hl : lv_has ls 1 [(0, .ref h)] := hl
  refine lv_aload_n hx hb dX0_samples_0 rfl (lv_at hl 0 rfl) ?_
  refine xg_18 hx hb hts hown hK hP dX0_samples_1 ?_
  exact zz_iret hx hb hr hlocks hK hQ hS (()) hP hD dX0_samples_4 (rfl)
abbrev rmX0_value : Room := { frames := 0, cells := 0, slots := 0, locals := 0 }
set_option maxHeartbeats 4000000 in
/-- value(a) -/
theorem metX0_value (l : Launch) {D : va_G} {h : Nat} {ad : Nat → Nat} {cd : Nat → ClassId} {G : XG} {F : Bool × Bool} {O : XO} {C : XC} {M : XM} {k : Nat} (sz : Nat) (a : Int32) (hn : G.1 ≤ 20) : MetI l yX0_value cX0_value 2 .int rmX0_value D vwCl (tX cd) (wX h ad cd G F O C M k) sz [.ref h, .int a] (fun r (_ : Unit) => r = if a < 0 then 0 else if nI G.1 ≤ a then 0 else if nI k = 0 then 0 else M.1 a.toNatClampNeg) (fun _ => wX h ad cd G F O C M k) := by
  refine zz_startI (own := RX0) (by decide) rfl (Nat.le_of_ble_eq_true rfl) ?_
  intro p e s m below meth c Q A ls args hx hb hr hml hown hts hlocks hA hK hP hD hS hl hQ
  have hl : lv_has ls 2 [(0, .ref h), (1, .int a)] := hl
  refine lv_iload_n hx hb dX0_value_0 rfl (lv_at hl 1 rfl) ?_
  refine lv_if_lt (tgt := 19) hx hb dX0_value_1 (by decide) (fun c_1 => ?_) (fun c_1 => ?_)
  · refine lv_iconst (v := 0) hx hb dX0_value_19 (by decide) ?_
    exact zz_iret hx hb hr hlocks hK hQ hS (()) hP hD dX0_value_20 (by simp only [if_pos c_1])
  · refine lv_iload_n hx hb dX0_value_4 rfl (lv_at hl 1 rfl) ?_
    refine lv_aload_n hx hb dX0_value_5 rfl (lv_at hl 0 rfl) ?_
    refine xg_0 hx hb hts hown hK hP dX0_value_6 ?_
    refine lv_icmp_ge (tgt := 19) hx hb dX0_value_9 (by decide) (fun c_9 => ?_) (fun c_9 => ?_)
    · refine lv_iconst (v := 0) hx hb dX0_value_19 (by decide) ?_
      exact zz_iret hx hb hr hlocks hK hQ hS (()) hP hD dX0_value_20 (by simp only [if_neg c_1, if_pos c_9])
    · refine lv_aload_n hx hb dX0_value_12 rfl (lv_at hl 0 rfl) ?_
      refine xg_18 hx hb hts hown hK hP dX0_value_13 ?_
      refine lv_if_ne (tgt := 21) hx hb dX0_value_16 (by decide) (fun c_16 => ?_) (fun c_16 => ?_)
      · refine lv_aload_n hx hb dX0_value_21 rfl (lv_at hl 0 rfl) ?_
        refine xg_16 hx hb hts hown hK hP dX0_value_22 ?_
        refine lv_iload_n hx hb dX0_value_25 rfl (lv_at hl 1 rfl) ?_
        obtain ⟨j, hj, rfl⟩ := pk_ixn hn c_1 c_9
        refine xl_16 hx hb hK hP j (by omega) rfl dX0_value_26 ?_
        exact zz_iret hx hb hr hlocks hK hQ hS (()) hP hD dX0_value_27 (by rw [if_neg c_1, if_neg c_9, if_neg c_16, nI_clamp (by omega)])
      · refine lv_iconst (v := 0) hx hb dX0_value_19 (by decide) ?_
        exact zz_iret hx hb hr hlocks hK hQ hS (()) hP hD dX0_value_20 (by simp only [if_neg c_1, if_neg c_9, if_pos c_16])
abbrev rmX0_write : Room := { frames := 0, cells := 0, slots := 0, locals := 0 }
theorem cw_X0_write {R : Room} {s : State} {args : Array Value} (hts : ∀ w ∈ lw_all, w.before args s = true) (hR : rmX0_write.frames + 1 ≤ R.frames ∧ 8 + (4 + 11) + rmX0_write.locals ≤ R.locals) : CallW R s args RX0 RX0 120 yX0_write cX0_write 4 none (ws_ yX0_write cX0_write 4 none) rmX0_write 0 0 3 := cwV 3 hts (lw_V q139 q141 qs6 q25 q142) rfl rfl rfl (by decide +kernel) hR
set_option maxHeartbeats 4000000 in
/-- write(o, q, v) -/
theorem metX0_write (l : Launch) {D : va_G} {h : Nat} {ad : Nat → Nat} {cd : Nat → ClassId} {G : XG} {F : Bool × Bool} {O : XO} {C : XC} {M : XM} {k : Nat} (sz : Nat) (o q v : Int32) (hce : C.1 < 300) : MetV l yX0_write cX0_write 4 rmX0_write D vwCl (tX cd) (wX h ad cd G F O C M k) sz [.ref h, .int o, .int q, .int v] (fun C' => C' = cWr C o q v) (fun C' => wX h ad cd G F O C' M k) := by
  refine zz_startV (own := RX0) (by decide) rfl (Nat.le_of_ble_eq_true rfl) ?_
  intro p e s m below meth c Q A ls args hx hb hr hml hown hts hlocks hA hK hP hD hS hl hQ
  have hl : lv_has ls 4 [(0, .ref h), (1, .int o), (2, .int q), (3, .int v)] := hl
  refine lv_aload_n hx hb dX0_write_0 rfl (lv_at hl 0 rfl) ?_
  refine xg_12 hx hb hts hown hK hP dX0_write_1 ?_
  refine lv_aload_n hx hb dX0_write_4 rfl (lv_at hl 0 rfl) ?_
  refine xg_11 hx hb hts hown hK hP dX0_write_5 ?_
  refine lv_iload_n hx hb dX0_write_8 rfl (lv_at hl 1 rfl) ?_
  refine lv_i2b hx hb dX0_write_9 rfl ?_
  refine xs_12 hx hb hK hP hD hS C.1 hce rfl (b8 o) (pk_vb _) dX0_write_10 (fun H locs hP hD hS => ?_)
  refine lv_aload_n hx hb dX0_write_11 rfl (lv_at hl 0 rfl) ?_
  refine xg_14 hx hb hts hown hK hP dX0_write_12 ?_
  refine lv_aload_n hx hb dX0_write_15 rfl (lv_at hl 0 rfl) ?_
  refine xg_11 hx hb hts hown hK hP dX0_write_16 ?_
  refine lv_iload_n hx hb dX0_write_19 rfl (lv_at hl 2 rfl) ?_
  refine lv_i2b hx hb dX0_write_20 rfl ?_
  refine xs_14 hx hb hK hP hD hS C.1 hce rfl (b8 q) (pk_vb _) dX0_write_21 (fun H locs hP hD hS => ?_)
  refine lv_aload_n hx hb dX0_write_22 rfl (lv_at hl 0 rfl) ?_
  refine xg_13 hx hb hts hown hK hP dX0_write_23 ?_
  refine lv_aload_n hx hb dX0_write_26 rfl (lv_at hl 0 rfl) ?_
  refine xg_11 hx hb hts hown hK hP dX0_write_27 ?_
  refine lv_iload_n hx hb dX0_write_30 rfl (lv_at hl 3 rfl) ?_
  refine xs_13 hx hb hK hP hD hS C.1 hce rfl dX0_write_31 (fun H locs hP hD hS => ?_)
  refine lv_aload_n hx hb dX0_write_32 rfl (lv_at hl 0 rfl) ?_
  refine lv_dup hx hb dX0_write_33 rfl ?_
  refine xg_11 hx hb hts hown hK hP dX0_write_34 ?_
  refine lv_iconst (v := 1) hx hb dX0_write_37 (by decide) ?_
  refine lv_iadd hx hb dX0_write_38 ?_
  refine xp_11 hx hb hts hown hK hP hD hS (C.1 + 1) (nI_1 C.1) dX0_write_39 (fun H locs hP hD hS => ?_)
  refine lv_aload_n hx hb dX0_write_42 rfl (lv_at hl 0 rfl) ?_
  refine lv_iconst (v := (-1)) hx hb dX0_write_43 (by decide) ?_
  refine xp_15 hx hb hts hown hK hP hD hS dX0_write_44 (fun H locs hP hD hS => ?_)
  exact zz_vret hx hb hr hlocks hK hQ hS (_) hP hD dX0_write_47 (rfl)
abbrev rmX0_load : Room := { frames := 1, cells := 0, slots := 0, locals := 23 }
theorem cw_X0_load {R : Room} {s : State} {args : Array Value} (hts : ∀ w ∈ lw_all, w.before args s = true) (hR : rmX0_load.frames + 1 ≤ R.frames ∧ 8 + (2 + 11) + rmX0_load.locals ≤ R.locals) : CallW R s args RX0 RX0 123 yX0_load cX0_load 2 none (ws_ yX0_load cX0_load 2 none) rmX0_load 0 0 1 := cwV 1 hts (lw_V q135 q137 qs5 q25 q138) rfl rfl rfl (by decide +kernel) hR
set_option maxHeartbeats 4000000 in
/-- load(q) -/
theorem metX0_load (l : Launch) {D : va_G} {h : Nat} {ad : Nat → Nat} {cd : Nat → ClassId} {G : XG} {F : Bool × Bool} {O : XO} {C : XC} {M : XM} {k : Nat} (sz : Nat) (q : Int32) (hce : C.1 < 300) : MetV l yX0_load cX0_load 2 rmX0_load D vwCl (tX cd) (wX h ad cd G F O C M k) sz [.ref h, .int q] (fun C' => C' = cLd C q) (fun C' => wX h ad cd G F O C' M k) := by
  refine zz_startV (own := RX0) (by decide) rfl (Nat.le_of_ble_eq_true rfl) ?_
  intro p e s m below meth c Q A ls args hx hb hr hml hown hts hlocks hA hK hP hD hS hl hQ
  have hl : lv_has ls 2 [(0, .ref h), (1, .int q)] := hl
  refine lv_aload_n hx hb dX0_load_0 rfl (lv_at hl 0 rfl) ?_
  refine xg_15 hx hb hts hown hK hP dX0_load_1 ?_
  refine lv_iload_n hx hb dX0_load_4 rfl (lv_at hl 1 rfl) ?_
  refine lv_icmp_ne (tgt := 9) hx hb dX0_load_5 (by decide) (fun c_5 => ?_) (fun c_5 => ?_)
  · refine lv_aload_n hx hb dX0_load_9 rfl (lv_at hl 0 rfl) ?_
    refine lv_iconst (v := 0) hx hb dX0_load_10 (by decide) ?_
    refine lv_iload_n hx hb dX0_load_11 rfl (lv_at hl 1 rfl) ?_
    refine lv_iconst (v := 0) hx hb dX0_load_12 (by decide) ?_
    refine zz_callv ⟨hx, hb, hml, hown, hts⟩ hK hP hD hS hA rfl rfl (metX0_write l _ 0 q 0 hce) (cw_X0_write hts ⟨Nat.le_of_ble_eq_true rfl, Nat.le_of_ble_eq_true rfl⟩) rfl hl.1 rfl (Nat.le_of_ble_eq_true rfl) dX0_load_13 ⟨Nat.zero_le _, Nat.zero_le _⟩ (fun C1 H locs hC1 hP hD hS => ?_)
    exact zz_vret hx hb hr hlocks hK hQ hS (C1) hP hD dX0_load_16 (by simp only [hC1, cLd, if_neg c_5])
  · exact zz_vret hx hb hr hlocks hK hQ hS (C) hP hD dX0_load_8 (by simp only [cLd, if_pos c_5])
abbrev rmX0_store : Room := { frames := 1, cells := 0, slots := 0, locals := 23 }
theorem cw_X0_store {R : Room} {s : State} {args : Array Value} (hts : ∀ w ∈ lw_all, w.before args s = true) (hR : rmX0_store.frames + 1 ≤ R.frames ∧ 8 + (2 + 11) + rmX0_store.locals ≤ R.locals) : CallW R s args RX0 RX0 126 yX0_store cX0_store 2 none (ws_ yX0_store cX0_store 2 none) rmX0_store 0 0 1 := cwV 1 hts (lw_V q143 q145 qs7 q25 q146) rfl rfl rfl (by decide +kernel) hR
set_option maxHeartbeats 4000000 in
/-- store(q) -/
theorem metX0_store (l : Launch) {D : va_G} {h : Nat} {ad : Nat → Nat} {cd : Nat → ClassId} {G : XG} {F : Bool × Bool} {O : XO} {C : XC} {M : XM} {k : Nat} (sz : Nat) (q : Int32) (hce : C.1 < 300) : MetV l yX0_store cX0_store 2 rmX0_store D vwCl (tX cd) (wX h ad cd G F O C M k) sz [.ref h, .int q] (fun C' => C' = cSt C q) (fun C' => wX h ad cd G F O C' M k) := by
  refine zz_startV (own := RX0) (by decide) rfl (Nat.le_of_ble_eq_true rfl) ?_
  intro p e s m below meth c Q A ls args hx hb hr hml hown hts hlocks hA hK hP hD hS hl hQ
  have hl : lv_has ls 2 [(0, .ref h), (1, .int q)] := hl
  refine lv_aload_n hx hb dX0_store_0 rfl (lv_at hl 0 rfl) ?_
  refine lv_iconst (v := 2) hx hb dX0_store_1 (by decide) ?_
  refine lv_iload_n hx hb dX0_store_2 rfl (lv_at hl 1 rfl) ?_
  refine lv_iconst (v := 0) hx hb dX0_store_3 (by decide) ?_
  refine zz_callv ⟨hx, hb, hml, hown, hts⟩ hK hP hD hS hA rfl rfl (metX0_write l _ 2 q 0 hce) (cw_X0_write hts ⟨Nat.le_of_ble_eq_true rfl, Nat.le_of_ble_eq_true rfl⟩) rfl hl.1 rfl (Nat.le_of_ble_eq_true rfl) dX0_store_4 ⟨Nat.zero_le _, Nat.zero_le _⟩ (fun C1 H locs hC1 hP hD hS => ?_)
  refine lv_aload_n hx hb dX0_store_7 rfl (lv_at hl 0 rfl) ?_
  refine lv_iload_n hx hb dX0_store_8 rfl (lv_at hl 1 rfl) ?_
  refine xp_15 hx hb hts hown hK hP hD hS dX0_store_9 (fun H locs hP hD hS => ?_)
  exact zz_vret hx hb hr hlocks hK hQ hS (_) hP hD dX0_store_12 (by rw [hC1]; rfl)
theorem cLd_len (C : XC) (q : Int32) : (cLd C q).1 ≤ C.1 + 1 := by unfold cLd; split <;> simp [cWr]
theorem cWr_len (C : XC) (o q v : Int32) : (cWr C o q v).1 = C.1 + 1 := rfl
theorem cSt_len (C : XC) (q : Int32) : (cSt C q).1 = C.1 + 1 := rfl
abbrev rmX0_copy : Room := { frames := 2, cells := 0, slots := 0, locals := 44 }
theorem cw_X0_copy {R : Room} {s : State} {args : Array Value} (hts : ∀ w ∈ lw_all, w.before args s = true) (hR : rmX0_copy.frames + 1 ≤ R.frames ∧ 8 + (3 + 11) + rmX0_copy.locals ≤ R.locals) : CallW R s args RX0 RX0 110 yX0_copy cX0_copy 3 none (ws_ yX0_copy cX0_copy 3 none) rmX0_copy 0 0 2 := cwV 2 hts (lw_V q131 q133 qs4 q25 q134) rfl rfl rfl (by decide +kernel) hR
set_option maxHeartbeats 4000000 in
/-- copy(q, r) -/
theorem metX0_copy (l : Launch) {D : va_G} {h : Nat} {ad : Nat → Nat} {cd : Nat → ClassId} {G : XG} {F : Bool × Bool} {O : XO} {C : XC} {M : XM} {k : Nat} (sz : Nat) (q r : Int32) (hce : C.1 + 2 ≤ 300) : MetV l yX0_copy cX0_copy 3 rmX0_copy D vwCl (tX cd) (wX h ad cd G F O C M k) sz [.ref h, .int q, .int r] (fun C' => C' = cCp C q r) (fun C' => wX h ad cd G F O C' M k) := by
  refine zz_startV (own := RX0) (by decide) rfl (Nat.le_of_ble_eq_true rfl) ?_
  intro p e s m below meth c Q A ls args hx hb hr hml hown hts hlocks hA hK hP hD hS hl hQ
  have hl : lv_has ls 3 [(0, .ref h), (1, .int q), (2, .int r)] := hl
  refine lv_aload_n hx hb dX0_copy_0 rfl (lv_at hl 0 rfl) ?_
  refine lv_iload_n hx hb dX0_copy_1 rfl (lv_at hl 1 rfl) ?_
  refine zz_callv ⟨hx, hb, hml, hown, hts⟩ hK hP hD hS hA rfl rfl (metX0_load l _ q (by omega)) (cw_X0_load hts ⟨Nat.le_of_ble_eq_true rfl, Nat.le_of_ble_eq_true rfl⟩) rfl hl.1 rfl (Nat.le_of_ble_eq_true rfl) dX0_copy_2 ⟨Nat.zero_le _, Nat.zero_le _⟩ (fun C1 H locs hC1 hP hD hS => ?_)
  refine lv_aload_n hx hb dX0_copy_5 rfl (lv_at hl 0 rfl) ?_
  refine lv_iload_n hx hb dX0_copy_6 rfl (lv_at hl 2 rfl) ?_
  refine zz_callv ⟨hx, hb, hml, hown, hts⟩ hK hP hD hS hA rfl rfl (metX0_store l _ r (by have := cLd_len C q; rw [← hC1] at this; omega)) (cw_X0_store hts ⟨Nat.le_of_ble_eq_true rfl, Nat.le_of_ble_eq_true rfl⟩) rfl hl.1 rfl (Nat.le_of_ble_eq_true rfl) dX0_copy_7 ⟨Nat.zero_le _, Nat.zero_le _⟩ (fun C2 H locs hC2 hP hD hS => ?_)
  exact zz_vret hx hb hr hlocks hK hQ hS (C2) hP hD dX0_copy_10 (by rw [hC2, hC1]; rfl)
abbrev rmX0_compileTwo : Room := { frames := 2, cells := 0, slots := 0, locals := 44 }
theorem cw_X0_compileTwo {R : Room} {s : State} {args : Array Value} (hts : ∀ w ∈ lw_all, w.before args s = true) (hR : rmX0_compileTwo.frames + 1 ≤ R.frames ∧ 8 + (5 + 11) + rmX0_compileTwo.locals ≤ R.locals) : CallW R s args RX0 RX0 132 yX0_compileTwo cX0_compileTwo 5 none (ws_ yX0_compileTwo cX0_compileTwo 5 none) rmX0_compileTwo 0 0 1 := cwV 1 hts (lw_V q159 q161 qs11 q25 q162) rfl rfl rfl (by decide +kernel) hR
set_option maxHeartbeats 4000000 in
/-- compileTwo(i) -/
theorem metX0_compileTwo (l : Launch) {D : va_G} {h : Nat} {ad : Nat → Nat} {cd : Nat → ClassId} {G : XG} {F : Bool × Bool} {O : XO} {C : XC} {M : XM} {k : Nat} (sz : Nat) (i : Nat) (hi : i < 20) (hce : C.1 + 3 ≤ 300) : MetV l yX0_compileTwo cX0_compileTwo 5 rmX0_compileTwo D vwCl (tX cd) (wX h ad cd G F O C M k) sz [.ref h, .int (nI i)] (fun C' => C' = cTwo G i C) (fun C' => wX h ad cd G F O C' M k) := by
  refine zz_startV (own := RX0) (by decide) rfl (Nat.le_of_ble_eq_true rfl) ?_
  intro p e s m below meth c Q A ls args hx hb hr hml hown hts hlocks hA hK hP hD hS hl hQ
  have hl : lv_has ls 5 [(0, .ref h), (1, .int (nI i))] := hl
  refine lv_aload_n hx hb dX0_compileTwo_0 rfl (lv_at hl 0 rfl) ?_
  refine xg_1 hx hb hts hown hK hP dX0_compileTwo_1 ?_
  refine lv_iload_n hx hb dX0_compileTwo_4 rfl (lv_at hl 1 rfl) ?_
  refine xl_1 hx hb hK hP i hi rfl dX0_compileTwo_5 ?_
  refine lv_istore_n (lv' := [(2, .int _), (0, .ref _), (1, .int _)]) hx hb dX0_compileTwo_6 rfl hl (by decide) rfl (fun ls hl => ?_)
  refine lv_aload_n hx hb dX0_compileTwo_7 rfl (lv_at hl 1 rfl) ?_
  refine lv_aload_n hx hb dX0_compileTwo_8 rfl (lv_at hl 1 rfl) ?_
  refine xg_2 hx hb hts hown hK hP dX0_compileTwo_9 ?_
  refine lv_iload_n hx hb dX0_compileTwo_12 rfl (lv_at hl 2 rfl) ?_
  refine xl_2 hx hb hK hP i hi rfl dX0_compileTwo_13 ?_
  refine zz_calli ⟨hx, hb, hml, hown, hts⟩ hK hP hD hS hA rfl rfl (metX0_cellFor l _ (G.2.2.1 i)) (cw_X0_cellFor hts ⟨Nat.le_of_ble_eq_true rfl, Nat.le_of_ble_eq_true rfl⟩) rfl hl.1 rfl (Nat.le_of_ble_eq_true rfl) dX0_compileTwo_14 ⟨Nat.zero_le _, Nat.zero_le _⟩ (fun r1 _ H locs hr1 hP hD hS => ?_)
  refine lv_istore_n (lv' := [(3, .int _), (2, .int _), (0, .ref _), (1, .int _)]) hx hb dX0_compileTwo_17 rfl hl (by decide) rfl (fun ls hl => ?_)
  refine lv_aload_n hx hb dX0_compileTwo_18 rfl (lv_at hl 2 rfl) ?_
  refine lv_aload_n hx hb dX0_compileTwo_19 rfl (lv_at hl 2 rfl) ?_
  refine xg_3 hx hb hts hown hK hP dX0_compileTwo_20 ?_
  refine lv_iload_n hx hb dX0_compileTwo_23 rfl (lv_at hl 3 rfl) ?_
  refine xl_3 hx hb hK hP i hi rfl dX0_compileTwo_24 ?_
  refine zz_calli ⟨hx, hb, hml, hown, hts⟩ hK hP hD hS hA rfl rfl (metX0_cellFor l _ (G.2.2.2.1 i)) (cw_X0_cellFor hts ⟨Nat.le_of_ble_eq_true rfl, Nat.le_of_ble_eq_true rfl⟩) rfl hl.1 rfl (Nat.le_of_ble_eq_true rfl) dX0_compileTwo_25 ⟨Nat.zero_le _, Nat.zero_le _⟩ (fun r2 _ H locs hr2 hP hD hS => ?_)
  refine lv_istore (lv' := [(4, .int _), (3, .int _), (2, .int _), (0, .ref _), (1, .int _)]) hx hb dX0_compileTwo_28 hl (by decide) rfl (fun ls hl => ?_)
  refine lv_aload_n hx hb dX0_compileTwo_30 rfl (lv_at hl 3 rfl) ?_
  refine lv_iload_n hx hb dX0_compileTwo_31 rfl (lv_at hl 1 rfl) ?_
  refine zz_callv ⟨hx, hb, hml, hown, hts⟩ hK hP hD hS hA rfl rfl (metX0_load l _ r1 (by omega)) (cw_X0_load hts ⟨Nat.le_of_ble_eq_true rfl, Nat.le_of_ble_eq_true rfl⟩) rfl hl.1 rfl (Nat.le_of_ble_eq_true rfl) dX0_compileTwo_32 ⟨Nat.zero_le _, Nat.zero_le _⟩ (fun C1 H locs hC1 hP hD hS => ?_)
  refine lv_aload_n hx hb dX0_compileTwo_35 rfl (lv_at hl 3 rfl) ?_
  refine lv_iload_n hx hb dX0_compileTwo_36 rfl (lv_at hl 2 rfl) ?_
  refine lv_iconst (v := 3) hx hb dX0_compileTwo_37 (by decide) ?_
  refine lv_icmp_ne (tgt := 45) hx hb dX0_compileTwo_38 (by decide) (fun c_38 => ?_) (fun c_38 => ?_)
  · refine lv_iload_n hx hb dX0_compileTwo_45 rfl (lv_at hl 2 rfl) ?_
    refine lv_iconst (v := 4) hx hb dX0_compileTwo_46 (by decide) ?_
    refine lv_icmp_ne (tgt := 54) hx hb dX0_compileTwo_47 (by decide) (fun c_47 => ?_) (fun c_47 => ?_)
    · refine lv_iconst (v := 5) hx hb dX0_compileTwo_54 (by decide) ?_
      refine lv_iload hx hb dX0_compileTwo_55 (lv_at hl 0 rfl) ?_
      refine lv_iconst (v := 0) hx hb dX0_compileTwo_57 (by decide) ?_
      refine zz_callv ⟨hx, hb, hml, hown, hts⟩ hK hP hD hS hA rfl rfl (metX0_write l _ _ r2 0 (by have := cLd_len C r1; rw [← hC1] at this; omega)) (cw_X0_write hts ⟨Nat.le_of_ble_eq_true rfl, Nat.le_of_ble_eq_true rfl⟩) rfl hl.1 rfl (Nat.le_of_ble_eq_true rfl) dX0_compileTwo_58 ⟨Nat.zero_le _, Nat.zero_le _⟩ (fun C2 H locs hC2 hP hD hS => ?_)
      refine lv_iload_n hx hb dX0_compileTwo_61 rfl (lv_at hl 2 rfl) ?_
      refine lv_iconst (v := 5) hx hb dX0_compileTwo_62 (by decide) ?_
      refine lv_icmp_eq (tgt := 75) hx hb dX0_compileTwo_63 (by decide) (fun c_63 => ?_) (fun c_63 => ?_)
      · exact zz_vret hx hb hr hlocks hK hQ hS (_) hP hD dX0_compileTwo_75 (by rw [hC2, hC1, hr1, hr2]; simp only [cTwo, cTwoA, if_neg c_38, if_neg c_47, if_pos c_63])
      · refine lv_aload_n hx hb dX0_compileTwo_66 rfl (lv_at hl 3 rfl) ?_
        refine lv_bipush (v := 12) hx hb dX0_compileTwo_67 (by decide) ?_
        refine lv_bipush (v := 40) hx hb dX0_compileTwo_69 (by decide) ?_
        refine lv_iconst (v := 0) hx hb dX0_compileTwo_71 (by decide) ?_
        refine zz_callv ⟨hx, hb, hml, hown, hts⟩ hK hP hD hS hA rfl rfl (metX0_write l _ 12 40 0 (by have := cLd_len C r1; rw [← hC1] at this; have := cWr_len C1; rw [hC2]; simp only [cWr_len]; omega)) (cw_X0_write hts ⟨Nat.le_of_ble_eq_true rfl, Nat.le_of_ble_eq_true rfl⟩) rfl hl.1 rfl (Nat.le_of_ble_eq_true rfl) dX0_compileTwo_72 ⟨Nat.zero_le _, Nat.zero_le _⟩ (fun C3 H locs hC3 hP hD hS => ?_)
        exact zz_vret hx hb hr hlocks hK hQ hS (_) hP hD dX0_compileTwo_75 (by rw [hC3, hC2, hC1, hr1, hr2]; simp only [cTwo, cTwoA, if_neg c_38, if_neg c_47, if_neg c_63])
    · refine lv_iconst (v := 4) hx hb dX0_compileTwo_50 (by decide) ?_
      refine lv_goto (tgt := 55) hx hb dX0_compileTwo_51 (by decide) ?_
      refine lv_iload hx hb dX0_compileTwo_55 (lv_at hl 0 rfl) ?_
      refine lv_iconst (v := 0) hx hb dX0_compileTwo_57 (by decide) ?_
      refine zz_callv ⟨hx, hb, hml, hown, hts⟩ hK hP hD hS hA rfl rfl (metX0_write l _ _ r2 0 (by have := cLd_len C r1; rw [← hC1] at this; omega)) (cw_X0_write hts ⟨Nat.le_of_ble_eq_true rfl, Nat.le_of_ble_eq_true rfl⟩) rfl hl.1 rfl (Nat.le_of_ble_eq_true rfl) dX0_compileTwo_58 ⟨Nat.zero_le _, Nat.zero_le _⟩ (fun C2 H locs hC2 hP hD hS => ?_)
      refine lv_iload_n hx hb dX0_compileTwo_61 rfl (lv_at hl 2 rfl) ?_
      refine lv_iconst (v := 5) hx hb dX0_compileTwo_62 (by decide) ?_
      refine lv_icmp_eq (tgt := 75) hx hb dX0_compileTwo_63 (by decide) (fun c_63 => ?_) (fun c_63 => ?_)
      · exact zz_vret hx hb hr hlocks hK hQ hS (_) hP hD dX0_compileTwo_75 (by rw [hC2, hC1, hr1, hr2]; simp only [cTwo, cTwoA, if_neg c_38, if_pos c_47, if_pos c_63])
      · refine lv_aload_n hx hb dX0_compileTwo_66 rfl (lv_at hl 3 rfl) ?_
        refine lv_bipush (v := 12) hx hb dX0_compileTwo_67 (by decide) ?_
        refine lv_bipush (v := 40) hx hb dX0_compileTwo_69 (by decide) ?_
        refine lv_iconst (v := 0) hx hb dX0_compileTwo_71 (by decide) ?_
        refine zz_callv ⟨hx, hb, hml, hown, hts⟩ hK hP hD hS hA rfl rfl (metX0_write l _ 12 40 0 (by have := cLd_len C r1; rw [← hC1] at this; have := cWr_len C1; rw [hC2]; simp only [cWr_len]; omega)) (cw_X0_write hts ⟨Nat.le_of_ble_eq_true rfl, Nat.le_of_ble_eq_true rfl⟩) rfl hl.1 rfl (Nat.le_of_ble_eq_true rfl) dX0_compileTwo_72 ⟨Nat.zero_le _, Nat.zero_le _⟩ (fun C3 H locs hC3 hP hD hS => ?_)
        exact zz_vret hx hb hr hlocks hK hQ hS (_) hP hD dX0_compileTwo_75 (by rw [hC3, hC2, hC1, hr1, hr2]; simp only [cTwo, cTwoA, if_neg c_38, if_pos c_47, if_neg c_63])
  · refine lv_iconst (v := 3) hx hb dX0_compileTwo_41 (by decide) ?_
    refine lv_goto (tgt := 55) hx hb dX0_compileTwo_42 (by decide) ?_
    refine lv_iload hx hb dX0_compileTwo_55 (lv_at hl 0 rfl) ?_
    refine lv_iconst (v := 0) hx hb dX0_compileTwo_57 (by decide) ?_
    refine zz_callv ⟨hx, hb, hml, hown, hts⟩ hK hP hD hS hA rfl rfl (metX0_write l _ _ r2 0 (by have := cLd_len C r1; rw [← hC1] at this; omega)) (cw_X0_write hts ⟨Nat.le_of_ble_eq_true rfl, Nat.le_of_ble_eq_true rfl⟩) rfl hl.1 rfl (Nat.le_of_ble_eq_true rfl) dX0_compileTwo_58 ⟨Nat.zero_le _, Nat.zero_le _⟩ (fun C2 H locs hC2 hP hD hS => ?_)
    refine lv_iload_n hx hb dX0_compileTwo_61 rfl (lv_at hl 2 rfl) ?_
    refine lv_iconst (v := 5) hx hb dX0_compileTwo_62 (by decide) ?_
    refine lv_icmp_eq (tgt := 75) hx hb dX0_compileTwo_63 (by decide) (fun c_63 => ?_) (fun c_63 => ?_)
    · exact zz_vret hx hb hr hlocks hK hQ hS (_) hP hD dX0_compileTwo_75 (by rw [hC2, hC1, hr1, hr2]; simp only [cTwo, cTwoA, if_pos c_38, if_pos c_63])
    · refine lv_aload_n hx hb dX0_compileTwo_66 rfl (lv_at hl 3 rfl) ?_
      refine lv_bipush (v := 12) hx hb dX0_compileTwo_67 (by decide) ?_
      refine lv_bipush (v := 40) hx hb dX0_compileTwo_69 (by decide) ?_
      refine lv_iconst (v := 0) hx hb dX0_compileTwo_71 (by decide) ?_
      refine zz_callv ⟨hx, hb, hml, hown, hts⟩ hK hP hD hS hA rfl rfl (metX0_write l _ 12 40 0 (by have := cLd_len C r1; rw [← hC1] at this; have := cWr_len C1; rw [hC2]; simp only [cWr_len]; omega)) (cw_X0_write hts ⟨Nat.le_of_ble_eq_true rfl, Nat.le_of_ble_eq_true rfl⟩) rfl hl.1 rfl (Nat.le_of_ble_eq_true rfl) dX0_compileTwo_72 ⟨Nat.zero_le _, Nat.zero_le _⟩ (fun C3 H locs hC3 hP hD hS => ?_)
      exact zz_vret hx hb hr hlocks hK hQ hS (_) hP hD dX0_compileTwo_75 (by rw [hC3, hC2, hC1, hr1, hr2]; simp only [cTwo, cTwoA, if_pos c_38, if_neg c_63])
abbrev rmX0_compileOne : Room := { frames := 2, cells := 0, slots := 0, locals := 44 }
theorem cw_X0_compileOne {R : Room} {s : State} {args : Array Value} (hts : ∀ w ∈ lw_all, w.before args s = true) (hR : rmX0_compileOne.frames + 1 ≤ R.frames ∧ 8 + (4 + 11) + rmX0_compileOne.locals ≤ R.locals) : CallW R s args RX0 RX0 135 yX0_compileOne cX0_compileOne 4 none (ws_ yX0_compileOne cX0_compileOne 4 none) rmX0_compileOne 0 0 1 := cwV 1 hts (lw_V q163 q165 qs12 q25 q166) rfl rfl rfl (by decide +kernel) hR
set_option maxHeartbeats 4000000 in
/-- compileOne(i) -/
theorem metX0_compileOne (l : Launch) {D : va_G} {h : Nat} {ad : Nat → Nat} {cd : Nat → ClassId} {G : XG} {F : Bool × Bool} {O : XO} {C : XC} {M : XM} {k : Nat} (sz : Nat) (i : Nat) (hi : i < 20) (hce : C.1 + 3 ≤ 300) : MetV l yX0_compileOne cX0_compileOne 4 rmX0_compileOne D vwCl (tX cd) (wX h ad cd G F O C M k) sz [.ref h, .int (nI i)] (fun C' => C' = cOne G i C) (fun C' => wX h ad cd G F O C' M k) := by
  refine zz_startV (own := RX0) (by decide) rfl (Nat.le_of_ble_eq_true rfl) ?_
  intro p e s m below meth c Q A ls args hx hb hr hml hown hts hlocks hA hK hP hD hS hl hQ
  have hl : lv_has ls 4 [(0, .ref h), (1, .int (nI i))] := hl
  refine lv_aload_n hx hb dX0_compileOne_0 rfl (lv_at hl 0 rfl) ?_
  refine xg_1 hx hb hts hown hK hP dX0_compileOne_1 ?_
  refine lv_iload_n hx hb dX0_compileOne_4 rfl (lv_at hl 1 rfl) ?_
  refine xl_1 hx hb hK hP i hi rfl dX0_compileOne_5 ?_
  refine lv_istore_n (lv' := [(2, .int _), (0, .ref _), (1, .int _)]) hx hb dX0_compileOne_6 rfl hl (by decide) rfl (fun ls hl => ?_)
  refine lv_aload_n hx hb dX0_compileOne_7 rfl (lv_at hl 1 rfl) ?_
  refine lv_aload_n hx hb dX0_compileOne_8 rfl (lv_at hl 1 rfl) ?_
  refine xg_2 hx hb hts hown hK hP dX0_compileOne_9 ?_
  refine lv_iload_n hx hb dX0_compileOne_12 rfl (lv_at hl 2 rfl) ?_
  refine xl_2 hx hb hK hP i hi rfl dX0_compileOne_13 ?_
  refine zz_calli ⟨hx, hb, hml, hown, hts⟩ hK hP hD hS hA rfl rfl (metX0_cellFor l _ (G.2.2.1 i)) (cw_X0_cellFor hts ⟨Nat.le_of_ble_eq_true rfl, Nat.le_of_ble_eq_true rfl⟩) rfl hl.1 rfl (Nat.le_of_ble_eq_true rfl) dX0_compileOne_14 ⟨Nat.zero_le _, Nat.zero_le _⟩ (fun r1 _ H locs hr1 hP hD hS => ?_)
  refine lv_istore_n (lv' := [(3, .int _), (2, .int _), (0, .ref _), (1, .int _)]) hx hb dX0_compileOne_17 rfl hl (by decide) rfl (fun ls hl => ?_)
  refine lv_aload_n hx hb dX0_compileOne_18 rfl (lv_at hl 2 rfl) ?_
  refine lv_iload_n hx hb dX0_compileOne_19 rfl (lv_at hl 0 rfl) ?_
  refine zz_callv ⟨hx, hb, hml, hown, hts⟩ hK hP hD hS hA rfl rfl (metX0_load l _ r1 (by omega)) (cw_X0_load hts ⟨Nat.le_of_ble_eq_true rfl, Nat.le_of_ble_eq_true rfl⟩) rfl hl.1 rfl (Nat.le_of_ble_eq_true rfl) dX0_compileOne_20 ⟨Nat.zero_le _, Nat.zero_le _⟩ (fun C1 H locs hC1 hP hD hS => ?_)
  refine lv_iload_n hx hb dX0_compileOne_23 rfl (lv_at hl 1 rfl) ?_
  refine lv_bipush (v := 6) hx hb dX0_compileOne_24 (by decide) ?_
  refine lv_icmp_ne (tgt := 41) hx hb dX0_compileOne_26 (by decide) (fun c_26 => ?_) (fun c_26 => ?_)
  · refine lv_iload_n hx hb dX0_compileOne_41 rfl (lv_at hl 1 rfl) ?_
    refine lv_bipush (v := 7) hx hb dX0_compileOne_42 (by decide) ?_
    refine lv_icmp_ne (tgt := 59) hx hb dX0_compileOne_44 (by decide) (fun c_44 => ?_) (fun c_44 => ?_)
    · refine lv_aload_n hx hb dX0_compileOne_59 rfl (lv_at hl 2 rfl) ?_
      refine lv_iload_n hx hb dX0_compileOne_60 rfl (lv_at hl 1 rfl) ?_
      refine lv_bipush (v := 8) hx hb dX0_compileOne_61 (by decide) ?_
      refine lv_icmp_ne (tgt := 71) hx hb dX0_compileOne_63 (by decide) (fun c_63 => ?_) (fun c_63 => ?_)
      · refine lv_bipush (v := 9) hx hb dX0_compileOne_71 (by decide) ?_
        refine lv_bipush (v := 40) hx hb dX0_compileOne_73 (by decide) ?_
        refine lv_aload_n hx hb dX0_compileOne_75 rfl (lv_at hl 2 rfl) ?_
        refine xg_3 hx hb hts hown hK hP dX0_compileOne_76 ?_
        refine lv_iload_n hx hb dX0_compileOne_79 rfl (lv_at hl 3 rfl) ?_
        refine xl_3 hx hb hK hP i hi rfl dX0_compileOne_80 ?_
        refine zz_callv ⟨hx, hb, hml, hown, hts⟩ hK hP hD hS hA rfl rfl (metX0_write l _ _ 40 _ (by have := cLd_len C r1; rw [← hC1] at this; omega)) (cw_X0_write hts ⟨Nat.le_of_ble_eq_true rfl, Nat.le_of_ble_eq_true rfl⟩) rfl hl.1 rfl (Nat.le_of_ble_eq_true rfl) dX0_compileOne_81 ⟨Nat.zero_le _, Nat.zero_le _⟩ (fun C2 H locs hC2 hP hD hS => ?_)
        refine lv_iload_n hx hb dX0_compileOne_84 rfl (lv_at hl 1 rfl) ?_
        refine lv_bipush (v := 9) hx hb dX0_compileOne_85 (by decide) ?_
        refine lv_icmp_eq (tgt := 99) hx hb dX0_compileOne_87 (by decide) (fun c_87 => ?_) (fun c_87 => ?_)
        · exact zz_vret hx hb hr hlocks hK hQ hS (_) hP hD dX0_compileOne_99 (by rw [hC2, hC1, hr1]; simp only [cOne, cOneA, if_neg c_26, if_neg c_44, if_neg c_63, if_pos c_87])
        · refine lv_aload_n hx hb dX0_compileOne_90 rfl (lv_at hl 2 rfl) ?_
          refine lv_bipush (v := 12) hx hb dX0_compileOne_91 (by decide) ?_
          refine lv_bipush (v := 40) hx hb dX0_compileOne_93 (by decide) ?_
          refine lv_iconst (v := 0) hx hb dX0_compileOne_95 (by decide) ?_
          refine zz_callv ⟨hx, hb, hml, hown, hts⟩ hK hP hD hS hA rfl rfl (metX0_write l _ 12 40 0 (by have := cLd_len C r1; rw [← hC1] at this; rw [hC2]; simp only [cWr_len]; omega)) (cw_X0_write hts ⟨Nat.le_of_ble_eq_true rfl, Nat.le_of_ble_eq_true rfl⟩) rfl hl.1 rfl (Nat.le_of_ble_eq_true rfl) dX0_compileOne_96 ⟨Nat.zero_le _, Nat.zero_le _⟩ (fun C3 H locs hC3 hP hD hS => ?_)
          exact zz_vret hx hb hr hlocks hK hQ hS (_) hP hD dX0_compileOne_99 (by rw [hC3, hC2, hC1, hr1]; simp only [cOne, cOneA, if_neg c_26, if_neg c_44, if_neg c_63, if_neg c_87])
      · refine lv_bipush (v := 8) hx hb dX0_compileOne_66 (by decide) ?_
        refine lv_goto (tgt := 73) hx hb dX0_compileOne_68 (by decide) ?_
        refine lv_bipush (v := 40) hx hb dX0_compileOne_73 (by decide) ?_
        refine lv_aload_n hx hb dX0_compileOne_75 rfl (lv_at hl 2 rfl) ?_
        refine xg_3 hx hb hts hown hK hP dX0_compileOne_76 ?_
        refine lv_iload_n hx hb dX0_compileOne_79 rfl (lv_at hl 3 rfl) ?_
        refine xl_3 hx hb hK hP i hi rfl dX0_compileOne_80 ?_
        refine zz_callv ⟨hx, hb, hml, hown, hts⟩ hK hP hD hS hA rfl rfl (metX0_write l _ _ 40 _ (by have := cLd_len C r1; rw [← hC1] at this; omega)) (cw_X0_write hts ⟨Nat.le_of_ble_eq_true rfl, Nat.le_of_ble_eq_true rfl⟩) rfl hl.1 rfl (Nat.le_of_ble_eq_true rfl) dX0_compileOne_81 ⟨Nat.zero_le _, Nat.zero_le _⟩ (fun C2 H locs hC2 hP hD hS => ?_)
        refine lv_iload_n hx hb dX0_compileOne_84 rfl (lv_at hl 1 rfl) ?_
        refine lv_bipush (v := 9) hx hb dX0_compileOne_85 (by decide) ?_
        refine lv_icmp_eq (tgt := 99) hx hb dX0_compileOne_87 (by decide) (fun c_87 => ?_) (fun c_87 => ?_)
        · exact zz_vret hx hb hr hlocks hK hQ hS (_) hP hD dX0_compileOne_99 (by rw [hC2, hC1, hr1]; simp only [cOne, cOneA, if_neg c_26, if_neg c_44, if_pos c_63, if_pos c_87])
        · refine lv_aload_n hx hb dX0_compileOne_90 rfl (lv_at hl 2 rfl) ?_
          refine lv_bipush (v := 12) hx hb dX0_compileOne_91 (by decide) ?_
          refine lv_bipush (v := 40) hx hb dX0_compileOne_93 (by decide) ?_
          refine lv_iconst (v := 0) hx hb dX0_compileOne_95 (by decide) ?_
          refine zz_callv ⟨hx, hb, hml, hown, hts⟩ hK hP hD hS hA rfl rfl (metX0_write l _ 12 40 0 (by have := cLd_len C r1; rw [← hC1] at this; rw [hC2]; simp only [cWr_len]; omega)) (cw_X0_write hts ⟨Nat.le_of_ble_eq_true rfl, Nat.le_of_ble_eq_true rfl⟩) rfl hl.1 rfl (Nat.le_of_ble_eq_true rfl) dX0_compileOne_96 ⟨Nat.zero_le _, Nat.zero_le _⟩ (fun C3 H locs hC3 hP hD hS => ?_)
          exact zz_vret hx hb hr hlocks hK hQ hS (_) hP hD dX0_compileOne_99 (by rw [hC3, hC2, hC1, hr1]; simp only [cOne, cOneA, if_neg c_26, if_neg c_44, if_pos c_63, if_neg c_87])
    · refine lv_aload_n hx hb dX0_compileOne_47 rfl (lv_at hl 2 rfl) ?_
      refine lv_bipush (v := 7) hx hb dX0_compileOne_48 (by decide) ?_
      refine lv_bipush (v := 40) hx hb dX0_compileOne_50 (by decide) ?_
      refine lv_iconst (v := 0) hx hb dX0_compileOne_52 (by decide) ?_
      refine zz_callv ⟨hx, hb, hml, hown, hts⟩ hK hP hD hS hA rfl rfl (metX0_write l _ _ 40 0 (by have := cLd_len C r1; rw [← hC1] at this; omega)) (cw_X0_write hts ⟨Nat.le_of_ble_eq_true rfl, Nat.le_of_ble_eq_true rfl⟩) rfl hl.1 rfl (Nat.le_of_ble_eq_true rfl) dX0_compileOne_53 ⟨Nat.zero_le _, Nat.zero_le _⟩ (fun C2 H locs hC2 hP hD hS => ?_)
      refine lv_goto (tgt := 84) hx hb dX0_compileOne_56 (by decide) ?_
      refine lv_iload_n hx hb dX0_compileOne_84 rfl (lv_at hl 1 rfl) ?_
      refine lv_bipush (v := 9) hx hb dX0_compileOne_85 (by decide) ?_
      refine lv_icmp_eq (tgt := 99) hx hb dX0_compileOne_87 (by decide) (fun c_87 => ?_) (fun c_87 => ?_)
      · exact zz_vret hx hb hr hlocks hK hQ hS (_) hP hD dX0_compileOne_99 (by rw [hC2, hC1, hr1]; simp only [cOne, cOneA, if_neg c_26, if_pos c_44, if_pos c_87])
      · refine lv_aload_n hx hb dX0_compileOne_90 rfl (lv_at hl 2 rfl) ?_
        refine lv_bipush (v := 12) hx hb dX0_compileOne_91 (by decide) ?_
        refine lv_bipush (v := 40) hx hb dX0_compileOne_93 (by decide) ?_
        refine lv_iconst (v := 0) hx hb dX0_compileOne_95 (by decide) ?_
        refine zz_callv ⟨hx, hb, hml, hown, hts⟩ hK hP hD hS hA rfl rfl (metX0_write l _ 12 40 0 (by have := cLd_len C r1; rw [← hC1] at this; rw [hC2]; simp only [cWr_len]; omega)) (cw_X0_write hts ⟨Nat.le_of_ble_eq_true rfl, Nat.le_of_ble_eq_true rfl⟩) rfl hl.1 rfl (Nat.le_of_ble_eq_true rfl) dX0_compileOne_96 ⟨Nat.zero_le _, Nat.zero_le _⟩ (fun C3 H locs hC3 hP hD hS => ?_)
        exact zz_vret hx hb hr hlocks hK hQ hS (_) hP hD dX0_compileOne_99 (by rw [hC3, hC2, hC1, hr1]; simp only [cOne, cOneA, if_neg c_26, if_pos c_44, if_neg c_87])
  · refine lv_aload_n hx hb dX0_compileOne_29 rfl (lv_at hl 2 rfl) ?_
    refine lv_bipush (v := 6) hx hb dX0_compileOne_30 (by decide) ?_
    refine lv_bipush (v := 40) hx hb dX0_compileOne_32 (by decide) ?_
    refine lv_iconst (v := 0) hx hb dX0_compileOne_34 (by decide) ?_
    refine zz_callv ⟨hx, hb, hml, hown, hts⟩ hK hP hD hS hA rfl rfl (metX0_write l _ _ 40 0 (by have := cLd_len C r1; rw [← hC1] at this; omega)) (cw_X0_write hts ⟨Nat.le_of_ble_eq_true rfl, Nat.le_of_ble_eq_true rfl⟩) rfl hl.1 rfl (Nat.le_of_ble_eq_true rfl) dX0_compileOne_35 ⟨Nat.zero_le _, Nat.zero_le _⟩ (fun C2 H locs hC2 hP hD hS => ?_)
    refine lv_goto (tgt := 84) hx hb dX0_compileOne_38 (by decide) ?_
    refine lv_iload_n hx hb dX0_compileOne_84 rfl (lv_at hl 1 rfl) ?_
    refine lv_bipush (v := 9) hx hb dX0_compileOne_85 (by decide) ?_
    refine lv_icmp_eq (tgt := 99) hx hb dX0_compileOne_87 (by decide) (fun c_87 => ?_) (fun c_87 => ?_)
    · exact zz_vret hx hb hr hlocks hK hQ hS (_) hP hD dX0_compileOne_99 (by rw [hC2, hC1, hr1]; simp only [cOne, cOneA, if_pos c_26, if_pos c_87])
    · refine lv_aload_n hx hb dX0_compileOne_90 rfl (lv_at hl 2 rfl) ?_
      refine lv_bipush (v := 12) hx hb dX0_compileOne_91 (by decide) ?_
      refine lv_bipush (v := 40) hx hb dX0_compileOne_93 (by decide) ?_
      refine lv_iconst (v := 0) hx hb dX0_compileOne_95 (by decide) ?_
      refine zz_callv ⟨hx, hb, hml, hown, hts⟩ hK hP hD hS hA rfl rfl (metX0_write l _ 12 40 0 (by have := cLd_len C r1; rw [← hC1] at this; rw [hC2]; simp only [cWr_len]; omega)) (cw_X0_write hts ⟨Nat.le_of_ble_eq_true rfl, Nat.le_of_ble_eq_true rfl⟩) rfl hl.1 rfl (Nat.le_of_ble_eq_true rfl) dX0_compileOne_96 ⟨Nat.zero_le _, Nat.zero_le _⟩ (fun C3 H locs hC3 hP hD hS => ?_)
      exact zz_vret hx hb hr hlocks hK hQ hS (_) hP hD dX0_compileOne_99 (by rw [hC3, hC2, hC1, hr1]; simp only [cOne, cOneA, if_pos c_26, if_neg c_87])
abbrev rmX0_restart : Room := { frames := 0, cells := 0, slots := 0, locals := 0 }
theorem cw_X0_restart {R : Room} {s : State} {args : Array Value} (hts : ∀ w ∈ lw_all, w.before args s = true) (hR : rmX0_restart.frames + 1 ≤ R.frames ∧ 8 + (2 + 11) + rmX0_restart.locals ≤ R.locals) : CallW R s args RX0 RX0 59 yX0_restart cX0_restart 2 none (ws_ yX0_restart cX0_restart 2 none) rmX0_restart 0 0 0 := cwV 0 hts (lw_V q103 q104 q105 q25 q106) rfl rfl rfl (by decide +kernel) hR
set_option maxHeartbeats 4000000 in
/-- restart(): all cells 0, no samples -/
theorem metX0_restart (l : Launch) {D : va_G} {h : Nat} {ad : Nat → Nat} {cd : Nat → ClassId} {G : XG} {F : Bool × Bool} {O : XO} {C : XC} {M : XM} {k : Nat} (sz : Nat) : MetV l yX0_restart cX0_restart 2 rmX0_restart D vwCl (tX cd) (wX h ad cd G F O C M k) sz [.ref h] (fun _ : Unit => True) (fun _ => wX h ad cd G F O C (zf M.1 42, M.2) 0) := by
  refine zz_startV (own := RX0) (by decide) rfl (Nat.le_of_ble_eq_true rfl) ?_
  intro p e s m below meth c Q A ls args hx hb hr hml hown hts hlocks hA hK hP hD hS hl hQ
  have hl : lv_has ls 2 [(0, .ref h)] := hl
  have loop : ∀ (d i : Nat), i + d = 42 → ∀ (H : Heap) (locs : List Loc) (ls : Array Slot), va_P D vwCl (wX h ad cd G F O C (zf M.1 i, M.2) k) H → va_D A (wX h ad cd G F O C (zf M.1 i, M.2) k) → va_S A s.heap H locs → lv_has ls 2 [(1, .int (nI i)), (0, .ref h)] → W p l e rmX0_restart s m args below meth c H locs 0 0 Q (F0 m 2 ls []) := by
    intro d
    induction d with
    | zero =>
      intro i hi H locs ls hP hD hS hl
      obtain rfl : i = 42 := by omega
      refine lv_iload_n hx hb dX0_restart_2 rfl (lv_at hl 0 rfl) ?_
      refine lv_bipush (v := 42) hx hb dX0_restart_3 (by decide) ?_
      refine lv_icmp_ge (tgt := 21) hx hb dX0_restart_5 (by decide) (fun c_5 => ?_) (fun c_5 => absurd (by decide) c_5)
      refine lv_aload_n hx hb dX0_restart_21 rfl (lv_at hl 1 rfl) ?_
      refine lv_iconst (v := 0) hx hb dX0_restart_22 (by decide) ?_
      refine xp_18 hx hb hts hown hK hP hD hS 0 rfl dX0_restart_23 (fun H locs hP hD hS => ?_)
      exact zz_vret hx hb hr hlocks hK hQ hS (()) hP hD dX0_restart_26 (trivial)
    | succ d ih =>
      intro i hi H locs ls hP hD hS hl
      refine lv_iload_n hx hb dX0_restart_2 rfl (lv_at hl 0 rfl) ?_
      refine lv_bipush (v := 42) hx hb dX0_restart_3 (by decide) ?_
      refine lv_icmp_ge (tgt := 21) hx hb dX0_restart_5 (by decide) (fun c_5 => absurd c_5 (nI_ge (show i < 42 by omega) (by decide))) (fun c_5 => ?_)
      refine lv_aload_n hx hb dX0_restart_8 rfl (lv_at hl 1 rfl) ?_
      refine xg_16 hx hb hts hown hK hP dX0_restart_9 ?_
      refine lv_iload_n hx hb dX0_restart_12 rfl (lv_at hl 0 rfl) ?_
      refine lv_iconst (v := 0) hx hb dX0_restart_13 (by decide) ?_
      refine xs_16 hx hb hK hP hD hS i (by omega) rfl dX0_restart_14 (fun H locs hP hD hS => ?_)
      refine lv_iinc (v := nI (i + 1)) (lv' := [(1, .int _), (0, .ref _)]) hx hb dX0_restart_15 hl (k := 0) rfl (nI_1 i) (by decide) rfl (fun ls hl => ?_)
      refine lv_goto (tgt := 2) hx hb dX0_restart_18 (by decide) ?_
      exact ih (i + 1) (by omega) H locs ls (by rw [← zf_s]; exact hP) (by rw [← zf_s]; exact hD) hS hl
  refine lv_iconst (v := 0) hx hb dX0_restart_0 (by decide) ?_
  refine lv_istore_n (lv' := [(1, .int _), (0, .ref _)]) hx hb dX0_restart_1 rfl hl (by decide) rfl (fun ls hl => ?_)
  exact loop 42 0 rfl s.heap [] ls (by rw [zf_0]; exact hP) (by rw [zf_0]; exact hD) hS hl
abbrev rmX0_clear : Room := { frames := 1, cells := 0, slots := 0, locals := 21 }
set_option maxHeartbeats 4000000 in
/-- clear() -/
theorem metX0_clear (l : Launch) {D : va_G} {h : Nat} {ad : Nat → Nat} {cd : Nat → ClassId} {G : XG} {F : Bool × Bool} {O : XO} {C : XC} {M : XM} {k : Nat} (sz : Nat) : MetI l yX0_clear cX0_clear 2 .int rmX0_clear D vwCl (tX cd) (wX h ad cd G F O C M k) sz [.ref h] (fun r (_ : Unit) => r = nI G.1) (fun _ => wX h ad cd (0, G.2) (false, F.2) O C (zf M.1 42, M.2) 0) := by
  refine zz_startI (own := RX0) (by decide) rfl (Nat.le_of_ble_eq_true rfl) ?_
  intro p e s m below meth c Q A ls args hx hb hr hml hown hts hlocks hA hK hP hD hS hl hQ
  have hl : lv_has ls 2 [(0, .ref h)] := hl
  refine lv_aload_n hx hb dX0_clear_0 rfl (lv_at hl 0 rfl) ?_
  refine xg_0 hx hb hts hown hK hP dX0_clear_1 ?_
  refine lv_istore_n (lv' := [(1, .int _), (0, .ref _)]) hx hb dX0_clear_4 rfl hl (by decide) rfl (fun ls hl => ?_)
  refine lv_aload_n hx hb dX0_clear_5 rfl (lv_at hl 1 rfl) ?_
  refine lv_iconst (v := 0) hx hb dX0_clear_6 (by decide) ?_
  refine xp_0 hx hb hts hown hK hP hD hS 0 rfl dX0_clear_7 (fun H locs hP hD hS => ?_)
  refine lv_aload_n hx hb dX0_clear_10 rfl (lv_at hl 1 rfl) ?_
  refine lv_iconst (v := 0) hx hb dX0_clear_11 (by decide) ?_
  refine xp_7 hx hb hts hown hK hP hD hS false rfl dX0_clear_12 (fun H locs hP hD hS => ?_)
  refine lv_aload_n hx hb dX0_clear_15 rfl (lv_at hl 1 rfl) ?_
  refine zz_callv ⟨hx, hb, hml, hown, hts⟩ hK hP hD hS hA rfl rfl (metX0_restart l _) (cw_X0_restart hts ⟨Nat.le_of_ble_eq_true rfl, Nat.le_of_ble_eq_true rfl⟩) rfl hl.1 rfl (Nat.le_of_ble_eq_true rfl) dX0_clear_16 ⟨Nat.zero_le _, Nat.zero_le _⟩ (fun _ H locs _ hP hD hS => ?_)
  refine lv_iload_n hx hb dX0_clear_19 rfl (lv_at hl 0 rfl) ?_
  exact zz_iret hx hb hr hlocks hK hQ hS (()) hP hD dX0_clear_20 (rfl)
abbrev rmX0_performSpecial : Room := { frames := 0, cells := 0, slots := 0, locals := 0 }
theorem cw_X0_performSpecial {R : Room} {s : State} {args : Array Value} (hts : ∀ w ∈ lw_all, w.before args s = true) (hR : rmX0_performSpecial.frames + 1 ≤ R.frames ∧ 8 + (4 + 11) + rmX0_performSpecial.locals ≤ R.locals) : CallW R s args RX0 RX0 93 yX0_performSpecial cX0_performSpecial 4 none (ws_ yX0_performSpecial cX0_performSpecial 4 none) rmX0_performSpecial 0 0 3 := cwV 3 hts (lw_V q181 q183 qs15 q25 q184) rfl rfl rfl (by decide +kernel) hR
set_option maxHeartbeats 4000000 in
/-- performSpecial(o, x, v) -/
theorem metX0_performSpecial (l : Launch) {D : va_G} {h : Nat} {ad : Nat → Nat} {cd : Nat → ClassId} {G : XG} {F : Bool × Bool} {O : XO} {C : XC} {M : XM} {k : Nat} (sz : Nat) (o x v : Int32) : MetV l yX0_performSpecial cX0_performSpecial 4 rmX0_performSpecial D vwCl (tX cd) (wX h ad cd G F O C M k) sz [.ref h, .int o, .int x, .int v] (fun M' => M' = (M.1, spc o x v M.2)) (fun M' => wX h ad cd G F O C M' k) := by
  refine zz_startV (own := RX0) (by decide) rfl (Nat.le_of_ble_eq_true rfl) ?_
  intro p e s m below meth c Q A ls args hx hb hr hml hown hts hlocks hA hK hP hD hS hl hQ
  have hl : lv_has ls 4 [(0, .ref h), (1, .int o), (2, .int x), (3, .int v)] := hl
  refine lv_iload_n hx hb dX0_performSpecial_0 rfl (lv_at hl 1 rfl) ?_
  refine lv_iconst (v := 5) hx hb dX0_performSpecial_1 (by decide) ?_
  refine lv_icmp_ne (tgt := 31) hx hb dX0_performSpecial_2 (by decide) (fun c_2 => ?_) (fun c_2 => ?_)
  · refine lv_iload_n hx hb dX0_performSpecial_31 rfl (lv_at hl 1 rfl) ?_
    refine lv_bipush (v := 6) hx hb dX0_performSpecial_32 (by decide) ?_
    refine lv_icmp_ne (tgt := 49) hx hb dX0_performSpecial_34 (by decide) (fun c_34 => ?_) (fun c_34 => ?_)
    · refine lv_iload_n hx hb dX0_performSpecial_49 rfl (lv_at hl 1 rfl) ?_
      refine lv_bipush (v := 7) hx hb dX0_performSpecial_50 (by decide) ?_
      refine lv_icmp_ne (tgt := 83) hx hb dX0_performSpecial_52 (by decide) (fun c_52 => ?_) (fun c_52 => ?_)
      · refine lv_iload_n hx hb dX0_performSpecial_83 rfl (lv_at hl 1 rfl) ?_
        refine lv_bipush (v := 8) hx hb dX0_performSpecial_84 (by decide) ?_
        refine lv_icmp_ne (tgt := 102) hx hb dX0_performSpecial_86 (by decide) (fun c_86 => ?_) (fun c_86 => ?_)
        · refine lv_iload_n hx hb dX0_performSpecial_102 rfl (lv_at hl 1 rfl) ?_
          refine lv_bipush (v := 9) hx hb dX0_performSpecial_103 (by decide) ?_
          refine lv_icmp_ne (tgt := 121) hx hb dX0_performSpecial_105 (by decide) (fun c_105 => ?_) (fun c_105 => ?_)
          · refine lv_aload_n hx hb dX0_performSpecial_121 rfl (lv_at hl 0 rfl) ?_
            refine lv_aload_n hx hb dX0_performSpecial_122 rfl (lv_at hl 0 rfl) ?_
            refine xg_17 hx hb hts hown hK hP dX0_performSpecial_123 ?_
            refine lv_ldc2 hx hb hown (hts _ q185) dX0_performSpecial_126 ?_
            refine lv_ladd hx hb dX0_performSpecial_129 ?_
            refine lv_bipush (v := 15) hx hb dX0_performSpecial_130 (by decide) ?_
            refine lv_lshr hx hb dX0_performSpecial_132 rfl ?_
            refine xp_17 hx hb hts hown hK hP hD hS dX0_performSpecial_133 (fun H locs hP hD hS => ?_)
            exact zz_vret hx hb hr hlocks hK hQ hS (_) hP hD dX0_performSpecial_136 (by simp only [spc, if_neg c_2, if_neg c_34, if_neg c_52, if_neg c_86, if_neg c_105])
          · refine lv_aload_n hx hb dX0_performSpecial_108 rfl (lv_at hl 0 rfl) ?_
            refine lv_dup hx hb dX0_performSpecial_109 rfl ?_
            refine xg_17 hx hb hts hown hK hP dX0_performSpecial_110 ?_
            refine lv_iload_n hx hb dX0_performSpecial_113 rfl (lv_at hl 3 rfl) ?_
            refine lv_lshr hx hb dX0_performSpecial_114 rfl ?_
            refine xp_17 hx hb hts hown hK hP hD hS dX0_performSpecial_115 (fun H locs hP hD hS => ?_)
            refine lv_goto (tgt := 136) hx hb dX0_performSpecial_118 (by decide) ?_
            exact zz_vret hx hb hr hlocks hK hQ hS (_) hP hD dX0_performSpecial_136 (by simp only [spc, if_neg c_2, if_neg c_34, if_neg c_52, if_neg c_86, if_pos c_105])
        · refine lv_aload_n hx hb dX0_performSpecial_89 rfl (lv_at hl 0 rfl) ?_
          refine lv_dup hx hb dX0_performSpecial_90 rfl ?_
          refine xg_17 hx hb hts hown hK hP dX0_performSpecial_91 ?_
          refine lv_iload_n hx hb dX0_performSpecial_94 rfl (lv_at hl 3 rfl) ?_
          refine lv_lshl hx hb dX0_performSpecial_95 rfl ?_
          refine xp_17 hx hb hts hown hK hP hD hS dX0_performSpecial_96 (fun H locs hP hD hS => ?_)
          refine lv_goto (tgt := 136) hx hb dX0_performSpecial_99 (by decide) ?_
          exact zz_vret hx hb hr hlocks hK hQ hS (_) hP hD dX0_performSpecial_136 (by simp only [spc, if_neg c_2, if_neg c_34, if_neg c_52, if_pos c_86])
      · refine lv_aload_n hx hb dX0_performSpecial_55 rfl (lv_at hl 0 rfl) ?_
        refine lv_aload_n hx hb dX0_performSpecial_56 rfl (lv_at hl 0 rfl) ?_
        refine xg_17 hx hb hts hown hK hP dX0_performSpecial_57 ?_
        refine lv_lconst (v := 0) hx hb dX0_performSpecial_60 (by decide) ?_
        refine W.lcmp hx hb dX0_performSpecial_61 ?_
        refine lv_if_ge (tgt := 73) hx hb dX0_performSpecial_62 (by decide) (fun c_62 => ?_) (fun c_62 => ?_)
        · refine lv_aload_n hx hb dX0_performSpecial_73 rfl (lv_at hl 0 rfl) ?_
          refine xg_17 hx hb hts hown hK hP dX0_performSpecial_74 ?_
          refine xp_17 hx hb hts hown hK hP hD hS dX0_performSpecial_77 (fun H locs hP hD hS => ?_)
          refine lv_goto (tgt := 136) hx hb dX0_performSpecial_80 (by decide) ?_
          exact zz_vret hx hb hr hlocks hK hQ hS (_) hP hD dX0_performSpecial_136 (by simp only [spc, if_neg c_2, if_neg c_34, if_pos c_52, if_pos c_62])
        · refine lv_aload_n hx hb dX0_performSpecial_65 rfl (lv_at hl 0 rfl) ?_
          refine xg_17 hx hb hts hown hK hP dX0_performSpecial_66 ?_
          refine lv_lneg hx hb dX0_performSpecial_69 ?_
          refine lv_goto (tgt := 77) hx hb dX0_performSpecial_70 (by decide) ?_
          refine xp_17 hx hb hts hown hK hP hD hS dX0_performSpecial_77 (fun H locs hP hD hS => ?_)
          refine lv_goto (tgt := 136) hx hb dX0_performSpecial_80 (by decide) ?_
          exact zz_vret hx hb hr hlocks hK hQ hS (_) hP hD dX0_performSpecial_136 (by simp only [spc, if_neg c_2, if_neg c_34, if_pos c_52, if_neg c_62])
    · refine lv_aload_n hx hb dX0_performSpecial_37 rfl (lv_at hl 0 rfl) ?_
      refine lv_aload_n hx hb dX0_performSpecial_38 rfl (lv_at hl 0 rfl) ?_
      refine xg_17 hx hb hts hown hK hP dX0_performSpecial_39 ?_
      refine lv_lneg hx hb dX0_performSpecial_42 ?_
      refine xp_17 hx hb hts hown hK hP hD hS dX0_performSpecial_43 (fun H locs hP hD hS => ?_)
      refine lv_goto (tgt := 136) hx hb dX0_performSpecial_46 (by decide) ?_
      exact zz_vret hx hb hr hlocks hK hQ hS (_) hP hD dX0_performSpecial_136 (by simp only [spc, if_neg c_2, if_pos c_34])
  · refine lv_aload_n hx hb dX0_performSpecial_5 rfl (lv_at hl 0 rfl) ?_
    refine lv_iload_n hx hb dX0_performSpecial_6 rfl (lv_at hl 2 rfl) ?_
    refine lv_i2l hx hb dX0_performSpecial_7 rfl ?_
    refine lv_aload_n hx hb dX0_performSpecial_8 rfl (lv_at hl 0 rfl) ?_
    refine xg_17 hx hb hts hown hK hP dX0_performSpecial_9 ?_
    refine W.lcmp hx hb dX0_performSpecial_12 ?_
    refine lv_if_le (tgt := 21) hx hb dX0_performSpecial_13 (by decide) (fun c_13 => ?_) (fun c_13 => ?_)
    · refine lv_aload_n hx hb dX0_performSpecial_21 rfl (lv_at hl 0 rfl) ?_
      refine xg_17 hx hb hts hown hK hP dX0_performSpecial_22 ?_
      refine xp_17 hx hb hts hown hK hP hD hS dX0_performSpecial_25 (fun H locs hP hD hS => ?_)
      refine lv_goto (tgt := 136) hx hb dX0_performSpecial_28 (by decide) ?_
      exact zz_vret hx hb hr hlocks hK hQ hS (_) hP hD dX0_performSpecial_136 (by simp only [spc, if_pos c_2, if_pos c_13])
    · refine lv_iload_n hx hb dX0_performSpecial_16 rfl (lv_at hl 2 rfl) ?_
      refine lv_i2l hx hb dX0_performSpecial_17 rfl ?_
      refine lv_goto (tgt := 25) hx hb dX0_performSpecial_18 (by decide) ?_
      refine xp_17 hx hb hts hown hK hP hD hS dX0_performSpecial_25 (fun H locs hP hD hS => ?_)
      refine lv_goto (tgt := 136) hx hb dX0_performSpecial_28 (by decide) ?_
      exact zz_vret hx hb hr hlocks hK hQ hS (_) hP hD dX0_performSpecial_136 (by simp only [spc, if_pos c_2, if_neg c_13])
abbrev rmX0_perform : Room := { frames := 1, cells := 0, slots := 0, locals := 23 }
theorem cw_X0_perform {R : Room} {s : State} {args : Array Value} (hts : ∀ w ∈ lw_all, w.before args s = true) (hR : rmX0_perform.frames + 1 ≤ R.frames ∧ 8 + (5 + 11) + rmX0_perform.locals ≤ R.locals) : CallW R s args RX0 RX0 75 yX0_perform cX0_perform 5 none (ws_ yX0_perform cX0_perform 5 none) rmX0_perform 0 0 1 := cwV 1 hts (lw_V q177 q179 qs14 q25 q180) rfl rfl rfl (by decide +kernel) hR
set_option maxHeartbeats 4000000 in
/-- perform(j) -/
theorem metX0_perform (l : Launch) {D : va_G} {h : Nat} {ad : Nat → Nat} {cd : Nat → ClassId} {G : XG} {F : Bool × Bool} {O : XO} {C : XC} {M : XM} {k : Nat} (sz : Nat) (j ix : Nat) (hj : j < 300) (hix : ix < 42) (hcf : C.2.2.2.1 j = nI ix) : MetV l yX0_perform cX0_perform 5 rmX0_perform D vwCl (tX cd) (wX h ad cd G F O C M k) sz [.ref h, .int (nI j)] (fun M' => M' = pfo (C.2.1 j) ix (C.2.2.1 j) M) (fun M' => wX h ad cd G F O C M' k) := by
  refine zz_startV (own := RX0) (by decide) rfl (Nat.le_of_ble_eq_true rfl) ?_
  intro p e s m below meth c Q A ls args hx hb hr hml hown hts hlocks hA hK hP hD hS hl hQ
  have hl : lv_has ls 5 [(0, .ref h), (1, .int (nI j))] := hl
  refine lv_aload_n hx hb dX0_perform_0 rfl (lv_at hl 0 rfl) ?_
  refine xg_12 hx hb hts hown hK hP dX0_perform_1 ?_
  refine lv_iload_n hx hb dX0_perform_4 rfl (lv_at hl 1 rfl) ?_
  refine xl_12 hx hb hK hP j hj rfl dX0_perform_5 ?_
  refine lv_istore_n (lv' := [(2, .int _), (0, .ref _), (1, .int _)]) hx hb dX0_perform_6 rfl hl (by decide) rfl (fun ls hl => ?_)
  refine lv_aload_n hx hb dX0_perform_7 rfl (lv_at hl 1 rfl) ?_
  refine xg_16 hx hb hts hown hK hP dX0_perform_8 ?_
  refine lv_aload_n hx hb dX0_perform_11 rfl (lv_at hl 1 rfl) ?_
  refine xg_14 hx hb hts hown hK hP dX0_perform_12 ?_
  refine lv_iload_n hx hb dX0_perform_15 rfl (lv_at hl 2 rfl) ?_
  refine xl_14 hx hb hK hP j hj rfl dX0_perform_16 ?_
  refine xl_16 hx hb hK hP ix hix hcf dX0_perform_17 ?_
  refine lv_istore_n (lv' := [(3, .int _), (2, .int _), (0, .ref _), (1, .int _)]) hx hb dX0_perform_18 rfl hl (by decide) rfl (fun ls hl => ?_)
  refine lv_aload_n hx hb dX0_perform_19 rfl (lv_at hl 2 rfl) ?_
  refine xg_13 hx hb hts hown hK hP dX0_perform_20 ?_
  refine lv_iload_n hx hb dX0_perform_23 rfl (lv_at hl 3 rfl) ?_
  refine xl_13 hx hb hK hP j hj rfl dX0_perform_24 ?_
  refine lv_istore (lv' := [(4, .int _), (3, .int _), (2, .int _), (0, .ref _), (1, .int _)]) hx hb dX0_perform_25 hl (by decide) rfl (fun ls hl => ?_)
  refine lv_iload_n hx hb dX0_perform_27 rfl (lv_at hl 2 rfl) ?_
  refine lv_if_ne (tgt := 40) hx hb dX0_perform_28 (by decide) (fun c_28 => ?_) (fun c_28 => ?_)
  · refine lv_iload_n hx hb dX0_perform_40 rfl (lv_at hl 2 rfl) ?_
    refine lv_iconst (v := 1) hx hb dX0_perform_41 (by decide) ?_
    refine lv_icmp_ne (tgt := 55) hx hb dX0_perform_42 (by decide) (fun c_42 => ?_) (fun c_42 => ?_)
    · refine lv_iload_n hx hb dX0_perform_55 rfl (lv_at hl 2 rfl) ?_
      refine lv_iconst (v := 2) hx hb dX0_perform_56 (by decide) ?_
      refine lv_icmp_ne (tgt := 79) hx hb dX0_perform_57 (by decide) (fun c_57 => ?_) (fun c_57 => ?_)
      · refine lv_iload_n hx hb dX0_perform_79 rfl (lv_at hl 2 rfl) ?_
        refine lv_iconst (v := 3) hx hb dX0_perform_80 (by decide) ?_
        refine lv_icmp_ne (tgt := 98) hx hb dX0_perform_81 (by decide) (fun c_81 => ?_) (fun c_81 => ?_)
        · refine lv_iload_n hx hb dX0_perform_98 rfl (lv_at hl 2 rfl) ?_
          refine lv_iconst (v := 4) hx hb dX0_perform_99 (by decide) ?_
          refine lv_icmp_ne (tgt := 117) hx hb dX0_perform_100 (by decide) (fun c_100 => ?_) (fun c_100 => ?_)
          · refine lv_iload_n hx hb dX0_perform_117 rfl (lv_at hl 2 rfl) ?_
            refine lv_bipush (v := 10) hx hb dX0_perform_118 (by decide) ?_
            refine lv_icmp_ne (tgt := 141) hx hb dX0_perform_120 (by decide) (fun c_120 => ?_) (fun c_120 => ?_)
            · refine lv_iload_n hx hb dX0_perform_141 rfl (lv_at hl 2 rfl) ?_
              refine lv_bipush (v := 12) hx hb dX0_perform_142 (by decide) ?_
              refine lv_icmp_ne (tgt := 162) hx hb dX0_perform_144 (by decide) (fun c_144 => ?_) (fun c_144 => ?_)
              · refine lv_aload_n hx hb dX0_perform_162 rfl (lv_at hl 3 rfl) ?_
                refine lv_iload_n hx hb dX0_perform_163 rfl (lv_at hl 2 rfl) ?_
                refine lv_iload_n hx hb dX0_perform_164 rfl (lv_at hl 1 rfl) ?_
                refine lv_iload hx hb dX0_perform_165 (lv_at hl 0 rfl) ?_
                refine zz_callv ⟨hx, hb, hml, hown, hts⟩ hK hP hD hS hA rfl rfl (metX0_performSpecial l _ _ _ _) (cw_X0_performSpecial hts ⟨Nat.le_of_ble_eq_true rfl, Nat.le_of_ble_eq_true rfl⟩) rfl hl.1 rfl (Nat.le_of_ble_eq_true rfl) dX0_perform_167 ⟨Nat.zero_le _, Nat.zero_le _⟩ (fun M1 H locs hM1 hP hD hS => ?_)
                exact zz_vret hx hb hr hlocks hK hQ hS (M1) hP hD dX0_perform_170 (by rw [hM1]; simp only [pfo, if_neg c_28, if_neg c_42, if_neg c_57, if_neg c_81, if_neg c_100, if_neg c_120, if_neg c_144])
              · refine lv_aload_n hx hb dX0_perform_147 rfl (lv_at hl 3 rfl) ?_
                refine lv_aload_n hx hb dX0_perform_148 rfl (lv_at hl 3 rfl) ?_
                refine lv_aload_n hx hb dX0_perform_149 rfl (lv_at hl 3 rfl) ?_
                refine xg_17 hx hb hts hown hK hP dX0_perform_150 ?_
                refine zz_calll ⟨hx, hb, hml, hown, hts⟩ hK hP hD hS hA rfl rfl (metX0_saturated l _ _) (cw_X0_saturated hts ⟨Nat.le_of_ble_eq_true rfl, Nat.le_of_ble_eq_true rfl⟩) rfl hl.1 rfl (Nat.le_of_ble_eq_true rfl) dX0_perform_153 ⟨Nat.zero_le _, Nat.zero_le _⟩ (fun r1 _ H locs hr1 hP hD hS => ?_)
                refine xp_17 hx hb hts hown hK hP hD hS dX0_perform_156 (fun H locs hP hD hS => ?_)
                refine lv_goto (tgt := 170) hx hb dX0_perform_159 (by decide) ?_
                exact zz_vret hx hb hr hlocks hK hQ hS (_) hP hD dX0_perform_170 (by rw [hr1]; simp only [pfo, if_neg c_28, if_neg c_42, if_neg c_57, if_neg c_81, if_neg c_100, if_neg c_120, if_pos c_144])
            · refine lv_aload_n hx hb dX0_perform_123 rfl (lv_at hl 3 rfl) ?_
              refine lv_dup hx hb dX0_perform_124 rfl ?_
              refine xg_17 hx hb hts hown hK hP dX0_perform_125 ?_
              refine lv_iload hx hb dX0_perform_128 (lv_at hl 0 rfl) ?_
              refine lv_i2l hx hb dX0_perform_130 rfl ?_
              refine lv_iload_n hx hb dX0_perform_131 rfl (lv_at hl 1 rfl) ?_
              refine lv_i2l hx hb dX0_perform_132 rfl ?_
              refine lv_lmul hx hb dX0_perform_133 ?_
              refine lv_ladd hx hb dX0_perform_134 ?_
              refine xp_17 hx hb hts hown hK hP hD hS dX0_perform_135 (fun H locs hP hD hS => ?_)
              refine lv_goto (tgt := 170) hx hb dX0_perform_138 (by decide) ?_
              exact zz_vret hx hb hr hlocks hK hQ hS (_) hP hD dX0_perform_170 (by simp only [pfo, if_neg c_28, if_neg c_42, if_neg c_57, if_neg c_81, if_neg c_100, if_pos c_120])
          · refine lv_aload_n hx hb dX0_perform_103 rfl (lv_at hl 3 rfl) ?_
            refine lv_dup hx hb dX0_perform_104 rfl ?_
            refine xg_17 hx hb hts hown hK hP dX0_perform_105 ?_
            refine lv_iload_n hx hb dX0_perform_108 rfl (lv_at hl 1 rfl) ?_
            refine lv_i2l hx hb dX0_perform_109 rfl ?_
            refine lv_lsub hx hb dX0_perform_110 ?_
            refine xp_17 hx hb hts hown hK hP hD hS dX0_perform_111 (fun H locs hP hD hS => ?_)
            refine lv_goto (tgt := 170) hx hb dX0_perform_114 (by decide) ?_
            exact zz_vret hx hb hr hlocks hK hQ hS (_) hP hD dX0_perform_170 (by simp only [pfo, if_neg c_28, if_neg c_42, if_neg c_57, if_neg c_81, if_pos c_100])
        · refine lv_aload_n hx hb dX0_perform_84 rfl (lv_at hl 3 rfl) ?_
          refine lv_dup hx hb dX0_perform_85 rfl ?_
          refine xg_17 hx hb hts hown hK hP dX0_perform_86 ?_
          refine lv_iload_n hx hb dX0_perform_89 rfl (lv_at hl 1 rfl) ?_
          refine lv_i2l hx hb dX0_perform_90 rfl ?_
          refine lv_ladd hx hb dX0_perform_91 ?_
          refine xp_17 hx hb hts hown hK hP hD hS dX0_perform_92 (fun H locs hP hD hS => ?_)
          refine lv_goto (tgt := 170) hx hb dX0_perform_95 (by decide) ?_
          exact zz_vret hx hb hr hlocks hK hQ hS (_) hP hD dX0_perform_170 (by simp only [pfo, if_neg c_28, if_neg c_42, if_neg c_57, if_pos c_81])
      · refine lv_aload_n hx hb dX0_perform_60 rfl (lv_at hl 3 rfl) ?_
        refine xg_16 hx hb hts hown hK hP dX0_perform_61 ?_
        refine lv_aload_n hx hb dX0_perform_64 rfl (lv_at hl 3 rfl) ?_
        refine xg_14 hx hb hts hown hK hP dX0_perform_65 ?_
        refine lv_iload_n hx hb dX0_perform_68 rfl (lv_at hl 4 rfl) ?_
        refine xl_14 hx hb hK hP j hj rfl dX0_perform_69 ?_
        refine lv_aload_n hx hb dX0_perform_70 rfl (lv_at hl 3 rfl) ?_
        refine xg_17 hx hb hts hown hK hP dX0_perform_71 ?_
        refine lv_l2i hx hb dX0_perform_74 rfl ?_
        refine xs_16 hx hb hK hP hD hS ix hix hcf dX0_perform_75 (fun H locs hP hD hS => ?_)
        refine lv_goto (tgt := 170) hx hb dX0_perform_76 (by decide) ?_
        exact zz_vret hx hb hr hlocks hK hQ hS (_) hP hD dX0_perform_170 (by simp only [pfo, if_neg c_28, if_neg c_42, if_pos c_57])
    · refine lv_aload_n hx hb dX0_perform_45 rfl (lv_at hl 3 rfl) ?_
      refine lv_iload hx hb dX0_perform_46 (lv_at hl 0 rfl) ?_
      refine lv_i2l hx hb dX0_perform_48 rfl ?_
      refine xp_17 hx hb hts hown hK hP hD hS dX0_perform_49 (fun H locs hP hD hS => ?_)
      refine lv_goto (tgt := 170) hx hb dX0_perform_52 (by decide) ?_
      exact zz_vret hx hb hr hlocks hK hQ hS (_) hP hD dX0_perform_170 (by simp only [pfo, if_neg c_28, if_pos c_42])
  · refine lv_aload_n hx hb dX0_perform_31 rfl (lv_at hl 3 rfl) ?_
    refine lv_iload_n hx hb dX0_perform_32 rfl (lv_at hl 1 rfl) ?_
    refine lv_i2l hx hb dX0_perform_33 rfl ?_
    refine xp_17 hx hb hts hown hK hP hD hS dX0_perform_34 (fun H locs hP hD hS => ?_)
    refine lv_goto (tgt := 170) hx hb dX0_perform_37 (by decide) ?_
    exact zz_vret hx hb hr hlocks hK hQ hS (_) hP hD dX0_perform_170 (by simp only [pfo, if_pos c_28])
end
section
/-! numbers -/
set_option maxRecDepth 100000
theorem i_0 : (0 : Int32).toInt = 0 := by decide
theorem i_1 : (1 : Int32).toInt = 1 := by decide
theorem i_2 : (2 : Int32).toInt = 2 := by decide
theorem i_3 : (3 : Int32).toInt = 3 := by decide
theorem i_4 : (4 : Int32).toInt = 4 := by decide
theorem i_5 : (5 : Int32).toInt = 5 := by decide
theorem i_6 : (6 : Int32).toInt = 6 := by decide
theorem i_7 : (7 : Int32).toInt = 7 := by decide
theorem i_8 : (8 : Int32).toInt = 8 := by decide
theorem i_9 : (9 : Int32).toInt = 9 := by decide
theorem i_10 : (10 : Int32).toInt = 10 := by decide
theorem i_15 : (15 : Int32).toInt = 15 := by decide
theorem i_19 : (19 : Int32).toInt = 19 := by decide
theorem i_20 : (20 : Int32).toInt = 20 := by decide
theorem i_40 : (40 : Int32).toInt = 40 := by decide
theorem i_32767 : (32767 : Int32).toInt = 32767 := by decide
theorem i_m32768 : (-32768 : Int32).toInt = -32768 := by decide
theorem i_lt {x y : Int32} : x < y ↔ x.toInt < y.toInt := Int32.lt_iff_toInt_lt
theorem i_le {x y : Int32} : x ≤ y ↔ x.toInt ≤ y.toInt := Int32.le_iff_toInt_le
theorem i_eq {x y : Int32} : x = y ↔ x.toInt = y.toInt := Int32.toInt_inj.symm
theorem isNo_0 {a : Int32} (h : isNo a = 0) : ¬ (0 ≤ a ∧ a ≤ 19) := by
  intro ⟨h1, h2⟩
  rw [isNo, if_neg (by rw [i_lt]; rw [i_le] at h1; omega), if_neg (by rw [i_lt]; rw [i_le] at h2; omega)] at h
  exact absurd h (by decide)
theorem isNo_1 {a : Int32} (h : ¬ isNo a = 0) : 0 ≤ a ∧ a ≤ 19 := by
  unfold isNo at h
  split at h
  · exact absurd rfl h
  · split at h
    · exact absurd rfl h
    · rename_i h1 h2
      rw [i_lt] at h1 h2
      rw [i_le, i_le]
      omega
theorem isVal_0 {a : Int32} (h : isVal a = 0) : ¬ (-32768 ≤ a ∧ a ≤ 32767) := by
  intro ⟨h1, h2⟩
  rw [isVal, if_neg (by rw [i_lt]; rw [i_le] at h1; omega), if_neg (by rw [i_lt]; rw [i_le] at h2; omega)] at h
  exact absurd h (by decide)
theorem isVal_1 {a : Int32} (h : ¬ isVal a = 0) : -32768 ≤ a ∧ a ≤ 32767 := by
  unfold isVal at h
  split at h
  · exact absurd rfl h
  · split at h
    · exact absurd rfl h
    · rename_i h1 h2
      rw [i_lt] at h1 h2
      rw [i_le, i_le]
      omega
theorem i_nlt {x y : Int32} (h : ¬ x < y) : y ≤ x := by rw [i_lt] at h; rw [i_le]; omega
theorem i_nle {x y : Int32} (h : ¬ x ≤ y) : y < x := by rw [i_le] at h; rw [i_lt]; omega
theorem i_alt {x y : Int32} (h : x < y) : ¬ y ≤ x := by rw [i_lt] at h; rw [i_le]; omega
theorem i_ale {x y : Int32} (h : x ≤ y) : ¬ y < x := by rw [i_le] at h; rw [i_lt]; omega
theorem six (i t : Nat) : (6 : Int32) * nI i + nI t = nI (6 * i + t) := by
  rw [show (6 : Int32) = nI 6 from rfl, pk_mul, nI_add]
theorem b8_nI {n : Nat} (h : n < 128) : (nI n).toInt8.toInt32 = nI n := by
  have : ∀ n : Fin 128, (nI n.1).toInt8.toInt32 = nI n.1 := by decide +kernel
  exact this ⟨n, h⟩
theorem cTap_len (G : XG) (i : Nat) (C : XC) (t : Nat) : (cTap G i C t).1 = C.1 + 1 + t := by
  induction t with
  | zero => rfl
  | succ t ih => show (cTap G i C t).1 + 1 = _; rw [ih]; omega
theorem cTwo_len (G : XG) (i : Nat) (C : XC) : (cTwo G i C).1 ≤ C.1 + 3 := by
  have h := cLd_len C (cellF G (G.2.2.1 i))
  unfold cTwo cTwoA
  split <;> simp only [cWr_len] <;> omega
theorem cOne_len (G : XG) (i : Nat) (C : XC) : (cOne G i C).1 ≤ C.1 + 3 := by
  have h := cLd_len C (cellF G (G.2.2.1 i))
  have h2 : (cOneA G i C).1 ≤ C.1 + 2 := by
    unfold cOneA
    split
    · simp only [cWr_len]; omega
    · split <;> simp only [cWr_len] <;> omega
  unfold cOne
  split
  · omega
  · simp only [cWr_len]; omega
theorem cSum_len (G : XG) (i : Nat) (C : XC) : (cSum G i C).1 = C.1 + 3 + (G.2.2.2.2.1 i).toNatClampNeg := by
  unfold cSum
  simp only [cWr_len, cTap_len]
  omega
theorem cBody_len (G : XG) (i : Nat) (C : XC) (h : (G.2.2.2.2.1 i).toNatClampNeg ≤ 6) : (cBody G i C).1 ≤ C.1 + 9 := by
  have h1 := cLd_len C 41
  have h2 := cTwo_len G i C
  have h3 := cOne_len G i C
  have h4 := cSum_len G i C
  unfold cBody
  split
  · omega
  · split
    · simp only [cWr_len]; omega
    · split
      · omega
      · split <;> omega
theorem cCp_len (C : XC) (a b : Int32) : (cCp C a b).1 ≤ C.1 + 2 := by
  have h := cLd_len C a
  show (cSt (cLd C a) b).1 ≤ _
  rw [cSt_len]; omega
theorem cNode_len (G : XG) (i : Nat) (C : XC) (h : (G.2.2.2.2.1 i).toNatClampNeg ≤ 6) : (cNode G i C).1 ≤ C.1 + 10 := by
  have h1 := cBody_len G i C h
  unfold cNode
  rw [cSt_len]; omega
theorem cP1_len (G : XG) (C : XC) (n : Nat) : (cP1 G C n).1 ≤ C.1 + 2 * n := by
  induction n with
  | zero => exact Nat.le_refl _
  | succ i ih =>
    have := cCp_len (cP1 G C i) (20 + nI i) (nI i)
    unfold cP1
    split <;> omega
theorem cP3_len (G : XG) (C : XC) (n : Nat) : (cP3 G C n).1 ≤ C.1 + 2 * n := by
  induction n with
  | zero => exact Nat.le_refl _
  | succ i ih =>
    have := cCp_len (cP3 G C i) (cellF G (G.2.2.1 i)) (20 + nI i)
    unfold cP3
    split <;> omega
end
section
/-! the component: compileSum, compileNode, node, tap, namedBy -/
set_option maxRecDepth 100000
abbrev rmX0_compileSum : Room := { frames := 1, cells := 0, slots := 0, locals := 23 }
theorem cw_X0_compileSum {R : Room} {s : State} {args : Array Value} (hts : ∀ w ∈ lw_all, w.before args s = true) (hR : rmX0_compileSum.frames + 1 ≤ R.frames ∧ 8 + (5 + 11) + rmX0_compileSum.locals ≤ R.locals) : CallW R s args RX0 RX0 129 yX0_compileSum cX0_compileSum 5 none (ws_ yX0_compileSum cX0_compileSum 5 none) rmX0_compileSum 0 0 1 := cwV 1 hts (lw_V q151 q153 qs9 q25 q154) rfl rfl rfl (by decide +kernel) hR
set_option maxHeartbeats 4000000 in
/-- compileSum(i) -/
theorem metX0_compileSum (l : Launch) {D : va_G} {h : Nat} {ad : Nat → Nat} {cd : Nat → ClassId} {G : XG} {F : Bool × Bool} {O : XO} {C : XC} {M : XM} {k : Nat} (sz : Nat) (i T : Nat) (hi : i < 20) (hT6 : T ≤ 6) (hT : G.2.2.2.2.1 i = nI T) (hce : C.1 + 9 ≤ 300) : MetV l yX0_compileSum cX0_compileSum 5 rmX0_compileSum D vwCl (tX cd) (wX h ad cd G F O C M k) sz [.ref h, .int (nI i)] (fun C' => C' = cSum G i C) (fun C' => wX h ad cd G F O C' M k) := by
  refine zz_startV (own := RX0) (by decide) rfl (Nat.le_of_ble_eq_true rfl) ?_
  intro p e s m below meth c Q A ls args hx hb hr hml hown hts hlocks hA hK hP hD hS hl hQ
  have hl : lv_has ls 5 [(0, .ref h), (1, .int (nI i))] := hl
  have loop : ∀ (d t : Nat), t + d = T → ∀ (C1 : XC) (H : Heap) (locs : List Loc) (ls : Array Slot), C1 = cTap G i C t → va_P D vwCl (wX h ad cd G F O C1 M k) H → va_D A (wX h ad cd G F O C1 M k) → va_S A s.heap H locs → lv_has ls 5 [(2, .int (nI t)), (1, .int (nI i)), (0, .ref h)] → W p l e rmX0_compileSum s m args below meth c H locs 0 0 Q (F0 m 10 ls []) := by
    intro d
    induction d with
    | zero =>
      intro t ht C1 H locs ls hC1 hP hD hS hl
      obtain rfl : t = T := by omega
      refine lv_iload_n hx hb dX0_compileSum_10 rfl (lv_at hl 0 rfl) ?_
      refine lv_aload_n hx hb dX0_compileSum_11 rfl (lv_at hl 2 rfl) ?_
      refine xg_4 hx hb hts hown hK hP dX0_compileSum_12 ?_
      refine lv_iload_n hx hb dX0_compileSum_15 rfl (lv_at hl 1 rfl) ?_
      refine xl_4 hx hb hK hP i hi rfl dX0_compileSum_16 ?_
      refine lv_icmp_ge (tgt := 59) hx hb dX0_compileSum_17 (by decide) (fun c_17 => ?_) (fun c_17 => absurd (by rw [hT]; exact nI_le (Nat.le_refl _) (by omega)) c_17)
      refine lv_aload_n hx hb dX0_compileSum_59 rfl (lv_at hl 2 rfl) ?_
      refine lv_bipush (v := 11) hx hb dX0_compileSum_60 (by decide) ?_
      refine lv_bipush (v := 40) hx hb dX0_compileSum_62 (by decide) ?_
      refine lv_iconst (v := 0) hx hb dX0_compileSum_64 (by decide) ?_
      refine zz_callv ⟨hx, hb, hml, hown, hts⟩ hK hP hD hS hA rfl rfl (metX0_write l _ 11 40 0 (by rw [hC1, cTap_len]; omega)) (cw_X0_write hts ⟨Nat.le_of_ble_eq_true rfl, Nat.le_of_ble_eq_true rfl⟩) rfl hl.1 rfl (Nat.le_of_ble_eq_true rfl) dX0_compileSum_65 ⟨Nat.zero_le _, Nat.zero_le _⟩ (fun C2 H locs hC2 hP hD hS => ?_)
      refine lv_aload_n hx hb dX0_compileSum_68 rfl (lv_at hl 2 rfl) ?_
      refine lv_bipush (v := 12) hx hb dX0_compileSum_69 (by decide) ?_
      refine lv_bipush (v := 40) hx hb dX0_compileSum_71 (by decide) ?_
      refine lv_iconst (v := 0) hx hb dX0_compileSum_73 (by decide) ?_
      refine zz_callv ⟨hx, hb, hml, hown, hts⟩ hK hP hD hS hA rfl rfl (metX0_write l _ 12 40 0 (by rw [hC2, cWr_len, hC1, cTap_len]; omega)) (cw_X0_write hts ⟨Nat.le_of_ble_eq_true rfl, Nat.le_of_ble_eq_true rfl⟩) rfl hl.1 rfl (Nat.le_of_ble_eq_true rfl) dX0_compileSum_74 ⟨Nat.zero_le _, Nat.zero_le _⟩ (fun C3 H locs hC3 hP hD hS => ?_)
      exact zz_vret hx hb hr hlocks hK hQ hS (C3) hP hD dX0_compileSum_77 (by rw [hC3, hC2, hC1]; unfold cSum; rw [hT, nI_clamp (by omega)])
    | succ d ih =>
      intro t ht C1 H locs ls hC1 hP hD hS hl
      refine lv_iload_n hx hb dX0_compileSum_10 rfl (lv_at hl 0 rfl) ?_
      refine lv_aload_n hx hb dX0_compileSum_11 rfl (lv_at hl 2 rfl) ?_
      refine xg_4 hx hb hts hown hK hP dX0_compileSum_12 ?_
      refine lv_iload_n hx hb dX0_compileSum_15 rfl (lv_at hl 1 rfl) ?_
      refine xl_4 hx hb hK hP i hi rfl dX0_compileSum_16 ?_
      refine lv_icmp_ge (tgt := 59) hx hb dX0_compileSum_17 (by decide) (fun c_17 => absurd c_17 (by rw [hT]; exact nI_ge (by omega) (by omega))) (fun c_17 => ?_)
      refine lv_bipush (v := 6) hx hb dX0_compileSum_20 (by decide) ?_
      refine lv_iload_n hx hb dX0_compileSum_22 rfl (lv_at hl 1 rfl) ?_
      refine lv_imul hx hb dX0_compileSum_23 ?_
      refine lv_iload_n hx hb dX0_compileSum_24 rfl (lv_at hl 0 rfl) ?_
      refine lv_iadd hx hb dX0_compileSum_25 ?_
      refine lv_topi (fun at_ eat_ => ?_)
      have hat : at_ = nI (6 * i + t) := eat_.trans (six i t)
      refine lv_istore_n (lv' := [(3, .int _), (2, .int _), (1, .int _), (0, .ref _)]) hx hb dX0_compileSum_26 rfl hl (by decide) rfl (fun ls hl => ?_)
      refine lv_aload_n hx hb dX0_compileSum_27 rfl (lv_at hl 3 rfl) ?_
      refine lv_aload_n hx hb dX0_compileSum_28 rfl (lv_at hl 3 rfl) ?_
      refine xg_5 hx hb hts hown hK hP dX0_compileSum_29 ?_
      refine lv_iload_n hx hb dX0_compileSum_32 rfl (lv_at hl 0 rfl) ?_
      refine xl_5 hx hb hK hP (6 * i + t) (by omega) hat dX0_compileSum_33 ?_
      refine zz_calli ⟨hx, hb, hml, hown, hts⟩ hK hP hD hS hA rfl rfl (metX0_cellFor l _ _) (cw_X0_cellFor hts ⟨Nat.le_of_ble_eq_true rfl, Nat.le_of_ble_eq_true rfl⟩) rfl hl.1 rfl (Nat.le_of_ble_eq_true rfl) dX0_compileSum_34 ⟨Nat.zero_le _, Nat.zero_le _⟩ (fun r1 _ H locs hr1 hP hD hS => ?_)
      refine lv_istore (lv' := [(4, .int _), (3, .int _), (2, .int _), (1, .int _), (0, .ref _)]) hx hb dX0_compileSum_37 hl (by decide) rfl (fun ls hl => ?_)
      refine lv_aload_n hx hb dX0_compileSum_39 rfl (lv_at hl 4 rfl) ?_
      refine lv_bipush (v := 10) hx hb dX0_compileSum_40 (by decide) ?_
      refine lv_iload hx hb dX0_compileSum_42 (lv_at hl 0 rfl) ?_
      refine lv_aload_n hx hb dX0_compileSum_44 rfl (lv_at hl 4 rfl) ?_
      refine xg_6 hx hb hts hown hK hP dX0_compileSum_45 ?_
      refine lv_iload_n hx hb dX0_compileSum_48 rfl (lv_at hl 1 rfl) ?_
      refine xl_6 hx hb hK hP (6 * i + t) (by omega) hat dX0_compileSum_49 ?_
      refine zz_callv ⟨hx, hb, hml, hown, hts⟩ hK hP hD hS hA rfl rfl (metX0_write l _ 10 r1 _ (by rw [hC1, cTap_len]; omega)) (cw_X0_write hts ⟨Nat.le_of_ble_eq_true rfl, Nat.le_of_ble_eq_true rfl⟩) rfl hl.1 rfl (Nat.le_of_ble_eq_true rfl) dX0_compileSum_50 ⟨Nat.zero_le _, Nat.zero_le _⟩ (fun C2 H locs hC2 hP hD hS => ?_)
      refine lv_iinc (v := nI (t + 1)) (lv' := [(2, .int _), (4, .int _), (3, .int _), (1, .int _), (0, .ref _)]) hx hb dX0_compileSum_53 hl (k := 2) rfl (nI_1 t) (by decide) rfl (fun ls hl => ?_)
      refine lv_goto (tgt := 10) hx hb dX0_compileSum_56 (by decide) ?_
      exact ih (t + 1) (by omega) C2 H locs ls (by rw [hC2, hC1, hr1]; rfl) hP hD hS (lv_sub hl [0, 3, 4] rfl)
  refine lv_aload_n hx hb dX0_compileSum_0 rfl (lv_at hl 0 rfl) ?_
  refine lv_iconst (v := 1) hx hb dX0_compileSum_1 (by decide) ?_
  refine lv_bipush (v := 40) hx hb dX0_compileSum_2 (by decide) ?_
  refine lv_iconst (v := 0) hx hb dX0_compileSum_4 (by decide) ?_
  refine zz_callv ⟨hx, hb, hml, hown, hts⟩ hK hP hD hS hA rfl rfl (metX0_write l _ 1 40 0 (by omega)) (cw_X0_write hts ⟨Nat.le_of_ble_eq_true rfl, Nat.le_of_ble_eq_true rfl⟩) rfl hl.1 rfl (Nat.le_of_ble_eq_true rfl) dX0_compileSum_5 ⟨Nat.zero_le _, Nat.zero_le _⟩ (fun C1 H locs hC1 hP hD hS => ?_)
  refine lv_iconst (v := 0) hx hb dX0_compileSum_8 (by decide) ?_
  refine lv_istore_n (lv' := [(2, .int _), (0, .ref _), (1, .int _)]) hx hb dX0_compileSum_9 rfl hl (by decide) rfl (fun ls hl => ?_)
  exact loop T 0 (Nat.zero_add T) C1 H locs ls (by rw [hC1]; rfl) hP hD hS (lv_sub hl [0, 2, 1] rfl)
abbrev rmX0_compileNode : Room := { frames := 3, cells := 0, slots := 0, locals := 68 }
theorem cw_X0_compileNode {R : Room} {s : State} {args : Array Value} (hts : ∀ w ∈ lw_all, w.before args s = true) (hR : rmX0_compileNode.frames + 1 ≤ R.frames ∧ 8 + (3 + 11) + rmX0_compileNode.locals ≤ R.locals) : CallW R s args RX0 RX0 114 yX0_compileNode cX0_compileNode 3 none (ws_ yX0_compileNode cX0_compileNode 3 none) rmX0_compileNode 0 0 1 := cwV 1 hts (lw_V q147 q149 qs8 q25 q150) rfl rfl rfl (by decide +kernel) hR
set_option maxHeartbeats 4000000 in
/-- compileNode(i) -/
theorem metX0_compileNode (l : Launch) {D : va_G} {h : Nat} {ad : Nat → Nat} {cd : Nat → ClassId} {G : XG} {F : Bool × Bool} {O : XO} {C : XC} {M : XM} {k : Nat} (sz : Nat) (i T : Nat) (hi : i < 20) (hT6 : T ≤ 6) (hT : G.2.2.2.2.1 i = nI T) (hce : C.1 + 10 ≤ 300) : MetV l yX0_compileNode cX0_compileNode 3 rmX0_compileNode D vwCl (tX cd) (wX h ad cd G F O C M k) sz [.ref h, .int (nI i)] (fun C' => C' = cNode G i C) (fun C' => wX h ad cd G F O C' M k) := by
  refine zz_startV (own := RX0) (by decide) rfl (Nat.le_of_ble_eq_true rfl) ?_
  intro p e s m below meth c Q A ls args hx hb hr hml hown hts hlocks hA hK hP hD hS hl hQ
  have hl : lv_has ls 3 [(0, .ref h), (1, .int (nI i))] := hl
  have hcl : (G.2.2.2.2.1 i).toNatClampNeg ≤ 6 := by rw [hT, nI_clamp (by omega)]; exact hT6
  have hbl := cBody_len G i C hcl
  have J73 : ∀ (C1 : XC) (H : Heap) (locs : List Loc) (ls : Array Slot), C1 = cBody G i C → va_P D vwCl (wX h ad cd G F O C1 M k) H → va_D A (wX h ad cd G F O C1 M k) → va_S A s.heap H locs → lv_has ls 3 [(1, .int (nI i)), (0, .ref h)] → W p l e rmX0_compileNode s m args below meth c H locs 0 0 Q (F0 m 73 ls []) := by
    intro C1 H locs ls hC1 hP hD hS hl
    refine lv_aload_n hx hb dX0_compileNode_73 rfl (lv_at hl 1 rfl) ?_
    refine lv_iload_n hx hb dX0_compileNode_74 rfl (lv_at hl 0 rfl) ?_
    refine zz_callv ⟨hx, hb, hml, hown, hts⟩ hK hP hD hS hA rfl rfl (metX0_store l _ (nI i) (by rw [hC1]; omega)) (cw_X0_store hts ⟨Nat.le_of_ble_eq_true rfl, Nat.le_of_ble_eq_true rfl⟩) rfl hl.1 rfl (Nat.le_of_ble_eq_true rfl) dX0_compileNode_75 ⟨Nat.zero_le _, Nat.zero_le _⟩ (fun C2 H locs hC2 hP hD hS => ?_)
    exact zz_vret hx hb hr hlocks hK hQ hS (C2) hP hD dX0_compileNode_78 (by rw [hC2, hC1]; rfl)
  refine lv_aload_n hx hb dX0_compileNode_0 rfl (lv_at hl 0 rfl) ?_
  refine xg_1 hx hb hts hown hK hP dX0_compileNode_1 ?_
  refine lv_iload_n hx hb dX0_compileNode_4 rfl (lv_at hl 1 rfl) ?_
  refine xl_1 hx hb hK hP i hi rfl dX0_compileNode_5 ?_
  refine lv_istore_n (lv' := [(2, .int _), (0, .ref _), (1, .int _)]) hx hb dX0_compileNode_6 rfl hl (by decide) rfl (fun ls hl => ?_)
  refine lv_iload_n hx hb dX0_compileNode_7 rfl (lv_at hl 0 rfl) ?_
  refine lv_if_ne (tgt := 20) hx hb dX0_compileNode_8 (by decide) (fun c_8 => ?_) (fun c_8 => ?_)
  · refine lv_iload_n hx hb dX0_compileNode_20 rfl (lv_at hl 0 rfl) ?_
    refine lv_iconst (v := 1) hx hb dX0_compileNode_21 (by decide) ?_
    refine lv_icmp_ne (tgt := 41) hx hb dX0_compileNode_22 (by decide) (fun c_22 => ?_) (fun c_22 => ?_)
    · refine lv_iload_n hx hb dX0_compileNode_41 rfl (lv_at hl 0 rfl) ?_
      refine lv_bipush (v := 10) hx hb dX0_compileNode_42 (by decide) ?_
      refine lv_icmp_ne (tgt := 55) hx hb dX0_compileNode_44 (by decide) (fun c_44 => ?_) (fun c_44 => ?_)
      · refine lv_iload_n hx hb dX0_compileNode_55 rfl (lv_at hl 0 rfl) ?_
        refine lv_iconst (v := 5) hx hb dX0_compileNode_56 (by decide) ?_
        refine lv_icmp_gt (tgt := 68) hx hb dX0_compileNode_57 (by decide) (fun c_57 => ?_) (fun c_57 => ?_)
        · refine lv_aload_n hx hb dX0_compileNode_68 rfl (lv_at hl 1 rfl) ?_
          refine lv_iload_n hx hb dX0_compileNode_69 rfl (lv_at hl 2 rfl) ?_
          refine zz_callv ⟨hx, hb, hml, hown, hts⟩ hK hP hD hS hA rfl rfl (metX0_compileOne l _ i hi (by omega)) (cw_X0_compileOne hts ⟨Nat.le_of_ble_eq_true rfl, Nat.le_of_ble_eq_true rfl⟩) rfl hl.1 rfl (Nat.le_of_ble_eq_true rfl) dX0_compileNode_70 ⟨Nat.zero_le _, Nat.zero_le _⟩ (fun C1 H locs hC1 hP hD hS => ?_)
          have hC1 : C1 = cBody G i C := by rw [hC1]; simp only [cBody, if_neg c_8, if_neg c_22, if_neg c_44, if_pos c_57]
          exact J73 C1 H locs ls hC1 hP hD hS (lv_sub hl [2, 1] rfl)
        · refine lv_aload_n hx hb dX0_compileNode_60 rfl (lv_at hl 1 rfl) ?_
          refine lv_iload_n hx hb dX0_compileNode_61 rfl (lv_at hl 2 rfl) ?_
          refine zz_callv ⟨hx, hb, hml, hown, hts⟩ hK hP hD hS hA rfl rfl (metX0_compileTwo l _ i hi (by omega)) (cw_X0_compileTwo hts ⟨Nat.le_of_ble_eq_true rfl, Nat.le_of_ble_eq_true rfl⟩) rfl hl.1 rfl (Nat.le_of_ble_eq_true rfl) dX0_compileNode_62 ⟨Nat.zero_le _, Nat.zero_le _⟩ (fun C1 H locs hC1 hP hD hS => ?_)
          refine lv_goto (tgt := 73) hx hb dX0_compileNode_65 (by decide) ?_
          have hC1 : C1 = cBody G i C := by rw [hC1]; simp only [cBody, if_neg c_8, if_neg c_22, if_neg c_44, if_neg c_57]
          exact J73 C1 H locs ls hC1 hP hD hS (lv_sub hl [2, 1] rfl)
      · refine lv_aload_n hx hb dX0_compileNode_47 rfl (lv_at hl 1 rfl) ?_
        refine lv_iload_n hx hb dX0_compileNode_48 rfl (lv_at hl 2 rfl) ?_
        refine zz_callv ⟨hx, hb, hml, hown, hts⟩ hK hP hD hS hA rfl rfl (metX0_compileSum l _ i T hi hT6 hT (by omega)) (cw_X0_compileSum hts ⟨Nat.le_of_ble_eq_true rfl, Nat.le_of_ble_eq_true rfl⟩) rfl hl.1 rfl (Nat.le_of_ble_eq_true rfl) dX0_compileNode_49 ⟨Nat.zero_le _, Nat.zero_le _⟩ (fun C1 H locs hC1 hP hD hS => ?_)
        refine lv_goto (tgt := 73) hx hb dX0_compileNode_52 (by decide) ?_
        have hC1 : C1 = cBody G i C := by rw [hC1]; simp only [cBody, if_neg c_8, if_neg c_22, if_pos c_44]
        exact J73 C1 H locs ls hC1 hP hD hS (lv_sub hl [2, 1] rfl)
    · refine lv_aload_n hx hb dX0_compileNode_25 rfl (lv_at hl 1 rfl) ?_
      refine lv_iconst (v := 1) hx hb dX0_compileNode_26 (by decide) ?_
      refine lv_bipush (v := 40) hx hb dX0_compileNode_27 (by decide) ?_
      refine lv_aload_n hx hb dX0_compileNode_29 rfl (lv_at hl 1 rfl) ?_
      refine xg_2 hx hb hts hown hK hP dX0_compileNode_30 ?_
      refine lv_iload_n hx hb dX0_compileNode_33 rfl (lv_at hl 2 rfl) ?_
      refine xl_2 hx hb hK hP i hi rfl dX0_compileNode_34 ?_
      refine zz_callv ⟨hx, hb, hml, hown, hts⟩ hK hP hD hS hA rfl rfl (metX0_write l _ 1 40 _ (by omega)) (cw_X0_write hts ⟨Nat.le_of_ble_eq_true rfl, Nat.le_of_ble_eq_true rfl⟩) rfl hl.1 rfl (Nat.le_of_ble_eq_true rfl) dX0_compileNode_35 ⟨Nat.zero_le _, Nat.zero_le _⟩ (fun C1 H locs hC1 hP hD hS => ?_)
      refine lv_goto (tgt := 73) hx hb dX0_compileNode_38 (by decide) ?_
      have hC1 : C1 = cBody G i C := by rw [hC1]; simp only [cBody, if_neg c_8, if_pos c_22]
      exact J73 C1 H locs ls hC1 hP hD hS (lv_sub hl [2, 1] rfl)
  · refine lv_aload_n hx hb dX0_compileNode_11 rfl (lv_at hl 1 rfl) ?_
    refine lv_bipush (v := 41) hx hb dX0_compileNode_12 (by decide) ?_
    refine zz_callv ⟨hx, hb, hml, hown, hts⟩ hK hP hD hS hA rfl rfl (metX0_load l _ 41 (by omega)) (cw_X0_load hts ⟨Nat.le_of_ble_eq_true rfl, Nat.le_of_ble_eq_true rfl⟩) rfl hl.1 rfl (Nat.le_of_ble_eq_true rfl) dX0_compileNode_14 ⟨Nat.zero_le _, Nat.zero_le _⟩ (fun C1 H locs hC1 hP hD hS => ?_)
    refine lv_goto (tgt := 73) hx hb dX0_compileNode_17 (by decide) ?_
    have hC1 : C1 = cBody G i C := by rw [hC1]; simp only [cBody, if_pos c_8]
    exact J73 C1 H locs ls hC1 hP hD hS (lv_sub hl [2, 1] rfl)
abbrev rmX0_node : Room := { frames := 1, cells := 0, slots := 0, locals := 21 }
set_option maxHeartbeats 4000000 in
/-- node(kk, aa, bb) -/
theorem metX0_node (l : Launch) {D : va_G} {h : Nat} {ad : Nat → Nat} {cd : Nat → ClassId} {G : XG} {F : Bool × Bool} {O : XO} {C : XC} {M : XM} {k : Nat} (sz : Nat) (kk aa bb : Int32) (hn : G.1 ≤ 20) : MetI l yX0_node cX0_node 5 .int rmX0_node D vwCl (tX cd) (wX h ad cd G F O C M k) sz [.ref h, .int kk, .int aa, .int bb] (fun (r : Int32) (u : XG × Bool × XM × Nat) => (G.1 = 20 ∧ r = -2 ∧ u = (G, F.1, M, k)) ∨ (G.1 < 20 ∧ ¬ nok kk aa bb ∧ r = -1 ∧ u = (G, F.1, M, k)) ∨ (G.1 < 20 ∧ nok kk aa bb ∧ r = nI G.1 ∧ u = (gAdd G (b8 kk) aa (b8 bb), false, (zf M.1 42, M.2), 0))) (fun u => wX h ad cd u.1 (u.2.1, F.2) O C u.2.2.1 u.2.2.2) := by
  refine zz_startI (own := RX0) (by decide) rfl (Nat.le_of_ble_eq_true rfl) ?_
  intro p e s m below meth c Q A ls args hx hb hr hml hown hts hlocks hA hK hP hD hS hl hQ
  have hl : lv_has ls 5 [(0, .ref h), (1, .int kk), (2, .int aa), (3, .int bb)] := hl
  by_cases hn20 : G.1 < 20
  · have J122 : ∀ (H : Heap) (locs : List Loc), va_P D vwCl (wX h ad cd G F O C M k) H → va_D A (wX h ad cd G F O C M k) → va_S A s.heap H locs → nok kk aa bb → W p l e rmX0_node s m args below meth c H locs 0 0 Q (F0 m 122 ls []) := by
      intro H locs hP hD hS hh
      refine lv_aload_n hx hb dX0_node_122 rfl (lv_at hl 0 rfl) ?_
      refine xg_0 hx hb hts hown hK hP dX0_node_123 ?_
      refine lv_istore (lv' := [(4, .int _), (0, .ref _), (1, .int _), (2, .int _), (3, .int _)]) hx hb dX0_node_126 hl (by decide) rfl (fun ls hl => ?_)
      refine lv_aload_n hx hb dX0_node_128 rfl (lv_at hl 1 rfl) ?_
      refine xg_1 hx hb hts hown hK hP dX0_node_129 ?_
      refine lv_iload hx hb dX0_node_132 (lv_at hl 0 rfl) ?_
      refine lv_iload_n hx hb dX0_node_134 rfl (lv_at hl 2 rfl) ?_
      refine lv_i2b hx hb dX0_node_135 rfl ?_
      refine xs_1 hx hb hK hP hD hS G.1 hn20 rfl (b8 kk) (pk_vb _) dX0_node_136 (fun H locs hP hD hS => ?_)
      refine lv_aload_n hx hb dX0_node_137 rfl (lv_at hl 1 rfl) ?_
      refine xg_2 hx hb hts hown hK hP dX0_node_138 ?_
      refine lv_iload hx hb dX0_node_141 (lv_at hl 0 rfl) ?_
      refine lv_iload_n hx hb dX0_node_143 rfl (lv_at hl 3 rfl) ?_
      refine xs_2 hx hb hK hP hD hS G.1 hn20 rfl dX0_node_144 (fun H locs hP hD hS => ?_)
      refine lv_aload_n hx hb dX0_node_145 rfl (lv_at hl 1 rfl) ?_
      refine xg_3 hx hb hts hown hK hP dX0_node_146 ?_
      refine lv_iload hx hb dX0_node_149 (lv_at hl 0 rfl) ?_
      refine lv_iload_n hx hb dX0_node_151 rfl (lv_at hl 4 rfl) ?_
      refine lv_i2b hx hb dX0_node_152 rfl ?_
      refine xs_3 hx hb hK hP hD hS G.1 hn20 rfl (b8 bb) (pk_vb _) dX0_node_153 (fun H locs hP hD hS => ?_)
      refine lv_aload_n hx hb dX0_node_154 rfl (lv_at hl 1 rfl) ?_
      refine xg_4 hx hb hts hown hK hP dX0_node_155 ?_
      refine lv_iload hx hb dX0_node_158 (lv_at hl 0 rfl) ?_
      refine lv_iconst (v := 0) hx hb dX0_node_160 (by decide) ?_
      refine xs_4 hx hb hK hP hD hS G.1 hn20 rfl 0 (by decide) dX0_node_161 (fun H locs hP hD hS => ?_)
      refine lv_aload_n hx hb dX0_node_162 rfl (lv_at hl 1 rfl) ?_
      refine lv_dup hx hb dX0_node_163 rfl ?_
      refine xg_0 hx hb hts hown hK hP dX0_node_164 ?_
      refine lv_iconst (v := 1) hx hb dX0_node_167 (by decide) ?_
      refine lv_iadd hx hb dX0_node_168 ?_
      refine xp_0 hx hb hts hown hK hP hD hS (G.1 + 1) (nI_1 G.1) dX0_node_169 (fun H locs hP hD hS => ?_)
      refine lv_aload_n hx hb dX0_node_172 rfl (lv_at hl 1 rfl) ?_
      refine lv_iconst (v := 0) hx hb dX0_node_173 (by decide) ?_
      refine xp_7 hx hb hts hown hK hP hD hS false rfl dX0_node_174 (fun H locs hP hD hS => ?_)
      refine lv_aload_n hx hb dX0_node_177 rfl (lv_at hl 1 rfl) ?_
      refine zz_callv ⟨hx, hb, hml, hown, hts⟩ hK hP hD hS hA rfl rfl (metX0_restart l _) (cw_X0_restart hts ⟨Nat.le_of_ble_eq_true rfl, Nat.le_of_ble_eq_true rfl⟩) rfl hl.1 rfl (Nat.le_of_ble_eq_true rfl) dX0_node_178 ⟨Nat.zero_le _, Nat.zero_le _⟩ (fun _ H locs _ hP hD hS => ?_)
      refine lv_iload hx hb dX0_node_181 (lv_at hl 0 rfl) ?_
      exact zz_iret hx hb hr hlocks hK hQ hS ((gAdd G (b8 kk) aa (b8 bb), false, (zf M.1 42, M.2), 0)) hP hD dX0_node_183 (Or.inr (Or.inr ⟨hn20, hh, rfl, rfl⟩))
    have J104 : ∀ (H : Heap) (locs : List Loc), va_P D vwCl (wX h ad cd G F O C M k) H → va_D A (wX h ad cd G F O C M k) → va_S A s.heap H locs → (0 ≤ kk ∧ kk ≤ 10 ∧ (kk = 1 → -32768 ≤ aa ∧ aa ≤ 32767) ∧ (2 ≤ kk → kk ≤ 9 → 0 ≤ aa ∧ aa ≤ 19) ∧ (3 ≤ kk → kk ≤ 5 → 0 ≤ bb ∧ bb ≤ 19) ∧ (kk = 8 → 0 ≤ bb ∧ bb ≤ 7)) → W p l e rmX0_node s m args below meth c H locs 0 0 Q (F0 m 104 ls []) := by
      intro H locs hP hD hS hh
      refine lv_iload_n hx hb dX0_node_104 rfl (lv_at hl 1 rfl) ?_
      refine lv_bipush (v := 9) hx hb dX0_node_105 (by decide) ?_
      refine lv_icmp_ne (tgt := 122) hx hb dX0_node_107 (by decide) (fun c_107 => ?_) (fun c_107 => ?_)
      · exact J122 H locs hP hD hS ⟨hh.1, hh.2.1, hh.2.2.1, hh.2.2.2.1, hh.2.2.2.2.1, hh.2.2.2.2.2, fun q => absurd q c_107⟩
      · refine lv_iload_n hx hb dX0_node_110 rfl (lv_at hl 3 rfl) ?_
        refine lv_if_lt (tgt := 120) hx hb dX0_node_111 (by decide) (fun c_111 => ?_) (fun c_111 => ?_)
        · refine lv_iconst (v := (-1)) hx hb dX0_node_120 (by decide) ?_
          exact zz_iret hx hb hr hlocks hK hQ hS ((G, F.1, M, k)) hP hD dX0_node_121 (Or.inr (Or.inl ⟨hn20, fun q => absurd (q.2.2.2.2.2.2 c_107).1 (i_alt c_111), rfl, rfl⟩))
        · refine lv_iload_n hx hb dX0_node_114 rfl (lv_at hl 3 rfl) ?_
          refine lv_bipush (v := 15) hx hb dX0_node_115 (by decide) ?_
          refine lv_icmp_le (tgt := 122) hx hb dX0_node_117 (by decide) (fun c_117 => ?_) (fun c_117 => ?_)
          · exact J122 H locs hP hD hS ⟨hh.1, hh.2.1, hh.2.2.1, hh.2.2.2.1, hh.2.2.2.2.1, hh.2.2.2.2.2, fun _ => ⟨i_nlt c_111, c_117⟩⟩
          · refine lv_iconst (v := (-1)) hx hb dX0_node_120 (by decide) ?_
            exact zz_iret hx hb hr hlocks hK hQ hS ((G, F.1, M, k)) hP hD dX0_node_121 (Or.inr (Or.inl ⟨hn20, fun q => c_117 (q.2.2.2.2.2.2 c_107).2, rfl, rfl⟩))
    have J86 : ∀ (H : Heap) (locs : List Loc), va_P D vwCl (wX h ad cd G F O C M k) H → va_D A (wX h ad cd G F O C M k) → va_S A s.heap H locs → (0 ≤ kk ∧ kk ≤ 10 ∧ (kk = 1 → -32768 ≤ aa ∧ aa ≤ 32767) ∧ (2 ≤ kk → kk ≤ 9 → 0 ≤ aa ∧ aa ≤ 19) ∧ (3 ≤ kk → kk ≤ 5 → 0 ≤ bb ∧ bb ≤ 19)) → W p l e rmX0_node s m args below meth c H locs 0 0 Q (F0 m 86 ls []) := by
      intro H locs hP hD hS hh
      refine lv_iload_n hx hb dX0_node_86 rfl (lv_at hl 1 rfl) ?_
      refine lv_bipush (v := 8) hx hb dX0_node_87 (by decide) ?_
      refine lv_icmp_ne (tgt := 104) hx hb dX0_node_89 (by decide) (fun c_89 => ?_) (fun c_89 => ?_)
      · exact J104 H locs hP hD hS ⟨hh.1, hh.2.1, hh.2.2.1, hh.2.2.2.1, hh.2.2.2.2, fun q => absurd q c_89⟩
      · refine lv_iload_n hx hb dX0_node_92 rfl (lv_at hl 3 rfl) ?_
        refine lv_if_lt (tgt := 102) hx hb dX0_node_93 (by decide) (fun c_93 => ?_) (fun c_93 => ?_)
        · refine lv_iconst (v := (-1)) hx hb dX0_node_102 (by decide) ?_
          exact zz_iret hx hb hr hlocks hK hQ hS ((G, F.1, M, k)) hP hD dX0_node_103 (Or.inr (Or.inl ⟨hn20, fun q => absurd (q.2.2.2.2.2.1 c_89).1 (i_alt c_93), rfl, rfl⟩))
        · refine lv_iload_n hx hb dX0_node_96 rfl (lv_at hl 3 rfl) ?_
          refine lv_bipush (v := 7) hx hb dX0_node_97 (by decide) ?_
          refine lv_icmp_le (tgt := 104) hx hb dX0_node_99 (by decide) (fun c_99 => ?_) (fun c_99 => ?_)
          · exact J104 H locs hP hD hS ⟨hh.1, hh.2.1, hh.2.2.1, hh.2.2.2.1, hh.2.2.2.2, fun _ => ⟨i_nlt c_93, c_99⟩⟩
          · refine lv_iconst (v := (-1)) hx hb dX0_node_102 (by decide) ?_
            exact zz_iret hx hb hr hlocks hK hQ hS ((G, F.1, M, k)) hP hD dX0_node_103 (Or.inr (Or.inl ⟨hn20, fun q => c_99 (q.2.2.2.2.2.1 c_89).2, rfl, rfl⟩))
    have J66 : ∀ (H : Heap) (locs : List Loc), va_P D vwCl (wX h ad cd G F O C M k) H → va_D A (wX h ad cd G F O C M k) → va_S A s.heap H locs → (0 ≤ kk ∧ kk ≤ 10 ∧ (kk = 1 → -32768 ≤ aa ∧ aa ≤ 32767) ∧ (2 ≤ kk → kk ≤ 9 → 0 ≤ aa ∧ aa ≤ 19)) → W p l e rmX0_node s m args below meth c H locs 0 0 Q (F0 m 66 ls []) := by
      intro H locs hP hD hS hh
      refine lv_iload_n hx hb dX0_node_66 rfl (lv_at hl 1 rfl) ?_
      refine lv_iconst (v := 3) hx hb dX0_node_67 (by decide) ?_
      refine lv_icmp_lt (tgt := 86) hx hb dX0_node_68 (by decide) (fun c_68 => ?_) (fun c_68 => ?_)
      · exact J86 H locs hP hD hS ⟨hh.1, hh.2.1, hh.2.2.1, hh.2.2.2, fun q _ => absurd c_68 (i_ale q)⟩
      · refine lv_iload_n hx hb dX0_node_71 rfl (lv_at hl 1 rfl) ?_
        refine lv_iconst (v := 5) hx hb dX0_node_72 (by decide) ?_
        refine lv_icmp_gt (tgt := 86) hx hb dX0_node_73 (by decide) (fun c_73 => ?_) (fun c_73 => ?_)
        · exact J86 H locs hP hD hS ⟨hh.1, hh.2.1, hh.2.2.1, hh.2.2.2, fun _ q => absurd c_73 (i_ale q)⟩
        · refine lv_aload_n hx hb dX0_node_76 rfl (lv_at hl 0 rfl) ?_
          refine lv_iload_n hx hb dX0_node_77 rfl (lv_at hl 3 rfl) ?_
          refine zz_calli ⟨hx, hb, hml, hown, hts⟩ hK hP hD hS hA rfl rfl (metX0_isNumber l _ bb) (cw_X0_isNumber hts ⟨Nat.le_of_ble_eq_true rfl, Nat.le_of_ble_eq_true rfl⟩) rfl hl.1 rfl (Nat.le_of_ble_eq_true rfl) dX0_node_78 ⟨Nat.zero_le _, Nat.zero_le _⟩ (fun r1 _ H locs hr1 hP hD hS => ?_)
          refine lv_if_ne (tgt := 86) hx hb dX0_node_81 (by decide) (fun c_81 => ?_) (fun c_81 => ?_)
          · exact J86 H locs hP hD hS ⟨hh.1, hh.2.1, hh.2.2.1, hh.2.2.2, fun _ _ => isNo_1 (by rw [← hr1]; exact c_81)⟩
          · refine lv_iconst (v := (-1)) hx hb dX0_node_84 (by decide) ?_
            exact zz_iret hx hb hr hlocks hK hQ hS ((G, F.1, M, k)) hP hD dX0_node_85 (Or.inr (Or.inl ⟨hn20, fun q => isNo_0 (hr1.symm.trans c_81) (q.2.2.2.2.1 (i_nlt c_68) (i_nlt c_73)), rfl, rfl⟩))
    have J45 : ∀ (H : Heap) (locs : List Loc), va_P D vwCl (wX h ad cd G F O C M k) H → va_D A (wX h ad cd G F O C M k) → va_S A s.heap H locs → (0 ≤ kk ∧ kk ≤ 10 ∧ (kk = 1 → -32768 ≤ aa ∧ aa ≤ 32767)) → W p l e rmX0_node s m args below meth c H locs 0 0 Q (F0 m 45 ls []) := by
      intro H locs hP hD hS hh
      refine lv_iload_n hx hb dX0_node_45 rfl (lv_at hl 1 rfl) ?_
      refine lv_iconst (v := 2) hx hb dX0_node_46 (by decide) ?_
      refine lv_icmp_lt (tgt := 66) hx hb dX0_node_47 (by decide) (fun c_47 => ?_) (fun c_47 => ?_)
      · exact J66 H locs hP hD hS ⟨hh.1, hh.2.1, hh.2.2, fun q _ => absurd c_47 (i_ale q)⟩
      · refine lv_iload_n hx hb dX0_node_50 rfl (lv_at hl 1 rfl) ?_
        refine lv_bipush (v := 9) hx hb dX0_node_51 (by decide) ?_
        refine lv_icmp_gt (tgt := 66) hx hb dX0_node_53 (by decide) (fun c_53 => ?_) (fun c_53 => ?_)
        · exact J66 H locs hP hD hS ⟨hh.1, hh.2.1, hh.2.2, fun _ q => absurd c_53 (i_ale q)⟩
        · refine lv_aload_n hx hb dX0_node_56 rfl (lv_at hl 0 rfl) ?_
          refine lv_iload_n hx hb dX0_node_57 rfl (lv_at hl 2 rfl) ?_
          refine zz_calli ⟨hx, hb, hml, hown, hts⟩ hK hP hD hS hA rfl rfl (metX0_isNumber l _ aa) (cw_X0_isNumber hts ⟨Nat.le_of_ble_eq_true rfl, Nat.le_of_ble_eq_true rfl⟩) rfl hl.1 rfl (Nat.le_of_ble_eq_true rfl) dX0_node_58 ⟨Nat.zero_le _, Nat.zero_le _⟩ (fun r1 _ H locs hr1 hP hD hS => ?_)
          refine lv_if_ne (tgt := 66) hx hb dX0_node_61 (by decide) (fun c_61 => ?_) (fun c_61 => ?_)
          · exact J66 H locs hP hD hS ⟨hh.1, hh.2.1, hh.2.2, fun _ _ => isNo_1 (by rw [← hr1]; exact c_61)⟩
          · refine lv_iconst (v := (-1)) hx hb dX0_node_64 (by decide) ?_
            exact zz_iret hx hb hr hlocks hK hQ hS ((G, F.1, M, k)) hP hD dX0_node_65 (Or.inr (Or.inl ⟨hn20, fun q => isNo_0 (hr1.symm.trans c_61) (q.2.2.2.1 (i_nlt c_47) (i_nlt c_53)), rfl, rfl⟩))
    have J24 : ∀ (H : Heap) (locs : List Loc), va_P D vwCl (wX h ad cd G F O C M k) H → va_D A (wX h ad cd G F O C M k) → va_S A s.heap H locs → (0 ≤ kk ∧ kk ≤ 10) → W p l e rmX0_node s m args below meth c H locs 0 0 Q (F0 m 24 ls []) := by
      intro H locs hP hD hS hh
      refine lv_iload_n hx hb dX0_node_24 rfl (lv_at hl 1 rfl) ?_
      refine lv_iconst (v := 1) hx hb dX0_node_25 (by decide) ?_
      refine lv_icmp_ne (tgt := 45) hx hb dX0_node_26 (by decide) (fun c_26 => ?_) (fun c_26 => ?_)
      · exact J45 H locs hP hD hS ⟨hh.1, hh.2, fun q => absurd q c_26⟩
      · refine lv_iload_n hx hb dX0_node_29 rfl (lv_at hl 2 rfl) ?_
        refine lv_sipush (v := (-32768)) hx hb dX0_node_30 (by decide) ?_
        refine lv_icmp_lt (tgt := 43) hx hb dX0_node_33 (by decide) (fun c_33 => ?_) (fun c_33 => ?_)
        · refine lv_iconst (v := (-1)) hx hb dX0_node_43 (by decide) ?_
          exact zz_iret hx hb hr hlocks hK hQ hS ((G, F.1, M, k)) hP hD dX0_node_44 (Or.inr (Or.inl ⟨hn20, fun q => absurd (q.2.2.1 c_26).1 (i_alt c_33), rfl, rfl⟩))
        · refine lv_iload_n hx hb dX0_node_36 rfl (lv_at hl 2 rfl) ?_
          refine lv_sipush (v := 32767) hx hb dX0_node_37 (by decide) ?_
          refine lv_icmp_le (tgt := 45) hx hb dX0_node_40 (by decide) (fun c_40 => ?_) (fun c_40 => ?_)
          · exact J45 H locs hP hD hS ⟨hh.1, hh.2, fun _ => ⟨i_nlt c_33, c_40⟩⟩
          · refine lv_iconst (v := (-1)) hx hb dX0_node_43 (by decide) ?_
            exact zz_iret hx hb hr hlocks hK hQ hS ((G, F.1, M, k)) hP hD dX0_node_44 (Or.inr (Or.inl ⟨hn20, fun q => c_40 (q.2.2.1 c_26).2, rfl, rfl⟩))
    refine lv_aload_n hx hb dX0_node_0 rfl (lv_at hl 0 rfl) ?_
    refine xg_0 hx hb hts hown hK hP dX0_node_1 ?_
    refine lv_bipush (v := 20) hx hb dX0_node_4 (by decide) ?_
    refine lv_icmp_lt (tgt := 12) hx hb dX0_node_6 (by decide) (fun c_6 => ?_) (fun c_6 => absurd (nI_lt hn20 (by decide)) c_6)
    refine lv_iload_n hx hb dX0_node_12 rfl (lv_at hl 1 rfl) ?_
    refine lv_if_lt (tgt := 22) hx hb dX0_node_13 (by decide) (fun c_13 => ?_) (fun c_13 => ?_)
    · refine lv_iconst (v := (-1)) hx hb dX0_node_22 (by decide) ?_
      exact zz_iret hx hb hr hlocks hK hQ hS ((G, F.1, M, k)) hP hD dX0_node_23 (Or.inr (Or.inl ⟨hn20, fun q => absurd q.1 (i_alt c_13), rfl, rfl⟩))
    · refine lv_iload_n hx hb dX0_node_16 rfl (lv_at hl 1 rfl) ?_
      refine lv_bipush (v := 10) hx hb dX0_node_17 (by decide) ?_
      refine lv_icmp_le (tgt := 24) hx hb dX0_node_19 (by decide) (fun c_19 => ?_) (fun c_19 => ?_)
      · exact J24 s.heap [] hP hD hS ⟨i_nlt c_13, c_19⟩
      · refine lv_iconst (v := (-1)) hx hb dX0_node_22 (by decide) ?_
        exact zz_iret hx hb hr hlocks hK hQ hS ((G, F.1, M, k)) hP hD dX0_node_23 (Or.inr (Or.inl ⟨hn20, fun q => c_19 q.2.1, rfl, rfl⟩))
  · refine lv_aload_n hx hb dX0_node_0 rfl (lv_at hl 0 rfl) ?_
    refine xg_0 hx hb hts hown hK hP dX0_node_1 ?_
    refine lv_bipush (v := 20) hx hb dX0_node_4 (by decide) ?_
    refine lv_icmp_lt (tgt := 12) hx hb dX0_node_6 (by decide) (fun c_6 => absurd c_6 (nI_nlt (a := G.1) (b := 20) (by omega) (by omega))) (fun c_6 => ?_)
    refine lv_bipush (v := (-2)) hx hb dX0_node_9 (by decide) ?_
    exact zz_iret hx hb hr hlocks hK hQ hS ((G, F.1, M, k)) hP hD dX0_node_11 (Or.inl ⟨by omega, rfl, rfl⟩)
abbrev rmX0_tap : Room := { frames := 1, cells := 0, slots := 0, locals := 21 }
set_option maxHeartbeats 4000000 in
/-- tap(sm, aa, co) -/
theorem metX0_tap (l : Launch) {D : va_G} {h : Nat} {ad : Nat → Nat} {cd : Nat → ClassId} {G : XG} {F : Bool × Bool} {O : XO} {C : XC} {M : XM} {k : Nat} (sz : Nat) (sm aa co : Int32) (hg : gok G) : MetI l yX0_tap cX0_tap 5 .int rmX0_tap D vwCl (tX cd) (wX h ad cd G F O C M k) sz [.ref h, .int sm, .int aa, .int co] (fun (r : Int32) (u : XG × Bool × XM × Nat) => (¬ tok G sm aa co ∧ r = -1 ∧ u = (G, F.1, M, k)) ∨ ∃ i T, i < G.1 ∧ sm = nI i ∧ G.2.1 i = 10 ∧ tin aa co ∧ G.2.2.2.2.1 i = nI T ∧ T ≤ 6 ∧ ((T = 6 ∧ r = -2 ∧ u = (G, F.1, M, k)) ∨ (T < 6 ∧ r = nI (T + 1) ∧ u = (gTap G i T (b8 aa) co, false, (zf M.1 42, M.2), 0)))) (fun u => wX h ad cd u.1 (u.2.1, F.2) O C u.2.2.1 u.2.2.2) := by
  refine zz_startI (own := RX0) (by decide) rfl (Nat.le_of_ble_eq_true rfl) ?_
  intro p e s m below meth c Q A ls args hx hb hr hml hown hts hlocks hA hK hP hD hS hl hQ
  have hl : lv_has ls 5 [(0, .ref h), (1, .int sm), (2, .int aa), (3, .int co)] := hl
  have hn := hg.1
  refine lv_iload_n hx hb dX0_tap_0 rfl (lv_at hl 1 rfl) ?_
  refine lv_if_lt (tgt := 23) hx hb dX0_tap_1 (by decide) (fun c_1 => ?_) (fun c_1 => ?_)
  · refine lv_iconst (v := (-1)) hx hb dX0_tap_23 (by decide) ?_
    exact zz_iret hx hb hr hlocks hK hQ hS ((G, F.1, M, k)) hP hD dX0_tap_24 (Or.inl ⟨fun ⟨i, hi, e, _⟩ => absurd (e ▸ c_1) (nI_pos (by omega)), rfl, rfl⟩)
  · refine lv_iload_n hx hb dX0_tap_4 rfl (lv_at hl 1 rfl) ?_
    refine lv_aload_n hx hb dX0_tap_5 rfl (lv_at hl 0 rfl) ?_
    refine xg_0 hx hb hts hown hK hP dX0_tap_6 ?_
    refine lv_icmp_ge (tgt := 23) hx hb dX0_tap_9 (by decide) (fun c_9 => ?_) (fun c_9 => ?_)
    · refine lv_iconst (v := (-1)) hx hb dX0_tap_23 (by decide) ?_
      exact zz_iret hx hb hr hlocks hK hQ hS ((G, F.1, M, k)) hP hD dX0_tap_24 (Or.inl ⟨fun ⟨i, hi, e, _⟩ => absurd (e ▸ c_9) (nI_ge hi (by omega)), rfl, rfl⟩)
    · obtain ⟨i, hi, rfl⟩ := pk_ixn hn c_1 c_9
      obtain ⟨-, T, hT6, hT, -, -⟩ := hg.2 i hi
      refine lv_aload_n hx hb dX0_tap_12 rfl (lv_at hl 0 rfl) ?_
      refine xg_1 hx hb hts hown hK hP dX0_tap_13 ?_
      refine lv_iload_n hx hb dX0_tap_16 rfl (lv_at hl 1 rfl) ?_
      refine xl_1 hx hb hK hP i (by omega) rfl dX0_tap_17 ?_
      refine lv_bipush (v := 10) hx hb dX0_tap_18 (by decide) ?_
      refine lv_icmp_eq (tgt := 25) hx hb dX0_tap_20 (by decide) (fun c_20 => ?_) (fun c_20 => ?_)
      · refine lv_aload_n hx hb dX0_tap_25 rfl (lv_at hl 0 rfl) ?_
        refine lv_iload_n hx hb dX0_tap_26 rfl (lv_at hl 2 rfl) ?_
        refine zz_calli ⟨hx, hb, hml, hown, hts⟩ hK hP hD hS hA rfl rfl (metX0_isNumber l _ aa) (cw_X0_isNumber hts ⟨Nat.le_of_ble_eq_true rfl, Nat.le_of_ble_eq_true rfl⟩) rfl hl.1 rfl (Nat.le_of_ble_eq_true rfl) dX0_tap_27 ⟨Nat.zero_le _, Nat.zero_le _⟩ (fun r1 _ H locs hr1 hP hD hS => ?_)
        refine lv_if_eq (tgt := 47) hx hb dX0_tap_30 (by decide) (fun c_30 => ?_) (fun c_30 => ?_)
        · refine lv_iconst (v := (-1)) hx hb dX0_tap_47 (by decide) ?_
          exact zz_iret hx hb hr hlocks hK hQ hS ((G, F.1, M, k)) hP hD dX0_tap_48 (Or.inl ⟨fun ⟨j, hj, e, hk, q⟩ => isNo_0 (hr1.symm.trans c_30) ⟨q.1, q.2.1⟩, rfl, rfl⟩)
        · refine lv_iload_n hx hb dX0_tap_33 rfl (lv_at hl 3 rfl) ?_
          refine lv_sipush (v := (-32768)) hx hb dX0_tap_34 (by decide) ?_
          refine lv_icmp_lt (tgt := 47) hx hb dX0_tap_37 (by decide) (fun c_37 => ?_) (fun c_37 => ?_)
          · refine lv_iconst (v := (-1)) hx hb dX0_tap_47 (by decide) ?_
            exact zz_iret hx hb hr hlocks hK hQ hS ((G, F.1, M, k)) hP hD dX0_tap_48 (Or.inl ⟨fun ⟨j, hj, e, hk, q⟩ => i_alt c_37 q.2.2.1, rfl, rfl⟩)
          · refine lv_iload_n hx hb dX0_tap_40 rfl (lv_at hl 3 rfl) ?_
            refine lv_sipush (v := 32767) hx hb dX0_tap_41 (by decide) ?_
            refine lv_icmp_le (tgt := 49) hx hb dX0_tap_44 (by decide) (fun c_44 => ?_) (fun c_44 => ?_)
            · refine lv_aload_n hx hb dX0_tap_49 rfl (lv_at hl 0 rfl) ?_
              refine xg_4 hx hb hts hown hK hP dX0_tap_50 ?_
              refine lv_iload_n hx hb dX0_tap_53 rfl (lv_at hl 1 rfl) ?_
              refine xl_4 hx hb hK hP i (by omega) rfl dX0_tap_54 ?_
              refine lv_bipush (v := 6) hx hb dX0_tap_55 (by decide) ?_
              refine lv_icmp_lt (tgt := 63) hx hb dX0_tap_57 (by decide) (fun c_57 => ?_) (fun c_57 => ?_)
              · refine lv_bipush (v := 6) hx hb dX0_tap_63 (by decide) ?_
                refine lv_iload_n hx hb dX0_tap_65 rfl (lv_at hl 1 rfl) ?_
                refine lv_imul hx hb dX0_tap_66 ?_
                refine lv_aload_n hx hb dX0_tap_67 rfl (lv_at hl 0 rfl) ?_
                refine xg_4 hx hb hts hown hK hP dX0_tap_68 ?_
                refine lv_iload_n hx hb dX0_tap_71 rfl (lv_at hl 1 rfl) ?_
                refine xl_4 hx hb hK hP i (by omega) rfl dX0_tap_72 ?_
                refine lv_iadd hx hb dX0_tap_73 ?_
                refine lv_topi (fun at_ eat_ => ?_)
                have hat : at_ = nI (6 * i + T) := by rw [eat_, hT]; exact six i T
                have hT7 : T < 6 := by rw [hT] at c_57; exact (nI_ltI (by omega) (by decide)).mp c_57
                refine lv_istore (lv' := [(4, .int _), (0, .ref _), (1, .int _), (2, .int _), (3, .int _)]) hx hb dX0_tap_74 hl (by decide) rfl (fun ls hl => ?_)
                refine lv_aload_n hx hb dX0_tap_76 rfl (lv_at hl 1 rfl) ?_
                refine xg_5 hx hb hts hown hK hP dX0_tap_77 ?_
                refine lv_iload hx hb dX0_tap_80 (lv_at hl 0 rfl) ?_
                refine lv_iload_n hx hb dX0_tap_82 rfl (lv_at hl 3 rfl) ?_
                refine lv_i2b hx hb dX0_tap_83 rfl ?_
                refine xs_5 hx hb hK hP hD hS (6 * i + T) (by omega) hat (b8 aa) (pk_vb _) dX0_tap_84 (fun H locs hP hD hS => ?_)
                refine lv_aload_n hx hb dX0_tap_85 rfl (lv_at hl 1 rfl) ?_
                refine xg_6 hx hb hts hown hK hP dX0_tap_86 ?_
                refine lv_iload hx hb dX0_tap_89 (lv_at hl 0 rfl) ?_
                refine lv_iload_n hx hb dX0_tap_91 rfl (lv_at hl 4 rfl) ?_
                refine xs_6 hx hb hK hP hD hS (6 * i + T) (by omega) hat dX0_tap_92 (fun H locs hP hD hS => ?_)
                refine lv_aload_n hx hb dX0_tap_93 rfl (lv_at hl 1 rfl) ?_
                refine xg_4 hx hb hts hown hK hP dX0_tap_94 ?_
                refine lv_iload_n hx hb dX0_tap_97 rfl (lv_at hl 2 rfl) ?_
                refine lv_dup2_11 hx hb dX0_tap_98 rfl rfl ?_
                refine xl_4 hx hb hK hP i (by omega) rfl dX0_tap_99 ?_
                refine lv_iconst (v := 1) hx hb dX0_tap_100 (by decide) ?_
                refine lv_iadd hx hb dX0_tap_101 ?_
                refine lv_i2b hx hb dX0_tap_102 rfl ?_
                refine xs_4 hx hb hK hP hD hS i (by omega) rfl (nI (T + 1)) (by show vp_nar .byte (G.2.2.2.2.1 i + 1).toInt8.toInt32 = nI (T + 1); rw [hT, nI_1, pk_vb, b8_nI (by omega)]) dX0_tap_103 (fun H locs hP hD hS => ?_)
                refine lv_aload_n hx hb dX0_tap_104 rfl (lv_at hl 1 rfl) ?_
                refine lv_iconst (v := 0) hx hb dX0_tap_105 (by decide) ?_
                refine xp_7 hx hb hts hown hK hP hD hS false rfl dX0_tap_106 (fun H locs hP hD hS => ?_)
                refine lv_aload_n hx hb dX0_tap_109 rfl (lv_at hl 1 rfl) ?_
                refine zz_callv ⟨hx, hb, hml, hown, hts⟩ hK hP hD hS hA rfl rfl (metX0_restart l _) (cw_X0_restart hts ⟨Nat.le_of_ble_eq_true rfl, Nat.le_of_ble_eq_true rfl⟩) rfl hl.1 rfl (Nat.le_of_ble_eq_true rfl) dX0_tap_110 ⟨Nat.zero_le _, Nat.zero_le _⟩ (fun _ H locs _ hP hD hS => ?_)
                refine lv_aload_n hx hb dX0_tap_113 rfl (lv_at hl 1 rfl) ?_
                refine xg_4 hx hb hts hown hK hP dX0_tap_114 ?_
                refine lv_iload_n hx hb dX0_tap_117 rfl (lv_at hl 2 rfl) ?_
                refine xl_4 hx hb hK hP i (by omega) rfl dX0_tap_118 ?_
                exact zz_iret hx hb hr hlocks hK hQ hS ((gTap G i T (b8 aa) co, false, (zf M.1 42, M.2), 0)) hP hD dX0_tap_119 (by
        have hn1 := isNo_1 (show ¬ isNo aa = 0 by rw [← hr1]; exact c_30)
        exact Or.inr ⟨i, T, hi, rfl, c_20, ⟨hn1.1, hn1.2, i_nlt c_37, c_44⟩, hT, hT6, Or.inr ⟨hT7, pk_us, rfl⟩⟩)
              · refine lv_bipush (v := (-2)) hx hb dX0_tap_60 (by decide) ?_
                exact zz_iret hx hb hr hlocks hK hQ hS ((G, F.1, M, k)) hP hD dX0_tap_62 (by
        have hn1 := isNo_1 (show ¬ isNo aa = 0 by rw [← hr1]; exact c_30)
        exact Or.inr ⟨i, T, hi, rfl, c_20, ⟨hn1.1, hn1.2, i_nlt c_37, c_44⟩, hT, hT6, Or.inl ⟨by
          rcases Nat.lt_or_ge T 6 with q | q
          · exact absurd (by rw [hT]; exact nI_lt q (by decide)) c_57
          · omega, rfl, rfl⟩⟩)
            · refine lv_iconst (v := (-1)) hx hb dX0_tap_47 (by decide) ?_
              exact zz_iret hx hb hr hlocks hK hQ hS ((G, F.1, M, k)) hP hD dX0_tap_48 (Or.inl ⟨fun ⟨j, hj, e, hk, q⟩ => c_44 q.2.2.2, rfl, rfl⟩)
      · refine lv_iconst (v := (-1)) hx hb dX0_tap_23 (by decide) ?_
        exact zz_iret hx hb hr hlocks hK hQ hS ((G, F.1, M, k)) hP hD dX0_tap_24 (Or.inl ⟨fun ⟨j, hj, e, hk, _⟩ => c_20 (by have e2 := (nI_eq (by omega) (by omega)).mp e; rw [e2]; exact hk), rfl, rfl⟩)
abbrev rmX0_namedBy : Room := { frames := 0, cells := 0, slots := 0, locals := 0 }
theorem cw_X0_namedBy {R : Room} {s : State} {args : Array Value} (hts : ∀ w ∈ lw_all, w.before args s = true) (hR : rmX0_namedBy.frames + 1 ≤ R.frames ∧ 8 + (5 + 11) + rmX0_namedBy.locals ≤ R.locals) : CallW R s args RX0 RX0 102 yX0_namedBy cX0_namedBy 5 (some .int) (ws_ yX0_namedBy cX0_namedBy 5 (some .int)) rmX0_namedBy 0 0 1 := cwV 1 hts (lw_V q127 q129 qs3 q25 q130) rfl rfl rfl (by decide +kernel) hR
set_option maxHeartbeats 4000000 in
/-- namedBy(i) -/
theorem metX0_namedBy (l : Launch) {D : va_G} {h : Nat} {ad : Nat → Nat} {cd : Nat → ClassId} {G : XG} {F : Bool × Bool} {O : XO} {C : XC} {M : XM} {k : Nat} (sz : Nat) (i T : Nat) (hi : i < 20) (hn : G.1 ≤ 20) (hT6 : T ≤ 6) (hT : G.2.2.2.2.1 i = nI T) : MetI l yX0_namedBy cX0_namedBy 5 .int rmX0_namedBy D vwCl (tX cd) (wX h ad cd G F O C M k) sz [.ref h, .int (nI i)] (fun r (_ : Unit) => r = nbX G i) (fun _ => wX h ad cd G F O C M k) := by
  refine zz_startI (own := RX0) (by decide) rfl (Nat.le_of_ble_eq_true rfl) ?_
  intro p e s m below meth c Q A ls args hx hb hr hml hown hts hlocks hA hK hP hD hS hl hQ
  have hl : lv_has ls 5 [(0, .ref h), (1, .int (nI i))] := hl
  have loop2 : ∀ (d j : Nat), j + d = 20 → ∀ (v : Int32) (ls : Array Slot), v = mskX G (nbX3 G i) j → lv_has ls 5 [(4, .int (nI j)), (3, .int v), (2, .int (G.2.1 i)), (1, .int (nI i)), (0, .ref h)] → W p l e rmX0_namedBy s m args below meth c s.heap [] 0 0 Q (F0 m 98 ls []) := by
    intro d
    induction d with
    | zero =>
      intro j hj v ls hv hl
      obtain rfl : j = 20 := by omega
      refine lv_iload hx hb dX0_namedBy_98 (lv_at hl 0 rfl) ?_
      refine lv_bipush (v := 20) hx hb dX0_namedBy_100 (by decide) ?_
      refine lv_icmp_ge (tgt := 140) hx hb dX0_namedBy_102 (by decide) (fun c_102 => ?_) (fun c_102 => absurd (by decide) c_102)
      refine lv_iload_n hx hb dX0_namedBy_140 rfl (lv_at hl 1 rfl) ?_
      exact zz_iret hx hb hr hlocks hK hQ hS (()) hP hD dX0_namedBy_141 (hv)
    | succ d ih =>
      intro j hj v ls hv hl
      refine lv_iload hx hb dX0_namedBy_98 (lv_at hl 0 rfl) ?_
      refine lv_bipush (v := 20) hx hb dX0_namedBy_100 (by decide) ?_
      refine lv_icmp_ge (tgt := 140) hx hb dX0_namedBy_102 (by decide) (fun c_102 => absurd c_102 (nI_ge (show j < 20 by omega) (by decide))) (fun c_102 => ?_)
      refine lv_iload hx hb dX0_namedBy_105 (lv_at hl 0 rfl) ?_
      refine lv_aload_n hx hb dX0_namedBy_107 rfl (lv_at hl 4 rfl) ?_
      refine xg_0 hx hb hts hown hK hP dX0_namedBy_108 ?_
      refine lv_icmp_ge (tgt := 125) hx hb dX0_namedBy_111 (by decide) (fun c_111 => ?_) (fun c_111 => ?_)
      · refine lv_iload_n hx hb dX0_namedBy_125 rfl (lv_at hl 1 rfl) ?_
        refine lv_iconst (v := 1) hx hb dX0_namedBy_126 (by decide) ?_
        refine lv_iload hx hb dX0_namedBy_127 (lv_at hl 0 rfl) ?_
        refine lv_ishl hx hb dX0_namedBy_129 ?_
        refine lv_iconst (v := (-1)) hx hb dX0_namedBy_130 (by decide) ?_
        refine lv_ixor hx hb dX0_namedBy_131 ?_
        refine lv_iand hx hb dX0_namedBy_132 ?_
        refine lv_istore_n (lv' := [(3, .int _), (4, .int _), (2, .int _), (1, .int _), (0, .ref _)]) hx hb dX0_namedBy_133 rfl hl (by decide) rfl (fun ls hl => ?_)
        refine lv_iinc (v := nI (j + 1)) (lv' := [(4, .int _), (3, .int _), (2, .int _), (1, .int _), (0, .ref _)]) hx hb dX0_namedBy_134 hl (k := 1) rfl (nI_1 j) (by decide) rfl (fun ls hl => ?_)
        refine lv_goto (tgt := 98) hx hb dX0_namedBy_137 (by decide) ?_
        exact ih (j + 1) (by omega) _ ls (by rw [hv]; simp only [mskX, if_pos c_111]) (lv_sub hl [0, 1, 2, 3, 4] rfl)
      · refine lv_aload_n hx hb dX0_namedBy_114 rfl (lv_at hl 4 rfl) ?_
        refine xg_1 hx hb hts hown hK hP dX0_namedBy_115 ?_
        refine lv_iload hx hb dX0_namedBy_118 (lv_at hl 0 rfl) ?_
        refine xl_1 hx hb hK hP j (by omega) rfl dX0_namedBy_120 ?_
        refine lv_iconst (v := 2) hx hb dX0_namedBy_121 (by decide) ?_
        refine lv_icmp_ne (tgt := 134) hx hb dX0_namedBy_122 (by decide) (fun c_122 => ?_) (fun c_122 => ?_)
        · refine lv_iinc (v := nI (j + 1)) (lv' := [(4, .int _), (3, .int _), (2, .int _), (1, .int _), (0, .ref _)]) hx hb dX0_namedBy_134 hl (k := 0) rfl (nI_1 j) (by decide) rfl (fun ls hl => ?_)
          refine lv_goto (tgt := 98) hx hb dX0_namedBy_137 (by decide) ?_
          exact ih (j + 1) (by omega) _ ls (by rw [hv]; simp only [mskX, if_neg c_111, if_neg c_122]) (lv_sub hl [0, 1, 2, 3, 4] rfl)
        · refine lv_iload_n hx hb dX0_namedBy_125 rfl (lv_at hl 1 rfl) ?_
          refine lv_iconst (v := 1) hx hb dX0_namedBy_126 (by decide) ?_
          refine lv_iload hx hb dX0_namedBy_127 (lv_at hl 0 rfl) ?_
          refine lv_ishl hx hb dX0_namedBy_129 ?_
          refine lv_iconst (v := (-1)) hx hb dX0_namedBy_130 (by decide) ?_
          refine lv_ixor hx hb dX0_namedBy_131 ?_
          refine lv_iand hx hb dX0_namedBy_132 ?_
          refine lv_istore_n (lv' := [(3, .int _), (4, .int _), (2, .int _), (1, .int _), (0, .ref _)]) hx hb dX0_namedBy_133 rfl hl (by decide) rfl (fun ls hl => ?_)
          refine lv_iinc (v := nI (j + 1)) (lv' := [(4, .int _), (3, .int _), (2, .int _), (1, .int _), (0, .ref _)]) hx hb dX0_namedBy_134 hl (k := 1) rfl (nI_1 j) (by decide) rfl (fun ls hl => ?_)
          refine lv_goto (tgt := 98) hx hb dX0_namedBy_137 (by decide) ?_
          exact ih (j + 1) (by omega) _ ls (by rw [hv]; simp only [mskX, if_neg c_111, if_pos c_122]) (lv_sub hl [0, 1, 2, 3, 4] rfl)
  have J95 : ∀ (v : Int32) (ls : Array Slot), v = nbX3 G i → lv_has ls 5 [(3, .int v), (2, .int (G.2.1 i)), (1, .int (nI i)), (0, .ref h)] → W p l e rmX0_namedBy s m args below meth c s.heap [] 0 0 Q (F0 m 95 ls []) := by
    intro v ls hv hl
    refine lv_iconst (v := 0) hx hb dX0_namedBy_95 (by decide) ?_
    refine lv_istore (lv' := [(4, .int _), (3, .int _), (2, .int _), (1, .int _), (0, .ref _)]) hx hb dX0_namedBy_96 hl (by decide) rfl (fun ls hl => ?_)
    exact loop2 20 0 rfl v ls hv (lv_sub hl [0, 1, 2, 3, 4] rfl)
  have loop1 : G.2.1 i = 10 → ∀ (d t : Nat), t + d = T → ∀ (v : Int32) (ls : Array Slot), v = tpO G i (nbX2 G i) t → lv_has ls 5 [(4, .int (nI t)), (3, .int v), (2, .int (G.2.1 i)), (1, .int (nI i)), (0, .ref h)] → W p l e rmX0_namedBy s m args below meth c s.heap [] 0 0 Q (F0 m 61 ls []) := by
    intro h10 d
    induction d with
    | zero =>
      intro t ht v ls hv hl
      obtain rfl : t = T := by omega
      refine lv_iload hx hb dX0_namedBy_61 (lv_at hl 0 rfl) ?_
      refine lv_aload_n hx hb dX0_namedBy_63 rfl (lv_at hl 4 rfl) ?_
      refine xg_4 hx hb hts hown hK hP dX0_namedBy_64 ?_
      refine lv_iload_n hx hb dX0_namedBy_67 rfl (lv_at hl 3 rfl) ?_
      refine xl_4 hx hb hK hP i hi rfl dX0_namedBy_68 ?_
      refine lv_icmp_ge (tgt := 95) hx hb dX0_namedBy_69 (by decide) (fun c_69 => ?_) (fun c_69 => absurd (by rw [hT]; exact nI_le (Nat.le_refl _) (by omega)) c_69)
      exact J95 v ls (by rw [hv, nbX3, if_pos h10, hT, nI_clamp (by omega)]) (lv_sub hl [1, 2, 3, 4] rfl)
    | succ d ih =>
      intro t ht v ls hv hl
      refine lv_iload hx hb dX0_namedBy_61 (lv_at hl 0 rfl) ?_
      refine lv_aload_n hx hb dX0_namedBy_63 rfl (lv_at hl 4 rfl) ?_
      refine xg_4 hx hb hts hown hK hP dX0_namedBy_64 ?_
      refine lv_iload_n hx hb dX0_namedBy_67 rfl (lv_at hl 3 rfl) ?_
      refine xl_4 hx hb hK hP i hi rfl dX0_namedBy_68 ?_
      refine lv_icmp_ge (tgt := 95) hx hb dX0_namedBy_69 (by decide) (fun c_69 => absurd c_69 (by rw [hT]; exact nI_ge (by omega) (by omega))) (fun c_69 => ?_)
      refine lv_iload_n hx hb dX0_namedBy_72 rfl (lv_at hl 1 rfl) ?_
      refine lv_iconst (v := 1) hx hb dX0_namedBy_73 (by decide) ?_
      refine lv_aload_n hx hb dX0_namedBy_74 rfl (lv_at hl 4 rfl) ?_
      refine xg_5 hx hb hts hown hK hP dX0_namedBy_75 ?_
      refine lv_bipush (v := 6) hx hb dX0_namedBy_78 (by decide) ?_
      refine lv_iload_n hx hb dX0_namedBy_80 rfl (lv_at hl 3 rfl) ?_
      refine lv_imul hx hb dX0_namedBy_81 ?_
      refine lv_iload hx hb dX0_namedBy_82 (lv_at hl 0 rfl) ?_
      refine lv_iadd hx hb dX0_namedBy_84 ?_
      refine xl_5 hx hb hK hP (6 * i + t) (by omega) (six i t) dX0_namedBy_85 ?_
      refine lv_ishl hx hb dX0_namedBy_86 ?_
      refine lv_ior hx hb dX0_namedBy_87 ?_
      refine lv_istore_n (lv' := [(3, .int _), (4, .int _), (2, .int _), (1, .int _), (0, .ref _)]) hx hb dX0_namedBy_88 rfl hl (by decide) rfl (fun ls hl => ?_)
      refine lv_iinc (v := nI (t + 1)) (lv' := [(4, .int _), (3, .int _), (2, .int _), (1, .int _), (0, .ref _)]) hx hb dX0_namedBy_89 hl (k := 1) rfl (nI_1 t) (by decide) rfl (fun ls hl => ?_)
      refine lv_goto (tgt := 61) hx hb dX0_namedBy_92 (by decide) ?_
      exact ih (t + 1) (by omega) _ ls (by rw [hv]; rfl) (lv_sub hl [0, 1, 2, 3, 4] rfl)
  have J52 : ∀ (v : Int32) (ls : Array Slot), v = nbX2 G i → lv_has ls 5 [(3, .int v), (2, .int (G.2.1 i)), (1, .int (nI i)), (0, .ref h)] → W p l e rmX0_namedBy s m args below meth c s.heap [] 0 0 Q (F0 m 52 ls []) := by
    intro v ls hv hl
    refine lv_iload_n hx hb dX0_namedBy_52 rfl (lv_at hl 1 rfl) ?_
    refine lv_bipush (v := 10) hx hb dX0_namedBy_53 (by decide) ?_
    refine lv_icmp_ne (tgt := 95) hx hb dX0_namedBy_55 (by decide) (fun c_55 => ?_) (fun c_55 => ?_)
    · exact J95 v ls (by rw [hv, nbX3, if_neg c_55]) (lv_sub hl [0, 1, 2, 3] rfl)
    · refine lv_iconst (v := 0) hx hb dX0_namedBy_58 (by decide) ?_
      refine lv_istore (lv' := [(4, .int _), (3, .int _), (2, .int _), (1, .int _), (0, .ref _)]) hx hb dX0_namedBy_59 hl (by decide) rfl (fun ls hl => ?_)
      exact loop1 c_55 T 0 (Nat.zero_add T) v ls hv (lv_sub hl [0, 1, 2, 3, 4] rfl)
  have J31 : ∀ (v : Int32) (ls : Array Slot), v = nbX1 G i → lv_has ls 5 [(3, .int v), (2, .int (G.2.1 i)), (1, .int (nI i)), (0, .ref h)] → W p l e rmX0_namedBy s m args below meth c s.heap [] 0 0 Q (F0 m 31 ls []) := by
    intro v ls hv hl
    refine lv_iload_n hx hb dX0_namedBy_31 rfl (lv_at hl 1 rfl) ?_
    refine lv_iconst (v := 3) hx hb dX0_namedBy_32 (by decide) ?_
    refine lv_icmp_lt (tgt := 52) hx hb dX0_namedBy_33 (by decide) (fun c_33 => ?_) (fun c_33 => ?_)
    · exact J52 _ ls (by rw [hv]; simp only [nbX2, if_pos c_33]) (lv_sub hl [0, 1, 2, 3] rfl)
    · refine lv_iload_n hx hb dX0_namedBy_36 rfl (lv_at hl 1 rfl) ?_
      refine lv_iconst (v := 5) hx hb dX0_namedBy_37 (by decide) ?_
      refine lv_icmp_gt (tgt := 52) hx hb dX0_namedBy_38 (by decide) (fun c_38 => ?_) (fun c_38 => ?_)
      · exact J52 _ ls (by rw [hv]; simp only [nbX2, if_neg c_33, if_pos c_38]) (lv_sub hl [0, 1, 2, 3] rfl)
      · refine lv_iload_n hx hb dX0_namedBy_41 rfl (lv_at hl 0 rfl) ?_
        refine lv_iconst (v := 1) hx hb dX0_namedBy_42 (by decide) ?_
        refine lv_aload_n hx hb dX0_namedBy_43 rfl (lv_at hl 3 rfl) ?_
        refine xg_3 hx hb hts hown hK hP dX0_namedBy_44 ?_
        refine lv_iload_n hx hb dX0_namedBy_47 rfl (lv_at hl 2 rfl) ?_
        refine xl_3 hx hb hK hP i hi rfl dX0_namedBy_48 ?_
        refine lv_ishl hx hb dX0_namedBy_49 ?_
        refine lv_ior hx hb dX0_namedBy_50 ?_
        refine lv_istore_n (lv' := [(3, .int _), (2, .int _), (1, .int _), (0, .ref _)]) hx hb dX0_namedBy_51 rfl hl (by decide) rfl (fun ls hl => ?_)
        exact J52 _ ls (by rw [hv]; simp only [nbX2, if_neg c_33, if_neg c_38]) (lv_sub hl [0, 1, 2, 3] rfl)
  refine lv_aload_n hx hb dX0_namedBy_0 rfl (lv_at hl 0 rfl) ?_
  refine xg_1 hx hb hts hown hK hP dX0_namedBy_1 ?_
  refine lv_iload_n hx hb dX0_namedBy_4 rfl (lv_at hl 1 rfl) ?_
  refine xl_1 hx hb hK hP i hi rfl dX0_namedBy_5 ?_
  refine lv_istore_n (lv' := [(2, .int _), (0, .ref _), (1, .int _)]) hx hb dX0_namedBy_6 rfl hl (by decide) rfl (fun ls hl => ?_)
  refine lv_iconst (v := 0) hx hb dX0_namedBy_7 (by decide) ?_
  refine lv_istore_n (lv' := [(3, .int _), (2, .int _), (0, .ref _), (1, .int _)]) hx hb dX0_namedBy_8 rfl hl (by decide) rfl (fun ls hl => ?_)
  refine lv_iload_n hx hb dX0_namedBy_9 rfl (lv_at hl 1 rfl) ?_
  refine lv_iconst (v := 3) hx hb dX0_namedBy_10 (by decide) ?_
  refine lv_icmp_lt (tgt := 31) hx hb dX0_namedBy_11 (by decide) (fun c_11 => ?_) (fun c_11 => ?_)
  · exact J31 _ ls (by simp only [nbX1, if_pos c_11]) (lv_sub hl [0, 1, 3, 2] rfl)
  · refine lv_iload_n hx hb dX0_namedBy_14 rfl (lv_at hl 1 rfl) ?_
    refine lv_bipush (v := 9) hx hb dX0_namedBy_15 (by decide) ?_
    refine lv_icmp_gt (tgt := 31) hx hb dX0_namedBy_17 (by decide) (fun c_17 => ?_) (fun c_17 => ?_)
    · exact J31 _ ls (by simp only [nbX1, if_neg c_11, if_pos c_17]) (lv_sub hl [0, 1, 3, 2] rfl)
    · refine lv_iload_n hx hb dX0_namedBy_20 rfl (lv_at hl 0 rfl) ?_
      refine lv_iconst (v := 1) hx hb dX0_namedBy_21 (by decide) ?_
      refine lv_aload_n hx hb dX0_namedBy_22 rfl (lv_at hl 2 rfl) ?_
      refine xg_2 hx hb hts hown hK hP dX0_namedBy_23 ?_
      refine lv_iload_n hx hb dX0_namedBy_26 rfl (lv_at hl 3 rfl) ?_
      refine xl_2 hx hb hK hP i hi rfl dX0_namedBy_27 ?_
      refine lv_ishl hx hb dX0_namedBy_28 ?_
      refine lv_ior hx hb dX0_namedBy_29 ?_
      refine lv_istore_n (lv' := [(3, .int _), (2, .int _), (0, .ref _), (1, .int _)]) hx hb dX0_namedBy_30 rfl hl (by decide) rfl (fun ls hl => ?_)
      exact J31 _ ls (by simp only [nbX1, if_neg c_11, if_neg c_17]) (lv_sub hl [0, 1, 3, 2] rfl)
end
section
/-! the model's tests, plain -/
set_option maxRecDepth 100000
theorem isNo_nar (a : Int32) : narrow .boolean (.int (isNo a)) = .int (isNo a) := by
  unfold isNo
  split
  · rfl
  · split <;> rfl
theorem isVal_nar (a : Int32) : narrow .boolean (.int (isVal a)) = .int (isVal a) := by
  unfold isVal
  split
  · rfl
  · split <;> rfl
theorem isNo_or (a : Int32) : isNo a = 0 ∨ isNo a = 1 := by
  unfold isNo
  split
  · exact Or.inl rfl
  · split
    · exact Or.inl rfl
    · exact Or.inr rfl
theorem isVal_or (a : Int32) : isVal a = 0 ∨ isVal a = 1 := by
  unfold isVal
  split
  · exact Or.inl rfl
  · split
    · exact Or.inl rfl
    · exact Or.inr rfl
/-- what fits answers -/
def fitR (k a b r : Int32) : Prop := (r = 1 ∧ nok k a b) ∨ (r = 0 ∧ ¬ nok k a b)
theorem fit_1 {k a b r : Int32} (h1 : k = 1) (hr : r = isVal a) : fitR k a b r := by
  subst h1
  subst hr
  rcases isVal_or a with e | e
  · exact Or.inr ⟨e, fun q => isVal_0 e (q.2.2.1 rfl)⟩
  · refine Or.inl ⟨e, by decide, by decide, fun _ => isVal_1 (by rw [e]; decide), fun q => absurd q (by decide), fun q => absurd q (by decide), fun q => absurd q (by decide), fun q => absurd q (by decide)⟩
theorem fit_n {k a b : Int32} (h : ¬ nok k a b) : fitR k a b 0 := Or.inr ⟨rfl, h⟩
theorem fit_two {k a b r : Int32} (h0 : 0 ≤ k ∧ k ≤ 10 ∧ ¬ k = 1 ∧ (2 ≤ k → k ≤ 9 → 0 ≤ a ∧ a ≤ 19)) (hl : ¬ k < 3) (hh : ¬ 5 < k) (hr : r = isNo b) : fitR k a b r := by
  subst hr
  rcases isNo_or b with e | e
  · exact Or.inr ⟨e, fun q => isNo_0 e (q.2.2.2.2.1 (i_nlt hl) (i_nlt hh))⟩
  · refine Or.inl ⟨e, h0.1, h0.2.1, fun q => absurd q h0.2.2.1, h0.2.2.2, fun _ _ => isNo_1 (by rw [e]; decide), fun q => ?_, fun q => ?_⟩
    · subst q; exact absurd (by decide) hh
    · subst q; exact absurd (by decide) hh
theorem fit_y {k a b : Int32} (h0 : 0 ≤ k ∧ k ≤ 10 ∧ ¬ k = 1 ∧ (2 ≤ k → k ≤ 9 → 0 ≤ a ∧ a ≤ 19)) (h3 : k < 3 ∨ 5 < k) (h8 : k = 8 → 0 ≤ b ∧ b ≤ 7) (h9 : k = 9 → 0 ≤ b ∧ b ≤ 15) : fitR k a b 1 := by
  refine Or.inl ⟨rfl, h0.1, h0.2.1, fun q => absurd q h0.2.2.1, h0.2.2.2, fun p q => ?_, h8, h9⟩
  rcases h3 with h | h
  · exact absurd p (i_alt h)
  · exact absurd q (i_alt h)
theorem fit_nar {k a b r : Int32} (h : fitR k a b r) : narrow .boolean (.int r) = .int r := by
  rcases h with ⟨e, -⟩ | ⟨e, -⟩ <;> subst e <;> rfl
theorem nok_a {G : XG} {i : Nat} (hg : gok G) (hi : i < G.1) (h2 : ¬ G.2.1 i < 2) (h9 : ¬ 9 < G.2.1 i) : ∃ a, a < 20 ∧ G.2.2.1 i = nI a := by
  obtain ⟨h, -⟩ := hg.2 i hi
  obtain ⟨p1, p2⟩ := h.2.2.2.1 (i_nlt h2) (i_nlt h9)
  obtain ⟨j, hj, e⟩ := nI_of2 (n := 19) (M := 19) (by decide) (i_ale p1) p2
  exact ⟨j, by omega, e⟩
theorem nok_b {G : XG} {i : Nat} (hg : gok G) (hi : i < G.1) (h3 : ¬ G.2.1 i < 3) (h5 : ¬ 5 < G.2.1 i) : ∃ a, a < 20 ∧ G.2.2.2.1 i = nI a := by
  obtain ⟨h, -⟩ := hg.2 i hi
  obtain ⟨p1, p2⟩ := h.2.2.2.2.1 (i_nlt h3) (i_nlt h5)
  obtain ⟨j, hj, e⟩ := nI_of2 (n := 19) (M := 19) (by decide) (i_ale p1) p2
  exact ⟨j, by omega, e⟩
theorem nwA_in {G : XG} {nw : Nat → Int32} {j : Nat} (hj : j < G.1) (hn : G.1 ≤ 20) : nwA G nw (nI j) = nw j := by
  rw [nwA, if_neg (nI_ge hj (by omega)), nI_clamp (by omega)]
/-- the kinds that are left at the end of worth -/
theorem kd_left {k : Int32} (h0 : 0 ≤ k) (h10 : k ≤ 10) (c0 : ¬ k = 0) (c1 : ¬ k = 1) (c10 : ¬ k = 10) (c2 : ¬ k = 2) : ¬ k < 3 ∧ ¬ 9 < k := by
  simp only [i_lt, i_le, i_eq, i_0, i_1, i_2, i_3, i_9, i_10] at *
  omega
theorem kd_left2 {k : Int32} (h : ¬ k < 3 ∧ ¬ 9 < k) (c6 : ¬ k = 6) (c7 : ¬ k = 7) (c8 : ¬ k = 8) (c9 : ¬ k = 9) : ¬ 5 < k := by
  simp only [i_lt, i_eq, i_3, i_5, i_6, i_7, i_8, i_9] at *
  omega
/-- the last loop of sound -/
def bitI (x : Int32) (j : Nat) : Prop := (x >>> (nI j &&& 31)) &&& 1 = 1
def acy (G : XG) (nd : Nat → Int32) : Prop := ∀ i, i < G.1 → ¬ bitI (nd i) i
end
section
/-! the model: leaves -/
set_option maxRecDepth 100000
abbrev rmX1_isName : Room := { frames := 0, cells := 0, slots := 0, locals := 0 }
theorem cw_X1_isName {R : Room} {s : State} {args : Array Value} (hts : ∀ w ∈ lw_all, w.before args s = true) (hR : rmX1_isName.frames + 1 ≤ R.frames ∧ 8 + (2 + 11) + rmX1_isName.locals ≤ R.locals) : CallW R s args RX1 RX1 48 yX1_isName cX1_isName 2 (some .boolean) (ws_ yX1_isName cX1_isName 2 (some .boolean)) rmX1_isName 0 0 1 := cwV 1 hts (lw_V q256 q258 qs18 q26 q259) rfl rfl rfl (by decide +kernel) hR
set_option maxHeartbeats 4000000 in
/-- isName -/
theorem metX1_isName (l : Launch) {D : va_G} {h : Nat} {ad : Nat → Nat} {cd : Nat → ClassId} {G : XG} {nw bf nd : Nat → Int32} {k : Nat} (sz : Nat) (a : Int32) : MetI l yX1_isName cX1_isName 2 .boolean rmX1_isName D vwCl (tM cd) (wM h ad cd G nw bf nd k) sz [.ref h, .int a] (fun r (_ : Unit) => r = isNo a) (fun _ => wM h ad cd G nw bf nd k) := by
  refine zz_startI (own := RX1) (by decide) rfl (Nat.le_of_ble_eq_true rfl) ?_
  intro p e s m below meth c Q A ls args hx hb hr hml hown hts hlocks hA hK hP hD hS hl hQ
  have hl : lv_has ls 2 [(0, .ref h), (1, .int a)] := hl
  refine lv_iload_n hx hb dX1_isName_0 rfl (lv_at hl 1 rfl) ?_
  refine lv_if_lt (tgt := 14) hx hb dX1_isName_1 (by decide) (fun c_1 => ?_) (fun c_1 => ?_)
  · refine lv_iconst (v := 0) hx hb dX1_isName_14 (by decide) ?_
    exact zz_zret hx hb hr hlocks hK hQ hS (()) hP hD dX1_isName_15 (rfl) (by simp only [isNo, if_pos c_1])
  · refine lv_iload_n hx hb dX1_isName_4 rfl (lv_at hl 1 rfl) ?_
    refine lv_bipush (v := 19) hx hb dX1_isName_5 (by decide) ?_
    refine lv_icmp_gt (tgt := 14) hx hb dX1_isName_7 (by decide) (fun c_7 => ?_) (fun c_7 => ?_)
    · refine lv_iconst (v := 0) hx hb dX1_isName_14 (by decide) ?_
      exact zz_zret hx hb hr hlocks hK hQ hS (()) hP hD dX1_isName_15 (rfl) (by simp only [isNo, if_neg c_1, if_pos c_7])
    · refine lv_iconst (v := 1) hx hb dX1_isName_10 (by decide) ?_
      refine lv_goto (tgt := 15) hx hb dX1_isName_11 (by decide) ?_
      exact zz_zret hx hb hr hlocks hK hQ hS (()) hP hD dX1_isName_15 (rfl) (by simp only [isNo, if_neg c_1, if_neg c_7])
abbrev rmX1_isValue : Room := { frames := 0, cells := 0, slots := 0, locals := 0 }
theorem cw_X1_isValue {R : Room} {s : State} {args : Array Value} (hts : ∀ w ∈ lw_all, w.before args s = true) (hR : rmX1_isValue.frames + 1 ≤ R.frames ∧ 8 + (2 + 11) + rmX1_isValue.locals ≤ R.locals) : CallW R s args RX1 RX1 44 yX1_isValue cX1_isValue 2 (some .boolean) (ws_ yX1_isValue cX1_isValue 2 (some .boolean)) rmX1_isValue 0 0 1 := cwV 1 hts (lw_V q252 q254 qs17 q26 q255) rfl rfl rfl (by decide +kernel) hR
set_option maxHeartbeats 4000000 in
/-- isValue -/
theorem metX1_isValue (l : Launch) {D : va_G} {h : Nat} {ad : Nat → Nat} {cd : Nat → ClassId} {G : XG} {nw bf nd : Nat → Int32} {k : Nat} (sz : Nat) (a : Int32) : MetI l yX1_isValue cX1_isValue 2 .boolean rmX1_isValue D vwCl (tM cd) (wM h ad cd G nw bf nd k) sz [.ref h, .int a] (fun r (_ : Unit) => r = isVal a) (fun _ => wM h ad cd G nw bf nd k) := by
  refine zz_startI (own := RX1) (by decide) rfl (Nat.le_of_ble_eq_true rfl) ?_
  intro p e s m below meth c Q A ls args hx hb hr hml hown hts hlocks hA hK hP hD hS hl hQ
  have hl : lv_has ls 2 [(0, .ref h), (1, .int a)] := hl
  refine lv_iload_n hx hb dX1_isValue_0 rfl (lv_at hl 1 rfl) ?_
  refine lv_sipush (v := (-32768)) hx hb dX1_isValue_1 (by decide) ?_
  refine lv_icmp_lt (tgt := 18) hx hb dX1_isValue_4 (by decide) (fun c_4 => ?_) (fun c_4 => ?_)
  · refine lv_iconst (v := 0) hx hb dX1_isValue_18 (by decide) ?_
    exact zz_zret hx hb hr hlocks hK hQ hS (()) hP hD dX1_isValue_19 (rfl) (by simp only [isVal, if_pos c_4])
  · refine lv_iload_n hx hb dX1_isValue_7 rfl (lv_at hl 1 rfl) ?_
    refine lv_sipush (v := 32767) hx hb dX1_isValue_8 (by decide) ?_
    refine lv_icmp_gt (tgt := 18) hx hb dX1_isValue_11 (by decide) (fun c_11 => ?_) (fun c_11 => ?_)
    · refine lv_iconst (v := 0) hx hb dX1_isValue_18 (by decide) ?_
      exact zz_zret hx hb hr hlocks hK hQ hS (()) hP hD dX1_isValue_19 (rfl) (by simp only [isVal, if_neg c_4, if_pos c_11])
    · refine lv_iconst (v := 1) hx hb dX1_isValue_14 (by decide) ?_
      refine lv_goto (tgt := 19) hx hb dX1_isValue_15 (by decide) ?_
      exact zz_zret hx hb hr hlocks hK hQ hS (()) hP hD dX1_isValue_19 (rfl) (by simp only [isVal, if_neg c_4, if_neg c_11])
abbrev rmX1_sat : Room := { frames := 0, cells := 0, slots := 0, locals := 0 }
theorem cw_X1_sat {R : Room} {s : State} {args : Array Value} (hts : ∀ w ∈ lw_all, w.before args s = true) (hR : rmX1_sat.frames + 1 ≤ R.frames ∧ 8 + (3 + 11) + rmX1_sat.locals ≤ R.locals) : CallW R s args RX1 RX1 71 yX1_sat cX1_sat 3 (some .int) (ws_ yX1_sat cX1_sat 3 (some .int)) rmX1_sat 0 0 1 := cwV 1 hts (lw_V q289 q291 qs21 q26 q292) rfl rfl rfl (by decide +kernel) hR
set_option maxHeartbeats 4000000 in
/-- sat(v) -/
theorem metX1_sat (l : Launch) {D : va_G} {h : Nat} {ad : Nat → Nat} {cd : Nat → ClassId} {G : XG} {nw bf nd : Nat → Int32} {k : Nat} (sz : Nat) (v : Int64) : MetI l yX1_sat cX1_sat 3 .int rmX1_sat D vwCl (tM cd) (wM h ad cd G nw bf nd k) sz [.ref h, .long v] (fun r (_ : Unit) => r = satI v) (fun _ => wM h ad cd G nw bf nd k) := by
  refine zz_startI (own := RX1) (by decide) rfl (Nat.le_of_ble_eq_true rfl) ?_
  intro p e s m below meth c Q A ls args hx hb hr hml hown hts hlocks hA hK hP hD hS hl hQ
  have hl : lv_has ls 3 [(0, .ref h), (1, .long v)] := hl
  refine lv_lload_n hx hb dX1_sat_0 rfl (lv_at hl 1 rfl) ?_
  refine lv_ldc2 hx hb hown (hts _ q293) dX1_sat_1 ?_
  refine W.lcmp hx hb dX1_sat_4 ?_
  refine lv_if_le (tgt := 14) hx hb dX1_sat_5 (by decide) (fun c_5 => ?_) (fun c_5 => ?_)
  · refine lv_lload_n hx hb dX1_sat_14 rfl (lv_at hl 1 rfl) ?_
    refine lv_ldc2 hx hb hown (hts _ q294) dX1_sat_15 ?_
    refine W.lcmp hx hb dX1_sat_18 ?_
    refine lv_if_ge (tgt := 28) hx hb dX1_sat_19 (by decide) (fun c_19 => ?_) (fun c_19 => ?_)
    · refine lv_lload_n hx hb dX1_sat_28 rfl (lv_at hl 1 rfl) ?_
      refine lv_l2i hx hb dX1_sat_29 rfl ?_
      exact zz_iret hx hb hr hlocks hK hQ hS (()) hP hD dX1_sat_30 (by simp only [satI, if_pos c_5, if_pos c_19])
    · refine lv_sipush (v := (-32768)) hx hb dX1_sat_22 (by decide) ?_
      refine lv_goto (tgt := 30) hx hb dX1_sat_25 (by decide) ?_
      exact zz_iret hx hb hr hlocks hK hQ hS (()) hP hD dX1_sat_30 (by simp only [satI, if_pos c_5, if_neg c_19])
  · refine lv_sipush (v := 32767) hx hb dX1_sat_8 (by decide) ?_
    refine lv_goto (tgt := 30) hx hb dX1_sat_11 (by decide) ?_
    exact zz_iret hx hb hr hlocks hK hQ hS (()) hP hD dX1_sat_30 (by simp only [satI, if_neg c_5])
abbrev rmX1_nodes : Room := { frames := 0, cells := 0, slots := 0, locals := 0 }
set_option maxHeartbeats 4000000 in
/-- nodes() -/
theorem metX1_nodes (l : Launch) {D : va_G} {h : Nat} {ad : Nat → Nat} {cd : Nat → ClassId} {G : XG} {nw bf nd : Nat → Int32} {k : Nat} (sz : Nat) : MetI l yX1_nodes cX1_nodes 1 .int rmX1_nodes D vwCl (tM cd) (wM h ad cd G nw bf nd k) sz [.ref h] (fun r (_ : Unit) => r = nI G.1) (fun _ => wM h ad cd G nw bf nd k) := by
  refine zz_startI (own := RX1) (by decide) rfl (Nat.le_of_ble_eq_true rfl) ?_
  intro p e s m below meth c Q A ls args hx hb hr hml hown hts hlocks hA hK hP hD hS hl hQ
  have hl : lv_has ls 1 [(0, .ref h)] := hl
  refine lv_aload_n hx hb dX1_nodes_0 rfl (lv_at hl 0 rfl) ?_
  refine mg_0 hx hb hts hown hK hP dX1_nodes_1 ?_
  exact zz_iret hx hb hr hlocks hK hQ hS (()) hP hD dX1_nodes_4 (rfl)
abbrev rmX1_samples : Room := { frames := 0, cells := 0, slots := 0, locals := 0 }
set_option maxHeartbeats 4000000 in
/-- samples() -/
theorem metX1_samples (l : Launch) {D : va_G} {h : Nat} {ad : Nat → Nat} {cd : Nat → ClassId} {G : XG} {nw bf nd : Nat → Int32} {k : Nat} (sz : Nat) : MetI l yX1_samples cX1_samples 1 .int rmX1_samples D vwCl (tM cd) (wM h ad cd G nw bf nd k) sz [.ref h] (fun r (_ : Unit) => r = nI k) (fun _ => wM h ad cd G nw bf nd k) := by
  refine zz_startI (own := RX1) (by decide) rfl (Nat.le_of_ble_eq_true rfl) ?_
  intro p e s m below meth c Q A ls args hx hb hr hml hown hts hlocks hA hK hP hD hS hl hQ
  have hl : lv_has ls 1 [(0, .ref h)] := hl
  refine lv_aload_n hx hb dX1_samples_0 rfl (lv_at hl 0 rfl) ?_
  refine mg_9 hx hb hts hown hK hP dX1_samples_1 ?_
  exact zz_iret hx hb hr hlocks hK hQ hS (()) hP hD dX1_samples_4 (rfl)
abbrev rmX1_nowAt : Room := { frames := 0, cells := 0, slots := 0, locals := 0 }
theorem cw_X1_nowAt {R : Room} {s : State} {args : Array Value} (hts : ∀ w ∈ lw_all, w.before args s = true) (hR : rmX1_nowAt.frames + 1 ≤ R.frames ∧ 8 + (2 + 11) + rmX1_nowAt.locals ≤ R.locals) : CallW R s args RX1 RX1 68 yX1_nowAt cX1_nowAt 2 (some .int) (ws_ yX1_nowAt cX1_nowAt 2 (some .int)) rmX1_nowAt 0 0 1 := cwV 1 hts (lw_V q300 q302 qs23 q26 q303) rfl rfl rfl (by decide +kernel) hR
set_option maxHeartbeats 4000000 in
/-- nowAt(a) -/
theorem metX1_nowAt (l : Launch) {D : va_G} {h : Nat} {ad : Nat → Nat} {cd : Nat → ClassId} {G : XG} {nw bf nd : Nat → Int32} {k : Nat} (sz : Nat) (a : Int32) (hn : G.1 ≤ 20) (ha : ¬ a < 0) : MetI l yX1_nowAt cX1_nowAt 2 .int rmX1_nowAt D vwCl (tM cd) (wM h ad cd G nw bf nd k) sz [.ref h, .int a] (fun r (_ : Unit) => r = nwA G nw a) (fun _ => wM h ad cd G nw bf nd k) := by
  refine zz_startI (own := RX1) (by decide) rfl (Nat.le_of_ble_eq_true rfl) ?_
  intro p e s m below meth c Q A ls args hx hb hr hml hown hts hlocks hA hK hP hD hS hl hQ
  have hl : lv_has ls 2 [(0, .ref h), (1, .int a)] := hl
  refine lv_iload_n hx hb dX1_nowAt_0 rfl (lv_at hl 1 rfl) ?_
  refine lv_aload_n hx hb dX1_nowAt_1 rfl (lv_at hl 0 rfl) ?_
  refine mg_0 hx hb hts hown hK hP dX1_nowAt_2 ?_
  refine lv_icmp_ge (tgt := 17) hx hb dX1_nowAt_5 (by decide) (fun c_5 => ?_) (fun c_5 => ?_)
  · refine lv_iconst (v := 0) hx hb dX1_nowAt_17 (by decide) ?_
    exact zz_iret hx hb hr hlocks hK hQ hS (()) hP hD dX1_nowAt_18 (by simp only [nwA, if_pos c_5])
  · obtain ⟨j, hj, rfl⟩ := pk_ixn hn ha c_5
    refine lv_aload_n hx hb dX1_nowAt_8 rfl (lv_at hl 0 rfl) ?_
    refine mg_7 hx hb hts hown hK hP dX1_nowAt_9 ?_
    refine lv_iload_n hx hb dX1_nowAt_12 rfl (lv_at hl 1 rfl) ?_
    refine ml_7 hx hb hK hP j (by omega) rfl dX1_nowAt_13 ?_
    refine lv_goto (tgt := 18) hx hb dX1_nowAt_14 (by decide) ?_
    exact zz_iret hx hb hr hlocks hK hQ hS (()) hP hD dX1_nowAt_18 (by rw [nwA, if_neg c_5, nI_clamp (by omega)])
abbrev rmX1_value : Room := { frames := 0, cells := 0, slots := 0, locals := 0 }
set_option maxHeartbeats 4000000 in
/-- value(a) -/
theorem metX1_value (l : Launch) {D : va_G} {h : Nat} {ad : Nat → Nat} {cd : Nat → ClassId} {G : XG} {nw bf nd : Nat → Int32} {k : Nat} (sz : Nat) (a : Int32) (hn : G.1 ≤ 20) : MetI l yX1_value cX1_value 2 .int rmX1_value D vwCl (tM cd) (wM h ad cd G nw bf nd k) sz [.ref h, .int a] (fun r (_ : Unit) => r = if a < 0 then 0 else if nI G.1 ≤ a then 0 else if nI k = 0 then 0 else nw a.toNatClampNeg) (fun _ => wM h ad cd G nw bf nd k) := by
  refine zz_startI (own := RX1) (by decide) rfl (Nat.le_of_ble_eq_true rfl) ?_
  intro p e s m below meth c Q A ls args hx hb hr hml hown hts hlocks hA hK hP hD hS hl hQ
  have hl : lv_has ls 2 [(0, .ref h), (1, .int a)] := hl
  refine lv_iload_n hx hb dX1_value_0 rfl (lv_at hl 1 rfl) ?_
  refine lv_if_lt (tgt := 19) hx hb dX1_value_1 (by decide) (fun c_1 => ?_) (fun c_1 => ?_)
  · refine lv_iconst (v := 0) hx hb dX1_value_19 (by decide) ?_
    refine lv_goto (tgt := 29) hx hb dX1_value_20 (by decide) ?_
    exact zz_iret hx hb hr hlocks hK hQ hS (()) hP hD dX1_value_29 (by simp only [if_pos c_1])
  · refine lv_iload_n hx hb dX1_value_4 rfl (lv_at hl 1 rfl) ?_
    refine lv_aload_n hx hb dX1_value_5 rfl (lv_at hl 0 rfl) ?_
    refine mg_0 hx hb hts hown hK hP dX1_value_6 ?_
    refine lv_icmp_ge (tgt := 19) hx hb dX1_value_9 (by decide) (fun c_9 => ?_) (fun c_9 => ?_)
    · refine lv_iconst (v := 0) hx hb dX1_value_19 (by decide) ?_
      refine lv_goto (tgt := 29) hx hb dX1_value_20 (by decide) ?_
      exact zz_iret hx hb hr hlocks hK hQ hS (()) hP hD dX1_value_29 (by simp only [if_neg c_1, if_pos c_9])
    · refine lv_aload_n hx hb dX1_value_12 rfl (lv_at hl 0 rfl) ?_
      refine mg_9 hx hb hts hown hK hP dX1_value_13 ?_
      refine lv_if_ne (tgt := 23) hx hb dX1_value_16 (by decide) (fun c_16 => ?_) (fun c_16 => ?_)
      · refine lv_aload_n hx hb dX1_value_23 rfl (lv_at hl 0 rfl) ?_
        refine mg_7 hx hb hts hown hK hP dX1_value_24 ?_
        refine lv_iload_n hx hb dX1_value_27 rfl (lv_at hl 1 rfl) ?_
        obtain ⟨j, hj, rfl⟩ := pk_ixn hn c_1 c_9
        refine ml_7 hx hb hK hP j (by omega) rfl dX1_value_28 ?_
        exact zz_iret hx hb hr hlocks hK hQ hS (()) hP hD dX1_value_29 (by rw [if_neg c_1, if_neg c_9, if_neg c_16, nI_clamp (by omega)])
      · refine lv_iconst (v := 0) hx hb dX1_value_19 (by decide) ?_
        refine lv_goto (tgt := 29) hx hb dX1_value_20 (by decide) ?_
        exact zz_iret hx hb hr hlocks hK hQ hS (()) hP hD dX1_value_29 (by simp only [if_neg c_1, if_neg c_9, if_pos c_16])
abbrev rmX1_restart : Room := { frames := 0, cells := 0, slots := 0, locals := 0 }
theorem cw_X1_restart {R : Room} {s : State} {args : Array Value} (hts : ∀ w ∈ lw_all, w.before args s = true) (hR : rmX1_restart.frames + 1 ≤ R.frames ∧ 8 + (2 + 11) + rmX1_restart.locals ≤ R.locals) : CallW R s args RX1 RX1 55 yX1_restart cX1_restart 2 none (ws_ yX1_restart cX1_restart 2 none) rmX1_restart 0 0 0 := cwV 0 hts (lw_V q260 q261 q262 q26 q263) rfl rfl rfl (by decide +kernel) hR
set_option maxHeartbeats 4000000 in
/-- restart() -/
theorem metX1_restart (l : Launch) {D : va_G} {h : Nat} {ad : Nat → Nat} {cd : Nat → ClassId} {G : XG} {nw bf nd : Nat → Int32} {k : Nat} (sz : Nat) : MetV l yX1_restart cX1_restart 2 rmX1_restart D vwCl (tM cd) (wM h ad cd G nw bf nd k) sz [.ref h] (fun _ : Unit => True) (fun _ => wM h ad cd G (zf nw 20) bf nd 0) := by
  refine zz_startV (own := RX1) (by decide) rfl (Nat.le_of_ble_eq_true rfl) ?_
  intro p e s m below meth c Q A ls args hx hb hr hml hown hts hlocks hA hK hP hD hS hl hQ
  have hl : lv_has ls 2 [(0, .ref h)] := hl
  have loop : ∀ (d i : Nat), i + d = 20 → ∀ (H : Heap) (locs : List Loc) (ls : Array Slot), va_P D vwCl (wM h ad cd G (zf nw i) bf nd 0) H → va_D A (wM h ad cd G (zf nw i) bf nd 0) → va_S A s.heap H locs → lv_has ls 2 [(1, .int (nI i)), (0, .ref h)] → W p l e rmX1_restart s m args below meth c H locs 0 0 Q (F0 m 7 ls []) := by
    intro d
    induction d with
    | zero =>
      intro i hi H locs ls hP hD hS hl
      obtain rfl : i = 20 := by omega
      refine lv_iload_n hx hb dX1_restart_7 rfl (lv_at hl 0 rfl) ?_
      refine lv_bipush (v := 20) hx hb dX1_restart_8 (by decide) ?_
      refine lv_icmp_ge (tgt := 26) hx hb dX1_restart_10 (by decide) (fun c_10 => ?_) (fun c_10 => absurd (by decide) c_10)
      exact zz_vret hx hb hr hlocks hK hQ hS (()) hP hD dX1_restart_26 (trivial)
    | succ d ih =>
      intro i hi H locs ls hP hD hS hl
      refine lv_iload_n hx hb dX1_restart_7 rfl (lv_at hl 0 rfl) ?_
      refine lv_bipush (v := 20) hx hb dX1_restart_8 (by decide) ?_
      refine lv_icmp_ge (tgt := 26) hx hb dX1_restart_10 (by decide) (fun c_10 => absurd c_10 (nI_ge (show i < 20 by omega) (by decide))) (fun c_10 => ?_)
      refine lv_aload_n hx hb dX1_restart_13 rfl (lv_at hl 1 rfl) ?_
      refine mg_7 hx hb hts hown hK hP dX1_restart_14 ?_
      refine lv_iload_n hx hb dX1_restart_17 rfl (lv_at hl 0 rfl) ?_
      refine lv_iconst (v := 0) hx hb dX1_restart_18 (by decide) ?_
      refine ms_7 hx hb hK hP hD hS i (by omega) rfl dX1_restart_19 (fun H locs hP hD hS => ?_)
      refine lv_iinc (v := nI (i + 1)) (lv' := [(1, .int _), (0, .ref _)]) hx hb dX1_restart_20 hl (k := 0) rfl (nI_1 i) (by decide) rfl (fun ls hl => ?_)
      refine lv_goto (tgt := 7) hx hb dX1_restart_23 (by decide) ?_
      exact ih (i + 1) (by omega) H locs ls (by rw [← zf_s]; exact hP) (by rw [← zf_s]; exact hD) hS hl
  refine lv_aload_n hx hb dX1_restart_0 rfl (lv_at hl 0 rfl) ?_
  refine lv_iconst (v := 0) hx hb dX1_restart_1 (by decide) ?_
  refine mp_9 hx hb hts hown hK hP hD hS 0 rfl dX1_restart_2 (fun H locs hP hD hS => ?_)
  refine lv_iconst (v := 0) hx hb dX1_restart_5 (by decide) ?_
  refine lv_istore_n (lv' := [(1, .int _), (0, .ref _)]) hx hb dX1_restart_6 rfl hl (by decide) rfl (fun ls hl => ?_)
  exact loop 20 0 rfl H locs ls (by rw [zf_0]; exact hP) (by rw [zf_0]; exact hD) hS hl
abbrev rmX1_clear : Room := { frames := 1, cells := 0, slots := 0, locals := 21 }
set_option maxHeartbeats 4000000 in
/-- clear() -/
theorem metX1_clear (l : Launch) {D : va_G} {h : Nat} {ad : Nat → Nat} {cd : Nat → ClassId} {G : XG} {nw bf nd : Nat → Int32} {k : Nat} (sz : Nat) : MetI l yX1_clear cX1_clear 2 .int rmX1_clear D vwCl (tM cd) (wM h ad cd G nw bf nd k) sz [.ref h] (fun r (_ : Unit) => r = nI G.1) (fun _ => wM h ad cd (0, G.2) (zf nw 20) bf nd 0) := by
  refine zz_startI (own := RX1) (by decide) rfl (Nat.le_of_ble_eq_true rfl) ?_
  intro p e s m below meth c Q A ls args hx hb hr hml hown hts hlocks hA hK hP hD hS hl hQ
  have hl : lv_has ls 2 [(0, .ref h)] := hl
  refine lv_aload_n hx hb dX1_clear_0 rfl (lv_at hl 0 rfl) ?_
  refine mg_0 hx hb hts hown hK hP dX1_clear_1 ?_
  refine lv_istore_n (lv' := [(1, .int _), (0, .ref _)]) hx hb dX1_clear_4 rfl hl (by decide) rfl (fun ls hl => ?_)
  refine lv_aload_n hx hb dX1_clear_5 rfl (lv_at hl 1 rfl) ?_
  refine lv_iconst (v := 0) hx hb dX1_clear_6 (by decide) ?_
  refine mp_0 hx hb hts hown hK hP hD hS 0 rfl dX1_clear_7 (fun H locs hP hD hS => ?_)
  refine lv_aload_n hx hb dX1_clear_10 rfl (lv_at hl 1 rfl) ?_
  refine zz_callv ⟨hx, hb, hml, hown, hts⟩ hK hP hD hS hA rfl rfl (metX1_restart l _) (cw_X1_restart hts ⟨Nat.le_of_ble_eq_true rfl, Nat.le_of_ble_eq_true rfl⟩) rfl hl.1 rfl (Nat.le_of_ble_eq_true rfl) dX1_clear_11 ⟨Nat.zero_le _, Nat.zero_le _⟩ (fun _ H locs _ hP hD hS => ?_)
  refine lv_iload_n hx hb dX1_clear_14 rfl (lv_at hl 0 rfl) ?_
  exact zz_iret hx hb hr hlocks hK hQ hS (()) hP hD dX1_clear_15 (rfl)
abbrev rmX1_fits : Room := { frames := 1, cells := 0, slots := 0, locals := 21 }
theorem cw_X1_fits {R : Room} {s : State} {args : Array Value} (hts : ∀ w ∈ lw_all, w.before args s = true) (hR : rmX1_fits.frames + 1 ≤ R.frames ∧ 8 + (4 + 11) + rmX1_fits.locals ≤ R.locals) : CallW R s args RX1 RX1 51 yX1_fits cX1_fits 4 (some .boolean) (ws_ yX1_fits cX1_fits 4 (some .boolean)) rmX1_fits 0 0 3 := cwV 3 hts (lw_V q248 q250 qs16 q26 q251) rfl rfl rfl (by decide +kernel) hR
set_option maxHeartbeats 4000000 in
/-- fits(kk, aa, bb) -/
theorem metX1_fits (l : Launch) {D : va_G} {h : Nat} {ad : Nat → Nat} {cd : Nat → ClassId} {G : XG} {nw bf nd : Nat → Int32} {k : Nat} (sz : Nat) (kk aa bb : Int32) : MetI l yX1_fits cX1_fits 4 .boolean rmX1_fits D vwCl (tM cd) (wM h ad cd G nw bf nd k) sz [.ref h, .int kk, .int aa, .int bb] (fun r (_ : Unit) => fitR kk aa bb r) (fun _ => wM h ad cd G nw bf nd k) := by
  refine zz_startI (own := RX1) (by decide) rfl (Nat.le_of_ble_eq_true rfl) ?_
  intro p e s m below meth c Q A ls args hx hb hr hml hown hts hlocks hA hK hP hD hS hl hQ
  have hl : lv_has ls 4 [(0, .ref h), (1, .int kk), (2, .int aa), (3, .int bb)] := hl
  have J60 : ∀ (H : Heap) (locs : List Loc), va_P D vwCl (wM h ad cd G nw bf nd k) H → va_D A (wM h ad cd G nw bf nd k) → va_S A s.heap H locs → ((0 ≤ kk ∧ kk ≤ 10 ∧ ¬ kk = 1 ∧ (2 ≤ kk → kk ≤ 9 → 0 ≤ aa ∧ aa ≤ 19)) ∧ (kk < 3 ∨ 5 < kk)) → W p l e rmX1_fits s m args below meth c H locs 0 0 Q (F0 m 60 ls []) := by
    intro H locs hP hD hS hh
    refine lv_iload_n hx hb dX1_fits_60 rfl (lv_at hl 1 rfl) ?_
    refine lv_bipush (v := 8) hx hb dX1_fits_61 (by decide) ?_
    refine lv_icmp_ne (tgt := 82) hx hb dX1_fits_63 (by decide) (fun c_63 => ?_) (fun c_63 => ?_)
    · refine lv_iload_n hx hb dX1_fits_82 rfl (lv_at hl 1 rfl) ?_
      refine lv_bipush (v := 9) hx hb dX1_fits_83 (by decide) ?_
      refine lv_icmp_ne (tgt := 98) hx hb dX1_fits_85 (by decide) (fun c_85 => ?_) (fun c_85 => ?_)
      · refine lv_iconst (v := 1) hx hb dX1_fits_98 (by decide) ?_
        refine lv_goto (tgt := 103) hx hb dX1_fits_99 (by decide) ?_
        exact zz_zret hx hb hr hlocks hK hQ hS (()) hP hD dX1_fits_103 (rfl) (fit_y hh.1 hh.2 (fun q => absurd q c_63) (fun q => absurd q c_85))
      · refine lv_iload_n hx hb dX1_fits_88 rfl (lv_at hl 3 rfl) ?_
        refine lv_if_lt (tgt := 102) hx hb dX1_fits_89 (by decide) (fun c_89 => ?_) (fun c_89 => ?_)
        · refine lv_iconst (v := 0) hx hb dX1_fits_102 (by decide) ?_
          exact zz_zret hx hb hr hlocks hK hQ hS (()) hP hD dX1_fits_103 (rfl) (fit_n (fun q => absurd (q.2.2.2.2.2.2 c_85).1 (i_alt c_89)))
        · refine lv_iload_n hx hb dX1_fits_92 rfl (lv_at hl 3 rfl) ?_
          refine lv_bipush (v := 15) hx hb dX1_fits_93 (by decide) ?_
          refine lv_icmp_gt (tgt := 102) hx hb dX1_fits_95 (by decide) (fun c_95 => ?_) (fun c_95 => ?_)
          · refine lv_iconst (v := 0) hx hb dX1_fits_102 (by decide) ?_
            exact zz_zret hx hb hr hlocks hK hQ hS (()) hP hD dX1_fits_103 (rfl) (fit_n (fun q => absurd (q.2.2.2.2.2.2 c_85).2 (i_alt c_95)))
          · refine lv_iconst (v := 1) hx hb dX1_fits_98 (by decide) ?_
            refine lv_goto (tgt := 103) hx hb dX1_fits_99 (by decide) ?_
            exact zz_zret hx hb hr hlocks hK hQ hS (()) hP hD dX1_fits_103 (rfl) (fit_y hh.1 hh.2 (fun q => absurd q c_63) (fun _ => ⟨i_nlt c_89, i_nlt c_95⟩))
    · refine lv_iload_n hx hb dX1_fits_66 rfl (lv_at hl 3 rfl) ?_
      refine lv_if_lt (tgt := 80) hx hb dX1_fits_67 (by decide) (fun c_67 => ?_) (fun c_67 => ?_)
      · refine lv_iconst (v := 0) hx hb dX1_fits_80 (by decide) ?_
        exact zz_zret hx hb hr hlocks hK hQ hS (()) hP hD dX1_fits_81 (rfl) (fit_n (fun q => absurd (q.2.2.2.2.2.1 c_63).1 (i_alt c_67)))
      · refine lv_iload_n hx hb dX1_fits_70 rfl (lv_at hl 3 rfl) ?_
        refine lv_bipush (v := 7) hx hb dX1_fits_71 (by decide) ?_
        refine lv_icmp_gt (tgt := 80) hx hb dX1_fits_73 (by decide) (fun c_73 => ?_) (fun c_73 => ?_)
        · refine lv_iconst (v := 0) hx hb dX1_fits_80 (by decide) ?_
          exact zz_zret hx hb hr hlocks hK hQ hS (()) hP hD dX1_fits_81 (rfl) (fit_n (fun q => absurd (q.2.2.2.2.2.1 c_63).2 (i_alt c_73)))
        · refine lv_iconst (v := 1) hx hb dX1_fits_76 (by decide) ?_
          refine lv_goto (tgt := 81) hx hb dX1_fits_77 (by decide) ?_
          exact zz_zret hx hb hr hlocks hK hQ hS (()) hP hD dX1_fits_81 (rfl) (fit_y hh.1 hh.2 (fun _ => ⟨i_nlt c_67, i_nlt c_73⟩) (fun q => absurd (c_63.symm.trans q) (by decide)))
  have J44 : ∀ (H : Heap) (locs : List Loc), va_P D vwCl (wM h ad cd G nw bf nd k) H → va_D A (wM h ad cd G nw bf nd k) → va_S A s.heap H locs → (0 ≤ kk ∧ kk ≤ 10 ∧ ¬ kk = 1 ∧ (2 ≤ kk → kk ≤ 9 → 0 ≤ aa ∧ aa ≤ 19)) → W p l e rmX1_fits s m args below meth c H locs 0 0 Q (F0 m 44 ls []) := by
    intro H locs hP hD hS hh
    refine lv_iload_n hx hb dX1_fits_44 rfl (lv_at hl 1 rfl) ?_
    refine lv_iconst (v := 3) hx hb dX1_fits_45 (by decide) ?_
    refine lv_icmp_lt (tgt := 60) hx hb dX1_fits_46 (by decide) (fun c_46 => ?_) (fun c_46 => ?_)
    · exact J60 H locs hP hD hS ⟨hh, Or.inl c_46⟩
    · refine lv_iload_n hx hb dX1_fits_49 rfl (lv_at hl 1 rfl) ?_
      refine lv_iconst (v := 5) hx hb dX1_fits_50 (by decide) ?_
      refine lv_icmp_gt (tgt := 60) hx hb dX1_fits_51 (by decide) (fun c_51 => ?_) (fun c_51 => ?_)
      · exact J60 H locs hP hD hS ⟨hh, Or.inr c_51⟩
      · refine lv_aload_n hx hb dX1_fits_54 rfl (lv_at hl 0 rfl) ?_
        refine lv_iload_n hx hb dX1_fits_55 rfl (lv_at hl 3 rfl) ?_
        refine zz_calli ⟨hx, hb, hml, hown, hts⟩ hK hP hD hS hA rfl rfl (metX1_isName l _ bb) (cw_X1_isName hts ⟨Nat.le_of_ble_eq_true rfl, Nat.le_of_ble_eq_true rfl⟩) rfl hl.1 rfl (Nat.le_of_ble_eq_true rfl) dX1_fits_56 ⟨Nat.zero_le _, Nat.zero_le _⟩ (fun r1 _ H locs hr1 hP hD hS => ?_)
        exact zz_zret hx hb hr hlocks hK hQ hS (()) hP hD dX1_fits_59 (by rw [hr1]; exact isNo_nar _) (fit_two hh c_46 c_51 hr1)
  refine lv_iload_n hx hb dX1_fits_0 rfl (lv_at hl 1 rfl) ?_
  refine lv_if_lt (tgt := 10) hx hb dX1_fits_1 (by decide) (fun c_1 => ?_) (fun c_1 => ?_)
  · refine lv_iconst (v := 0) hx hb dX1_fits_10 (by decide) ?_
    exact zz_zret hx hb hr hlocks hK hQ hS (()) hP hD dX1_fits_11 (rfl) (fit_n (fun q => absurd q.1 (i_alt c_1)))
  · refine lv_iload_n hx hb dX1_fits_4 rfl (lv_at hl 1 rfl) ?_
    refine lv_bipush (v := 10) hx hb dX1_fits_5 (by decide) ?_
    refine lv_icmp_le (tgt := 12) hx hb dX1_fits_7 (by decide) (fun c_7 => ?_) (fun c_7 => ?_)
    · refine lv_iload_n hx hb dX1_fits_12 rfl (lv_at hl 1 rfl) ?_
      refine lv_iconst (v := 1) hx hb dX1_fits_13 (by decide) ?_
      refine lv_icmp_ne (tgt := 23) hx hb dX1_fits_14 (by decide) (fun c_14 => ?_) (fun c_14 => ?_)
      · refine lv_iload_n hx hb dX1_fits_23 rfl (lv_at hl 1 rfl) ?_
        refine lv_iconst (v := 2) hx hb dX1_fits_24 (by decide) ?_
        refine lv_icmp_lt (tgt := 44) hx hb dX1_fits_25 (by decide) (fun c_25 => ?_) (fun c_25 => ?_)
        · exact J44 _ _ hP hD hS ⟨i_nlt c_1, c_7, c_14, fun q _ => absurd c_25 (i_ale q)⟩
        · refine lv_iload_n hx hb dX1_fits_28 rfl (lv_at hl 1 rfl) ?_
          refine lv_bipush (v := 9) hx hb dX1_fits_29 (by decide) ?_
          refine lv_icmp_gt (tgt := 44) hx hb dX1_fits_31 (by decide) (fun c_31 => ?_) (fun c_31 => ?_)
          · exact J44 _ _ hP hD hS ⟨i_nlt c_1, c_7, c_14, fun _ q => absurd c_31 (i_ale q)⟩
          · refine lv_aload_n hx hb dX1_fits_34 rfl (lv_at hl 0 rfl) ?_
            refine lv_iload_n hx hb dX1_fits_35 rfl (lv_at hl 2 rfl) ?_
            refine zz_calli ⟨hx, hb, hml, hown, hts⟩ hK hP hD hS hA rfl rfl (metX1_isName l _ aa) (cw_X1_isName hts ⟨Nat.le_of_ble_eq_true rfl, Nat.le_of_ble_eq_true rfl⟩) rfl hl.1 rfl (Nat.le_of_ble_eq_true rfl) dX1_fits_36 ⟨Nat.zero_le _, Nat.zero_le _⟩ (fun r1 _ H locs hr1 hP hD hS => ?_)
            refine lv_if_ne (tgt := 44) hx hb dX1_fits_39 (by decide) (fun c_39 => ?_) (fun c_39 => ?_)
            · exact J44 _ _ hP hD hS ⟨i_nlt c_1, c_7, c_14, fun _ _ => isNo_1 (by rw [← hr1]; exact c_39)⟩
            · refine lv_iconst (v := 0) hx hb dX1_fits_42 (by decide) ?_
              exact zz_zret hx hb hr hlocks hK hQ hS (()) hP hD dX1_fits_43 (rfl) (fit_n (fun q => isNo_0 (hr1.symm.trans c_39) (q.2.2.2.1 (i_nlt c_25) (i_nlt c_31))))
      · refine lv_aload_n hx hb dX1_fits_17 rfl (lv_at hl 0 rfl) ?_
        refine lv_iload_n hx hb dX1_fits_18 rfl (lv_at hl 2 rfl) ?_
        refine zz_calli ⟨hx, hb, hml, hown, hts⟩ hK hP hD hS hA rfl rfl (metX1_isValue l _ aa) (cw_X1_isValue hts ⟨Nat.le_of_ble_eq_true rfl, Nat.le_of_ble_eq_true rfl⟩) rfl hl.1 rfl (Nat.le_of_ble_eq_true rfl) dX1_fits_19 ⟨Nat.zero_le _, Nat.zero_le _⟩ (fun r1 _ H locs hr1 hP hD hS => ?_)
        exact zz_zret hx hb hr hlocks hK hQ hS (()) hP hD dX1_fits_22 (by rw [hr1]; exact isVal_nar _) (fit_1 c_14 hr1)
    · refine lv_iconst (v := 0) hx hb dX1_fits_10 (by decide) ?_
      exact zz_zret hx hb hr hlocks hK hQ hS (()) hP hD dX1_fits_11 (rfl) (fit_n (fun q => c_7 q.2.1))
abbrev rmX1_node : Room := { frames := 2, cells := 0, slots := 0, locals := 44 }
set_option maxHeartbeats 4000000 in
/-- node(kk, aa, bb) -/
theorem metX1_node (l : Launch) {D : va_G} {h : Nat} {ad : Nat → Nat} {cd : Nat → ClassId} {G : XG} {nw bf nd : Nat → Int32} {k : Nat} (sz : Nat) (kk aa bb : Int32) (hn : G.1 ≤ 20) : MetI l yX1_node cX1_node 4 .int rmX1_node D vwCl (tM cd) (wM h ad cd G nw bf nd k) sz [.ref h, .int kk, .int aa, .int bb] (fun (r : Int32) (u : XG × (Nat → Int32) × Nat) => (G.1 = 20 ∧ r = -2 ∧ u = (G, nw, k)) ∨ (G.1 < 20 ∧ ¬ nok kk aa bb ∧ r = -1 ∧ u = (G, nw, k)) ∨ (G.1 < 20 ∧ nok kk aa bb ∧ r = nI G.1 ∧ u = (gAdd G kk aa bb, zf nw 20, 0))) (fun u => wM h ad cd u.1 u.2.1 bf nd u.2.2) := by
  refine zz_startI (own := RX1) (by decide) rfl (Nat.le_of_ble_eq_true rfl) ?_
  intro p e s m below meth c Q A ls args hx hb hr hml hown hts hlocks hA hK hP hD hS hl hQ
  have hl : lv_has ls 4 [(0, .ref h), (1, .int kk), (2, .int aa), (3, .int bb)] := hl
  refine lv_aload_n hx hb dX1_node_0 rfl (lv_at hl 0 rfl) ?_
  refine mg_0 hx hb hts hown hK hP dX1_node_1 ?_
  refine lv_bipush (v := 20) hx hb dX1_node_4 (by decide) ?_
  refine lv_icmp_ne (tgt := 12) hx hb dX1_node_6 (by decide) (fun c_6 => ?_) (fun c_6 => ?_)
  · have hn20 : G.1 < 20 := by
      rcases Nat.lt_or_ge G.1 20 with q | q
      · exact q
      · exact absurd (show nI G.1 = 20 by rw [show G.1 = 20 by omega]; rfl) c_6
    refine lv_aload_n hx hb dX1_node_12 rfl (lv_at hl 0 rfl) ?_
    refine lv_iload_n hx hb dX1_node_13 rfl (lv_at hl 1 rfl) ?_
    refine lv_iload_n hx hb dX1_node_14 rfl (lv_at hl 2 rfl) ?_
    refine lv_iload_n hx hb dX1_node_15 rfl (lv_at hl 3 rfl) ?_
    refine zz_calli ⟨hx, hb, hml, hown, hts⟩ hK hP hD hS hA rfl rfl (metX1_fits l _ kk aa bb) (cw_X1_fits hts ⟨Nat.le_of_ble_eq_true rfl, Nat.le_of_ble_eq_true rfl⟩) rfl hl.1 rfl (Nat.le_of_ble_eq_true rfl) dX1_node_16 ⟨Nat.zero_le _, Nat.zero_le _⟩ (fun r1 _ H locs hr1 hP hD hS => ?_)
    refine lv_if_ne (tgt := 24) hx hb dX1_node_19 (by decide) (fun c_19 => ?_) (fun c_19 => ?_)
    · refine lv_aload_n hx hb dX1_node_24 rfl (lv_at hl 0 rfl) ?_
      refine mg_1 hx hb hts hown hK hP dX1_node_25 ?_
      refine lv_aload_n hx hb dX1_node_28 rfl (lv_at hl 0 rfl) ?_
      refine mg_0 hx hb hts hown hK hP dX1_node_29 ?_
      refine lv_iload_n hx hb dX1_node_32 rfl (lv_at hl 1 rfl) ?_
      refine ms_1 hx hb hK hP hD hS G.1 hn20 rfl dX1_node_33 (fun H locs hP hD hS => ?_)
      refine lv_aload_n hx hb dX1_node_34 rfl (lv_at hl 0 rfl) ?_
      refine mg_2 hx hb hts hown hK hP dX1_node_35 ?_
      refine lv_aload_n hx hb dX1_node_38 rfl (lv_at hl 0 rfl) ?_
      refine mg_0 hx hb hts hown hK hP dX1_node_39 ?_
      refine lv_iload_n hx hb dX1_node_42 rfl (lv_at hl 2 rfl) ?_
      refine ms_2 hx hb hK hP hD hS G.1 hn20 rfl dX1_node_43 (fun H locs hP hD hS => ?_)
      refine lv_aload_n hx hb dX1_node_44 rfl (lv_at hl 0 rfl) ?_
      refine mg_3 hx hb hts hown hK hP dX1_node_45 ?_
      refine lv_aload_n hx hb dX1_node_48 rfl (lv_at hl 0 rfl) ?_
      refine mg_0 hx hb hts hown hK hP dX1_node_49 ?_
      refine lv_iload_n hx hb dX1_node_52 rfl (lv_at hl 3 rfl) ?_
      refine ms_3 hx hb hK hP hD hS G.1 hn20 rfl dX1_node_53 (fun H locs hP hD hS => ?_)
      refine lv_aload_n hx hb dX1_node_54 rfl (lv_at hl 0 rfl) ?_
      refine mg_4 hx hb hts hown hK hP dX1_node_55 ?_
      refine lv_aload_n hx hb dX1_node_58 rfl (lv_at hl 0 rfl) ?_
      refine mg_0 hx hb hts hown hK hP dX1_node_59 ?_
      refine lv_iconst (v := 0) hx hb dX1_node_62 (by decide) ?_
      refine ms_4 hx hb hK hP hD hS G.1 hn20 rfl dX1_node_63 (fun H locs hP hD hS => ?_)
      refine lv_aload_n hx hb dX1_node_64 rfl (lv_at hl 0 rfl) ?_
      refine lv_dup hx hb dX1_node_65 rfl ?_
      refine mg_0 hx hb hts hown hK hP dX1_node_66 ?_
      refine lv_iconst (v := 1) hx hb dX1_node_69 (by decide) ?_
      refine lv_iadd hx hb dX1_node_70 ?_
      refine mp_0 hx hb hts hown hK hP hD hS (G.1 + 1) (nI_1 G.1) dX1_node_71 (fun H locs hP hD hS => ?_)
      refine lv_aload_n hx hb dX1_node_74 rfl (lv_at hl 0 rfl) ?_
      refine zz_callv ⟨hx, hb, hml, hown, hts⟩ hK hP hD hS hA rfl rfl (metX1_restart l _) (cw_X1_restart hts ⟨Nat.le_of_ble_eq_true rfl, Nat.le_of_ble_eq_true rfl⟩) rfl hl.1 rfl (Nat.le_of_ble_eq_true rfl) dX1_node_75 ⟨Nat.zero_le _, Nat.zero_le _⟩ (fun _ H locs _ hP hD hS => ?_)
      refine lv_aload_n hx hb dX1_node_78 rfl (lv_at hl 0 rfl) ?_
      refine mg_0 hx hb hts hown hK hP dX1_node_79 ?_
      refine lv_iconst (v := 1) hx hb dX1_node_82 (by decide) ?_
      refine lv_isub hx hb dX1_node_83 ?_
      exact zz_iret hx hb hr hlocks hK hQ hS ((gAdd G kk aa bb, zf nw 20, 0)) hP hD dX1_node_84 (Or.inr (Or.inr ⟨hn20, (hr1.resolve_right (fun q => c_19 q.1)).2, nI_pred _, rfl⟩))
    · refine lv_iconst (v := (-1)) hx hb dX1_node_22 (by decide) ?_
      exact zz_iret hx hb hr hlocks hK hQ hS ((G, nw, k)) hP hD dX1_node_23 (Or.inr (Or.inl ⟨hn20, (hr1.resolve_left (fun q => absurd (q.1.symm.trans c_19) (by decide))).2, rfl, rfl⟩))
  · refine lv_bipush (v := (-2)) hx hb dX1_node_9 (by decide) ?_
    exact zz_iret hx hb hr hlocks hK hQ hS ((G, nw, k)) hP hD dX1_node_11 (Or.inl ⟨(nI_eq (by omega) (by decide)).mp (show nI G.1 = nI 20 from c_6), rfl, rfl⟩)
abbrev rmX1_tap : Room := { frames := 1, cells := 0, slots := 0, locals := 21 }
set_option maxHeartbeats 4000000 in
/-- tap(sm, aa, co) -/
theorem metX1_tap (l : Launch) {D : va_G} {h : Nat} {ad : Nat → Nat} {cd : Nat → ClassId} {G : XG} {nw bf nd : Nat → Int32} {k : Nat} (sz : Nat) (sm aa co : Int32) (hg : gok G) : MetI l yX1_tap cX1_tap 4 .int rmX1_tap D vwCl (tM cd) (wM h ad cd G nw bf nd k) sz [.ref h, .int sm, .int aa, .int co] (fun (r : Int32) (u : XG × (Nat → Int32) × Nat) => (¬ tok G sm aa co ∧ r = -1 ∧ u = (G, nw, k)) ∨ ∃ i T, i < G.1 ∧ sm = nI i ∧ G.2.1 i = 10 ∧ tin aa co ∧ G.2.2.2.2.1 i = nI T ∧ T ≤ 6 ∧ ((T = 6 ∧ r = -2 ∧ u = (G, nw, k)) ∨ (T < 6 ∧ r = nI (T + 1) ∧ u = (gTap G i T aa co, zf nw 20, 0)))) (fun u => wM h ad cd u.1 u.2.1 bf nd u.2.2) := by
  refine zz_startI (own := RX1) (by decide) rfl (Nat.le_of_ble_eq_true rfl) ?_
  intro p e s m below meth c Q A ls args hx hb hr hml hown hts hlocks hA hK hP hD hS hl hQ
  have hl : lv_has ls 4 [(0, .ref h), (1, .int sm), (2, .int aa), (3, .int co)] := hl
  have hn := hg.1
  refine lv_iload_n hx hb dX1_tap_0 rfl (lv_at hl 1 rfl) ?_
  refine lv_if_lt (tgt := 39) hx hb dX1_tap_1 (by decide) (fun c_1 => ?_) (fun c_1 => ?_)
  · refine lv_iconst (v := (-1)) hx hb dX1_tap_39 (by decide) ?_
    exact zz_iret hx hb hr hlocks hK hQ hS ((G, nw, k)) hP hD dX1_tap_40 (Or.inl ⟨fun ⟨i, hi, e, _⟩ => absurd (e ▸ c_1) (nI_pos (by omega)), rfl, rfl⟩)
  · refine lv_iload_n hx hb dX1_tap_4 rfl (lv_at hl 1 rfl) ?_
    refine lv_aload_n hx hb dX1_tap_5 rfl (lv_at hl 0 rfl) ?_
    refine mg_0 hx hb hts hown hK hP dX1_tap_6 ?_
    refine lv_icmp_ge (tgt := 39) hx hb dX1_tap_9 (by decide) (fun c_9 => ?_) (fun c_9 => ?_)
    · refine lv_iconst (v := (-1)) hx hb dX1_tap_39 (by decide) ?_
      exact zz_iret hx hb hr hlocks hK hQ hS ((G, nw, k)) hP hD dX1_tap_40 (Or.inl ⟨fun ⟨i, hi, e, _⟩ => absurd (e ▸ c_9) (nI_ge hi (by omega)), rfl, rfl⟩)
    · obtain ⟨i, hi, rfl⟩ := pk_ixn hn c_1 c_9
      obtain ⟨-, T, hT6, hT, -, -⟩ := hg.2 i hi
      refine lv_aload_n hx hb dX1_tap_12 rfl (lv_at hl 0 rfl) ?_
      refine mg_1 hx hb hts hown hK hP dX1_tap_13 ?_
      refine lv_iload_n hx hb dX1_tap_16 rfl (lv_at hl 1 rfl) ?_
      refine ml_1 hx hb hK hP i (by omega) rfl dX1_tap_17 ?_
      refine lv_bipush (v := 10) hx hb dX1_tap_18 (by decide) ?_
      refine lv_icmp_ne (tgt := 39) hx hb dX1_tap_20 (by decide) (fun c_20 => ?_) (fun c_20 => ?_)
      · refine lv_iconst (v := (-1)) hx hb dX1_tap_39 (by decide) ?_
        exact zz_iret hx hb hr hlocks hK hQ hS ((G, nw, k)) hP hD dX1_tap_40 (Or.inl ⟨fun ⟨j, hj, e, hk, _⟩ => c_20 (by have e2 := (nI_eq (by omega) (by omega)).mp e; rw [e2]; exact hk), rfl, rfl⟩)
      · refine lv_aload_n hx hb dX1_tap_23 rfl (lv_at hl 0 rfl) ?_
        refine lv_iload_n hx hb dX1_tap_24 rfl (lv_at hl 2 rfl) ?_
        refine zz_calli ⟨hx, hb, hml, hown, hts⟩ hK hP hD hS hA rfl rfl (metX1_isName l _ aa) (cw_X1_isName hts ⟨Nat.le_of_ble_eq_true rfl, Nat.le_of_ble_eq_true rfl⟩) rfl hl.1 rfl (Nat.le_of_ble_eq_true rfl) dX1_tap_25 ⟨Nat.zero_le _, Nat.zero_le _⟩ (fun r1 _ H locs hr1 hP hD hS => ?_)
        refine lv_if_eq (tgt := 39) hx hb dX1_tap_28 (by decide) (fun c_28 => ?_) (fun c_28 => ?_)
        · refine lv_iconst (v := (-1)) hx hb dX1_tap_39 (by decide) ?_
          exact zz_iret hx hb hr hlocks hK hQ hS ((G, nw, k)) hP hD dX1_tap_40 (Or.inl ⟨fun ⟨j, hj, e, hk, q⟩ => isNo_0 (hr1.symm.trans c_28) ⟨q.1, q.2.1⟩, rfl, rfl⟩)
        · refine lv_aload_n hx hb dX1_tap_31 rfl (lv_at hl 0 rfl) ?_
          refine lv_iload_n hx hb dX1_tap_32 rfl (lv_at hl 3 rfl) ?_
          refine zz_calli ⟨hx, hb, hml, hown, hts⟩ hK hP hD hS hA rfl rfl (metX1_isValue l _ co) (cw_X1_isValue hts ⟨Nat.le_of_ble_eq_true rfl, Nat.le_of_ble_eq_true rfl⟩) rfl hl.1 rfl (Nat.le_of_ble_eq_true rfl) dX1_tap_33 ⟨Nat.zero_le _, Nat.zero_le _⟩ (fun r2 _ H locs hr2 hP hD hS => ?_)
          refine lv_if_ne (tgt := 41) hx hb dX1_tap_36 (by decide) (fun c_36 => ?_) (fun c_36 => ?_)
          · refine lv_aload_n hx hb dX1_tap_41 rfl (lv_at hl 0 rfl) ?_
            refine mg_4 hx hb hts hown hK hP dX1_tap_42 ?_
            refine lv_iload_n hx hb dX1_tap_45 rfl (lv_at hl 1 rfl) ?_
            refine ml_4 hx hb hK hP i (by omega) rfl dX1_tap_46 ?_
            refine lv_bipush (v := 6) hx hb dX1_tap_47 (by decide) ?_
            refine lv_icmp_ne (tgt := 55) hx hb dX1_tap_49 (by decide) (fun c_49 => ?_) (fun c_49 => ?_)
            · have hT7 : T < 6 := by
                rcases Nat.lt_or_ge T 6 with q | q
                · exact q
                · exact absurd (show G.2.2.2.2.1 i = 6 by rw [hT, show T = 6 by omega]; rfl) c_49
              have h6 : (6 : Int32) * nI i + G.2.2.2.2.1 i = nI (6 * i + T) := by rw [hT]; exact six i T
              refine lv_aload_n hx hb dX1_tap_55 rfl (lv_at hl 0 rfl) ?_
              refine mg_5 hx hb hts hown hK hP dX1_tap_56 ?_
              refine lv_bipush (v := 6) hx hb dX1_tap_59 (by decide) ?_
              refine lv_iload_n hx hb dX1_tap_61 rfl (lv_at hl 1 rfl) ?_
              refine lv_imul hx hb dX1_tap_62 ?_
              refine lv_aload_n hx hb dX1_tap_63 rfl (lv_at hl 0 rfl) ?_
              refine mg_4 hx hb hts hown hK hP dX1_tap_64 ?_
              refine lv_iload_n hx hb dX1_tap_67 rfl (lv_at hl 1 rfl) ?_
              refine ml_4 hx hb hK hP i (by omega) rfl dX1_tap_68 ?_
              refine lv_iadd hx hb dX1_tap_69 ?_
              refine lv_iload_n hx hb dX1_tap_70 rfl (lv_at hl 2 rfl) ?_
              refine ms_5 hx hb hK hP hD hS (6 * i + T) (by omega) h6 dX1_tap_71 (fun H locs hP hD hS => ?_)
              refine lv_aload_n hx hb dX1_tap_72 rfl (lv_at hl 0 rfl) ?_
              refine mg_6 hx hb hts hown hK hP dX1_tap_73 ?_
              refine lv_bipush (v := 6) hx hb dX1_tap_76 (by decide) ?_
              refine lv_iload_n hx hb dX1_tap_78 rfl (lv_at hl 1 rfl) ?_
              refine lv_imul hx hb dX1_tap_79 ?_
              refine lv_aload_n hx hb dX1_tap_80 rfl (lv_at hl 0 rfl) ?_
              refine mg_4 hx hb hts hown hK hP dX1_tap_81 ?_
              refine lv_iload_n hx hb dX1_tap_84 rfl (lv_at hl 1 rfl) ?_
              refine ml_4 hx hb hK hP i (by omega) rfl dX1_tap_85 ?_
              refine lv_iadd hx hb dX1_tap_86 ?_
              refine lv_iload_n hx hb dX1_tap_87 rfl (lv_at hl 3 rfl) ?_
              refine ms_6 hx hb hK hP hD hS (6 * i + T) (by omega) h6 dX1_tap_88 (fun H locs hP hD hS => ?_)
              refine lv_aload_n hx hb dX1_tap_89 rfl (lv_at hl 0 rfl) ?_
              refine mg_4 hx hb hts hown hK hP dX1_tap_90 ?_
              refine lv_iload_n hx hb dX1_tap_93 rfl (lv_at hl 1 rfl) ?_
              refine lv_dup2_11 hx hb dX1_tap_94 rfl rfl ?_
              refine ml_4 hx hb hK hP i (by omega) rfl dX1_tap_95 ?_
              refine lv_iconst (v := 1) hx hb dX1_tap_96 (by decide) ?_
              refine lv_iadd hx hb dX1_tap_97 ?_
              refine lv_topi (fun nt_ ent_ => ?_)
              obtain rfl : nt_ = nI (T + 1) := by rw [ent_]; show G.2.2.2.2.1 i + 1 = _; rw [hT, nI_1]
              refine ms_4 hx hb hK hP hD hS i (by omega) rfl dX1_tap_98 (fun H locs hP hD hS => ?_)
              refine lv_aload_n hx hb dX1_tap_99 rfl (lv_at hl 0 rfl) ?_
              refine zz_callv ⟨hx, hb, hml, hown, hts⟩ hK hP hD hS hA rfl rfl (metX1_restart l _) (cw_X1_restart hts ⟨Nat.le_of_ble_eq_true rfl, Nat.le_of_ble_eq_true rfl⟩) rfl hl.1 rfl (Nat.le_of_ble_eq_true rfl) dX1_tap_100 ⟨Nat.zero_le _, Nat.zero_le _⟩ (fun _ H locs _ hP hD hS => ?_)
              refine lv_aload_n hx hb dX1_tap_103 rfl (lv_at hl 0 rfl) ?_
              refine mg_4 hx hb hts hown hK hP dX1_tap_104 ?_
              refine lv_iload_n hx hb dX1_tap_107 rfl (lv_at hl 1 rfl) ?_
              refine ml_4 hx hb hK hP i (by omega) rfl dX1_tap_108 ?_
              exact zz_iret hx hb hr hlocks hK hQ hS ((gTap G i T aa co, zf nw 20, 0)) hP hD dX1_tap_109 (by
        have hn1 := isNo_1 (show ¬ isNo aa = 0 by rw [← hr1]; exact c_28)
        have hn2 := isVal_1 (show ¬ isVal co = 0 by rw [← hr2]; exact c_36)
        exact Or.inr ⟨i, T, hi, rfl, c_20, ⟨hn1.1, hn1.2, hn2.1, hn2.2⟩, hT, hT6, Or.inr ⟨hT7, pk_us, rfl⟩⟩)
            · refine lv_bipush (v := (-2)) hx hb dX1_tap_52 (by decide) ?_
              exact zz_iret hx hb hr hlocks hK hQ hS ((G, nw, k)) hP hD dX1_tap_54 (by
        have hn1 := isNo_1 (show ¬ isNo aa = 0 by rw [← hr1]; exact c_28)
        have hn2 := isVal_1 (show ¬ isVal co = 0 by rw [← hr2]; exact c_36)
        exact Or.inr ⟨i, T, hi, rfl, c_20, ⟨hn1.1, hn1.2, hn2.1, hn2.2⟩, hT, hT6, Or.inl ⟨(nI_eq (by omega) (by decide)).mp (show nI T = nI 6 from hT.symm.trans c_49), rfl, rfl⟩⟩)
          · refine lv_iconst (v := (-1)) hx hb dX1_tap_39 (by decide) ?_
            exact zz_iret hx hb hr hlocks hK hQ hS ((G, nw, k)) hP hD dX1_tap_40 (Or.inl ⟨fun ⟨j, hj, e, hk, q⟩ => isVal_0 (hr2.symm.trans c_36) ⟨q.2.2.1, q.2.2.2⟩, rfl, rfl⟩)
end
section
/-! chains of steps; the model's feed as a step -/
set_option maxRecDepth 100000
def Chn {α : Type} (R : α → α → Prop) : Nat → α → α → Prop
  | 0, a, b => a = b
  | n + 1, a, d => ∃ b, Chn R n a b ∧ R b d
def wantN (n : Int32) : Nat := if 0 ≤ n then (if n ≤ 40 then n.toNatClampNeg else 40) else 0
theorem wantN_le (n : Int32) : wantN n ≤ 40 := by
  unfold wantN
  split
  · split
    · rename_i h1 h2
      obtain ⟨j, hj, rfl⟩ := nI_of2 (n := 40) (M := 40) (by decide) (i_ale h1) h2
      rw [nI_clamp (by omega)]
      exact hj
    · omega
  · omega
theorem wantN_a {n : Int32} (h1 : 0 ≤ n) (h2 : n ≤ 40) : n = nI (wantN n) := by
  rw [wantN, if_pos h1, if_pos h2]
  obtain ⟨j, hj, rfl⟩ := nI_of2 (n := 40) (M := 40) (by decide) (i_ale h1) h2
  rw [nI_clamp (by omega)]
theorem wantN_b {n : Int32} (h1 : 0 ≤ n) (h2 : ¬ n ≤ 40) : (40 : Int32) = nI (wantN n) := by
  rw [wantN, if_pos h1, if_neg h2]; rfl
theorem wantN_c {n : Int32} (h1 : ¬ 0 ≤ n) : (0 : Int32) = nI (wantN n) := by
  rw [wantN, if_neg h1]; rfl
/-- the model's state: now, before, named, samples -/
abbrev MS : Type := (Nat → Int32) × (Nat → Int32) × (Nat → Int32) × Nat
def mfeed (G : XG) (x : Int32) (a b : MS) (r : Int32) : Prop :=
  b.2.2.1 = ndF G a.2.2.1 ∧ ((r = 0 ∧ ¬ acy G (ndF G a.2.2.1) ∧ b.1 = a.1 ∧ b.2.1 = a.2.1 ∧ b.2.2.2 = a.2.2.2) ∨ (r = 1 ∧ acy G (ndF G a.2.2.1) ∧ b.1 = rdO G (cpF a.1 a.2.1 G.1) a.2.2.2 x a.1 20 ∧ b.2.1 = cpF a.1 a.2.1 G.1 ∧ b.2.2.2 = a.2.2.2 + 1))
def mstep (G : XG) (x : Int32) (a b : MS × Nat) : Prop := (mfeed G x a.1 b.1 0 ∧ b.2 = a.2) ∨ (mfeed G x a.1 b.1 1 ∧ b.2 = a.2 + 1)
theorem ndF_def (G : XG) (nd : Nat → Int32) : wsO G.1 (ndA G nd G.1) G.1 = ndF G nd := rfl
end
section
/-! the model: namedBy, sound, sumOf, worth, feed, repeat -/
set_option maxRecDepth 100000
abbrev rmX1_namedBy : Room := { frames := 0, cells := 0, slots := 0, locals := 0 }
theorem cw_X1_namedBy {R : Room} {s : State} {args : Array Value} (hts : ∀ w ∈ lw_all, w.before args s = true) (hR : rmX1_namedBy.frames + 1 ≤ R.frames ∧ 8 + (4 + 11) + rmX1_namedBy.locals ≤ R.locals) : CallW R s args RX1 RX1 58 yX1_namedBy cX1_namedBy 4 (some .int) (ws_ yX1_namedBy cX1_namedBy 4 (some .int)) rmX1_namedBy 0 0 1 := cwV 1 hts (lw_V q276 q278 qs19 q26 q279) rfl rfl rfl (by decide +kernel) hR
set_option maxHeartbeats 4000000 in
/-- namedBy(i) -/
theorem metX1_namedBy (l : Launch) {D : va_G} {h : Nat} {ad : Nat → Nat} {cd : Nat → ClassId} {G : XG} {nw bf nd : Nat → Int32} {k : Nat} (sz : Nat) (i T : Nat) (hi : i < 20) (hT6 : T ≤ 6) (hT : G.2.2.2.2.1 i = nI T) : MetI l yX1_namedBy cX1_namedBy 4 .int rmX1_namedBy D vwCl (tM cd) (wM h ad cd G nw bf nd k) sz [.ref h, .int (nI i)] (fun r (_ : Unit) => r = nbM G i) (fun _ => wM h ad cd G nw bf nd k) := by
  refine zz_startI (own := RX1) (by decide) rfl (Nat.le_of_ble_eq_true rfl) ?_
  intro p e s m below meth c Q A ls args hx hb hr hml hown hts hlocks hA hK hP hD hS hl hQ
  have hl : lv_has ls 4 [(0, .ref h), (1, .int (nI i))] := hl
  have loop : ∀ (d t : Nat), t + d = T → ∀ (v : Int32) (ls : Array Slot), v = tpO G i (nbM2 G i) t → lv_has ls 4 [(3, .int (nI t)), (2, .int v), (1, .int (nI i)), (0, .ref h)] → W p l e rmX1_namedBy s m args below meth c s.heap [] 0 0 Q (F0 m 65 ls []) := by
    intro d
    induction d with
    | zero =>
      intro t ht v ls hv hl
      obtain rfl : t = T := by omega
      refine lv_iload_n hx hb dX1_namedBy_65 rfl (lv_at hl 0 rfl) ?_
      refine lv_aload_n hx hb dX1_namedBy_66 rfl (lv_at hl 3 rfl) ?_
      refine mg_4 hx hb hts hown hK hP dX1_namedBy_67 ?_
      refine lv_iload_n hx hb dX1_namedBy_70 rfl (lv_at hl 2 rfl) ?_
      refine ml_4 hx hb hK hP i hi rfl dX1_namedBy_71 ?_
      refine lv_icmp_ge (tgt := 97) hx hb dX1_namedBy_72 (by decide) (fun c_72 => ?_) (fun c_72 => absurd (by rw [hT]; exact nI_le (Nat.le_refl _) (by omega)) c_72)
      refine lv_iload_n hx hb dX1_namedBy_97 rfl (lv_at hl 1 rfl) ?_
      refine lv_iconst (v := 1) hx hb dX1_namedBy_98 (by decide) ?_
      refine lv_aload_n hx hb dX1_namedBy_99 rfl (lv_at hl 3 rfl) ?_
      refine mg_0 hx hb hts hown hK hP dX1_namedBy_100 ?_
      refine lv_ishl hx hb dX1_namedBy_103 ?_
      refine lv_iconst (v := 1) hx hb dX1_namedBy_104 (by decide) ?_
      refine lv_isub hx hb dX1_namedBy_105 ?_
      refine lv_iand hx hb dX1_namedBy_106 ?_
      exact zz_iret hx hb hr hlocks hK hQ hS (()) hP hD dX1_namedBy_107 (by rw [hv, nbM, hT, nI_clamp (by omega)])
    | succ d ih =>
      intro t ht v ls hv hl
      refine lv_iload_n hx hb dX1_namedBy_65 rfl (lv_at hl 0 rfl) ?_
      refine lv_aload_n hx hb dX1_namedBy_66 rfl (lv_at hl 3 rfl) ?_
      refine mg_4 hx hb hts hown hK hP dX1_namedBy_67 ?_
      refine lv_iload_n hx hb dX1_namedBy_70 rfl (lv_at hl 2 rfl) ?_
      refine ml_4 hx hb hK hP i hi rfl dX1_namedBy_71 ?_
      refine lv_icmp_ge (tgt := 97) hx hb dX1_namedBy_72 (by decide) (fun c_72 => absurd c_72 (by rw [hT]; exact nI_ge (by omega) (by omega))) (fun c_72 => ?_)
      refine lv_iload_n hx hb dX1_namedBy_75 rfl (lv_at hl 1 rfl) ?_
      refine lv_iconst (v := 1) hx hb dX1_namedBy_76 (by decide) ?_
      refine lv_aload_n hx hb dX1_namedBy_77 rfl (lv_at hl 3 rfl) ?_
      refine mg_5 hx hb hts hown hK hP dX1_namedBy_78 ?_
      refine lv_bipush (v := 6) hx hb dX1_namedBy_81 (by decide) ?_
      refine lv_iload_n hx hb dX1_namedBy_83 rfl (lv_at hl 2 rfl) ?_
      refine lv_imul hx hb dX1_namedBy_84 ?_
      refine lv_iload_n hx hb dX1_namedBy_85 rfl (lv_at hl 0 rfl) ?_
      refine lv_iadd hx hb dX1_namedBy_86 ?_
      refine ml_5 hx hb hK hP (6 * i + t) (by omega) (six i t) dX1_namedBy_87 ?_
      refine lv_ishl hx hb dX1_namedBy_88 ?_
      refine lv_ior hx hb dX1_namedBy_89 ?_
      refine lv_istore_n (lv' := [(2, .int _), (3, .int _), (1, .int _), (0, .ref _)]) hx hb dX1_namedBy_90 rfl hl (by decide) rfl (fun ls hl => ?_)
      refine lv_iinc (v := nI (t + 1)) (lv' := [(3, .int _), (2, .int _), (1, .int _), (0, .ref _)]) hx hb dX1_namedBy_91 hl (k := 1) rfl (nI_1 t) (by decide) rfl (fun ls hl => ?_)
      refine lv_goto (tgt := 65) hx hb dX1_namedBy_94 (by decide) ?_
      exact ih (t + 1) (by omega) _ ls (by rw [hv]; rfl) (lv_sub hl [0, 1, 2, 3] rfl)
  have J63 : ∀ (v : Int32) (ls : Array Slot), v = nbM2 G i → lv_has ls 4 [(2, .int v), (1, .int (nI i)), (0, .ref h)] → W p l e rmX1_namedBy s m args below meth c s.heap [] 0 0 Q (F0 m 63 ls []) := by
    intro v ls hv hl
    refine lv_iconst (v := 0) hx hb dX1_namedBy_63 (by decide) ?_
    refine lv_istore_n (lv' := [(3, .int _), (2, .int _), (1, .int _), (0, .ref _)]) hx hb dX1_namedBy_64 rfl hl (by decide) rfl (fun ls hl => ?_)
    exact loop T 0 (Nat.zero_add T) v ls hv (lv_sub hl [0, 1, 2, 3] rfl)
  have J32 : ∀ (v : Int32) (ls : Array Slot), v = nbM1 G i → lv_has ls 4 [(2, .int v), (1, .int (nI i)), (0, .ref h)] → W p l e rmX1_namedBy s m args below meth c s.heap [] 0 0 Q (F0 m 32 ls []) := by
    intro v ls hv hl
    refine lv_aload_n hx hb dX1_namedBy_32 rfl (lv_at hl 2 rfl) ?_
    refine mg_1 hx hb hts hown hK hP dX1_namedBy_33 ?_
    refine lv_iload_n hx hb dX1_namedBy_36 rfl (lv_at hl 1 rfl) ?_
    refine ml_1 hx hb hK hP i hi rfl dX1_namedBy_37 ?_
    refine lv_iconst (v := 3) hx hb dX1_namedBy_38 (by decide) ?_
    refine lv_icmp_lt (tgt := 63) hx hb dX1_namedBy_39 (by decide) (fun c_39 => ?_) (fun c_39 => ?_)
    · exact J63 _ ls (by rw [hv]; simp only [nbM2, if_pos c_39]) (lv_sub hl [0, 1, 2] rfl)
    · refine lv_aload_n hx hb dX1_namedBy_42 rfl (lv_at hl 2 rfl) ?_
      refine mg_1 hx hb hts hown hK hP dX1_namedBy_43 ?_
      refine lv_iload_n hx hb dX1_namedBy_46 rfl (lv_at hl 1 rfl) ?_
      refine ml_1 hx hb hK hP i hi rfl dX1_namedBy_47 ?_
      refine lv_iconst (v := 5) hx hb dX1_namedBy_48 (by decide) ?_
      refine lv_icmp_gt (tgt := 63) hx hb dX1_namedBy_49 (by decide) (fun c_49 => ?_) (fun c_49 => ?_)
      · exact J63 _ ls (by rw [hv]; simp only [nbM2, if_neg c_39, if_pos c_49]) (lv_sub hl [0, 1, 2] rfl)
      · refine lv_iload_n hx hb dX1_namedBy_52 rfl (lv_at hl 0 rfl) ?_
        refine lv_iconst (v := 1) hx hb dX1_namedBy_53 (by decide) ?_
        refine lv_aload_n hx hb dX1_namedBy_54 rfl (lv_at hl 2 rfl) ?_
        refine mg_3 hx hb hts hown hK hP dX1_namedBy_55 ?_
        refine lv_iload_n hx hb dX1_namedBy_58 rfl (lv_at hl 1 rfl) ?_
        refine ml_3 hx hb hK hP i hi rfl dX1_namedBy_59 ?_
        refine lv_ishl hx hb dX1_namedBy_60 ?_
        refine lv_ior hx hb dX1_namedBy_61 ?_
        refine lv_istore_n (lv' := [(2, .int _), (1, .int _), (0, .ref _)]) hx hb dX1_namedBy_62 rfl hl (by decide) rfl (fun ls hl => ?_)
        exact J63 _ ls (by rw [hv]; simp only [nbM2, if_neg c_39, if_neg c_49]) (lv_sub hl [0, 1, 2] rfl)
  refine lv_iconst (v := 0) hx hb dX1_namedBy_0 (by decide) ?_
  refine lv_istore_n (lv' := [(2, .int _), (0, .ref _), (1, .int _)]) hx hb dX1_namedBy_1 rfl hl (by decide) rfl (fun ls hl => ?_)
  refine lv_aload_n hx hb dX1_namedBy_2 rfl (lv_at hl 1 rfl) ?_
  refine mg_1 hx hb hts hown hK hP dX1_namedBy_3 ?_
  refine lv_iload_n hx hb dX1_namedBy_6 rfl (lv_at hl 2 rfl) ?_
  refine ml_1 hx hb hK hP i hi rfl dX1_namedBy_7 ?_
  refine lv_iconst (v := 3) hx hb dX1_namedBy_8 (by decide) ?_
  refine lv_icmp_lt (tgt := 32) hx hb dX1_namedBy_9 (by decide) (fun c_9 => ?_) (fun c_9 => ?_)
  · exact J32 _ ls (by simp only [nbM1, if_pos c_9]) (lv_sub hl [0, 2, 1] rfl)
  · refine lv_aload_n hx hb dX1_namedBy_12 rfl (lv_at hl 1 rfl) ?_
    refine mg_1 hx hb hts hown hK hP dX1_namedBy_13 ?_
    refine lv_iload_n hx hb dX1_namedBy_16 rfl (lv_at hl 2 rfl) ?_
    refine ml_1 hx hb hK hP i hi rfl dX1_namedBy_17 ?_
    refine lv_bipush (v := 9) hx hb dX1_namedBy_18 (by decide) ?_
    refine lv_icmp_gt (tgt := 32) hx hb dX1_namedBy_20 (by decide) (fun c_20 => ?_) (fun c_20 => ?_)
    · exact J32 _ ls (by simp only [nbM1, if_neg c_9, if_pos c_20]) (lv_sub hl [0, 2, 1] rfl)
    · refine lv_iconst (v := 1) hx hb dX1_namedBy_23 (by decide) ?_
      refine lv_aload_n hx hb dX1_namedBy_24 rfl (lv_at hl 1 rfl) ?_
      refine mg_2 hx hb hts hown hK hP dX1_namedBy_25 ?_
      refine lv_iload_n hx hb dX1_namedBy_28 rfl (lv_at hl 2 rfl) ?_
      refine ml_2 hx hb hK hP i hi rfl dX1_namedBy_29 ?_
      refine lv_ishl hx hb dX1_namedBy_30 ?_
      refine lv_istore_n (lv' := [(2, .int _), (0, .ref _), (1, .int _)]) hx hb dX1_namedBy_31 rfl hl (by decide) rfl (fun ls hl => ?_)
      exact J32 _ ls (by simp only [nbM1, if_neg c_9, if_neg c_20]) (lv_sub hl [0, 2, 1] rfl)
abbrev rmX1_sound : Room := { frames := 1, cells := 0, slots := 0, locals := 23 }
theorem cw_X1_sound {R : Room} {s : State} {args : Array Value} (hts : ∀ w ∈ lw_all, w.before args s = true) (hR : rmX1_sound.frames + 1 ≤ R.frames ∧ 8 + (3 + 11) + rmX1_sound.locals ≤ R.locals) : CallW R s args RX1 RX1 78 yX1_sound cX1_sound 3 (some .boolean) (ws_ yX1_sound cX1_sound 3 (some .boolean)) rmX1_sound 0 0 0 := cwV 0 hts (lw_V q284 q273 q274 q26 q275) rfl rfl rfl (by decide +kernel) hR
set_option maxHeartbeats 4000000 in
/-- sound() -/
theorem metX1_sound (l : Launch) {D : va_G} {h : Nat} {ad : Nat → Nat} {cd : Nat → ClassId} {G : XG} {nw bf nd : Nat → Int32} {k : Nat} (sz : Nat) (hg : gok G) : MetI l yX1_sound cX1_sound 3 .boolean rmX1_sound D vwCl (tM cd) (wM h ad cd G nw bf nd k) sz [.ref h] (fun r (_ : Unit) => (r = 1 ∧ acy G (ndF G nd)) ∨ (r = 0 ∧ ¬ acy G (ndF G nd))) (fun _ => wM h ad cd G nw bf (ndF G nd) k) := by
  refine zz_startI (own := RX1) (by decide) rfl (Nat.le_of_ble_eq_true rfl) ?_
  intro p e s m below meth c Q A ls args hx hb hr hml hown hts hlocks hA hK hP hD hS hl hQ
  have hl : lv_has ls 3 [(0, .ref h)] := hl
  have hn := hg.1
  have loop3 : ∀ (d i : Nat), i + d = G.1 → (∀ j, j < i → ¬ bitI (ndF G nd j) j) → ∀ (H : Heap) (locs : List Loc) (ls : Array Slot), va_P D vwCl (wM h ad cd G nw bf (ndF G nd) k) H → va_D A (wM h ad cd G nw bf (ndF G nd) k) → va_S A s.heap H locs → lv_has ls 3 [(1, .int (nI i)), (0, .ref h)] → W p l e rmX1_sound s m args below meth c H locs 0 0 Q (F0 m 94 ls []) := by
    intro d
    induction d with
    | zero =>
      intro i hi hb3 H locs ls hP hD hS hl
      refine lv_iload_n hx hb dX1_sound_94 rfl (lv_at hl 0 rfl) ?_
      refine lv_aload_n hx hb dX1_sound_95 rfl (lv_at hl 1 rfl) ?_
      refine mg_0 hx hb hts hown hK hP dX1_sound_96 ?_
      refine lv_icmp_ge (tgt := 124) hx hb dX1_sound_99 (by decide) (fun c_99 => ?_) (fun c_99 => absurd (nI_le (by omega) (by omega)) c_99)
      refine lv_iconst (v := 1) hx hb dX1_sound_124 (by decide) ?_
      exact zz_zret hx hb hr hlocks hK hQ hS (()) hP hD dX1_sound_125 (rfl) (Or.inl ⟨rfl, fun j hj => hb3 j (by omega)⟩)
    | succ d ih =>
      intro i hi hb3 H locs ls hP hD hS hl
      refine lv_iload_n hx hb dX1_sound_94 rfl (lv_at hl 0 rfl) ?_
      refine lv_aload_n hx hb dX1_sound_95 rfl (lv_at hl 1 rfl) ?_
      refine mg_0 hx hb hts hown hK hP dX1_sound_96 ?_
      refine lv_icmp_ge (tgt := 124) hx hb dX1_sound_99 (by decide) (fun c_99 => absurd c_99 (nI_ge (by omega) (by omega))) (fun c_99 => ?_)
      refine lv_aload_n hx hb dX1_sound_102 rfl (lv_at hl 1 rfl) ?_
      refine mg_10 hx hb hts hown hK hP dX1_sound_103 ?_
      refine lv_iload_n hx hb dX1_sound_106 rfl (lv_at hl 0 rfl) ?_
      refine ml_10 hx hb hK hP i (by omega) rfl dX1_sound_107 ?_
      refine lv_iload_n hx hb dX1_sound_108 rfl (lv_at hl 0 rfl) ?_
      refine lv_ishr hx hb dX1_sound_109 ?_
      refine lv_iconst (v := 1) hx hb dX1_sound_110 (by decide) ?_
      refine lv_iand hx hb dX1_sound_111 ?_
      refine lv_iconst (v := 1) hx hb dX1_sound_112 (by decide) ?_
      refine lv_icmp_ne (tgt := 118) hx hb dX1_sound_113 (by decide) (fun c_113 => ?_) (fun c_113 => ?_)
      · refine lv_iinc (v := nI (i + 1)) (lv' := [(1, .int _), (0, .ref _)]) hx hb dX1_sound_118 hl (k := 0) rfl (nI_1 i) (by decide) rfl (fun ls hl => ?_)
        refine lv_goto (tgt := 94) hx hb dX1_sound_121 (by decide) ?_
        exact ih (i + 1) (by omega) (lt_s hb3 c_113) H locs ls hP hD hS (lv_sub hl [0, 1] rfl)
      · refine lv_iconst (v := 0) hx hb dX1_sound_116 (by decide) ?_
        exact zz_zret hx hb hr hlocks hK hQ hS (()) hP hD dX1_sound_117 (rfl) (Or.inr ⟨rfl, fun q => q i (by omega) c_113⟩)
  have loop2 : ∀ (d q : Nat), q + d = G.1 → ∀ (H : Heap) (locs : List Loc) (ls : Array Slot), va_P D vwCl (wM h ad cd G nw bf (wsO G.1 (ndA G nd G.1) q) k) H → va_D A (wM h ad cd G nw bf (wsO G.1 (ndA G nd G.1) q) k) → va_S A s.heap H locs → lv_has ls 3 [(1, .int (nI q)), (0, .ref h)] → W p l e rmX1_sound s m args below meth c H locs 0 0 Q (F0 m 29 ls []) := by
    intro d
    induction d with
    | zero =>
      intro q hq H locs ls hP hD hS hl
      obtain rfl : q = G.1 := by omega
      refine lv_iload_n hx hb dX1_sound_29 rfl (lv_at hl 0 rfl) ?_
      refine lv_aload_n hx hb dX1_sound_30 rfl (lv_at hl 1 rfl) ?_
      refine mg_0 hx hb hts hown hK hP dX1_sound_31 ?_
      refine lv_icmp_ge (tgt := 92) hx hb dX1_sound_34 (by decide) (fun c_34 => ?_) (fun c_34 => absurd (nI_le (by omega) (by omega)) c_34)
      refine lv_iconst (v := 0) hx hb dX1_sound_92 (by decide) ?_
      refine lv_istore_n (lv' := [(1, .int _), (0, .ref _)]) hx hb dX1_sound_93 rfl hl (by decide) rfl (fun ls hl => ?_)
      exact loop3 G.1 0 (Nat.zero_add _) lt_0 H locs ls hP hD hS (lv_sub hl [0, 1] rfl)
    | succ d ih =>
      intro q hq H locs ls hP hD hS hl
      have inner : ∀ (d2 i : Nat), i + d2 = G.1 → ∀ (H : Heap) (locs : List Loc) (ls : Array Slot), va_P D vwCl (wM h ad cd G nw bf (wsI q (wsO G.1 (ndA G nd G.1) q) i) k) H → va_D A (wM h ad cd G nw bf (wsI q (wsO G.1 (ndA G nd G.1) q) i) k) → va_S A s.heap H locs → lv_has ls 3 [(2, .int (nI i)), (1, .int (nI q)), (0, .ref h)] → W p l e rmX1_sound s m args below meth c H locs 0 0 Q (F0 m 39 ls []) := by
        intro d2
        induction d2 with
        | zero =>
          intro i hi H locs ls hP hD hS hl
          obtain rfl : i = G.1 := by omega
          refine lv_iload_n hx hb dX1_sound_39 rfl (lv_at hl 0 rfl) ?_
          refine lv_aload_n hx hb dX1_sound_40 rfl (lv_at hl 2 rfl) ?_
          refine mg_0 hx hb hts hown hK hP dX1_sound_41 ?_
          refine lv_icmp_ge (tgt := 86) hx hb dX1_sound_44 (by decide) (fun c_44 => ?_) (fun c_44 => absurd (nI_le (by omega) (by omega)) c_44)
          refine lv_iinc (v := nI (q + 1)) (lv' := [(1, .int _), (2, .int _), (0, .ref _)]) hx hb dX1_sound_86 hl (k := 1) rfl (nI_1 q) (by decide) rfl (fun ls hl => ?_)
          refine lv_goto (tgt := 29) hx hb dX1_sound_89 (by decide) ?_
          exact ih (q + 1) (by omega) H locs ls hP hD hS (lv_sub hl [0, 2] rfl)
        | succ d2 ih2 =>
          intro i hi H locs ls hP hD hS hl
          refine lv_iload_n hx hb dX1_sound_39 rfl (lv_at hl 0 rfl) ?_
          refine lv_aload_n hx hb dX1_sound_40 rfl (lv_at hl 2 rfl) ?_
          refine mg_0 hx hb hts hown hK hP dX1_sound_41 ?_
          refine lv_icmp_ge (tgt := 86) hx hb dX1_sound_44 (by decide) (fun c_44 => absurd c_44 (nI_ge (by omega) (by omega))) (fun c_44 => ?_)
          refine lv_aload_n hx hb dX1_sound_47 rfl (lv_at hl 2 rfl) ?_
          refine mg_10 hx hb hts hown hK hP dX1_sound_48 ?_
          refine lv_iload_n hx hb dX1_sound_51 rfl (lv_at hl 0 rfl) ?_
          refine ml_10 hx hb hK hP i (by omega) rfl dX1_sound_52 ?_
          refine lv_iload_n hx hb dX1_sound_53 rfl (lv_at hl 1 rfl) ?_
          refine lv_ishr hx hb dX1_sound_54 ?_
          refine lv_iconst (v := 1) hx hb dX1_sound_55 (by decide) ?_
          refine lv_iand hx hb dX1_sound_56 ?_
          refine lv_iconst (v := 1) hx hb dX1_sound_57 (by decide) ?_
          refine lv_icmp_ne (tgt := 80) hx hb dX1_sound_58 (by decide) (fun c_58 => ?_) (fun c_58 => ?_)
          · refine lv_iinc (v := nI (i + 1)) (lv' := [(2, .int _), (1, .int _), (0, .ref _)]) hx hb dX1_sound_80 hl (k := 0) rfl (nI_1 i) (by decide) rfl (fun ls hl => ?_)
            refine lv_goto (tgt := 39) hx hb dX1_sound_83 (by decide) ?_
            exact ih2 (i + 1) (by omega) H locs ls (by simp only [wsI, if_neg c_58]; exact hP) (by simp only [wsI, if_neg c_58]; exact hD) hS (lv_sub hl [0, 1, 2] rfl)
          · refine lv_aload_n hx hb dX1_sound_61 rfl (lv_at hl 2 rfl) ?_
            refine mg_10 hx hb hts hown hK hP dX1_sound_62 ?_
            refine lv_iload_n hx hb dX1_sound_65 rfl (lv_at hl 0 rfl) ?_
            refine lv_aload_n hx hb dX1_sound_66 rfl (lv_at hl 2 rfl) ?_
            refine mg_10 hx hb hts hown hK hP dX1_sound_67 ?_
            refine lv_iload_n hx hb dX1_sound_70 rfl (lv_at hl 0 rfl) ?_
            refine ml_10 hx hb hK hP i (by omega) rfl dX1_sound_71 ?_
            refine lv_aload_n hx hb dX1_sound_72 rfl (lv_at hl 2 rfl) ?_
            refine mg_10 hx hb hts hown hK hP dX1_sound_73 ?_
            refine lv_iload_n hx hb dX1_sound_76 rfl (lv_at hl 1 rfl) ?_
            refine ml_10 hx hb hK hP q (by omega) rfl dX1_sound_77 ?_
            refine lv_ior hx hb dX1_sound_78 ?_
            refine ms_10 hx hb hK hP hD hS i (by omega) rfl dX1_sound_79 (fun H locs hP hD hS => ?_)
            refine lv_iinc (v := nI (i + 1)) (lv' := [(2, .int _), (1, .int _), (0, .ref _)]) hx hb dX1_sound_80 hl (k := 0) rfl (nI_1 i) (by decide) rfl (fun ls hl => ?_)
            refine lv_goto (tgt := 39) hx hb dX1_sound_83 (by decide) ?_
            exact ih2 (i + 1) (by omega) H locs ls (by simp only [wsI, if_pos c_58]; exact hP) (by simp only [wsI, if_pos c_58]; exact hD) hS (lv_sub hl [0, 1, 2] rfl)
      refine lv_iload_n hx hb dX1_sound_29 rfl (lv_at hl 0 rfl) ?_
      refine lv_aload_n hx hb dX1_sound_30 rfl (lv_at hl 1 rfl) ?_
      refine mg_0 hx hb hts hown hK hP dX1_sound_31 ?_
      refine lv_icmp_ge (tgt := 92) hx hb dX1_sound_34 (by decide) (fun c_34 => absurd c_34 (nI_ge (by omega) (by omega))) (fun c_34 => ?_)
      refine lv_iconst (v := 0) hx hb dX1_sound_37 (by decide) ?_
      refine lv_istore_n (lv' := [(2, .int _), (1, .int _), (0, .ref _)]) hx hb dX1_sound_38 rfl hl (by decide) rfl (fun ls hl => ?_)
      exact inner G.1 0 (Nat.zero_add _) H locs ls hP hD hS (lv_sub hl [0, 1, 2] rfl)
  have loop1 : ∀ (d i : Nat), i + d = G.1 → ∀ (H : Heap) (locs : List Loc) (ls : Array Slot), va_P D vwCl (wM h ad cd G nw bf (ndA G nd i) k) H → va_D A (wM h ad cd G nw bf (ndA G nd i) k) → va_S A s.heap H locs → lv_has ls 3 [(1, .int (nI i)), (0, .ref h)] → W p l e rmX1_sound s m args below meth c H locs 0 0 Q (F0 m 2 ls []) := by
    intro d
    induction d with
    | zero =>
      intro i hi H locs ls hP hD hS hl
      obtain rfl : i = G.1 := by omega
      refine lv_iload_n hx hb dX1_sound_2 rfl (lv_at hl 0 rfl) ?_
      refine lv_aload_n hx hb dX1_sound_3 rfl (lv_at hl 1 rfl) ?_
      refine mg_0 hx hb hts hown hK hP dX1_sound_4 ?_
      refine lv_icmp_ge (tgt := 27) hx hb dX1_sound_7 (by decide) (fun c_7 => ?_) (fun c_7 => absurd (nI_le (by omega) (by omega)) c_7)
      refine lv_iconst (v := 0) hx hb dX1_sound_27 (by decide) ?_
      refine lv_istore_n (lv' := [(1, .int _), (0, .ref _)]) hx hb dX1_sound_28 rfl hl (by decide) rfl (fun ls hl => ?_)
      exact loop2 G.1 0 (Nat.zero_add _) H locs ls hP hD hS (lv_sub hl [0, 1] rfl)
    | succ d ih =>
      intro i hi H locs ls hP hD hS hl
      obtain ⟨-, T, hT6, hT, -, -⟩ := hg.2 i (by omega)
      refine lv_iload_n hx hb dX1_sound_2 rfl (lv_at hl 0 rfl) ?_
      refine lv_aload_n hx hb dX1_sound_3 rfl (lv_at hl 1 rfl) ?_
      refine mg_0 hx hb hts hown hK hP dX1_sound_4 ?_
      refine lv_icmp_ge (tgt := 27) hx hb dX1_sound_7 (by decide) (fun c_7 => absurd c_7 (nI_ge (by omega) (by omega))) (fun c_7 => ?_)
      refine lv_aload_n hx hb dX1_sound_10 rfl (lv_at hl 1 rfl) ?_
      refine mg_10 hx hb hts hown hK hP dX1_sound_11 ?_
      refine lv_iload_n hx hb dX1_sound_14 rfl (lv_at hl 0 rfl) ?_
      refine lv_aload_n hx hb dX1_sound_15 rfl (lv_at hl 1 rfl) ?_
      refine lv_iload_n hx hb dX1_sound_16 rfl (lv_at hl 0 rfl) ?_
      refine zz_calli ⟨hx, hb, hml, hown, hts⟩ hK hP hD hS hA rfl rfl (metX1_namedBy l _ i T (by omega) hT6 hT) (cw_X1_namedBy hts ⟨Nat.le_of_ble_eq_true rfl, Nat.le_of_ble_eq_true rfl⟩) rfl hl.1 rfl (Nat.le_of_ble_eq_true rfl) dX1_sound_17 ⟨Nat.zero_le _, Nat.zero_le _⟩ (fun r1 _ H locs hr1 hP hD hS => ?_)
      subst hr1
      refine ms_10 hx hb hK hP hD hS i (by omega) rfl dX1_sound_20 (fun H locs hP hD hS => ?_)
      refine lv_iinc (v := nI (i + 1)) (lv' := [(1, .int _), (0, .ref _)]) hx hb dX1_sound_21 hl (k := 0) rfl (nI_1 i) (by decide) rfl (fun ls hl => ?_)
      refine lv_goto (tgt := 2) hx hb dX1_sound_24 (by decide) ?_
      exact ih (i + 1) (by omega) H locs ls hP hD hS (lv_sub hl [0, 1] rfl)
  refine lv_iconst (v := 0) hx hb dX1_sound_0 (by decide) ?_
  refine lv_istore_n (lv' := [(1, .int _), (0, .ref _)]) hx hb dX1_sound_1 rfl hl (by decide) rfl (fun ls hl => ?_)
  exact loop1 G.1 0 (Nat.zero_add _) s.heap [] ls hP hD hS (lv_sub hl [0, 1] rfl)
abbrev rmX1_sumOf : Room := { frames := 1, cells := 0, slots := 0, locals := 22 }
theorem cw_X1_sumOf {R : Room} {s : State} {args : Array Value} (hts : ∀ w ∈ lw_all, w.before args s = true) (hR : rmX1_sumOf.frames + 1 ≤ R.frames ∧ 8 + (6 + 11) + rmX1_sumOf.locals ≤ R.locals) : CallW R s args RX1 RX1 75 yX1_sumOf cX1_sumOf 6 (some .int) (ws_ yX1_sumOf cX1_sumOf 6 (some .int)) rmX1_sumOf 0 0 1 := cwV 1 hts (lw_V q295 q297 qs22 q26 q298) rfl rfl rfl (by decide +kernel) hR
set_option maxHeartbeats 4000000 in
/-- sumOf(i) -/
theorem metX1_sumOf (l : Launch) {D : va_G} {h : Nat} {ad : Nat → Nat} {cd : Nat → ClassId} {G : XG} {nw bf nd : Nat → Int32} {k : Nat} (sz : Nat) (i T : Nat) (hi : i < 20) (hn : G.1 ≤ 20) (hT6 : T ≤ 6) (hT : G.2.2.2.2.1 i = nI T) (ha : ∀ t, t < T → ¬ G.2.2.2.2.2.1 (6 * i + t) < 0) : MetI l yX1_sumOf cX1_sumOf 6 .int rmX1_sumOf D vwCl (tM cd) (wM h ad cd G nw bf nd k) sz [.ref h, .int (nI i)] (fun r (_ : Unit) => r = suM G nw i) (fun _ => wM h ad cd G nw bf nd k) := by
  refine zz_startI (own := RX1) (by decide) rfl (Nat.le_of_ble_eq_true rfl) ?_
  intro p e s m below meth c Q A ls args hx hb hr hml hown hts hlocks hA hK hP hD hS hl hQ
  have hl : lv_has ls 6 [(0, .ref h), (1, .int (nI i))] := hl
  have loop : ∀ (d t : Nat), t + d = T → ∀ (v : Int64) (H : Heap) (locs : List Loc) (ls : Array Slot), v = smM G nw i t → va_P D vwCl (wM h ad cd G nw bf nd k) H → va_D A (wM h ad cd G nw bf nd k) → va_S A s.heap H locs → lv_has ls 6 [(4, .int (nI t)), (2, .long v), (1, .int (nI i)), (0, .ref h)] → W p l e rmX1_sumOf s m args below meth c H locs 0 0 Q (F0 m 7 ls []) := by
    intro d
    induction d with
    | zero =>
      intro t ht v H locs ls hv hP hD hS hl
      obtain rfl : t = T := by omega
      refine lv_iload hx hb dX1_sumOf_7 (lv_at hl 0 rfl) ?_
      refine lv_aload_n hx hb dX1_sumOf_9 rfl (lv_at hl 3 rfl) ?_
      refine mg_4 hx hb hts hown hK hP dX1_sumOf_10 ?_
      refine lv_iload_n hx hb dX1_sumOf_13 rfl (lv_at hl 2 rfl) ?_
      refine ml_4 hx hb hK hP i hi rfl dX1_sumOf_14 ?_
      refine lv_icmp_ge (tgt := 62) hx hb dX1_sumOf_15 (by decide) (fun c_15 => ?_) (fun c_15 => absurd (by rw [hT]; exact nI_le (Nat.le_refl _) (by omega)) c_15)
      refine lv_aload_n hx hb dX1_sumOf_62 rfl (lv_at hl 3 rfl) ?_
      refine lv_lload_n hx hb dX1_sumOf_63 rfl (lv_at hl 1 rfl) ?_
      refine lv_bipush (v := 15) hx hb dX1_sumOf_64 (by decide) ?_
      refine lv_lshr hx hb dX1_sumOf_66 rfl ?_
      refine zz_calli ⟨hx, hb, hml, hown, hts⟩ hK hP hD hS hA rfl rfl (metX1_sat l _ _) (cw_X1_sat hts ⟨Nat.le_of_ble_eq_true rfl, Nat.le_of_ble_eq_true rfl⟩) rfl hl.1 rfl (Nat.le_of_ble_eq_true rfl) dX1_sumOf_67 ⟨Nat.zero_le _, Nat.zero_le _⟩ (fun r1 _ H locs hr1 hP hD hS => ?_)
      exact zz_iret hx hb hr hlocks hK hQ hS (()) hP hD dX1_sumOf_70 (by rw [hr1, hv, suM, hT, nI_clamp (by omega)])
    | succ d ih =>
      intro t ht v H locs ls hv hP hD hS hl
      refine lv_iload hx hb dX1_sumOf_7 (lv_at hl 0 rfl) ?_
      refine lv_aload_n hx hb dX1_sumOf_9 rfl (lv_at hl 3 rfl) ?_
      refine mg_4 hx hb hts hown hK hP dX1_sumOf_10 ?_
      refine lv_iload_n hx hb dX1_sumOf_13 rfl (lv_at hl 2 rfl) ?_
      refine ml_4 hx hb hK hP i hi rfl dX1_sumOf_14 ?_
      refine lv_icmp_ge (tgt := 62) hx hb dX1_sumOf_15 (by decide) (fun c_15 => absurd c_15 (by rw [hT]; exact nI_ge (by omega) (by omega))) (fun c_15 => ?_)
      refine lv_aload_n hx hb dX1_sumOf_18 rfl (lv_at hl 3 rfl) ?_
      refine lv_aload_n hx hb dX1_sumOf_19 rfl (lv_at hl 3 rfl) ?_
      refine mg_5 hx hb hts hown hK hP dX1_sumOf_20 ?_
      refine lv_bipush (v := 6) hx hb dX1_sumOf_23 (by decide) ?_
      refine lv_iload_n hx hb dX1_sumOf_25 rfl (lv_at hl 2 rfl) ?_
      refine lv_imul hx hb dX1_sumOf_26 ?_
      refine lv_iload hx hb dX1_sumOf_27 (lv_at hl 0 rfl) ?_
      refine lv_iadd hx hb dX1_sumOf_29 ?_
      refine ml_5 hx hb hK hP (6 * i + t) (by omega) (six i t) dX1_sumOf_30 ?_
      refine zz_calli ⟨hx, hb, hml, hown, hts⟩ hK hP hD hS hA rfl rfl (metX1_nowAt l _ _ hn (ha t (by omega))) (cw_X1_nowAt hts ⟨Nat.le_of_ble_eq_true rfl, Nat.le_of_ble_eq_true rfl⟩) rfl hl.1 rfl (Nat.le_of_ble_eq_true rfl) dX1_sumOf_31 ⟨Nat.zero_le _, Nat.zero_le _⟩ (fun r1 _ H locs hr1 hP hD hS => ?_)
      refine lv_istore (lv' := [(5, .int _), (4, .int _), (2, .long _), (1, .int _), (0, .ref _)]) hx hb dX1_sumOf_34 hl (by decide) rfl (fun ls hl => ?_)
      refine lv_lload_n hx hb dX1_sumOf_36 rfl (lv_at hl 2 rfl) ?_
      refine lv_aload_n hx hb dX1_sumOf_37 rfl (lv_at hl 4 rfl) ?_
      refine mg_6 hx hb hts hown hK hP dX1_sumOf_38 ?_
      refine lv_bipush (v := 6) hx hb dX1_sumOf_41 (by decide) ?_
      refine lv_iload_n hx hb dX1_sumOf_43 rfl (lv_at hl 3 rfl) ?_
      refine lv_imul hx hb dX1_sumOf_44 ?_
      refine lv_iload hx hb dX1_sumOf_45 (lv_at hl 1 rfl) ?_
      refine lv_iadd hx hb dX1_sumOf_47 ?_
      refine ml_6 hx hb hK hP (6 * i + t) (by omega) (six i t) dX1_sumOf_48 ?_
      refine lv_i2l hx hb dX1_sumOf_49 rfl ?_
      refine lv_iload hx hb dX1_sumOf_50 (lv_at hl 0 rfl) ?_
      refine lv_i2l hx hb dX1_sumOf_52 rfl ?_
      refine lv_lmul hx hb dX1_sumOf_53 ?_
      refine lv_ladd hx hb dX1_sumOf_54 ?_
      refine lv_lstore_n (lv' := [(2, .long _), (5, .int _), (4, .int _), (1, .int _), (0, .ref _)]) hx hb dX1_sumOf_55 rfl hl (by decide) rfl (fun ls hl => ?_)
      refine lv_iinc (v := nI (t + 1)) (lv' := [(4, .int _), (2, .long _), (5, .int _), (1, .int _), (0, .ref _)]) hx hb dX1_sumOf_56 hl (k := 2) rfl (nI_1 t) (by decide) rfl (fun ls hl => ?_)
      refine lv_goto (tgt := 7) hx hb dX1_sumOf_59 (by decide) ?_
      exact ih (t + 1) (by omega) _ H locs ls (by rw [hv, hr1]; rfl) hP hD hS (lv_sub hl [0, 1, 3, 4] rfl)
  refine lv_ldc2 hx hb hown (hts _ q299) dX1_sumOf_0 ?_
  refine lv_lstore_n (lv' := [(2, .long _), (0, .ref _), (1, .int _)]) hx hb dX1_sumOf_3 rfl hl (by decide) rfl (fun ls hl => ?_)
  refine lv_iconst (v := 0) hx hb dX1_sumOf_4 (by decide) ?_
  refine lv_istore (lv' := [(4, .int _), (2, .long _), (0, .ref _), (1, .int _)]) hx hb dX1_sumOf_5 hl (by decide) rfl (fun ls hl => ?_)
  exact loop T 0 (Nat.zero_add _) _ s.heap [] ls rfl hP hD hS (lv_sub hl [0, 1, 3, 2] rfl)
abbrev rmX1_worth : Room := { frames := 2, cells := 0, slots := 0, locals := 47 }
theorem cw_X1_worth {R : Room} {s : State} {args : Array Value} (hts : ∀ w ∈ lw_all, w.before args s = true) (hR : rmX1_worth.frames + 1 ≤ R.frames ∧ 8 + (5 + 11) + rmX1_worth.locals ≤ R.locals) : CallW R s args RX1 RX1 82 yX1_worth cX1_worth 5 (some .int) (ws_ yX1_worth cX1_worth 5 (some .int)) rmX1_worth 0 0 2 := cwV 2 hts (lw_V q285 q287 qs20 q26 q288) rfl rfl rfl (by decide +kernel) hR
set_option maxHeartbeats 4000000 in
/-- worth(i, x) -/
theorem metX1_worth (l : Launch) {D : va_G} {h : Nat} {ad : Nat → Nat} {cd : Nat → ClassId} {G : XG} {nw bf nd : Nat → Int32} {k : Nat} (sz : Nat) (i : Nat) (x : Int32) (hg : gok G) (hi : i < G.1) : MetI l yX1_worth cX1_worth 5 .int rmX1_worth D vwCl (tM cd) (wM h ad cd G nw bf nd k) sz [.ref h, .int (nI i), .int x] (fun r (_ : Unit) => r = wth G nw bf k i x) (fun _ => wM h ad cd G nw bf nd k) := by
  refine zz_startI (own := RX1) (by decide) rfl (Nat.le_of_ble_eq_true rfl) ?_
  intro p e s m below meth c Q A ls args hx hb hr hml hown hts hlocks hA hK hP hD hS hl hQ
  have hl : lv_has ls 5 [(0, .ref h), (1, .int (nI i)), (2, .int x)] := hl
  have hn := hg.1
  obtain ⟨hk, T, hT6, hT, -, hta⟩ := hg.2 i hi
  refine lv_aload_n hx hb dX1_worth_0 rfl (lv_at hl 0 rfl) ?_
  refine mg_1 hx hb hts hown hK hP dX1_worth_1 ?_
  refine lv_iload_n hx hb dX1_worth_4 rfl (lv_at hl 1 rfl) ?_
  refine ml_1 hx hb hK hP i (by omega) rfl dX1_worth_5 ?_
  refine lv_if_ne (tgt := 16) hx hb dX1_worth_6 (by decide) (fun c_6 => ?_) (fun c_6 => ?_)
  · refine lv_aload_n hx hb dX1_worth_16 rfl (lv_at hl 0 rfl) ?_
    refine mg_1 hx hb hts hown hK hP dX1_worth_17 ?_
    refine lv_iload_n hx hb dX1_worth_20 rfl (lv_at hl 1 rfl) ?_
    refine ml_1 hx hb hK hP i (by omega) rfl dX1_worth_21 ?_
    refine lv_iconst (v := 1) hx hb dX1_worth_22 (by decide) ?_
    refine lv_icmp_ne (tgt := 33) hx hb dX1_worth_23 (by decide) (fun c_23 => ?_) (fun c_23 => ?_)
    · refine lv_aload_n hx hb dX1_worth_33 rfl (lv_at hl 0 rfl) ?_
      refine mg_1 hx hb hts hown hK hP dX1_worth_34 ?_
      refine lv_iload_n hx hb dX1_worth_37 rfl (lv_at hl 1 rfl) ?_
      refine ml_1 hx hb hK hP i (by omega) rfl dX1_worth_38 ?_
      refine lv_bipush (v := 10) hx hb dX1_worth_39 (by decide) ?_
      refine lv_icmp_ne (tgt := 50) hx hb dX1_worth_41 (by decide) (fun c_41 => ?_) (fun c_41 => ?_)
      · refine lv_aload_n hx hb dX1_worth_50 rfl (lv_at hl 0 rfl) ?_
        refine mg_1 hx hb hts hown hK hP dX1_worth_51 ?_
        refine lv_iload_n hx hb dX1_worth_54 rfl (lv_at hl 1 rfl) ?_
        refine ml_1 hx hb hK hP i (by omega) rfl dX1_worth_55 ?_
        refine lv_iconst (v := 2) hx hb dX1_worth_56 (by decide) ?_
        refine lv_icmp_ne (tgt := 96) hx hb dX1_worth_57 (by decide) (fun c_57 => ?_) (fun c_57 => ?_)
        · have hkl := kd_left hk.1 hk.2.1 c_6 c_23 c_41 c_57
          obtain ⟨a, ha, ea⟩ := nok_a hg hi (fun q => hkl.1 (by rw [i_lt] at q ⊢; simp only [i_2, i_3] at q ⊢; omega)) hkl.2
          refine lv_aload_n hx hb dX1_worth_96 rfl (lv_at hl 0 rfl) ?_
          refine lv_aload_n hx hb dX1_worth_97 rfl (lv_at hl 0 rfl) ?_
          refine mg_2 hx hb hts hown hK hP dX1_worth_98 ?_
          refine lv_iload_n hx hb dX1_worth_101 rfl (lv_at hl 1 rfl) ?_
          refine ml_2 hx hb hK hP i (by omega) rfl dX1_worth_102 ?_
          refine zz_calli ⟨hx, hb, hml, hown, hts⟩ hK hP hD hS hA rfl rfl (metX1_nowAt l _ _ hn (by rw [ea]; exact nI_pos (by omega))) (cw_X1_nowAt hts ⟨Nat.le_of_ble_eq_true rfl, Nat.le_of_ble_eq_true rfl⟩) rfl hl.1 rfl (Nat.le_of_ble_eq_true rfl) dX1_worth_103 ⟨Nat.zero_le _, Nat.zero_le _⟩ (fun r1 _ H locs hr1 hP hD hS => ?_)
          refine lv_istore_n (lv' := [(3, .int _), (0, .ref _), (1, .int _), (2, .int _)]) hx hb dX1_worth_106 rfl hl (by decide) rfl (fun ls hl => ?_)
          refine lv_aload_n hx hb dX1_worth_107 rfl (lv_at hl 1 rfl) ?_
          refine mg_1 hx hb hts hown hK hP dX1_worth_108 ?_
          refine lv_iload_n hx hb dX1_worth_111 rfl (lv_at hl 2 rfl) ?_
          refine ml_1 hx hb hK hP i (by omega) rfl dX1_worth_112 ?_
          refine lv_bipush (v := 6) hx hb dX1_worth_113 (by decide) ?_
          refine lv_icmp_ne (tgt := 126) hx hb dX1_worth_115 (by decide) (fun c_115 => ?_) (fun c_115 => ?_)
          · refine lv_aload_n hx hb dX1_worth_126 rfl (lv_at hl 1 rfl) ?_
            refine mg_1 hx hb hts hown hK hP dX1_worth_127 ?_
            refine lv_iload_n hx hb dX1_worth_130 rfl (lv_at hl 2 rfl) ?_
            refine ml_1 hx hb hK hP i (by omega) rfl dX1_worth_131 ?_
            refine lv_bipush (v := 7) hx hb dX1_worth_132 (by decide) ?_
            refine lv_icmp_ne (tgt := 154) hx hb dX1_worth_134 (by decide) (fun c_134 => ?_) (fun c_134 => ?_)
            · refine lv_aload_n hx hb dX1_worth_154 rfl (lv_at hl 1 rfl) ?_
              refine mg_1 hx hb hts hown hK hP dX1_worth_155 ?_
              refine lv_iload_n hx hb dX1_worth_158 rfl (lv_at hl 2 rfl) ?_
              refine ml_1 hx hb hK hP i (by omega) rfl dX1_worth_159 ?_
              refine lv_bipush (v := 8) hx hb dX1_worth_160 (by decide) ?_
              refine lv_icmp_ne (tgt := 179) hx hb dX1_worth_162 (by decide) (fun c_162 => ?_) (fun c_162 => ?_)
              · refine lv_aload_n hx hb dX1_worth_179 rfl (lv_at hl 1 rfl) ?_
                refine mg_1 hx hb hts hown hK hP dX1_worth_180 ?_
                refine lv_iload_n hx hb dX1_worth_183 rfl (lv_at hl 2 rfl) ?_
                refine ml_1 hx hb hK hP i (by omega) rfl dX1_worth_184 ?_
                refine lv_bipush (v := 9) hx hb dX1_worth_185 (by decide) ?_
                refine lv_icmp_ne (tgt := 199) hx hb dX1_worth_187 (by decide) (fun c_187 => ?_) (fun c_187 => ?_)
                · obtain ⟨b, hb_, eb⟩ := nok_b hg hi hkl.1 (kd_left2 hkl c_115 c_134 c_162 c_187)
                  refine lv_aload_n hx hb dX1_worth_199 rfl (lv_at hl 1 rfl) ?_
                  refine lv_aload_n hx hb dX1_worth_200 rfl (lv_at hl 1 rfl) ?_
                  refine mg_3 hx hb hts hown hK hP dX1_worth_201 ?_
                  refine lv_iload_n hx hb dX1_worth_204 rfl (lv_at hl 2 rfl) ?_
                  refine ml_3 hx hb hK hP i (by omega) rfl dX1_worth_205 ?_
                  refine zz_calli ⟨hx, hb, hml, hown, hts⟩ hK hP hD hS hA rfl rfl (metX1_nowAt l _ _ hn (by rw [eb]; exact nI_pos (by omega))) (cw_X1_nowAt hts ⟨Nat.le_of_ble_eq_true rfl, Nat.le_of_ble_eq_true rfl⟩) rfl hl.1 rfl (Nat.le_of_ble_eq_true rfl) dX1_worth_206 ⟨Nat.zero_le _, Nat.zero_le _⟩ (fun r2 _ H locs hr2 hP hD hS => ?_)
                  refine lv_istore (lv' := [(4, .int _), (3, .int _), (0, .ref _), (1, .int _), (2, .int _)]) hx hb dX1_worth_209 hl (by decide) rfl (fun ls hl => ?_)
                  refine lv_aload_n hx hb dX1_worth_211 rfl (lv_at hl 2 rfl) ?_
                  refine mg_1 hx hb hts hown hK hP dX1_worth_212 ?_
                  refine lv_iload_n hx hb dX1_worth_215 rfl (lv_at hl 3 rfl) ?_
                  refine ml_1 hx hb hK hP i (by omega) rfl dX1_worth_216 ?_
                  refine lv_iconst (v := 3) hx hb dX1_worth_217 (by decide) ?_
                  refine lv_icmp_ne (tgt := 231) hx hb dX1_worth_218 (by decide) (fun c_218 => ?_) (fun c_218 => ?_)
                  · refine lv_aload_n hx hb dX1_worth_231 rfl (lv_at hl 2 rfl) ?_
                    refine mg_1 hx hb hts hown hK hP dX1_worth_232 ?_
                    refine lv_iload_n hx hb dX1_worth_235 rfl (lv_at hl 3 rfl) ?_
                    refine ml_1 hx hb hK hP i (by omega) rfl dX1_worth_236 ?_
                    refine lv_iconst (v := 4) hx hb dX1_worth_237 (by decide) ?_
                    refine lv_icmp_ne (tgt := 251) hx hb dX1_worth_238 (by decide) (fun c_238 => ?_) (fun c_238 => ?_)
                    · refine lv_iload_n hx hb dX1_worth_251 rfl (lv_at hl 1 rfl) ?_
                      refine lv_iload hx hb dX1_worth_252 (lv_at hl 0 rfl) ?_
                      refine lv_icmp_le (tgt := 261) hx hb dX1_worth_254 (by decide) (fun c_254 => ?_) (fun c_254 => ?_)
                      · refine lv_iload hx hb dX1_worth_261 (lv_at hl 0 rfl) ?_
                        exact zz_iret hx hb hr hlocks hK hQ hS (()) hP hD dX1_worth_263 (by rw [hr1, hr2] at c_254; simp only [hr1, hr2, wth, if_neg c_6, if_neg c_23, if_neg c_41, if_neg c_57, if_neg c_115, if_neg c_134, if_neg c_162, if_neg c_187, if_neg c_218, if_neg c_238, if_pos c_254])
                      · refine lv_iload_n hx hb dX1_worth_257 rfl (lv_at hl 1 rfl) ?_
                        refine lv_goto (tgt := 263) hx hb dX1_worth_258 (by decide) ?_
                        exact zz_iret hx hb hr hlocks hK hQ hS (()) hP hD dX1_worth_263 (by rw [hr1, hr2] at c_254; simp only [hr1, hr2, wth, if_neg c_6, if_neg c_23, if_neg c_41, if_neg c_57, if_neg c_115, if_neg c_134, if_neg c_162, if_neg c_187, if_neg c_218, if_neg c_238, if_neg c_254])
                    · refine lv_aload_n hx hb dX1_worth_241 rfl (lv_at hl 2 rfl) ?_
                      refine lv_iload_n hx hb dX1_worth_242 rfl (lv_at hl 1 rfl) ?_
                      refine lv_iload hx hb dX1_worth_243 (lv_at hl 0 rfl) ?_
                      refine lv_isub hx hb dX1_worth_245 ?_
                      refine lv_i2l hx hb dX1_worth_246 rfl ?_
                      refine zz_calli ⟨hx, hb, hml, hown, hts⟩ hK hP hD hS hA rfl rfl (metX1_sat l _ _) (cw_X1_sat hts ⟨Nat.le_of_ble_eq_true rfl, Nat.le_of_ble_eq_true rfl⟩) rfl hl.1 rfl (Nat.le_of_ble_eq_true rfl) dX1_worth_247 ⟨Nat.zero_le _, Nat.zero_le _⟩ (fun r3 _ H locs hr3 hP hD hS => ?_)
                      exact zz_iret hx hb hr hlocks hK hQ hS (()) hP hD dX1_worth_250 (by rw [hr3, hr1, hr2]; simp only [wth, if_neg c_6, if_neg c_23, if_neg c_41, if_neg c_57, if_neg c_115, if_neg c_134, if_neg c_162, if_neg c_187, if_neg c_218, if_pos c_238])
                  · refine lv_aload_n hx hb dX1_worth_221 rfl (lv_at hl 2 rfl) ?_
                    refine lv_iload_n hx hb dX1_worth_222 rfl (lv_at hl 1 rfl) ?_
                    refine lv_iload hx hb dX1_worth_223 (lv_at hl 0 rfl) ?_
                    refine lv_iadd hx hb dX1_worth_225 ?_
                    refine lv_i2l hx hb dX1_worth_226 rfl ?_
                    refine zz_calli ⟨hx, hb, hml, hown, hts⟩ hK hP hD hS hA rfl rfl (metX1_sat l _ _) (cw_X1_sat hts ⟨Nat.le_of_ble_eq_true rfl, Nat.le_of_ble_eq_true rfl⟩) rfl hl.1 rfl (Nat.le_of_ble_eq_true rfl) dX1_worth_227 ⟨Nat.zero_le _, Nat.zero_le _⟩ (fun r3 _ H locs hr3 hP hD hS => ?_)
                    exact zz_iret hx hb hr hlocks hK hQ hS (()) hP hD dX1_worth_230 (by rw [hr3, hr1, hr2]; simp only [wth, if_neg c_6, if_neg c_23, if_neg c_41, if_neg c_57, if_neg c_115, if_neg c_134, if_neg c_162, if_neg c_187, if_pos c_218])
                · refine lv_iload_n hx hb dX1_worth_190 rfl (lv_at hl 0 rfl) ?_
                  refine lv_aload_n hx hb dX1_worth_191 rfl (lv_at hl 1 rfl) ?_
                  refine mg_3 hx hb hts hown hK hP dX1_worth_192 ?_
                  refine lv_iload_n hx hb dX1_worth_195 rfl (lv_at hl 2 rfl) ?_
                  refine ml_3 hx hb hK hP i (by omega) rfl dX1_worth_196 ?_
                  refine lv_ishr hx hb dX1_worth_197 ?_
                  exact zz_iret hx hb hr hlocks hK hQ hS (()) hP hD dX1_worth_198 (by rw [hr1]; simp only [wth, if_neg c_6, if_neg c_23, if_neg c_41, if_neg c_57, if_neg c_115, if_neg c_134, if_neg c_162, if_pos c_187])
              · refine lv_aload_n hx hb dX1_worth_165 rfl (lv_at hl 1 rfl) ?_
                refine lv_iload_n hx hb dX1_worth_166 rfl (lv_at hl 0 rfl) ?_
                refine lv_aload_n hx hb dX1_worth_167 rfl (lv_at hl 1 rfl) ?_
                refine mg_3 hx hb hts hown hK hP dX1_worth_168 ?_
                refine lv_iload_n hx hb dX1_worth_171 rfl (lv_at hl 2 rfl) ?_
                refine ml_3 hx hb hK hP i (by omega) rfl dX1_worth_172 ?_
                refine lv_ishl hx hb dX1_worth_173 ?_
                refine lv_i2l hx hb dX1_worth_174 rfl ?_
                refine zz_calli ⟨hx, hb, hml, hown, hts⟩ hK hP hD hS hA rfl rfl (metX1_sat l _ _) (cw_X1_sat hts ⟨Nat.le_of_ble_eq_true rfl, Nat.le_of_ble_eq_true rfl⟩) rfl hl.1 rfl (Nat.le_of_ble_eq_true rfl) dX1_worth_175 ⟨Nat.zero_le _, Nat.zero_le _⟩ (fun r3 _ H locs hr3 hP hD hS => ?_)
                exact zz_iret hx hb hr hlocks hK hQ hS (()) hP hD dX1_worth_178 (by rw [hr3, hr1]; simp only [wth, if_neg c_6, if_neg c_23, if_neg c_41, if_neg c_57, if_neg c_115, if_neg c_134, if_pos c_162])
            · refine lv_aload_n hx hb dX1_worth_137 rfl (lv_at hl 1 rfl) ?_
              refine lv_iload_n hx hb dX1_worth_138 rfl (lv_at hl 0 rfl) ?_
              refine lv_if_ge (tgt := 148) hx hb dX1_worth_139 (by decide) (fun c_139 => ?_) (fun c_139 => ?_)
              · refine lv_iload_n hx hb dX1_worth_148 rfl (lv_at hl 0 rfl) ?_
                refine lv_i2l hx hb dX1_worth_149 rfl ?_
                refine zz_calli ⟨hx, hb, hml, hown, hts⟩ hK hP hD hS hA rfl rfl (metX1_sat l _ _) (cw_X1_sat hts ⟨Nat.le_of_ble_eq_true rfl, Nat.le_of_ble_eq_true rfl⟩) rfl hl.1 rfl (Nat.le_of_ble_eq_true rfl) dX1_worth_150 ⟨Nat.zero_le _, Nat.zero_le _⟩ (fun r3 _ H locs hr3 hP hD hS => ?_)
                exact zz_iret hx hb hr hlocks hK hQ hS (()) hP hD dX1_worth_153 (by rw [hr1] at c_139 hr3; rw [hr3]; simp only [wth, if_neg c_6, if_neg c_23, if_neg c_41, if_neg c_57, if_neg c_115, if_pos c_134, if_pos c_139])
              · refine lv_iload_n hx hb dX1_worth_142 rfl (lv_at hl 0 rfl) ?_
                refine lv_ineg hx hb dX1_worth_143 ?_
                refine lv_i2l hx hb dX1_worth_144 rfl ?_
                refine lv_goto (tgt := 150) hx hb dX1_worth_145 (by decide) ?_
                refine zz_calli ⟨hx, hb, hml, hown, hts⟩ hK hP hD hS hA rfl rfl (metX1_sat l _ _) (cw_X1_sat hts ⟨Nat.le_of_ble_eq_true rfl, Nat.le_of_ble_eq_true rfl⟩) rfl hl.1 rfl (Nat.le_of_ble_eq_true rfl) dX1_worth_150 ⟨Nat.zero_le _, Nat.zero_le _⟩ (fun r3 _ H locs hr3 hP hD hS => ?_)
                exact zz_iret hx hb hr hlocks hK hQ hS (()) hP hD dX1_worth_153 (by rw [hr1] at c_139 hr3; rw [hr3]; simp only [wth, if_neg c_6, if_neg c_23, if_neg c_41, if_neg c_57, if_neg c_115, if_pos c_134, if_neg c_139])
          · refine lv_aload_n hx hb dX1_worth_118 rfl (lv_at hl 1 rfl) ?_
            refine lv_iload_n hx hb dX1_worth_119 rfl (lv_at hl 0 rfl) ?_
            refine lv_ineg hx hb dX1_worth_120 ?_
            refine lv_i2l hx hb dX1_worth_121 rfl ?_
            refine zz_calli ⟨hx, hb, hml, hown, hts⟩ hK hP hD hS hA rfl rfl (metX1_sat l _ _) (cw_X1_sat hts ⟨Nat.le_of_ble_eq_true rfl, Nat.le_of_ble_eq_true rfl⟩) rfl hl.1 rfl (Nat.le_of_ble_eq_true rfl) dX1_worth_122 ⟨Nat.zero_le _, Nat.zero_le _⟩ (fun r3 _ H locs hr3 hP hD hS => ?_)
            exact zz_iret hx hb hr hlocks hK hQ hS (()) hP hD dX1_worth_125 (by rw [hr3, hr1]; simp only [wth, if_neg c_6, if_neg c_23, if_neg c_41, if_neg c_57, if_pos c_115])
        · obtain ⟨a, ha, ea⟩ := nok_a hg hi (by rw [c_57]; decide) (by rw [c_57]; decide)
          refine lv_aload_n hx hb dX1_worth_60 rfl (lv_at hl 0 rfl) ?_
          refine mg_9 hx hb hts hown hK hP dX1_worth_61 ?_
          refine lv_if_eq (tgt := 80) hx hb dX1_worth_64 (by decide) (fun c_64 => ?_) (fun c_64 => ?_)
          · refine lv_iconst (v := 0) hx hb dX1_worth_80 (by decide) ?_
            refine lv_goto (tgt := 95) hx hb dX1_worth_81 (by decide) ?_
            exact zz_iret hx hb hr hlocks hK hQ hS (()) hP hD dX1_worth_95 (by simp only [wth, if_neg c_6, if_neg c_23, if_neg c_41, if_pos c_57, if_pos c_64])
          · refine lv_aload_n hx hb dX1_worth_67 rfl (lv_at hl 0 rfl) ?_
            refine mg_2 hx hb hts hown hK hP dX1_worth_68 ?_
            refine lv_iload_n hx hb dX1_worth_71 rfl (lv_at hl 1 rfl) ?_
            refine ml_2 hx hb hK hP i (by omega) rfl dX1_worth_72 ?_
            refine lv_aload_n hx hb dX1_worth_73 rfl (lv_at hl 0 rfl) ?_
            refine mg_0 hx hb hts hown hK hP dX1_worth_74 ?_
            refine lv_icmp_lt (tgt := 84) hx hb dX1_worth_77 (by decide) (fun c_77 => ?_) (fun c_77 => ?_)
            · refine lv_aload_n hx hb dX1_worth_84 rfl (lv_at hl 0 rfl) ?_
              refine mg_8 hx hb hts hown hK hP dX1_worth_85 ?_
              refine lv_aload_n hx hb dX1_worth_88 rfl (lv_at hl 0 rfl) ?_
              refine mg_2 hx hb hts hown hK hP dX1_worth_89 ?_
              refine lv_iload_n hx hb dX1_worth_92 rfl (lv_at hl 1 rfl) ?_
              refine ml_2 hx hb hK hP i (by omega) rfl dX1_worth_93 ?_
              refine ml_8 hx hb hK hP a (by omega) ea dX1_worth_94 ?_
              exact zz_iret hx hb hr hlocks hK hQ hS (()) hP hD dX1_worth_95 (by simp only [wth, if_neg c_6, if_neg c_23, if_neg c_41, if_pos c_57, if_neg c_64, if_pos c_77]; rw [ea, nI_clamp (by omega)])
            · refine lv_iconst (v := 0) hx hb dX1_worth_80 (by decide) ?_
              refine lv_goto (tgt := 95) hx hb dX1_worth_81 (by decide) ?_
              exact zz_iret hx hb hr hlocks hK hQ hS (()) hP hD dX1_worth_95 (by simp only [wth, if_neg c_6, if_neg c_23, if_neg c_41, if_pos c_57, if_neg c_64, if_neg c_77])
      · refine lv_aload_n hx hb dX1_worth_44 rfl (lv_at hl 0 rfl) ?_
        refine lv_iload_n hx hb dX1_worth_45 rfl (lv_at hl 1 rfl) ?_
        refine zz_calli ⟨hx, hb, hml, hown, hts⟩ hK hP hD hS hA rfl rfl (metX1_sumOf l _ i T (by omega) hn hT6 hT (fun t ht => by obtain ⟨a, ha, e⟩ := hta t ht; rw [e]; exact nI_pos (by omega))) (cw_X1_sumOf hts ⟨Nat.le_of_ble_eq_true rfl, Nat.le_of_ble_eq_true rfl⟩) rfl hl.1 rfl (Nat.le_of_ble_eq_true rfl) dX1_worth_46 ⟨Nat.zero_le _, Nat.zero_le _⟩ (fun r3 _ H locs hr3 hP hD hS => ?_)
        exact zz_iret hx hb hr hlocks hK hQ hS (()) hP hD dX1_worth_49 (by rw [hr3]; simp only [wth, if_neg c_6, if_neg c_23, if_pos c_41])
    · refine lv_aload_n hx hb dX1_worth_26 rfl (lv_at hl 0 rfl) ?_
      refine mg_2 hx hb hts hown hK hP dX1_worth_27 ?_
      refine lv_iload_n hx hb dX1_worth_30 rfl (lv_at hl 1 rfl) ?_
      refine ml_2 hx hb hK hP i (by omega) rfl dX1_worth_31 ?_
      exact zz_iret hx hb hr hlocks hK hQ hS (()) hP hD dX1_worth_32 (by simp only [wth, if_neg c_6, if_pos c_23])
  · refine lv_aload_n hx hb dX1_worth_9 rfl (lv_at hl 0 rfl) ?_
    refine lv_iload_n hx hb dX1_worth_10 rfl (lv_at hl 2 rfl) ?_
    refine lv_i2l hx hb dX1_worth_11 rfl ?_
    refine zz_calli ⟨hx, hb, hml, hown, hts⟩ hK hP hD hS hA rfl rfl (metX1_sat l _ _) (cw_X1_sat hts ⟨Nat.le_of_ble_eq_true rfl, Nat.le_of_ble_eq_true rfl⟩) rfl hl.1 rfl (Nat.le_of_ble_eq_true rfl) dX1_worth_12 ⟨Nat.zero_le _, Nat.zero_le _⟩ (fun r3 _ H locs hr3 hP hD hS => ?_)
    exact zz_iret hx hb hr hlocks hK hQ hS (()) hP hD dX1_worth_15 (by rw [hr3]; simp only [wth, if_pos c_6])
abbrev rmX1_feed : Room := { frames := 3, cells := 0, slots := 0, locals := 71 }
theorem cw_X1_feed {R : Room} {s : State} {args : Array Value} (hts : ∀ w ∈ lw_all, w.before args s = true) (hR : rmX1_feed.frames + 1 ≤ R.frames ∧ 8 + (4 + 11) + rmX1_feed.locals ≤ R.locals) : CallW R s args RX1 RX1 86 yX1_feed cX1_feed 4 (some .boolean) (ws_ yX1_feed cX1_feed 4 (some .boolean)) rmX1_feed 0 0 1 := cwV 1 hts (lw_V q308 q281 q282 q26 q283) rfl rfl rfl (by decide +kernel) hR
set_option maxHeartbeats 4000000 in
/-- feed(x) -/
theorem metX1_feed (l : Launch) {D : va_G} {h : Nat} {ad : Nat → Nat} {cd : Nat → ClassId} {G : XG} {nw bf nd : Nat → Int32} {k : Nat} (sz : Nat) (x : Int32) (hg : gok G) : MetI l yX1_feed cX1_feed 4 .boolean rmX1_feed D vwCl (tM cd) (wM h ad cd G nw bf nd k) sz [.ref h, .int x] (fun r (u : MS) => mfeed G x (nw, bf, nd, k) u r) (fun u => wM h ad cd G u.1 u.2.1 u.2.2.1 u.2.2.2) := by
  refine zz_startI (own := RX1) (by decide) rfl (Nat.le_of_ble_eq_true rfl) ?_
  intro p e s m below meth c Q A ls args hx hb hr hml hown hts hlocks hA hK hP hD hS hl hQ
  have hl : lv_has ls 4 [(0, .ref h), (1, .int x)] := hl
  have hn := hg.1
  have loop2 : acy G (ndF G nd) → ∀ (d r : Nat), r + d = 20 → ∀ (H : Heap) (locs : List Loc) (ls : Array Slot), va_P D vwCl (wM h ad cd G (rdO G (cpF nw bf G.1) k x nw r) (cpF nw bf G.1) (ndF G nd) k) H → va_D A (wM h ad cd G (rdO G (cpF nw bf G.1) k x nw r) (cpF nw bf G.1) (ndF G nd) k) → va_S A s.heap H locs → lv_has ls 4 [(2, .int (nI r)), (1, .int x), (0, .ref h)] → W p l e rmX1_feed s m args below meth c H locs 0 0 Q (F0 m 39 ls []) := by
    intro hac d
    induction d with
    | zero =>
      intro r hr20 H locs ls hP hD hS hl
      obtain rfl : r = 20 := by omega
      refine lv_iload_n hx hb dX1_feed_39 rfl (lv_at hl 0 rfl) ?_
      refine lv_bipush (v := 20) hx hb dX1_feed_40 (by decide) ?_
      refine lv_icmp_ge (tgt := 79) hx hb dX1_feed_42 (by decide) (fun c_42 => ?_) (fun c_42 => absurd (by decide) c_42)
      refine lv_aload_n hx hb dX1_feed_79 rfl (lv_at hl 2 rfl) ?_
      refine lv_dup hx hb dX1_feed_80 rfl ?_
      refine mg_9 hx hb hts hown hK hP dX1_feed_81 ?_
      refine lv_iconst (v := 1) hx hb dX1_feed_84 (by decide) ?_
      refine lv_iadd hx hb dX1_feed_85 ?_
      refine mp_9 hx hb hts hown hK hP hD hS (k + 1) (nI_1 k) dX1_feed_86 (fun H locs hP hD hS => ?_)
      refine lv_iconst (v := 1) hx hb dX1_feed_89 (by decide) ?_
      exact zz_zret hx hb hr hlocks hK hQ hS ((_, _, _, _)) hP hD dX1_feed_90 (rfl) (⟨rfl, Or.inr ⟨rfl, hac, rfl, rfl, rfl⟩⟩)
    | succ d ih =>
      intro r hr20 H locs ls hP hD hS hl
      have inner : ∀ (d2 i : Nat), i + d2 = G.1 → ∀ (H : Heap) (locs : List Loc) (ls : Array Slot), va_P D vwCl (wM h ad cd G (rdI G (cpF nw bf G.1) k x (rdO G (cpF nw bf G.1) k x nw r) i) (cpF nw bf G.1) (ndF G nd) k) H → va_D A (wM h ad cd G (rdI G (cpF nw bf G.1) k x (rdO G (cpF nw bf G.1) k x nw r) i) (cpF nw bf G.1) (ndF G nd) k) → va_S A s.heap H locs → lv_has ls 4 [(3, .int (nI i)), (2, .int (nI r)), (1, .int x), (0, .ref h)] → W p l e rmX1_feed s m args below meth c H locs 0 0 Q (F0 m 47 ls []) := by
        intro d2
        induction d2 with
        | zero =>
          intro i hi H locs ls hP hD hS hl
          obtain rfl : i = G.1 := by omega
          refine lv_iload_n hx hb dX1_feed_47 rfl (lv_at hl 0 rfl) ?_
          refine lv_aload_n hx hb dX1_feed_48 rfl (lv_at hl 3 rfl) ?_
          refine mg_0 hx hb hts hown hK hP dX1_feed_49 ?_
          refine lv_icmp_ge (tgt := 73) hx hb dX1_feed_52 (by decide) (fun c_52 => ?_) (fun c_52 => absurd (nI_le (by omega) (by omega)) c_52)
          refine lv_iinc (v := nI (r + 1)) (lv' := [(2, .int _), (3, .int _), (1, .int _), (0, .ref _)]) hx hb dX1_feed_73 hl (k := 1) rfl (nI_1 r) (by decide) rfl (fun ls hl => ?_)
          refine lv_goto (tgt := 39) hx hb dX1_feed_76 (by decide) ?_
          exact ih (r + 1) (by omega) H locs ls hP hD hS (lv_sub hl [0, 2, 3] rfl)
        | succ d2 ih2 =>
          intro i hi H locs ls hP hD hS hl
          refine lv_iload_n hx hb dX1_feed_47 rfl (lv_at hl 0 rfl) ?_
          refine lv_aload_n hx hb dX1_feed_48 rfl (lv_at hl 3 rfl) ?_
          refine mg_0 hx hb hts hown hK hP dX1_feed_49 ?_
          refine lv_icmp_ge (tgt := 73) hx hb dX1_feed_52 (by decide) (fun c_52 => absurd c_52 (nI_ge (by omega) (by omega))) (fun c_52 => ?_)
          refine lv_aload_n hx hb dX1_feed_55 rfl (lv_at hl 3 rfl) ?_
          refine mg_7 hx hb hts hown hK hP dX1_feed_56 ?_
          refine lv_iload_n hx hb dX1_feed_59 rfl (lv_at hl 0 rfl) ?_
          refine lv_aload_n hx hb dX1_feed_60 rfl (lv_at hl 3 rfl) ?_
          refine lv_iload_n hx hb dX1_feed_61 rfl (lv_at hl 0 rfl) ?_
          refine lv_iload_n hx hb dX1_feed_62 rfl (lv_at hl 2 rfl) ?_
          refine zz_calli ⟨hx, hb, hml, hown, hts⟩ hK hP hD hS hA rfl rfl (metX1_worth l _ i x hg (by omega)) (cw_X1_worth hts ⟨Nat.le_of_ble_eq_true rfl, Nat.le_of_ble_eq_true rfl⟩) rfl hl.1 rfl (Nat.le_of_ble_eq_true rfl) dX1_feed_63 ⟨Nat.zero_le _, Nat.zero_le _⟩ (fun r1 _ H locs hr1 hP hD hS => ?_)
          subst hr1
          refine ms_7 hx hb hK hP hD hS i (by omega) rfl dX1_feed_66 (fun H locs hP hD hS => ?_)
          refine lv_iinc (v := nI (i + 1)) (lv' := [(3, .int _), (2, .int _), (1, .int _), (0, .ref _)]) hx hb dX1_feed_67 hl (k := 0) rfl (nI_1 i) (by decide) rfl (fun ls hl => ?_)
          refine lv_goto (tgt := 47) hx hb dX1_feed_70 (by decide) ?_
          exact ih2 (i + 1) (by omega) H locs ls hP hD hS (lv_sub hl [0, 1, 2, 3] rfl)
      refine lv_iload_n hx hb dX1_feed_39 rfl (lv_at hl 0 rfl) ?_
      refine lv_bipush (v := 20) hx hb dX1_feed_40 (by decide) ?_
      refine lv_icmp_ge (tgt := 79) hx hb dX1_feed_42 (by decide) (fun c_42 => absurd c_42 (nI_ge (show r < 20 by omega) (by decide))) (fun c_42 => ?_)
      refine lv_iconst (v := 0) hx hb dX1_feed_45 (by decide) ?_
      refine lv_istore_n (lv' := [(3, .int _), (2, .int _), (1, .int _), (0, .ref _)]) hx hb dX1_feed_46 rfl hl (by decide) rfl (fun ls hl => ?_)
      exact inner G.1 0 (Nat.zero_add _) H locs ls hP hD hS (lv_sub hl [0, 1, 2, 3] rfl)
  have loop1 : acy G (ndF G nd) → ∀ (d i : Nat), i + d = G.1 → ∀ (H : Heap) (locs : List Loc) (ls : Array Slot), va_P D vwCl (wM h ad cd G nw (cpF nw bf i) (ndF G nd) k) H → va_D A (wM h ad cd G nw (cpF nw bf i) (ndF G nd) k) → va_S A s.heap H locs → lv_has ls 4 [(2, .int (nI i)), (1, .int x), (0, .ref h)] → W p l e rmX1_feed s m args below meth c H locs 0 0 Q (F0 m 11 ls []) := by
    intro hac d
    induction d with
    | zero =>
      intro i hi H locs ls hP hD hS hl
      obtain rfl : i = G.1 := by omega
      refine lv_iload_n hx hb dX1_feed_11 rfl (lv_at hl 0 rfl) ?_
      refine lv_aload_n hx hb dX1_feed_12 rfl (lv_at hl 2 rfl) ?_
      refine mg_0 hx hb hts hown hK hP dX1_feed_13 ?_
      refine lv_icmp_ge (tgt := 37) hx hb dX1_feed_16 (by decide) (fun c_16 => ?_) (fun c_16 => absurd (nI_le (by omega) (by omega)) c_16)
      refine lv_iconst (v := 0) hx hb dX1_feed_37 (by decide) ?_
      refine lv_istore_n (lv' := [(2, .int _), (1, .int _), (0, .ref _)]) hx hb dX1_feed_38 rfl hl (by decide) rfl (fun ls hl => ?_)
      exact loop2 hac 20 0 rfl H locs ls hP hD hS (lv_sub hl [0, 1, 2] rfl)
    | succ d ih =>
      intro i hi H locs ls hP hD hS hl
      refine lv_iload_n hx hb dX1_feed_11 rfl (lv_at hl 0 rfl) ?_
      refine lv_aload_n hx hb dX1_feed_12 rfl (lv_at hl 2 rfl) ?_
      refine mg_0 hx hb hts hown hK hP dX1_feed_13 ?_
      refine lv_icmp_ge (tgt := 37) hx hb dX1_feed_16 (by decide) (fun c_16 => absurd c_16 (nI_ge (by omega) (by omega))) (fun c_16 => ?_)
      refine lv_aload_n hx hb dX1_feed_19 rfl (lv_at hl 2 rfl) ?_
      refine mg_8 hx hb hts hown hK hP dX1_feed_20 ?_
      refine lv_iload_n hx hb dX1_feed_23 rfl (lv_at hl 0 rfl) ?_
      refine lv_aload_n hx hb dX1_feed_24 rfl (lv_at hl 2 rfl) ?_
      refine mg_7 hx hb hts hown hK hP dX1_feed_25 ?_
      refine lv_iload_n hx hb dX1_feed_28 rfl (lv_at hl 0 rfl) ?_
      refine ml_7 hx hb hK hP i (by omega) rfl dX1_feed_29 ?_
      refine ms_8 hx hb hK hP hD hS i (by omega) rfl dX1_feed_30 (fun H locs hP hD hS => ?_)
      refine lv_iinc (v := nI (i + 1)) (lv' := [(2, .int _), (1, .int _), (0, .ref _)]) hx hb dX1_feed_31 hl (k := 0) rfl (nI_1 i) (by decide) rfl (fun ls hl => ?_)
      refine lv_goto (tgt := 11) hx hb dX1_feed_34 (by decide) ?_
      exact ih (i + 1) (by omega) H locs ls hP hD hS (lv_sub hl [0, 1, 2] rfl)
  refine lv_aload_n hx hb dX1_feed_0 rfl (lv_at hl 0 rfl) ?_
  refine zz_calli ⟨hx, hb, hml, hown, hts⟩ hK hP hD hS hA rfl rfl (metX1_sound l _ hg) (cw_X1_sound hts ⟨Nat.le_of_ble_eq_true rfl, Nat.le_of_ble_eq_true rfl⟩) rfl hl.1 rfl (Nat.le_of_ble_eq_true rfl) dX1_feed_1 ⟨Nat.zero_le _, Nat.zero_le _⟩ (fun r1 _ H locs hr1 hP hD hS => ?_)
  refine lv_if_ne (tgt := 9) hx hb dX1_feed_4 (by decide) (fun c_4 => ?_) (fun c_4 => ?_)
  · refine lv_iconst (v := 0) hx hb dX1_feed_9 (by decide) ?_
    refine lv_istore_n (lv' := [(2, .int _), (0, .ref _), (1, .int _)]) hx hb dX1_feed_10 rfl hl (by decide) rfl (fun ls hl => ?_)
    exact loop1 (hr1.resolve_right (fun q => c_4 q.1)).2 G.1 0 (Nat.zero_add _) H locs ls hP hD hS (lv_sub hl [0, 2, 1] rfl)
  · refine lv_iconst (v := 0) hx hb dX1_feed_7 (by decide) ?_
    exact zz_zret hx hb hr hlocks hK hQ hS ((_, _, _, _)) hP hD dX1_feed_8 (rfl) (⟨rfl, Or.inl ⟨rfl, (hr1.resolve_left (fun q => absurd (q.1.symm.trans c_4) (by decide))).2, rfl, rfl, rfl⟩⟩)
abbrev rmX1_repeat : Room := { frames := 4, cells := 0, slots := 0, locals := 94 }
set_option maxHeartbeats 4000000 in
/-- repeat(x, q) -/
theorem metX1_repeat (l : Launch) {D : va_G} {h : Nat} {ad : Nat → Nat} {cd : Nat → ClassId} {G : XG} {nw bf nd : Nat → Int32} {k : Nat} (sz : Nat) (x q : Int32) (hg : gok G) : MetI l yX1_repeat cX1_repeat 6 .int rmX1_repeat D vwCl (tM cd) (wM h ad cd G nw bf nd k) sz [.ref h, .int x, .int q] (fun r (u : MS) => ∃ f, r = nI f ∧ Chn (mstep G x) (wantN q) ((nw, bf, nd, k), 0) (u, f)) (fun u => wM h ad cd G u.1 u.2.1 u.2.2.1 u.2.2.2) := by
  refine zz_startI (own := RX1) (by decide) rfl (Nat.le_of_ble_eq_true rfl) ?_
  intro p e s m below meth c Q A ls args hx hb hr hml hown hts hlocks hA hK hP hD hS hl hQ
  have hl : lv_has ls 6 [(0, .ref h), (1, .int x), (2, .int q)] := hl
  have hwn := wantN_le q
  have loop : ∀ (d j : Nat), j + d = wantN q → ∀ (u : MS) (f : Nat) (H : Heap) (locs : List Loc) (ls : Array Slot), Chn (mstep G x) j ((nw, bf, nd, k), 0) (u, f) → va_P D vwCl (wM h ad cd G u.1 u.2.1 u.2.2.1 u.2.2.2) H → va_D A (wM h ad cd G u.1 u.2.1 u.2.2.1 u.2.2.2) → va_S A s.heap H locs → lv_has ls 6 [(5, .int (nI j)), (4, .int (nI f)), (3, .int (nI (wantN q))), (1, .int x), (0, .ref h)] → W p l e rmX1_repeat s m args below meth c H locs 0 0 Q (F0 m 27 ls []) := by
    intro d
    induction d with
    | zero =>
      intro j hj u f H locs ls hch hP hD hS hl
      obtain rfl : j = wantN q := by omega
      refine lv_iload hx hb dX1_repeat_27 (lv_at hl 0 rfl) ?_
      refine lv_iload_n hx hb dX1_repeat_29 rfl (lv_at hl 2 rfl) ?_
      refine lv_icmp_ge (tgt := 50) hx hb dX1_repeat_30 (by decide) (fun c_30 => ?_) (fun c_30 => absurd (nI_le (by omega) (by omega)) c_30)
      refine lv_iload hx hb dX1_repeat_50 (lv_at hl 1 rfl) ?_
      exact zz_iret hx hb hr hlocks hK hQ hS (u) hP hD dX1_repeat_52 (⟨f, rfl, hch⟩)
    | succ d ih =>
      intro j hj u f H locs ls hch hP hD hS hl
      refine lv_iload hx hb dX1_repeat_27 (lv_at hl 0 rfl) ?_
      refine lv_iload_n hx hb dX1_repeat_29 rfl (lv_at hl 2 rfl) ?_
      refine lv_icmp_ge (tgt := 50) hx hb dX1_repeat_30 (by decide) (fun c_30 => absurd c_30 (nI_ge (by omega) (by omega))) (fun c_30 => ?_)
      refine lv_aload_n hx hb dX1_repeat_33 rfl (lv_at hl 4 rfl) ?_
      refine lv_iload_n hx hb dX1_repeat_34 rfl (lv_at hl 3 rfl) ?_
      refine zz_calli ⟨hx, hb, hml, hown, hts⟩ hK hP hD hS hA rfl rfl (metX1_feed l _ x hg) (cw_X1_feed hts ⟨Nat.le_of_ble_eq_true rfl, Nat.le_of_ble_eq_true rfl⟩) rfl hl.1 rfl (Nat.le_of_ble_eq_true rfl) dX1_repeat_35 ⟨Nat.zero_le _, Nat.zero_le _⟩ (fun r1 u1 H locs hr1 hP hD hS => ?_)
      refine lv_if_eq (tgt := 44) hx hb dX1_repeat_38 (by decide) (fun c_38 => ?_) (fun c_38 => ?_)
      · refine lv_iinc (v := nI (j + 1)) (lv' := [(5, .int _), (4, .int _), (3, .int _), (1, .int _), (0, .ref _)]) hx hb dX1_repeat_44 hl (k := 0) rfl (nI_1 j) (by decide) rfl (fun ls hl => ?_)
        refine lv_goto (tgt := 27) hx hb dX1_repeat_47 (by decide) ?_
        exact ih (j + 1) (by omega) u1 f H locs ls ⟨_, hch, Or.inl ⟨c_38 ▸ hr1, rfl⟩⟩ hP hD hS (lv_sub hl [0, 1, 2, 3, 4] rfl)
      · refine lv_iinc (v := nI (f + 1)) (lv' := [(4, .int _), (5, .int _), (3, .int _), (1, .int _), (0, .ref _)]) hx hb dX1_repeat_41 hl (k := 1) rfl (nI_1 f) (by decide) rfl (fun ls hl => ?_)
        refine lv_iinc (v := nI (j + 1)) (lv' := [(5, .int _), (4, .int _), (3, .int _), (1, .int _), (0, .ref _)]) hx hb dX1_repeat_44 hl (k := 1) rfl (nI_1 j) (by decide) rfl (fun ls hl => ?_)
        refine lv_goto (tgt := 27) hx hb dX1_repeat_47 (by decide) ?_
        have hr2 : r1 = 1 := by
          rcases hr1.2 with q | q
          · exact absurd q.1 c_38
          · exact q.1
        exact ih (j + 1) (by omega) u1 (f + 1) H locs ls ⟨_, hch, Or.inr ⟨hr2 ▸ hr1, rfl⟩⟩ hP hD hS (lv_sub hl [0, 1, 2, 3, 4] rfl)
  have J20 : ∀ (v : Int32) (ls : Array Slot), v = nI (wantN q) → lv_has ls 6 [(0, .ref h), (1, .int x), (2, .int q)] → W p l e rmX1_repeat s m args below meth c s.heap [] 0 0 Q (F0 m 20 ls [.int v]) := by
    intro v ls hv hl
    subst hv
    refine lv_istore_n (lv' := [(3, .int _), (0, .ref _), (1, .int _), (2, .int _)]) hx hb dX1_repeat_20 rfl hl (by decide) rfl (fun ls hl => ?_)
    refine lv_iconst (v := 0) hx hb dX1_repeat_21 (by decide) ?_
    refine lv_istore (lv' := [(4, .int _), (3, .int _), (0, .ref _), (1, .int _), (2, .int _)]) hx hb dX1_repeat_22 hl (by decide) rfl (fun ls hl => ?_)
    refine lv_iconst (v := 0) hx hb dX1_repeat_24 (by decide) ?_
    refine lv_istore (lv' := [(5, .int _), (4, .int _), (3, .int _), (0, .ref _), (1, .int _), (2, .int _)]) hx hb dX1_repeat_25 hl (by decide) rfl (fun ls hl => ?_)
    exact loop (wantN q) 0 (Nat.zero_add _) (nw, bf, nd, k) 0 s.heap [] ls rfl hP hD hS (lv_sub hl [0, 1, 2, 4, 3] rfl)
  refine lv_iload_n hx hb dX1_repeat_0 rfl (lv_at hl 2 rfl) ?_
  refine lv_if_ge (tgt := 8) hx hb dX1_repeat_1 (by decide) (fun c_1 => ?_) (fun c_1 => ?_)
  · refine lv_iload_n hx hb dX1_repeat_8 rfl (lv_at hl 2 rfl) ?_
    refine lv_bipush (v := 40) hx hb dX1_repeat_9 (by decide) ?_
    refine lv_icmp_le (tgt := 19) hx hb dX1_repeat_11 (by decide) (fun c_11 => ?_) (fun c_11 => ?_)
    · refine lv_iload_n hx hb dX1_repeat_19 rfl (lv_at hl 2 rfl) ?_
      exact J20 _ ls (wantN_a c_1 c_11) hl
    · refine lv_bipush (v := 40) hx hb dX1_repeat_14 (by decide) ?_
      refine lv_goto (tgt := 20) hx hb dX1_repeat_16 (by decide) ?_
      exact J20 _ ls (wantN_b c_1 c_11) hl
  · refine lv_iconst (v := 0) hx hb dX1_repeat_4 (by decide) ?_
    refine lv_goto (tgt := 20) hx hb dX1_repeat_5 (by decide) ?_
    exact J20 _ ls (wantN_c c_1) hl
end
section
/-! bits of Int32, counts -/
set_option maxRecDepth 100000
def bt (x : Int32) (j : Nat) : Bool := x.toBitVec.getLsbD j
theorem sh_amt : ∀ j : Fin 32, ((nI j.1 &&& 31).toBitVec.smod 32).toNat = j.1 := by decide +kernel
theorem bt_shr (x : Int32) {j : Nat} (hj : j < 32) : bt (x >>> (nI j &&& 31)) 0 = bt x j := by
  show (x.toBitVec.sshiftRight ((nI j &&& 31).toBitVec.smod 32).toNat).getLsbD 0 = _
  rw [sh_amt ⟨j, hj⟩, BitVec.getLsbD_sshiftRight]
  simp [hj, bt]
theorem and1_1 (y : Int32) : y &&& 1 = 1 ↔ bt y 0 = true := by
  rw [← Int32.toBitVec_inj]
  show y.toBitVec &&& 1#32 = 1#32 ↔ _
  rw [BitVec.and_one_eq_setWidth_ofBool_getLsbD]
  unfold bt
  cases y.toBitVec.getLsbD 0 <;> decide
theorem and1_0 (y : Int32) : y &&& 1 = 0 ↔ bt y 0 = false := by
  rw [← Int32.toBitVec_inj]
  show y.toBitVec &&& 1#32 = 0#32 ↔ _
  rw [BitVec.and_one_eq_setWidth_ofBool_getLsbD]
  unfold bt
  cases y.toBitVec.getLsbD 0 <;> decide
theorem bitI_iff (x : Int32) {j : Nat} (hj : j < 32) : bitI x j ↔ bt x j = true := by
  unfold bitI
  rw [and1_1, bt_shr x hj]
theorem bit0_iff (x : Int32) {j : Nat} (hj : j < 32) : (x >>> (nI j &&& 31)) &&& 1 = 0 ↔ bt x j = false := by
  rw [and1_0, bt_shr x hj]
theorem bt_or (x y : Int32) (j : Nat) : bt (x ||| y) j = (bt x j || bt y j) := by
  show (x.toBitVec ||| y.toBitVec).getLsbD j = _
  rw [BitVec.getLsbD_or]; rfl
theorem bt_and (x y : Int32) (j : Nat) : bt (x &&& y) j = (bt x j && bt y j) := by
  show (x.toBitVec &&& y.toBitVec).getLsbD j = _
  rw [BitVec.getLsbD_and]; rfl
theorem bt_m1 : ∀ j : Fin 32, bt (-1) j.1 = true := by decide +kernel
theorem bt_not (x : Int32) {j : Nat} (hj : j < 32) : bt (x ^^^ (-1)) j = !bt x j := by
  show (x.toBitVec ^^^ (-1 : Int32).toBitVec).getLsbD j = _
  rw [BitVec.getLsbD_xor]
  have := bt_m1 ⟨j, hj⟩
  unfold bt at *
  rw [this]
  simp
theorem bt_one_tab : ∀ (a j : Fin 32), bt ((1 : Int32) <<< (nI a.1 &&& 31)) j.1 = decide (j.1 = a.1) := by decide +kernel
theorem bt_one {a j : Nat} (ha : a < 32) (hj : j < 32) : bt ((1 : Int32) <<< (nI a &&& 31)) j = decide (j = a) := bt_one_tab ⟨a, ha⟩ ⟨j, hj⟩
theorem bt_low_tab : ∀ (a : Fin 21) (j : Fin 32), bt (((1 : Int32) <<< (nI a.1 &&& 31)) - 1) j.1 = decide (j.1 < a.1) := by decide +kernel
theorem bt_low {a j : Nat} (ha : a ≤ 20) (hj : j < 32) : bt (((1 : Int32) <<< (nI a &&& 31)) - 1) j = decide (j < a) := bt_low_tab ⟨a, by omega⟩ ⟨j, hj⟩
theorem bt_0 (j : Nat) : bt 0 j = false := by
  show (0#32).getLsbD j = false
  simp
theorem bt_ext {x y : Int32} (h : ∀ j, j < 32 → bt x j = bt y j) : x = y := by
  rw [← Int32.toBitVec_inj]
  exact BitVec.eq_of_getLsbD_eq (fun i hi => h i hi)
theorem bt_zero (x : Int32) : x = 0 ↔ ∀ j, j < 32 → bt x j = false := by
  constructor
  · intro h j hj
    rw [h, bt_0]
  · intro h
    exact bt_ext (fun j hj => by rw [h j hj, bt_0])
theorem bt_nz {x : Int32} (h : ¬ x = 0) : ∃ j, j < 32 ∧ bt x j = true := by
  rcases Classical.em (∃ j, j < 32 ∧ bt x j = true) with q | q
  · exact q
  · exact absurd ((bt_zero x).mpr (fun j hj => by
      cases e : bt x j with
      | false => rfl
      | true => exact absurd ⟨j, hj, e⟩ q)) h
theorem bt_self_or (x : Int32) : x ||| x = x := bt_ext (fun j _ => by rw [bt_or, Bool.or_self])
/-- counts -/
def cnt (p : Nat → Bool) : Nat → Nat
  | 0 => 0
  | i + 1 => if p i = true then cnt p i + 1 else cnt p i
theorem cnt_le (p : Nat → Bool) (n : Nat) : cnt p n ≤ n := by
  induction n with
  | zero => exact Nat.le_refl _
  | succ n ih => unfold cnt; split <;> omega
theorem cnt_lt {p : Nat → Bool} {n i : Nat} (hi : i < n) (h : p i = false) : cnt p n < n := by
  induction n with
  | zero => omega
  | succ n ih =>
    unfold cnt
    by_cases e : i = n
    · subst e
      rw [if_neg (by rw [h]; decide)]
      have := cnt_le p i
      omega
    · have := ih (by omega)
      split <;> omega
theorem cnt_congr {p q : Nat → Bool} {n : Nat} (h : ∀ i, i < n → p i = q i) : cnt p n = cnt q n := by
  induction n with
  | zero => rfl
  | succ n ih =>
    unfold cnt
    rw [h n (by omega), ih (fun i hi => h i (by omega))]
theorem cnt_add {p q : Nat → Bool} {n i : Nat} (hi : i < n) (hp : p i = false) (hq : q i = true) (h : ∀ j, j < n → j ≠ i → q j = p j) : cnt q n = cnt p n + 1 := by
  induction n with
  | zero => omega
  | succ n ih =>
    unfold cnt
    by_cases e : i = n
    · subst e
      rw [if_pos hq, if_neg (by rw [hp]; decide), cnt_congr (fun j hj => h j (by omega) (by omega))]
    · rw [h n (by omega) (by omega), ih (by omega) (fun j hj hne => h j (by omega) hne)]
      split <;> omega
theorem cnt_two {p q : Nat → Bool} {n : Nat} (hd : ∀ i, i < n → ¬ (p i = true ∧ q i = true)) : cnt p n + cnt q n = n ↔ ∀ i, i < n → (p i = true ∨ q i = true) := by
  have hle : ∀ m, m ≤ n → cnt p m + cnt q m ≤ m := by
    intro m
    induction m with
    | zero => intro _; exact Nat.le_refl _
    | succ m ih =>
      intro hm
      have h1 := ih (by omega)
      have h2 := hd m (by omega)
      unfold cnt
      by_cases e1 : p m = true
      · rw [if_pos e1, if_neg (fun e2 => h2 ⟨e1, e2⟩)]; omega
      · rw [if_neg e1]
        split <;> omega
  have key : ∀ m, m ≤ n → (cnt p m + cnt q m = m ↔ ∀ i, i < m → (p i = true ∨ q i = true)) := by
    intro m
    induction m with
    | zero => intro _; exact ⟨fun _ i hi => absurd hi (Nat.not_lt_zero i), fun _ => rfl⟩
    | succ m ih =>
      intro hm
      have h0 := hle m (by omega)
      have h1 := ih (by omega)
      have h2 := hd m (by omega)
      unfold cnt
      by_cases e1 : p m = true
      · rw [if_pos e1, if_neg (fun e2 => h2 ⟨e1, e2⟩)]
        constructor
        · intro h i hi
          rcases Nat.lt_succ_iff_lt_or_eq.mp hi with q' | q'
          · exact h1.mp (by omega) i q'
          · subst q'; exact Or.inl e1
        · intro h
          have := h1.mpr (fun i hi => h i (by omega))
          omega
      · rw [if_neg e1]
        by_cases e2 : q m = true
        · rw [if_pos e2]
          constructor
          · intro h i hi
            rcases Nat.lt_succ_iff_lt_or_eq.mp hi with q' | q'
            · exact h1.mp (by omega) i q'
            · subst q'; exact Or.inr e2
          · intro h
            have := h1.mpr (fun i hi => h i (by omega))
            omega
        · rw [if_neg e2]
          constructor
          · intro h
            omega
          · intro h
            rcases h m (Nat.lt_succ_self m) with q' | q'
            · exact absurd q' e1
            · exact absurd q' e2
  exact key n (Nat.le_refl n)
end
section
/-! which nodes a node names; the greedy order -/
set_option maxRecDepth 100000
def nms (G : XG) (i j : Nat) : Prop := (¬ G.2.1 i < 3 ∧ ¬ 9 < G.2.1 i ∧ G.2.2.1 i = nI j) ∨ (¬ G.2.1 i < 3 ∧ ¬ 5 < G.2.1 i ∧ G.2.2.2.1 i = nI j) ∨ ∃ t, t < (G.2.2.2.2.1 i).toNatClampNeg ∧ G.2.2.2.2.2.1 (6 * i + t) = nI j
theorem nok_a3 {G : XG} {i : Nat} (hg : gok G) (hi : i < G.1) (h3 : ¬ G.2.1 i < 3) (h9 : ¬ 9 < G.2.1 i) : ∃ a, a < 20 ∧ G.2.2.1 i = nI a :=
  nok_a hg hi (fun q => h3 (by rw [i_lt] at q ⊢; simp only [i_2, i_3] at q ⊢; omega)) h9
theorem nms_lt {G : XG} {i j : Nat} (hg : gok G) (hi : i < G.1) (hj : j < 32) (h : nms G i j) : j < 20 := by
  rcases h with ⟨h1, h2, h3⟩ | ⟨h1, h2, h3⟩ | ⟨t, ht, h3⟩
  · obtain ⟨a, ha, e⟩ := nok_a3 hg hi h1 h2
    have := (nI_eq (by omega) (by omega)).mp (h3.symm.trans e)
    omega
  · obtain ⟨a, ha, e⟩ := nok_b hg hi h1 h2
    have := (nI_eq (by omega) (by omega)).mp (h3.symm.trans e)
    omega
  · obtain ⟨-, T, hT6, hT, -, hta⟩ := hg.2 i hi
    rw [hT, nI_clamp (by omega)] at ht
    obtain ⟨a, ha, e⟩ := hta t ht
    have := (nI_eq (by omega) (by omega)).mp (h3.symm.trans e)
    omega
theorem bt_sh_eq {x : Int32} {a j : Nat} (ha : a < 20) (hj : j < 32) (e : x = nI a) : bt ((1 : Int32) <<< (x &&& 31)) j = true ↔ x = nI j := by
  rw [e, bt_one (by omega) hj, decide_eq_true_iff, nI_eq (by omega) (by omega)]
  exact eq_comm
theorem tpO_bit {G : XG} {i j T : Nat} {v : Int32} (hj : j < 32) (h : ∀ t, t < T → ∃ a, a < 20 ∧ G.2.2.2.2.2.1 (6 * i + t) = nI a) : bt (tpO G i v T) j = true ↔ bt v j = true ∨ ∃ t, t < T ∧ G.2.2.2.2.2.1 (6 * i + t) = nI j := by
  induction T with
  | zero => exact ⟨fun q => Or.inl q, fun q => q.resolve_right (fun ⟨t, ht, _⟩ => absurd ht (Nat.not_lt_zero t))⟩
  | succ T ih =>
    have ih := ih (fun t ht => h t (by omega))
    obtain ⟨a, ha, e⟩ := h T (Nat.lt_succ_self T)
    unfold tpO
    rw [bt_or, Bool.or_eq_true, ih, bt_sh_eq ha hj e]
    constructor
    · rintro ((q | ⟨t, ht, q⟩) | q)
      · exact Or.inl q
      · exact Or.inr ⟨t, by omega, q⟩
      · exact Or.inr ⟨T, Nat.lt_succ_self T, q⟩
    · rintro (q | ⟨t, ht, q⟩)
      · exact Or.inl (Or.inl q)
      · rcases Nat.lt_succ_iff_lt_or_eq.mp ht with h2 | h2
        · exact Or.inl (Or.inr ⟨t, h2, q⟩)
        · subst h2; exact Or.inr q
theorem nbM1_bit {G : XG} {i j : Nat} (hg : gok G) (hi : i < G.1) (hj : j < 32) : bt (nbM1 G i) j = true ↔ (¬ G.2.1 i < 3 ∧ ¬ 9 < G.2.1 i ∧ G.2.2.1 i = nI j) := by
  unfold nbM1
  split
  · rename_i h
    rw [bt_0]
    exact ⟨fun q => (by cases q), fun q => absurd h q.1⟩
  · split
    · rename_i h
      rw [bt_0]
      exact ⟨fun q => (by cases q), fun q => absurd h q.2.1⟩
    · rename_i h1 h2
      obtain ⟨a, ha, e⟩ := nok_a3 hg hi h1 h2
      rw [bt_sh_eq ha hj e]
      exact ⟨fun q => ⟨h1, h2, q⟩, fun q => q.2.2⟩
theorem nbM2_bit {G : XG} {i j : Nat} (hg : gok G) (hi : i < G.1) (hj : j < 32) : bt (nbM2 G i) j = true ↔ (¬ G.2.1 i < 3 ∧ ¬ 9 < G.2.1 i ∧ G.2.2.1 i = nI j) ∨ (¬ G.2.1 i < 3 ∧ ¬ 5 < G.2.1 i ∧ G.2.2.2.1 i = nI j) := by
  have hb := nbM1_bit hg hi hj
  unfold nbM2
  split
  · rename_i h
    rw [hb]
    exact ⟨Or.inl, fun q => q.resolve_right (fun p => p.1 h)⟩
  · split
    · rename_i h
      rw [hb]
      exact ⟨Or.inl, fun q => q.resolve_right (fun p => p.2.1 h)⟩
    · rename_i h1 h2
      obtain ⟨a, ha, e⟩ := nok_b hg hi h1 h2
      rw [bt_or, Bool.or_eq_true, hb, bt_sh_eq ha hj e]
      exact ⟨fun q => q.imp id (fun p => ⟨h1, h2, p⟩), fun q => q.imp id (fun p => p.2.2)⟩
theorem nbM_bit {G : XG} {i j : Nat} (hg : gok G) (hi : i < G.1) (hj : j < 32) : bt (nbM G i) j = true ↔ j < G.1 ∧ nms G i j := by
  obtain ⟨-, T, hT6, hT, -, hta⟩ := hg.2 i hi
  unfold nbM nms
  rw [hT, nI_clamp (by omega), bt_and, bt_low hg.1 hj, Bool.and_eq_true, decide_eq_true_iff, tpO_bit hj hta, nbM2_bit hg hi hj, or_assoc]
  exact and_comm
theorem zor (x : Int32) : 0 ||| x = x := bt_ext (fun j _ => by rw [bt_or, bt_0, Bool.false_or])
theorem nbX1_eq (G : XG) (i : Nat) : nbX1 G i = nbM1 G i := by unfold nbX1 nbM1; rw [zor]
theorem nbX2_eq (G : XG) (i : Nat) : nbX2 G i = nbM2 G i := by unfold nbX2 nbM2; rw [nbX1_eq]
theorem nbX3_bit {G : XG} {i j : Nat} (hg : gok G) (hi : i < G.1) (hj : j < 32) : bt (nbX3 G i) j = true ↔ nms G i j := by
  obtain ⟨-, T, hT6, hT, hT0, hta⟩ := hg.2 i hi
  unfold nbX3 nms
  rw [hT, nI_clamp (by omega), ← or_assoc, nbX2_eq]
  split
  · rw [tpO_bit hj hta, nbM2_bit hg hi hj]
  · rename_i h
    have e0 : T = 0 := hT0.resolve_left h
    subst e0
    rw [nbM2_bit hg hi hj]
    exact ⟨Or.inl, fun q => q.resolve_right (fun ⟨t, ht, _⟩ => absurd ht (Nat.not_lt_zero t))⟩
theorem mskX_bit {G : XG} {v : Int32} {j : Nat} (hn : G.1 ≤ 20) (hj : j < 32) : ∀ m, m ≤ 20 → (bt (mskX G v m) j = true ↔ bt v j = true ∧ (j < m → j < G.1 ∧ ¬ G.2.1 j = 2)) := by
  intro m
  induction m with
  | zero => intro _; exact ⟨fun q => ⟨q, fun h => absurd h (Nat.not_lt_zero j)⟩, fun q => q.1⟩
  | succ m ih =>
    intro hm
    have ih := ih (by omega)
    have hmask : bt (mskX G v m &&& (((1 : Int32) <<< (nI m &&& 31)) ^^^ (-1))) j = true ↔ bt (mskX G v m) j = true ∧ ¬ j = m := by
      rw [bt_and, Bool.and_eq_true, bt_not _ hj, bt_one (by omega) hj, Bool.not_eq_true', decide_eq_false_iff_not]
    unfold mskX
    split
    · rename_i h
      rw [hmask, ih]
      have hge : G.1 ≤ m := (nI_leI (by omega) (by omega)).mp h
      constructor
      · rintro ⟨⟨q1, q2⟩, q3⟩
        exact ⟨q1, fun hlt => q2 (by omega)⟩
      · rintro ⟨q1, q2⟩
        refine ⟨⟨q1, fun hlt => q2 (by omega)⟩, fun e => ?_⟩
        have := (q2 (by omega)).1
        omega
    · rename_i h
      split
      · rename_i h2
        rw [hmask, ih]
        constructor
        · rintro ⟨⟨q1, q2⟩, q3⟩
          exact ⟨q1, fun hlt => q2 (by omega)⟩
        · rintro ⟨q1, q2⟩
          refine ⟨⟨q1, fun hlt => q2 (by omega)⟩, fun e => ?_⟩
          subst e
          exact (q2 (by omega)).2 h2
      · rename_i h2
        rw [ih]
        constructor
        · rintro ⟨q1, q2⟩
          refine ⟨q1, fun hlt => ?_⟩
          rcases Nat.lt_succ_iff_lt_or_eq.mp hlt with h3 | h3
          · exact q2 h3
          · subst h3
            refine ⟨?_, h2⟩
            rcases Nat.lt_or_ge j G.1 with q | q
            · exact q
            · exact absurd (nI_le q (by omega)) h
        · rintro ⟨q1, q2⟩
          exact ⟨q1, fun hlt => q2 (by omega)⟩
theorem nbX_bit {G : XG} {i j : Nat} (hg : gok G) (hi : i < G.1) (hj : j < 32) : bt (nbX G i) j = true ↔ j < G.1 ∧ ¬ G.2.1 j = 2 ∧ nms G i j := by
  unfold nbX
  rw [mskX_bit hg.1 hj 20 (Nat.le_refl 20), nbX3_bit hg hi hj]
  constructor
  · rintro ⟨q1, q2⟩
    have h := q2 (nms_lt hg hi hj q1)
    exact ⟨h.1, h.2, q1⟩
  · rintro ⟨q1, q2, q3⟩
    exact ⟨q3, fun _ => ⟨q1, q2⟩⟩
/-- the greedy order's invariant -/
def OI (G : XG) (T : OT) : Prop :=
  (∀ j, j < 32 → bt T.1 j = true → j < G.1 ∧ ¬ G.2.1 j = 2) ∧
  T.2.1 = cnt (bt T.1) G.1 ∧
  (∀ q, q < T.2.1 → ∃ i, i < G.1 ∧ T.2.2 q = nI i ∧ ¬ G.2.1 i = 2 ∧ bt T.1 i = true ∧ ∀ j, j < G.1 → ¬ G.2.1 j = 2 → nms G i j → ∃ q2, q2 < q ∧ T.2.2 q2 = nI j) ∧
  (∀ j, j < G.1 → bt T.1 j = true → ∃ q, q < T.2.1 ∧ T.2.2 q = nI j) ∧
  (∀ q1 q2, q1 < T.2.1 → q2 < T.2.1 → T.2.2 q1 = T.2.2 q2 → q1 = q2)
theorem OI_0 (G : XG) (od : Nat → Int32) : OI G (0, 0, od) := by
  refine ⟨fun j _ h => ?_, ?_, fun q h => absurd h (Nat.not_lt_zero q), fun j _ h => ?_, fun q _ h => absurd h (Nat.not_lt_zero q)⟩
  · rw [bt_0] at h; cases h
  · have : ∀ n, cnt (bt 0) n = 0 := by
      intro n
      induction n with
      | zero => rfl
      | succ n ih => unfold cnt; rw [if_neg (by rw [bt_0]; decide), ih]
    exact (this G.1).symm
  · rw [bt_0] at h; cases h
theorem OI_one {G : XG} (hg : gok G) {i : Nat} (hi : i < G.1) {T : OT} (h : OI G T) : OI G (oOne G i T) := by
  have hn := hg.1
  unfold oOne
  split
  · exact h
  · rename_i hk
    split
    · rename_i hb
      split
      · rename_i hz
        obtain ⟨d, pl, od⟩ := T
        obtain ⟨h1, h2, h3, h4, h5⟩ := h
        dsimp only at *
        have hb := (bit0_iff d (j := i) (by omega)).mp hb
        have hbt : ∀ j, j < 32 → bt (d ||| ((1 : Int32) <<< (nI i &&& 31))) j = (bt d j || decide (j = i)) := fun j hj => by rw [bt_or, bt_one (by omega) hj]
        have hbi : bt (d ||| ((1 : Int32) <<< (nI i &&& 31))) i = true := by rw [hbt i (by omega)]; simp
        have hb8 : b8 (nI i) = nI i := b8_nI (by omega)
        rw [hb8]
        have hup : ∀ q, q < pl → upd od pl (nI i) q = od q := fun q hq => pk_un (by omega)
        have hlast : upd od pl (nI i) pl = nI i := pk_us
        have hdone : ∀ j, j < G.1 → ¬ G.2.1 j = 2 → nms G i j → bt d j = true := by
          intro j hj hj2 hnm
          have e := (bt_zero _).mp hz j (by omega)
          rw [bt_and, bt_not _ (show j < 32 by omega), (nbX_bit hg hi (show j < 32 by omega)).mpr ⟨hj, hj2, hnm⟩] at e
          simpa using e
        unfold OI
        dsimp only
        refine ⟨fun j hj hbj => ?_, ?_, fun q hq => ?_, fun j hj hbj => ?_, fun q1 q2 hq1 hq2 he => ?_⟩
        · rw [hbt j hj, Bool.or_eq_true, decide_eq_true_iff] at hbj
          rcases hbj with q | q
          · exact h1 j hj q
          · subst q; exact ⟨hi, hk⟩
        · rw [h2]
          exact (cnt_add hi hb hbi (fun j hj hne => by rw [hbt j (by omega)]; simp [hne])).symm
        · rcases Nat.lt_succ_iff_lt_or_eq.mp hq with q' | q'
          · obtain ⟨i2, g1, g2, g3, g4, g5⟩ := h3 q q'
            refine ⟨i2, g1, by rw [hup q q']; exact g2, g3, by rw [hbt i2 (by omega), g4]; rfl, fun j hj hj2 hnm => ?_⟩
            obtain ⟨q2, a1, a2⟩ := g5 j hj hj2 hnm
            exact ⟨q2, a1, by rw [hup q2 (by omega)]; exact a2⟩
          · subst q'
            refine ⟨i, hi, hlast, hk, hbi, fun j hj hj2 hnm => ?_⟩
            obtain ⟨q2, a1, a2⟩ := h4 j hj (hdone j hj hj2 hnm)
            exact ⟨q2, a1, by rw [hup q2 a1]; exact a2⟩
        · rw [hbt j (by omega), Bool.or_eq_true, decide_eq_true_iff] at hbj
          rcases hbj with q | q
          · obtain ⟨q2, a1, a2⟩ := h4 j hj q
            exact ⟨q2, by omega, by rw [hup q2 a1]; exact a2⟩
          · subst q
            exact ⟨pl, Nat.lt_succ_self pl, hlast⟩
        · have fresh : ∀ q, q < pl → upd od pl (nI i) q ≠ nI i := by
            intro q hq e
            rw [hup q hq] at e
            obtain ⟨i2, g1, g2, g3, g4, -⟩ := h3 q hq
            have := (nI_eq (by omega) (by omega)).mp (g2.symm.trans e)
            subst this
            rw [hb] at g4
            cases g4
          rcases Nat.lt_succ_iff_lt_or_eq.mp hq1 with a | a <;> rcases Nat.lt_succ_iff_lt_or_eq.mp hq2 with b | b
          · rw [hup q1 a, hup q2 b] at he
            exact h5 q1 q2 a b he
          · subst b
            rw [hlast] at he
            exact absurd he (fresh q1 a)
          · subst a
            rw [hlast] at he
            exact absurd he.symm (fresh q2 b)
          · omega
      · exact h
    · exact h
theorem OI_sw {G : XG} (hg : gok G) {T : OT} (h : OI G T) : ∀ m, m ≤ G.1 → OI G (oSw G T m) := by
  intro m
  induction m with
  | zero => intro _; exact h
  | succ m ih => intro hm; exact OI_one hg (by omega) (ih (by omega))
theorem OI_rd {G : XG} (hg : gok G) {T : OT} (h : OI G T) : ∀ r, OI G (oRd G T r) := by
  intro r
  induction r with
  | zero => exact h
  | succ r ih => exact OI_sw hg ih G.1 (Nat.le_refl _)
/-- a node can't be placed -/
def held (G : XG) (T : OT) (i : Nat) : Prop := G.2.1 i = 2 ∨ bt T.1 i = true ∨ ¬ nbX G i &&& (T.1 ^^^ (-1)) = 0
theorem one_held {G : XG} {T : OT} {i : Nat} (hi : i < 32) (h : held G T i) : oOne G i T = T := by
  unfold oOne
  split
  · rfl
  · rename_i hk
    split
    · rename_i hb
      split
      · rename_i hz
        rcases h with q | q | q
        · exact absurd q hk
        · rw [(bit0_iff T.1 hi).mp hb] at q; cases q
        · exact absurd hz q
      · rfl
    · rfl
theorem one_or {G : XG} {T : OT} {i : Nat} (hi : i < 32) : held G T i ∨ (oOne G i T).2.1 = T.2.1 + 1 := by
  unfold oOne held
  split
  · rename_i h; exact Or.inl (Or.inl h)
  · split
    · split
      · exact Or.inr rfl
      · rename_i h; exact Or.inl (Or.inr (Or.inr h))
    · rename_i h
      refine Or.inl (Or.inr (Or.inl ?_))
      cases e : bt T.1 i with
      | true => rfl
      | false => exact absurd ((bit0_iff T.1 hi).mpr e) h
theorem sw_or {G : XG} (hn : G.1 ≤ 20) (T : OT) : ∀ m, m ≤ G.1 → (oSw G T m = T ∧ ∀ i, i < m → held G T i) ∨ T.2.1 + 1 ≤ (oSw G T m).2.1 := by
  intro m
  induction m with
  | zero => intro _; exact Or.inl ⟨rfl, fun i hi => absurd hi (Nat.not_lt_zero i)⟩
  | succ m ih =>
    intro hm
    show (oOne G m (oSw G T m) = T ∧ _) ∨ T.2.1 + 1 ≤ (oOne G m (oSw G T m)).2.1
    rcases ih (by omega) with ⟨e, hh⟩ | hh
    · rw [e]
      rcases one_or (G := G) (T := T) (i := m) (by omega) with q | q
      · exact Or.inl ⟨one_held (by omega) q, lt_s hh q⟩
      · exact Or.inr (by omega)
    · refine Or.inr ?_
      rcases one_or (G := G) (T := oSw G T m) (i := m) (by omega) with q | q
      · rw [one_held (by omega) q]; exact hh
      · omega
theorem rd_or {G : XG} (hn : G.1 ≤ 20) (T : OT) : ∀ r, r ≤ (oRd G T r).2.1 ∨ ∀ i, i < G.1 → held G (oRd G T r) i := by
  intro r
  induction r with
  | zero => exact Or.inl (Nat.zero_le _)
  | succ r ih =>
    show r + 1 ≤ (oSw G (oRd G T r) G.1).2.1 ∨ ∀ i, i < G.1 → held G (oSw G (oRd G T r) G.1) i
    rcases sw_or hn (oRd G T r) G.1 (Nat.le_refl _) with ⟨e, hh⟩ | hh
    · rw [e]; exact Or.inr hh
    · rcases ih with q | q
      · exact Or.inl (by omega)
      · left
        have e : ∀ m, m ≤ G.1 → oSw G (oRd G T r) m = oRd G T r := by
          intro m
          induction m with
          | zero => intro _; rfl
          | succ m ihm =>
            intro hm
            show oOne G m (oSw G (oRd G T r) m) = _
            rw [ihm (by omega)]
            exact one_held (by omega) (q m (by omega))
        rw [e G.1 (Nat.le_refl _)] at hh
        omega
theorem dlN_cnt (G : XG) : ∀ n, dlN G n = cnt (fun i => decide (G.2.1 i = 2)) n := by
  intro n
  induction n with
  | zero => rfl
  | succ n ih =>
    unfold dlN cnt
    rw [ih]
    by_cases h : G.2.1 n = 2
    · rw [if_pos h, if_pos (by simpa using h)]
    · rw [if_neg h, if_neg (by simpa using h)]
/-- no order: a set of nodes each of which names another one of it -/
def badG (G : XG) : Prop := ∃ S : Nat → Prop, (∃ i, S i) ∧ ∀ i, S i → i < G.1 ∧ ∃ j, S j ∧ nms G i j
/-- an order: all nodes that are no delays, each behind those that it names -/
def ordG (G : XG) (pl : Nat) (od : Nat → Int32) : Prop :=
  pl + dlN G G.1 = G.1 ∧
  (∀ q, q < pl → ∃ i, i < G.1 ∧ od q = nI i ∧ ¬ G.2.1 i = 2 ∧ ∀ j, j < G.1 → ¬ G.2.1 j = 2 → nms G i j → ∃ q2, q2 < q ∧ od q2 = nI j) ∧
  (∀ j, j < G.1 → ¬ G.2.1 j = 2 → ∃ q, q < pl ∧ od q = nI j) ∧
  (∀ q1 q2, q1 < pl → q2 < pl → od q1 = od q2 → q1 = q2)
theorem ord_yes {G : XG} (hg : gok G) (od : Nat → Int32) (h : (oRd G (0, 0, od) G.1).2.1 + dlN G G.1 = G.1) : ordG G (oRd G (0, 0, od) G.1).2.1 (oRd G (0, 0, od) G.1).2.2 := by
  have hO := OI_rd hg (OI_0 G od) G.1
  generalize oRd G (0, 0, od) G.1 = T at h hO
  obtain ⟨h1, h2, h3, h4, h5⟩ := hO
  refine ⟨h, fun q hq => ?_, fun j hj hj2 => ?_, h5⟩
  · obtain ⟨i, a1, a2, a3, -, a5⟩ := h3 q hq
    exact ⟨i, a1, a2, a3, a5⟩
  · rw [h2, dlN_cnt] at h
    have := (cnt_two (p := bt T.1) (q := fun i => decide (G.2.1 i = 2)) (fun i hi q => by
      have g := (h1 i (by have := hg.1; omega) q.1).2
      exact g (by simpa using q.2))).mp h j hj
    rcases this with q | q
    · exact h4 j hj q
    · exact absurd (by simpa using q) hj2
theorem ord_no {G : XG} (hg : gok G) (od : Nat → Int32) (h : ¬ (oRd G (0, 0, od) G.1).2.1 + dlN G G.1 = G.1) : badG G := by
  have hn := hg.1
  have hO := OI_rd hg (OI_0 G od) G.1
  have hr := rd_or hn (0, 0, od) G.1
  generalize oRd G (0, 0, od) G.1 = T at h hO hr
  obtain ⟨h1, h2, h3, h4, h5⟩ := hO
  have hne : ∃ i, i < G.1 ∧ bt T.1 i = false ∧ ¬ G.2.1 i = 2 := by
    rcases Classical.em (∃ i, i < G.1 ∧ bt T.1 i = false ∧ ¬ G.2.1 i = 2) with q | q
    · exact q
    · refine absurd ?_ h
      rw [h2, dlN_cnt]
      refine (cnt_two (p := bt T.1) (q := fun i => decide (G.2.1 i = 2)) (fun i hi q => by
        have g := (h1 i (by omega) q.1).2
        exact g (by simpa using q.2))).mpr (fun i hi => ?_)
      cases e : bt T.1 i with
      | true => exact Or.inl rfl
      | false =>
        right
        rcases Classical.em (G.2.1 i = 2) with g | g
        · simpa using g
        · exact absurd ⟨i, hi, e, g⟩ q
  have hall : ∀ i, i < G.1 → held G T i := by
    rcases hr with q | q
    · obtain ⟨i, hi, hb, -⟩ := hne
      have := cnt_lt (p := bt T.1) hi hb
      omega
    · exact q
  refine ⟨fun i => i < G.1 ∧ bt T.1 i = false ∧ ¬ G.2.1 i = 2, hne, fun i ⟨hi, hb, hk⟩ => ⟨hi, ?_⟩⟩
  rcases hall i hi with q | q | q
  · exact absurd q hk
  · rw [hb] at q; cases q
  · obtain ⟨j, hj, hbj⟩ := bt_nz q
    rw [bt_and, Bool.and_eq_true, bt_not _ hj, nbX_bit hg hi hj] at hbj
    exact ⟨j, ⟨hbj.1.1, by simpa using hbj.2, hbj.1.2.1⟩, hbj.1.2.2⟩
theorem ord_pl {G : XG} (hg : gok G) (od : Nat → Int32) (r i : Nat) (hi : i < G.1) (hb : (oSw G (oRd G (0, 0, od) r) i).1 >>> (nI i &&& 31) &&& 1 = 0) : (oSw G (oRd G (0, 0, od) r) i).2.1 < 20 := by
  have hn := hg.1
  have hO := OI_sw hg (OI_rd hg (OI_0 G od) r) i (by omega)
  have := cnt_lt (p := bt (oSw G (oRd G (0, 0, od) r) i).1) hi ((bit0_iff _ (by omega)).mp hb)
  rw [hO.2.1]
  omega
end
section
/-! what the compiled code does -/
set_option maxRecDepth 100000
theorem runC_congr {C C' : XC} {M : XM} : ∀ n, (∀ j, j < n → C.2.1 j = C'.2.1 j ∧ C.2.2.1 j = C'.2.2.1 j ∧ C.2.2.2.1 j = C'.2.2.2.1 j) → runC C M n = runC C' M n
  | 0, _ => rfl
  | n + 1, h => by
    have ih := runC_congr (M := M) n (fun j hj => h j (by omega))
    obtain ⟨h1, h2, h3⟩ := h n (Nat.lt_succ_self n)
    show pfo (C.2.1 n) (C.2.2.2.1 n).toNatClampNeg (C.2.2.1 n) (runC C M n) = pfo (C'.2.1 n) (C'.2.2.2.1 n).toNatClampNeg (C'.2.2.1 n) (runC C' M n)
    rw [ih, h1, h2, h3]
def sem (C : XC) (M : XM) : XM := runC C M C.1
theorem sem_wr (C : XC) (o q v : Int32) (M : XM) : sem (cWr C o q v) M = pfo (b8 o) (b8 q).toNatClampNeg v (sem C M) := by
  have e := runC_congr (C := cWr C o q v) (C' := C) (M := M) C.1 (fun j hj => ⟨pk_un (by omega), pk_un (by omega), pk_un (by omega)⟩)
  show pfo (upd C.2.1 C.1 (b8 o) C.1) (upd C.2.2.2.1 C.1 (b8 q) C.1).toNatClampNeg (upd C.2.2.1 C.1 v C.1) (runC (cWr C o q v) M C.1) = _
  rw [e, pk_us, pk_us, pk_us]
  rfl
theorem b8n {q : Nat} (h : q < 42) : b8 (nI q) = nI q := b8_nI (by omega)
theorem sem_wrN {C : XC} {o v : Int32} {M : XM} {q : Nat} (hq : q < 42) : sem (cWr C o (nI q) v) M = pfo (b8 o) q v (sem C M) := by
  rw [sem_wr, b8n hq, nI_clamp (by omega)]
section PF
variable {ix : Nat} {v : Int32} {M : XM}
theorem pfo_0 : pfo (b8 0) ix v M = (M.1, (M.1 ix).toInt64) := if_pos (by decide)
theorem pfo_1 : pfo (b8 1) ix v M = (M.1, v.toInt64) := by unfold pfo; rw [if_neg (by decide), if_pos (by decide)]
theorem pfo_2 : pfo (b8 2) ix v M = (upd M.1 ix M.2.toInt32, M.2) := by unfold pfo; rw [if_neg (by decide), if_neg (by decide), if_pos (by decide)]
theorem pfo_3 : pfo (b8 3) ix v M = (M.1, M.2 + (M.1 ix).toInt64) := by unfold pfo; rw [if_neg (by decide), if_neg (by decide), if_neg (by decide), if_pos (by decide)]
theorem pfo_4 : pfo (b8 4) ix v M = (M.1, M.2 - (M.1 ix).toInt64) := by unfold pfo; rw [if_neg (by decide), if_neg (by decide), if_neg (by decide), if_neg (by decide), if_pos (by decide)]
theorem pfo_10 : pfo (b8 10) ix v M = (M.1, M.2 + v.toInt64 * (M.1 ix).toInt64) := by unfold pfo; rw [if_neg (by decide), if_neg (by decide), if_neg (by decide), if_neg (by decide), if_neg (by decide), if_pos (by decide)]
theorem pfo_12 : pfo (b8 12) ix v M = (M.1, sat64 M.2) := by unfold pfo; rw [if_neg (by decide), if_neg (by decide), if_neg (by decide), if_neg (by decide), if_neg (by decide), if_neg (by decide), if_pos (by decide)]
theorem pfo_s {o : Int32} (h : ¬ o = 0 ∧ ¬ o = 1 ∧ ¬ o = 2 ∧ ¬ o = 3 ∧ ¬ o = 4 ∧ ¬ o = 10 ∧ ¬ o = 12) : pfo o ix v M = (M.1, spc o (M.1 ix) v M.2) := by
  unfold pfo; rw [if_neg h.1, if_neg h.2.1, if_neg h.2.2.1, if_neg h.2.2.2.1, if_neg h.2.2.2.2.1, if_neg h.2.2.2.2.2.1, if_neg h.2.2.2.2.2.2]
theorem pfo_5 : pfo (b8 5) ix v M = (M.1, if lg_cmp (M.1 ix).toInt64 M.2 ≤ 0 then M.2 else (M.1 ix).toInt64) := by
  rw [pfo_s (by decide)]; unfold spc; rw [if_pos (by decide)]
theorem pfo_6 : pfo (b8 6) ix v M = (M.1, -M.2) := by
  rw [pfo_s (by decide)]; unfold spc; rw [if_neg (by decide), if_pos (by decide)]
theorem pfo_7 : pfo (b8 7) ix v M = (M.1, if 0 ≤ lg_cmp M.2 0 then M.2 else -M.2) := by
  rw [pfo_s (by decide)]; unfold spc; rw [if_neg (by decide), if_neg (by decide), if_pos (by decide)]
theorem pfo_8 : pfo (b8 8) ix v M = (M.1, M.2 <<< (v.toInt64 &&& 63)) := by
  rw [pfo_s (by decide)]; unfold spc; rw [if_neg (by decide), if_neg (by decide), if_neg (by decide), if_pos (by decide)]
theorem pfo_9 : pfo (b8 9) ix v M = (M.1, M.2 >>> (v.toInt64 &&& 63)) := by
  rw [pfo_s (by decide)]; unfold spc; rw [if_neg (by decide), if_neg (by decide), if_neg (by decide), if_neg (by decide), if_pos (by decide)]
theorem pfo_11 : pfo (b8 11) ix v M = (M.1, (M.2 + 16384) >>> ((15 : Int32).toInt64 &&& 63)) := by
  rw [pfo_s (by decide)]; unfold spc; rw [if_neg (by decide), if_neg (by decide), if_neg (by decide), if_neg (by decide), if_neg (by decide)]
end PF
/-- the code so far is fit: its cells are in range; the accumulator holds what the held cell holds -/
def CI (C : XC) : Prop := (∀ j, j < C.1 → ∃ ix, ix < 42 ∧ C.2.2.2.1 j = nI ix) ∧ ∀ q, q < 42 → C.2.2.2.2 = nI q → ∀ M, (sem C M).2 = ((sem C M).1 q).toInt64
theorem nI_m1 {q : Nat} (h : q < 42) : ¬ (-1 : Int32) = nI q := by
  intro e
  have h1 : (-1 : Int32) < 0 := by decide
  rw [e] at h1
  exact nI_pos (by omega) h1
theorem CI_wr {C : XC} (h : CI C) {q : Nat} (hq : q < 42) (o v : Int32) : CI (cWr C o (nI q) v) := by
  refine ⟨fun j hj => ?_, fun q2 hq2 e => absurd e (nI_m1 hq2)⟩
  rcases Nat.lt_succ_iff_lt_or_eq.mp hj with a | a
  · obtain ⟨ix, h1, h2⟩ := h.1 j a
    exact ⟨ix, h1, (pk_un (by omega)).trans h2⟩
  · subst a
    exact ⟨q, hq, pk_us.trans (b8n hq)⟩
theorem CI_ld {C : XC} (h : CI C) {q : Nat} (hq : q < 42) : CI (cLd C (nI q)) ∧ ∀ M, sem (cLd C (nI q)) M = ((sem C M).1, ((sem C M).1 q).toInt64) := by
  unfold cLd
  split
  · rename_i e
    exact ⟨h, fun M => by rw [← h.2 q hq e M]⟩
  · exact ⟨CI_wr h hq _ _, fun M => by rw [sem_wrN hq, pfo_0]⟩
def fit32 (a : Int64) : Prop := a.toInt32.toInt64 = a
theorem CI_st {C : XC} (h : CI C) {q : Nat} (hq : q < 42) (hf : ∀ M, fit32 (sem C M).2) : CI (cSt C (nI q)) ∧ ∀ M, sem (cSt C (nI q)) M = (upd (sem C M).1 q (sem C M).2.toInt32, (sem C M).2) := by
  have e : ∀ M, sem (cSt C (nI q)) M = (upd (sem C M).1 q (sem C M).2.toInt32, (sem C M).2) := by
    intro M
    have e1 : sem (cSt C (nI q)) M = sem (cWr C 2 (nI q) 0) M := runC_congr _ (fun j _ => ⟨rfl, rfl, rfl⟩)
    rw [e1, sem_wrN hq, pfo_2]
  refine ⟨⟨(CI_wr h hq 2 0).1, fun q2 hq2 e2 M => ?_⟩, e⟩
  have : q = q2 := (nI_eq (by omega) (by omega)).mp e2
  subst this
  rw [e M]
  show _ = (upd _ _ _ _).toInt64
  rw [pk_us]
  exact (hf M).symm
theorem fit_of (x : Int32) : fit32 x.toInt64 := by
  unfold fit32
  rw [Int32.toInt32_toInt64]
theorem CI_cp {C : XC} (h : CI C) {a b : Nat} (ha : a < 42) (hb : b < 42) : CI (cCp C (nI a) (nI b)) ∧ ∀ M, (sem (cCp C (nI a) (nI b)) M).1 = upd (sem C M).1 b ((sem C M).1 a) := by
  obtain ⟨h1, e1⟩ := CI_ld h ha
  obtain ⟨h2, e2⟩ := CI_st h1 hb (fun M => by rw [e1]; exact fit_of _)
  refine ⟨h2, fun M => ?_⟩
  show (sem (cSt (cLd C (nI a)) (nI b)) M).1 = _
  rw [e2, e1]
  dsimp only
  rw [Int32.toInt32_toInt64]
/-- cells by number -/
def cx (G : XG) (j : Nat) : Nat := if j < G.1 then j else 40
theorem cx_lt (G : XG) (hn : G.1 ≤ 20) (j : Nat) : cx G j < 42 := by unfold cx; split <;> omega
theorem cellF_n {G : XG} (hn : G.1 ≤ 20) {j : Nat} (hj : j < 2 ^ 31) : cellF G (nI j) = nI (cx G j) := by
  unfold cellF cx
  rcases Nat.lt_or_ge j G.1 with q | q
  · rw [if_neg (nI_ge q (by omega)), if_pos q]
  · rw [if_pos (nI_le q hj), if_neg (by omega)]; rfl
def cix (G : XG) (a : Int32) : Nat := (cellF G a).toNatClampNeg
theorem cix_n {G : XG} (hn : G.1 ≤ 20) {j : Nat} (hj : j < 2 ^ 31) : cix G (nI j) = cx G j := by
  unfold cix
  rw [cellF_n hn hj, nI_clamp (by have := cx_lt G hn j; omega)]
/-- what a node is worth, by the code -/
def xs (G : XG) (d : Nat → Int32) (i : Nat) : Nat → Int64
  | 0 => (0 : Int32).toInt64
  | t + 1 => xs G d i t + (G.2.2.2.2.2.2 (6 * i + t)).toInt64 * (d (cix G (G.2.2.2.2.2.1 (6 * i + t)))).toInt64
def xv1 (G : XG) (d : Nat → Int32) (i : Nat) : Int64 :=
  if G.2.1 i = 6 then -(d (cix G (G.2.2.1 i))).toInt64
  else if G.2.1 i = 7 then (if 0 ≤ lg_cmp (d (cix G (G.2.2.1 i))).toInt64 0 then (d (cix G (G.2.2.1 i))).toInt64 else -(d (cix G (G.2.2.1 i))).toInt64)
  else if G.2.1 i = 8 then (d (cix G (G.2.2.1 i))).toInt64 <<< ((G.2.2.2.1 i).toInt64 &&& 63)
  else (d (cix G (G.2.2.1 i))).toInt64 >>> ((G.2.2.2.1 i).toInt64 &&& 63)
def xv2 (G : XG) (d : Nat → Int32) (i : Nat) : Int64 :=
  if G.2.1 i = 3 then (d (cix G (G.2.2.1 i))).toInt64 + (d (cix G (G.2.2.2.1 i))).toInt64
  else if G.2.1 i = 4 then (d (cix G (G.2.2.1 i))).toInt64 - (d (cix G (G.2.2.2.1 i))).toInt64
  else if lg_cmp (d (cix G (G.2.2.2.1 i))).toInt64 (d (cix G (G.2.2.1 i))).toInt64 ≤ 0 then (d (cix G (G.2.2.1 i))).toInt64 else (d (cix G (G.2.2.2.1 i))).toInt64
def xv (G : XG) (d : Nat → Int32) (i : Nat) : Int64 :=
  if G.2.1 i = 0 then (d 41).toInt64
  else if G.2.1 i = 1 then (G.2.2.1 i).toInt64
  else if G.2.1 i = 10 then sat64 ((xs G d i (G.2.2.2.2.1 i).toNatClampNeg + 16384) >>> ((15 : Int32).toInt64 &&& 63))
  else if 5 < G.2.1 i then (if G.2.1 i = 9 then xv1 G d i else sat64 (xv1 G d i))
  else (if G.2.1 i = 5 then xv2 G d i else sat64 (xv2 G d i))
theorem fit_in {a : Int64} (h1 : -2147483648 ≤ a.toInt) (h2 : a.toInt ≤ 2147483647) : fit32 a := by
  unfold fit32
  apply Int64.toInt_inj.mp
  rw [Int32.toInt_toInt64, Int64.toInt_toInt32]
  exact Int.bmod_eq_of_le (by omega) (by omega)
theorem l_32767 : (32767 : Int64).toInt = 32767 := by decide
theorem l_m32768 : (-32768 : Int64).toInt = -32768 := by decide
theorem l_le {x y : Int64} : x ≤ y ↔ x.toInt ≤ y.toInt := Int64.le_iff_toInt_le
theorem l_lt {x y : Int64} : x < y ↔ x.toInt < y.toInt := Int64.lt_iff_toInt_lt
theorem sat64_in (a : Int64) : -32768 ≤ (sat64 a).toInt ∧ (sat64 a).toInt ≤ 32767 := by
  unfold sat64
  split
  · rename_i h1
    rw [lg_cmp_le, l_le, l_32767] at h1
    split
    · rename_i h2
      rw [lg_cmp_ge, l_le, l_m32768] at h2
      exact ⟨h2, h1⟩
    · decide
  · decide
theorem fit_sat (a : Int64) : fit32 (sat64 a) := by
  obtain ⟨h1, h2⟩ := sat64_in a
  exact fit_in (by omega) (by omega)
theorem shr_in {p : Int} {k : Nat} (h1 : -2147483648 ≤ p) (h2 : p ≤ 2147483647) : -2147483648 ≤ p >>> k ∧ p >>> k ≤ 2147483647 := by
  rw [Int.shiftRight_eq_div_pow]
  have hp : (0 : Int) < ((2 ^ k : Nat) : Int) := by exact_mod_cast Nat.two_pow_pos k
  generalize ((2 ^ k : Nat) : Int) = w at hp
  constructor
  · apply Int.le_ediv_of_mul_le hp
    have : -2147483648 * w ≤ -2147483648 := by omega
    omega
  · rcases Int.lt_or_le p 0 with q | q
    · have := Int.ediv_neg_of_neg_of_pos q hp
      omega
    · exact Int.le_trans (Int.ediv_le_self w q) h2
theorem fit_shr (x : Int32) (s : Int64) : fit32 (x.toInt64 >>> s) := by
  have e : (x.toInt64 >>> s).toInt = x.toInt64.toInt >>> (s.toBitVec.smod 64).toNat := by
    show (x.toInt64.toBitVec.sshiftRight (s.toBitVec.smod 64).toNat).toInt = _
    rw [BitVec.toInt_sshiftRight]
    rfl
  have h1 := Int32.le_toInt x
  have h2 := Int32.toInt_lt x
  have h := shr_in (p := x.toInt64.toInt) (k := (s.toBitVec.smod 64).toNat) (by rw [Int32.toInt_toInt64]; omega) (by rw [Int32.toInt_toInt64]; omega)
  exact fit_in (by rw [e]; exact h.1) (by rw [e]; exact h.2)
theorem fit_xv (G : XG) (d : Nat → Int32) (i : Nat) : fit32 (xv G d i) := by
  unfold xv
  split
  · exact fit_of _
  · split
    · exact fit_of _
    · split
      · exact fit_sat _
      · split
        · split
          · rename_i h9
            unfold xv1
            rw [if_neg (by rw [h9]; decide), if_neg (by rw [h9]; decide), if_neg (by rw [h9]; decide)]
            exact fit_shr _ _
          · exact fit_sat _
        · split
          · rename_i h5
            unfold xv2
            rw [if_neg (by rw [h5]; decide), if_neg (by rw [h5]; decide)]
            split <;> exact fit_of _
          · exact fit_sat _
end
section
/-! a node's code does what the node is worth; the three runs of compile -/
set_option maxRecDepth 100000
theorem tn_of {G : XG} {i t : Nat} (hg : gok G) (hi : i < G.1) (ht : t < (G.2.2.2.2.1 i).toNatClampNeg) : ∃ a, a < 20 ∧ G.2.2.2.2.2.1 (6 * i + t) = nI a := by
  obtain ⟨-, T, hT6, hT, -, hta⟩ := hg.2 i hi
  rw [hT, nI_clamp (by omega)] at ht
  exact hta t ht
theorem CI_tap {G : XG} (hg : gok G) {i : Nat} (hi : i < G.1) {C : XC} (h : CI C) : ∀ t, t ≤ (G.2.2.2.2.1 i).toNatClampNeg → CI (cTap G i C t) ∧ ∀ M, sem (cTap G i C t) M = ((sem C M).1, xs G (sem C M).1 i t) := by
  intro t
  induction t with
  | zero =>
    intro _
    refine ⟨CI_wr h (q := 40) (by omega) 1 0, fun M => ?_⟩
    show sem (cWr C 1 (nI 40) 0) M = _
    rw [sem_wrN (by omega), pfo_1]
    rfl
  | succ t ih =>
    intro ht
    obtain ⟨h1, e1⟩ := ih (by omega)
    obtain ⟨a, ha, ea⟩ := tn_of hg hi (show t < _ by omega)
    have hc := cx_lt G hg.1 a
    refine ⟨?_, fun M => ?_⟩
    · show CI (cWr (cTap G i C t) 10 (cellF G (G.2.2.2.2.2.1 (6 * i + t))) (G.2.2.2.2.2.2 (6 * i + t)))
      rw [ea, cellF_n hg.1 (by omega)]
      exact CI_wr h1 hc _ _
    · show sem (cWr (cTap G i C t) 10 (cellF G (G.2.2.2.2.2.1 (6 * i + t))) (G.2.2.2.2.2.2 (6 * i + t))) M = ((sem C M).1, xs G (sem C M).1 i t + (G.2.2.2.2.2.2 (6 * i + t)).toInt64 * ((sem C M).1 (cix G (G.2.2.2.2.2.1 (6 * i + t)))).toInt64)
      rw [ea, cellF_n hg.1 (by omega), sem_wrN hc, pfo_10, e1, cix_n hg.1 (by omega)]
theorem CI_sum {G : XG} (hg : gok G) {i : Nat} (hi : i < G.1) {C : XC} (h : CI C) : CI (cSum G i C) ∧ ∀ M, sem (cSum G i C) M = ((sem C M).1, sat64 ((xs G (sem C M).1 i (G.2.2.2.2.1 i).toNatClampNeg + 16384) >>> ((15 : Int32).toInt64 &&& 63))) := by
  obtain ⟨h1, e1⟩ := CI_tap hg hi h _ (Nat.le_refl _)
  have h2 := CI_wr h1 (q := 40) (by omega) 11 0
  refine ⟨CI_wr h2 (q := 40) (by omega) 12 0, fun M => ?_⟩
  show sem (cWr (cWr (cTap G i C _) 11 (nI 40) 0) 12 (nI 40) 0) M = _
  rw [sem_wrN (by omega), pfo_12, sem_wrN (by omega), pfo_11, e1]
theorem CI_two {G : XG} (hg : gok G) {i : Nat} (hi : i < G.1) (h3 : ¬ G.2.1 i < 3) (h5 : ¬ 5 < G.2.1 i) {C : XC} (h : CI C) : CI (cTwo G i C) ∧ ∀ M, sem (cTwo G i C) M = ((sem C M).1, if G.2.1 i = 5 then xv2 G (sem C M).1 i else sat64 (xv2 G (sem C M).1 i)) := by
  obtain ⟨a, ha, ea⟩ := nok_a3 hg hi h3 (fun q => h5 (by rw [i_lt] at q ⊢; simp only [i_5, i_9] at q ⊢; omega))
  obtain ⟨b, hb, eb⟩ := nok_b hg hi h3 h5
  have hca := cx_lt G hg.1 a
  have hcb := cx_lt G hg.1 b
  obtain ⟨h1, e1⟩ := CI_ld h hca
  have key : CI (cTwoA G i C (if G.2.1 i = 3 then 3 else if G.2.1 i = 4 then 4 else 5)) ∧ ∀ M, sem (cTwoA G i C (if G.2.1 i = 3 then 3 else if G.2.1 i = 4 then 4 else 5)) M = ((sem C M).1, xv2 G (sem C M).1 i) := by
    unfold cTwoA
    rw [ea, eb, cellF_n hg.1 (by omega), cellF_n hg.1 (by omega)]
    refine ⟨CI_wr h1 hcb _ _, fun M => ?_⟩
    unfold xv2
    rw [ea, eb, cix_n hg.1 (by omega), cix_n hg.1 (by omega), sem_wrN hcb]
    split
    · rw [pfo_3, e1]
    · split
      · rw [pfo_4, e1]
      · rw [pfo_5, e1]
  unfold cTwo
  split
  · exact key
  · refine ⟨CI_wr key.1 (q := 40) (by omega) 12 0, fun M => ?_⟩
    show sem (cWr _ 12 (nI 40) 0) M = _
    rw [sem_wrN (by omega), pfo_12, key.2]
theorem CI_one {G : XG} (hg : gok G) {i : Nat} (hi : i < G.1) (h3 : ¬ G.2.1 i < 3) (h9 : ¬ 9 < G.2.1 i) {C : XC} (h : CI C) : CI (cOne G i C) ∧ ∀ M, sem (cOne G i C) M = ((sem C M).1, if G.2.1 i = 9 then xv1 G (sem C M).1 i else sat64 (xv1 G (sem C M).1 i)) := by
  obtain ⟨a, ha, ea⟩ := nok_a3 hg hi h3 h9
  have hca := cx_lt G hg.1 a
  obtain ⟨h1, e1⟩ := CI_ld h hca
  have key : CI (cOneA G i C) ∧ ∀ M, sem (cOneA G i C) M = ((sem C M).1, xv1 G (sem C M).1 i) := by
    unfold cOneA xv1
    rw [ea, cellF_n hg.1 (by omega), cix_n hg.1 (by omega)]
    have h40 : ∀ o v M, sem (cWr (cLd C (nI (cx G a))) o 40 v) M = pfo (b8 o) 40 v (sem (cLd C (nI (cx G a))) M) := fun o v M => sem_wrN (q := 40) (by omega)
    split
    · exact ⟨CI_wr h1 (q := 40) (by omega) 6 0, fun M => by rw [h40, pfo_6, e1]⟩
    · split
      · exact ⟨CI_wr h1 (q := 40) (by omega) 7 0, fun M => by rw [h40, pfo_7, e1]⟩
      · refine ⟨CI_wr h1 (q := 40) (by omega) _ _, fun M => ?_⟩
        rw [h40]
        split
        · rw [pfo_8, e1]
        · rw [pfo_9, e1]
  unfold cOne
  split
  · exact key
  · refine ⟨CI_wr key.1 (q := 40) (by omega) 12 0, fun M => ?_⟩
    show sem (cWr _ 12 (nI 40) 0) M = _
    rw [sem_wrN (by omega), pfo_12, key.2]
theorem CI_body {G : XG} (hg : gok G) {i : Nat} (hi : i < G.1) (hd : ¬ G.2.1 i = 2) {C : XC} (h : CI C) : CI (cBody G i C) ∧ ∀ M, sem (cBody G i C) M = ((sem C M).1, xv G (sem C M).1 i) := by
  obtain ⟨hk, -⟩ := hg.2 i hi
  unfold cBody xv
  split
  · exact CI_ld h (q := 41) (by omega)
  · rename_i c0
    split
    · refine ⟨CI_wr h (q := 40) (by omega) 1 _, fun M => ?_⟩
      show sem (cWr C 1 (nI 40) _) M = _
      rw [sem_wrN (by omega), pfo_1]
    · rename_i c1
      split
      · exact CI_sum hg hi h
      · rename_i c10
        have hkl := kd_left hk.1 hk.2.1 c0 c1 c10 hd
        split
        · exact CI_one hg hi hkl.1 hkl.2 h
        · rename_i h5
          exact CI_two hg hi hkl.1 h5 h
theorem CI_node {G : XG} (hg : gok G) {i : Nat} (hi : i < G.1) (hd : ¬ G.2.1 i = 2) {C : XC} (h : CI C) : CI (cNode G i C) ∧ ∀ M, (sem (cNode G i C) M).1 = upd (sem C M).1 i (xv G (sem C M).1 i).toInt32 := by
  obtain ⟨h1, e1⟩ := CI_body hg hi hd h
  have hn := hg.1
  obtain ⟨h2, e2⟩ := CI_st h1 (q := i) (by omega) (fun M => by rw [e1]; exact fit_xv _ _ _)
  refine ⟨h2, fun M => ?_⟩
  show (sem (cSt (cBody G i C) (nI i)) M).1 = _
  rw [e2, e1]
/-- the cells behind the three runs -/
def k1 (G : XG) (d : Nat → Int32) : Nat → (Nat → Int32)
  | 0 => d
  | i + 1 => if G.2.1 i = 2 then upd (k1 G d i) i (k1 G d i (20 + i)) else k1 G d i
def k2 (G : XG) (od : Nat → Int32) (d : Nat → Int32) : Nat → (Nat → Int32)
  | 0 => d
  | q + 1 => upd (k2 G od d q) (od q).toNatClampNeg (xv G (k2 G od d q) (od q).toNatClampNeg).toInt32
def k3 (G : XG) (d : Nat → Int32) : Nat → (Nat → Int32)
  | 0 => d
  | i + 1 => if G.2.1 i = 2 then upd (k3 G d i) (20 + i) (k3 G d i (cix G (G.2.2.1 i))) else k3 G d i
theorem t20 (i : Nat) : (20 : Int32) + nI i = nI (20 + i) := nI_add 20 i
theorem CI_P1 {G : XG} (hn : G.1 ≤ 20) {C : XC} (h : CI C) : ∀ m, m ≤ G.1 → CI (cP1 G C m) ∧ ∀ M, (sem (cP1 G C m) M).1 = k1 G (sem C M).1 m := by
  intro m
  induction m with
  | zero => intro _; exact ⟨h, fun M => rfl⟩
  | succ m ih =>
    intro hm
    obtain ⟨h1, e1⟩ := ih (by omega)
    unfold cP1 k1
    split
    · rw [t20]
      obtain ⟨h2, e2⟩ := CI_cp h1 (a := 20 + m) (b := m) (by omega) (by omega)
      exact ⟨h2, fun M => by rw [e2, e1]⟩
    · exact ⟨h1, e1⟩
theorem CI_P2 {G : XG} (hg : gok G) {pl : Nat} {od : Nat → Int32} (ho : ∀ q, q < pl → ∃ i, i < G.1 ∧ od q = nI i ∧ ¬ G.2.1 i = 2) {C : XC} (h : CI C) : ∀ m, m ≤ pl → CI (cP2 G od C m) ∧ ∀ M, (sem (cP2 G od C m) M).1 = k2 G od (sem C M).1 m := by
  have hn := hg.1
  intro m
  induction m with
  | zero => intro _; exact ⟨h, fun M => rfl⟩
  | succ m ih =>
    intro hm
    obtain ⟨h1, e1⟩ := ih (by omega)
    obtain ⟨i, hi, ei, hd⟩ := ho m (by omega)
    unfold cP2 k2
    rw [ei, nI_clamp (by omega)]
    obtain ⟨h2, e2⟩ := CI_node hg hi hd h1
    exact ⟨h2, fun M => by rw [e2, e1]⟩
theorem CI_P3 {G : XG} (hg : gok G) {C : XC} (h : CI C) : ∀ m, m ≤ G.1 → CI (cP3 G C m) ∧ ∀ M, (sem (cP3 G C m) M).1 = k3 G (sem C M).1 m := by
  have hn := hg.1
  intro m
  induction m with
  | zero => intro _; exact ⟨h, fun M => rfl⟩
  | succ m ih =>
    intro hm
    obtain ⟨h1, e1⟩ := ih (by omega)
    unfold cP3 k3
    split
    · rename_i hd
      obtain ⟨a, ha, ea⟩ := nok_a hg (show m < G.1 by omega) (by rw [hd]; decide) (by rw [hd]; decide)
      rw [t20, ea, cellF_n hn (by omega), cix_n hn (by omega)]
      obtain ⟨h2, e2⟩ := CI_cp h1 (a := cx G a) (b := 20 + m) (cx_lt G hn a) (by omega)
      exact ⟨h2, fun M => by rw [e2, e1]⟩
    · exact ⟨h1, e1⟩
theorem k1_spec {G : XG} (hn : G.1 ≤ 20) (d : Nat → Int32) : ∀ m, m ≤ G.1 → ∀ j, k1 G d m j = if j < m ∧ G.2.1 j = 2 then d (20 + j) else d j := by
  intro m
  induction m with
  | zero => intro _ j; rw [if_neg (fun q => absurd q.1 (Nat.not_lt_zero j))]; rfl
  | succ m ih =>
    intro hm j
    have ih := ih (by omega)
    unfold k1
    split
    · rename_i hd
      by_cases e : j = m
      · subst e
        rw [pk_us, ih, if_neg (fun q => by omega), if_pos ⟨Nat.lt_succ_self j, hd⟩]
      · rw [pk_un e, ih]
        by_cases q : j < m ∧ G.2.1 j = 2
        · rw [if_pos q, if_pos ⟨by omega, q.2⟩]
        · rw [if_neg q, if_neg (fun q2 => q ⟨by omega, q2.2⟩)]
    · rename_i hd
      rw [ih]
      by_cases q : j < m ∧ G.2.1 j = 2
      · rw [if_pos q, if_pos ⟨by omega, q.2⟩]
      · rw [if_neg q, if_neg (fun q2 => q ⟨by
          rcases Nat.lt_succ_iff_lt_or_eq.mp q2.1 with a | a
          · exact a
          · subst a; exact absurd q2.2 hd, q2.2⟩)]
theorem k3_spec {G : XG} (hg : gok G) (d : Nat → Int32) : ∀ m, m ≤ G.1 → (∀ j, (j < 20 ∨ 40 ≤ j) → k3 G d m j = d j) ∧ ∀ i, i < m → G.2.1 i = 2 → k3 G d m (20 + i) = d (cix G (G.2.2.1 i)) := by
  have hn := hg.1
  intro m
  induction m with
  | zero => intro _; exact ⟨fun j _ => rfl, fun i hi => absurd hi (Nat.not_lt_zero i)⟩
  | succ m ih =>
    intro hm
    obtain ⟨h1, h2⟩ := ih (by omega)
    unfold k3
    split
    · rename_i hd
      obtain ⟨a, ha, ea⟩ := nok_a hg (show m < G.1 by omega) (by rw [hd]; decide) (by rw [hd]; decide)
      have hc : cix G (G.2.2.1 m) < 20 ∨ 40 ≤ cix G (G.2.2.1 m) := by
        rw [ea, cix_n hn (by omega)]
        unfold cx
        split <;> omega
      refine ⟨fun j hj => ?_, fun i hi hd2 => ?_⟩
      · rw [pk_un (by omega), h1 j hj]
      · rcases Nat.lt_succ_iff_lt_or_eq.mp hi with q | q
        · rw [pk_un (by omega), h2 i q hd2]
        · subst q
          rw [pk_us, h1 _ hc]
    · rename_i hd
      refine ⟨h1, fun i hi hd2 => ?_⟩
      rcases Nat.lt_succ_iff_lt_or_eq.mp hi with q | q
      · exact h2 i q hd2
      · subst q; exact absurd hd2 hd
/-- what a node is worth rests on the cells of the nodes that it names, the zero and the input -/
theorem xv_congr {G : XG} (hg : gok G) {i : Nat} (hi : i < G.1) (hd : ¬ G.2.1 i = 2) {d d' : Nat → Int32} (h40 : d 40 = d' 40) (h41 : d 41 = d' 41) (h : ∀ j, j < G.1 → nms G i j → d j = d' j) : xv G d i = xv G d' i := by
  have hn := hg.1
  obtain ⟨hk, -⟩ := hg.2 i hi
  have cxe : ∀ a, a < 20 → nms G i a → d (cx G a) = d' (cx G a) := by
    intro a ha hnm
    unfold cx
    split
    · rename_i q; exact h a q hnm
    · exact h40
  unfold xv
  rw [h41]
  split
  · rfl
  · rename_i c0
    split
    · rfl
    · rename_i c1
      split
      · rename_i c10
        have e : ∀ t, t ≤ (G.2.2.2.2.1 i).toNatClampNeg → xs G d i t = xs G d' i t := by
          intro t
          induction t with
          | zero => intro _; rfl
          | succ t ih =>
            intro ht
            obtain ⟨a, ha, ea⟩ := tn_of hg hi (show t < _ by omega)
            unfold xs
            rw [ih (by omega), ea, cix_n hn (by omega), cxe a ha (Or.inr (Or.inr ⟨t, by omega, ea⟩))]
        rw [e _ (Nat.le_refl _)]
      · rename_i c10
        have hkl := kd_left hk.1 hk.2.1 c0 c1 c10 hd
        obtain ⟨a, ha, ea⟩ := nok_a3 hg hi hkl.1 hkl.2
        have ea2 : d (cix G (G.2.2.1 i)) = d' (cix G (G.2.2.1 i)) := by
          rw [ea, cix_n hn (by omega)]
          exact cxe a ha (Or.inl ⟨hkl.1, hkl.2, ea⟩)
        split
        · unfold xv1
          rw [ea2]
        · rename_i h5
          obtain ⟨b, hb, eb⟩ := nok_b hg hi hkl.1 h5
          have eb2 : d (cix G (G.2.2.2.1 i)) = d' (cix G (G.2.2.2.1 i)) := by
            rw [eb, cix_n hn (by omega)]
            exact cxe b hb (Or.inr (Or.inl ⟨hkl.1, h5, eb⟩))
          unfold xv2
          rw [ea2, eb2]
theorem k2_keep {G : XG} {od : Nat → Int32} {d : Nat → Int32} {a b j : Nat} (hab : a ≤ b) (h : ∀ q, a ≤ q → q < b → (od q).toNatClampNeg ≠ j) : k2 G od d b j = k2 G od d a j := by
  induction b with
  | zero => rw [show a = 0 by omega]
  | succ b ih =>
    rcases Nat.lt_or_ge b a with q | q
    · rw [show a = b + 1 by omega]
    · have hb := h b q (Nat.lt_succ_self b)
      show upd (k2 G od d b) (od b).toNatClampNeg _ j = _
      rw [pk_un (Ne.symm hb)]
      exact ih q (fun q2 h1 h2 => h q2 h1 (by omega))
/-- one sample on the cells -/
def FRc (G : XG) (d d' : Nat → Int32) : Prop :=
  d' 40 = d 40 ∧ d' 41 = d 41 ∧ (∀ i, i < G.1 → G.2.1 i = 2 → d' i = d (20 + i)) ∧ (∀ i, i < G.1 → ¬ G.2.1 i = 2 → d' i = (xv G d' i).toInt32) ∧ (∀ i, i < G.1 → G.2.1 i = 2 → d' (20 + i) = d' (cix G (G.2.2.1 i))) ∧ ∀ i, G.1 ≤ i → i < 20 → d' i = d i
theorem FR_k {G : XG} (hg : gok G) {pl : Nat} {od : Nat → Int32} (ho : ordG G pl od) (d : Nat → Int32) : FRc G d (k3 G (k2 G od (k1 G d G.1) pl) G.1) := by
  have hn := hg.1
  obtain ⟨-, o1, o2, o3⟩ := ho
  have hod : ∀ q, q < pl → (od q).toNatClampNeg < G.1 ∧ od q = nI (od q).toNatClampNeg ∧ ¬ G.2.1 (od q).toNatClampNeg = 2 := by
    intro q hq
    obtain ⟨i, a1, a2, a3, -⟩ := o1 q hq
    rw [a2, nI_clamp (by omega)]
    exact ⟨a1, rfl, a3⟩
  obtain ⟨z1, z2⟩ := k3_spec hg (k2 G od (k1 G d G.1) pl) G.1 (Nat.le_refl _)
  have s1 := k1_spec hn d G.1 (Nat.le_refl _)
  -- cells that the second run doesn't write
  have s2 : ∀ j, (G.1 ≤ j ∨ G.2.1 j = 2) → k2 G od (k1 G d G.1) pl j = k1 G d G.1 j := by
    intro j hj
    refine k2_keep (Nat.zero_le pl) (fun q _ hq e => ?_)
    obtain ⟨b1, -, b3⟩ := hod q hq
    rw [e] at b1 b3
    rcases hj with h | h
    · omega
    · exact b3 h
  have out : ∀ j, G.1 ≤ j → (j < 20 ∨ 40 ≤ j) → k3 G (k2 G od (k1 G d G.1) pl) G.1 j = d j := by
    intro j hj hj2
    rw [z1 j hj2, s2 j (Or.inl hj), s1, if_neg (fun q => by omega)]
  refine ⟨out 40 (by omega) (Or.inr (Nat.le_refl _)), out 41 (by omega) (Or.inr (by omega)), fun i hi hd => ?_, fun i hi hd => ?_, fun i hi hd => ?_, fun i hi hi2 => out i hi (Or.inl hi2)⟩
  · rw [z1 i (Or.inl (by omega)), s2 i (Or.inr hd), s1, if_pos ⟨hi, hd⟩]
  · obtain ⟨q, hq, eq⟩ := o2 i hi hd
    have eqc : (od q).toNatClampNeg = i := by rw [eq, nI_clamp (by omega)]
    obtain ⟨i', a1, a2, a3, a4⟩ := o1 q hq
    have ei : i' = i := (nI_eq (by omega) (by omega)).mp (a2.symm.trans eq)
    subst ei
    have hlate : ∀ j, j < G.1 → (∀ q2, q ≤ q2 → q2 < pl → od q2 ≠ nI j) → k2 G od (k1 G d G.1) pl j = k2 G od (k1 G d G.1) q j := by
      intro j hj hh
      refine k2_keep (by omega) (fun q2 h1 h2 e => hh q2 h1 h2 ?_)
      rw [(hod q2 h2).2.1, e]
    have hself : k2 G od (k1 G d G.1) pl i' = (xv G (k2 G od (k1 G d G.1) q) i').toInt32 := by
      have e1 : k2 G od (k1 G d G.1) pl i' = k2 G od (k1 G d G.1) (q + 1) i' := by
        refine k2_keep (by omega) (fun q2 h1 h2 e => ?_)
        have := o3 q q2 hq h2 (by rw [(hod q2 h2).2.1, e, eq])
        omega
      rw [e1]
      show upd (k2 G od (k1 G d G.1) q) (od q).toNatClampNeg (xv G (k2 G od (k1 G d G.1) q) (od q).toNatClampNeg).toInt32 i' = _
      rw [eqc, pk_us]
    rw [z1 i' (Or.inl (by omega)), hself]
    refine congrArg Int64.toInt32 ?_
    refine xv_congr hg hi hd ?_ ?_ (fun j hj hnm => ?_)
    · rw [z1 40 (Or.inr (Nat.le_refl _))]
      exact (k2_keep (by omega) (fun q2 _ h2 e => by have := (hod q2 h2).1; omega)).symm
    · rw [z1 41 (Or.inr (by omega))]
      exact (k2_keep (by omega) (fun q2 _ h2 e => by have := (hod q2 h2).1; omega)).symm
    · rw [z1 j (Or.inl (by omega))]
      refine (hlate j hj (fun q2 h1 h2 e => ?_)).symm
      by_cases hdj : G.2.1 j = 2
      · have := (hod q2 h2).2.2
        rw [e, nI_clamp (by omega)] at this
        exact this hdj
      · obtain ⟨q3, g1, g2⟩ := a4 j hj hdj hnm
        have := o3 q2 q3 h2 (by omega) (e.trans g2.symm)
        omega
  · have hc : cix G (G.2.2.1 i) < 20 ∨ 40 ≤ cix G (G.2.2.1 i) := by
      obtain ⟨a, ha, ea⟩ := nok_a hg hi (by rw [hd]; decide) (by rw [hd]; decide)
      rw [ea, cix_n hn (by omega)]
      unfold cx
      split <;> omega
    rw [z2 i hi hd, z1 _ hc]
end
section
/-! the compiled state; the component's feed as a step -/
set_option maxRecDepth 100000
theorem bI_0 {b : Bool} : bI b = 0 ↔ b = false := by cases b <;> decide
theorem dlN_le (G : XG) (n : Nat) : dlN G n ≤ n := by rw [dlN_cnt]; exact cnt_le _ _
theorem ord_eqI {G : XG} (hg : gok G) (od : Nat → Int32) : nI (oRd G (0, 0, od) G.1).2.1 + nI (dlN G G.1) = nI G.1 ↔ (oRd G (0, 0, od) G.1).2.1 + dlN G G.1 = G.1 := by
  have hn := hg.1
  have h1 := (OI_rd hg (OI_0 G od) G.1).2.1
  have h2 := cnt_le (bt (oRd G (0, 0, od) G.1).1) G.1
  have h3 := dlN_le G G.1
  rw [nI_add, nI_eq (by omega) (by omega)]
def goodC (G : XG) (C : XC) : Prop := C.1 ≤ 300 ∧ (∀ j, j < C.1 → ∃ ix, ix < 42 ∧ C.2.2.2.1 j = nI ix) ∧ (∃ pl od, ordG G pl od) ∧ ∀ M : XM, FRc G M.1 (sem C M).1
def cinv (G : XG) (F : Bool × Bool) (C : XC) : Prop := F.1 = true → (F.2 = true → goodC G C) ∧ (F.2 = false → badG G)
theorem CI_0 (C : XC) : CI (0, C.2.1, C.2.2.1, C.2.2.2.1, -1) := ⟨fun j hj => absurd hj (Nat.not_lt_zero j), fun q hq e => absurd e (nI_m1 hq)⟩
theorem tc_le {G : XG} (hg : gok G) {i : Nat} (hi : i < G.1) : (G.2.2.2.2.1 i).toNatClampNeg ≤ 6 := by
  obtain ⟨-, T, hT6, hT, -, -⟩ := hg.2 i hi
  rw [hT, nI_clamp (by omega)]
  exact hT6
theorem cP2_len {G : XG} (hg : gok G) {pl : Nat} {od : Nat → Int32} (ho : ∀ q, q < pl → ∃ i, i < G.1 ∧ od q = nI i ∧ ¬ G.2.1 i = 2) (C : XC) : ∀ m, m ≤ pl → (cP2 G od C m).1 ≤ C.1 + 10 * m := by
  have hn := hg.1
  intro m
  induction m with
  | zero => intro _; exact Nat.le_refl _
  | succ m ih =>
    intro hm
    have h1 := ih (by omega)
    obtain ⟨i, hi, ei, -⟩ := ho m (by omega)
    have h2 := cNode_len G i (cP2 G od C m) (tc_le hg hi)
    unfold cP2
    rw [ei, nI_clamp (by omega)]
    omega
theorem ordG_o {G : XG} {pl : Nat} {od : Nat → Int32} (ho : ordG G pl od) : ∀ q, q < pl → ∃ i, i < G.1 ∧ od q = nI i ∧ ¬ G.2.1 i = 2 := by
  intro q hq
  obtain ⟨i, a1, a2, a3, -⟩ := ho.2.1 q hq
  exact ⟨i, a1, a2, a3⟩
theorem good_of {G : XG} (hg : gok G) {pl : Nat} {od : Nat → Int32} (ho : ordG G pl od) (C : XC) : goodC G (cP3 G (cP2 G od (cP1 G (0, C.2.1, C.2.2.1, C.2.2.2.1, -1) G.1) pl) G.1) := by
  have hn := hg.1
  have hpl := ho.1
  obtain ⟨h1, e1⟩ := CI_P1 hn (CI_0 C) G.1 (Nat.le_refl _)
  obtain ⟨h2, e2⟩ := CI_P2 hg (ordG_o ho) h1 pl (Nat.le_refl _)
  obtain ⟨h3, e3⟩ := CI_P3 hg h2 G.1 (Nat.le_refl _)
  refine ⟨?_, h3.1, ⟨pl, od, ho⟩, fun M => ?_⟩
  · have l1 := cP1_len G (0, C.2.1, C.2.2.1, C.2.2.2.1, -1) G.1
    have l2 := cP2_len hg (ordG_o ho) (cP1 G (0, C.2.1, C.2.2.1, C.2.2.2.1, -1) G.1) pl (Nat.le_refl _)
    have l3 := cP3_len G (cP2 G od (cP1 G (0, C.2.1, C.2.2.1, C.2.2.2.1, -1) G.1) pl) G.1
    dsimp only at l1
    omega
  · rw [e3, e2, e1]
    exact FR_k hg ho M.1
/-- the component's state: compiled and isSound, order, code, machine, samples -/
abbrev XS : Type := (Bool × Bool) × XO × XC × XM × Nat
def xfeed (G : XG) (x : Int32) (a b : XS) (r : Int32) : Prop :=
  b.1.1 = true ∧ cinv G b.1 b.2.2.1 ∧ ((r = 0 ∧ badG G ∧ b.2.2.2.1 = a.2.2.2.1 ∧ b.2.2.2.2 = a.2.2.2.2) ∨ (r = 1 ∧ (∃ pl od, ordG G pl od) ∧ FRc G (upd a.2.2.2.1.1 41 (sat64 x.toInt64).toInt32) b.2.2.2.1.1 ∧ b.2.2.2.2 = a.2.2.2.2 + 1))
def xstep (G : XG) (x : Int32) (a b : XS × Nat) : Prop := (xfeed G x a.1 b.1 0 ∧ b.2 = a.2) ∨ (xfeed G x a.1 b.1 1 ∧ b.2 = a.2 + 1)
end
section
/-! the component: orderNodes, compile, sound, feed, repeat -/
set_option maxRecDepth 100000
abbrev rmX0_orderNodes : Room := { frames := 1, cells := 0, slots := 0, locals := 24 }
theorem cw_X0_orderNodes {R : Room} {s : State} {args : Array Value} (hts : ∀ w ∈ lw_all, w.before args s = true) (hR : rmX0_orderNodes.frames + 1 ≤ R.frames ∧ 8 + (5 + 11) + rmX0_orderNodes.locals ≤ R.locals) : CallW R s args RX0 RX0 106 yX0_orderNodes cX0_orderNodes 5 (some .boolean) (ws_ yX0_orderNodes cX0_orderNodes 5 (some .boolean)) rmX0_orderNodes 0 0 0 := cwV 0 hts (lw_V q123 q125 qs2 q25 q126) rfl rfl rfl (by decide +kernel) hR
set_option maxHeartbeats 4000000 in
/-- orderNodes() -/
theorem metX0_orderNodes (l : Launch) {D : va_G} {h : Nat} {ad : Nat → Nat} {cd : Nat → ClassId} {G : XG} {F : Bool × Bool} {O : XO} {C : XC} {M : XM} {k : Nat} (sz : Nat) (hg : gok G) : MetI l yX0_orderNodes cX0_orderNodes 5 .boolean rmX0_orderNodes D vwCl (tX cd) (wX h ad cd G F O C M k) sz [.ref h] (fun r (u : XO) => u = ((oRd G (0, 0, O.2) G.1).2.1, (oRd G (0, 0, O.2) G.1).2.2) ∧ r = bI (decide ((oRd G (0, 0, O.2) G.1).2.1 + dlN G G.1 = G.1))) (fun u => wX h ad cd G F u C M k) := by
  refine zz_startI (own := RX0) (by decide) rfl (Nat.le_of_ble_eq_true rfl) ?_
  intro p e s m below meth c Q A ls args hx hb hr hml hown hts hlocks hA hK hP hD hS hl hQ
  have hl : lv_has ls 5 [(0, .ref h)] := hl
  have hn := hg.1
  have loop2 : ∀ (d r : Nat), r + d = G.1 → ∀ (T : OT) (H : Heap) (locs : List Loc) (ls : Array Slot), T = oRd G (0, 0, O.2) r → va_P D vwCl (wX h ad cd G F (T.2.1, T.2.2) C M k) H → va_D A (wX h ad cd G F (T.2.1, T.2.2) C M k) → va_S A s.heap H locs → lv_has ls 5 [(3, .int (nI r)), (2, .int (nI (dlN G G.1))), (1, .int T.1), (0, .ref h)] → W p l e rmX0_orderNodes s m args below meth c H locs 0 0 Q (F0 m 40 ls []) := by
    intro d
    induction d with
    | zero =>
      intro r hr0 T H locs ls hT hP hD hS hl
      obtain rfl : r = G.1 := by omega
      refine lv_iload_n hx hb dX0_orderNodes_40 rfl (lv_at hl 0 rfl) ?_
      refine lv_aload_n hx hb dX0_orderNodes_41 rfl (lv_at hl 3 rfl) ?_
      refine xg_0 hx hb hts hown hK hP dX0_orderNodes_42 ?_
      refine lv_icmp_ge (tgt := 140) hx hb dX0_orderNodes_45 (by decide) (fun c_45 => ?_) (fun c_45 => absurd (nI_le (by omega) (by omega)) c_45)
      refine lv_aload_n hx hb dX0_orderNodes_140 rfl (lv_at hl 3 rfl) ?_
      refine xg_9 hx hb hts hown hK hP dX0_orderNodes_141 ?_
      refine lv_iload_n hx hb dX0_orderNodes_144 rfl (lv_at hl 1 rfl) ?_
      refine lv_iadd hx hb dX0_orderNodes_145 ?_
      refine lv_aload_n hx hb dX0_orderNodes_146 rfl (lv_at hl 3 rfl) ?_
      refine xg_0 hx hb hts hown hK hP dX0_orderNodes_147 ?_
      refine lv_icmp_ne (tgt := 157) hx hb dX0_orderNodes_150 (by decide) (fun c_150 => ?_) (fun c_150 => ?_)
      · refine lv_iconst (v := 0) hx hb dX0_orderNodes_157 (by decide) ?_
        exact zz_zret hx hb hr hlocks hK hQ hS ((T.2.1, T.2.2)) hP hD dX0_orderNodes_158 (rfl) (⟨by rw [hT], by rw [hT] at c_150; rw [decide_eq_false (fun q => c_150 ((ord_eqI hg O.2).mpr q))]; rfl⟩)
      · refine lv_iconst (v := 1) hx hb dX0_orderNodes_153 (by decide) ?_
        refine lv_goto (tgt := 158) hx hb dX0_orderNodes_154 (by decide) ?_
        exact zz_zret hx hb hr hlocks hK hQ hS ((T.2.1, T.2.2)) hP hD dX0_orderNodes_158 (rfl) (⟨by rw [hT], by rw [hT] at c_150; rw [decide_eq_true ((ord_eqI hg O.2).mp c_150)]; rfl⟩)
    | succ d ih =>
      intro r hr0 T1 H locs ls hT1 hP hD hS hl
      have inner : ∀ (d2 i : Nat), i + d2 = G.1 → ∀ (T : OT) (H : Heap) (locs : List Loc) (ls : Array Slot), T = oSw G (oRd G (0, 0, O.2) r) i → va_P D vwCl (wX h ad cd G F (T.2.1, T.2.2) C M k) H → va_D A (wX h ad cd G F (T.2.1, T.2.2) C M k) → va_S A s.heap H locs → lv_has ls 5 [(4, .int (nI i)), (3, .int (nI r)), (2, .int (nI (dlN G G.1))), (1, .int T.1), (0, .ref h)] → W p l e rmX0_orderNodes s m args below meth c H locs 0 0 Q (F0 m 51 ls []) := by
        intro d2
        induction d2 with
        | zero =>
          intro i hi T H locs ls hT hP hD hS hl
          obtain rfl : i = G.1 := by omega
          refine lv_iload hx hb dX0_orderNodes_51 (lv_at hl 0 rfl) ?_
          refine lv_aload_n hx hb dX0_orderNodes_53 rfl (lv_at hl 4 rfl) ?_
          refine xg_0 hx hb hts hown hK hP dX0_orderNodes_54 ?_
          refine lv_icmp_ge (tgt := 134) hx hb dX0_orderNodes_57 (by decide) (fun c_57 => ?_) (fun c_57 => absurd (nI_le (by omega) (by omega)) c_57)
          refine lv_iinc (v := nI (r + 1)) (lv' := [(3, .int _), (4, .int _), (2, .int _), (1, .int _), (0, .ref _)]) hx hb dX0_orderNodes_134 hl (k := 1) rfl (nI_1 r) (by decide) rfl (fun ls hl => ?_)
          refine lv_goto (tgt := 40) hx hb dX0_orderNodes_137 (by decide) ?_
          exact ih (r + 1) (by omega) T H locs ls hT hP hD hS (lv_sub hl [0, 2, 3, 4] rfl)
        | succ d2 ih2 =>
          intro i hi T H locs ls hT hP hD hS hl
          obtain ⟨-, Tc, hTc6, hTc, -, -⟩ := hg.2 i (by omega)
          refine lv_iload hx hb dX0_orderNodes_51 (lv_at hl 0 rfl) ?_
          refine lv_aload_n hx hb dX0_orderNodes_53 rfl (lv_at hl 4 rfl) ?_
          refine xg_0 hx hb hts hown hK hP dX0_orderNodes_54 ?_
          refine lv_icmp_ge (tgt := 134) hx hb dX0_orderNodes_57 (by decide) (fun c_57 => absurd c_57 (nI_ge (by omega) (by omega))) (fun c_57 => ?_)
          refine lv_aload_n hx hb dX0_orderNodes_60 rfl (lv_at hl 4 rfl) ?_
          refine xg_1 hx hb hts hown hK hP dX0_orderNodes_61 ?_
          refine lv_iload hx hb dX0_orderNodes_64 (lv_at hl 0 rfl) ?_
          refine xl_1 hx hb hK hP i (by omega) rfl dX0_orderNodes_66 ?_
          refine lv_iconst (v := 2) hx hb dX0_orderNodes_67 (by decide) ?_
          refine lv_icmp_eq (tgt := 128) hx hb dX0_orderNodes_68 (by decide) (fun c_68 => ?_) (fun c_68 => ?_)
          · refine lv_iinc (v := nI (i + 1)) (lv' := [(4, .int _), (3, .int _), (2, .int _), (1, .int _), (0, .ref _)]) hx hb dX0_orderNodes_128 hl (k := 0) rfl (nI_1 i) (by decide) rfl (fun ls hl => ?_)
            refine lv_goto (tgt := 51) hx hb dX0_orderNodes_131 (by decide) ?_
            exact ih2 (i + 1) (by omega) T H locs ls (by show _ = oOne G i (oSw G (oRd G (0, 0, O.2) r) i); rw [← hT]; simp only [oOne, if_pos c_68]) hP hD hS (lv_sub hl [0, 1, 2, 3, 4] rfl)
          · refine lv_iload_n hx hb dX0_orderNodes_71 rfl (lv_at hl 3 rfl) ?_
            refine lv_iload hx hb dX0_orderNodes_72 (lv_at hl 0 rfl) ?_
            refine lv_ishr hx hb dX0_orderNodes_74 ?_
            refine lv_iconst (v := 1) hx hb dX0_orderNodes_75 (by decide) ?_
            refine lv_iand hx hb dX0_orderNodes_76 ?_
            refine lv_if_eq (tgt := 83) hx hb dX0_orderNodes_77 (by decide) (fun c_77 => ?_) (fun c_77 => ?_)
            · refine lv_aload_n hx hb dX0_orderNodes_83 rfl (lv_at hl 4 rfl) ?_
              refine lv_iload hx hb dX0_orderNodes_84 (lv_at hl 0 rfl) ?_
              refine zz_calli ⟨hx, hb, hml, hown, hts⟩ hK hP hD hS hA rfl rfl (metX0_namedBy l _ i Tc (by omega) hn hTc6 hTc) (cw_X0_namedBy hts ⟨Nat.le_of_ble_eq_true rfl, Nat.le_of_ble_eq_true rfl⟩) rfl hl.1 rfl (Nat.le_of_ble_eq_true rfl) dX0_orderNodes_86 ⟨Nat.zero_le _, Nat.zero_le _⟩ (fun r1 _ H locs hr1 hP hD hS => ?_)
              subst hr1
              refine lv_iload_n hx hb dX0_orderNodes_89 rfl (lv_at hl 3 rfl) ?_
              refine lv_iconst (v := (-1)) hx hb dX0_orderNodes_90 (by decide) ?_
              refine lv_ixor hx hb dX0_orderNodes_91 ?_
              refine lv_iand hx hb dX0_orderNodes_92 ?_
              refine lv_if_eq (tgt := 99) hx hb dX0_orderNodes_93 (by decide) (fun c_93 => ?_) (fun c_93 => ?_)
              · have hpl : T.2.1 < 20 := by rw [hT]; exact ord_pl hg O.2 r i (by omega) (by rw [← hT]; exact c_77)
                refine lv_iload_n hx hb dX0_orderNodes_99 rfl (lv_at hl 3 rfl) ?_
                refine lv_iconst (v := 1) hx hb dX0_orderNodes_100 (by decide) ?_
                refine lv_iload hx hb dX0_orderNodes_101 (lv_at hl 0 rfl) ?_
                refine lv_ishl hx hb dX0_orderNodes_103 ?_
                refine lv_ior hx hb dX0_orderNodes_104 ?_
                refine lv_istore_n (lv' := [(1, .int _), (4, .int _), (3, .int _), (2, .int _), (0, .ref _)]) hx hb dX0_orderNodes_105 rfl hl (by decide) rfl (fun ls hl => ?_)
                refine lv_aload_n hx hb dX0_orderNodes_106 rfl (lv_at hl 4 rfl) ?_
                refine xg_10 hx hb hts hown hK hP dX0_orderNodes_107 ?_
                refine lv_aload_n hx hb dX0_orderNodes_110 rfl (lv_at hl 4 rfl) ?_
                refine xg_9 hx hb hts hown hK hP dX0_orderNodes_111 ?_
                refine lv_iload hx hb dX0_orderNodes_114 (lv_at hl 1 rfl) ?_
                refine lv_i2b hx hb dX0_orderNodes_116 rfl ?_
                refine xs_10 hx hb hK hP hD hS T.2.1 hpl rfl (b8 (nI i)) (pk_vb _) dX0_orderNodes_117 (fun H locs hP hD hS => ?_)
                refine lv_aload_n hx hb dX0_orderNodes_118 rfl (lv_at hl 4 rfl) ?_
                refine lv_dup hx hb dX0_orderNodes_119 rfl ?_
                refine xg_9 hx hb hts hown hK hP dX0_orderNodes_120 ?_
                refine lv_iconst (v := 1) hx hb dX0_orderNodes_123 (by decide) ?_
                refine lv_iadd hx hb dX0_orderNodes_124 ?_
                refine xp_9 hx hb hts hown hK hP hD hS (T.2.1 + 1) (nI_1 _) dX0_orderNodes_125 (fun H locs hP hD hS => ?_)
                refine lv_iinc (v := nI (i + 1)) (lv' := [(4, .int _), (1, .int _), (3, .int _), (2, .int _), (0, .ref _)]) hx hb dX0_orderNodes_128 hl (k := 1) rfl (nI_1 i) (by decide) rfl (fun ls hl => ?_)
                refine lv_goto (tgt := 51) hx hb dX0_orderNodes_131 (by decide) ?_
                exact ih2 (i + 1) (by omega) (T.1 ||| ((1 : Int32) <<< (nI i &&& 31)), T.2.1 + 1, upd T.2.2 T.2.1 (b8 (nI i))) H locs ls (by show _ = oOne G i (oSw G (oRd G (0, 0, O.2) r) i); rw [← hT]; simp only [oOne, if_neg c_68, if_pos c_77, if_pos c_93]) hP hD hS (lv_sub hl [0, 2, 3, 1, 4] rfl)
              · refine lv_goto (tgt := 128) hx hb dX0_orderNodes_96 (by decide) ?_
                refine lv_iinc (v := nI (i + 1)) (lv' := [(4, .int _), (3, .int _), (2, .int _), (1, .int _), (0, .ref _)]) hx hb dX0_orderNodes_128 hl (k := 0) rfl (nI_1 i) (by decide) rfl (fun ls hl => ?_)
                refine lv_goto (tgt := 51) hx hb dX0_orderNodes_131 (by decide) ?_
                exact ih2 (i + 1) (by omega) T H locs ls (by show _ = oOne G i (oSw G (oRd G (0, 0, O.2) r) i); rw [← hT]; simp only [oOne, if_neg c_68, if_pos c_77, if_neg c_93]) hP hD hS (lv_sub hl [0, 1, 2, 3, 4] rfl)
            · refine lv_goto (tgt := 128) hx hb dX0_orderNodes_80 (by decide) ?_
              refine lv_iinc (v := nI (i + 1)) (lv' := [(4, .int _), (3, .int _), (2, .int _), (1, .int _), (0, .ref _)]) hx hb dX0_orderNodes_128 hl (k := 0) rfl (nI_1 i) (by decide) rfl (fun ls hl => ?_)
              refine lv_goto (tgt := 51) hx hb dX0_orderNodes_131 (by decide) ?_
              exact ih2 (i + 1) (by omega) T H locs ls (by show _ = oOne G i (oSw G (oRd G (0, 0, O.2) r) i); rw [← hT]; simp only [oOne, if_neg c_68, if_neg c_77]) hP hD hS (lv_sub hl [0, 1, 2, 3, 4] rfl)
      refine lv_iload_n hx hb dX0_orderNodes_40 rfl (lv_at hl 0 rfl) ?_
      refine lv_aload_n hx hb dX0_orderNodes_41 rfl (lv_at hl 3 rfl) ?_
      refine xg_0 hx hb hts hown hK hP dX0_orderNodes_42 ?_
      refine lv_icmp_ge (tgt := 140) hx hb dX0_orderNodes_45 (by decide) (fun c_45 => absurd c_45 (nI_ge (by omega) (by omega))) (fun c_45 => ?_)
      refine lv_iconst (v := 0) hx hb dX0_orderNodes_48 (by decide) ?_
      refine lv_istore (lv' := [(4, .int _), (3, .int _), (2, .int _), (1, .int _), (0, .ref _)]) hx hb dX0_orderNodes_49 hl (by decide) rfl (fun ls hl => ?_)
      exact inner G.1 0 (Nat.zero_add _) T1 H locs ls hT1 hP hD hS (lv_sub hl [0, 1, 2, 3, 4] rfl)
  have loop1 : ∀ (d i : Nat), i + d = G.1 → ∀ (H : Heap) (locs : List Loc) (ls : Array Slot), va_P D vwCl (wX h ad cd G F (0, O.2) C M k) H → va_D A (wX h ad cd G F (0, O.2) C M k) → va_S A s.heap H locs → lv_has ls 5 [(3, .int (nI i)), (2, .int (nI (dlN G i))), (1, .int 0), (0, .ref h)] → W p l e rmX0_orderNodes s m args below meth c H locs 0 0 Q (F0 m 11 ls []) := by
    intro d
    induction d with
    | zero =>
      intro i hi H locs ls hP hD hS hl
      obtain rfl : i = G.1 := by omega
      refine lv_iload_n hx hb dX0_orderNodes_11 rfl (lv_at hl 0 rfl) ?_
      refine lv_aload_n hx hb dX0_orderNodes_12 rfl (lv_at hl 3 rfl) ?_
      refine xg_0 hx hb hts hown hK hP dX0_orderNodes_13 ?_
      refine lv_icmp_ge (tgt := 38) hx hb dX0_orderNodes_16 (by decide) (fun c_16 => ?_) (fun c_16 => absurd (nI_le (by omega) (by omega)) c_16)
      refine lv_iconst (v := 0) hx hb dX0_orderNodes_38 (by decide) ?_
      refine lv_istore_n (lv' := [(3, .int _), (2, .int _), (1, .int _), (0, .ref _)]) hx hb dX0_orderNodes_39 rfl hl (by decide) rfl (fun ls hl => ?_)
      exact loop2 G.1 0 (Nat.zero_add _) (0, 0, O.2) H locs ls rfl hP hD hS (lv_sub hl [0, 1, 2, 3] rfl)
    | succ d ih =>
      intro i hi H locs ls hP hD hS hl
      refine lv_iload_n hx hb dX0_orderNodes_11 rfl (lv_at hl 0 rfl) ?_
      refine lv_aload_n hx hb dX0_orderNodes_12 rfl (lv_at hl 3 rfl) ?_
      refine xg_0 hx hb hts hown hK hP dX0_orderNodes_13 ?_
      refine lv_icmp_ge (tgt := 38) hx hb dX0_orderNodes_16 (by decide) (fun c_16 => absurd c_16 (nI_ge (by omega) (by omega))) (fun c_16 => ?_)
      refine lv_aload_n hx hb dX0_orderNodes_19 rfl (lv_at hl 3 rfl) ?_
      refine xg_1 hx hb hts hown hK hP dX0_orderNodes_20 ?_
      refine lv_iload_n hx hb dX0_orderNodes_23 rfl (lv_at hl 0 rfl) ?_
      refine xl_1 hx hb hK hP i (by omega) rfl dX0_orderNodes_24 ?_
      refine lv_iconst (v := 2) hx hb dX0_orderNodes_25 (by decide) ?_
      refine lv_icmp_ne (tgt := 32) hx hb dX0_orderNodes_26 (by decide) (fun c_26 => ?_) (fun c_26 => ?_)
      · refine lv_iinc (v := nI (i + 1)) (lv' := [(3, .int _), (2, .int _), (1, .int _), (0, .ref _)]) hx hb dX0_orderNodes_32 hl (k := 0) rfl (nI_1 i) (by decide) rfl (fun ls hl => ?_)
        refine lv_goto (tgt := 11) hx hb dX0_orderNodes_35 (by decide) ?_
        exact ih (i + 1) (by omega) H locs ls hP hD hS (by simp only [dlN, if_neg c_26]; exact (lv_sub hl [0, 1, 2, 3] rfl))
      · refine lv_iinc (v := nI (dlN G i + 1)) (lv' := [(2, .int _), (3, .int _), (1, .int _), (0, .ref _)]) hx hb dX0_orderNodes_29 hl (k := 1) rfl (nI_1 _) (by decide) rfl (fun ls hl => ?_)
        refine lv_iinc (v := nI (i + 1)) (lv' := [(3, .int _), (2, .int _), (1, .int _), (0, .ref _)]) hx hb dX0_orderNodes_32 hl (k := 1) rfl (nI_1 i) (by decide) rfl (fun ls hl => ?_)
        refine lv_goto (tgt := 11) hx hb dX0_orderNodes_35 (by decide) ?_
        exact ih (i + 1) (by omega) H locs ls hP hD hS (by simp only [dlN, if_pos c_26]; exact (lv_sub hl [0, 1, 2, 3] rfl))
  refine lv_aload_n hx hb dX0_orderNodes_0 rfl (lv_at hl 0 rfl) ?_
  refine lv_iconst (v := 0) hx hb dX0_orderNodes_1 (by decide) ?_
  refine xp_9 hx hb hts hown hK hP hD hS 0 rfl dX0_orderNodes_2 (fun H locs hP hD hS => ?_)
  refine lv_iconst (v := 0) hx hb dX0_orderNodes_5 (by decide) ?_
  refine lv_istore_n (lv' := [(1, .int _), (0, .ref _)]) hx hb dX0_orderNodes_6 rfl hl (by decide) rfl (fun ls hl => ?_)
  refine lv_iconst (v := 0) hx hb dX0_orderNodes_7 (by decide) ?_
  refine lv_istore_n (lv' := [(2, .int _), (1, .int _), (0, .ref _)]) hx hb dX0_orderNodes_8 rfl hl (by decide) rfl (fun ls hl => ?_)
  refine lv_iconst (v := 0) hx hb dX0_orderNodes_9 (by decide) ?_
  refine lv_istore_n (lv' := [(3, .int _), (2, .int _), (1, .int _), (0, .ref _)]) hx hb dX0_orderNodes_10 rfl hl (by decide) rfl (fun ls hl => ?_)
  exact loop1 G.1 0 (Nat.zero_add _) H locs ls hP hD hS (lv_sub hl [0, 1, 2, 3] rfl)
abbrev rmX0_compile : Room := { frames := 4, cells := 0, slots := 0, locals := 90 }
theorem cw_X0_compile {R : Room} {s : State} {args : Array Value} (hts : ∀ w ∈ lw_all, w.before args s = true) (hR : rmX0_compile.frames + 1 ≤ R.frames ∧ 8 + (3 + 11) + rmX0_compile.locals ≤ R.locals) : CallW R s args RX0 RX0 62 yX0_compile cX0_compile 3 none (ws_ yX0_compile cX0_compile 3 none) rmX0_compile 0 0 0 := cwV 0 hts (lw_V q119 q121 qs1 q25 q122) rfl rfl rfl (by decide +kernel) hR
set_option maxHeartbeats 4000000 in
/-- compile() -/
theorem metX0_compile (l : Launch) {D : va_G} {h : Nat} {ad : Nat → Nat} {cd : Nat → ClassId} {G : XG} {F : Bool × Bool} {O : XO} {C : XC} {M : XM} {k : Nat} (sz : Nat) (hg : gok G) (hci : cinv G F C) : MetV l yX0_compile cX0_compile 3 rmX0_compile D vwCl (tX cd) (wX h ad cd G F O C M k) sz [.ref h] (fun (u : (Bool × Bool) × XO × XC) => u.1.1 = true ∧ cinv G u.1 u.2.2) (fun u => wX h ad cd G u.1 u.2.1 u.2.2 M k) := by
  refine zz_startV (own := RX0) (by decide) rfl (Nat.le_of_ble_eq_true rfl) ?_
  intro p e s m below meth c Q A ls args hx hb hr hml hown hts hlocks hA hK hP hD hS hl hQ
  have hl : lv_has ls 3 [(0, .ref h)] := hl
  have hn := hg.1
  generalize hT : (oRd G (0, 0, O.2) G.1) = T
  have loop3 : ordG G T.2.1 T.2.2 → ∀ (d i : Nat), i + d = G.1 → ∀ (C1 : XC) (H : Heap) (locs : List Loc) (ls : Array Slot), C1 = cP3 G (cP2 G T.2.2 (cP1 G (0, C.2.1, C.2.2.1, C.2.2.2.1, -1) G.1) T.2.1) i → va_P D vwCl (wX h ad cd G (true, true) (T.2.1, T.2.2) C1 M k) H → va_D A (wX h ad cd G (true, true) (T.2.1, T.2.2) C1 M k) → va_S A s.heap H locs → lv_has ls 3 [(1, .int (nI i)), (0, .ref h)] → W p l e rmX0_compile s m args below meth c H locs 0 0 Q (F0 m 102 ls []) := by
    intro ho d
    induction d with
    | zero =>
      intro i hi C1 H locs ls hC1 hP hD hS hl
      obtain rfl : i = G.1 := by omega
      refine lv_iload_n hx hb dX0_compile_102 rfl (lv_at hl 0 rfl) ?_
      refine lv_aload_n hx hb dX0_compile_103 rfl (lv_at hl 1 rfl) ?_
      refine xg_0 hx hb hts hown hK hP dX0_compile_104 ?_
      refine lv_icmp_ge (tgt := 146) hx hb dX0_compile_107 (by decide) (fun c_107 => ?_) (fun c_107 => absurd (nI_le (by omega) (by omega)) c_107)
      exact zz_vret hx hb hr hlocks hK hQ hS (((true, true), (T.2.1, T.2.2), C1)) hP hD dX0_compile_146 (⟨rfl, fun _ => ⟨fun _ => by rw [hC1]; exact good_of hg ho C, fun q => absurd (show true = false from q) (by decide)⟩⟩)
    | succ d ih =>
      intro i hi C1 H locs ls hC1 hP hD hS hl
      have hlen : C1.1 + 2 ≤ 300 := by
        have a1 := cP1_len G (0, C.2.1, C.2.2.1, C.2.2.2.1, -1) G.1
        have a2 := cP2_len hg (ordG_o ho) (cP1 G (0, C.2.1, C.2.2.1, C.2.2.2.1, -1) G.1) T.2.1 (Nat.le_refl _)
        have a3 := cP3_len G (cP2 G T.2.2 (cP1 G (0, C.2.1, C.2.2.1, C.2.2.2.1, -1) G.1) T.2.1) i
        have a4 := ho.1
        dsimp only at a1
        rw [hC1]
        omega
      refine lv_iload_n hx hb dX0_compile_102 rfl (lv_at hl 0 rfl) ?_
      refine lv_aload_n hx hb dX0_compile_103 rfl (lv_at hl 1 rfl) ?_
      refine xg_0 hx hb hts hown hK hP dX0_compile_104 ?_
      refine lv_icmp_ge (tgt := 146) hx hb dX0_compile_107 (by decide) (fun c_107 => absurd c_107 (nI_ge (by omega) (by omega))) (fun c_107 => ?_)
      refine lv_aload_n hx hb dX0_compile_110 rfl (lv_at hl 1 rfl) ?_
      refine lv_aload_n hx hb dX0_compile_111 rfl (lv_at hl 1 rfl) ?_
      refine xg_2 hx hb hts hown hK hP dX0_compile_112 ?_
      refine lv_iload_n hx hb dX0_compile_115 rfl (lv_at hl 0 rfl) ?_
      refine xl_2 hx hb hK hP i (by omega) rfl dX0_compile_116 ?_
      refine zz_calli ⟨hx, hb, hml, hown, hts⟩ hK hP hD hS hA rfl rfl (metX0_cellFor l _ _) (cw_X0_cellFor hts ⟨Nat.le_of_ble_eq_true rfl, Nat.le_of_ble_eq_true rfl⟩) rfl hl.1 rfl (Nat.le_of_ble_eq_true rfl) dX0_compile_117 ⟨Nat.zero_le _, Nat.zero_le _⟩ (fun r1 _ H locs hr1 hP hD hS => ?_)
      subst hr1
      refine lv_istore_n (lv' := [(2, .int _), (1, .int _), (0, .ref _)]) hx hb dX0_compile_120 rfl hl (by decide) rfl (fun ls hl => ?_)
      refine lv_aload_n hx hb dX0_compile_121 rfl (lv_at hl 2 rfl) ?_
      refine xg_1 hx hb hts hown hK hP dX0_compile_122 ?_
      refine lv_iload_n hx hb dX0_compile_125 rfl (lv_at hl 1 rfl) ?_
      refine xl_1 hx hb hK hP i (by omega) rfl dX0_compile_126 ?_
      refine lv_iconst (v := 2) hx hb dX0_compile_127 (by decide) ?_
      refine lv_icmp_ne (tgt := 140) hx hb dX0_compile_128 (by decide) (fun c_128 => ?_) (fun c_128 => ?_)
      · refine lv_iinc (v := nI (i + 1)) (lv' := [(1, .int _), (2, .int _), (0, .ref _)]) hx hb dX0_compile_140 hl (k := 1) rfl (nI_1 i) (by decide) rfl (fun ls hl => ?_)
        refine lv_goto (tgt := 102) hx hb dX0_compile_143 (by decide) ?_
        exact ih (i + 1) (by omega) C1 H locs ls (by rw [hC1]; simp only [cP3, if_neg c_128]) hP hD hS (lv_sub hl [0, 2] rfl)
      · refine lv_aload_n hx hb dX0_compile_131 rfl (lv_at hl 2 rfl) ?_
        refine lv_iload_n hx hb dX0_compile_132 rfl (lv_at hl 0 rfl) ?_
        refine lv_bipush (v := 20) hx hb dX0_compile_133 (by decide) ?_
        refine lv_iload_n hx hb dX0_compile_135 rfl (lv_at hl 1 rfl) ?_
        refine lv_iadd hx hb dX0_compile_136 ?_
        refine zz_callv ⟨hx, hb, hml, hown, hts⟩ hK hP hD hS hA rfl rfl (metX0_copy l _ _ _ hlen) (cw_X0_copy hts ⟨Nat.le_of_ble_eq_true rfl, Nat.le_of_ble_eq_true rfl⟩) rfl hl.1 rfl (Nat.le_of_ble_eq_true rfl) dX0_compile_137 ⟨Nat.zero_le _, Nat.zero_le _⟩ (fun C2 H locs hC2 hP hD hS => ?_)
        refine lv_iinc (v := nI (i + 1)) (lv' := [(1, .int _), (2, .int _), (0, .ref _)]) hx hb dX0_compile_140 hl (k := 1) rfl (nI_1 i) (by decide) rfl (fun ls hl => ?_)
        refine lv_goto (tgt := 102) hx hb dX0_compile_143 (by decide) ?_
        exact ih (i + 1) (by omega) C2 H locs ls (by rw [hC2, hC1]; simp only [cP3, if_pos c_128]) hP hD hS (lv_sub hl [0, 2] rfl)
  have loop2 : ordG G T.2.1 T.2.2 → ∀ (d q : Nat), q + d = T.2.1 → ∀ (C1 : XC) (H : Heap) (locs : List Loc) (ls : Array Slot), C1 = cP2 G T.2.2 (cP1 G (0, C.2.1, C.2.2.1, C.2.2.2.1, -1) G.1) q → va_P D vwCl (wX h ad cd G (true, true) (T.2.1, T.2.2) C1 M k) H → va_D A (wX h ad cd G (true, true) (T.2.1, T.2.2) C1 M k) → va_S A s.heap H locs → lv_has ls 3 [(1, .int (nI q)), (0, .ref h)] → W p l e rmX0_compile s m args below meth c H locs 0 0 Q (F0 m 76 ls []) := by
    intro ho d
    have hpl := ho.1
    induction d with
    | zero =>
      intro q hq C1 H locs ls hC1 hP hD hS hl
      obtain rfl : q = T.2.1 := by omega
      refine lv_iload_n hx hb dX0_compile_76 rfl (lv_at hl 0 rfl) ?_
      refine lv_aload_n hx hb dX0_compile_77 rfl (lv_at hl 1 rfl) ?_
      refine xg_9 hx hb hts hown hK hP dX0_compile_78 ?_
      refine lv_icmp_ge (tgt := 100) hx hb dX0_compile_81 (by decide) (fun c_81 => ?_) (fun c_81 => absurd (nI_le (by omega) (by omega)) c_81)
      refine lv_iconst (v := 0) hx hb dX0_compile_100 (by decide) ?_
      refine lv_istore_n (lv' := [(1, .int _), (0, .ref _)]) hx hb dX0_compile_101 rfl hl (by decide) rfl (fun ls hl => ?_)
      exact loop3 ho G.1 0 (Nat.zero_add _) C1 H locs ls hC1 hP hD hS (lv_sub hl [0, 1] rfl)
    | succ d ih =>
      intro q hq C1 H locs ls hC1 hP hD hS hl
      obtain ⟨i, hi, ei, hdi⟩ := ordG_o ho q (by omega)
      obtain ⟨-, Tc, hTc6, hTc, -, -⟩ := hg.2 i hi
      have hlen : C1.1 + 10 ≤ 300 := by
        have a1 := cP1_len G (0, C.2.1, C.2.2.1, C.2.2.2.1, -1) G.1
        have a2 := cP2_len hg (ordG_o ho) (cP1 G (0, C.2.1, C.2.2.1, C.2.2.2.1, -1) G.1) q (by omega)
        dsimp only at a1
        rw [hC1]
        omega
      refine lv_iload_n hx hb dX0_compile_76 rfl (lv_at hl 0 rfl) ?_
      refine lv_aload_n hx hb dX0_compile_77 rfl (lv_at hl 1 rfl) ?_
      refine xg_9 hx hb hts hown hK hP dX0_compile_78 ?_
      refine lv_icmp_ge (tgt := 100) hx hb dX0_compile_81 (by decide) (fun c_81 => absurd c_81 (nI_ge (by omega) (by omega))) (fun c_81 => ?_)
      refine lv_aload_n hx hb dX0_compile_84 rfl (lv_at hl 1 rfl) ?_
      refine lv_aload_n hx hb dX0_compile_85 rfl (lv_at hl 1 rfl) ?_
      refine xg_10 hx hb hts hown hK hP dX0_compile_86 ?_
      refine lv_iload_n hx hb dX0_compile_89 rfl (lv_at hl 0 rfl) ?_
      refine xl_10 hx hb hK hP q (by omega) rfl dX0_compile_90 ?_
      refine lv_topi (fun x_ ex_ => ?_)
      obtain rfl : x_ = nI i := ex_.trans ei
      refine zz_callv ⟨hx, hb, hml, hown, hts⟩ hK hP hD hS hA rfl rfl (metX0_compileNode l _ i Tc (by omega) hTc6 hTc hlen) (cw_X0_compileNode hts ⟨Nat.le_of_ble_eq_true rfl, Nat.le_of_ble_eq_true rfl⟩) rfl hl.1 rfl (Nat.le_of_ble_eq_true rfl) dX0_compile_91 ⟨Nat.zero_le _, Nat.zero_le _⟩ (fun C2 H locs hC2 hP hD hS => ?_)
      refine lv_iinc (v := nI (q + 1)) (lv' := [(1, .int _), (0, .ref _)]) hx hb dX0_compile_94 hl (k := 0) rfl (nI_1 q) (by decide) rfl (fun ls hl => ?_)
      refine lv_goto (tgt := 76) hx hb dX0_compile_97 (by decide) ?_
      exact ih (q + 1) (by omega) C2 H locs ls (by rw [hC2, hC1]; show _ = cNode G (T.2.2 q).toNatClampNeg _; rw [ei, nI_clamp (by omega)]) hP hD hS (lv_sub hl [0, 1] rfl)
  have loop1 : ordG G T.2.1 T.2.2 → ∀ (d i : Nat), i + d = G.1 → ∀ (C1 : XC) (H : Heap) (locs : List Loc) (ls : Array Slot), C1 = cP1 G (0, C.2.1, C.2.2.1, C.2.2.2.1, -1) i → va_P D vwCl (wX h ad cd G (true, true) (T.2.1, T.2.2) C1 M k) H → va_D A (wX h ad cd G (true, true) (T.2.1, T.2.2) C1 M k) → va_S A s.heap H locs → lv_has ls 3 [(1, .int (nI i)), (0, .ref h)] → W p l e rmX0_compile s m args below meth c H locs 0 0 Q (F0 m 41 ls []) := by
    intro ho d
    induction d with
    | zero =>
      intro i hi C1 H locs ls hC1 hP hD hS hl
      obtain rfl : i = G.1 := by omega
      refine lv_iload_n hx hb dX0_compile_41 rfl (lv_at hl 0 rfl) ?_
      refine lv_aload_n hx hb dX0_compile_42 rfl (lv_at hl 1 rfl) ?_
      refine xg_0 hx hb hts hown hK hP dX0_compile_43 ?_
      refine lv_icmp_ge (tgt := 74) hx hb dX0_compile_46 (by decide) (fun c_46 => ?_) (fun c_46 => absurd (nI_le (by omega) (by omega)) c_46)
      refine lv_iconst (v := 0) hx hb dX0_compile_74 (by decide) ?_
      refine lv_istore_n (lv' := [(1, .int _), (0, .ref _)]) hx hb dX0_compile_75 rfl hl (by decide) rfl (fun ls hl => ?_)
      exact loop2 ho T.2.1 0 (Nat.zero_add _) C1 H locs ls hC1 hP hD hS (lv_sub hl [0, 1] rfl)
    | succ d ih =>
      intro i hi C1 H locs ls hC1 hP hD hS hl
      have hlen : C1.1 + 2 ≤ 300 := by
        have a1 := cP1_len G (0, C.2.1, C.2.2.1, C.2.2.2.1, -1) i
        dsimp only at a1
        rw [hC1]
        omega
      refine lv_iload_n hx hb dX0_compile_41 rfl (lv_at hl 0 rfl) ?_
      refine lv_aload_n hx hb dX0_compile_42 rfl (lv_at hl 1 rfl) ?_
      refine xg_0 hx hb hts hown hK hP dX0_compile_43 ?_
      refine lv_icmp_ge (tgt := 74) hx hb dX0_compile_46 (by decide) (fun c_46 => absurd c_46 (nI_ge (by omega) (by omega))) (fun c_46 => ?_)
      refine lv_aload_n hx hb dX0_compile_49 rfl (lv_at hl 1 rfl) ?_
      refine xg_1 hx hb hts hown hK hP dX0_compile_50 ?_
      refine lv_iload_n hx hb dX0_compile_53 rfl (lv_at hl 0 rfl) ?_
      refine xl_1 hx hb hK hP i (by omega) rfl dX0_compile_54 ?_
      refine lv_iconst (v := 2) hx hb dX0_compile_55 (by decide) ?_
      refine lv_icmp_ne (tgt := 68) hx hb dX0_compile_56 (by decide) (fun c_56 => ?_) (fun c_56 => ?_)
      · refine lv_iinc (v := nI (i + 1)) (lv' := [(1, .int _), (0, .ref _)]) hx hb dX0_compile_68 hl (k := 0) rfl (nI_1 i) (by decide) rfl (fun ls hl => ?_)
        refine lv_goto (tgt := 41) hx hb dX0_compile_71 (by decide) ?_
        exact ih (i + 1) (by omega) C1 H locs ls (by rw [hC1]; simp only [cP1, if_neg c_56]) hP hD hS (lv_sub hl [0, 1] rfl)
      · refine lv_aload_n hx hb dX0_compile_59 rfl (lv_at hl 1 rfl) ?_
        refine lv_bipush (v := 20) hx hb dX0_compile_60 (by decide) ?_
        refine lv_iload_n hx hb dX0_compile_62 rfl (lv_at hl 0 rfl) ?_
        refine lv_iadd hx hb dX0_compile_63 ?_
        refine lv_iload_n hx hb dX0_compile_64 rfl (lv_at hl 0 rfl) ?_
        refine zz_callv ⟨hx, hb, hml, hown, hts⟩ hK hP hD hS hA rfl rfl (metX0_copy l _ _ _ hlen) (cw_X0_copy hts ⟨Nat.le_of_ble_eq_true rfl, Nat.le_of_ble_eq_true rfl⟩) rfl hl.1 rfl (Nat.le_of_ble_eq_true rfl) dX0_compile_65 ⟨Nat.zero_le _, Nat.zero_le _⟩ (fun C2 H locs hC2 hP hD hS => ?_)
        refine lv_iinc (v := nI (i + 1)) (lv' := [(1, .int _), (0, .ref _)]) hx hb dX0_compile_68 hl (k := 0) rfl (nI_1 i) (by decide) rfl (fun ls hl => ?_)
        refine lv_goto (tgt := 41) hx hb dX0_compile_71 (by decide) ?_
        exact ih (i + 1) (by omega) C2 H locs ls (by rw [hC2, hC1]; simp only [cP1, if_pos c_56]) hP hD hS (lv_sub hl [0, 1] rfl)
  refine lv_aload_n hx hb dX0_compile_0 rfl (lv_at hl 0 rfl) ?_
  refine xg_7 hx hb hts hown hK hP dX0_compile_1 ?_
  refine lv_if_eq (tgt := 8) hx hb dX0_compile_4 (by decide) (fun c_4 => ?_) (fun c_4 => ?_)
  · refine lv_aload_n hx hb dX0_compile_8 rfl (lv_at hl 0 rfl) ?_
    refine lv_iconst (v := 1) hx hb dX0_compile_9 (by decide) ?_
    refine xp_7 hx hb hts hown hK hP hD hS true rfl dX0_compile_10 (fun H locs hP hD hS => ?_)
    refine lv_aload_n hx hb dX0_compile_13 rfl (lv_at hl 0 rfl) ?_
    refine lv_iconst (v := 0) hx hb dX0_compile_14 (by decide) ?_
    refine xp_11 hx hb hts hown hK hP hD hS 0 rfl dX0_compile_15 (fun H locs hP hD hS => ?_)
    refine lv_aload_n hx hb dX0_compile_18 rfl (lv_at hl 0 rfl) ?_
    refine lv_iconst (v := (-1)) hx hb dX0_compile_19 (by decide) ?_
    refine xp_15 hx hb hts hown hK hP hD hS dX0_compile_20 (fun H locs hP hD hS => ?_)
    refine lv_aload_n hx hb dX0_compile_23 rfl (lv_at hl 0 rfl) ?_
    refine lv_aload_n hx hb dX0_compile_24 rfl (lv_at hl 0 rfl) ?_
    refine zz_calli ⟨hx, hb, hml, hown, hts⟩ hK hP hD hS hA rfl rfl (metX0_orderNodes l _ hg) (cw_X0_orderNodes hts ⟨Nat.le_of_ble_eq_true rfl, Nat.le_of_ble_eq_true rfl⟩) rfl hl.1 rfl (Nat.le_of_ble_eq_true rfl) dX0_compile_25 ⟨Nat.zero_le _, Nat.zero_le _⟩ (fun r1 O1 H locs hr1 hP hD hS => ?_)
    obtain ⟨hO1, hr1⟩ := hr1
    rw [hT] at hO1 hr1
    subst hO1
    refine xp_8 hx hb hts hown hK hP hD hS _ hr1 dX0_compile_28 (fun H locs hP hD hS => ?_)
    refine lv_aload_n hx hb dX0_compile_31 rfl (lv_at hl 0 rfl) ?_
    refine xg_8 hx hb hts hown hK hP dX0_compile_32 ?_
    refine lv_if_ne (tgt := 39) hx hb dX0_compile_35 (by decide) (fun c_35 => ?_) (fun c_35 => ?_)
    · refine lv_iconst (v := 0) hx hb dX0_compile_39 (by decide) ?_
      refine lv_istore_n (lv' := [(1, .int _), (0, .ref _)]) hx hb dX0_compile_40 rfl hl (by decide) rfl (fun ls hl => ?_)
      have heq : T.2.1 + dlN G G.1 = G.1 := by
        rcases Nat.decEq (T.2.1 + dlN G G.1) G.1 with q | q
        · exact absurd (bI_0.mpr (decide_eq_false q)) c_35
        · exact q
      have ho : ordG G T.2.1 T.2.2 := by have := ord_yes hg O.2 (by rw [hT]; exact heq); rw [hT] at this; exact this
      rw [decide_eq_true heq] at hP hD
      exact loop1 ho G.1 0 (Nat.zero_add _) (0, C.2.1, C.2.2.1, C.2.2.2.1, -1) H locs ls rfl hP hD hS (lv_sub hl [0, 1] rfl)
    · exact zz_vret hx hb hr hlocks hK hQ hS (((true, decide (T.2.1 + dlN G G.1 = G.1)), (T.2.1, T.2.2), (0, C.2.1, C.2.2.1, C.2.2.2.1, -1))) hP hD dX0_compile_38 (⟨rfl, fun _ => ⟨fun q => absurd (show true = false from (show decide (T.2.1 + dlN G G.1 = G.1) = true from q).symm.trans (bI_0.mp c_35)) (by decide), fun q => by
      refine ord_no hg O.2 ?_
      rw [hT]
      exact of_decide_eq_false q⟩⟩)
  · exact zz_vret hx hb hr hlocks hK hQ hS ((F, O, C)) hP hD dX0_compile_7 (⟨by cases e : F.1 with
    | true => rfl
    | false => rw [e] at c_4; exact absurd rfl c_4, hci⟩)
abbrev rmX0_sound : Room := { frames := 5, cells := 0, slots := 0, locals := 112 }
set_option maxHeartbeats 4000000 in
/-- sound() -/
theorem metX0_sound (l : Launch) {D : va_G} {h : Nat} {ad : Nat → Nat} {cd : Nat → ClassId} {G : XG} {F : Bool × Bool} {O : XO} {C : XC} {M : XM} {k : Nat} (sz : Nat) (hg : gok G) (hci : cinv G F C) : MetI l yX0_sound cX0_sound 1 .boolean rmX0_sound D vwCl (tX cd) (wX h ad cd G F O C M k) sz [.ref h] (fun r (u : (Bool × Bool) × XO × XC) => (u.1.1 = true ∧ cinv G u.1 u.2.2) ∧ r = bI u.1.2) (fun u => wX h ad cd G u.1 u.2.1 u.2.2 M k) := by
  refine zz_startI (own := RX0) (by decide) rfl (Nat.le_of_ble_eq_true rfl) ?_
  intro p e s m below meth c Q A ls args hx hb hr hml hown hts hlocks hA hK hP hD hS hl hQ
  have hl : lv_has ls 1 [(0, .ref h)] := hl
  refine lv_aload_n hx hb dX0_sound_0 rfl (lv_at hl 0 rfl) ?_
  refine zz_callv ⟨hx, hb, hml, hown, hts⟩ hK hP hD hS hA rfl rfl (metX0_compile l _ hg hci) (cw_X0_compile hts ⟨Nat.le_of_ble_eq_true rfl, Nat.le_of_ble_eq_true rfl⟩) rfl hl.1 rfl (Nat.le_of_ble_eq_true rfl) dX0_sound_1 ⟨Nat.zero_le _, Nat.zero_le _⟩ (fun u H locs hu hP hD hS => ?_)
  refine lv_aload_n hx hb dX0_sound_4 rfl (lv_at hl 0 rfl) ?_
  refine xg_8 hx hb hts hown hK hP dX0_sound_5 ?_
  exact zz_zret hx hb hr hlocks hK hQ hS (u) hP hD dX0_sound_8 (bI_nar _) (⟨hu, rfl⟩)
abbrev rmX0_feed : Room := { frames := 5, cells := 0, slots := 0, locals := 112 }
theorem cw_X0_feed {R : Room} {s : State} {args : Array Value} (hts : ∀ w ∈ lw_all, w.before args s = true) (hR : rmX0_feed.frames + 1 ≤ R.frames ∧ 8 + (3 + 11) + rmX0_feed.locals ≤ R.locals) : CallW R s args RX0 RX0 82 yX0_feed cX0_feed 3 (some .boolean) (ws_ yX0_feed cX0_feed 3 (some .boolean)) rmX0_feed 0 0 1 := cwV 1 hts (lw_V q190 q168 q169 q25 q170) rfl rfl rfl (by decide +kernel) hR
set_option maxHeartbeats 4000000 in
/-- feed(x) -/
theorem metX0_feed (l : Launch) {D : va_G} {h : Nat} {ad : Nat → Nat} {cd : Nat → ClassId} {G : XG} {F : Bool × Bool} {O : XO} {C : XC} {M : XM} {k : Nat} (sz : Nat) (x : Int32) (hg : gok G) (hci : cinv G F C) : MetI l yX0_feed cX0_feed 3 .boolean rmX0_feed D vwCl (tX cd) (wX h ad cd G F O C M k) sz [.ref h, .int x] (fun r (u : XS) => xfeed G x (F, O, C, M, k) u r) (fun u => wX h ad cd G u.1 u.2.1 u.2.2.1 u.2.2.2.1 u.2.2.2.2) := by
  refine zz_startI (own := RX0) (by decide) rfl (Nat.le_of_ble_eq_true rfl) ?_
  intro p e s m below meth c Q A ls args hx hb hr hml hown hts hlocks hA hK hP hD hS hl hQ
  have hl : lv_has ls 3 [(0, .ref h), (1, .int x)] := hl
  have loop : ∀ (F1 : Bool × Bool) (O1 : XO) (C1 : XC), F1.1 = true → cinv G F1 C1 → goodC G C1 → ∀ (d j : Nat), j + d = C1.1 → ∀ (M2 : XM) (H : Heap) (locs : List Loc) (ls : Array Slot), M2 = runC C1 (upd M.1 41 (sat64 x.toInt64).toInt32, M.2) j → va_P D vwCl (wX h ad cd G F1 O1 C1 M2 k) H → va_D A (wX h ad cd G F1 O1 C1 M2 k) → va_S A s.heap H locs → lv_has ls 3 [(2, .int (nI j)), (1, .int x), (0, .ref h)] → W p l e rmX0_feed s m args below meth c H locs 0 0 Q (F0 m 29 ls []) := by
    intro F1 O1 C1 hF1 hci1 hgc d
    have h300 := hgc.1
    induction d with
    | zero =>
      intro j hj M2 H locs ls hM2 hP hD hS hl
      obtain rfl : j = C1.1 := by omega
      refine lv_iload_n hx hb dX0_feed_29 rfl (lv_at hl 0 rfl) ?_
      refine lv_aload_n hx hb dX0_feed_30 rfl (lv_at hl 2 rfl) ?_
      refine xg_11 hx hb hts hown hK hP dX0_feed_31 ?_
      refine lv_icmp_ge (tgt := 48) hx hb dX0_feed_34 (by decide) (fun c_34 => ?_) (fun c_34 => absurd (nI_le (by omega) (by omega)) c_34)
      refine lv_aload_n hx hb dX0_feed_48 rfl (lv_at hl 2 rfl) ?_
      refine lv_dup hx hb dX0_feed_49 rfl ?_
      refine xg_18 hx hb hts hown hK hP dX0_feed_50 ?_
      refine lv_iconst (v := 1) hx hb dX0_feed_53 (by decide) ?_
      refine lv_iadd hx hb dX0_feed_54 ?_
      refine xp_18 hx hb hts hown hK hP hD hS (k + 1) (nI_1 k) dX0_feed_55 (fun H locs hP hD hS => ?_)
      refine lv_iconst (v := 1) hx hb dX0_feed_58 (by decide) ?_
      exact zz_zret hx hb hr hlocks hK hQ hS ((F1, O1, C1, M2, k + 1)) hP hD dX0_feed_59 (rfl) (⟨hF1, hci1, Or.inr ⟨rfl, hgc.2.2.1, by rw [hM2]; exact hgc.2.2.2 (upd M.1 41 (sat64 x.toInt64).toInt32, M.2), rfl⟩⟩)
    | succ d ih =>
      intro j hj M2 H locs ls hM2 hP hD hS hl
      obtain ⟨ix, hix, ecf⟩ := hgc.2.1 j (by omega)
      refine lv_iload_n hx hb dX0_feed_29 rfl (lv_at hl 0 rfl) ?_
      refine lv_aload_n hx hb dX0_feed_30 rfl (lv_at hl 2 rfl) ?_
      refine xg_11 hx hb hts hown hK hP dX0_feed_31 ?_
      refine lv_icmp_ge (tgt := 48) hx hb dX0_feed_34 (by decide) (fun c_34 => absurd c_34 (nI_ge (by omega) (by omega))) (fun c_34 => ?_)
      refine lv_aload_n hx hb dX0_feed_37 rfl (lv_at hl 2 rfl) ?_
      refine lv_iload_n hx hb dX0_feed_38 rfl (lv_at hl 0 rfl) ?_
      refine zz_callv ⟨hx, hb, hml, hown, hts⟩ hK hP hD hS hA rfl rfl (metX0_perform l _ j ix (by omega) hix ecf) (cw_X0_perform hts ⟨Nat.le_of_ble_eq_true rfl, Nat.le_of_ble_eq_true rfl⟩) rfl hl.1 rfl (Nat.le_of_ble_eq_true rfl) dX0_feed_39 ⟨Nat.zero_le _, Nat.zero_le _⟩ (fun M3 H locs hM3 hP hD hS => ?_)
      refine lv_iinc (v := nI (j + 1)) (lv' := [(2, .int _), (1, .int _), (0, .ref _)]) hx hb dX0_feed_42 hl (k := 0) rfl (nI_1 j) (by decide) rfl (fun ls hl => ?_)
      refine lv_goto (tgt := 29) hx hb dX0_feed_45 (by decide) ?_
      exact ih (j + 1) (by omega) M3 H locs ls (by rw [hM3, hM2]; show _ = pfo (C1.2.1 j) (C1.2.2.2.1 j).toNatClampNeg (C1.2.2.1 j) _; rw [ecf, nI_clamp (by omega)]) hP hD hS (lv_sub hl [0, 1, 2] rfl)
  refine lv_aload_n hx hb dX0_feed_0 rfl (lv_at hl 0 rfl) ?_
  refine zz_callv ⟨hx, hb, hml, hown, hts⟩ hK hP hD hS hA rfl rfl (metX0_compile l _ hg hci) (cw_X0_compile hts ⟨Nat.le_of_ble_eq_true rfl, Nat.le_of_ble_eq_true rfl⟩) rfl hl.1 rfl (Nat.le_of_ble_eq_true rfl) dX0_feed_1 ⟨Nat.zero_le _, Nat.zero_le _⟩ (fun u H locs hu hP hD hS => ?_)
  refine lv_aload_n hx hb dX0_feed_4 rfl (lv_at hl 0 rfl) ?_
  refine xg_8 hx hb hts hown hK hP dX0_feed_5 ?_
  refine lv_if_ne (tgt := 13) hx hb dX0_feed_8 (by decide) (fun c_8 => ?_) (fun c_8 => ?_)
  · refine lv_aload_n hx hb dX0_feed_13 rfl (lv_at hl 0 rfl) ?_
    refine xg_16 hx hb hts hown hK hP dX0_feed_14 ?_
    refine lv_bipush (v := 41) hx hb dX0_feed_17 (by decide) ?_
    refine lv_aload_n hx hb dX0_feed_19 rfl (lv_at hl 0 rfl) ?_
    refine lv_iload_n hx hb dX0_feed_20 rfl (lv_at hl 1 rfl) ?_
    refine lv_i2l hx hb dX0_feed_21 rfl ?_
    refine zz_calll ⟨hx, hb, hml, hown, hts⟩ hK hP hD hS hA rfl rfl (metX0_saturated l _ _) (cw_X0_saturated hts ⟨Nat.le_of_ble_eq_true rfl, Nat.le_of_ble_eq_true rfl⟩) rfl hl.1 rfl (Nat.le_of_ble_eq_true rfl) dX0_feed_22 ⟨Nat.zero_le _, Nat.zero_le _⟩ (fun r1 _ H locs hr1 hP hD hS => ?_)
    subst hr1
    refine lv_l2i hx hb dX0_feed_25 rfl ?_
    refine xs_16 hx hb hK hP hD hS 41 (by decide) rfl dX0_feed_26 (fun H locs hP hD hS => ?_)
    refine lv_iconst (v := 0) hx hb dX0_feed_27 (by decide) ?_
    refine lv_istore_n (lv' := [(2, .int _), (0, .ref _), (1, .int _)]) hx hb dX0_feed_28 rfl hl (by decide) rfl (fun ls hl => ?_)
    have hsd : u.1.2 = true := by
      cases e : u.1.2 with
      | true => rfl
      | false => exact absurd (bI_0.mpr e) c_8
    have hgc := (hu.2 hu.1).1 hsd
    exact loop u.1 u.2.1 u.2.2 hu.1 hu.2 hgc u.2.2.1 0 (Nat.zero_add _) _ H locs ls rfl hP hD hS (lv_sub hl [0, 2, 1] rfl)
  · refine lv_iconst (v := 0) hx hb dX0_feed_11 (by decide) ?_
    exact zz_zret hx hb hr hlocks hK hQ hS ((u.1, u.2.1, u.2.2, M, k)) hP hD dX0_feed_12 (rfl) (⟨hu.1, hu.2, Or.inl ⟨rfl, (hu.2 hu.1).2 (bI_0.mp c_8), rfl, rfl⟩⟩)
abbrev rmX0_repeat : Room := { frames := 6, cells := 0, slots := 0, locals := 134 }
set_option maxHeartbeats 4000000 in
/-- repeat(x, q) -/
theorem metX0_repeat (l : Launch) {D : va_G} {h : Nat} {ad : Nat → Nat} {cd : Nat → ClassId} {G : XG} {F : Bool × Bool} {O : XO} {C : XC} {M : XM} {k : Nat} (sz : Nat) (x q : Int32) (hg : gok G) (hci : cinv G F C) : MetI l yX0_repeat cX0_repeat 6 .int rmX0_repeat D vwCl (tX cd) (wX h ad cd G F O C M k) sz [.ref h, .int x, .int q] (fun r (u : XS) => cinv G u.1 u.2.2.1 ∧ ∃ f, r = nI f ∧ Chn (xstep G x) (wantN q) ((F, O, C, M, k), 0) (u, f)) (fun u => wX h ad cd G u.1 u.2.1 u.2.2.1 u.2.2.2.1 u.2.2.2.2) := by
  refine zz_startI (own := RX0) (by decide) rfl (Nat.le_of_ble_eq_true rfl) ?_
  intro p e s m below meth c Q A ls args hx hb hr hml hown hts hlocks hA hK hP hD hS hl hQ
  have hl : lv_has ls 6 [(0, .ref h), (1, .int x), (2, .int q)] := hl
  have hwn := wantN_le q
  have loop : ∀ (d j : Nat), j + d = wantN q → ∀ (u : XS) (f : Nat) (H : Heap) (locs : List Loc) (ls : Array Slot), cinv G u.1 u.2.2.1 → Chn (xstep G x) j ((F, O, C, M, k), 0) (u, f) → va_P D vwCl (wX h ad cd G u.1 u.2.1 u.2.2.1 u.2.2.2.1 u.2.2.2.2) H → va_D A (wX h ad cd G u.1 u.2.1 u.2.2.1 u.2.2.2.1 u.2.2.2.2) → va_S A s.heap H locs → lv_has ls 6 [(5, .int (nI j)), (4, .int (nI f)), (3, .int (nI (wantN q))), (1, .int x), (0, .ref h)] → W p l e rmX0_repeat s m args below meth c H locs 0 0 Q (F0 m 27 ls []) := by
    intro d
    induction d with
    | zero =>
      intro j hj u f H locs ls hcu hch hP hD hS hl
      obtain rfl : j = wantN q := by omega
      refine lv_iload hx hb dX0_repeat_27 (lv_at hl 0 rfl) ?_
      refine lv_iload_n hx hb dX0_repeat_29 rfl (lv_at hl 2 rfl) ?_
      refine lv_icmp_ge (tgt := 50) hx hb dX0_repeat_30 (by decide) (fun c_30 => ?_) (fun c_30 => absurd (nI_le (by omega) (by omega)) c_30)
      refine lv_iload hx hb dX0_repeat_50 (lv_at hl 1 rfl) ?_
      exact zz_iret hx hb hr hlocks hK hQ hS (u) hP hD dX0_repeat_52 (⟨hcu, f, rfl, hch⟩)
    | succ d ih =>
      intro j hj u f H locs ls hcu hch hP hD hS hl
      refine lv_iload hx hb dX0_repeat_27 (lv_at hl 0 rfl) ?_
      refine lv_iload_n hx hb dX0_repeat_29 rfl (lv_at hl 2 rfl) ?_
      refine lv_icmp_ge (tgt := 50) hx hb dX0_repeat_30 (by decide) (fun c_30 => absurd c_30 (nI_ge (by omega) (by omega))) (fun c_30 => ?_)
      refine lv_aload_n hx hb dX0_repeat_33 rfl (lv_at hl 4 rfl) ?_
      refine lv_iload_n hx hb dX0_repeat_34 rfl (lv_at hl 3 rfl) ?_
      refine zz_calli ⟨hx, hb, hml, hown, hts⟩ hK hP hD hS hA rfl rfl (metX0_feed l _ x hg hcu) (cw_X0_feed hts ⟨Nat.le_of_ble_eq_true rfl, Nat.le_of_ble_eq_true rfl⟩) rfl hl.1 rfl (Nat.le_of_ble_eq_true rfl) dX0_repeat_35 ⟨Nat.zero_le _, Nat.zero_le _⟩ (fun r1 u1 H locs hr1 hP hD hS => ?_)
      refine lv_if_eq (tgt := 44) hx hb dX0_repeat_38 (by decide) (fun c_38 => ?_) (fun c_38 => ?_)
      · refine lv_iinc (v := nI (j + 1)) (lv' := [(5, .int _), (4, .int _), (3, .int _), (1, .int _), (0, .ref _)]) hx hb dX0_repeat_44 hl (k := 0) rfl (nI_1 j) (by decide) rfl (fun ls hl => ?_)
        refine lv_goto (tgt := 27) hx hb dX0_repeat_47 (by decide) ?_
        exact ih (j + 1) (by omega) u1 f H locs ls hr1.2.1 ⟨_, hch, Or.inl ⟨c_38 ▸ hr1, rfl⟩⟩ hP hD hS (lv_sub hl [0, 1, 2, 3, 4] rfl)
      · refine lv_iinc (v := nI (f + 1)) (lv' := [(4, .int _), (5, .int _), (3, .int _), (1, .int _), (0, .ref _)]) hx hb dX0_repeat_41 hl (k := 1) rfl (nI_1 f) (by decide) rfl (fun ls hl => ?_)
        refine lv_iinc (v := nI (j + 1)) (lv' := [(5, .int _), (4, .int _), (3, .int _), (1, .int _), (0, .ref _)]) hx hb dX0_repeat_44 hl (k := 1) rfl (nI_1 j) (by decide) rfl (fun ls hl => ?_)
        refine lv_goto (tgt := 27) hx hb dX0_repeat_47 (by decide) ?_
        have hr2 : r1 = 1 := by
          rcases hr1.2.2 with q | q
          · exact absurd q.1 c_38
          · exact q.1
        exact ih (j + 1) (by omega) u1 (f + 1) H locs ls hr1.2.1 ⟨_, hch, Or.inr ⟨hr2 ▸ hr1, rfl⟩⟩ hP hD hS (lv_sub hl [0, 1, 2, 3, 4] rfl)
  have J20 : ∀ (v : Int32) (ls : Array Slot), v = nI (wantN q) → lv_has ls 6 [(0, .ref h), (1, .int x), (2, .int q)] → W p l e rmX0_repeat s m args below meth c s.heap [] 0 0 Q (F0 m 20 ls [.int v]) := by
    intro v ls hv hl
    subst hv
    refine lv_istore_n (lv' := [(3, .int _), (0, .ref _), (1, .int _), (2, .int _)]) hx hb dX0_repeat_20 rfl hl (by decide) rfl (fun ls hl => ?_)
    refine lv_iconst (v := 0) hx hb dX0_repeat_21 (by decide) ?_
    refine lv_istore (lv' := [(4, .int _), (3, .int _), (0, .ref _), (1, .int _), (2, .int _)]) hx hb dX0_repeat_22 hl (by decide) rfl (fun ls hl => ?_)
    refine lv_iconst (v := 0) hx hb dX0_repeat_24 (by decide) ?_
    refine lv_istore (lv' := [(5, .int _), (4, .int _), (3, .int _), (0, .ref _), (1, .int _), (2, .int _)]) hx hb dX0_repeat_25 hl (by decide) rfl (fun ls hl => ?_)
    exact loop (wantN q) 0 (Nat.zero_add _) (F, O, C, M, k) 0 s.heap [] ls hci rfl hP hD hS (lv_sub hl [0, 1, 2, 4, 3] rfl)
  refine lv_iload_n hx hb dX0_repeat_0 rfl (lv_at hl 2 rfl) ?_
  refine lv_if_ge (tgt := 8) hx hb dX0_repeat_1 (by decide) (fun c_1 => ?_) (fun c_1 => ?_)
  · refine lv_iload_n hx hb dX0_repeat_8 rfl (lv_at hl 2 rfl) ?_
    refine lv_bipush (v := 40) hx hb dX0_repeat_9 (by decide) ?_
    refine lv_icmp_le (tgt := 19) hx hb dX0_repeat_11 (by decide) (fun c_11 => ?_) (fun c_11 => ?_)
    · refine lv_iload_n hx hb dX0_repeat_19 rfl (lv_at hl 2 rfl) ?_
      exact J20 _ ls (wantN_a c_1 c_11) hl
    · refine lv_bipush (v := 40) hx hb dX0_repeat_14 (by decide) ?_
      refine lv_goto (tgt := 20) hx hb dX0_repeat_16 (by decide) ?_
      exact J20 _ ls (wantN_b c_1 c_11) hl
  · refine lv_iconst (v := 0) hx hb dX0_repeat_4 (by decide) ?_
    refine lv_goto (tgt := 20) hx hb dX0_repeat_5 (by decide) ?_
    exact J20 _ ls (wantN_c c_1) hl
end
section
/-! the model's closure: an order or a knot -/
set_option maxRecDepth 100000
theorem wsI_spec {q : Nat} (hq : q < 32) (nd : Nat → Int32) : ∀ m i, wsI q nd m i = if i < m ∧ bt (nd i) q = true then nd i ||| nd q else nd i := by
  intro m
  induction m with
  | zero => intro i; rw [if_neg (fun h => absurd h.1 (Nat.not_lt_zero i))]; rfl
  | succ m ih =>
    have hm : wsI q nd m m = nd m := by rw [ih, if_neg (fun h => absurd h.1 (Nat.lt_irrefl m))]
    have hqq : wsI q nd m q = nd q := by
      rw [ih]
      split
      · exact bt_self_or _
      · rfl
    intro i
    unfold wsI
    rw [hm, hqq]
    split
    · rename_i h
      have hb := (bitI_iff (nd m) hq).mp h
      by_cases e : i = m
      · subst e
        rw [pk_us, if_pos ⟨Nat.lt_succ_self i, hb⟩]
      · rw [pk_un e, ih]
        by_cases h2 : i < m ∧ bt (nd i) q = true
        · rw [if_pos h2, if_pos ⟨by omega, h2.2⟩]
        · rw [if_neg h2, if_neg (fun h3 => h2 ⟨by omega, h3.2⟩)]
    · rename_i h
      have hb : ¬ bt (nd m) q = true := fun h2 => h ((bitI_iff (nd m) hq).mpr h2)
      rw [ih]
      by_cases h2 : i < m ∧ bt (nd i) q = true
      · rw [if_pos h2, if_pos ⟨by omega, h2.2⟩]
      · rw [if_neg h2, if_neg (fun h3 => h2 ⟨by
          rcases Nat.lt_succ_iff_lt_or_eq.mp h3.1 with a | a
          · exact a
          · subst a; exact absurd h3.2 hb, h3.2⟩)]
theorem ndA_spec (G : XG) (nd : Nat → Int32) : ∀ m i, i < m → ndA G nd m i = nbM G i := by
  intro m
  induction m with
  | zero => intro i hi; omega
  | succ m ih =>
    intro i hi
    unfold ndA
    by_cases e : i = m
    · subst e; rw [pk_us]
    · rw [pk_un e]; exact ih i (by omega)
/-- a rank that falls from each node to those that it names -/
def rankG (G : XG) : Prop := ∃ rk : Nat → Nat, (∀ i, i < G.1 → rk i < 20) ∧ ∀ i j, i < G.1 → j < G.1 → nms G i j → rk j < rk i
theorem acy_yes {G : XG} (hg : gok G) (h : rankG G) (nd : Nat → Int32) : acy G (ndF G nd) := by
  have hn := hg.1
  obtain ⟨rk, -, hr⟩ := h
  have key : ∀ q, q ≤ G.1 → ∀ i j, i < G.1 → j < 32 → bt (wsO G.1 (ndA G nd G.1) q i) j = true → j < G.1 ∧ rk j < rk i := by
    intro q
    induction q with
    | zero =>
      intro _ i j hi hj hb
      change bt (ndA G nd G.1 i) j = true at hb
      rw [ndA_spec G nd G.1 i hi] at hb
      have := (nbM_bit hg hi hj).mp hb
      exact ⟨this.1, hr i j hi this.1 this.2⟩
    | succ q ih =>
      intro hq i j hi hj hb
      have ih := ih (by omega)
      change bt (wsI q (wsO G.1 (ndA G nd G.1) q) G.1 i) j = true at hb
      rw [wsI_spec (by omega)] at hb
      split at hb
      · rename_i h2
        rw [bt_or, Bool.or_eq_true] at hb
        rcases hb with h3 | h3
        · exact ih i j hi hj h3
        · have a1 := ih q j (by omega) hj h3
          have a2 := ih i q hi (by omega) h2.2
          exact ⟨a1.1, by omega⟩
      · exact ih i j hi hj hb
  intro i hi hb
  have := (key G.1 (Nat.le_refl _) i i hi (by omega) ((bitI_iff _ (by omega)).mp hb)).2
  omega
theorem acy_no {G : XG} (hg : gok G) (h : badG G) (nd : Nat → Int32) : ¬ acy G (ndF G nd) := by
  have hn := hg.1
  obtain ⟨S, ⟨i0, hi0⟩, hS⟩ := h
  have hlt : ∀ i, S i → i < G.1 := fun i hi => (hS i hi).1
  have key : ∀ q, q ≤ G.1 → (∃ i, i < G.1 ∧ bt (wsO G.1 (ndA G nd G.1) q i) i = true) ∨ ((∃ i, S i ∧ q ≤ i) ∧ ∀ i, S i → q ≤ i → ∃ j, S j ∧ q ≤ j ∧ bt (wsO G.1 (ndA G nd G.1) q i) j = true) := by
    intro q
    induction q with
    | zero =>
      intro _
      refine Or.inr ⟨⟨i0, hi0, Nat.zero_le _⟩, fun i hi _ => ?_⟩
      obtain ⟨h1, j, h2, h3⟩ := hS i hi
      refine ⟨j, h2, Nat.zero_le _, ?_⟩
      show bt (ndA G nd G.1 i) j = true
      rw [ndA_spec G nd G.1 i h1]
      exact (nbM_bit hg h1 (by have := hlt j h2; omega)).mpr ⟨hlt j h2, h3⟩
    | succ q ih =>
      intro hq
      have hsp : ∀ i, wsO G.1 (ndA G nd G.1) (q + 1) i = if i < G.1 ∧ bt (wsO G.1 (ndA G nd G.1) q i) q = true then wsO G.1 (ndA G nd G.1) q i ||| wsO G.1 (ndA G nd G.1) q q else wsO G.1 (ndA G nd G.1) q i := fun i => wsI_spec (by omega) _ _ _
      have mono : ∀ i j, bt (wsO G.1 (ndA G nd G.1) q i) j = true → bt (wsO G.1 (ndA G nd G.1) (q + 1) i) j = true := by
        intro i j hb
        rw [hsp]
        split
        · rw [bt_or, hb]; rfl
        · exact hb
      rcases ih (by omega) with ⟨i, a1, a2⟩ | ⟨⟨i, a1, a2⟩, a3⟩
      · exact Or.inl ⟨i, a1, mono i i a2⟩
      · rcases Classical.em (S q) with hSq | hSq
        · obtain ⟨j, b1, b2, b3⟩ := a3 q hSq (Nat.le_refl q)
          rcases Nat.lt_or_ge q j with hqj | hqj
          · refine Or.inr ⟨⟨j, b1, hqj⟩, fun i2 c1 c2 => ?_⟩
            obtain ⟨j2, d1, d2, d3⟩ := a3 i2 c1 (by omega)
            rcases Nat.lt_or_ge q j2 with hq2 | hq2
            · exact ⟨j2, d1, hq2, mono i2 j2 d3⟩
            · have e : j2 = q := by omega
              subst e
              refine ⟨j, b1, hqj, ?_⟩
              rw [hsp, if_pos ⟨hlt i2 c1, d3⟩, bt_or, b3, Bool.or_true]
          · have e : j = q := by omega
            subst e
            exact Or.inl ⟨j, hlt j hSq, mono j j b3⟩
        · have ne : ∀ j, S j → q ≤ j → q + 1 ≤ j := by
            intro j hj hqj
            rcases Nat.lt_or_ge q j with g | g
            · exact g
            · have e : j = q := by omega
              subst e; exact absurd hj hSq
          refine Or.inr ⟨⟨i, a1, ne i a1 a2⟩, fun i2 c1 c2 => ?_⟩
          obtain ⟨j2, d1, d2, d3⟩ := a3 i2 c1 (by omega)
          exact ⟨j2, d1, ne j2 d1 d2, mono i2 j2 d3⟩
  intro hac
  rcases key G.1 (Nat.le_refl _) with ⟨i, a1, a2⟩ | ⟨⟨i, a1, a2⟩, -⟩
  · exact hac i a1 ((bitI_iff _ (by omega)).mpr a2)
  · have := hlt i a1
    omega
noncomputable def rkO (pl : Nat) (od : Nat → Int32) (sh : Nat) (j : Nat) : Nat := @dite _ (∃ q, q < pl ∧ od q = nI j) (Classical.propDecidable _) (fun h => Classical.choose h + sh) (fun _ => 0)
theorem rk_at {pl : Nat} {od : Nat → Int32} {sh j q : Nat} (hi : ∀ q1 q2, q1 < pl → q2 < pl → od q1 = od q2 → q1 = q2) (hq : q < pl) (e : od q = nI j) : rkO pl od sh j = q + sh := by
  unfold rkO
  rw [dif_pos ⟨q, hq, e⟩]
  have h := Classical.choose_spec (⟨q, hq, e⟩ : ∃ q, q < pl ∧ od q = nI j)
  rw [hi _ q h.1 hq (h.2.trans e.symm)]
theorem rk_no {pl : Nat} {od : Nat → Int32} {sh j : Nat} (h : ¬ ∃ q, q < pl ∧ od q = nI j) : rkO pl od sh j = 0 := by
  unfold rkO
  rw [dif_neg h]
theorem dl_pos {G : XG} {i n : Nat} (hi : i < n) (hd : G.2.1 i = 2) : 0 < dlN G n := by
  induction n with
  | zero => omega
  | succ n ih =>
    unfold dlN
    by_cases e : i = n
    · subst e; rw [if_pos hd]; omega
    · have := ih (by omega)
      split <;> omega
theorem nms_nd {G : XG} (hg : gok G) {i j : Nat} (hi : i < G.1) (hd : G.2.1 i = 2) : ¬ nms G i j := by
  obtain ⟨-, T, hT6, hT, hT0, -⟩ := hg.2 i hi
  rintro (⟨h1, -⟩ | ⟨h1, -⟩ | ⟨t, ht, -⟩)
  · exact h1 (by rw [hd]; decide)
  · exact h1 (by rw [hd]; decide)
  · have e0 : T = 0 := hT0.resolve_left (by rw [hd]; decide)
    subst e0
    rw [hT, nI_clamp (by decide)] at ht
    omega
theorem rank_of {G : XG} (hg : gok G) {pl : Nat} {od : Nat → Int32} (ho : ordG G pl od) : rankG G := by
  have hn := hg.1
  obtain ⟨o0, o1, o2, o3⟩ := ho
  have hdel : ∀ j, j < G.1 → G.2.1 j = 2 → ¬ ∃ q, q < pl ∧ od q = nI j := by
    rintro j hj hd ⟨q, hq, e⟩
    obtain ⟨i, a1, a2, a3, -⟩ := o1 q hq
    have := (nI_eq (by omega) (by omega)).mp (a2.symm.trans e)
    subst this
    exact a3 hd
  refine ⟨rkO pl od (if dlN G G.1 = 0 then 0 else 1), fun i hi => ?_, fun i j hi hj hnm => ?_⟩
  · by_cases hd : G.2.1 i = 2
    · rw [rk_no (hdel i hi hd)]; omega
    · obtain ⟨q, hq, e⟩ := o2 i hi hd
      rw [rk_at o3 hq e]
      split <;> omega
  · have hdi : ¬ G.2.1 i = 2 := fun hd => nms_nd hg hi hd hnm
    obtain ⟨q, hq, e⟩ := o2 i hi hdi
    rw [rk_at o3 hq e]
    by_cases hdj : G.2.1 j = 2
    · rw [rk_no (hdel j hj hdj), if_neg (by have := dl_pos hj hdj; omega)]
      omega
    · obtain ⟨i2, a1, a2, a3, a4⟩ := o1 q hq
      have := (nI_eq (by omega) (by omega)).mp (a2.symm.trans e)
      subst this
      obtain ⟨q2, b1, b2⟩ := a4 j hj hdj hnm
      rw [rk_at o3 (show q2 < pl by omega) b2]
      omega
end
section
/-! sixteen bits: the component's long arithmetic and the model's int arithmetic agree -/
set_option maxRecDepth 100000
def in16 (x : Int32) : Prop := -32768 ≤ x.toInt ∧ x.toInt ≤ 32767
theorem satI_eq (v : Int64) : satI v = (sat64 v).toInt32 := by
  unfold satI sat64
  split
  · split
    · rfl
    · decide
  · decide
theorem toI32 {a : Int64} (h1 : -2147483648 ≤ a.toInt) (h2 : a.toInt ≤ 2147483647) : a.toInt32.toInt = a.toInt := by
  rw [Int64.toInt_toInt32]
  exact Int.bmod_eq_of_le (by omega) (by omega)
theorem satI_in (v : Int64) : in16 (satI v) := by
  obtain ⟨h1, h2⟩ := sat64_in v
  rw [satI_eq]
  unfold in16
  rw [toI32 (by omega) (by omega)]
  exact ⟨h1, h2⟩
theorem sat_in (v : Int64) : in16 (sat64 v).toInt32 := by rw [← satI_eq]; exact satI_in v
theorem in16_0 : in16 0 := by unfold in16; decide
theorem x_add {P Q : Int32} (hp : in16 P) (hq : in16 Q) : (P + Q).toInt64 = P.toInt64 + Q.toInt64 := by
  unfold in16 at hp hq
  apply Int64.toInt_inj.mp
  rw [Int32.toInt_toInt64, Int64.toInt_add, Int32.toInt_add, Int32.toInt_toInt64, Int32.toInt_toInt64, Int.bmod_eq_of_le (by omega) (by omega), Int.bmod_eq_of_le (by omega) (by omega)]
theorem x_sub {P Q : Int32} (hp : in16 P) (hq : in16 Q) : (P - Q).toInt64 = P.toInt64 - Q.toInt64 := by
  unfold in16 at hp hq
  apply Int64.toInt_inj.mp
  rw [Int32.toInt_toInt64, Int64.toInt_sub, Int32.toInt_sub, Int32.toInt_toInt64, Int32.toInt_toInt64, Int.bmod_eq_of_le (by omega) (by omega), Int.bmod_eq_of_le (by omega) (by omega)]
theorem x_neg {P : Int32} (hp : in16 P) : (-P).toInt64 = -P.toInt64 := by
  unfold in16 at hp
  apply Int64.toInt_inj.mp
  rw [Int32.toInt_toInt64, Int64.toInt_neg, Int32.toInt_neg, Int32.toInt_toInt64, Int.bmod_eq_of_le (by omega) (by omega), Int.bmod_eq_of_le (by omega) (by omega)]
theorem x_ge0 (P : Int32) : 0 ≤ lg_cmp P.toInt64 0 ↔ 0 ≤ P := by
  rw [lg_cmp_ge, l_le, i_le, Int32.toInt_toInt64]
  rfl
theorem x_le (P Q : Int32) : lg_cmp Q.toInt64 P.toInt64 ≤ 0 ↔ Q ≤ P := by
  rw [lg_cmp_le, l_le, i_le, Int32.toInt_toInt64, Int32.toInt_toInt64]
theorem sh_amt64 : ∀ j : Fin 32, (((nI j.1).toInt64 &&& 63).toBitVec.smod 64).toNat = j.1 := by decide +kernel
theorem tp32 : ∀ s : Fin 8, (BitVec.twoPow 32 s.1).toInt = (2 : Int) ^ s.1 := by decide +kernel
theorem tp64 : ∀ s : Fin 8, (BitVec.twoPow 64 s.1).toInt = (2 : Int) ^ s.1 := by decide +kernel
theorem tpB : ∀ s : Fin 8, (1 : Int) ≤ 2 ^ s.1 ∧ (2 : Int) ^ s.1 ≤ 128 := by decide +kernel
theorem mul_b {p w : Int} (h1 : -32768 ≤ p) (h2 : p ≤ 32767) (w1 : 1 ≤ w) (w2 : w ≤ 128) : -4194304 ≤ p * w ∧ p * w ≤ 4194304 := by
  constructor
  · have a := Int.mul_le_mul_of_nonneg_right h1 (show 0 ≤ w by omega)
    omega
  · have a := Int.mul_le_mul_of_nonneg_right h2 (show 0 ≤ w by omega)
    omega
theorem x_shl {P : Int32} (hp : in16 P) {s : Nat} (hs : s < 8) : (P <<< (nI s &&& 31)).toInt64 = P.toInt64 <<< ((nI s).toInt64 &&& 63) := by
  unfold in16 at hp
  obtain ⟨w1, w2⟩ : (1 : Int) ≤ 2 ^ s ∧ (2 : Int) ^ s ≤ 128 := tpB ⟨s, hs⟩
  obtain ⟨b1, b2⟩ := mul_b hp.1 hp.2 w1 w2
  have e1 : (P <<< (nI s &&& 31)).toInt = P.toInt * 2 ^ s := by
    show (P.toBitVec <<< ((nI s &&& 31).toBitVec.smod 32).toNat).toInt = _
    rw [sh_amt ⟨s, by omega⟩, BitVec.shiftLeft_eq_mul_twoPow, BitVec.toInt_mul, tp32 ⟨s, hs⟩]
    exact Int.bmod_eq_of_le (by show -(((2 ^ 32 : Nat) : Int) / 2) ≤ P.toInt * 2 ^ s; omega) (by show P.toInt * 2 ^ s < (((2 ^ 32 : Nat) : Int) + 1) / 2; omega)
  have e2 : (P.toInt64 <<< ((nI s).toInt64 &&& 63)).toInt = P.toInt * 2 ^ s := by
    show (P.toInt64.toBitVec <<< (((nI s).toInt64 &&& 63).toBitVec.smod 64).toNat).toInt = _
    rw [sh_amt64 ⟨s, by omega⟩, BitVec.shiftLeft_eq_mul_twoPow, BitVec.toInt_mul, tp64 ⟨s, hs⟩]
    have e3 : P.toInt64.toBitVec.toInt = P.toInt := Int32.toInt_toInt64 P
    rw [e3]
    exact Int.bmod_eq_of_le (by show -(((2 ^ 64 : Nat) : Int) / 2) ≤ P.toInt * 2 ^ s; omega) (by show P.toInt * 2 ^ s < (((2 ^ 64 : Nat) : Int) + 1) / 2; omega)
  apply Int64.toInt_inj.mp
  rw [Int32.toInt_toInt64, e1, e2]
theorem x_shr (P : Int32) {s : Nat} (hs : s < 32) : P >>> (nI s &&& 31) = (P.toInt64 >>> ((nI s).toInt64 &&& 63)).toInt32 := by
  have e1 : (P >>> (nI s &&& 31)).toInt = P.toInt >>> s := pk_shr P _ s (sh_amt ⟨s, hs⟩)
  have e2 : (P.toInt64 >>> ((nI s).toInt64 &&& 63)).toInt = P.toInt >>> s := by
    show (P.toInt64.toBitVec.sshiftRight (((nI s).toInt64 &&& 63).toBitVec.smod 64).toNat).toInt = _
    rw [sh_amt64 ⟨s, hs⟩, BitVec.toInt_sshiftRight]
    have e3 : P.toInt64.toBitVec.toInt = P.toInt := Int32.toInt_toInt64 P
    rw [e3]
  have h1 := Int32.le_toInt P
  have h2 := Int32.toInt_lt P
  have h := shr_in (p := P.toInt) (k := s) (by omega) (by omega)
  apply Int32.toInt_inj.mp
  rw [e1, toI32 (by rw [e2]; exact h.1) (by rw [e2]; exact h.2), e2]
theorem shr_16 {p : Int} {k : Nat} (h1 : -32768 ≤ p) (h2 : p ≤ 32767) : -32768 ≤ p >>> k ∧ p >>> k ≤ 32767 := by
  rw [Int.shiftRight_eq_div_pow]
  have hp : (0 : Int) < ((2 ^ k : Nat) : Int) := by exact_mod_cast Nat.two_pow_pos k
  generalize ((2 ^ k : Nat) : Int) = w at hp
  constructor
  · apply Int.le_ediv_of_mul_le hp
    have : -32768 * w ≤ -32768 := by omega
    omega
  · rcases Int.lt_or_le p 0 with q | q
    · have := Int.ediv_neg_of_neg_of_pos q hp
      omega
    · exact Int.le_trans (Int.ediv_le_self w q) h2
theorem in16_shr {P : Int32} (hp : in16 P) {s : Nat} (hs : s < 32) : in16 (P >>> (nI s &&& 31)) := by
  have e1 : (P >>> (nI s &&& 31)).toInt = P.toInt >>> s := pk_shr P _ s (sh_amt ⟨s, hs⟩)
  unfold in16
  rw [e1]
  exact shr_16 hp.1 hp.2
/-- what a name is worth: its node's cell, or the zero -/
theorem nwA_cix {G : XG} (hn : G.1 ≤ 20) {d : Nat → Int32} (h40 : d 40 = 0) {a : Nat} (ha : a < 20) : d (cix G (nI a)) = nwA G d (nI a) := by
  rw [cix_n hn (by omega)]
  unfold cx nwA
  rcases Nat.lt_or_ge a G.1 with q | q
  · rw [if_pos q, if_neg (nI_ge q (by omega)), nI_clamp (by omega)]
  · rw [if_neg (by omega), if_pos (nI_le q (by omega)), h40]
theorem nwA_16 {G : XG} (hn : G.1 ≤ 20) {d : Nat → Int32} {a : Nat} (ha : a < 20) (h : a < G.1 → in16 (d a)) : in16 (nwA G d (nI a)) := by
  unfold nwA
  rcases Nat.lt_or_ge a G.1 with q | q
  · rw [if_neg (nI_ge q (by omega)), nI_clamp (by omega)]; exact h q
  · rw [if_pos (nI_le q (by omega))]; exact in16_0
theorem nok_8 {G : XG} {i : Nat} (hg : gok G) (hi : i < G.1) (h : G.2.1 i = 8) : ∃ b, b < 8 ∧ G.2.2.2.1 i = nI b := by
  obtain ⟨hk, -⟩ := hg.2 i hi
  obtain ⟨p1, p2⟩ := hk.2.2.2.2.2.1 h
  obtain ⟨j, hj, e⟩ := nI_of2 (n := 7) (M := 7) (by decide) (i_ale p1) p2
  exact ⟨j, by omega, e⟩
theorem nok_9 {G : XG} {i : Nat} (hg : gok G) (hi : i < G.1) (h : G.2.1 i = 9) : ∃ b, b < 16 ∧ G.2.2.2.1 i = nI b := by
  obtain ⟨hk, -⟩ := hg.2 i hi
  obtain ⟨p1, p2⟩ := hk.2.2.2.2.2.2 h
  obtain ⟨j, hj, e⟩ := nI_of2 (n := 15) (M := 15) (by decide) (i_ale p1) p2
  exact ⟨j, by omega, e⟩
theorem kd_cases {k : Int32} (h0 : 0 ≤ k) (h10 : k ≤ 10) : k = 0 ∨ k = 1 ∨ k = 2 ∨ k = 3 ∨ k = 4 ∨ k = 5 ∨ k = 6 ∨ k = 7 ∨ k = 8 ∨ k = 9 ∨ k = 10 := by
  obtain ⟨j, hj, rfl⟩ := nI_of2 (n := 10) (M := 10) (by decide) (i_ale h0) h10
  have : ∀ j : Fin 11, nI j.1 = 0 ∨ nI j.1 = 1 ∨ nI j.1 = 2 ∨ nI j.1 = 3 ∨ nI j.1 = 4 ∨ nI j.1 = 5 ∨ nI j.1 = 6 ∨ nI j.1 = 7 ∨ nI j.1 = 8 ∨ nI j.1 = 9 ∨ nI j.1 = 10 := by decide +kernel
  exact this ⟨j, by omega⟩
section KD
variable {G : XG} {d bf : Nat → Int32} {k i : Nat} {x : Int32}
theorem wth_0 (h : G.2.1 i = 0) : wth G d bf k i x = satI x.toInt64 := by unfold wth; rw [if_pos h]
theorem wth_1 (h : G.2.1 i = 1) : wth G d bf k i x = G.2.2.1 i := by unfold wth; rw [if_neg (by rw [h]; decide), if_pos h]
theorem wth_10 (h : G.2.1 i = 10) : wth G d bf k i x = suM G d i := by unfold wth; rw [if_neg (by rw [h]; decide), if_neg (by rw [h]; decide), if_pos h]
theorem wth_2 (h : G.2.1 i = 2) : wth G d bf k i x = (if nI k = 0 then 0 else if G.2.2.1 i < nI G.1 then bf (G.2.2.1 i).toNatClampNeg else 0) := by unfold wth; rw [if_neg (by rw [h]; decide), if_neg (by rw [h]; decide), if_neg (by rw [h]; decide), if_pos h]
theorem wth_6 (h : G.2.1 i = 6) : wth G d bf k i x = satI (-(nwA G d (G.2.2.1 i))).toInt64 := by unfold wth; rw [if_neg (by rw [h]; decide), if_neg (by rw [h]; decide), if_neg (by rw [h]; decide), if_neg (by rw [h]; decide), if_pos h]
theorem wth_7 (h : G.2.1 i = 7) : wth G d bf k i x = (if 0 ≤ nwA G d (G.2.2.1 i) then satI (nwA G d (G.2.2.1 i)).toInt64 else satI (-(nwA G d (G.2.2.1 i))).toInt64) := by unfold wth; rw [if_neg (by rw [h]; decide), if_neg (by rw [h]; decide), if_neg (by rw [h]; decide), if_neg (by rw [h]; decide), if_neg (by rw [h]; decide), if_pos h]
theorem wth_8 (h : G.2.1 i = 8) : wth G d bf k i x = satI (nwA G d (G.2.2.1 i) <<< (G.2.2.2.1 i &&& 31)).toInt64 := by unfold wth; rw [if_neg (by rw [h]; decide), if_neg (by rw [h]; decide), if_neg (by rw [h]; decide), if_neg (by rw [h]; decide), if_neg (by rw [h]; decide), if_neg (by rw [h]; decide), if_pos h]
theorem wth_9 (h : G.2.1 i = 9) : wth G d bf k i x = nwA G d (G.2.2.1 i) >>> (G.2.2.2.1 i &&& 31) := by unfold wth; rw [if_neg (by rw [h]; decide), if_neg (by rw [h]; decide), if_neg (by rw [h]; decide), if_neg (by rw [h]; decide), if_neg (by rw [h]; decide), if_neg (by rw [h]; decide), if_neg (by rw [h]; decide), if_pos h]
theorem wth_3 (h : G.2.1 i = 3) : wth G d bf k i x = satI (nwA G d (G.2.2.1 i) + nwA G d (G.2.2.2.1 i)).toInt64 := by unfold wth; rw [if_neg (by rw [h]; decide), if_neg (by rw [h]; decide), if_neg (by rw [h]; decide), if_neg (by rw [h]; decide), if_neg (by rw [h]; decide), if_neg (by rw [h]; decide), if_neg (by rw [h]; decide), if_neg (by rw [h]; decide), if_pos h]
theorem wth_4 (h : G.2.1 i = 4) : wth G d bf k i x = satI (nwA G d (G.2.2.1 i) - nwA G d (G.2.2.2.1 i)).toInt64 := by unfold wth; rw [if_neg (by rw [h]; decide), if_neg (by rw [h]; decide), if_neg (by rw [h]; decide), if_neg (by rw [h]; decide), if_neg (by rw [h]; decide), if_neg (by rw [h]; decide), if_neg (by rw [h]; decide), if_neg (by rw [h]; decide), if_neg (by rw [h]; decide), if_pos h]
theorem wth_5 (h : G.2.1 i = 5) : wth G d bf k i x = (if nwA G d (G.2.2.1 i) ≤ nwA G d (G.2.2.2.1 i) then nwA G d (G.2.2.2.1 i) else nwA G d (G.2.2.1 i)) := by unfold wth; rw [if_neg (by rw [h]; decide), if_neg (by rw [h]; decide), if_neg (by rw [h]; decide), if_neg (by rw [h]; decide), if_neg (by rw [h]; decide), if_neg (by rw [h]; decide), if_neg (by rw [h]; decide), if_neg (by rw [h]; decide), if_neg (by rw [h]; decide), if_neg (by rw [h]; decide)]
theorem xv_0 (h : G.2.1 i = 0) : xv G d i = (d 41).toInt64 := by unfold xv; rw [if_pos h]
theorem xv_1 (h : G.2.1 i = 1) : xv G d i = (G.2.2.1 i).toInt64 := by unfold xv; rw [if_neg (by rw [h]; decide), if_pos h]
theorem xv_10 (h : G.2.1 i = 10) : xv G d i = sat64 ((xs G d i (G.2.2.2.2.1 i).toNatClampNeg + 16384) >>> ((15 : Int32).toInt64 &&& 63)) := by unfold xv; rw [if_neg (by rw [h]; decide), if_neg (by rw [h]; decide), if_pos h]
theorem xv_6 (h : G.2.1 i = 6) : xv G d i = sat64 (-(d (cix G (G.2.2.1 i))).toInt64) := by unfold xv xv1; rw [if_neg (by rw [h]; decide), if_neg (by rw [h]; decide), if_neg (by rw [h]; decide), if_pos (by rw [h]; decide), if_neg (by rw [h]; decide)]; rw [if_pos h]
theorem xv_7 (h : G.2.1 i = 7) : xv G d i = sat64 (if 0 ≤ lg_cmp (d (cix G (G.2.2.1 i))).toInt64 0 then (d (cix G (G.2.2.1 i))).toInt64 else -(d (cix G (G.2.2.1 i))).toInt64) := by unfold xv xv1; rw [if_neg (by rw [h]; decide), if_neg (by rw [h]; decide), if_neg (by rw [h]; decide), if_pos (by rw [h]; decide), if_neg (by rw [h]; decide)]; rw [if_neg (by rw [h]; decide), if_pos h]
theorem xv_8 (h : G.2.1 i = 8) : xv G d i = sat64 ((d (cix G (G.2.2.1 i))).toInt64 <<< ((G.2.2.2.1 i).toInt64 &&& 63)) := by unfold xv xv1; rw [if_neg (by rw [h]; decide), if_neg (by rw [h]; decide), if_neg (by rw [h]; decide), if_pos (by rw [h]; decide), if_neg (by rw [h]; decide)]; rw [if_neg (by rw [h]; decide), if_neg (by rw [h]; decide), if_pos h]
theorem xv_9 (h : G.2.1 i = 9) : xv G d i = (d (cix G (G.2.2.1 i))).toInt64 >>> ((G.2.2.2.1 i).toInt64 &&& 63) := by unfold xv xv1; rw [if_neg (by rw [h]; decide), if_neg (by rw [h]; decide), if_neg (by rw [h]; decide), if_pos (by rw [h]; decide), if_pos h]; rw [if_neg (by rw [h]; decide), if_neg (by rw [h]; decide), if_neg (by rw [h]; decide)]
theorem xv_3 (h : G.2.1 i = 3) : xv G d i = sat64 ((d (cix G (G.2.2.1 i))).toInt64 + (d (cix G (G.2.2.2.1 i))).toInt64) := by unfold xv xv2; rw [if_neg (by rw [h]; decide), if_neg (by rw [h]; decide), if_neg (by rw [h]; decide), if_neg (by rw [h]; decide), if_neg (by rw [h]; decide)]; rw [if_pos h]
theorem xv_4 (h : G.2.1 i = 4) : xv G d i = sat64 ((d (cix G (G.2.2.1 i))).toInt64 - (d (cix G (G.2.2.2.1 i))).toInt64) := by unfold xv xv2; rw [if_neg (by rw [h]; decide), if_neg (by rw [h]; decide), if_neg (by rw [h]; decide), if_neg (by rw [h]; decide), if_neg (by rw [h]; decide)]; rw [if_neg (by rw [h]; decide), if_pos h]
theorem xv_5 (h : G.2.1 i = 5) : xv G d i = (if lg_cmp (d (cix G (G.2.2.2.1 i))).toInt64 (d (cix G (G.2.2.1 i))).toInt64 ≤ 0 then (d (cix G (G.2.2.1 i))).toInt64 else (d (cix G (G.2.2.2.1 i))).toInt64) := by unfold xv xv2; rw [if_neg (by rw [h]; decide), if_neg (by rw [h]; decide), if_neg (by rw [h]; decide), if_neg (by rw [h]; decide), if_pos h]; rw [if_neg (by rw [h]; decide), if_neg (by rw [h]; decide)]
end KD
/-- the code's worth of a node is the model's, and stays in sixteen bits -/
theorem xv_wth {G : XG} (hg : gok G) {i : Nat} (hi : i < G.1) (hd : ¬ G.2.1 i = 2) {d bf : Nat → Int32} {k : Nat} {x : Int32} (h40 : d 40 = 0) (h41 : d 41 = (sat64 x.toInt64).toInt32) (h16 : ∀ j, j < G.1 → nms G i j → in16 (d j)) : (xv G d i).toInt32 = wth G d bf k i x ∧ in16 (xv G d i).toInt32 := by
  have hn := hg.1
  obtain ⟨hk, -⟩ := hg.2 i hi
  have hone : ¬ G.2.1 i < 3 → ¬ 9 < G.2.1 i → in16 (nwA G d (G.2.2.1 i)) ∧ d (cix G (G.2.2.1 i)) = nwA G d (G.2.2.1 i) := by
    intro h3 h9
    obtain ⟨a, ha, ea⟩ := nok_a3 hg hi h3 h9
    constructor
    · rw [ea]
      exact nwA_16 hn ha (fun q => h16 a q (Or.inl ⟨h3, h9, ea⟩))
    · rw [ea]; exact nwA_cix hn h40 ha
  have htwo : ¬ G.2.1 i < 3 → ¬ 5 < G.2.1 i → in16 (nwA G d (G.2.2.2.1 i)) ∧ d (cix G (G.2.2.2.1 i)) = nwA G d (G.2.2.2.1 i) := by
    intro h3 h5
    obtain ⟨b, hb, eb⟩ := nok_b hg hi h3 h5
    constructor
    · rw [eb]
      exact nwA_16 hn hb (fun q => h16 b q (Or.inr (Or.inl ⟨h3, h5, eb⟩)))
    · rw [eb]; exact nwA_cix hn h40 hb
  rcases kd_cases hk.1 hk.2.1 with c | c | c | c | c | c | c | c | c | c | c
  · rw [xv_0 c, wth_0 c, Int32.toInt32_toInt64, h41, ← satI_eq]
    exact ⟨rfl, satI_in _⟩
  · rw [xv_1 c, wth_1 c, Int32.toInt32_toInt64]
    have h := hk.2.2.1 c
    rw [i_le, i_le, i_m32768, i_32767] at h
    exact ⟨rfl, h⟩
  · exact absurd c hd
  · obtain ⟨hP, eP⟩ := hone (by rw [c]; decide) (by rw [c]; decide)
    obtain ⟨hQ, eQ⟩ := htwo (by rw [c]; decide) (by rw [c]; decide)
    refine ⟨?_, by rw [xv_3 c]; exact sat_in _⟩
    rw [xv_3 c, wth_3 c, eP, eQ, ← satI_eq, x_add hP hQ]
  · obtain ⟨hP, eP⟩ := hone (by rw [c]; decide) (by rw [c]; decide)
    obtain ⟨hQ, eQ⟩ := htwo (by rw [c]; decide) (by rw [c]; decide)
    refine ⟨?_, by rw [xv_4 c]; exact sat_in _⟩
    rw [xv_4 c, wth_4 c, eP, eQ, ← satI_eq, x_sub hP hQ]
  · obtain ⟨hP, eP⟩ := hone (by rw [c]; decide) (by rw [c]; decide)
    obtain ⟨hQ, eQ⟩ := htwo (by rw [c]; decide) (by rw [c]; decide)
    rw [xv_5 c, wth_5 c, eP, eQ]
    generalize nwA G d (G.2.2.1 i) = P at hP
    generalize nwA G d (G.2.2.2.1 i) = R at hQ
    by_cases h1 : R ≤ P
    · rw [if_pos ((x_le P R).mpr h1), Int32.toInt32_toInt64]
      by_cases h2 : P ≤ R
      · rw [if_pos h2]
        refine ⟨?_, hP⟩
        rw [i_eq]
        rw [i_le] at h1 h2
        omega
      · rw [if_neg h2]
        exact ⟨rfl, hP⟩
    · rw [if_neg (fun q => h1 ((x_le P R).mp q)), Int32.toInt32_toInt64]
      have h2 : P ≤ R := by rw [i_le] at h1 ⊢; omega
      rw [if_pos h2]
      exact ⟨rfl, hQ⟩
  · obtain ⟨hP, eP⟩ := hone (by rw [c]; decide) (by rw [c]; decide)
    refine ⟨?_, by rw [xv_6 c]; exact sat_in _⟩
    rw [xv_6 c, wth_6 c, eP, ← satI_eq, x_neg hP]
  · obtain ⟨hP, eP⟩ := hone (by rw [c]; decide) (by rw [c]; decide)
    refine ⟨?_, by rw [xv_7 c]; exact sat_in _⟩
    rw [xv_7 c, wth_7 c, eP, ← satI_eq]
    generalize nwA G d (G.2.2.1 i) = P at hP
    by_cases hp0 : 0 ≤ P
    · rw [if_pos hp0, if_pos ((x_ge0 P).mpr hp0)]
    · rw [if_neg hp0, if_neg (fun q => hp0 ((x_ge0 P).mp q)), x_neg hP]
  · obtain ⟨hP, eP⟩ := hone (by rw [c]; decide) (by rw [c]; decide)
    refine ⟨?_, by rw [xv_8 c]; exact sat_in _⟩
    obtain ⟨b, hb, eb⟩ := nok_8 hg hi c
    rw [xv_8 c, wth_8 c, eP, ← satI_eq, eb, x_shl hP hb]
  · obtain ⟨hP, eP⟩ := hone (by rw [c]; decide) (by rw [c]; decide)
    obtain ⟨b, hb, eb⟩ := nok_9 hg hi c
    rw [xv_9 c, wth_9 c, eP, eb, ← x_shr _ (by omega)]
    exact ⟨rfl, in16_shr hP (by omega)⟩
  · refine ⟨?_, by rw [xv_10 c]; exact sat_in _⟩
    rw [xv_10 c, wth_10 c, ← satI_eq]
    unfold suM
    have e : ∀ t, t ≤ (G.2.2.2.2.1 i).toNatClampNeg → xs G d i t + 16384 = smM G d i t := by
      intro t
      induction t with
      | zero => intro _; show (0 : Int32).toInt64 + 16384 = 16384; decide
      | succ t ih =>
        intro ht
        obtain ⟨a, ha, ea⟩ := tn_of hg hi (show t < _ by omega)
        show xs G d i t + (G.2.2.2.2.2.2 (6 * i + t)).toInt64 * (d (cix G (G.2.2.2.2.2.1 (6 * i + t)))).toInt64 + 16384 = smM G d i t + (G.2.2.2.2.2.2 (6 * i + t)).toInt64 * (nwA G d (G.2.2.2.2.2.1 (6 * i + t))).toInt64
        rw [← ih (by omega), ea, nwA_cix hn h40 ha]
        generalize xs G d i t = A
        generalize (G.2.2.2.2.2.2 (6 * i + t)).toInt64 * (nwA G d (nI a)).toInt64 = B
        rw [Int64.add_assoc, Int64.add_comm B, ← Int64.add_assoc]
    rw [e _ (Nat.le_refl _)]
/-- the model's worth of a node rests on the nodes that it names -/
theorem wth_congr {G : XG} (hg : gok G) {i : Nat} (hi : i < G.1) {d d' bf : Nat → Int32} {k : Nat} {x : Int32} (h : ∀ j, j < G.1 → nms G i j → d j = d' j) : wth G d bf k i x = wth G d' bf k i x := by
  have hn := hg.1
  obtain ⟨hk, -⟩ := hg.2 i hi
  have nwe : ∀ a, a < 20 → nms G i a → nwA G d (nI a) = nwA G d' (nI a) := by
    intro a ha hnm
    unfold nwA
    rcases Nat.lt_or_ge a G.1 with q | q
    · rw [if_neg (nI_ge q (by omega)), if_neg (nI_ge q (by omega)), nI_clamp (by omega)]; exact h a q hnm
    · rw [if_pos (nI_le q (by omega)), if_pos (nI_le q (by omega))]
  have hone : ¬ G.2.1 i < 3 → ¬ 9 < G.2.1 i → nwA G d (G.2.2.1 i) = nwA G d' (G.2.2.1 i) := by
    intro h3 h9
    obtain ⟨a, ha, ea⟩ := nok_a3 hg hi h3 h9
    rw [ea]; exact nwe a ha (Or.inl ⟨h3, h9, ea⟩)
  have htwo : ¬ G.2.1 i < 3 → ¬ 5 < G.2.1 i → nwA G d (G.2.2.2.1 i) = nwA G d' (G.2.2.2.1 i) := by
    intro h3 h5
    obtain ⟨b, hb, eb⟩ := nok_b hg hi h3 h5
    rw [eb]; exact nwe b hb (Or.inr (Or.inl ⟨h3, h5, eb⟩))
  rcases kd_cases hk.1 hk.2.1 with c | c | c | c | c | c | c | c | c | c | c
  · rw [wth_0 c, wth_0 c]
  · rw [wth_1 c, wth_1 c]
  · rw [wth_2 c, wth_2 c]
  · rw [wth_3 c, wth_3 c, hone (by rw [c]; decide) (by rw [c]; decide), htwo (by rw [c]; decide) (by rw [c]; decide)]
  · rw [wth_4 c, wth_4 c, hone (by rw [c]; decide) (by rw [c]; decide), htwo (by rw [c]; decide) (by rw [c]; decide)]
  · rw [wth_5 c, wth_5 c, hone (by rw [c]; decide) (by rw [c]; decide), htwo (by rw [c]; decide) (by rw [c]; decide)]
  · rw [wth_6 c, wth_6 c, hone (by rw [c]; decide) (by rw [c]; decide)]
  · rw [wth_7 c, wth_7 c, hone (by rw [c]; decide) (by rw [c]; decide)]
  · rw [wth_8 c, wth_8 c, hone (by rw [c]; decide) (by rw [c]; decide)]
  · rw [wth_9 c, wth_9 c, hone (by rw [c]; decide) (by rw [c]; decide)]
  · rw [wth_10 c, wth_10 c]
    unfold suM
    have e : ∀ t, t ≤ (G.2.2.2.2.1 i).toNatClampNeg → smM G d i t = smM G d' i t := by
      intro t
      induction t with
      | zero => intro _; rfl
      | succ t ih =>
        intro ht
        obtain ⟨a, ha, ea⟩ := tn_of hg hi (show t < _ by omega)
        unfold smM
        rw [ih (by omega), ea, nwe a ha (Or.inr (Or.inr ⟨t, by omega, ea⟩))]
    rw [e _ (Nat.le_refl _)]
/-- the model's rounds reach every solution of the nodes' equations -/
theorem rounds {G : XG} (hg : gok G) (hr : rankG G) {bf v : Nat → Int32} {k : Nat} {x : Int32} (hv : ∀ i, i < G.1 → v i = wth G v bf k i x) (nw : Nat → Int32) : (∀ i, i < G.1 → rdO G bf k x nw 20 i = v i) ∧ ∀ i, G.1 ≤ i → rdO G bf k x nw 20 i = nw i := by
  obtain ⟨rk, hr20, hrk⟩ := hr
  have inner : ∀ (r : Nat) (N : Nat → Int32), (∀ i, i < G.1 → rk i < r → N i = v i) → ∀ m, m ≤ G.1 → (∀ i, i < G.1 → rk i < r → rdI G bf k x N m i = v i) ∧ (∀ i, i < m → rk i < r + 1 → rdI G bf k x N m i = v i) ∧ ∀ i, G.1 ≤ i → rdI G bf k x N m i = N i := by
    intro r N hN m
    induction m with
    | zero => intro _; exact ⟨hN, fun i hi => absurd hi (Nat.not_lt_zero i), fun i _ => rfl⟩
    | succ m ih =>
      intro hm
      obtain ⟨a1, a2, a3⟩ := ih (by omega)
      have hnew : rk m < r + 1 → wth G (rdI G bf k x N m) bf k m x = v m := by
        intro h
        rw [hv m (by omega)]
        exact wth_congr hg (by omega) (fun j hj hnm => a1 j hj (by have := hrk m j (by omega) hj hnm; omega))
      have hup : ∀ i, rdI G bf k x N (m + 1) i = if i = m then wth G (rdI G bf k x N m) bf k m x else rdI G bf k x N m i := fun i => rfl
      refine ⟨fun i hi h => ?_, fun i hi h => ?_, fun i hi => ?_⟩
      · rw [hup]
        split
        · rename_i e; subst e; exact hnew (by omega)
        · exact a1 i hi h
      · rw [hup]
        split
        · rename_i e; subst e; exact hnew h
        · rename_i e; exact a2 i (by omega) h
      · rw [hup, if_neg (by omega)]
        exact a3 i hi
  have outer : ∀ r, (∀ i, i < G.1 → rk i < r → rdO G bf k x nw r i = v i) ∧ ∀ i, G.1 ≤ i → rdO G bf k x nw r i = nw i := by
    intro r
    induction r with
    | zero => exact ⟨fun i _ h => absurd h (Nat.not_lt_zero _), fun i _ => rfl⟩
    | succ r ih =>
      obtain ⟨-, b2, b3⟩ := inner r (rdO G bf k x nw r) ih.1 G.1 (Nat.le_refl _)
      exact ⟨fun i hi h => b2 i hi h, fun i hi => (b3 i hi).trans (ih.2 i hi)⟩
  exact ⟨fun i hi => (outer 20).1 i hi (hr20 i hi), (outer 20).2⟩
end
section
/-! the component's state and the model's, side by side -/
set_option maxRecDepth 100000
def RelG (A B : XG) : Prop := A.1 = B.1 ∧ ∀ i, i < B.1 → A.2.1 i = B.2.1 i ∧ A.2.2.1 i = B.2.2.1 i ∧ ((¬ B.2.1 i < 3 → ¬ 5 < B.2.1 i → A.2.2.2.1 i = B.2.2.2.1 i) ∧ (B.2.1 i = 8 → A.2.2.2.1 i = B.2.2.2.1 i) ∧ (B.2.1 i = 9 → A.2.2.2.1 i = B.2.2.2.1 i)) ∧ A.2.2.2.2.1 i = B.2.2.2.2.1 i ∧ ∀ t, t < (B.2.2.2.2.1 i).toNatClampNeg → A.2.2.2.2.2.1 (6 * i + t) = B.2.2.2.2.2.1 (6 * i + t) ∧ A.2.2.2.2.2.2 (6 * i + t) = B.2.2.2.2.2.2 (6 * i + t)
theorem nms_rel {A B : XG} (h : RelG A B) {i j : Nat} (hi : i < B.1) : nms A i j ↔ nms B i j := by
  obtain ⟨e1, e2, e3, e4, e5⟩ := h.2 i hi
  unfold nms
  rw [e1, e2, e4]
  constructor
  · rintro (q | ⟨q1, q2, q3⟩ | ⟨t, ht, q⟩)
    · exact Or.inl q
    · exact Or.inr (Or.inl ⟨q1, q2, by rw [← e3.1 q1 q2]; exact q3⟩)
    · exact Or.inr (Or.inr ⟨t, ht, by rw [← (e5 t ht).1]; exact q⟩)
  · rintro (q | ⟨q1, q2, q3⟩ | ⟨t, ht, q⟩)
    · exact Or.inl q
    · exact Or.inr (Or.inl ⟨q1, q2, by rw [e3.1 q1 q2]; exact q3⟩)
    · exact Or.inr (Or.inr ⟨t, ht, by rw [(e5 t ht).1]; exact q⟩)
theorem cix_rel {A B : XG} (h : RelG A B) (a : Int32) : cix A a = cix B a := by
  unfold cix cellF
  rw [h.1]
theorem xv_rel {A B : XG} (h : RelG A B) (hg : gok B) {i : Nat} (hi : i < B.1) (hd : ¬ B.2.1 i = 2) (d : Nat → Int32) : xv A d i = xv B d i := by
  obtain ⟨hk, -⟩ := hg.2 i hi
  obtain ⟨e1, e2, e3, e4, e5⟩ := h.2 i hi
  rcases kd_cases hk.1 hk.2.1 with c | c | c | c | c | c | c | c | c | c | c
  · rw [xv_0 (e1.trans c), xv_0 c]
  · rw [xv_1 (e1.trans c), xv_1 c, e2]
  · exact absurd c hd
  · rw [xv_3 (e1.trans c), xv_3 c, cix_rel h, cix_rel h, e2, e3.1 (by rw [c]; decide) (by rw [c]; decide)]
  · rw [xv_4 (e1.trans c), xv_4 c, cix_rel h, cix_rel h, e2, e3.1 (by rw [c]; decide) (by rw [c]; decide)]
  · rw [xv_5 (e1.trans c), xv_5 c, cix_rel h, cix_rel h, e2, e3.1 (by rw [c]; decide) (by rw [c]; decide)]
  · rw [xv_6 (e1.trans c), xv_6 c, cix_rel h, e2]
  · rw [xv_7 (e1.trans c), xv_7 c, cix_rel h, e2]
  · rw [xv_8 (e1.trans c), xv_8 c, cix_rel h, e2, e3.2.1 c]
  · rw [xv_9 (e1.trans c), xv_9 c, cix_rel h, e2, e3.2.2 c]
  · rw [xv_10 (e1.trans c), xv_10 c, e4]
    have e : ∀ t, t ≤ (B.2.2.2.2.1 i).toNatClampNeg → xs A d i t = xs B d i t := by
      intro t
      induction t with
      | zero => intro _; rfl
      | succ t ih =>
        intro ht
        unfold xs
        rw [ih (by omega), cix_rel h, (e5 t (by omega)).1, (e5 t (by omega)).2]
    rw [e _ (Nat.le_refl _)]
theorem FRc_rel {A B : XG} (h : RelG A B) (hg : gok B) {d d' : Nat → Int32} (hf : FRc A d d') : FRc B d d' := by
  obtain ⟨h1, h2, h3, h4, h5, h6⟩ := hf
  have hn := h.1
  refine ⟨h1, h2, fun i hi hd => h3 i (by omega) ((h.2 i hi).1.trans hd), fun i hi hd => ?_, fun i hi hd => ?_, fun i hi hi2 => h6 i (by omega) hi2⟩
  · rw [← xv_rel h hg hi hd]
    exact h4 i (by omega) (by rw [(h.2 i hi).1]; exact hd)
  · rw [← cix_rel h, ← (h.2 i hi).2.1]
    exact h5 i (by omega) ((h.2 i hi).1.trans hd)
theorem rank_rel {A B : XG} (h : RelG A B) (hr : rankG A) : rankG B := by
  obtain ⟨rk, h1, h2⟩ := hr
  have hn := h.1
  exact ⟨rk, fun i hi => h1 i (by omega), fun i j hi hj hnm => h2 i j (by omega) (by omega) ((nms_rel h hi).mpr hnm)⟩
theorem bad_rel {A B : XG} (h : RelG A B) (hb : badG A) : badG B := by
  obtain ⟨S, h1, h2⟩ := hb
  refine ⟨S, h1, fun i hi => ?_⟩
  obtain ⟨a1, j, a2, a3⟩ := h2 i hi
  rw [h.1] at a1
  exact ⟨a1, j, a2, (nms_rel h a1).mp a3⟩
/-- the cells and the model's values -/
def RelS (G : XG) (d nw : Nat → Int32) (k : Nat) : Prop := (∀ i, i < 20 → d i = nw i) ∧ (∀ i, i < 20 → in16 (nw i)) ∧ d 40 = 0 ∧ (∀ i, i < G.1 → G.2.1 i = 2 → d (20 + i) = nwA G nw (G.2.2.1 i)) ∧ (k = 0 → ∀ i, i < 20 → nw i = 0)
theorem cpF_spec (f g : Nat → Int32) : ∀ m i, i < m → cpF f g m i = f i := by
  intro m
  induction m with
  | zero => intro i hi; omega
  | succ m ih =>
    intro i hi
    unfold cpF
    by_cases e : i = m
    · subst e; rw [pk_us]
    · rw [pk_un e]; exact ih i (by omega)
theorem feed_rel {G : XG} (hg : gok G) (hr : rankG G) {c nw bf : Nat → Int32} {k : Nat} {x : Int32} (hk : k < 2 ^ 31) (h : RelS G c nw k) {c' : Nat → Int32} (hf : FRc G (upd c 41 (sat64 x.toInt64).toInt32) c') : RelS G c' (rdO G (cpF nw bf G.1) k x nw 20) (k + 1) := by
  have hn := hg.1
  obtain ⟨s1, s2, s3, s4, s5⟩ := h
  obtain ⟨f1, f2, f3, f4, f5, f6⟩ := hf
  have h40 : c' 40 = 0 := by rw [f1, pk_un (by decide)]; exact s3
  have h41 : c' 41 = (sat64 x.toInt64).toInt32 := by rw [f2, pk_us]
  have hdel : ∀ i, i < G.1 → G.2.1 i = 2 → c' i = nwA G nw (G.2.2.1 i) := by
    intro i hi hd
    rw [f3 i hi hd, pk_un (by omega)]
    exact s4 i hi hd
  have hfi : ∀ i, i < G.1 → G.2.1 i = 2 → ∃ a, a < 20 ∧ G.2.2.1 i = nI a := fun i hi hd => nok_a hg hi (by rw [hd]; decide) (by rw [hd]; decide)
  have h16 : ∀ i, i < G.1 → in16 (c' i) := by
    obtain ⟨rk, -, hrk⟩ := hr
    have key : ∀ (m i : Nat), rk i < m → i < G.1 → in16 (c' i) := by
      intro m
      induction m with
      | zero => intro i hm; omega
      | succ m ih =>
        intro i hm hi
        by_cases hd : G.2.1 i = 2
        · obtain ⟨a, ha, ea⟩ := hfi i hi hd
          rw [hdel i hi hd, ea]
          exact nwA_16 hn ha (fun q => s2 a ha)
        · rw [f4 i hi hd]
          exact (xv_wth hg hi hd (bf := bf) (k := k) h40 h41 (fun j hj hnm => ih j (by have := hrk i j hi hj hnm; omega) hj)).2
    exact fun i hi => key (rk i + 1) i (Nat.lt_succ_self _) hi
  have hv : ∀ i, i < G.1 → c' i = wth G c' (cpF nw bf G.1) k i x := by
    intro i hi
    by_cases hd : G.2.1 i = 2
    · obtain ⟨a, ha, ea⟩ := hfi i hi hd
      rw [hdel i hi hd, wth_2 hd, ea]
      unfold nwA
      by_cases hk0 : k = 0
      · rw [if_pos (show nI k = 0 by rw [hk0]; rfl), nI_clamp (by omega), s5 hk0 a ha]
        split <;> rfl
      · have hk1 : ¬ nI k = 0 := fun q => hk0 ((nI_eq hk (by decide)).mp (show nI k = nI 0 from q))
        rw [if_neg hk1, nI_clamp (by omega)]
        rcases Nat.lt_or_ge a G.1 with q | q
        · rw [if_neg (nI_ge q (by omega)), if_pos (nI_lt q (by omega)), cpF_spec nw bf G.1 a q]
        · rw [if_pos (nI_le q (by omega)), if_neg (nI_nlt q (by omega))]
    · rw [f4 i hi hd]
      exact (xv_wth hg hi hd h40 h41 (fun j hj _ => h16 j hj)).1
  obtain ⟨r1, r2⟩ := rounds hg hr hv nw
  have hall : ∀ i, i < 20 → c' i = rdO G (cpF nw bf G.1) k x nw 20 i := by
    intro i hi
    rcases Nat.lt_or_ge i G.1 with q | q
    · exact (r1 i q).symm
    · rw [r2 i q, f6 i q hi, pk_un (by omega)]
      exact s1 i hi
  refine ⟨hall, fun i hi => ?_, h40, fun i hi hd => ?_, fun q => absurd q (Nat.succ_ne_zero k)⟩
  · rcases Nat.lt_or_ge i G.1 with q | q
    · rw [r1 i q]; exact h16 i q
    · rw [r2 i q]; exact s2 i hi
  · obtain ⟨a, ha, ea⟩ := hfi i hi hd
    rw [f5 i hi hd, ea, nwA_cix hn h40 ha]
    unfold nwA
    split
    · rfl
    · rw [nI_clamp (by omega)]
      exact hall a ha
theorem zero_rel {G : XG} (hg : gok G) (d nw : Nat → Int32) : RelS G (zf d 42) (zf nw 20) 0 := by
  have hn := hg.1
  have z1 : ∀ i, i < 42 → zf d 42 i = 0 := fun i hi => if_pos hi
  have z2 : ∀ i, i < 20 → zf nw 20 i = 0 := fun i hi => if_pos hi
  refine ⟨fun i hi => by rw [z1 i (by omega), z2 i hi], fun i hi => by rw [z2 i hi]; exact in16_0, z1 40 (by omega), fun i hi hd => ?_, fun _ => z2⟩
  obtain ⟨a, ha, ea⟩ := nok_a hg hi (by rw [hd]; decide) (by rw [hd]; decide)
  rw [z1 _ (by omega), ea]
  unfold nwA
  split
  · rfl
  · rw [nI_clamp (by omega), z2 a ha]
/-- the law's invariant -/
def LI (GX : XG) (F : Bool × Bool) (C : XC) (M : XM) (GM : XG) (nw : Nat → Int32) (k : Nat) : Prop := RelG GX GM ∧ gok GX ∧ gok GM ∧ cinv GX F C ∧ RelS GM M.1 nw k
theorem b8_in {b : Int32} {n : Nat} (hn : n ≤ 100) (h1 : 0 ≤ b) (h2 : b ≤ nI n) : b8 b = b := by
  have h3 : ¬ b < 0 := i_ale h1
  obtain ⟨j, hj, rfl⟩ := nI_of2 (n := n) (M := nI n) (nI_toInt (by omega)) h3 h2
  exact b8_nI (by omega)
theorem nok_b8 {k a b : Int32} (h : nok k a b) : b8 k = k ∧ nok k a (b8 b) ∧ (¬ k < 3 → ¬ 5 < k → b8 b = b) ∧ (k = 8 → b8 b = b) ∧ (k = 9 → b8 b = b) := by
  have e0 : b8 k = k := b8_in (n := 10) (by omega) h.1 h.2.1
  have e1 : ¬ k < 3 → ¬ 5 < k → b8 b = b := fun h3 h5 => by
    obtain ⟨p, q⟩ := h.2.2.2.2.1 (i_nlt h3) (i_nlt h5)
    exact b8_in (n := 19) (by omega) p q
  have e2 : k = 8 → b8 b = b := fun h8 => by
    obtain ⟨p, q⟩ := h.2.2.2.2.2.1 h8
    exact b8_in (n := 7) (by omega) p q
  have e3 : k = 9 → b8 b = b := fun h9 => by
    obtain ⟨p, q⟩ := h.2.2.2.2.2.2 h9
    exact b8_in (n := 15) (by omega) p q
  refine ⟨e0, ⟨h.1, h.2.1, h.2.2.1, h.2.2.2.1, fun h3 h5 => ?_, fun h8 => ?_, fun h9 => ?_⟩, e1, e2, e3⟩
  · rw [e1 (i_ale h3) (i_ale h5)]; exact h.2.2.2.2.1 h3 h5
  · rw [e2 h8]; exact h.2.2.2.2.2.1 h8
  · rw [e3 h9]; exact h.2.2.2.2.2.2 h9
theorem gok_add {G : XG} (hg : gok G) (hn : G.1 < 20) {k a b : Int32} (h : nok k a b) : gok (gAdd G k a b) := by
  refine ⟨by show G.1 + 1 ≤ 20; omega, fun i hi => ?_⟩
  change i < G.1 + 1 at hi
  show nok (upd G.2.1 G.1 k i) (upd G.2.2.1 G.1 a i) (upd G.2.2.2.1 G.1 b i) ∧ ∃ T, T ≤ 6 ∧ upd G.2.2.2.2.1 G.1 0 i = nI T ∧ (upd G.2.1 G.1 k i = 10 ∨ T = 0) ∧ ∀ t, t < T → ∃ a, a < 20 ∧ G.2.2.2.2.2.1 (6 * i + t) = nI a
  by_cases e : i = G.1
  · subst e
    rw [pk_us, pk_us, pk_us, pk_us]
    exact ⟨h, 0, by omega, rfl, Or.inr rfl, fun t ht => absurd ht (Nat.not_lt_zero t)⟩
  · rw [pk_un e, pk_un e, pk_un e, pk_un e]
    exact hg.2 i (by omega)
theorem rel_add {A B : XG} (h : RelG A B) {k a b b' : Int32} (h1 : ¬ k < 3 → ¬ 5 < k → b' = b) (h2 : k = 8 → b' = b) (h3 : k = 9 → b' = b) : RelG (gAdd A k a b') (gAdd B k a b) := by
  refine ⟨by show A.1 + 1 = B.1 + 1; rw [h.1], fun i hi => ?_⟩
  change i < B.1 + 1 at hi
  show upd A.2.1 A.1 k i = upd B.2.1 B.1 k i ∧ upd A.2.2.1 A.1 a i = upd B.2.2.1 B.1 a i ∧ ((¬ upd B.2.1 B.1 k i < 3 → ¬ 5 < upd B.2.1 B.1 k i → upd A.2.2.2.1 A.1 b' i = upd B.2.2.2.1 B.1 b i) ∧ (upd B.2.1 B.1 k i = 8 → upd A.2.2.2.1 A.1 b' i = upd B.2.2.2.1 B.1 b i) ∧ (upd B.2.1 B.1 k i = 9 → upd A.2.2.2.1 A.1 b' i = upd B.2.2.2.1 B.1 b i)) ∧ upd A.2.2.2.2.1 A.1 0 i = upd B.2.2.2.2.1 B.1 0 i ∧ ∀ t, t < (upd B.2.2.2.2.1 B.1 0 i).toNatClampNeg → A.2.2.2.2.2.1 (6 * i + t) = B.2.2.2.2.2.1 (6 * i + t) ∧ A.2.2.2.2.2.2 (6 * i + t) = B.2.2.2.2.2.2 (6 * i + t)
  rw [h.1]
  by_cases e : i = B.1
  · subst e
    rw [pk_us, pk_us, pk_us, pk_us, pk_us, pk_us, pk_us, pk_us]
    exact ⟨rfl, rfl, ⟨h1, h2, h3⟩, rfl, fun t ht => absurd ht (Nat.not_lt_zero t)⟩
  · rw [pk_un e, pk_un e, pk_un e, pk_un e, pk_un e, pk_un e, pk_un e, pk_un e]
    exact h.2 i (by omega)
def ndX (G : XG) (F1 : Bool) (M : XM) (k : Nat) (kk aa bb r : Int32) (u : XG × Bool × XM × Nat) : Prop := (G.1 = 20 ∧ r = -2 ∧ u = (G, F1, M, k)) ∨ (G.1 < 20 ∧ ¬ nok kk aa bb ∧ r = -1 ∧ u = (G, F1, M, k)) ∨ (G.1 < 20 ∧ nok kk aa bb ∧ r = nI G.1 ∧ u = (gAdd G (b8 kk) aa (b8 bb), false, (zf M.1 42, M.2), 0))
def ndM (G : XG) (nw : Nat → Int32) (k : Nat) (kk aa bb r : Int32) (u : XG × (Nat → Int32) × Nat) : Prop := (G.1 = 20 ∧ r = -2 ∧ u = (G, nw, k)) ∨ (G.1 < 20 ∧ ¬ nok kk aa bb ∧ r = -1 ∧ u = (G, nw, k)) ∨ (G.1 < 20 ∧ nok kk aa bb ∧ r = nI G.1 ∧ u = (gAdd G kk aa bb, zf nw 20, 0))
theorem LI_node {GX : XG} {F : Bool × Bool} {C : XC} {M : XM} {GM : XG} {nw : Nat → Int32} {k : Nat} (h : LI GX F C M GM nw k) {kk aa bb r1 r2 : Int32} {u1 : XG × Bool × XM × Nat} {u2 : XG × (Nat → Int32) × Nat} (h1 : ndX GX F.1 M k kk aa bb r1 u1) (h2 : ndM GM nw k kk aa bb r2 u2) : r1 = r2 ∧ LI u1.1 (u1.2.1, F.2) C u1.2.2.1 u2.1 u2.2.1 u2.2.2 ∧ u1.2.2.2 = u2.2.2 ∧ u2.2.2 ≤ k := by
  obtain ⟨hR, hX, hM, hc, hS⟩ := h
  have hn := hR.1
  rcases h1 with ⟨a1, a2, a3⟩ | ⟨a1, a4, a2, a3⟩ | ⟨a1, a4, a2, a3⟩ <;> rcases h2 with ⟨b1, b2, b3⟩ | ⟨b1, b4, b2, b3⟩ | ⟨b1, b4, b2, b3⟩
  · subst a3; subst b3
    exact ⟨by rw [a2, b2], ⟨hR, hX, hM, hc, hS⟩, rfl, Nat.le_refl _⟩
  · omega
  · omega
  · omega
  · subst a3; subst b3
    exact ⟨by rw [a2, b2], ⟨hR, hX, hM, hc, hS⟩, rfl, Nat.le_refl _⟩
  · exact absurd b4 a4
  · omega
  · exact absurd a4 b4
  · subst a3; subst b3
    obtain ⟨e0, e1, e2, e3, e4⟩ := nok_b8 a4
    have hM2 := gok_add hM b1 b4
    refine ⟨by rw [a2, b2, hn], ⟨?_, ?_, hM2, fun q => absurd (show false = true from q) (by decide), zero_rel hM2 _ _⟩, rfl, Nat.zero_le _⟩
    · show RelG (gAdd GX (b8 kk) aa (b8 bb)) (gAdd GM kk aa bb)
      rw [e0]
      exact rel_add hR e2 e3 e4
    · show gok (gAdd GX (b8 kk) aa (b8 bb))
      rw [e0]
      exact gok_add hX a1 e1
theorem gok_tap {G : XG} (hg : gok G) {i T : Nat} (hi : i < G.1) (h10 : G.2.1 i = 10) (hT : G.2.2.2.2.1 i = nI T) (hT6 : T < 6) {a q : Int32} (ha : 0 ≤ a ∧ a ≤ 19) : gok (gTap G i T a q) := by
  have hn := hg.1
  refine ⟨hn, fun j hj => ?_⟩
  change j < G.1 at hj
  obtain ⟨hk, Tj, hTj, eTj, hTj0, htj⟩ := hg.2 j hj
  refine ⟨hk, ?_⟩
  show ∃ T', T' ≤ 6 ∧ upd G.2.2.2.2.1 i (nI (T + 1)) j = nI T' ∧ (G.2.1 j = 10 ∨ T' = 0) ∧ ∀ t, t < T' → ∃ a', a' < 20 ∧ upd G.2.2.2.2.2.1 (6 * i + T) a (6 * j + t) = nI a'
  obtain ⟨a0, ha0, ea0⟩ := nI_of2 (x := a) (n := 19) (M := 19) (by decide) (i_ale ha.1) ha.2
  by_cases e : j = i
  · subst e
    have eT : Tj = T := (nI_eq (by omega) (by omega)).mp (eTj.symm.trans hT)
    subst eT
    refine ⟨Tj + 1, by omega, pk_us, Or.inl h10, fun t ht => ?_⟩
    by_cases e2 : t = Tj
    · subst e2
      exact ⟨a0, by omega, by rw [pk_us]; exact ea0⟩
    · rw [pk_un (by omega)]
      exact htj t (by omega)
  · rw [pk_un e]
    refine ⟨Tj, hTj, eTj, hTj0, fun t ht => ?_⟩
    rw [pk_un (by omega)]
    exact htj t ht
theorem rel_tap {A B : XG} (h : RelG A B) (hg : gok B) {i T : Nat} (hi : i < B.1) (hT : B.2.2.2.2.1 i = nI T) (hT6 : T < 6) (a q : Int32) : RelG (gTap A i T a q) (gTap B i T a q) := by
  have hn := hg.1
  refine ⟨h.1, fun j hj => ?_⟩
  change j < B.1 at hj
  obtain ⟨e1, e2, e3, e4, e5⟩ := h.2 j hj
  obtain ⟨-, Tj, hTj, eTj, -, -⟩ := hg.2 j hj
  refine ⟨e1, e2, e3, ?_, ?_⟩
  · show upd A.2.2.2.2.1 i (nI (T + 1)) j = upd B.2.2.2.2.1 i (nI (T + 1)) j
    by_cases e : j = i
    · subst e; rw [pk_us, pk_us]
    · rw [pk_un e, pk_un e]; exact e4
  · show ∀ t, t < (upd B.2.2.2.2.1 i (nI (T + 1)) j).toNatClampNeg → upd A.2.2.2.2.2.1 (6 * i + T) a (6 * j + t) = upd B.2.2.2.2.2.1 (6 * i + T) a (6 * j + t) ∧ upd A.2.2.2.2.2.2 (6 * i + T) q (6 * j + t) = upd B.2.2.2.2.2.2 (6 * i + T) q (6 * j + t)
    intro t ht
    by_cases e : 6 * j + t = 6 * i + T
    · rw [e, pk_us, pk_us, pk_us, pk_us]
      exact ⟨rfl, rfl⟩
    · rw [pk_un e, pk_un e, pk_un e, pk_un e]
      refine e5 t ?_
      by_cases ej : j = i
      · subst ej
        rw [pk_us, nI_clamp (by omega)] at ht
        rw [hT, nI_clamp (by omega)]
        omega
      · rw [pk_un ej] at ht
        exact ht
def tpX (G : XG) (F1 : Bool) (M : XM) (k : Nat) (sm aa co r : Int32) (u : XG × Bool × XM × Nat) : Prop := (¬ tok G sm aa co ∧ r = -1 ∧ u = (G, F1, M, k)) ∨ ∃ i T, i < G.1 ∧ sm = nI i ∧ G.2.1 i = 10 ∧ tin aa co ∧ G.2.2.2.2.1 i = nI T ∧ T ≤ 6 ∧ ((T = 6 ∧ r = -2 ∧ u = (G, F1, M, k)) ∨ (T < 6 ∧ r = nI (T + 1) ∧ u = (gTap G i T (b8 aa) co, false, (zf M.1 42, M.2), 0)))
def tpM (G : XG) (nw : Nat → Int32) (k : Nat) (sm aa co r : Int32) (u : XG × (Nat → Int32) × Nat) : Prop := (¬ tok G sm aa co ∧ r = -1 ∧ u = (G, nw, k)) ∨ ∃ i T, i < G.1 ∧ sm = nI i ∧ G.2.1 i = 10 ∧ tin aa co ∧ G.2.2.2.2.1 i = nI T ∧ T ≤ 6 ∧ ((T = 6 ∧ r = -2 ∧ u = (G, nw, k)) ∨ (T < 6 ∧ r = nI (T + 1) ∧ u = (gTap G i T aa co, zf nw 20, 0)))
theorem LI_tap {GX : XG} {F : Bool × Bool} {C : XC} {M : XM} {GM : XG} {nw : Nat → Int32} {k : Nat} (h : LI GX F C M GM nw k) {sm aa co r1 r2 : Int32} {u1 : XG × Bool × XM × Nat} {u2 : XG × (Nat → Int32) × Nat} (h1 : tpX GX F.1 M k sm aa co r1 u1) (h2 : tpM GM nw k sm aa co r2 u2) : r1 = r2 ∧ LI u1.1 (u1.2.1, F.2) C u1.2.2.1 u2.1 u2.2.1 u2.2.2 ∧ u1.2.2.2 = u2.2.2 ∧ u2.2.2 ≤ k := by
  obtain ⟨hR, hX, hM, hc, hS⟩ := h
  have hn := hR.1
  have hMn := hM.1
  have htk : tok GX sm aa co ↔ tok GM sm aa co := by
    constructor
    · rintro ⟨i, q1, q2, q3, q4⟩
      exact ⟨i, by omega, q2, by rw [← (hR.2 i (by omega)).1]; exact q3, q4⟩
    · rintro ⟨i, q1, q2, q3, q4⟩
      exact ⟨i, by omega, q2, by rw [(hR.2 i (by omega)).1]; exact q3, q4⟩
  rcases h1 with ⟨a1, a2, a3⟩ | ⟨i, T, a1, a2, a3, a4, a5, a6, a7⟩ <;> rcases h2 with ⟨b1, b2, b3⟩ | ⟨i', T', b1, b2, b3, b4, b5, b6, b7⟩
  · subst a3; subst b3
    exact ⟨by rw [a2, b2], ⟨hR, hX, hM, hc, hS⟩, rfl, Nat.le_refl _⟩
  · exact absurd (htk.mpr ⟨i', b1, b2, b3, b4⟩) a1
  · exact absurd (htk.mp ⟨i, a1, a2, a3, a4⟩) b1
  · have ei : i = i' := (nI_eq (by omega) (by omega)).mp (a2.symm.trans b2)
    subst ei
    have eT : T = T' := (nI_eq (by omega) (by omega)).mp (by rw [← a5, ← b5]; exact (hR.2 i b1).2.2.2.1)
    subst eT
    rcases a7 with ⟨c1, c2, c3⟩ | ⟨c1, c2, c3⟩ <;> rcases b7 with ⟨d1, d2, d3⟩ | ⟨d1, d2, d3⟩
    · subst c3; subst d3
      exact ⟨by rw [c2, d2], ⟨hR, hX, hM, hc, hS⟩, rfl, Nat.le_refl _⟩
    · omega
    · omega
    · subst c3; subst d3
      have e8 : b8 aa = aa := b8_in (n := 19) (by omega) a4.1 a4.2.1
      have hM2 := gok_tap hM b1 b3 b5 d1 (q := co) ⟨a4.1, a4.2.1⟩
      refine ⟨by rw [c2, d2], ⟨?_, ?_, hM2, fun q => absurd (show false = true from q) (by decide), zero_rel hM2 _ _⟩, rfl, Nat.zero_le _⟩
      · show RelG (gTap GX i T (b8 aa) co) (gTap GM i T aa co)
        rw [e8]
        exact rel_tap hR hM b1 b5 d1 aa co
      · show gok (gTap GX i T (b8 aa) co)
        rw [e8]
        exact gok_tap hX a1 a3 a5 c1 ⟨a4.1, a4.2.1⟩
theorem LI_sound {GX : XG} {F : Bool × Bool} {C : XC} {M : XM} {GM : XG} {nw : Nat → Int32} {k : Nat} (h : LI GX F C M GM nw k) {F' : Bool × Bool} {C' : XC} {r1 r2 : Int32} {nd : Nat → Int32} (h1 : (F'.1 = true ∧ cinv GX F' C') ∧ r1 = bI F'.2) (h2 : (r2 = 1 ∧ acy GM (ndF GM nd)) ∨ (r2 = 0 ∧ ¬ acy GM (ndF GM nd))) : r1 = r2 ∧ LI GX F' C' M GM nw k := by
  obtain ⟨hR, hX, hM, hc, hS⟩ := h
  obtain ⟨⟨f1, f2⟩, f3⟩ := h1
  refine ⟨?_, hR, hX, hM, f2, hS⟩
  obtain ⟨g1, g2⟩ := f2 f1
  cases e : F'.2 with
  | true =>
    obtain ⟨-, -, ⟨pl, od, ho⟩, -⟩ := g1 e
    have hac := acy_yes hM (rank_rel hR (rank_of hX ho)) nd
    rcases h2 with ⟨q, -⟩ | ⟨-, q⟩
    · rw [f3, e, q]; rfl
    · exact absurd hac q
  | false =>
    have hac := acy_no hM (bad_rel hR (g2 e)) nd
    rcases h2 with ⟨-, q⟩ | ⟨q, -⟩
    · exact absurd q hac
    · rw [f3, e, q]; rfl
theorem LI_feed {GX : XG} {x : Int32} {a b : XS} {GM : XG} {a' b' : MS} {r1 r2 : Int32} (hk : a'.2.2.2 < 2 ^ 31) (hkk : a.2.2.2.2 = a'.2.2.2) (h : LI GX a.1 a.2.2.1 a.2.2.2.1 GM a'.1 a'.2.2.2) (h1 : xfeed GX x a b r1) (h2 : mfeed GM x a' b' r2) : r1 = r2 ∧ LI GX b.1 b.2.2.1 b.2.2.2.1 GM b'.1 b'.2.2.2 ∧ b.2.2.2.2 = b'.2.2.2 ∧ b'.2.2.2 ≤ a'.2.2.2 + 1 := by
  obtain ⟨hR, hX, hM, hc, hS⟩ := h
  obtain ⟨f1, f2, f3⟩ := h1
  obtain ⟨-, g3⟩ := h2
  rcases f3 with ⟨p1, p2, p3, p4⟩ | ⟨p1, ⟨pl, od, ho⟩, p3, p4⟩
  · have hac := acy_no hM (bad_rel hR p2) a'.2.2.1
    rcases g3 with ⟨q1, q2, q3, q4, q5⟩ | ⟨q1, q2, q3, q4, q5⟩
    · refine ⟨by rw [p1, q1], ⟨hR, hX, hM, f2, ?_⟩, by rw [p4, q5]; exact hkk, by omega⟩
      rw [p3, q3, q5]
      exact hS
    · exact absurd q2 hac
  · have hrk := rank_rel hR (rank_of hX ho)
    have hac := acy_yes hM hrk a'.2.2.1
    rcases g3 with ⟨q1, q2, q3, q4, q5⟩ | ⟨q1, q2, q3, q4, q5⟩
    · exact absurd hac q2
    · refine ⟨by rw [p1, q1], ⟨hR, hX, hM, f2, ?_⟩, by rw [p4, q5, hkk], by omega⟩
      rw [q3, q5]
      exact feed_rel hM hrk hk hS (FRc_rel hR hM p3)
theorem LI_rep {GX : XG} {x : Int32} {GM : XG} {a : XS} {a' : MS} (h : LI GX a.1 a.2.2.1 a.2.2.2.1 GM a'.1 a'.2.2.2) (hkk : a.2.2.2.2 = a'.2.2.2) : ∀ (n : Nat) (b : XS) (b' : MS) (f f' : Nat), a'.2.2.2 + n < 2 ^ 31 → Chn (xstep GX x) n (a, 0) (b, f) → Chn (mstep GM x) n (a', 0) (b', f') → f = f' ∧ LI GX b.1 b.2.2.1 b.2.2.2.1 GM b'.1 b'.2.2.2 ∧ b.2.2.2.2 = b'.2.2.2 ∧ b'.2.2.2 ≤ a'.2.2.2 + n := by
  intro n
  induction n with
  | zero =>
    intro b b' f f' _ h1 h2
    cases h1
    cases h2
    exact ⟨rfl, h, hkk, Nat.le_refl _⟩
  | succ n ih =>
    intro b b' f f' hb h1 h2
    obtain ⟨⟨m, g⟩, c1, s1⟩ := h1
    obtain ⟨⟨m', g'⟩, c2, s2⟩ := h2
    obtain ⟨e, hL, hk2, hle⟩ := ih m m' g g' (by omega) c1 c2
    rcases s1 with ⟨s1, e1⟩ | ⟨s1, e1⟩ <;> rcases s2 with ⟨s2, e2⟩ | ⟨s2, e2⟩
    · obtain ⟨-, q1, q2, q3⟩ := LI_feed (by omega) hk2 hL s1 s2
      have q3 : b'.2.2.2 ≤ m'.2.2.2 + 1 := q3
      exact ⟨e1.trans (e.trans e2.symm), q1, q2, by omega⟩
    · exact absurd (LI_feed (by omega) hk2 hL s1 s2).1 (by decide)
    · exact absurd (LI_feed (by omega) hk2 hL s1 s2).1 (by decide)
    · obtain ⟨-, q1, q2, q3⟩ := LI_feed (by omega) hk2 hL s1 s2
      have q3 : b'.2.2.2 ≤ m'.2.2.2 + 1 := q3
      refine ⟨?_, q1, q2, by omega⟩
      rw [show f = g + 1 from e1, show f' = g' + 1 from e2, e]
theorem LI_value {GX : XG} {F : Bool × Bool} {C : XC} {M : XM} {GM : XG} {nw : Nat → Int32} {k : Nat} (h : LI GX F C M GM nw k) (a : Int32) : (if a < 0 then (0 : Int32) else if nI GX.1 ≤ a then 0 else if nI k = 0 then 0 else M.1 a.toNatClampNeg) = if a < 0 then 0 else if nI GM.1 ≤ a then 0 else if nI k = 0 then 0 else nw a.toNatClampNeg := by
  obtain ⟨hR, hX, hM, hc, hS⟩ := h
  have hn := hM.1
  rw [hR.1]
  split
  · rfl
  · rename_i h1
    split
    · rfl
    · rename_i h2
      split
      · rfl
      · obtain ⟨j, hj, rfl⟩ := pk_ixn hn h1 h2
        rw [nI_clamp (by omega)]
        exact hS.1 j (by omega)
theorem LI_restart {GX : XG} {F : Bool × Bool} {C : XC} {M : XM} {GM : XG} {nw : Nat → Int32} {k : Nat} (h : LI GX F C M GM nw k) : LI GX F C (zf M.1 42, M.2) GM (zf nw 20) 0 := by
  obtain ⟨hR, hX, hM, hc, hS⟩ := h
  exact ⟨hR, hX, hM, hc, zero_rel hM _ _⟩
theorem gok_0 (G : XG) (h : G.1 = 0) : gok G := ⟨by omega, fun i hi => by omega⟩
theorem LI_clear {GX : XG} {F : Bool × Bool} {C : XC} {M : XM} {GM : XG} {nw : Nat → Int32} {k : Nat} (h : LI GX F C M GM nw k) : LI (0, GX.2) (false, F.2) C (zf M.1 42, M.2) (0, GM.2) (zf nw 20) 0 := 
  ⟨⟨rfl, fun i hi => absurd hi (Nat.not_lt_zero i)⟩, gok_0 _ rfl, gok_0 _ rfl, fun q => absurd (show false = true from q) (by decide), zero_rel (gok_0 _ rfl) _ _⟩
theorem LI_init {GX GM : XG} (hX : GX.1 = 0) (hM : GM.1 = 0) {F : Bool × Bool} (hF : F.1 = false) (C : XC) {M : XM} (hm : M.1 = fun _ => 0) {nw : Nat → Int32} (hw : nw = fun _ => 0) : LI GX F C M GM nw 0 := by
  refine ⟨⟨by rw [hX, hM], fun i hi => by omega⟩, gok_0 _ hX, gok_0 _ hM, fun q => absurd (hF.symm.trans q) (by decide), ?_⟩
  rw [hm, hw]
  exact ⟨fun _ _ => rfl, fun _ _ => in16_0, rfl, fun i hi => by omega, fun _ _ _ => rfl⟩
end
section
/-! rows for constructors and for the law: two worlds side by side -/
set_option maxRecDepth 100000
def Dj (w1 w2 : va_W) : Prop := ∀ (i j : Nat) (p q : Nat × va_E), w1[i]? = some p → w2[j]? = some q → p.1 ≠ q.1
theorem Dj.symm {w1 w2 : va_W} (h : Dj w1 w2) : Dj w2 w1 := fun i j p q hp hq e => h j i q p hq hp e.symm
section L2
variable {p : Program} {l : Launch} {e : Env} {R : Room} {s : State} {m : MethodId} {args : Array Value} {below : List Frame} {meth : Method} {c : Code} {H : Heap} {locs : List Loc} {cells slots : Nat} {Q : State → Prop}
variable {cc : ByteArray} {pc nL : Nat} {ls : Array Slot} {rest : List Value} {D : va_G} {cl : List vw_C} {A : Nat → Prop} {tys : List (ClassId × FieldType)} {ws wr : va_W} {H0 : Heap}
/-- what a call leaves of the cells beside its world -/
theorem zz_beside {H1 : Heap} (hP : va_P D cl ws H) (hR : va_P D cl wr H) (hj : Dj ws wr) (hk : ∀ q : Nat, q < H.size → ¬ va_A ws H.size q → H1[q]? = H[q]?) {w1 : va_W} (hD1 : va_D (va_A ws H.size) w1) : va_P D cl wr H1 ∧ Dj w1 wr := by
  have key : ∀ (j : Nat) (q : Nat × va_E), wr[j]? = some q → q.1 < H.size ∧ ¬ va_A ws H.size q.1 := by
    intro j q hq
    have hl := (hR j q hq).lt
    refine ⟨hl, fun h => ?_⟩
    rcases h with ⟨k, x, h⟩ | h
    · exact hj k j (q.1, x) q h hq rfl
    · omega
  refine ⟨hR.kept (fun k q hq => hk q.1 (key k q hq).1 (key k q hq).2), fun i j p q hp hq e => ?_⟩
  have h1 := hD1.2 i p hp
  rw [e] at h1
  exact (key j q hq).2 h1
theorem zz_startC {y : MethodName} {L mc ms : Nat} {rm : Room} {av : List Value} {sz : Nat} {own : String} (Qc : (Nat → Prop) → Array Value → State → Outcome → State → Prop) (hy : plainName y.cls = true) (ho : y.cls = own) (hnm : y.name = "<init>") (hlen : (lg_sl av).length ≤ L)
    (body : ∀ (p : Program) (e : Env) (s : State) (m : MethodId) (below : List Frame) (meth : Method) (c : Code) (Q : State → Prop) (A : Nat → Prop) (ls : Array Slot) (args : Array Value),
    p.tables.exec = Jvm.exec → c.code = cc → meth.sig.returnType = none → c.maxLocals = L → s.vm.findClass own = some m.cls → (∀ w ∈ lw_all, w.before args s = true) → meth.locks = false → meth.name = "<init>" → (∀ q : Nat, s.heap.size ≤ q → A q) → va_K D cl tys s → va_P D cl ws s.heap → va_D A ws → va_S A s.heap s.heap [] → lv_has ls L (lv_args 0 av) → Q = MQ below (Qc A) args s mc ms A → W p l e rm s m args below meth c s.heap [] 0 0 Q (F0 m 0 ls [])) :
    Met l y (ws_ y cc L none) rm (zz_Pc D cl tys ws sz av) (Qc (va_A ws sz)) mc ms (va_A ws sz) := by
  refine Met.ofW (cc := cc) (maxL := L) (ret := none) hy rfl ?_
  intro p e s m args below meth c s₁ B hml hv
  obtain ⟨rfl, hsz, hP, hK, hD0⟩ := hv
  have hts := atoms_spec (ws := ws_ y cc L none) B.pre
  have hts : ∀ w ∈ lw_all, w.before _ s = true := fun w h => hts w (List.mem_cons_of_mem _ h)
  have hown : s.vm.findClass own = some m.cls := by rw [← ho]; exact findClass_of_methodNamed B.named
  have hin : meth.name = "<init>" := by rw [← hnm]; exact (name_of_methodNamed B.named B.method).1
  subst hsz
  have hl := lv_entry av (n := L) hlen
  rw [lg_entry_eq]
  exact body p e s m below meth c _ (va_A ws s.heap.size) _ _ B.exec B.bytes B.returns hml hown hts B.notSynchronized hin (fun q h => Or.inr h) hK hP hD0.self va_S.rf hl rfl
/-- the contract of a constructor: it makes mc cells of ms slots -/
abbrev MetC (l : Launch) (y : MethodName) (cc : ByteArray) (L mc ms : Nat) (rm : Room) (D : va_G) (cl : List vw_C) (ws : va_W) (sz : Nat) (av : List Value) {S : Type} (ws' : S → va_W) (tys' : S → List (ClassId × FieldType)) : Prop :=
  Met l y (ws_ y cc L none) rm (zz_Pc D cl [] ws sz av) (va_Qv (fun _ : S => True) (fun u t => va_P D cl (ws' u) t.heap ∧ va_K D cl (tys' u) t ∧ va_D (va_A ws sz) (ws' u)) (va_A ws sz)) mc ms (va_A ws sz)
theorem zz_cret {S : Type} {ws' : S → va_W} {tys' : S → List (ClassId × FieldType)} {mc ms : Nat} (hx : p.tables.exec = Jvm.exec) (hb : c.code = cc) (hr : meth.sig.returnType = none) (hlocks : meth.locks = false) (u : S) (hK : va_K D cl (tys' u) s) (hQ : Q = MQ below (va_Qv (fun _ : S => True) (fun u t => va_P D cl (ws' u) t.heap ∧ va_K D cl (tys' u) t ∧ va_D A (ws' u)) A) args s mc ms A) (hS : va_S A s.heap H locs) (hP : va_P D cl (ws' u) H) (hD : va_D A (ws' u)) (hdg : decode cc pc = .ok (.return_, 1)) : W p l e R s m args below meth c H locs mc ms Q (F0 m pc ls []) := by
  subst hQ
  exact W.vret hx hb hr (fun t ht hW => ⟨⟨u, rfl, trivial, by rw [ht]; exact hP, va_K.moved hW.alike hK, hD⟩, hS.F ht⟩) hS.2.2 hdg hlocks
theorem zz_init2 {S : Type} {ws' : S → va_W} {tys' : S → List (ClassId × FieldType)} {y : MethodName} {bytes : ByteArray} {maxL n index mc ms : Nat} {wsy : List Cond} {rm : Room} {own : String} {b : Nat} {As : List Value} {st : List Value}
    (S0 : CallFix p m c cc nL s args lw_all own) (hK : va_K D cl [] s) (hP : va_P D cl ws H) (hD : va_D A ws) (hR : va_P D cl wr H) (hj : Dj ws wr) (hS : va_S A H0 H locs) (hA : ∀ q, H0.size ≤ q → A q)
    (hM : Met l y wsy rm (zz_Pc D cl [] ws H.size (.ref b :: As)) (va_Qv (fun _ : S => True) (fun u t => va_P D cl (ws' u) t.heap ∧ va_K D cl (tys' u) t ∧ va_D (va_A ws H.size) (ws' u)) (va_A ws H.size)) mc ms (va_A ws H.size))
    (cw : CallB R s args own index y bytes maxL none wsy rm mc ms n ∧ y.name = "<init>" ∧ (Cond.instanceMethod y).before args s = true) (hn : As.length = n) (hsize : ls.size = nL) (hst : st = As.reverse ++ .ref b :: rest) (hr : (rest.map fun v => v.category).sum ≤ 8) (hdg : decode cc pc = .ok (.invokespecial index, 3)) (hf : cells + mc ≤ R.cells ∧ slots + ms ≤ R.slots)
    (kk : ∀ (u : S) (H1 : Heap) (locs1 : List Loc), va_P D cl (ws' u) H1 → va_K D cl (tys' u) s → va_D A (ws' u) → va_P D cl wr H1 → Dj (ws' u) wr → va_S A H0 H1 locs1 → W p l e R s m args below meth c H1 locs1 (cells + mc) (slots + ms) Q (F0 m (pc + 3) ls rest)) : W p l e R s m args below meth c H locs cells slots Q (F0 m pc ls st) := by
  have hFc : ∀ q, va_A ws H.size q → A q := fun q h => by
    rcases h with ⟨k, x, h⟩ | h
    · exact hD.2 k (q, x) h
    · exact hA q (Nat.le_trans hS.1 h)
  refine va_callv (va_runI (As := As) (rest := rest) S0 hM cw ⟨fun a U g mk q => ?_, fun U hU hW => ⟨rfl, by rw [hU], by rw [hU]; exact hP, va_K.moved hW.alike hK, hD.weaken (fun _ _ _ _ => trivial)⟩⟩ rfl hn hsize hst (lv_room hr) hdg hf) hS (fun q _ h => hFc q h) hFc (fun u t H1 locs1 ht hvm hw hB hz1 hk1 hS1 => ?_)
  · obtain ⟨q0, q1, qP, qK, qD⟩ := q
    exact ⟨q0, q1, qP, va_K.moved (u := U) (U := U.calling g mk a) (Vm.Alike.refl U.vm) qK, qD⟩
  · obtain ⟨hP1, hK1, hD1⟩ := hB
    rw [ht] at hP1
    obtain ⟨g1, g2⟩ := zz_beside hP hR hj hk1 hD1
    exact kk u H1 locs1 hP1 (va_K.moved hvm.symm hK1) (hD1.weaken (fun _ _ _ h => hFc _ h)) g1 g2 hS1
theorem zz_callv2 {S : Type} {post : S → Prop} {ws' : S → va_W} {y : MethodName} {bytes : ByteArray} {maxL n index : Nat} {ret : Option FieldType} {wsy : List Cond} {rm : Room} {own C : String} {b ci N : Nat} {As : List Value} {st : List Value} {T : u_T} {fs : List Value}
    (S0 : CallFix p m c cc nL s args lw_all own) (hK : va_K D cl tys s) (hP : va_P D cl ws H) (hD : va_D A ws) (hR : va_P D cl wr H) (hj : Dj ws wr) (hS : va_S A H0 H locs) (hA : ∀ q, H0.size ≤ q → A q) (he : ws[0]? = some (b, .inr (ci, fs))) (hc : cl[ci]? = some (C, T, N))
    (hM : Met l y wsy rm (zz_Pc D cl tys ws H.size (.ref b :: As)) (va_Qv post (zz_B D cl tys ws' (va_A ws H.size)) (va_A ws H.size)) 0 0 (va_A ws H.size))
    (cw : CallW R s args own C index y bytes maxL ret wsy rm 0 0 n) (hn : As.length = n) (hsize : ls.size = nL) (hst : st = As.reverse ++ .ref b :: rest) (hr : (rest.map fun v => v.category).sum ≤ 8) (hdg : decode cc pc = .ok (.invokevirtual index, 3)) (hf : cells ≤ R.cells ∧ slots ≤ R.slots)
    (kk : ∀ (u : S) (H1 : Heap) (locs1 : List Loc), post u → va_P D cl (ws' u) H1 → va_D A (ws' u) → va_P D cl wr H1 → Dj (ws' u) wr → va_S A H0 H1 locs1 → W p l e R s m args below meth c H1 locs1 cells slots Q (F0 m (pc + 3) ls (rest))) : W p l e R s m args below meth c H locs cells slots Q (F0 m pc ls st) := by
  have hFc : ∀ q, va_A ws H.size q → A q := fun q h => by
    rcases h with ⟨k, x, h⟩ | h
    · exact hD.2 k (q, x) h
    · exact hA q (Nat.le_trans hS.1 h)
  refine va_callv (va_runV (As := As) (rest := rest) S0 hM cw ⟨fun a U g mk q => ?_, va_recv hK hP hc he, fun U hU hW => ⟨rfl, by rw [hU], by rw [hU]; exact hP, va_K.moved hW.alike hK, hD.weaken (fun _ _ _ _ => trivial)⟩⟩ rfl hn hsize hst (lv_room hr) hdg hf) hS (fun q _ h => hFc q h) hFc (fun u t H1 locs1 ht hvm hw hB hz1 hk1 hS1 => ?_)
  · obtain ⟨q0, q1, qP, qK, qD⟩ := q
    exact ⟨q0, q1, qP, va_K.moved (u := U) (U := U.calling g mk a) (Vm.Alike.refl U.vm) qK, qD⟩
  · obtain ⟨hP1, hK1, hD1⟩ := hB
    rw [ht] at hP1
    obtain ⟨g1, g2⟩ := zz_beside hP hR hj hk1 hD1
    exact kk u H1 locs1 hw hP1 (hD1.weaken (fun _ _ _ h => hFc _ h)) g1 g2 hS1
theorem zz_calli2 {S : Type} {post : Int32 → S → Prop} {ws' : S → va_W} {y : MethodName} {bytes : ByteArray} {maxL n index : Nat} {ret : Option FieldType} {wsy : List Cond} {rm : Room} {own C : String} {b ci N : Nat} {As : List Value} {st : List Value} {T : u_T} {fs : List Value}
    (S0 : CallFix p m c cc nL s args lw_all own) (hK : va_K D cl tys s) (hP : va_P D cl ws H) (hD : va_D A ws) (hR : va_P D cl wr H) (hj : Dj ws wr) (hS : va_S A H0 H locs) (hA : ∀ q, H0.size ≤ q → A q) (he : ws[0]? = some (b, .inr (ci, fs))) (hc : cl[ci]? = some (C, T, N))
    (hM : Met l y wsy rm (zz_Pc D cl tys ws H.size (.ref b :: As)) (va_Qi post (zz_B D cl tys ws' (va_A ws H.size)) (va_A ws H.size)) 0 0 (va_A ws H.size))
    (cw : CallW R s args own C index y bytes maxL ret wsy rm 0 0 n) (hn : As.length = n) (hsize : ls.size = nL) (hst : st = As.reverse ++ .ref b :: rest) (hr : (rest.map fun v => v.category).sum ≤ 8) (hdg : decode cc pc = .ok (.invokevirtual index, 3)) (hf : cells ≤ R.cells ∧ slots ≤ R.slots)
    (kk : ∀ (r : Int32) (u : S) (H1 : Heap) (locs1 : List Loc), post r u → va_P D cl (ws' u) H1 → va_D A (ws' u) → va_P D cl wr H1 → Dj (ws' u) wr → va_S A H0 H1 locs1 → W p l e R s m args below meth c H1 locs1 cells slots Q (F0 m (pc + 3) ls (.int r :: rest))) : W p l e R s m args below meth c H locs cells slots Q (F0 m pc ls st) := by
  have hFc : ∀ q, va_A ws H.size q → A q := fun q h => by
    rcases h with ⟨k, x, h⟩ | h
    · exact hD.2 k (q, x) h
    · exact hA q (Nat.le_trans hS.1 h)
  refine va_calli (va_runV (As := As) (rest := rest) S0 hM cw ⟨fun a U g mk q => ?_, va_recv hK hP hc he, fun U hU hW => ⟨rfl, by rw [hU], by rw [hU]; exact hP, va_K.moved hW.alike hK, hD.weaken (fun _ _ _ _ => trivial)⟩⟩ rfl hn hsize hst (lv_room hr) hdg hf) hS (fun q _ h => hFc q h) hFc (fun r u t H1 locs1 ht hvm hw hB hz1 hk1 hS1 => ?_)
  · obtain ⟨q0, q1, qP, qK, qD⟩ := q
    exact ⟨q0, q1, qP, va_K.moved (u := U) (U := U.calling g mk a) (Vm.Alike.refl U.vm) qK, qD⟩
  · obtain ⟨hP1, hK1, hD1⟩ := hB
    rw [ht] at hP1
    obtain ⟨g1, g2⟩ := zz_beside hP hR hj hk1 hD1
    exact kk r u H1 locs1 hw hP1 (hD1.weaken (fun _ _ _ h => hFc _ h)) g1 g2 hS1
end L2
end
section
/-! the constructors -/
set_option maxRecDepth 100000
def pkX {α : Type} (a1 a2 a3 a4 a5 a6 a10 a12 a13 a14 a16 : α) : Nat → α := fun k => match k with | 1 => a1 | 2 => a2 | 3 => a3 | 4 => a4 | 5 => a5 | 6 => a6 | 10 => a10 | 12 => a12 | 13 => a13 | 14 => a14 | 16 => a16 | _ => a1
def pkM {α : Type} (a1 a2 a3 a4 a5 a6 a7 a8 a10 : α) : Nat → α := fun k => match k with | 1 => a1 | 2 => a2 | 3 => a3 | 4 => a4 | 5 => a5 | 6 => a6 | 7 => a7 | 8 => a8 | 10 => a10 | _ => a1
abbrev rmX0_init : Room := { frames := 1, cells := 11, slots := 1282, locals := 12 }
abbrev fsX0 : List Value := [.int 0, .null, .null, .null, .null, .null, .null, .int 0, .int 0, .int 0, .null, .int 0, .null, .null, .null, .int 0, .null, .long 0, .int 0]
set_option maxHeartbeats 4000000 in
/-- the constructor: 11 arrays -/
theorem metX0_init (l : Launch) {D : va_G} {h : Nat} (sz : Nat) : MetC l yX0_init cX0_init 1 11 1282 rmX0_init D vwCl [(h, .inr (0, fsX0))] sz [.ref h] (fun u : (Nat → Nat) × (Nat → ClassId) => wX h u.1 u.2 (0, (fun _ => 0), (fun _ => 0), (fun _ => 0), (fun _ => 0), (fun _ => 0), (fun _ => 0)) (false, false) (0, (fun _ => 0)) (0, (fun _ => 0), (fun _ => 0), (fun _ => 0), -1) ((fun _ => 0), 0) 0) (fun u => tX u.2) := by
  refine zz_startC (own := RX0) (fun A => va_Qv (fun _ : (Nat → Nat) × (Nat → ClassId) => True) (fun u t => va_P D vwCl (wX h u.1 u.2 (0, (fun _ => 0), (fun _ => 0), (fun _ => 0), (fun _ => 0), (fun _ => 0), (fun _ => 0)) (false, false) (0, (fun _ => 0)) (0, (fun _ => 0), (fun _ => 0), (fun _ => 0), -1) ((fun _ => 0), 0) 0) t.heap ∧ va_K D vwCl (tX u.2) t ∧ va_D A (wX h u.1 u.2 (0, (fun _ => 0), (fun _ => 0), (fun _ => 0), (fun _ => 0), (fun _ => 0), (fun _ => 0)) (false, false) (0, (fun _ => 0)) (0, (fun _ => 0), (fun _ => 0), (fun _ => 0), -1) ((fun _ => 0), 0) 0)) A) (by decide) rfl rfl (Nat.le_of_ble_eq_true rfl) ?_
  intro p e s m below meth c Q A ls args hx hb hr hml hown hts hlocks hin hA hK hP hD hS hl hQ
  have hl : lv_has ls 1 [(0, .ref h)] := hl
  refine lv_aload_n hx hb dX0_init_0 rfl (lv_at hl 0 rfl) ?_
  refine W.objInit hx hb hown (hts _ q32) (hts _ q33) (hts _ q34) rfl (by rw [hml]; exact hl.1) rfl dX0_init_1 (Nat.le_of_ble_eq_true rfl) (Nat.le_of_ble_eq_true rfl) ?_
  refine W.eq (g2 := F0 m 4 ls []) rfl ?_
  refine lv_aload_n hx hb dX0_init_4 rfl (lv_at hl 0 rfl) ?_
  refine lv_bipush (v := 20) hx hb dX0_init_5 (by decide) ?_
  refine va_newa (atype := .byte) (ty := .byte) (a0 := (20, .inl (fun _ => 0))) hx hb (hts _ q93) rfl hK hP hD hS hA (fun _ => rfl) (by decide) (by decide) (by decide) (Nat.le_of_ble_eq_true rfl) (Nat.le_of_ble_eq_true rfl) dX0_init_7 (fun q1 c1 H hK hP hD hS => ?_)
  have hP : va_P D vwCl [(h, .inr (0, [.int 0, .null, .null, .null, .null, .null, .null, .int 0, .int 0, .int 0, .null, .int 0, .null, .null, .null, .int 0, .null, .long 0, .int 0])), (q1, .inl (c1, 20, .inl (fun _ => 0)))] H := hP
  have hD : va_D A [(h, .inr (0, [.int 0, .null, .null, .null, .null, .null, .null, .int 0, .int 0, .int 0, .null, .int 0, .null, .null, .null, .int 0, .null, .long 0, .int 0])), (q1, .inl (c1, 20, .inl (fun _ => 0)))] := hD
  have hK : va_K D vwCl [(c1, .byte)] s := hK
  refine va_putF (D := D) (ci := 0) (v := .ref q1) (ty := .array .byte) (C := RX0) (T := TX0) (N := 19) hx hb hts in_X0 tyX0 tyX0_ok nmX0 hown hK hP hD hS 0 rfl rfl 1 (by decide) (hts _ q36) (fun _ h9 => h9) rfl hin rfl (by decide +kernel) rfl rfl (Nat.le_of_ble_eq_true rfl) dX0_init_9 (fun H locs hP hD hS => ?_)
  have hP : va_P D vwCl [(h, .inr (0, [.int 0, .ref q1, .null, .null, .null, .null, .null, .int 0, .int 0, .int 0, .null, .int 0, .null, .null, .null, .int 0, .null, .long 0, .int 0])), (q1, .inl (c1, 20, .inl (fun _ => 0)))] H := hP
  have hD : va_D A [(h, .inr (0, [.int 0, .ref q1, .null, .null, .null, .null, .null, .int 0, .int 0, .int 0, .null, .int 0, .null, .null, .null, .int 0, .null, .long 0, .int 0])), (q1, .inl (c1, 20, .inl (fun _ => 0)))] := hD
  refine lv_aload_n hx hb dX0_init_12 rfl (lv_at hl 0 rfl) ?_
  refine lv_bipush (v := 20) hx hb dX0_init_13 (by decide) ?_
  refine va_newa (atype := .int) (ty := .int) (a0 := (20, .inl (fun _ => 0))) hx hb (hts _ q94) rfl hK hP hD hS hA (fun _ => rfl) (by decide) (by decide) (by decide) (Nat.le_of_ble_eq_true rfl) (Nat.le_of_ble_eq_true rfl) dX0_init_15 (fun q2 c2 H hK hP hD hS => ?_)
  have hP : va_P D vwCl [(h, .inr (0, [.int 0, .ref q1, .null, .null, .null, .null, .null, .int 0, .int 0, .int 0, .null, .int 0, .null, .null, .null, .int 0, .null, .long 0, .int 0])), (q1, .inl (c1, 20, .inl (fun _ => 0))), (q2, .inl (c2, 20, .inl (fun _ => 0)))] H := hP
  have hD : va_D A [(h, .inr (0, [.int 0, .ref q1, .null, .null, .null, .null, .null, .int 0, .int 0, .int 0, .null, .int 0, .null, .null, .null, .int 0, .null, .long 0, .int 0])), (q1, .inl (c1, 20, .inl (fun _ => 0))), (q2, .inl (c2, 20, .inl (fun _ => 0)))] := hD
  have hK : va_K D vwCl [(c1, .byte), (c2, .int)] s := hK
  refine va_putF (D := D) (ci := 0) (v := .ref q2) (ty := .array .int) (C := RX0) (T := TX0) (N := 19) hx hb hts in_X0 tyX0 tyX0_ok nmX0 hown hK hP hD hS 0 rfl rfl 2 (by decide) (hts _ q37) (fun _ h9 => h9) rfl hin rfl (by decide +kernel) rfl rfl (Nat.le_of_ble_eq_true rfl) dX0_init_17 (fun H locs hP hD hS => ?_)
  have hP : va_P D vwCl [(h, .inr (0, [.int 0, .ref q1, .ref q2, .null, .null, .null, .null, .int 0, .int 0, .int 0, .null, .int 0, .null, .null, .null, .int 0, .null, .long 0, .int 0])), (q1, .inl (c1, 20, .inl (fun _ => 0))), (q2, .inl (c2, 20, .inl (fun _ => 0)))] H := hP
  have hD : va_D A [(h, .inr (0, [.int 0, .ref q1, .ref q2, .null, .null, .null, .null, .int 0, .int 0, .int 0, .null, .int 0, .null, .null, .null, .int 0, .null, .long 0, .int 0])), (q1, .inl (c1, 20, .inl (fun _ => 0))), (q2, .inl (c2, 20, .inl (fun _ => 0)))] := hD
  refine lv_aload_n hx hb dX0_init_20 rfl (lv_at hl 0 rfl) ?_
  refine lv_bipush (v := 20) hx hb dX0_init_21 (by decide) ?_
  refine va_newa (atype := .byte) (ty := .byte) (a0 := (20, .inl (fun _ => 0))) hx hb (hts _ q93) rfl hK hP hD hS hA (fun _ => rfl) (by decide) (by decide) (by decide) (Nat.le_of_ble_eq_true rfl) (Nat.le_of_ble_eq_true rfl) dX0_init_23 (fun q3 c3 H hK hP hD hS => ?_)
  have hP : va_P D vwCl [(h, .inr (0, [.int 0, .ref q1, .ref q2, .null, .null, .null, .null, .int 0, .int 0, .int 0, .null, .int 0, .null, .null, .null, .int 0, .null, .long 0, .int 0])), (q1, .inl (c1, 20, .inl (fun _ => 0))), (q2, .inl (c2, 20, .inl (fun _ => 0))), (q3, .inl (c3, 20, .inl (fun _ => 0)))] H := hP
  have hD : va_D A [(h, .inr (0, [.int 0, .ref q1, .ref q2, .null, .null, .null, .null, .int 0, .int 0, .int 0, .null, .int 0, .null, .null, .null, .int 0, .null, .long 0, .int 0])), (q1, .inl (c1, 20, .inl (fun _ => 0))), (q2, .inl (c2, 20, .inl (fun _ => 0))), (q3, .inl (c3, 20, .inl (fun _ => 0)))] := hD
  have hK : va_K D vwCl [(c1, .byte), (c2, .int), (c3, .byte)] s := hK
  refine va_putF (D := D) (ci := 0) (v := .ref q3) (ty := .array .byte) (C := RX0) (T := TX0) (N := 19) hx hb hts in_X0 tyX0 tyX0_ok nmX0 hown hK hP hD hS 0 rfl rfl 3 (by decide) (hts _ q38) (fun _ h9 => h9) rfl hin rfl (by decide +kernel) rfl rfl (Nat.le_of_ble_eq_true rfl) dX0_init_25 (fun H locs hP hD hS => ?_)
  have hP : va_P D vwCl [(h, .inr (0, [.int 0, .ref q1, .ref q2, .ref q3, .null, .null, .null, .int 0, .int 0, .int 0, .null, .int 0, .null, .null, .null, .int 0, .null, .long 0, .int 0])), (q1, .inl (c1, 20, .inl (fun _ => 0))), (q2, .inl (c2, 20, .inl (fun _ => 0))), (q3, .inl (c3, 20, .inl (fun _ => 0)))] H := hP
  have hD : va_D A [(h, .inr (0, [.int 0, .ref q1, .ref q2, .ref q3, .null, .null, .null, .int 0, .int 0, .int 0, .null, .int 0, .null, .null, .null, .int 0, .null, .long 0, .int 0])), (q1, .inl (c1, 20, .inl (fun _ => 0))), (q2, .inl (c2, 20, .inl (fun _ => 0))), (q3, .inl (c3, 20, .inl (fun _ => 0)))] := hD
  refine lv_aload_n hx hb dX0_init_28 rfl (lv_at hl 0 rfl) ?_
  refine lv_bipush (v := 20) hx hb dX0_init_29 (by decide) ?_
  refine va_newa (atype := .byte) (ty := .byte) (a0 := (20, .inl (fun _ => 0))) hx hb (hts _ q93) rfl hK hP hD hS hA (fun _ => rfl) (by decide) (by decide) (by decide) (Nat.le_of_ble_eq_true rfl) (Nat.le_of_ble_eq_true rfl) dX0_init_31 (fun q4 c4 H hK hP hD hS => ?_)
  have hP : va_P D vwCl [(h, .inr (0, [.int 0, .ref q1, .ref q2, .ref q3, .null, .null, .null, .int 0, .int 0, .int 0, .null, .int 0, .null, .null, .null, .int 0, .null, .long 0, .int 0])), (q1, .inl (c1, 20, .inl (fun _ => 0))), (q2, .inl (c2, 20, .inl (fun _ => 0))), (q3, .inl (c3, 20, .inl (fun _ => 0))), (q4, .inl (c4, 20, .inl (fun _ => 0)))] H := hP
  have hD : va_D A [(h, .inr (0, [.int 0, .ref q1, .ref q2, .ref q3, .null, .null, .null, .int 0, .int 0, .int 0, .null, .int 0, .null, .null, .null, .int 0, .null, .long 0, .int 0])), (q1, .inl (c1, 20, .inl (fun _ => 0))), (q2, .inl (c2, 20, .inl (fun _ => 0))), (q3, .inl (c3, 20, .inl (fun _ => 0))), (q4, .inl (c4, 20, .inl (fun _ => 0)))] := hD
  have hK : va_K D vwCl [(c1, .byte), (c2, .int), (c3, .byte), (c4, .byte)] s := hK
  refine va_putF (D := D) (ci := 0) (v := .ref q4) (ty := .array .byte) (C := RX0) (T := TX0) (N := 19) hx hb hts in_X0 tyX0 tyX0_ok nmX0 hown hK hP hD hS 0 rfl rfl 4 (by decide) (hts _ q39) (fun _ h9 => h9) rfl hin rfl (by decide +kernel) rfl rfl (Nat.le_of_ble_eq_true rfl) dX0_init_33 (fun H locs hP hD hS => ?_)
  have hP : va_P D vwCl [(h, .inr (0, [.int 0, .ref q1, .ref q2, .ref q3, .ref q4, .null, .null, .int 0, .int 0, .int 0, .null, .int 0, .null, .null, .null, .int 0, .null, .long 0, .int 0])), (q1, .inl (c1, 20, .inl (fun _ => 0))), (q2, .inl (c2, 20, .inl (fun _ => 0))), (q3, .inl (c3, 20, .inl (fun _ => 0))), (q4, .inl (c4, 20, .inl (fun _ => 0)))] H := hP
  have hD : va_D A [(h, .inr (0, [.int 0, .ref q1, .ref q2, .ref q3, .ref q4, .null, .null, .int 0, .int 0, .int 0, .null, .int 0, .null, .null, .null, .int 0, .null, .long 0, .int 0])), (q1, .inl (c1, 20, .inl (fun _ => 0))), (q2, .inl (c2, 20, .inl (fun _ => 0))), (q3, .inl (c3, 20, .inl (fun _ => 0))), (q4, .inl (c4, 20, .inl (fun _ => 0)))] := hD
  refine lv_aload_n hx hb dX0_init_36 rfl (lv_at hl 0 rfl) ?_
  refine lv_bipush (v := 120) hx hb dX0_init_37 (by decide) ?_
  refine va_newa (atype := .byte) (ty := .byte) (a0 := (120, .inl (fun _ => 0))) hx hb (hts _ q93) rfl hK hP hD hS hA (fun _ => rfl) (by decide) (by decide) (by decide) (Nat.le_of_ble_eq_true rfl) (Nat.le_of_ble_eq_true rfl) dX0_init_39 (fun q5 c5 H hK hP hD hS => ?_)
  have hP : va_P D vwCl [(h, .inr (0, [.int 0, .ref q1, .ref q2, .ref q3, .ref q4, .null, .null, .int 0, .int 0, .int 0, .null, .int 0, .null, .null, .null, .int 0, .null, .long 0, .int 0])), (q1, .inl (c1, 20, .inl (fun _ => 0))), (q2, .inl (c2, 20, .inl (fun _ => 0))), (q3, .inl (c3, 20, .inl (fun _ => 0))), (q4, .inl (c4, 20, .inl (fun _ => 0))), (q5, .inl (c5, 120, .inl (fun _ => 0)))] H := hP
  have hD : va_D A [(h, .inr (0, [.int 0, .ref q1, .ref q2, .ref q3, .ref q4, .null, .null, .int 0, .int 0, .int 0, .null, .int 0, .null, .null, .null, .int 0, .null, .long 0, .int 0])), (q1, .inl (c1, 20, .inl (fun _ => 0))), (q2, .inl (c2, 20, .inl (fun _ => 0))), (q3, .inl (c3, 20, .inl (fun _ => 0))), (q4, .inl (c4, 20, .inl (fun _ => 0))), (q5, .inl (c5, 120, .inl (fun _ => 0)))] := hD
  have hK : va_K D vwCl [(c1, .byte), (c2, .int), (c3, .byte), (c4, .byte), (c5, .byte)] s := hK
  refine va_putF (D := D) (ci := 0) (v := .ref q5) (ty := .array .byte) (C := RX0) (T := TX0) (N := 19) hx hb hts in_X0 tyX0 tyX0_ok nmX0 hown hK hP hD hS 0 rfl rfl 5 (by decide) (hts _ q40) (fun _ h9 => h9) rfl hin rfl (by decide +kernel) rfl rfl (Nat.le_of_ble_eq_true rfl) dX0_init_41 (fun H locs hP hD hS => ?_)
  have hP : va_P D vwCl [(h, .inr (0, [.int 0, .ref q1, .ref q2, .ref q3, .ref q4, .ref q5, .null, .int 0, .int 0, .int 0, .null, .int 0, .null, .null, .null, .int 0, .null, .long 0, .int 0])), (q1, .inl (c1, 20, .inl (fun _ => 0))), (q2, .inl (c2, 20, .inl (fun _ => 0))), (q3, .inl (c3, 20, .inl (fun _ => 0))), (q4, .inl (c4, 20, .inl (fun _ => 0))), (q5, .inl (c5, 120, .inl (fun _ => 0)))] H := hP
  have hD : va_D A [(h, .inr (0, [.int 0, .ref q1, .ref q2, .ref q3, .ref q4, .ref q5, .null, .int 0, .int 0, .int 0, .null, .int 0, .null, .null, .null, .int 0, .null, .long 0, .int 0])), (q1, .inl (c1, 20, .inl (fun _ => 0))), (q2, .inl (c2, 20, .inl (fun _ => 0))), (q3, .inl (c3, 20, .inl (fun _ => 0))), (q4, .inl (c4, 20, .inl (fun _ => 0))), (q5, .inl (c5, 120, .inl (fun _ => 0)))] := hD
  refine lv_aload_n hx hb dX0_init_44 rfl (lv_at hl 0 rfl) ?_
  refine lv_bipush (v := 120) hx hb dX0_init_45 (by decide) ?_
  refine va_newa (atype := .int) (ty := .int) (a0 := (120, .inl (fun _ => 0))) hx hb (hts _ q94) rfl hK hP hD hS hA (fun _ => rfl) (by decide) (by decide) (by decide) (Nat.le_of_ble_eq_true rfl) (Nat.le_of_ble_eq_true rfl) dX0_init_47 (fun q6 c6 H hK hP hD hS => ?_)
  have hP : va_P D vwCl [(h, .inr (0, [.int 0, .ref q1, .ref q2, .ref q3, .ref q4, .ref q5, .null, .int 0, .int 0, .int 0, .null, .int 0, .null, .null, .null, .int 0, .null, .long 0, .int 0])), (q1, .inl (c1, 20, .inl (fun _ => 0))), (q2, .inl (c2, 20, .inl (fun _ => 0))), (q3, .inl (c3, 20, .inl (fun _ => 0))), (q4, .inl (c4, 20, .inl (fun _ => 0))), (q5, .inl (c5, 120, .inl (fun _ => 0))), (q6, .inl (c6, 120, .inl (fun _ => 0)))] H := hP
  have hD : va_D A [(h, .inr (0, [.int 0, .ref q1, .ref q2, .ref q3, .ref q4, .ref q5, .null, .int 0, .int 0, .int 0, .null, .int 0, .null, .null, .null, .int 0, .null, .long 0, .int 0])), (q1, .inl (c1, 20, .inl (fun _ => 0))), (q2, .inl (c2, 20, .inl (fun _ => 0))), (q3, .inl (c3, 20, .inl (fun _ => 0))), (q4, .inl (c4, 20, .inl (fun _ => 0))), (q5, .inl (c5, 120, .inl (fun _ => 0))), (q6, .inl (c6, 120, .inl (fun _ => 0)))] := hD
  have hK : va_K D vwCl [(c1, .byte), (c2, .int), (c3, .byte), (c4, .byte), (c5, .byte), (c6, .int)] s := hK
  refine va_putF (D := D) (ci := 0) (v := .ref q6) (ty := .array .int) (C := RX0) (T := TX0) (N := 19) hx hb hts in_X0 tyX0 tyX0_ok nmX0 hown hK hP hD hS 0 rfl rfl 6 (by decide) (hts _ q41) (fun _ h9 => h9) rfl hin rfl (by decide +kernel) rfl rfl (Nat.le_of_ble_eq_true rfl) dX0_init_49 (fun H locs hP hD hS => ?_)
  have hP : va_P D vwCl [(h, .inr (0, [.int 0, .ref q1, .ref q2, .ref q3, .ref q4, .ref q5, .ref q6, .int 0, .int 0, .int 0, .null, .int 0, .null, .null, .null, .int 0, .null, .long 0, .int 0])), (q1, .inl (c1, 20, .inl (fun _ => 0))), (q2, .inl (c2, 20, .inl (fun _ => 0))), (q3, .inl (c3, 20, .inl (fun _ => 0))), (q4, .inl (c4, 20, .inl (fun _ => 0))), (q5, .inl (c5, 120, .inl (fun _ => 0))), (q6, .inl (c6, 120, .inl (fun _ => 0)))] H := hP
  have hD : va_D A [(h, .inr (0, [.int 0, .ref q1, .ref q2, .ref q3, .ref q4, .ref q5, .ref q6, .int 0, .int 0, .int 0, .null, .int 0, .null, .null, .null, .int 0, .null, .long 0, .int 0])), (q1, .inl (c1, 20, .inl (fun _ => 0))), (q2, .inl (c2, 20, .inl (fun _ => 0))), (q3, .inl (c3, 20, .inl (fun _ => 0))), (q4, .inl (c4, 20, .inl (fun _ => 0))), (q5, .inl (c5, 120, .inl (fun _ => 0))), (q6, .inl (c6, 120, .inl (fun _ => 0)))] := hD
  refine lv_aload_n hx hb dX0_init_52 rfl (lv_at hl 0 rfl) ?_
  refine lv_bipush (v := 20) hx hb dX0_init_53 (by decide) ?_
  refine va_newa (atype := .byte) (ty := .byte) (a0 := (20, .inl (fun _ => 0))) hx hb (hts _ q93) rfl hK hP hD hS hA (fun _ => rfl) (by decide) (by decide) (by decide) (Nat.le_of_ble_eq_true rfl) (Nat.le_of_ble_eq_true rfl) dX0_init_55 (fun q10 c10 H hK hP hD hS => ?_)
  have hP : va_P D vwCl [(h, .inr (0, [.int 0, .ref q1, .ref q2, .ref q3, .ref q4, .ref q5, .ref q6, .int 0, .int 0, .int 0, .null, .int 0, .null, .null, .null, .int 0, .null, .long 0, .int 0])), (q1, .inl (c1, 20, .inl (fun _ => 0))), (q2, .inl (c2, 20, .inl (fun _ => 0))), (q3, .inl (c3, 20, .inl (fun _ => 0))), (q4, .inl (c4, 20, .inl (fun _ => 0))), (q5, .inl (c5, 120, .inl (fun _ => 0))), (q6, .inl (c6, 120, .inl (fun _ => 0))), (q10, .inl (c10, 20, .inl (fun _ => 0)))] H := hP
  have hD : va_D A [(h, .inr (0, [.int 0, .ref q1, .ref q2, .ref q3, .ref q4, .ref q5, .ref q6, .int 0, .int 0, .int 0, .null, .int 0, .null, .null, .null, .int 0, .null, .long 0, .int 0])), (q1, .inl (c1, 20, .inl (fun _ => 0))), (q2, .inl (c2, 20, .inl (fun _ => 0))), (q3, .inl (c3, 20, .inl (fun _ => 0))), (q4, .inl (c4, 20, .inl (fun _ => 0))), (q5, .inl (c5, 120, .inl (fun _ => 0))), (q6, .inl (c6, 120, .inl (fun _ => 0))), (q10, .inl (c10, 20, .inl (fun _ => 0)))] := hD
  have hK : va_K D vwCl [(c1, .byte), (c2, .int), (c3, .byte), (c4, .byte), (c5, .byte), (c6, .int), (c10, .byte)] s := hK
  refine va_putF (D := D) (ci := 0) (v := .ref q10) (ty := .array .byte) (C := RX0) (T := TX0) (N := 19) hx hb hts in_X0 tyX0 tyX0_ok nmX0 hown hK hP hD hS 0 rfl rfl 10 (by decide) (hts _ q45) (fun _ h9 => h9) rfl hin rfl (by decide +kernel) rfl rfl (Nat.le_of_ble_eq_true rfl) dX0_init_57 (fun H locs hP hD hS => ?_)
  have hP : va_P D vwCl [(h, .inr (0, [.int 0, .ref q1, .ref q2, .ref q3, .ref q4, .ref q5, .ref q6, .int 0, .int 0, .int 0, .ref q10, .int 0, .null, .null, .null, .int 0, .null, .long 0, .int 0])), (q1, .inl (c1, 20, .inl (fun _ => 0))), (q2, .inl (c2, 20, .inl (fun _ => 0))), (q3, .inl (c3, 20, .inl (fun _ => 0))), (q4, .inl (c4, 20, .inl (fun _ => 0))), (q5, .inl (c5, 120, .inl (fun _ => 0))), (q6, .inl (c6, 120, .inl (fun _ => 0))), (q10, .inl (c10, 20, .inl (fun _ => 0)))] H := hP
  have hD : va_D A [(h, .inr (0, [.int 0, .ref q1, .ref q2, .ref q3, .ref q4, .ref q5, .ref q6, .int 0, .int 0, .int 0, .ref q10, .int 0, .null, .null, .null, .int 0, .null, .long 0, .int 0])), (q1, .inl (c1, 20, .inl (fun _ => 0))), (q2, .inl (c2, 20, .inl (fun _ => 0))), (q3, .inl (c3, 20, .inl (fun _ => 0))), (q4, .inl (c4, 20, .inl (fun _ => 0))), (q5, .inl (c5, 120, .inl (fun _ => 0))), (q6, .inl (c6, 120, .inl (fun _ => 0))), (q10, .inl (c10, 20, .inl (fun _ => 0)))] := hD
  refine lv_aload_n hx hb dX0_init_60 rfl (lv_at hl 0 rfl) ?_
  refine lv_sipush (v := 300) hx hb dX0_init_61 (by decide) ?_
  refine va_newa (atype := .byte) (ty := .byte) (a0 := (300, .inl (fun _ => 0))) hx hb (hts _ q93) rfl hK hP hD hS hA (fun _ => rfl) (by decide) (by decide) (by decide) (Nat.le_of_ble_eq_true rfl) (Nat.le_of_ble_eq_true rfl) dX0_init_64 (fun q12 c12 H hK hP hD hS => ?_)
  have hP : va_P D vwCl [(h, .inr (0, [.int 0, .ref q1, .ref q2, .ref q3, .ref q4, .ref q5, .ref q6, .int 0, .int 0, .int 0, .ref q10, .int 0, .null, .null, .null, .int 0, .null, .long 0, .int 0])), (q1, .inl (c1, 20, .inl (fun _ => 0))), (q2, .inl (c2, 20, .inl (fun _ => 0))), (q3, .inl (c3, 20, .inl (fun _ => 0))), (q4, .inl (c4, 20, .inl (fun _ => 0))), (q5, .inl (c5, 120, .inl (fun _ => 0))), (q6, .inl (c6, 120, .inl (fun _ => 0))), (q10, .inl (c10, 20, .inl (fun _ => 0))), (q12, .inl (c12, 300, .inl (fun _ => 0)))] H := hP
  have hD : va_D A [(h, .inr (0, [.int 0, .ref q1, .ref q2, .ref q3, .ref q4, .ref q5, .ref q6, .int 0, .int 0, .int 0, .ref q10, .int 0, .null, .null, .null, .int 0, .null, .long 0, .int 0])), (q1, .inl (c1, 20, .inl (fun _ => 0))), (q2, .inl (c2, 20, .inl (fun _ => 0))), (q3, .inl (c3, 20, .inl (fun _ => 0))), (q4, .inl (c4, 20, .inl (fun _ => 0))), (q5, .inl (c5, 120, .inl (fun _ => 0))), (q6, .inl (c6, 120, .inl (fun _ => 0))), (q10, .inl (c10, 20, .inl (fun _ => 0))), (q12, .inl (c12, 300, .inl (fun _ => 0)))] := hD
  have hK : va_K D vwCl [(c1, .byte), (c2, .int), (c3, .byte), (c4, .byte), (c5, .byte), (c6, .int), (c10, .byte), (c12, .byte)] s := hK
  refine va_putF (D := D) (ci := 0) (v := .ref q12) (ty := .array .byte) (C := RX0) (T := TX0) (N := 19) hx hb hts in_X0 tyX0 tyX0_ok nmX0 hown hK hP hD hS 0 rfl rfl 12 (by decide) (hts _ q47) (fun _ h9 => h9) rfl hin rfl (by decide +kernel) rfl rfl (Nat.le_of_ble_eq_true rfl) dX0_init_66 (fun H locs hP hD hS => ?_)
  have hP : va_P D vwCl [(h, .inr (0, [.int 0, .ref q1, .ref q2, .ref q3, .ref q4, .ref q5, .ref q6, .int 0, .int 0, .int 0, .ref q10, .int 0, .ref q12, .null, .null, .int 0, .null, .long 0, .int 0])), (q1, .inl (c1, 20, .inl (fun _ => 0))), (q2, .inl (c2, 20, .inl (fun _ => 0))), (q3, .inl (c3, 20, .inl (fun _ => 0))), (q4, .inl (c4, 20, .inl (fun _ => 0))), (q5, .inl (c5, 120, .inl (fun _ => 0))), (q6, .inl (c6, 120, .inl (fun _ => 0))), (q10, .inl (c10, 20, .inl (fun _ => 0))), (q12, .inl (c12, 300, .inl (fun _ => 0)))] H := hP
  have hD : va_D A [(h, .inr (0, [.int 0, .ref q1, .ref q2, .ref q3, .ref q4, .ref q5, .ref q6, .int 0, .int 0, .int 0, .ref q10, .int 0, .ref q12, .null, .null, .int 0, .null, .long 0, .int 0])), (q1, .inl (c1, 20, .inl (fun _ => 0))), (q2, .inl (c2, 20, .inl (fun _ => 0))), (q3, .inl (c3, 20, .inl (fun _ => 0))), (q4, .inl (c4, 20, .inl (fun _ => 0))), (q5, .inl (c5, 120, .inl (fun _ => 0))), (q6, .inl (c6, 120, .inl (fun _ => 0))), (q10, .inl (c10, 20, .inl (fun _ => 0))), (q12, .inl (c12, 300, .inl (fun _ => 0)))] := hD
  refine lv_aload_n hx hb dX0_init_69 rfl (lv_at hl 0 rfl) ?_
  refine lv_sipush (v := 300) hx hb dX0_init_70 (by decide) ?_
  refine va_newa (atype := .int) (ty := .int) (a0 := (300, .inl (fun _ => 0))) hx hb (hts _ q94) rfl hK hP hD hS hA (fun _ => rfl) (by decide) (by decide) (by decide) (Nat.le_of_ble_eq_true rfl) (Nat.le_of_ble_eq_true rfl) dX0_init_73 (fun q13 c13 H hK hP hD hS => ?_)
  have hP : va_P D vwCl [(h, .inr (0, [.int 0, .ref q1, .ref q2, .ref q3, .ref q4, .ref q5, .ref q6, .int 0, .int 0, .int 0, .ref q10, .int 0, .ref q12, .null, .null, .int 0, .null, .long 0, .int 0])), (q1, .inl (c1, 20, .inl (fun _ => 0))), (q2, .inl (c2, 20, .inl (fun _ => 0))), (q3, .inl (c3, 20, .inl (fun _ => 0))), (q4, .inl (c4, 20, .inl (fun _ => 0))), (q5, .inl (c5, 120, .inl (fun _ => 0))), (q6, .inl (c6, 120, .inl (fun _ => 0))), (q10, .inl (c10, 20, .inl (fun _ => 0))), (q12, .inl (c12, 300, .inl (fun _ => 0))), (q13, .inl (c13, 300, .inl (fun _ => 0)))] H := hP
  have hD : va_D A [(h, .inr (0, [.int 0, .ref q1, .ref q2, .ref q3, .ref q4, .ref q5, .ref q6, .int 0, .int 0, .int 0, .ref q10, .int 0, .ref q12, .null, .null, .int 0, .null, .long 0, .int 0])), (q1, .inl (c1, 20, .inl (fun _ => 0))), (q2, .inl (c2, 20, .inl (fun _ => 0))), (q3, .inl (c3, 20, .inl (fun _ => 0))), (q4, .inl (c4, 20, .inl (fun _ => 0))), (q5, .inl (c5, 120, .inl (fun _ => 0))), (q6, .inl (c6, 120, .inl (fun _ => 0))), (q10, .inl (c10, 20, .inl (fun _ => 0))), (q12, .inl (c12, 300, .inl (fun _ => 0))), (q13, .inl (c13, 300, .inl (fun _ => 0)))] := hD
  have hK : va_K D vwCl [(c1, .byte), (c2, .int), (c3, .byte), (c4, .byte), (c5, .byte), (c6, .int), (c10, .byte), (c12, .byte), (c13, .int)] s := hK
  refine va_putF (D := D) (ci := 0) (v := .ref q13) (ty := .array .int) (C := RX0) (T := TX0) (N := 19) hx hb hts in_X0 tyX0 tyX0_ok nmX0 hown hK hP hD hS 0 rfl rfl 13 (by decide) (hts _ q48) (fun _ h9 => h9) rfl hin rfl (by decide +kernel) rfl rfl (Nat.le_of_ble_eq_true rfl) dX0_init_75 (fun H locs hP hD hS => ?_)
  have hP : va_P D vwCl [(h, .inr (0, [.int 0, .ref q1, .ref q2, .ref q3, .ref q4, .ref q5, .ref q6, .int 0, .int 0, .int 0, .ref q10, .int 0, .ref q12, .ref q13, .null, .int 0, .null, .long 0, .int 0])), (q1, .inl (c1, 20, .inl (fun _ => 0))), (q2, .inl (c2, 20, .inl (fun _ => 0))), (q3, .inl (c3, 20, .inl (fun _ => 0))), (q4, .inl (c4, 20, .inl (fun _ => 0))), (q5, .inl (c5, 120, .inl (fun _ => 0))), (q6, .inl (c6, 120, .inl (fun _ => 0))), (q10, .inl (c10, 20, .inl (fun _ => 0))), (q12, .inl (c12, 300, .inl (fun _ => 0))), (q13, .inl (c13, 300, .inl (fun _ => 0)))] H := hP
  have hD : va_D A [(h, .inr (0, [.int 0, .ref q1, .ref q2, .ref q3, .ref q4, .ref q5, .ref q6, .int 0, .int 0, .int 0, .ref q10, .int 0, .ref q12, .ref q13, .null, .int 0, .null, .long 0, .int 0])), (q1, .inl (c1, 20, .inl (fun _ => 0))), (q2, .inl (c2, 20, .inl (fun _ => 0))), (q3, .inl (c3, 20, .inl (fun _ => 0))), (q4, .inl (c4, 20, .inl (fun _ => 0))), (q5, .inl (c5, 120, .inl (fun _ => 0))), (q6, .inl (c6, 120, .inl (fun _ => 0))), (q10, .inl (c10, 20, .inl (fun _ => 0))), (q12, .inl (c12, 300, .inl (fun _ => 0))), (q13, .inl (c13, 300, .inl (fun _ => 0)))] := hD
  refine lv_aload_n hx hb dX0_init_78 rfl (lv_at hl 0 rfl) ?_
  refine lv_sipush (v := 300) hx hb dX0_init_79 (by decide) ?_
  refine va_newa (atype := .byte) (ty := .byte) (a0 := (300, .inl (fun _ => 0))) hx hb (hts _ q93) rfl hK hP hD hS hA (fun _ => rfl) (by decide) (by decide) (by decide) (Nat.le_of_ble_eq_true rfl) (Nat.le_of_ble_eq_true rfl) dX0_init_82 (fun q14 c14 H hK hP hD hS => ?_)
  have hP : va_P D vwCl [(h, .inr (0, [.int 0, .ref q1, .ref q2, .ref q3, .ref q4, .ref q5, .ref q6, .int 0, .int 0, .int 0, .ref q10, .int 0, .ref q12, .ref q13, .null, .int 0, .null, .long 0, .int 0])), (q1, .inl (c1, 20, .inl (fun _ => 0))), (q2, .inl (c2, 20, .inl (fun _ => 0))), (q3, .inl (c3, 20, .inl (fun _ => 0))), (q4, .inl (c4, 20, .inl (fun _ => 0))), (q5, .inl (c5, 120, .inl (fun _ => 0))), (q6, .inl (c6, 120, .inl (fun _ => 0))), (q10, .inl (c10, 20, .inl (fun _ => 0))), (q12, .inl (c12, 300, .inl (fun _ => 0))), (q13, .inl (c13, 300, .inl (fun _ => 0))), (q14, .inl (c14, 300, .inl (fun _ => 0)))] H := hP
  have hD : va_D A [(h, .inr (0, [.int 0, .ref q1, .ref q2, .ref q3, .ref q4, .ref q5, .ref q6, .int 0, .int 0, .int 0, .ref q10, .int 0, .ref q12, .ref q13, .null, .int 0, .null, .long 0, .int 0])), (q1, .inl (c1, 20, .inl (fun _ => 0))), (q2, .inl (c2, 20, .inl (fun _ => 0))), (q3, .inl (c3, 20, .inl (fun _ => 0))), (q4, .inl (c4, 20, .inl (fun _ => 0))), (q5, .inl (c5, 120, .inl (fun _ => 0))), (q6, .inl (c6, 120, .inl (fun _ => 0))), (q10, .inl (c10, 20, .inl (fun _ => 0))), (q12, .inl (c12, 300, .inl (fun _ => 0))), (q13, .inl (c13, 300, .inl (fun _ => 0))), (q14, .inl (c14, 300, .inl (fun _ => 0)))] := hD
  have hK : va_K D vwCl [(c1, .byte), (c2, .int), (c3, .byte), (c4, .byte), (c5, .byte), (c6, .int), (c10, .byte), (c12, .byte), (c13, .int), (c14, .byte)] s := hK
  refine va_putF (D := D) (ci := 0) (v := .ref q14) (ty := .array .byte) (C := RX0) (T := TX0) (N := 19) hx hb hts in_X0 tyX0 tyX0_ok nmX0 hown hK hP hD hS 0 rfl rfl 14 (by decide) (hts _ q49) (fun _ h9 => h9) rfl hin rfl (by decide +kernel) rfl rfl (Nat.le_of_ble_eq_true rfl) dX0_init_84 (fun H locs hP hD hS => ?_)
  have hP : va_P D vwCl [(h, .inr (0, [.int 0, .ref q1, .ref q2, .ref q3, .ref q4, .ref q5, .ref q6, .int 0, .int 0, .int 0, .ref q10, .int 0, .ref q12, .ref q13, .ref q14, .int 0, .null, .long 0, .int 0])), (q1, .inl (c1, 20, .inl (fun _ => 0))), (q2, .inl (c2, 20, .inl (fun _ => 0))), (q3, .inl (c3, 20, .inl (fun _ => 0))), (q4, .inl (c4, 20, .inl (fun _ => 0))), (q5, .inl (c5, 120, .inl (fun _ => 0))), (q6, .inl (c6, 120, .inl (fun _ => 0))), (q10, .inl (c10, 20, .inl (fun _ => 0))), (q12, .inl (c12, 300, .inl (fun _ => 0))), (q13, .inl (c13, 300, .inl (fun _ => 0))), (q14, .inl (c14, 300, .inl (fun _ => 0)))] H := hP
  have hD : va_D A [(h, .inr (0, [.int 0, .ref q1, .ref q2, .ref q3, .ref q4, .ref q5, .ref q6, .int 0, .int 0, .int 0, .ref q10, .int 0, .ref q12, .ref q13, .ref q14, .int 0, .null, .long 0, .int 0])), (q1, .inl (c1, 20, .inl (fun _ => 0))), (q2, .inl (c2, 20, .inl (fun _ => 0))), (q3, .inl (c3, 20, .inl (fun _ => 0))), (q4, .inl (c4, 20, .inl (fun _ => 0))), (q5, .inl (c5, 120, .inl (fun _ => 0))), (q6, .inl (c6, 120, .inl (fun _ => 0))), (q10, .inl (c10, 20, .inl (fun _ => 0))), (q12, .inl (c12, 300, .inl (fun _ => 0))), (q13, .inl (c13, 300, .inl (fun _ => 0))), (q14, .inl (c14, 300, .inl (fun _ => 0)))] := hD
  refine lv_aload_n hx hb dX0_init_87 rfl (lv_at hl 0 rfl) ?_
  refine lv_bipush (v := 42) hx hb dX0_init_88 (by decide) ?_
  refine va_newa (atype := .int) (ty := .int) (a0 := (42, .inl (fun _ => 0))) hx hb (hts _ q94) rfl hK hP hD hS hA (fun _ => rfl) (by decide) (by decide) (by decide) (Nat.le_of_ble_eq_true rfl) (Nat.le_of_ble_eq_true rfl) dX0_init_90 (fun q16 c16 H hK hP hD hS => ?_)
  have hP : va_P D vwCl [(h, .inr (0, [.int 0, .ref q1, .ref q2, .ref q3, .ref q4, .ref q5, .ref q6, .int 0, .int 0, .int 0, .ref q10, .int 0, .ref q12, .ref q13, .ref q14, .int 0, .null, .long 0, .int 0])), (q1, .inl (c1, 20, .inl (fun _ => 0))), (q2, .inl (c2, 20, .inl (fun _ => 0))), (q3, .inl (c3, 20, .inl (fun _ => 0))), (q4, .inl (c4, 20, .inl (fun _ => 0))), (q5, .inl (c5, 120, .inl (fun _ => 0))), (q6, .inl (c6, 120, .inl (fun _ => 0))), (q10, .inl (c10, 20, .inl (fun _ => 0))), (q12, .inl (c12, 300, .inl (fun _ => 0))), (q13, .inl (c13, 300, .inl (fun _ => 0))), (q14, .inl (c14, 300, .inl (fun _ => 0))), (q16, .inl (c16, 42, .inl (fun _ => 0)))] H := hP
  have hD : va_D A [(h, .inr (0, [.int 0, .ref q1, .ref q2, .ref q3, .ref q4, .ref q5, .ref q6, .int 0, .int 0, .int 0, .ref q10, .int 0, .ref q12, .ref q13, .ref q14, .int 0, .null, .long 0, .int 0])), (q1, .inl (c1, 20, .inl (fun _ => 0))), (q2, .inl (c2, 20, .inl (fun _ => 0))), (q3, .inl (c3, 20, .inl (fun _ => 0))), (q4, .inl (c4, 20, .inl (fun _ => 0))), (q5, .inl (c5, 120, .inl (fun _ => 0))), (q6, .inl (c6, 120, .inl (fun _ => 0))), (q10, .inl (c10, 20, .inl (fun _ => 0))), (q12, .inl (c12, 300, .inl (fun _ => 0))), (q13, .inl (c13, 300, .inl (fun _ => 0))), (q14, .inl (c14, 300, .inl (fun _ => 0))), (q16, .inl (c16, 42, .inl (fun _ => 0)))] := hD
  have hK : va_K D vwCl [(c1, .byte), (c2, .int), (c3, .byte), (c4, .byte), (c5, .byte), (c6, .int), (c10, .byte), (c12, .byte), (c13, .int), (c14, .byte), (c16, .int)] s := hK
  refine va_putF (D := D) (ci := 0) (v := .ref q16) (ty := .array .int) (C := RX0) (T := TX0) (N := 19) hx hb hts in_X0 tyX0 tyX0_ok nmX0 hown hK hP hD hS 0 rfl rfl 16 (by decide) (hts _ q51) (fun _ h9 => h9) rfl hin rfl (by decide +kernel) rfl rfl (Nat.le_of_ble_eq_true rfl) dX0_init_92 (fun H locs hP hD hS => ?_)
  have hP : va_P D vwCl [(h, .inr (0, [.int 0, .ref q1, .ref q2, .ref q3, .ref q4, .ref q5, .ref q6, .int 0, .int 0, .int 0, .ref q10, .int 0, .ref q12, .ref q13, .ref q14, .int 0, .ref q16, .long 0, .int 0])), (q1, .inl (c1, 20, .inl (fun _ => 0))), (q2, .inl (c2, 20, .inl (fun _ => 0))), (q3, .inl (c3, 20, .inl (fun _ => 0))), (q4, .inl (c4, 20, .inl (fun _ => 0))), (q5, .inl (c5, 120, .inl (fun _ => 0))), (q6, .inl (c6, 120, .inl (fun _ => 0))), (q10, .inl (c10, 20, .inl (fun _ => 0))), (q12, .inl (c12, 300, .inl (fun _ => 0))), (q13, .inl (c13, 300, .inl (fun _ => 0))), (q14, .inl (c14, 300, .inl (fun _ => 0))), (q16, .inl (c16, 42, .inl (fun _ => 0)))] H := hP
  have hD : va_D A [(h, .inr (0, [.int 0, .ref q1, .ref q2, .ref q3, .ref q4, .ref q5, .ref q6, .int 0, .int 0, .int 0, .ref q10, .int 0, .ref q12, .ref q13, .ref q14, .int 0, .ref q16, .long 0, .int 0])), (q1, .inl (c1, 20, .inl (fun _ => 0))), (q2, .inl (c2, 20, .inl (fun _ => 0))), (q3, .inl (c3, 20, .inl (fun _ => 0))), (q4, .inl (c4, 20, .inl (fun _ => 0))), (q5, .inl (c5, 120, .inl (fun _ => 0))), (q6, .inl (c6, 120, .inl (fun _ => 0))), (q10, .inl (c10, 20, .inl (fun _ => 0))), (q12, .inl (c12, 300, .inl (fun _ => 0))), (q13, .inl (c13, 300, .inl (fun _ => 0))), (q14, .inl (c14, 300, .inl (fun _ => 0))), (q16, .inl (c16, 42, .inl (fun _ => 0)))] := hD
  refine lv_aload_n hx hb dX0_init_95 rfl (lv_at hl 0 rfl) ?_
  refine lv_iconst (v := (-1)) hx hb dX0_init_96 (by decide) ?_
  refine va_put (D := D) (ci := 0) (v := .int (-1)) (ty := .int) (C := RX0) (T := TX0) (N := 19) hx hb hts in_X0 tyX0 tyX0_ok nmX0 hown hK hP hD hS 0 rfl rfl 15 (by decide) (hts _ q50) (fun _ h9 => h9) rfl (by decide +kernel) rfl rfl (Nat.le_of_ble_eq_true rfl) dX0_init_97 (fun H locs hP hD hS => ?_)
  have hP : va_P D vwCl [(h, .inr (0, [.int 0, .ref q1, .ref q2, .ref q3, .ref q4, .ref q5, .ref q6, .int 0, .int 0, .int 0, .ref q10, .int 0, .ref q12, .ref q13, .ref q14, .int (-1), .ref q16, .long 0, .int 0])), (q1, .inl (c1, 20, .inl (fun _ => 0))), (q2, .inl (c2, 20, .inl (fun _ => 0))), (q3, .inl (c3, 20, .inl (fun _ => 0))), (q4, .inl (c4, 20, .inl (fun _ => 0))), (q5, .inl (c5, 120, .inl (fun _ => 0))), (q6, .inl (c6, 120, .inl (fun _ => 0))), (q10, .inl (c10, 20, .inl (fun _ => 0))), (q12, .inl (c12, 300, .inl (fun _ => 0))), (q13, .inl (c13, 300, .inl (fun _ => 0))), (q14, .inl (c14, 300, .inl (fun _ => 0))), (q16, .inl (c16, 42, .inl (fun _ => 0)))] H := hP
  have hD : va_D A [(h, .inr (0, [.int 0, .ref q1, .ref q2, .ref q3, .ref q4, .ref q5, .ref q6, .int 0, .int 0, .int 0, .ref q10, .int 0, .ref q12, .ref q13, .ref q14, .int (-1), .ref q16, .long 0, .int 0])), (q1, .inl (c1, 20, .inl (fun _ => 0))), (q2, .inl (c2, 20, .inl (fun _ => 0))), (q3, .inl (c3, 20, .inl (fun _ => 0))), (q4, .inl (c4, 20, .inl (fun _ => 0))), (q5, .inl (c5, 120, .inl (fun _ => 0))), (q6, .inl (c6, 120, .inl (fun _ => 0))), (q10, .inl (c10, 20, .inl (fun _ => 0))), (q12, .inl (c12, 300, .inl (fun _ => 0))), (q13, .inl (c13, 300, .inl (fun _ => 0))), (q14, .inl (c14, 300, .inl (fun _ => 0))), (q16, .inl (c16, 42, .inl (fun _ => 0)))] := hD
  refine W.widen (k := 11) (n := 1282) (by decide) (by decide) ?_
  exact zz_cret hx hb hr hlocks (pkX q1 q2 q3 q4 q5 q6 q10 q12 q13 q14 q16, pkX c1 c2 c3 c4 c5 c6 c10 c12 c13 c14 c16) hK hQ hS hP hD dX0_init_100
abbrev rmX1_init : Room := { frames := 1, cells := 9, slots := 380, locals := 12 }
abbrev fsX1 : List Value := [.int 0, .null, .null, .null, .null, .null, .null, .null, .null, .int 0, .null]
set_option maxHeartbeats 4000000 in
/-- the constructor: 9 arrays -/
theorem metX1_init (l : Launch) {D : va_G} {h : Nat} (sz : Nat) : MetC l yX1_init cX1_init 1 9 380 rmX1_init D vwCl [(h, .inr (1, fsX1))] sz [.ref h] (fun u : (Nat → Nat) × (Nat → ClassId) => wM h u.1 u.2 (0, (fun _ => 0), (fun _ => 0), (fun _ => 0), (fun _ => 0), (fun _ => 0), (fun _ => 0)) (fun _ => 0) (fun _ => 0) (fun _ => 0) 0) (fun u => tM u.2) := by
  refine zz_startC (own := RX1) (fun A => va_Qv (fun _ : (Nat → Nat) × (Nat → ClassId) => True) (fun u t => va_P D vwCl (wM h u.1 u.2 (0, (fun _ => 0), (fun _ => 0), (fun _ => 0), (fun _ => 0), (fun _ => 0), (fun _ => 0)) (fun _ => 0) (fun _ => 0) (fun _ => 0) 0) t.heap ∧ va_K D vwCl (tM u.2) t ∧ va_D A (wM h u.1 u.2 (0, (fun _ => 0), (fun _ => 0), (fun _ => 0), (fun _ => 0), (fun _ => 0), (fun _ => 0)) (fun _ => 0) (fun _ => 0) (fun _ => 0) 0)) A) (by decide) rfl rfl (Nat.le_of_ble_eq_true rfl) ?_
  intro p e s m below meth c Q A ls args hx hb hr hml hown hts hlocks hin hA hK hP hD hS hl hQ
  have hl : lv_has ls 1 [(0, .ref h)] := hl
  refine lv_aload_n hx hb dX1_init_0 rfl (lv_at hl 0 rfl) ?_
  refine W.objInit hx hb hown (hts _ q209) (hts _ q33) (hts _ q34) rfl (by rw [hml]; exact hl.1) rfl dX1_init_1 (Nat.le_of_ble_eq_true rfl) (Nat.le_of_ble_eq_true rfl) ?_
  refine W.eq (g2 := F0 m 4 ls []) rfl ?_
  refine lv_aload_n hx hb dX1_init_4 rfl (lv_at hl 0 rfl) ?_
  refine lv_iconst (v := 0) hx hb dX1_init_5 (by decide) ?_
  refine va_put (D := D) (ci := 1) (v := .int 0) (ty := .int) (C := RX1) (T := TX1) (N := 11) hx hb hts in_X1 tyX1 tyX1_ok nmX1 hown hK hP hD hS 0 rfl rfl 0 (by decide) (hts _ q210) (fun _ h9 => h9) rfl (by decide +kernel) rfl rfl (Nat.le_of_ble_eq_true rfl) dX1_init_6 (fun H locs hP hD hS => ?_)
  have hP : va_P D vwCl [(h, .inr (1, [.int 0, .null, .null, .null, .null, .null, .null, .null, .null, .int 0, .null]))] H := hP
  have hD : va_D A [(h, .inr (1, [.int 0, .null, .null, .null, .null, .null, .null, .null, .null, .int 0, .null]))] := hD
  refine lv_aload_n hx hb dX1_init_9 rfl (lv_at hl 0 rfl) ?_
  refine lv_bipush (v := 20) hx hb dX1_init_10 (by decide) ?_
  refine va_newa (atype := .int) (ty := .int) (a0 := (20, .inl (fun _ => 0))) hx hb (hts _ q94) rfl hK hP hD hS hA (fun _ => rfl) (by decide) (by decide) (by decide) (Nat.le_of_ble_eq_true rfl) (Nat.le_of_ble_eq_true rfl) dX1_init_12 (fun q1 c1 H hK hP hD hS => ?_)
  have hP : va_P D vwCl [(h, .inr (1, [.int 0, .null, .null, .null, .null, .null, .null, .null, .null, .int 0, .null])), (q1, .inl (c1, 20, .inl (fun _ => 0)))] H := hP
  have hD : va_D A [(h, .inr (1, [.int 0, .null, .null, .null, .null, .null, .null, .null, .null, .int 0, .null])), (q1, .inl (c1, 20, .inl (fun _ => 0)))] := hD
  have hK : va_K D vwCl [(c1, .int)] s := hK
  refine va_put (D := D) (ci := 1) (v := .ref q1) (ty := .array .int) (C := RX1) (T := TX1) (N := 11) hx hb hts in_X1 tyX1 tyX1_ok nmX1 hown hK hP hD hS 0 rfl rfl 1 (by decide) (hts _ q211) (fun _ h9 => h9) rfl (by decide +kernel) rfl rfl (Nat.le_of_ble_eq_true rfl) dX1_init_14 (fun H locs hP hD hS => ?_)
  have hP : va_P D vwCl [(h, .inr (1, [.int 0, .ref q1, .null, .null, .null, .null, .null, .null, .null, .int 0, .null])), (q1, .inl (c1, 20, .inl (fun _ => 0)))] H := hP
  have hD : va_D A [(h, .inr (1, [.int 0, .ref q1, .null, .null, .null, .null, .null, .null, .null, .int 0, .null])), (q1, .inl (c1, 20, .inl (fun _ => 0)))] := hD
  refine lv_aload_n hx hb dX1_init_17 rfl (lv_at hl 0 rfl) ?_
  refine lv_bipush (v := 20) hx hb dX1_init_18 (by decide) ?_
  refine va_newa (atype := .int) (ty := .int) (a0 := (20, .inl (fun _ => 0))) hx hb (hts _ q94) rfl hK hP hD hS hA (fun _ => rfl) (by decide) (by decide) (by decide) (Nat.le_of_ble_eq_true rfl) (Nat.le_of_ble_eq_true rfl) dX1_init_20 (fun q2 c2 H hK hP hD hS => ?_)
  have hP : va_P D vwCl [(h, .inr (1, [.int 0, .ref q1, .null, .null, .null, .null, .null, .null, .null, .int 0, .null])), (q1, .inl (c1, 20, .inl (fun _ => 0))), (q2, .inl (c2, 20, .inl (fun _ => 0)))] H := hP
  have hD : va_D A [(h, .inr (1, [.int 0, .ref q1, .null, .null, .null, .null, .null, .null, .null, .int 0, .null])), (q1, .inl (c1, 20, .inl (fun _ => 0))), (q2, .inl (c2, 20, .inl (fun _ => 0)))] := hD
  have hK : va_K D vwCl [(c1, .int), (c2, .int)] s := hK
  refine va_put (D := D) (ci := 1) (v := .ref q2) (ty := .array .int) (C := RX1) (T := TX1) (N := 11) hx hb hts in_X1 tyX1 tyX1_ok nmX1 hown hK hP hD hS 0 rfl rfl 2 (by decide) (hts _ q212) (fun _ h9 => h9) rfl (by decide +kernel) rfl rfl (Nat.le_of_ble_eq_true rfl) dX1_init_22 (fun H locs hP hD hS => ?_)
  have hP : va_P D vwCl [(h, .inr (1, [.int 0, .ref q1, .ref q2, .null, .null, .null, .null, .null, .null, .int 0, .null])), (q1, .inl (c1, 20, .inl (fun _ => 0))), (q2, .inl (c2, 20, .inl (fun _ => 0)))] H := hP
  have hD : va_D A [(h, .inr (1, [.int 0, .ref q1, .ref q2, .null, .null, .null, .null, .null, .null, .int 0, .null])), (q1, .inl (c1, 20, .inl (fun _ => 0))), (q2, .inl (c2, 20, .inl (fun _ => 0)))] := hD
  refine lv_aload_n hx hb dX1_init_25 rfl (lv_at hl 0 rfl) ?_
  refine lv_bipush (v := 20) hx hb dX1_init_26 (by decide) ?_
  refine va_newa (atype := .int) (ty := .int) (a0 := (20, .inl (fun _ => 0))) hx hb (hts _ q94) rfl hK hP hD hS hA (fun _ => rfl) (by decide) (by decide) (by decide) (Nat.le_of_ble_eq_true rfl) (Nat.le_of_ble_eq_true rfl) dX1_init_28 (fun q3 c3 H hK hP hD hS => ?_)
  have hP : va_P D vwCl [(h, .inr (1, [.int 0, .ref q1, .ref q2, .null, .null, .null, .null, .null, .null, .int 0, .null])), (q1, .inl (c1, 20, .inl (fun _ => 0))), (q2, .inl (c2, 20, .inl (fun _ => 0))), (q3, .inl (c3, 20, .inl (fun _ => 0)))] H := hP
  have hD : va_D A [(h, .inr (1, [.int 0, .ref q1, .ref q2, .null, .null, .null, .null, .null, .null, .int 0, .null])), (q1, .inl (c1, 20, .inl (fun _ => 0))), (q2, .inl (c2, 20, .inl (fun _ => 0))), (q3, .inl (c3, 20, .inl (fun _ => 0)))] := hD
  have hK : va_K D vwCl [(c1, .int), (c2, .int), (c3, .int)] s := hK
  refine va_put (D := D) (ci := 1) (v := .ref q3) (ty := .array .int) (C := RX1) (T := TX1) (N := 11) hx hb hts in_X1 tyX1 tyX1_ok nmX1 hown hK hP hD hS 0 rfl rfl 3 (by decide) (hts _ q213) (fun _ h9 => h9) rfl (by decide +kernel) rfl rfl (Nat.le_of_ble_eq_true rfl) dX1_init_30 (fun H locs hP hD hS => ?_)
  have hP : va_P D vwCl [(h, .inr (1, [.int 0, .ref q1, .ref q2, .ref q3, .null, .null, .null, .null, .null, .int 0, .null])), (q1, .inl (c1, 20, .inl (fun _ => 0))), (q2, .inl (c2, 20, .inl (fun _ => 0))), (q3, .inl (c3, 20, .inl (fun _ => 0)))] H := hP
  have hD : va_D A [(h, .inr (1, [.int 0, .ref q1, .ref q2, .ref q3, .null, .null, .null, .null, .null, .int 0, .null])), (q1, .inl (c1, 20, .inl (fun _ => 0))), (q2, .inl (c2, 20, .inl (fun _ => 0))), (q3, .inl (c3, 20, .inl (fun _ => 0)))] := hD
  refine lv_aload_n hx hb dX1_init_33 rfl (lv_at hl 0 rfl) ?_
  refine lv_bipush (v := 20) hx hb dX1_init_34 (by decide) ?_
  refine va_newa (atype := .int) (ty := .int) (a0 := (20, .inl (fun _ => 0))) hx hb (hts _ q94) rfl hK hP hD hS hA (fun _ => rfl) (by decide) (by decide) (by decide) (Nat.le_of_ble_eq_true rfl) (Nat.le_of_ble_eq_true rfl) dX1_init_36 (fun q4 c4 H hK hP hD hS => ?_)
  have hP : va_P D vwCl [(h, .inr (1, [.int 0, .ref q1, .ref q2, .ref q3, .null, .null, .null, .null, .null, .int 0, .null])), (q1, .inl (c1, 20, .inl (fun _ => 0))), (q2, .inl (c2, 20, .inl (fun _ => 0))), (q3, .inl (c3, 20, .inl (fun _ => 0))), (q4, .inl (c4, 20, .inl (fun _ => 0)))] H := hP
  have hD : va_D A [(h, .inr (1, [.int 0, .ref q1, .ref q2, .ref q3, .null, .null, .null, .null, .null, .int 0, .null])), (q1, .inl (c1, 20, .inl (fun _ => 0))), (q2, .inl (c2, 20, .inl (fun _ => 0))), (q3, .inl (c3, 20, .inl (fun _ => 0))), (q4, .inl (c4, 20, .inl (fun _ => 0)))] := hD
  have hK : va_K D vwCl [(c1, .int), (c2, .int), (c3, .int), (c4, .int)] s := hK
  refine va_put (D := D) (ci := 1) (v := .ref q4) (ty := .array .int) (C := RX1) (T := TX1) (N := 11) hx hb hts in_X1 tyX1 tyX1_ok nmX1 hown hK hP hD hS 0 rfl rfl 4 (by decide) (hts _ q214) (fun _ h9 => h9) rfl (by decide +kernel) rfl rfl (Nat.le_of_ble_eq_true rfl) dX1_init_38 (fun H locs hP hD hS => ?_)
  have hP : va_P D vwCl [(h, .inr (1, [.int 0, .ref q1, .ref q2, .ref q3, .ref q4, .null, .null, .null, .null, .int 0, .null])), (q1, .inl (c1, 20, .inl (fun _ => 0))), (q2, .inl (c2, 20, .inl (fun _ => 0))), (q3, .inl (c3, 20, .inl (fun _ => 0))), (q4, .inl (c4, 20, .inl (fun _ => 0)))] H := hP
  have hD : va_D A [(h, .inr (1, [.int 0, .ref q1, .ref q2, .ref q3, .ref q4, .null, .null, .null, .null, .int 0, .null])), (q1, .inl (c1, 20, .inl (fun _ => 0))), (q2, .inl (c2, 20, .inl (fun _ => 0))), (q3, .inl (c3, 20, .inl (fun _ => 0))), (q4, .inl (c4, 20, .inl (fun _ => 0)))] := hD
  refine lv_aload_n hx hb dX1_init_41 rfl (lv_at hl 0 rfl) ?_
  refine lv_bipush (v := 120) hx hb dX1_init_42 (by decide) ?_
  refine va_newa (atype := .int) (ty := .int) (a0 := (120, .inl (fun _ => 0))) hx hb (hts _ q94) rfl hK hP hD hS hA (fun _ => rfl) (by decide) (by decide) (by decide) (Nat.le_of_ble_eq_true rfl) (Nat.le_of_ble_eq_true rfl) dX1_init_44 (fun q5 c5 H hK hP hD hS => ?_)
  have hP : va_P D vwCl [(h, .inr (1, [.int 0, .ref q1, .ref q2, .ref q3, .ref q4, .null, .null, .null, .null, .int 0, .null])), (q1, .inl (c1, 20, .inl (fun _ => 0))), (q2, .inl (c2, 20, .inl (fun _ => 0))), (q3, .inl (c3, 20, .inl (fun _ => 0))), (q4, .inl (c4, 20, .inl (fun _ => 0))), (q5, .inl (c5, 120, .inl (fun _ => 0)))] H := hP
  have hD : va_D A [(h, .inr (1, [.int 0, .ref q1, .ref q2, .ref q3, .ref q4, .null, .null, .null, .null, .int 0, .null])), (q1, .inl (c1, 20, .inl (fun _ => 0))), (q2, .inl (c2, 20, .inl (fun _ => 0))), (q3, .inl (c3, 20, .inl (fun _ => 0))), (q4, .inl (c4, 20, .inl (fun _ => 0))), (q5, .inl (c5, 120, .inl (fun _ => 0)))] := hD
  have hK : va_K D vwCl [(c1, .int), (c2, .int), (c3, .int), (c4, .int), (c5, .int)] s := hK
  refine va_put (D := D) (ci := 1) (v := .ref q5) (ty := .array .int) (C := RX1) (T := TX1) (N := 11) hx hb hts in_X1 tyX1 tyX1_ok nmX1 hown hK hP hD hS 0 rfl rfl 5 (by decide) (hts _ q215) (fun _ h9 => h9) rfl (by decide +kernel) rfl rfl (Nat.le_of_ble_eq_true rfl) dX1_init_46 (fun H locs hP hD hS => ?_)
  have hP : va_P D vwCl [(h, .inr (1, [.int 0, .ref q1, .ref q2, .ref q3, .ref q4, .ref q5, .null, .null, .null, .int 0, .null])), (q1, .inl (c1, 20, .inl (fun _ => 0))), (q2, .inl (c2, 20, .inl (fun _ => 0))), (q3, .inl (c3, 20, .inl (fun _ => 0))), (q4, .inl (c4, 20, .inl (fun _ => 0))), (q5, .inl (c5, 120, .inl (fun _ => 0)))] H := hP
  have hD : va_D A [(h, .inr (1, [.int 0, .ref q1, .ref q2, .ref q3, .ref q4, .ref q5, .null, .null, .null, .int 0, .null])), (q1, .inl (c1, 20, .inl (fun _ => 0))), (q2, .inl (c2, 20, .inl (fun _ => 0))), (q3, .inl (c3, 20, .inl (fun _ => 0))), (q4, .inl (c4, 20, .inl (fun _ => 0))), (q5, .inl (c5, 120, .inl (fun _ => 0)))] := hD
  refine lv_aload_n hx hb dX1_init_49 rfl (lv_at hl 0 rfl) ?_
  refine lv_bipush (v := 120) hx hb dX1_init_50 (by decide) ?_
  refine va_newa (atype := .int) (ty := .int) (a0 := (120, .inl (fun _ => 0))) hx hb (hts _ q94) rfl hK hP hD hS hA (fun _ => rfl) (by decide) (by decide) (by decide) (Nat.le_of_ble_eq_true rfl) (Nat.le_of_ble_eq_true rfl) dX1_init_52 (fun q6 c6 H hK hP hD hS => ?_)
  have hP : va_P D vwCl [(h, .inr (1, [.int 0, .ref q1, .ref q2, .ref q3, .ref q4, .ref q5, .null, .null, .null, .int 0, .null])), (q1, .inl (c1, 20, .inl (fun _ => 0))), (q2, .inl (c2, 20, .inl (fun _ => 0))), (q3, .inl (c3, 20, .inl (fun _ => 0))), (q4, .inl (c4, 20, .inl (fun _ => 0))), (q5, .inl (c5, 120, .inl (fun _ => 0))), (q6, .inl (c6, 120, .inl (fun _ => 0)))] H := hP
  have hD : va_D A [(h, .inr (1, [.int 0, .ref q1, .ref q2, .ref q3, .ref q4, .ref q5, .null, .null, .null, .int 0, .null])), (q1, .inl (c1, 20, .inl (fun _ => 0))), (q2, .inl (c2, 20, .inl (fun _ => 0))), (q3, .inl (c3, 20, .inl (fun _ => 0))), (q4, .inl (c4, 20, .inl (fun _ => 0))), (q5, .inl (c5, 120, .inl (fun _ => 0))), (q6, .inl (c6, 120, .inl (fun _ => 0)))] := hD
  have hK : va_K D vwCl [(c1, .int), (c2, .int), (c3, .int), (c4, .int), (c5, .int), (c6, .int)] s := hK
  refine va_put (D := D) (ci := 1) (v := .ref q6) (ty := .array .int) (C := RX1) (T := TX1) (N := 11) hx hb hts in_X1 tyX1 tyX1_ok nmX1 hown hK hP hD hS 0 rfl rfl 6 (by decide) (hts _ q216) (fun _ h9 => h9) rfl (by decide +kernel) rfl rfl (Nat.le_of_ble_eq_true rfl) dX1_init_54 (fun H locs hP hD hS => ?_)
  have hP : va_P D vwCl [(h, .inr (1, [.int 0, .ref q1, .ref q2, .ref q3, .ref q4, .ref q5, .ref q6, .null, .null, .int 0, .null])), (q1, .inl (c1, 20, .inl (fun _ => 0))), (q2, .inl (c2, 20, .inl (fun _ => 0))), (q3, .inl (c3, 20, .inl (fun _ => 0))), (q4, .inl (c4, 20, .inl (fun _ => 0))), (q5, .inl (c5, 120, .inl (fun _ => 0))), (q6, .inl (c6, 120, .inl (fun _ => 0)))] H := hP
  have hD : va_D A [(h, .inr (1, [.int 0, .ref q1, .ref q2, .ref q3, .ref q4, .ref q5, .ref q6, .null, .null, .int 0, .null])), (q1, .inl (c1, 20, .inl (fun _ => 0))), (q2, .inl (c2, 20, .inl (fun _ => 0))), (q3, .inl (c3, 20, .inl (fun _ => 0))), (q4, .inl (c4, 20, .inl (fun _ => 0))), (q5, .inl (c5, 120, .inl (fun _ => 0))), (q6, .inl (c6, 120, .inl (fun _ => 0)))] := hD
  refine lv_aload_n hx hb dX1_init_57 rfl (lv_at hl 0 rfl) ?_
  refine lv_bipush (v := 20) hx hb dX1_init_58 (by decide) ?_
  refine va_newa (atype := .int) (ty := .int) (a0 := (20, .inl (fun _ => 0))) hx hb (hts _ q94) rfl hK hP hD hS hA (fun _ => rfl) (by decide) (by decide) (by decide) (Nat.le_of_ble_eq_true rfl) (Nat.le_of_ble_eq_true rfl) dX1_init_60 (fun q7 c7 H hK hP hD hS => ?_)
  have hP : va_P D vwCl [(h, .inr (1, [.int 0, .ref q1, .ref q2, .ref q3, .ref q4, .ref q5, .ref q6, .null, .null, .int 0, .null])), (q1, .inl (c1, 20, .inl (fun _ => 0))), (q2, .inl (c2, 20, .inl (fun _ => 0))), (q3, .inl (c3, 20, .inl (fun _ => 0))), (q4, .inl (c4, 20, .inl (fun _ => 0))), (q5, .inl (c5, 120, .inl (fun _ => 0))), (q6, .inl (c6, 120, .inl (fun _ => 0))), (q7, .inl (c7, 20, .inl (fun _ => 0)))] H := hP
  have hD : va_D A [(h, .inr (1, [.int 0, .ref q1, .ref q2, .ref q3, .ref q4, .ref q5, .ref q6, .null, .null, .int 0, .null])), (q1, .inl (c1, 20, .inl (fun _ => 0))), (q2, .inl (c2, 20, .inl (fun _ => 0))), (q3, .inl (c3, 20, .inl (fun _ => 0))), (q4, .inl (c4, 20, .inl (fun _ => 0))), (q5, .inl (c5, 120, .inl (fun _ => 0))), (q6, .inl (c6, 120, .inl (fun _ => 0))), (q7, .inl (c7, 20, .inl (fun _ => 0)))] := hD
  have hK : va_K D vwCl [(c1, .int), (c2, .int), (c3, .int), (c4, .int), (c5, .int), (c6, .int), (c7, .int)] s := hK
  refine va_put (D := D) (ci := 1) (v := .ref q7) (ty := .array .int) (C := RX1) (T := TX1) (N := 11) hx hb hts in_X1 tyX1 tyX1_ok nmX1 hown hK hP hD hS 0 rfl rfl 7 (by decide) (hts _ q217) (fun _ h9 => h9) rfl (by decide +kernel) rfl rfl (Nat.le_of_ble_eq_true rfl) dX1_init_62 (fun H locs hP hD hS => ?_)
  have hP : va_P D vwCl [(h, .inr (1, [.int 0, .ref q1, .ref q2, .ref q3, .ref q4, .ref q5, .ref q6, .ref q7, .null, .int 0, .null])), (q1, .inl (c1, 20, .inl (fun _ => 0))), (q2, .inl (c2, 20, .inl (fun _ => 0))), (q3, .inl (c3, 20, .inl (fun _ => 0))), (q4, .inl (c4, 20, .inl (fun _ => 0))), (q5, .inl (c5, 120, .inl (fun _ => 0))), (q6, .inl (c6, 120, .inl (fun _ => 0))), (q7, .inl (c7, 20, .inl (fun _ => 0)))] H := hP
  have hD : va_D A [(h, .inr (1, [.int 0, .ref q1, .ref q2, .ref q3, .ref q4, .ref q5, .ref q6, .ref q7, .null, .int 0, .null])), (q1, .inl (c1, 20, .inl (fun _ => 0))), (q2, .inl (c2, 20, .inl (fun _ => 0))), (q3, .inl (c3, 20, .inl (fun _ => 0))), (q4, .inl (c4, 20, .inl (fun _ => 0))), (q5, .inl (c5, 120, .inl (fun _ => 0))), (q6, .inl (c6, 120, .inl (fun _ => 0))), (q7, .inl (c7, 20, .inl (fun _ => 0)))] := hD
  refine lv_aload_n hx hb dX1_init_65 rfl (lv_at hl 0 rfl) ?_
  refine lv_bipush (v := 20) hx hb dX1_init_66 (by decide) ?_
  refine va_newa (atype := .int) (ty := .int) (a0 := (20, .inl (fun _ => 0))) hx hb (hts _ q94) rfl hK hP hD hS hA (fun _ => rfl) (by decide) (by decide) (by decide) (Nat.le_of_ble_eq_true rfl) (Nat.le_of_ble_eq_true rfl) dX1_init_68 (fun q8 c8 H hK hP hD hS => ?_)
  have hP : va_P D vwCl [(h, .inr (1, [.int 0, .ref q1, .ref q2, .ref q3, .ref q4, .ref q5, .ref q6, .ref q7, .null, .int 0, .null])), (q1, .inl (c1, 20, .inl (fun _ => 0))), (q2, .inl (c2, 20, .inl (fun _ => 0))), (q3, .inl (c3, 20, .inl (fun _ => 0))), (q4, .inl (c4, 20, .inl (fun _ => 0))), (q5, .inl (c5, 120, .inl (fun _ => 0))), (q6, .inl (c6, 120, .inl (fun _ => 0))), (q7, .inl (c7, 20, .inl (fun _ => 0))), (q8, .inl (c8, 20, .inl (fun _ => 0)))] H := hP
  have hD : va_D A [(h, .inr (1, [.int 0, .ref q1, .ref q2, .ref q3, .ref q4, .ref q5, .ref q6, .ref q7, .null, .int 0, .null])), (q1, .inl (c1, 20, .inl (fun _ => 0))), (q2, .inl (c2, 20, .inl (fun _ => 0))), (q3, .inl (c3, 20, .inl (fun _ => 0))), (q4, .inl (c4, 20, .inl (fun _ => 0))), (q5, .inl (c5, 120, .inl (fun _ => 0))), (q6, .inl (c6, 120, .inl (fun _ => 0))), (q7, .inl (c7, 20, .inl (fun _ => 0))), (q8, .inl (c8, 20, .inl (fun _ => 0)))] := hD
  have hK : va_K D vwCl [(c1, .int), (c2, .int), (c3, .int), (c4, .int), (c5, .int), (c6, .int), (c7, .int), (c8, .int)] s := hK
  refine va_put (D := D) (ci := 1) (v := .ref q8) (ty := .array .int) (C := RX1) (T := TX1) (N := 11) hx hb hts in_X1 tyX1 tyX1_ok nmX1 hown hK hP hD hS 0 rfl rfl 8 (by decide) (hts _ q218) (fun _ h9 => h9) rfl (by decide +kernel) rfl rfl (Nat.le_of_ble_eq_true rfl) dX1_init_70 (fun H locs hP hD hS => ?_)
  have hP : va_P D vwCl [(h, .inr (1, [.int 0, .ref q1, .ref q2, .ref q3, .ref q4, .ref q5, .ref q6, .ref q7, .ref q8, .int 0, .null])), (q1, .inl (c1, 20, .inl (fun _ => 0))), (q2, .inl (c2, 20, .inl (fun _ => 0))), (q3, .inl (c3, 20, .inl (fun _ => 0))), (q4, .inl (c4, 20, .inl (fun _ => 0))), (q5, .inl (c5, 120, .inl (fun _ => 0))), (q6, .inl (c6, 120, .inl (fun _ => 0))), (q7, .inl (c7, 20, .inl (fun _ => 0))), (q8, .inl (c8, 20, .inl (fun _ => 0)))] H := hP
  have hD : va_D A [(h, .inr (1, [.int 0, .ref q1, .ref q2, .ref q3, .ref q4, .ref q5, .ref q6, .ref q7, .ref q8, .int 0, .null])), (q1, .inl (c1, 20, .inl (fun _ => 0))), (q2, .inl (c2, 20, .inl (fun _ => 0))), (q3, .inl (c3, 20, .inl (fun _ => 0))), (q4, .inl (c4, 20, .inl (fun _ => 0))), (q5, .inl (c5, 120, .inl (fun _ => 0))), (q6, .inl (c6, 120, .inl (fun _ => 0))), (q7, .inl (c7, 20, .inl (fun _ => 0))), (q8, .inl (c8, 20, .inl (fun _ => 0)))] := hD
  refine lv_aload_n hx hb dX1_init_73 rfl (lv_at hl 0 rfl) ?_
  refine lv_iconst (v := 0) hx hb dX1_init_74 (by decide) ?_
  refine va_put (D := D) (ci := 1) (v := .int 0) (ty := .int) (C := RX1) (T := TX1) (N := 11) hx hb hts in_X1 tyX1 tyX1_ok nmX1 hown hK hP hD hS 0 rfl rfl 9 (by decide) (hts _ q219) (fun _ h9 => h9) rfl (by decide +kernel) rfl rfl (Nat.le_of_ble_eq_true rfl) dX1_init_75 (fun H locs hP hD hS => ?_)
  have hP : va_P D vwCl [(h, .inr (1, [.int 0, .ref q1, .ref q2, .ref q3, .ref q4, .ref q5, .ref q6, .ref q7, .ref q8, .int 0, .null])), (q1, .inl (c1, 20, .inl (fun _ => 0))), (q2, .inl (c2, 20, .inl (fun _ => 0))), (q3, .inl (c3, 20, .inl (fun _ => 0))), (q4, .inl (c4, 20, .inl (fun _ => 0))), (q5, .inl (c5, 120, .inl (fun _ => 0))), (q6, .inl (c6, 120, .inl (fun _ => 0))), (q7, .inl (c7, 20, .inl (fun _ => 0))), (q8, .inl (c8, 20, .inl (fun _ => 0)))] H := hP
  have hD : va_D A [(h, .inr (1, [.int 0, .ref q1, .ref q2, .ref q3, .ref q4, .ref q5, .ref q6, .ref q7, .ref q8, .int 0, .null])), (q1, .inl (c1, 20, .inl (fun _ => 0))), (q2, .inl (c2, 20, .inl (fun _ => 0))), (q3, .inl (c3, 20, .inl (fun _ => 0))), (q4, .inl (c4, 20, .inl (fun _ => 0))), (q5, .inl (c5, 120, .inl (fun _ => 0))), (q6, .inl (c6, 120, .inl (fun _ => 0))), (q7, .inl (c7, 20, .inl (fun _ => 0))), (q8, .inl (c8, 20, .inl (fun _ => 0)))] := hD
  refine lv_aload_n hx hb dX1_init_78 rfl (lv_at hl 0 rfl) ?_
  refine lv_bipush (v := 20) hx hb dX1_init_79 (by decide) ?_
  refine va_newa (atype := .int) (ty := .int) (a0 := (20, .inl (fun _ => 0))) hx hb (hts _ q94) rfl hK hP hD hS hA (fun _ => rfl) (by decide) (by decide) (by decide) (Nat.le_of_ble_eq_true rfl) (Nat.le_of_ble_eq_true rfl) dX1_init_81 (fun q10 c10 H hK hP hD hS => ?_)
  have hP : va_P D vwCl [(h, .inr (1, [.int 0, .ref q1, .ref q2, .ref q3, .ref q4, .ref q5, .ref q6, .ref q7, .ref q8, .int 0, .null])), (q1, .inl (c1, 20, .inl (fun _ => 0))), (q2, .inl (c2, 20, .inl (fun _ => 0))), (q3, .inl (c3, 20, .inl (fun _ => 0))), (q4, .inl (c4, 20, .inl (fun _ => 0))), (q5, .inl (c5, 120, .inl (fun _ => 0))), (q6, .inl (c6, 120, .inl (fun _ => 0))), (q7, .inl (c7, 20, .inl (fun _ => 0))), (q8, .inl (c8, 20, .inl (fun _ => 0))), (q10, .inl (c10, 20, .inl (fun _ => 0)))] H := hP
  have hD : va_D A [(h, .inr (1, [.int 0, .ref q1, .ref q2, .ref q3, .ref q4, .ref q5, .ref q6, .ref q7, .ref q8, .int 0, .null])), (q1, .inl (c1, 20, .inl (fun _ => 0))), (q2, .inl (c2, 20, .inl (fun _ => 0))), (q3, .inl (c3, 20, .inl (fun _ => 0))), (q4, .inl (c4, 20, .inl (fun _ => 0))), (q5, .inl (c5, 120, .inl (fun _ => 0))), (q6, .inl (c6, 120, .inl (fun _ => 0))), (q7, .inl (c7, 20, .inl (fun _ => 0))), (q8, .inl (c8, 20, .inl (fun _ => 0))), (q10, .inl (c10, 20, .inl (fun _ => 0)))] := hD
  have hK : va_K D vwCl [(c1, .int), (c2, .int), (c3, .int), (c4, .int), (c5, .int), (c6, .int), (c7, .int), (c8, .int), (c10, .int)] s := hK
  refine va_put (D := D) (ci := 1) (v := .ref q10) (ty := .array .int) (C := RX1) (T := TX1) (N := 11) hx hb hts in_X1 tyX1 tyX1_ok nmX1 hown hK hP hD hS 0 rfl rfl 10 (by decide) (hts _ q220) (fun _ h9 => h9) rfl (by decide +kernel) rfl rfl (Nat.le_of_ble_eq_true rfl) dX1_init_83 (fun H locs hP hD hS => ?_)
  have hP : va_P D vwCl [(h, .inr (1, [.int 0, .ref q1, .ref q2, .ref q3, .ref q4, .ref q5, .ref q6, .ref q7, .ref q8, .int 0, .ref q10])), (q1, .inl (c1, 20, .inl (fun _ => 0))), (q2, .inl (c2, 20, .inl (fun _ => 0))), (q3, .inl (c3, 20, .inl (fun _ => 0))), (q4, .inl (c4, 20, .inl (fun _ => 0))), (q5, .inl (c5, 120, .inl (fun _ => 0))), (q6, .inl (c6, 120, .inl (fun _ => 0))), (q7, .inl (c7, 20, .inl (fun _ => 0))), (q8, .inl (c8, 20, .inl (fun _ => 0))), (q10, .inl (c10, 20, .inl (fun _ => 0)))] H := hP
  have hD : va_D A [(h, .inr (1, [.int 0, .ref q1, .ref q2, .ref q3, .ref q4, .ref q5, .ref q6, .ref q7, .ref q8, .int 0, .ref q10])), (q1, .inl (c1, 20, .inl (fun _ => 0))), (q2, .inl (c2, 20, .inl (fun _ => 0))), (q3, .inl (c3, 20, .inl (fun _ => 0))), (q4, .inl (c4, 20, .inl (fun _ => 0))), (q5, .inl (c5, 120, .inl (fun _ => 0))), (q6, .inl (c6, 120, .inl (fun _ => 0))), (q7, .inl (c7, 20, .inl (fun _ => 0))), (q8, .inl (c8, 20, .inl (fun _ => 0))), (q10, .inl (c10, 20, .inl (fun _ => 0)))] := hD
  refine W.widen (k := 9) (n := 380) (by decide) (by decide) ?_
  exact zz_cret hx hb hr hlocks (pkM q1 q2 q3 q4 q5 q6 q7 q8 q10, pkM c1 c2 c3 c4 c5 c6 c7 c8 c10) hK hQ hS hP hD dX1_init_86
end
section
set_option maxRecDepth 100000
/-! THE CLAIM OUT OF ONE WALK OF THE LAW'S BODY. Your part is whole_start (and what it stands on); all else here is the same for every law, but numbers. -/
def R_law : String := "Q15DspCompilerLaw"
def lw_P (b : Addr) (xs : List Int32) (args : Array Value) (s : State) : Prop := args = #[.ref b] ∧ s.IntsAt b xs ∧ xs.length ≤ 256 ∧ (Jvm.Cond.and given_1 narrow_1).before args s = true
def lw_Q (_ : Array Value) (s : State) (o : Outcome) (t : State) : Prop := o = .returned (some (.int 1)) ∧ Framed s o t [] 600000 7290000
def lw_Z (below : List Frame) (a : Array Value) (s : State) : State → Prop := fun t => ∃ o, t.status = .running ∧ Ended t below o ∧ lw_Q a s o t
/-- the law's own end, with 1 on the stack, nothing written that was there before, its room as the claim has it -/
theorem lw_ret {p : Program} {l : Launch} {e : Env} {s : State} {m : MethodId} {below : List Frame} {meth : Method} {c : Code} {b : Nat} (hx : p.tables.exec = Jvm.exec) (hb : c.code = code) (hr : meth.sig.returnType = ret) (hlocks : meth.locks = false) {pc : Nat} {H : Heap} {ls : Array Slot} (hdg : decode code pc = .ok (.ireturn, 1)) : W p l e room_1 s m #[Value.ref b] below meth c H [] 600000 7290000 (lw_Z below #[Value.ref b] s) (F0 m pc ls [.int 1]) := by
  intro T hT X
  obtain ⟨fs, hret, hrun, hended, hW, hframe⟩ := X.leave (v := some (.int 1)) (hlocks := hlocks) (fun h => by rw [hr] at h; cases h)
  have hmeth' : T.vm.method? m = some meth := X.method'
  refine ⟨T.setFrames fs, ?_, .returned (some (.int 1)), hrun, hended, rfl, ⟨_, rfl⟩, hW, hframe⟩
  jvm_step X.here [X.here.top, hx, hb, hdg, hmeth', hr, ret, narrow_b1]
  (try refine ⟨rfl, ?_⟩); (try refine ⟨rfl, ?_⟩)
  first | (intro acts; rw [hret _ acts rfl rfl rfl]) | rw [hret _ _ rfl rfl rfl]
  exact Steps.refl _
/-- what holds at the law's entry: the machine, the code, the tables' words (any of lw_tbl by 'hts w (by decide +kernel)'), the script of L ints xs at the cell b, what the Statement gives of the start (any of its parts by flat_of_before) -/
def lw_At (p : Program) (s : State) (m : MethodId) (meth : Method) (c : Code) (b L : Nat) (xs : Nat → Int32) : Prop :=
  p.tables.exec = Jvm.exec ∧ c.code = code ∧ meth.sig.returnType = ret ∧ c.maxLocals = 4 ∧ s.vm.findClass R_law = some m.cls ∧ (∀ w ∈ lw_tbl, w.before #[Value.ref b] s = true) ∧ va_X b L xs s s.heap ∧ b < s.heap.size ∧ meth.locks = false ∧ (Jvm.Cond.and given_1 narrow_1).before #[Value.ref b] s = true
theorem cwL_X0_node {R : Room} {s : State} {args : Array Value} (hts : ∀ w ∈ lw_all, w.before args s = true) (hR : rmX0_node.frames + 1 ≤ R.frames ∧ 8 + (5 + 11) + rmX0_node.locals ≤ R.locals) : CallW R s args R_law RX0 13 yX0_node cX0_node 5 (some .int) (ws_ yX0_node cX0_node 5 (some .int)) rmX0_node 0 0 3 := cwV 3 hts (lw_V q95 q96 q97 q25 q98) rfl rfl rfl (by decide +kernel) hR
theorem cwL_X0_tap {R : Room} {s : State} {args : Array Value} (hts : ∀ w ∈ lw_all, w.before args s = true) (hR : rmX0_tap.frames + 1 ≤ R.frames ∧ 8 + (5 + 11) + rmX0_tap.locals ≤ R.locals) : CallW R s args R_law RX0 18 yX0_tap cX0_tap 5 (some .int) (ws_ yX0_tap cX0_tap 5 (some .int)) rmX0_tap 0 0 3 := cwV 3 hts (lw_V q107 q108 q109 q25 q110) rfl rfl rfl (by decide +kernel) hR
theorem cwL_X0_nodes {R : Room} {s : State} {args : Array Value} (hts : ∀ w ∈ lw_all, w.before args s = true) (hR : rmX0_nodes.frames + 1 ≤ R.frames ∧ 8 + (1 + 11) + rmX0_nodes.locals ≤ R.locals) : CallW R s args R_law RX0 22 yX0_nodes cX0_nodes 1 (some .int) (ws_ yX0_nodes cX0_nodes 1 (some .int)) rmX0_nodes 0 0 0 := cwV 0 hts (lw_V q111 q112 q113 q25 q114) rfl rfl rfl (by decide +kernel) hR
theorem cwL_X0_sound {R : Room} {s : State} {args : Array Value} (hts : ∀ w ∈ lw_all, w.before args s = true) (hR : rmX0_sound.frames + 1 ≤ R.frames ∧ 8 + (1 + 11) + rmX0_sound.locals ≤ R.locals) : CallW R s args R_law RX0 27 yX0_sound cX0_sound 1 (some .boolean) (ws_ yX0_sound cX0_sound 1 (some .boolean)) rmX0_sound 0 0 0 := cwV 0 hts (lw_V q115 q116 q117 q25 q118) rfl rfl rfl (by decide +kernel) hR
theorem cwL_X0_feed {R : Room} {s : State} {args : Array Value} (hts : ∀ w ∈ lw_all, w.before args s = true) (hR : rmX0_feed.frames + 1 ≤ R.frames ∧ 8 + (3 + 11) + rmX0_feed.locals ≤ R.locals) : CallW R s args R_law RX0 32 yX0_feed cX0_feed 3 (some .boolean) (ws_ yX0_feed cX0_feed 3 (some .boolean)) rmX0_feed 0 0 1 := cwV 1 hts (lw_V q167 q168 q169 q25 q170) rfl rfl rfl (by decide +kernel) hR
theorem cwL_X0_repeat {R : Room} {s : State} {args : Array Value} (hts : ∀ w ∈ lw_all, w.before args s = true) (hR : rmX0_repeat.frames + 1 ≤ R.frames ∧ 8 + (6 + 11) + rmX0_repeat.locals ≤ R.locals) : CallW R s args R_law RX0 37 yX0_repeat cX0_repeat 6 (some .int) (ws_ yX0_repeat cX0_repeat 6 (some .int)) rmX0_repeat 0 0 2 := cwV 2 hts (lw_V q186 q187 q188 q25 q189) rfl rfl rfl (by decide +kernel) hR
theorem cwL_X0_value {R : Room} {s : State} {args : Array Value} (hts : ∀ w ∈ lw_all, w.before args s = true) (hR : rmX0_value.frames + 1 ≤ R.frames ∧ 8 + (2 + 11) + rmX0_value.locals ≤ R.locals) : CallW R s args R_law RX0 42 yX0_value cX0_value 2 (some .int) (ws_ yX0_value cX0_value 2 (some .int)) rmX0_value 0 0 1 := cwV 1 hts (lw_V q191 q192 q193 q25 q194) rfl rfl rfl (by decide +kernel) hR
theorem cwL_X0_samples {R : Room} {s : State} {args : Array Value} (hts : ∀ w ∈ lw_all, w.before args s = true) (hR : rmX0_samples.frames + 1 ≤ R.frames ∧ 8 + (1 + 11) + rmX0_samples.locals ≤ R.locals) : CallW R s args R_law RX0 47 yX0_samples cX0_samples 1 (some .int) (ws_ yX0_samples cX0_samples 1 (some .int)) rmX0_samples 0 0 0 := cwV 0 hts (lw_V q195 q196 q197 q25 q198) rfl rfl rfl (by decide +kernel) hR
theorem cwL_X0_restart {R : Room} {s : State} {args : Array Value} (hts : ∀ w ∈ lw_all, w.before args s = true) (hR : rmX0_restart.frames + 1 ≤ R.frames ∧ 8 + (2 + 11) + rmX0_restart.locals ≤ R.locals) : CallW R s args R_law RX0 51 yX0_restart cX0_restart 2 none (ws_ yX0_restart cX0_restart 2 none) rmX0_restart 0 0 0 := cwV 0 hts (lw_V q199 q104 q105 q25 q106) rfl rfl rfl (by decide +kernel) hR
theorem cwL_X0_clear {R : Room} {s : State} {args : Array Value} (hts : ∀ w ∈ lw_all, w.before args s = true) (hR : rmX0_clear.frames + 1 ≤ R.frames ∧ 8 + (2 + 11) + rmX0_clear.locals ≤ R.locals) : CallW R s args R_law RX0 55 yX0_clear cX0_clear 2 (some .int) (ws_ yX0_clear cX0_clear 2 (some .int)) rmX0_clear 0 0 0 := cwV 0 hts (lw_V q200 q201 q202 q25 q203) rfl rfl rfl (by decide +kernel) hR
theorem cwL_X1_node {R : Room} {s : State} {args : Array Value} (hts : ∀ w ∈ lw_all, w.before args s = true) (hR : rmX1_node.frames + 1 ≤ R.frames ∧ 8 + (4 + 11) + rmX1_node.locals ≤ R.locals) : CallW R s args R_law RX1 17 yX1_node cX1_node 4 (some .int) (ws_ yX1_node cX1_node 4 (some .int)) rmX1_node 0 0 3 := cwV 3 hts (lw_V q244 q245 q246 q26 q247) rfl rfl rfl (by decide +kernel) hR
theorem cwL_X1_tap {R : Room} {s : State} {args : Array Value} (hts : ∀ w ∈ lw_all, w.before args s = true) (hR : rmX1_tap.frames + 1 ≤ R.frames ∧ 8 + (4 + 11) + rmX1_tap.locals ≤ R.locals) : CallW R s args R_law RX1 21 yX1_tap cX1_tap 4 (some .int) (ws_ yX1_tap cX1_tap 4 (some .int)) rmX1_tap 0 0 3 := cwV 3 hts (lw_V q264 q265 q266 q26 q267) rfl rfl rfl (by decide +kernel) hR
theorem cwL_X1_nodes {R : Room} {s : State} {args : Array Value} (hts : ∀ w ∈ lw_all, w.before args s = true) (hR : rmX1_nodes.frames + 1 ≤ R.frames ∧ 8 + (1 + 11) + rmX1_nodes.locals ≤ R.locals) : CallW R s args R_law RX1 26 yX1_nodes cX1_nodes 1 (some .int) (ws_ yX1_nodes cX1_nodes 1 (some .int)) rmX1_nodes 0 0 0 := cwV 0 hts (lw_V q268 q269 q270 q26 q271) rfl rfl rfl (by decide +kernel) hR
theorem cwL_X1_sound {R : Room} {s : State} {args : Array Value} (hts : ∀ w ∈ lw_all, w.before args s = true) (hR : rmX1_sound.frames + 1 ≤ R.frames ∧ 8 + (3 + 11) + rmX1_sound.locals ≤ R.locals) : CallW R s args R_law RX1 31 yX1_sound cX1_sound 3 (some .boolean) (ws_ yX1_sound cX1_sound 3 (some .boolean)) rmX1_sound 0 0 0 := cwV 0 hts (lw_V q272 q273 q274 q26 q275) rfl rfl rfl (by decide +kernel) hR
theorem cwL_X1_feed {R : Room} {s : State} {args : Array Value} (hts : ∀ w ∈ lw_all, w.before args s = true) (hR : rmX1_feed.frames + 1 ≤ R.frames ∧ 8 + (4 + 11) + rmX1_feed.locals ≤ R.locals) : CallW R s args R_law RX1 36 yX1_feed cX1_feed 4 (some .boolean) (ws_ yX1_feed cX1_feed 4 (some .boolean)) rmX1_feed 0 0 1 := cwV 1 hts (lw_V q280 q281 q282 q26 q283) rfl rfl rfl (by decide +kernel) hR
theorem cwL_X1_repeat {R : Room} {s : State} {args : Array Value} (hts : ∀ w ∈ lw_all, w.before args s = true) (hR : rmX1_repeat.frames + 1 ≤ R.frames ∧ 8 + (6 + 11) + rmX1_repeat.locals ≤ R.locals) : CallW R s args R_law RX1 41 yX1_repeat cX1_repeat 6 (some .int) (ws_ yX1_repeat cX1_repeat 6 (some .int)) rmX1_repeat 0 0 2 := cwV 2 hts (lw_V q304 q305 q306 q26 q307) rfl rfl rfl (by decide +kernel) hR
theorem cwL_X1_value {R : Room} {s : State} {args : Array Value} (hts : ∀ w ∈ lw_all, w.before args s = true) (hR : rmX1_value.frames + 1 ≤ R.frames ∧ 8 + (2 + 11) + rmX1_value.locals ≤ R.locals) : CallW R s args R_law RX1 46 yX1_value cX1_value 2 (some .int) (ws_ yX1_value cX1_value 2 (some .int)) rmX1_value 0 0 1 := cwV 1 hts (lw_V q309 q310 q311 q26 q312) rfl rfl rfl (by decide +kernel) hR
theorem cwL_X1_samples {R : Room} {s : State} {args : Array Value} (hts : ∀ w ∈ lw_all, w.before args s = true) (hR : rmX1_samples.frames + 1 ≤ R.frames ∧ 8 + (1 + 11) + rmX1_samples.locals ≤ R.locals) : CallW R s args R_law RX1 50 yX1_samples cX1_samples 1 (some .int) (ws_ yX1_samples cX1_samples 1 (some .int)) rmX1_samples 0 0 0 := cwV 0 hts (lw_V q313 q314 q315 q26 q316) rfl rfl rfl (by decide +kernel) hR
theorem cwL_X1_restart {R : Room} {s : State} {args : Array Value} (hts : ∀ w ∈ lw_all, w.before args s = true) (hR : rmX1_restart.frames + 1 ≤ R.frames ∧ 8 + (2 + 11) + rmX1_restart.locals ≤ R.locals) : CallW R s args R_law RX1 54 yX1_restart cX1_restart 2 none (ws_ yX1_restart cX1_restart 2 none) rmX1_restart 0 0 0 := cwV 0 hts (lw_V q317 q261 q262 q26 q263) rfl rfl rfl (by decide +kernel) hR
theorem cwL_X1_clear {R : Room} {s : State} {args : Array Value} (hts : ∀ w ∈ lw_all, w.before args s = true) (hR : rmX1_clear.frames + 1 ≤ R.frames ∧ 8 + (2 + 11) + rmX1_clear.locals ≤ R.locals) : CallW R s args R_law RX1 58 yX1_clear cX1_clear 2 (some .int) (ws_ yX1_clear cX1_clear 2 (some .int)) rmX1_clear 0 0 0 := cwV 0 hts (lw_V q318 q319 q320 q26 q321) rfl rfl rfl (by decide +kernel) hR
theorem va_P.left {D : va_G} {cl : List vw_C} {w1 w2 : va_W} {H : Heap} (h : va_P D cl (w1 ++ w2) H) : va_P D cl w1 H := fun k q hk => h k q (by rw [List.getElem?_append_left (List.getElem?_eq_some_iff.mp hk).1]; exact hk)
theorem va_P.right {D : va_G} {cl : List vw_C} {w1 w2 : va_W} {H : Heap} (h : va_P D cl (w1 ++ w2) H) : va_P D cl w2 H := fun k q hk => h (w1.length + k) q (by rw [List.getElem?_append_right (by omega), Nat.add_sub_cancel_left]; exact hk)
theorem va_D.left {A : Nat → Prop} {w1 w2 : va_W} (h : va_D A (w1 ++ w2)) : va_D A w1 := by
  have key : ∀ (k : Nat) (q : Nat × va_E), w1[k]? = some q → (w1 ++ w2)[k]? = some q := fun k q hk => by rw [List.getElem?_append_left (List.getElem?_eq_some_iff.mp hk).1]; exact hk
  exact ⟨fun i j x y hi hj e => h.1 i j x y (key i x hi) (key j y hj) e, fun k q hk => h.2 k q (key k q hk)⟩
theorem va_D.right {A : Nat → Prop} {w1 w2 : va_W} (h : va_D A (w1 ++ w2)) : va_D A w2 := by
  have key : ∀ (k : Nat) (q : Nat × va_E), w2[k]? = some q → (w1 ++ w2)[w1.length + k]? = some q := fun k q hk => by rw [List.getElem?_append_right (by omega), Nat.add_sub_cancel_left]; exact hk
  refine ⟨fun i j x y hi hj e => ?_, fun k q hk => h.2 _ q (key k q hk)⟩
  have := h.1 _ _ x y (key i x hi) (key j y hj) e
  omega
theorem va_D.dj {A : Nat → Prop} {w1 w2 : va_W} (h : va_D A (w1 ++ w2)) : Dj w1 w2 := by
  intro i j p q hp hq e
  have hi := (List.getElem?_eq_some_iff.mp hp).1
  have h1 : (w1 ++ w2)[i]? = some p := by rw [List.getElem?_append_left hi]; exact hp
  have h2 : (w1 ++ w2)[w1.length + j]? = some q := by rw [List.getElem?_append_right (by omega), Nat.add_sub_cancel_left]; exact hq
  have := h.1 _ _ p q h1 h2 e
  omega
theorem law_gt {L i : Nat} (hL : L ≤ 256) (hi : i ≤ L) (h : ¬ i + 4 ≤ L) : nI L - 4 < nI i := by
  rw [i_lt, show (4 : Int32) = nI 4 from rfl, pk_sub_toInt (by omega) (by omega), nI_toInt (by omega)]
  omega
theorem law_ngt {L i : Nat} (hL : L ≤ 256) (hi : i ≤ L) (h : i + 4 ≤ L) : ¬ nI L - 4 < nI i := by
  rw [i_lt, show (4 : Int32) = nI 4 from rfl, pk_sub_toInt (by omega) (by omega), nI_toInt (by omega)]
  omega
set_option maxHeartbeats 4000000 in
/-- the law's loop at its head: i ints read; the two states side by side -/
theorem law_loop {p : Program} {l : Launch} {e : Env} {s : State} {m : MethodId} {below : List Frame} {meth : Method} {c : Code} {D : va_G} {ox om : Nat} {ax am : Nat → Nat} {bx bm : Nat → ClassId} {b L : Nat} {xs : Nat → Int32} (hL : L ≤ 256) (C0 : lw_At p s m meth c b L xs) (hKx : va_K D vwCl (tX bx) s) (hKm : va_K D vwCl (tM bm) s) :
    ∀ (n i : Nat), i ≤ L → L < i + n → ∀ (GX : XG) (F : Bool × Bool) (O : XO) (C : XC) (M : XM) (GM : XG) (nw bf nd : Nat → Int32) (k : Nat) (H : Heap) (locs : List Loc) (ls : Array Slot), LI GX F C M GM nw k → k ≤ 10 * i → va_P D vwCl (wX ox ax bx GX F O C M k) H → va_D (fun q : Nat => s.heap.size ≤ q) (wX ox ax bx GX F O C M k) → va_P D vwCl (wM om am bm GM nw bf nd k) H → va_D (fun q : Nat => s.heap.size ≤ q) (wM om am bm GM nw bf nd k) → Dj (wX ox ax bx GX F O C M k) (wM om am bm GM nw bf nd k) → va_S (fun q : Nat => s.heap.size ≤ q) s.heap H locs → lv_has ls 4 [(3, .int (nI i)), (2, .ref om), (1, .ref ox), (0, .ref b)] → W p l e room_1 s m #[Value.ref b] below meth c H locs 600000 7290000 (lw_Z below #[Value.ref b] s) (F0 m 18 ls []) := by
  obtain ⟨hx, hb, hr, hml, hown, hts0, hX, hbl, hlocks, hgv⟩ := C0
  have hts : ∀ w ∈ lw_all, w.before #[Value.ref b] s = true := fun w h => hts0 w (lw_all_tbl h)
  have hA : ∀ q : Nat, s.heap.size ≤ q → (fun q : Nat => s.heap.size ≤ q) q := fun _ h => h
  have hbA : ¬ (fun q : Nat => s.heap.size ≤ q) b := Nat.not_le.mpr hbl
  intro n
  induction n with
  | zero =>
    intro i h1 h2
    exact absurd h2 (by omega)
  | succ n ih =>
    intro i hi hin GX F O C M GM nw bf nd k H locs ls hLI hk hPx hDx hPm hDm hj hS hl
    by_cases hc : i + 4 ≤ L
    · have h_0 : vp_in (nI i) L := vp_in_nI (by omega) (by omega)
      have h_1 : vp_in (nI i + 1) L := by show vp_in (nI i + nI 1) L; rw [nI_add]; exact vp_in_nI (by omega) (by omega)
      have h_2 : vp_in (nI i + 2) L := by show vp_in (nI i + nI 2) L; rw [nI_add]; exact vp_in_nI (by omega) (by omega)
      have h_3 : vp_in (nI i + 3) L := by show vp_in (nI i + nI 3) L; rw [nI_add]; exact vp_in_nI (by omega) (by omega)
      have J316 : ∀ (GX : XG) (F : Bool × Bool) (O : XO) (C : XC) (M : XM) (GM : XG) (nw bf nd : Nat → Int32) (k : Nat) (H : Heap) (locs : List Loc) (ls : Array Slot), LI GX F C M GM nw k → k ≤ 10 * (i + 4) → va_P D vwCl (wX ox ax bx GX F O C M k) H → va_D (fun q : Nat => s.heap.size ≤ q) (wX ox ax bx GX F O C M k) → va_P D vwCl (wM om am bm GM nw bf nd k) H → va_D (fun q : Nat => s.heap.size ≤ q) (wM om am bm GM nw bf nd k) → Dj (wX ox ax bx GX F O C M k) (wM om am bm GM nw bf nd k) → va_S (fun q : Nat => s.heap.size ≤ q) s.heap H locs → lv_has ls 4 [(3, .int (nI i)), (2, .ref om), (1, .ref ox), (0, .ref b)] → W p l e room_1 s m #[Value.ref b] below meth c H locs 600000 7290000 (lw_Z below #[Value.ref b] s) (F0 m 316 ls []) := by
        intro GX F O C M GM nw bf nd k H locs ls hLI hk hPx hDx hPm hDm hj hS hl
        refine lv_iinc (v := nI (i + 4)) (lv' := [(3, .int _), (2, .ref _), (1, .ref _), (0, .ref _)]) hx hb dL_law_316 hl (k := 0) rfl (nI_add i 4) (by decide) rfl (fun ls hl => ?_)
        refine lv_goto (tgt := 18) hx hb dL_law_319 (by decide) ?_
        exact ih (i + 4) hc (by omega) GX F O C M GM nw bf nd k H locs ls hLI hk hPx hDx hPm hDm hj hS (lv_sub hl [0, 1, 2, 3] rfl)
      refine lv_iload_n hx hb dL_law_18 rfl (lv_at hl 0 rfl) ?_
      refine lv_aload_n hx hb dL_law_19 rfl (lv_at hl 3 rfl) ?_
      refine va_slen hx hb hX hbl hbA hS dL_law_20 ?_
      refine lv_iconst (v := 4) hx hb dL_law_21 (by decide) ?_
      refine lv_isub hx hb dL_law_22 ?_
      refine lv_icmp_gt (tgt := 322) hx hb dL_law_23 (by decide) (fun c_23 => absurd c_23 (law_ngt hL hi hc)) (fun c_23 => ?_)
      refine lv_aload_n hx hb dL_law_26 rfl (lv_at hl 3 rfl) ?_
      refine lv_iload_n hx hb dL_law_27 rfl (lv_at hl 0 rfl) ?_
      refine va_sld hx hb hX hbl hbA hS h_0 dL_law_28 ?_
      refine lv_bipush (v := 15) hx hb dL_law_29 (by decide) ?_
      refine lv_iand hx hb dL_law_31 ?_
      refine lv_topi (fun v ev => ?_)
      obtain ⟨j, hj16, ej⟩ := pk_andE (xs (nI i).toNatClampNeg) (m := 15) 4 (by decide)
      obtain rfl : v = nI j := ev.trans ej
      clear ev ej
      rcases (show j = 0 ∨ j = 1 ∨ j = 2 ∨ j = 3 ∨ j = 4 ∨ j = 5 ∨ j = 6 ∨ j = 7 ∨ j = 8 ∨ j = 9 ∨ j = 10 ∨ j = 11 ∨ j = 12 ∨ j = 13 ∨ j = 14 ∨ j = 15 by omega) with rfl | rfl | rfl | rfl | rfl | rfl | rfl | rfl | rfl | rfl | rfl | rfl | rfl | rfl | rfl | rfl
      · refine lv_tableIn (off := 56) (tgt := 88) hx hb dL_law_32 (by decide) (by decide) (by decide) (by decide) ?_
        refine lv_aload_n hx hb dL_law_88 rfl (lv_at hl 2 rfl) ?_
        refine lv_aload_n hx hb dL_law_89 rfl (lv_at hl 3 rfl) ?_
        refine lv_iload_n hx hb dL_law_90 rfl (lv_at hl 0 rfl) ?_
        refine lv_iconst (v := 1) hx hb dL_law_91 (by decide) ?_
        refine lv_iadd hx hb dL_law_92 ?_
        refine va_sld hx hb hX hbl hbA hS h_1 dL_law_93 ?_
        refine lv_aload_n hx hb dL_law_94 rfl (lv_at hl 3 rfl) ?_
        refine lv_iload_n hx hb dL_law_95 rfl (lv_at hl 0 rfl) ?_
        refine lv_iconst (v := 2) hx hb dL_law_96 (by decide) ?_
        refine lv_iadd hx hb dL_law_97 ?_
        refine va_sld hx hb hX hbl hbA hS h_2 dL_law_98 ?_
        refine lv_aload_n hx hb dL_law_99 rfl (lv_at hl 3 rfl) ?_
        refine lv_iload_n hx hb dL_law_100 rfl (lv_at hl 0 rfl) ?_
        refine lv_iconst (v := 3) hx hb dL_law_101 (by decide) ?_
        refine lv_iadd hx hb dL_law_102 ?_
        refine va_sld hx hb hX hbl hbA hS h_3 dL_law_103 ?_
        refine zz_calli2 ⟨hx, hb, hml, hown, hts⟩ hKx hPx hDx hPm hj hS hA rfl rfl (metX0_node l _ _ _ _ hLI.2.1.1) (cwL_X0_node hts ⟨Nat.le_of_ble_eq_true rfl, Nat.le_of_ble_eq_true rfl⟩) rfl hl.1 rfl (Nat.le_of_ble_eq_true rfl) dL_law_104 ⟨Nat.le_of_ble_eq_true rfl, Nat.le_of_ble_eq_true rfl⟩ (fun r1 u1 H locs hr1 hPx hDx hPm hj hS => ?_)
        refine lv_aload_n hx hb dL_law_107 rfl (lv_at hl 1 rfl) ?_
        refine lv_aload_n hx hb dL_law_108 rfl (lv_at hl 3 rfl) ?_
        refine lv_iload_n hx hb dL_law_109 rfl (lv_at hl 0 rfl) ?_
        refine lv_iconst (v := 1) hx hb dL_law_110 (by decide) ?_
        refine lv_iadd hx hb dL_law_111 ?_
        refine va_sld hx hb hX hbl hbA hS h_1 dL_law_112 ?_
        refine lv_aload_n hx hb dL_law_113 rfl (lv_at hl 3 rfl) ?_
        refine lv_iload_n hx hb dL_law_114 rfl (lv_at hl 0 rfl) ?_
        refine lv_iconst (v := 2) hx hb dL_law_115 (by decide) ?_
        refine lv_iadd hx hb dL_law_116 ?_
        refine va_sld hx hb hX hbl hbA hS h_2 dL_law_117 ?_
        refine lv_aload_n hx hb dL_law_118 rfl (lv_at hl 3 rfl) ?_
        refine lv_iload_n hx hb dL_law_119 rfl (lv_at hl 0 rfl) ?_
        refine lv_iconst (v := 3) hx hb dL_law_120 (by decide) ?_
        refine lv_iadd hx hb dL_law_121 ?_
        refine va_sld hx hb hX hbl hbA hS h_3 dL_law_122 ?_
        refine zz_calli2 ⟨hx, hb, hml, hown, hts⟩ hKm hPm hDm hPx hj.symm hS hA rfl rfl (metX1_node l _ _ _ _ hLI.2.2.1.1) (cwL_X1_node hts ⟨Nat.le_of_ble_eq_true rfl, Nat.le_of_ble_eq_true rfl⟩) rfl hl.1 rfl (Nat.le_of_ble_eq_true rfl) dL_law_123 ⟨Nat.le_of_ble_eq_true rfl, Nat.le_of_ble_eq_true rfl⟩ (fun r2 u2 H locs hr2 hPm hDm hPx hj2 hS => ?_)
        have hj := hj2.symm
        obtain ⟨he, hL2, hkk, hle⟩ := LI_node hLI hr1 hr2
        rw [hkk] at hPx hDx hj
        refine lv_icmp_eq (tgt := 316) hx hb dL_law_126 (by decide) (fun c_126 => ?_) (fun c_126 => absurd (he) c_126)
        exact J316 _ _ _ _ _ _ _ _ _ _ H locs ls hL2 (by omega) hPx hDx hPm hDm hj hS hl
      · refine lv_tableIn (off := 99) (tgt := 131) hx hb dL_law_32 (by decide) (by decide) (by decide) (by decide) ?_
        refine lv_aload_n hx hb dL_law_131 rfl (lv_at hl 2 rfl) ?_
        refine lv_aload_n hx hb dL_law_132 rfl (lv_at hl 3 rfl) ?_
        refine lv_iload_n hx hb dL_law_133 rfl (lv_at hl 0 rfl) ?_
        refine lv_iconst (v := 1) hx hb dL_law_134 (by decide) ?_
        refine lv_iadd hx hb dL_law_135 ?_
        refine va_sld hx hb hX hbl hbA hS h_1 dL_law_136 ?_
        refine lv_aload_n hx hb dL_law_137 rfl (lv_at hl 3 rfl) ?_
        refine lv_iload_n hx hb dL_law_138 rfl (lv_at hl 0 rfl) ?_
        refine lv_iconst (v := 2) hx hb dL_law_139 (by decide) ?_
        refine lv_iadd hx hb dL_law_140 ?_
        refine va_sld hx hb hX hbl hbA hS h_2 dL_law_141 ?_
        refine lv_aload_n hx hb dL_law_142 rfl (lv_at hl 3 rfl) ?_
        refine lv_iload_n hx hb dL_law_143 rfl (lv_at hl 0 rfl) ?_
        refine lv_iconst (v := 3) hx hb dL_law_144 (by decide) ?_
        refine lv_iadd hx hb dL_law_145 ?_
        refine va_sld hx hb hX hbl hbA hS h_3 dL_law_146 ?_
        refine zz_calli2 ⟨hx, hb, hml, hown, hts⟩ hKx hPx hDx hPm hj hS hA rfl rfl (metX0_tap l _ _ _ _ hLI.2.1) (cwL_X0_tap hts ⟨Nat.le_of_ble_eq_true rfl, Nat.le_of_ble_eq_true rfl⟩) rfl hl.1 rfl (Nat.le_of_ble_eq_true rfl) dL_law_147 ⟨Nat.le_of_ble_eq_true rfl, Nat.le_of_ble_eq_true rfl⟩ (fun r1 u1 H locs hr1 hPx hDx hPm hj hS => ?_)
        refine lv_aload_n hx hb dL_law_150 rfl (lv_at hl 1 rfl) ?_
        refine lv_aload_n hx hb dL_law_151 rfl (lv_at hl 3 rfl) ?_
        refine lv_iload_n hx hb dL_law_152 rfl (lv_at hl 0 rfl) ?_
        refine lv_iconst (v := 1) hx hb dL_law_153 (by decide) ?_
        refine lv_iadd hx hb dL_law_154 ?_
        refine va_sld hx hb hX hbl hbA hS h_1 dL_law_155 ?_
        refine lv_aload_n hx hb dL_law_156 rfl (lv_at hl 3 rfl) ?_
        refine lv_iload_n hx hb dL_law_157 rfl (lv_at hl 0 rfl) ?_
        refine lv_iconst (v := 2) hx hb dL_law_158 (by decide) ?_
        refine lv_iadd hx hb dL_law_159 ?_
        refine va_sld hx hb hX hbl hbA hS h_2 dL_law_160 ?_
        refine lv_aload_n hx hb dL_law_161 rfl (lv_at hl 3 rfl) ?_
        refine lv_iload_n hx hb dL_law_162 rfl (lv_at hl 0 rfl) ?_
        refine lv_iconst (v := 3) hx hb dL_law_163 (by decide) ?_
        refine lv_iadd hx hb dL_law_164 ?_
        refine va_sld hx hb hX hbl hbA hS h_3 dL_law_165 ?_
        refine zz_calli2 ⟨hx, hb, hml, hown, hts⟩ hKm hPm hDm hPx hj.symm hS hA rfl rfl (metX1_tap l _ _ _ _ hLI.2.2.1) (cwL_X1_tap hts ⟨Nat.le_of_ble_eq_true rfl, Nat.le_of_ble_eq_true rfl⟩) rfl hl.1 rfl (Nat.le_of_ble_eq_true rfl) dL_law_166 ⟨Nat.le_of_ble_eq_true rfl, Nat.le_of_ble_eq_true rfl⟩ (fun r2 u2 H locs hr2 hPm hDm hPx hj2 hS => ?_)
        have hj := hj2.symm
        obtain ⟨he, hL2, hkk, hle⟩ := LI_tap hLI hr1 hr2
        rw [hkk] at hPx hDx hj
        refine lv_icmp_eq (tgt := 316) hx hb dL_law_169 (by decide) (fun c_169 => ?_) (fun c_169 => absurd (he) c_169)
        exact J316 _ _ _ _ _ _ _ _ _ _ H locs ls hL2 (by omega) hPx hDx hPm hDm hj hS hl
      · refine lv_tableIn (off := 142) (tgt := 174) hx hb dL_law_32 (by decide) (by decide) (by decide) (by decide) ?_
        refine lv_aload_n hx hb dL_law_174 rfl (lv_at hl 2 rfl) ?_
        refine zz_calli2 ⟨hx, hb, hml, hown, hts⟩ hKx hPx hDx hPm hj hS hA rfl rfl (metX0_nodes l _) (cwL_X0_nodes hts ⟨Nat.le_of_ble_eq_true rfl, Nat.le_of_ble_eq_true rfl⟩) rfl hl.1 rfl (Nat.le_of_ble_eq_true rfl) dL_law_175 ⟨Nat.le_of_ble_eq_true rfl, Nat.le_of_ble_eq_true rfl⟩ (fun r1 _ H locs hr1 hPx hDx hPm hj hS => ?_)
        refine lv_aload_n hx hb dL_law_178 rfl (lv_at hl 1 rfl) ?_
        refine zz_calli2 ⟨hx, hb, hml, hown, hts⟩ hKm hPm hDm hPx hj.symm hS hA rfl rfl (metX1_nodes l _) (cwL_X1_nodes hts ⟨Nat.le_of_ble_eq_true rfl, Nat.le_of_ble_eq_true rfl⟩) rfl hl.1 rfl (Nat.le_of_ble_eq_true rfl) dL_law_179 ⟨Nat.le_of_ble_eq_true rfl, Nat.le_of_ble_eq_true rfl⟩ (fun r2 _ H locs hr2 hPm hDm hPx hj2 hS => ?_)
        have hj := hj2.symm
        refine lv_icmp_eq (tgt := 316) hx hb dL_law_182 (by decide) (fun c_182 => ?_) (fun c_182 => absurd (by rw [hr1, hr2, hLI.1.1]) c_182)
        exact J316 _ _ _ _ _ _ _ _ _ _ H locs ls hLI (by omega) hPx hDx hPm hDm hj hS hl
      · refine lv_tableIn (off := 155) (tgt := 187) hx hb dL_law_32 (by decide) (by decide) (by decide) (by decide) ?_
        refine lv_aload_n hx hb dL_law_187 rfl (lv_at hl 2 rfl) ?_
        refine zz_calli2 ⟨hx, hb, hml, hown, hts⟩ hKx hPx hDx hPm hj hS hA rfl rfl (metX0_sound l _ hLI.2.1 hLI.2.2.2.1) (cwL_X0_sound hts ⟨Nat.le_of_ble_eq_true rfl, Nat.le_of_ble_eq_true rfl⟩) rfl hl.1 rfl (Nat.le_of_ble_eq_true rfl) dL_law_188 ⟨Nat.le_of_ble_eq_true rfl, Nat.le_of_ble_eq_true rfl⟩ (fun r1 u1 H locs hr1 hPx hDx hPm hj hS => ?_)
        refine lv_aload_n hx hb dL_law_191 rfl (lv_at hl 1 rfl) ?_
        refine zz_calli2 ⟨hx, hb, hml, hown, hts⟩ hKm hPm hDm hPx hj.symm hS hA rfl rfl (metX1_sound l _ hLI.2.2.1) (cwL_X1_sound hts ⟨Nat.le_of_ble_eq_true rfl, Nat.le_of_ble_eq_true rfl⟩) rfl hl.1 rfl (Nat.le_of_ble_eq_true rfl) dL_law_192 ⟨Nat.le_of_ble_eq_true rfl, Nat.le_of_ble_eq_true rfl⟩ (fun r2 _ H locs hr2 hPm hDm hPx hj2 hS => ?_)
        have hj := hj2.symm
        obtain ⟨he, hL2⟩ := LI_sound hLI hr1 hr2
        refine lv_icmp_eq (tgt := 316) hx hb dL_law_195 (by decide) (fun c_195 => ?_) (fun c_195 => absurd (he) c_195)
        exact J316 _ _ _ _ _ _ _ _ _ _ H locs ls hL2 (by omega) hPx hDx hPm hDm hj hS hl
      · refine lv_tableIn (off := 168) (tgt := 200) hx hb dL_law_32 (by decide) (by decide) (by decide) (by decide) ?_
        refine lv_aload_n hx hb dL_law_200 rfl (lv_at hl 2 rfl) ?_
        refine lv_aload_n hx hb dL_law_201 rfl (lv_at hl 3 rfl) ?_
        refine lv_iload_n hx hb dL_law_202 rfl (lv_at hl 0 rfl) ?_
        refine lv_iconst (v := 1) hx hb dL_law_203 (by decide) ?_
        refine lv_iadd hx hb dL_law_204 ?_
        refine va_sld hx hb hX hbl hbA hS h_1 dL_law_205 ?_
        refine zz_calli2 ⟨hx, hb, hml, hown, hts⟩ hKx hPx hDx hPm hj hS hA rfl rfl (metX0_feed l _ _ hLI.2.1 hLI.2.2.2.1) (cwL_X0_feed hts ⟨Nat.le_of_ble_eq_true rfl, Nat.le_of_ble_eq_true rfl⟩) rfl hl.1 rfl (Nat.le_of_ble_eq_true rfl) dL_law_206 ⟨Nat.le_of_ble_eq_true rfl, Nat.le_of_ble_eq_true rfl⟩ (fun r1 u1 H locs hr1 hPx hDx hPm hj hS => ?_)
        refine lv_aload_n hx hb dL_law_209 rfl (lv_at hl 1 rfl) ?_
        refine lv_aload_n hx hb dL_law_210 rfl (lv_at hl 3 rfl) ?_
        refine lv_iload_n hx hb dL_law_211 rfl (lv_at hl 0 rfl) ?_
        refine lv_iconst (v := 1) hx hb dL_law_212 (by decide) ?_
        refine lv_iadd hx hb dL_law_213 ?_
        refine va_sld hx hb hX hbl hbA hS h_1 dL_law_214 ?_
        refine zz_calli2 ⟨hx, hb, hml, hown, hts⟩ hKm hPm hDm hPx hj.symm hS hA rfl rfl (metX1_feed l _ _ hLI.2.2.1) (cwL_X1_feed hts ⟨Nat.le_of_ble_eq_true rfl, Nat.le_of_ble_eq_true rfl⟩) rfl hl.1 rfl (Nat.le_of_ble_eq_true rfl) dL_law_215 ⟨Nat.le_of_ble_eq_true rfl, Nat.le_of_ble_eq_true rfl⟩ (fun r2 u2 H locs hr2 hPm hDm hPx hj2 hS => ?_)
        have hj := hj2.symm
        obtain ⟨he, hL2, hkk, hle⟩ := LI_feed (a := (F, O, C, M, k)) (a' := (nw, bf, nd, k)) (show k < 2 ^ 31 by omega) rfl hLI hr1 hr2
        have hle : u2.2.2.2 ≤ k + 1 := hle
        rw [hkk] at hPx hDx hj
        refine lv_icmp_eq (tgt := 316) hx hb dL_law_218 (by decide) (fun c_218 => ?_) (fun c_218 => absurd (he) c_218)
        exact J316 _ _ _ _ _ _ _ _ _ _ H locs ls hL2 (by omega) hPx hDx hPm hDm hj hS hl
      · refine lv_tableIn (off := 191) (tgt := 223) hx hb dL_law_32 (by decide) (by decide) (by decide) (by decide) ?_
        refine lv_aload_n hx hb dL_law_223 rfl (lv_at hl 2 rfl) ?_
        refine lv_aload_n hx hb dL_law_224 rfl (lv_at hl 3 rfl) ?_
        refine lv_iload_n hx hb dL_law_225 rfl (lv_at hl 0 rfl) ?_
        refine lv_iconst (v := 1) hx hb dL_law_226 (by decide) ?_
        refine lv_iadd hx hb dL_law_227 ?_
        refine va_sld hx hb hX hbl hbA hS h_1 dL_law_228 ?_
        refine lv_aload_n hx hb dL_law_229 rfl (lv_at hl 3 rfl) ?_
        refine lv_iload_n hx hb dL_law_230 rfl (lv_at hl 0 rfl) ?_
        refine lv_iconst (v := 2) hx hb dL_law_231 (by decide) ?_
        refine lv_iadd hx hb dL_law_232 ?_
        refine va_sld hx hb hX hbl hbA hS h_2 dL_law_233 ?_
        refine zz_calli2 ⟨hx, hb, hml, hown, hts⟩ hKx hPx hDx hPm hj hS hA rfl rfl (metX0_repeat l _ _ _ hLI.2.1 hLI.2.2.2.1) (cwL_X0_repeat hts ⟨Nat.le_of_ble_eq_true rfl, Nat.le_of_ble_eq_true rfl⟩) rfl hl.1 rfl (Nat.le_of_ble_eq_true rfl) dL_law_234 ⟨Nat.le_of_ble_eq_true rfl, Nat.le_of_ble_eq_true rfl⟩ (fun r1 u1 H locs hr1 hPx hDx hPm hj hS => ?_)
        refine lv_aload_n hx hb dL_law_237 rfl (lv_at hl 1 rfl) ?_
        refine lv_aload_n hx hb dL_law_238 rfl (lv_at hl 3 rfl) ?_
        refine lv_iload_n hx hb dL_law_239 rfl (lv_at hl 0 rfl) ?_
        refine lv_iconst (v := 1) hx hb dL_law_240 (by decide) ?_
        refine lv_iadd hx hb dL_law_241 ?_
        refine va_sld hx hb hX hbl hbA hS h_1 dL_law_242 ?_
        refine lv_aload_n hx hb dL_law_243 rfl (lv_at hl 3 rfl) ?_
        refine lv_iload_n hx hb dL_law_244 rfl (lv_at hl 0 rfl) ?_
        refine lv_iconst (v := 2) hx hb dL_law_245 (by decide) ?_
        refine lv_iadd hx hb dL_law_246 ?_
        refine va_sld hx hb hX hbl hbA hS h_2 dL_law_247 ?_
        refine zz_calli2 ⟨hx, hb, hml, hown, hts⟩ hKm hPm hDm hPx hj.symm hS hA rfl rfl (metX1_repeat l _ _ _ hLI.2.2.1) (cwL_X1_repeat hts ⟨Nat.le_of_ble_eq_true rfl, Nat.le_of_ble_eq_true rfl⟩) rfl hl.1 rfl (Nat.le_of_ble_eq_true rfl) dL_law_248 ⟨Nat.le_of_ble_eq_true rfl, Nat.le_of_ble_eq_true rfl⟩ (fun r2 u2 H locs hr2 hPm hDm hPx hj2 hS => ?_)
        have hj := hj2.symm
        obtain ⟨hc1, f1, ef1, hch1⟩ := hr1
        obtain ⟨f2, ef2, hch2⟩ := hr2
        have hwn := wantN_le (xs (nI i + 2).toNatClampNeg)
        obtain ⟨ef, hL2, hkk, hle⟩ := LI_rep (a := (F, O, C, M, k)) (a' := (nw, bf, nd, k)) hLI rfl _ u1 u2 f1 f2 (show k + wantN (xs (nI i + 2).toNatClampNeg) < 2 ^ 31 by omega) hch1 hch2
        have hle : u2.2.2.2 ≤ k + wantN (xs (nI i + 2).toNatClampNeg) := hle
        rw [hkk] at hPx hDx hj
        refine lv_icmp_eq (tgt := 316) hx hb dL_law_251 (by decide) (fun c_251 => ?_) (fun c_251 => absurd (by rw [ef1, ef2, ef]) c_251)
        exact J316 _ _ _ _ _ _ _ _ _ _ H locs ls hL2 (by omega) hPx hDx hPm hDm hj hS hl
      · refine lv_tableIn (off := 224) (tgt := 256) hx hb dL_law_32 (by decide) (by decide) (by decide) (by decide) ?_
        refine lv_aload_n hx hb dL_law_256 rfl (lv_at hl 2 rfl) ?_
        refine lv_aload_n hx hb dL_law_257 rfl (lv_at hl 3 rfl) ?_
        refine lv_iload_n hx hb dL_law_258 rfl (lv_at hl 0 rfl) ?_
        refine lv_iconst (v := 1) hx hb dL_law_259 (by decide) ?_
        refine lv_iadd hx hb dL_law_260 ?_
        refine va_sld hx hb hX hbl hbA hS h_1 dL_law_261 ?_
        refine zz_calli2 ⟨hx, hb, hml, hown, hts⟩ hKx hPx hDx hPm hj hS hA rfl rfl (metX0_value l _ _ hLI.2.1.1) (cwL_X0_value hts ⟨Nat.le_of_ble_eq_true rfl, Nat.le_of_ble_eq_true rfl⟩) rfl hl.1 rfl (Nat.le_of_ble_eq_true rfl) dL_law_262 ⟨Nat.le_of_ble_eq_true rfl, Nat.le_of_ble_eq_true rfl⟩ (fun r1 _ H locs hr1 hPx hDx hPm hj hS => ?_)
        refine lv_aload_n hx hb dL_law_265 rfl (lv_at hl 1 rfl) ?_
        refine lv_aload_n hx hb dL_law_266 rfl (lv_at hl 3 rfl) ?_
        refine lv_iload_n hx hb dL_law_267 rfl (lv_at hl 0 rfl) ?_
        refine lv_iconst (v := 1) hx hb dL_law_268 (by decide) ?_
        refine lv_iadd hx hb dL_law_269 ?_
        refine va_sld hx hb hX hbl hbA hS h_1 dL_law_270 ?_
        refine zz_calli2 ⟨hx, hb, hml, hown, hts⟩ hKm hPm hDm hPx hj.symm hS hA rfl rfl (metX1_value l _ _ hLI.2.2.1.1) (cwL_X1_value hts ⟨Nat.le_of_ble_eq_true rfl, Nat.le_of_ble_eq_true rfl⟩) rfl hl.1 rfl (Nat.le_of_ble_eq_true rfl) dL_law_271 ⟨Nat.le_of_ble_eq_true rfl, Nat.le_of_ble_eq_true rfl⟩ (fun r2 _ H locs hr2 hPm hDm hPx hj2 hS => ?_)
        have hj := hj2.symm
        refine lv_icmp_eq (tgt := 316) hx hb dL_law_274 (by decide) (fun c_274 => ?_) (fun c_274 => absurd (by rw [hr1, hr2]; exact LI_value hLI _) c_274)
        exact J316 _ _ _ _ _ _ _ _ _ _ H locs ls hLI (by omega) hPx hDx hPm hDm hj hS hl
      · refine lv_tableIn (off := 247) (tgt := 279) hx hb dL_law_32 (by decide) (by decide) (by decide) (by decide) ?_
        refine lv_aload_n hx hb dL_law_279 rfl (lv_at hl 2 rfl) ?_
        refine zz_calli2 ⟨hx, hb, hml, hown, hts⟩ hKx hPx hDx hPm hj hS hA rfl rfl (metX0_samples l _) (cwL_X0_samples hts ⟨Nat.le_of_ble_eq_true rfl, Nat.le_of_ble_eq_true rfl⟩) rfl hl.1 rfl (Nat.le_of_ble_eq_true rfl) dL_law_280 ⟨Nat.le_of_ble_eq_true rfl, Nat.le_of_ble_eq_true rfl⟩ (fun r1 _ H locs hr1 hPx hDx hPm hj hS => ?_)
        refine lv_aload_n hx hb dL_law_283 rfl (lv_at hl 1 rfl) ?_
        refine zz_calli2 ⟨hx, hb, hml, hown, hts⟩ hKm hPm hDm hPx hj.symm hS hA rfl rfl (metX1_samples l _) (cwL_X1_samples hts ⟨Nat.le_of_ble_eq_true rfl, Nat.le_of_ble_eq_true rfl⟩) rfl hl.1 rfl (Nat.le_of_ble_eq_true rfl) dL_law_284 ⟨Nat.le_of_ble_eq_true rfl, Nat.le_of_ble_eq_true rfl⟩ (fun r2 _ H locs hr2 hPm hDm hPx hj2 hS => ?_)
        have hj := hj2.symm
        refine lv_icmp_eq (tgt := 316) hx hb dL_law_287 (by decide) (fun c_287 => ?_) (fun c_287 => absurd (by rw [hr1, hr2]) c_287)
        exact J316 _ _ _ _ _ _ _ _ _ _ H locs ls hLI (by omega) hPx hDx hPm hDm hj hS hl
      · refine lv_tableIn (off := 260) (tgt := 292) hx hb dL_law_32 (by decide) (by decide) (by decide) (by decide) ?_
        refine lv_aload_n hx hb dL_law_292 rfl (lv_at hl 2 rfl) ?_
        refine zz_callv2 ⟨hx, hb, hml, hown, hts⟩ hKx hPx hDx hPm hj hS hA rfl rfl (metX0_restart l _) (cwL_X0_restart hts ⟨Nat.le_of_ble_eq_true rfl, Nat.le_of_ble_eq_true rfl⟩) rfl hl.1 rfl (Nat.le_of_ble_eq_true rfl) dL_law_293 ⟨Nat.le_of_ble_eq_true rfl, Nat.le_of_ble_eq_true rfl⟩ (fun _ H locs _ hPx hDx hPm hj hS => ?_)
        refine lv_aload_n hx hb dL_law_296 rfl (lv_at hl 1 rfl) ?_
        refine zz_callv2 ⟨hx, hb, hml, hown, hts⟩ hKm hPm hDm hPx hj.symm hS hA rfl rfl (metX1_restart l _) (cwL_X1_restart hts ⟨Nat.le_of_ble_eq_true rfl, Nat.le_of_ble_eq_true rfl⟩) rfl hl.1 rfl (Nat.le_of_ble_eq_true rfl) dL_law_297 ⟨Nat.le_of_ble_eq_true rfl, Nat.le_of_ble_eq_true rfl⟩ (fun _ H locs _ hPm hDm hPx hj2 hS => ?_)
        have hj := hj2.symm
        refine lv_goto (tgt := 316) hx hb dL_law_300 (by decide) ?_
        exact J316 _ _ _ _ _ _ _ _ _ _ H locs ls (LI_restart hLI) (Nat.zero_le _) hPx hDx hPm hDm hj hS hl
      · refine lv_tableIn (off := 271) (tgt := 303) hx hb dL_law_32 (by decide) (by decide) (by decide) (by decide) ?_
        refine lv_aload_n hx hb dL_law_303 rfl (lv_at hl 2 rfl) ?_
        refine zz_calli2 ⟨hx, hb, hml, hown, hts⟩ hKx hPx hDx hPm hj hS hA rfl rfl (metX0_clear l _) (cwL_X0_clear hts ⟨Nat.le_of_ble_eq_true rfl, Nat.le_of_ble_eq_true rfl⟩) rfl hl.1 rfl (Nat.le_of_ble_eq_true rfl) dL_law_304 ⟨Nat.le_of_ble_eq_true rfl, Nat.le_of_ble_eq_true rfl⟩ (fun r1 _ H locs hr1 hPx hDx hPm hj hS => ?_)
        refine lv_aload_n hx hb dL_law_307 rfl (lv_at hl 1 rfl) ?_
        refine zz_calli2 ⟨hx, hb, hml, hown, hts⟩ hKm hPm hDm hPx hj.symm hS hA rfl rfl (metX1_clear l _) (cwL_X1_clear hts ⟨Nat.le_of_ble_eq_true rfl, Nat.le_of_ble_eq_true rfl⟩) rfl hl.1 rfl (Nat.le_of_ble_eq_true rfl) dL_law_308 ⟨Nat.le_of_ble_eq_true rfl, Nat.le_of_ble_eq_true rfl⟩ (fun r2 _ H locs hr2 hPm hDm hPx hj2 hS => ?_)
        have hj := hj2.symm
        refine lv_icmp_eq (tgt := 316) hx hb dL_law_311 (by decide) (fun c_311 => ?_) (fun c_311 => absurd (by rw [hr1, hr2, hLI.1.1]) c_311)
        exact J316 _ _ _ _ _ _ _ _ _ _ H locs ls (LI_clear hLI) (Nat.zero_le _) hPx hDx hPm hDm hj hS hl
      · refine lv_tableOut (tgt := 316) hx hb dL_law_32 (by decide) (by decide) ?_
        exact J316 _ _ _ _ _ _ _ _ _ _ H locs ls hLI (by omega) hPx hDx hPm hDm hj hS hl
      · refine lv_tableOut (tgt := 316) hx hb dL_law_32 (by decide) (by decide) ?_
        exact J316 _ _ _ _ _ _ _ _ _ _ H locs ls hLI (by omega) hPx hDx hPm hDm hj hS hl
      · refine lv_tableOut (tgt := 316) hx hb dL_law_32 (by decide) (by decide) ?_
        exact J316 _ _ _ _ _ _ _ _ _ _ H locs ls hLI (by omega) hPx hDx hPm hDm hj hS hl
      · refine lv_tableOut (tgt := 316) hx hb dL_law_32 (by decide) (by decide) ?_
        exact J316 _ _ _ _ _ _ _ _ _ _ H locs ls hLI (by omega) hPx hDx hPm hDm hj hS hl
      · refine lv_tableOut (tgt := 316) hx hb dL_law_32 (by decide) (by decide) ?_
        exact J316 _ _ _ _ _ _ _ _ _ _ H locs ls hLI (by omega) hPx hDx hPm hDm hj hS hl
      · refine lv_tableOut (tgt := 316) hx hb dL_law_32 (by decide) (by decide) ?_
        exact J316 _ _ _ _ _ _ _ _ _ _ H locs ls hLI (by omega) hPx hDx hPm hDm hj hS hl
    · refine lv_iload_n hx hb dL_law_18 rfl (lv_at hl 0 rfl) ?_
      refine lv_aload_n hx hb dL_law_19 rfl (lv_at hl 3 rfl) ?_
      refine va_slen hx hb hX hbl hbA hS dL_law_20 ?_
      refine lv_iconst (v := 4) hx hb dL_law_21 (by decide) ?_
      refine lv_isub hx hb dL_law_22 ?_
      refine lv_icmp_gt (tgt := 322) hx hb dL_law_23 (by decide) (fun c_23 => ?_) (fun c_23 => absurd (law_gt hL hi hc) c_23)
      refine lv_iconst (v := 1) hx hb dL_law_322 (by decide) ?_
      refine va_forget (fun q hq => hS.2.2 q hq) ?_
      exact lw_ret hx hb hr hlocks dL_law_323
set_option maxHeartbeats 4000000 in
/-- the law, from its entry -/
theorem whole_start {p : Program} {e : Env} {s : State} {m : MethodId} {below : List Frame} {meth : Method} {c : Code} (l : Launch) {b L : Nat} {xs : Nat → Int32} (hL : L ≤ 256) (C0 : lw_At p s m meth c b L xs) : W p l e room_1 s m #[Value.ref b] below meth c s.heap [] 0 0 (lw_Z below #[Value.ref b] s) (entryFrame m ([Value.ref b] : List Value).toArray 4) := by
  obtain ⟨hx, hb, hr, hml, hown, hts0, hX, hbl, hlocks, hgv⟩ := id C0
  have hts : ∀ w ∈ lw_all, w.before #[Value.ref b] s = true := fun w h => hts0 w (lw_all_tbl h)
  have hA : ∀ q : Nat, s.heap.size ≤ q → (fun q : Nat => s.heap.size ≤ q) q := fun _ h => h
  obtain ⟨c0_, iS0, hKn0⟩ := u_known (C := RX0) (T := TX0) (N := 19) (n := 19) hts0 (fun w h => lw_all_tbl (in_X0 w h)) (hts _ q28)
  obtain ⟨c1_, iS1, hKn1⟩ := u_known (C := RX1) (T := TX1) (N := 11) (n := 11) hts0 (fun w h => lw_all_tbl (in_X1 w h)) (hts _ q205)
  obtain ⟨D, hKc⟩ : ∃ D : va_G, ∀ (k : Nat) (q : vw_C), vwCl[k]? = some q → u_Kn s q.1 q.2.1 q.2.2 (D.1 k) (D.2 k) := by
    refine ⟨(fun k => if k = 0 then c0_ else c1_, fun k => if k = 0 then iS0 else iS1), ?_⟩
    intro k q hq
    match k, hq with
    | 0, hq => cases hq; exact hKn0
    | 1, hq => cases hq; exact hKn1
    | k + 2, hq => simp [vwCl] at hq
  have hS : va_S (fun q : Nat => s.heap.size ≤ q) s.heap s.heap [] := va_S.rf
  have hK : va_K D vwCl [] s := ⟨hKc, fun k q h => by simp at h⟩
  have hP : va_P D vwCl [] s.heap := fun k q h => by simp at h
  have hD : va_D (fun q : Nat => s.heap.size ≤ q) [] := ⟨fun i j p q h => by simp at h, fun k q h => by simp at h⟩
  have hl := lv_entry ([.ref b]) (n := 4) (Nat.le_of_ble_eq_true rfl)
  rw [lg_entry_eq]
  generalize (lg_sl ([.ref b]) ++ List.replicate (4 - (lg_sl ([.ref b])).length) Slot.unset).toArray = ls at hl ⊢
  have hl : lv_has ls 4 [(0, .ref b)] := hl
  refine va_new (ci := 0) (fs := fsX0) (C := RX0) (T := TX0) (N := 19) hx hb hts in_X0 tyX0 tyX0_ok hown (hts _ q27) (hts _ q28) (hts _ q25) hK hP hD hS hA rfl (fun j hj => by revert j; decide) (Nat.le_of_ble_eq_true rfl) (Nat.le_of_ble_eq_true rfl) dL_law_0 (fun ox H hPx hDx hS => ?_)
  have hPx : va_P D vwCl [(ox, .inr (0, fsX0))] H := hPx
  have hDx : va_D (fun q : Nat => s.heap.size ≤ q) [(ox, .inr (0, fsX0))] := hDx
  refine lv_dup hx hb dL_law_3 rfl ?_
  refine zz_init2 (wr := []) ⟨hx, hb, hml, hown, hts⟩ hK hPx hDx (fun k q h => by simp at h) (fun i j p q _ h => by simp at h) hS hA (metX0_init l _) (cwI 0 hts (lw_meth q31) rfl rfl rfl (hts _ q25) (hts _ q29) (hts _ q30) rfl (by decide +kernel) ⟨Nat.le_of_ble_eq_true rfl, Nat.le_of_ble_eq_true rfl⟩) rfl hl.1 rfl (Nat.le_of_ble_eq_true rfl) dL_law_4 ⟨Nat.le_of_ble_eq_true rfl, Nat.le_of_ble_eq_true rfl⟩ (fun ux H locs hPx hKx hDx _ _ hS => ?_)
  refine lv_astore_n (lv' := [(1, .ref ox), (0, .ref b)]) hx hb dL_law_7 rfl hl (by decide) rfl (fun ls hl => ?_)
  refine va_new (ci := 1) (fs := fsX1) (C := RX1) (T := TX1) (N := 11) hx hb hts in_X1 tyX1 tyX1_ok hown (hts _ q204) (hts _ q205) (hts _ q26) hK hPx hDx hS hA rfl (fun j hj => by revert j; decide) (Nat.le_of_ble_eq_true rfl) (Nat.le_of_ble_eq_true rfl) dL_law_8 (fun om H hPa hDa hS => ?_)
  have hPx := va_P.left hPa
  have hDx := va_D.left hDa
  have hPm : va_P D vwCl [(om, .inr (1, fsX1))] H := va_P.right hPa
  have hDm : va_D (fun q : Nat => s.heap.size ≤ q) [(om, .inr (1, fsX1))] := va_D.right hDa
  have hj := va_D.dj hDa
  refine lv_dup hx hb dL_law_11 rfl ?_
  refine zz_init2 ⟨hx, hb, hml, hown, hts⟩ hK hPm hDm hPx hj.symm hS hA (metX1_init l _) (cwI 0 hts (lw_meth q208) rfl rfl rfl (hts _ q26) (hts _ q206) (hts _ q207) rfl (by decide +kernel) ⟨Nat.le_of_ble_eq_true rfl, Nat.le_of_ble_eq_true rfl⟩) rfl hl.1 rfl (Nat.le_of_ble_eq_true rfl) dL_law_12 ⟨Nat.le_of_ble_eq_true rfl, Nat.le_of_ble_eq_true rfl⟩ (fun um H locs hPm hKm hDm hPx hj2 hS => ?_)
  refine lv_astore_n (lv' := [(2, .ref om), (1, .ref ox), (0, .ref b)]) hx hb dL_law_15 rfl hl (by decide) rfl (fun ls hl => ?_)
  refine lv_iconst (v := 0) hx hb dL_law_16 (by decide) ?_
  refine lv_istore_n (lv' := [(3, .int 0), (2, .ref om), (1, .ref ox), (0, .ref b)]) hx hb dL_law_17 rfl hl (by decide) rfl (fun ls hl => ?_)
  refine W.widen (k := 600000) (n := 7290000) (Nat.le_of_ble_eq_true rfl) (Nat.le_of_ble_eq_true rfl) ?_
  exact law_loop hL C0 hKx hKm (L + 1) 0 (Nat.zero_le _) (by omega) _ _ _ _ _ _ _ _ _ _ H locs ls (LI_init rfl rfl rfl _ rfl rfl) (Nat.zero_le _) hPx hDx hPm hDm hj2.symm hS hl
end
section
set_option maxRecDepth 100000
set_option maxHeartbeats 4000000 in
theorem lw_walk (l : Launch) (b : Addr) (xs : List Int32) : MetFree l x (headSpec (Jvm.Cond.code x code maxLocals ret :: tables_1) room_1) (lw_P b xs) (fun _ _ _ _ _ => True) lw_Q := by
  refine MetFree.of_bodyS (code := code) (maxLocals := maxLocals) (ret := ret) (by decide) ?_ ?_
  · intro args s m h hn
    obtain ⟨meth, c, h1, h2, h3, h4, h5, h6, -, -⟩ := Cond.code_spec hn (atoms_spec (ws := Jvm.Cond.code x code maxLocals ret :: tables_1) h _ List.mem_cons_self)
    exact ⟨meth, c, h1, h2, h3, h4, h5, h6⟩
  · intro p e s m args below meth c s₁ B hml0 hP _
    obtain ⟨rfl, hx, hbd, hgv⟩ := hP
    obtain ⟨scr, harrAt, hlist, hof, hsmall⟩ := hx
    obtain ⟨hcb, hkn, -, -⟩ := State.arrayAt?_spec harrAt
    have hown : s.vm.findClass R_law = some m.cls := findClass_of_methodNamed B.named
    have hts0 : ∀ c ∈ (Jvm.Cond.code x code maxLocals ret :: tables_1), c.before #[Value.ref b] s = true := atoms_spec (ws := Jvm.Cond.code x code maxLocals ret :: tables_1) B.pre
    have hts : ∀ w ∈ lw_tbl, w.before #[Value.ref b] s = true := k2_hts_sels lw_privs (fun w hw => hts0 w (List.mem_cons_of_mem _ hw)) lw_privs_ok
    have hml : c.maxLocals = 4 := B.maxLocals_eq (hts0 _ List.mem_cons_self)
    have X₀ : Stand p l e room_1 s m #[Value.ref b] below meth c s₁ [] 0 0 := Stand.of_body B
    have hh0 : s₁.heap = s.heap := by rw [B.state]; rfl
    have hsz : scr.slots.size = xs.length := by rw [← Array.length_toList, hlist, List.length_map]
    have hval : ∀ j : Nat, j < xs.length → scr.slots[j]? = some (.int (xs.getD j 0)) := fun j hj => by
      rw [← Array.getElem?_toList, hlist]
      simp [hj]
    have hbl : b < s.heap.size := (Array.getElem?_eq_some_iff.mp hcb).1
    have hX : va_X b xs.length (fun j => xs.getD j 0) s s.heap := ⟨scr, hcb, hof, hkn, hsz, hval⟩
    have K : W p l e room_1 s m #[Value.ref b] below meth c s₁.heap [] 0 0 (lw_Z below #[Value.ref b] s) (entryFrame m ([Value.ref b] : List Value).toArray 4) := by
      rw [hh0]
      exact whole_start l hbd ⟨B.exec, B.bytes, B.returns, hml, hown, hts, hX, hbl, B.notSynchronized, hgv⟩
    obtain ⟨t, a1, o, b1, b2, b3⟩ := K s₁ rfl X₀
    exact ⟨t, o, a1, b1, b2, b3⟩
theorem lw_pre_spec {args : Array Value} {s : State} (h : (Jvm.Cond.and given_1 narrow_1).before args s = true) (hr : rest_1_c.before args s = true) : ∃ (b : Addr) (xs : List Int32), lw_P b xs args s := by
  have hs := flat_of_before _ h
  have hq := flat_of_before _ hr
  have hc : (Cond.count 1).before args s = true := hs _ (by decide +kernel)
  have harr : (Cond.arrayOf (.arg 0) .int).before args s = true := hs _ (by decide +kernel)
  have hle : (Cond.le (.length (.arg 0)) (.int 256)).before args s = true := hs _ (by decide +kernel)
  have hlen : (Cond.isInt (.length (.arg 0))).before args s = true := hq _ (by decide +kernel)
  have hall : (Cond.all (.arg 0) (.isInt (.elem (.arg 0) (.index 0)))).before args s = true := hq _ (by decide +kernel)
  obtain ⟨b, xs, hb, hx⟩ := State.ints_of_pre rfl harr hlen hall
  have hsm : xs.length < 2 ^ 31 := hx.choose_spec.2.2.2
  have hev : (Term.length (.arg 0)).eval args s none [] s = some (.int xs.length.toInt32) := hx.length_eval hb
  have hv := Cond.le_ints hev (show (Term.int 256).eval args s none [] s = some (.int 256) from rfl)
  have hd : xs.length.toInt32 ≤ 256 := by
    simpa [Cond.before, Cond.holds, hv] using hle
  have hN : xs.length ≤ 256 := (Int32.ofNat_le_ofNat hsm (by decide)).mp (show Int32.ofNat xs.length ≤ Int32.ofNat 256 from hd)
  exact ⟨b, xs, Cond.one_arg hc (show args[0]? = some (.ref b) from hb), hx, hN, h⟩
theorem lw_comes (l : Launch) : Comes l x (Jvm.Cond.code x code maxLocals ret :: tables_1) room_1 (fun tb e args s => Calls_1 tb e args s ∧ rest_1 tb e args s ∧ Pre_1 tb e args s)
    (fun _ _ args s o t => lw_Q args s o t) := by
  intro p e ha hc hk s m args below hf hfit hheap happ hpre
  obtain ⟨b, xs, hP⟩ := lw_pre_spec hpre.2.2 hpre.2.1
  obtain ⟨k, o, h1, h2, h3, hQ⟩ := lw_walk l b xs p e ha hc hk s m args below hf ((Spec.applies_iff_loose hf).mp happ).1 hP trivial
  exact ⟨k, o, h1, h2, h3, hQ⟩
theorem lw_frame {s t : State} {o : Outcome} {args : Array Value} (h : Framed s o t [] 600000 7290000) :
    Framed s o t (fieldLocs frame_1_writes args s ++ arrayLocs frame_1_arrays args s ++ staticLocs frame_1_statics s) 600000 7290000 := h
theorem lw_limb (L : Cond) (hL : ∀ (args : Array Value) (s t : State), L.after args s (.returned (some (.int 1))) t = true) :
    ArmFor flags0 classFile x code maxLocals ret World_1 tables_1 room_1 Calls_1 rest_1 Pre_1
      (fun tb e a s o t => postC L tb e a s o t ∧ Framed s o t (fieldLocs frame_1_writes a s ++ arrayLocs frame_1_arrays a s ++ staticLocs frame_1_statics s) 600000 7290000) := by
  intro l _ _ _ p e ha hc hk s m args below hf hfit hheap happ hpre
  obtain ⟨k, o, h1, h2, h3, rfl, hF⟩ := lw_comes l p e ha hc hk s m args below hf hfit hheap happ hpre
  exact ⟨k, _, h1, h2, h3, hL args s _, lw_frame hF⟩
theorem i_vc : Claimed_1_1 ∧ Claimed_1_2 := ⟨lw_limb limb_1_1 (fun args s t => by simp [limb_1_1, Cond.after, Cond.holds, Cond.value]), lw_limb limb_1_2 (fun args s t => Cond.after_iff.mpr (by
  first | (rw [show limb_1_2 = Cond.eq .result (.int 1) from rfl, Cond.eq_ints (x := 1) (y := 1) rfl rfl]; simp; done) | (simp [limb_1_2, Cond.value, Term.eval]; done)))⟩
end
